set_option maxRecDepth 100000
/-! ===== the model: rods ===== -/
def sX : Nat → Bool := fun f => (Nat.beq f 32 || Nat.beq f 33) || (Nat.ble 50 f && Nat.ble f 52)
theorem sSX : ∀ f, sX f = false → sS f = false := by
  intro f h
  unfold sX at h
  rw [Bool.or_eq_false_iff] at h
  exact h.2
theorem djX : ∀ f, cD f = true → sX f = false := by
  intro f h
  cases hb : sX f with
  | false => rfl
  | true =>
    exfalso
    unfold sX at hb
    unfold cD at h
    simp only [Bool.or_eq_true, Bool.and_eq_true, Nat.beq_eq, ble_i] at h hb
    omega
theorem agD.X {D D1 D0 : T64} (h : agD D D0) (h1 : exc sX D1 D) : agD D1 D0 := h.of h1 djX
theorem agN.S {n : Nat} {D D1 T : T64} (h : agN n D T) (h1 : exc sS D1 D) : agN n D1 T := fun i hi => ⟨(h1 32 i rfl).trans (h i hi).1, (h1 33 i rfl).trans (h i hi).2⟩
theorem rcd_lt {D T : T64} {I : T32} {l : UInt64} {i j : Nat} : rcd D T I l i j < 3 := by
  unfold rcd
  split
  · decide
  · split <;> decide
set_option maxHeartbeats 4000000 in
theorem m_X5_turn (l : Launch) (A : Nat → Prop) (Dg : va_G) (dA : Nat → ClassId) (ad : Nat → Nat → Nat) (n : Nat) (nb : Nat) (nr : Nat) (J : Nat → Nat → Nat) (D : T64) (I : T32) (D0 : T64) (hag : agD D D0) (hB : Bd n nb nr J D0) (hM : mI n nb nr J I) (T : T64) (hT : agN n D T) (cB : Nat) (hcB : cB ≤ 240) (hBT : BT cB n T) (hOl : ∀ i, i < n → D 44 i = D0 0 i ∧ D 45 i = D0 1 i) (k : Nat) (hk : k < nr) : MX l yX5_turn cX5_turn 22 (some .int) [] (rmx 4 0 0) [.ref (ad 30 0), .int (nI k)] (Pw Dg dA (mW A Dg dA ad D I)) (qW (fun r : Int32 => some (.int r)) (fun r H => r = nI (rcd D0 T I (D0 12 k) (J 4 k) (J 5 k)) ∧ ∃ D1, exc sX D1 D ∧ agN n D1 (rTn D0 T I (D0 12 k) (J 4 k) (J 5 k)) ∧ mW A Dg dA ad D1 I H) A) 0 0 A := by
  refine MX.start (Nat.le_of_ble_eq_true rfl) ?_
  intro p e s m args below meth c ls Q hAt hPc hl hQ
  have hl : lv_has ls 22 [(0, .ref (ad 30 0)), (1, .int (nI k))] := hl
  obtain ⟨hx, hb, hml, hr, hlk, hown, hnm, htab, hts⟩ := id hAt
  obtain ⟨hK, hW⟩ := hPc
  have Z := Cx.of hAt hK
  have hS : va_S A s.heap s.heap [] := va_S.rf
  have hn10 := hB.n10
  have hnr4 := hB.nr4
  have hj4 := hB.j4 hk
  have hj5 := hB.j5 hk
  have hij := hB.j45 hk
  refine lv_aload_n hx hb dX5_turn_0 rfl (lv_at hl 0 rfl) ?_
  refine w_getR (v := .ref (ad 43 0)) Z hW kX5 rfl 19 (by decide) q759 (show (0 : Nat) < 1 by decide) rfl rfl dX5_turn_1 ?_
  refine lv_iload_n hx hb dX5_turn_4 rfl (lv_at hl 1 rfl) ?_
  refine a_I (j := k) (x := nI (J 4 k)) (ix := k) Z hW rfl (show (0 : Nat) < 1 by decide) (by omega) (by decide) rfl rfl (hM.ri (show (k : Nat) < nr by omega)) dX5_turn_5 ?_
  refine lv_istore_n (lv' := [(2, .int (nI (J 4 k))), (0, .ref (ad 30 0)), (1, .int (nI k))]) hx hb dX5_turn_6 rfl hl (by decide) rfl (fun ls hl => ?_)
  refine lv_aload_n hx hb dX5_turn_7 rfl (lv_at hl 1 rfl) ?_
  refine w_getR (v := .ref (ad 44 0)) Z hW kX5 rfl 20 (by decide) q760 (show (0 : Nat) < 1 by decide) rfl rfl dX5_turn_8 ?_
  refine lv_iload_n hx hb dX5_turn_11 rfl (lv_at hl 2 rfl) ?_
  refine a_I (j := k) (x := nI (J 5 k)) (ix := k) Z hW rfl (show (0 : Nat) < 1 by decide) (by omega) (by decide) rfl rfl (hM.rj (show (k : Nat) < nr by omega)) dX5_turn_12 ?_
  refine lv_istore_n (lv' := [(3, .int (nI (J 5 k))), (2, .int (nI (J 4 k))), (0, .ref (ad 30 0)), (1, .int (nI k))]) hx hb dX5_turn_13 rfl hl (by decide) rfl (fun ls hl => ?_)
  refine lv_aload_n hx hb dX5_turn_14 rfl (lv_at hl 2 rfl) ?_
  refine w_getR (v := .ref (ad 47 0)) Z hW kX5 rfl 23 (by decide) q763 (show (0 : Nat) < 1 by decide) rfl rfl dX5_turn_15 ?_
  refine lv_iload_n hx hb dX5_turn_18 rfl (lv_at hl 3 rfl) ?_
  refine a_D (j := k) (x := D0 12 k) (ix := k) Z hW rfl (show (0 : Nat) < 1 by decide) (by omega) (by decide) rfl rfl (hag 12 k rfl) dX5_turn_19 ?_
  refine lv_dstore (lv' := [(4, .double (D0 12 k)), (3, .int (nI (J 5 k))), (2, .int (nI (J 4 k))), (0, .ref (ad 30 0)), (1, .int (nI k))]) hx hb dX5_turn_20 hl (by decide) rfl (fun ls hl => ?_)
  refine lv_aload_n hx hb dX5_turn_22 rfl (lv_at hl 3 rfl) ?_
  refine lv_aload_n hx hb dX5_turn_23 rfl (lv_at hl 3 rfl) ?_
  refine w_getR (v := .ref (ad 50 0)) Z hW kX5 rfl 27 (by decide) q767 (show (0 : Nat) < 1 by decide) rfl rfl dX5_turn_24 ?_
  refine lv_iload_n hx hb dX5_turn_27 rfl (lv_at hl 2 rfl) ?_
  refine a_D (j := (J 4 k)) (x := D0 0 (J 4 k)) (ix := J 4 k) Z hW rfl (show (0 : Nat) < 1 by decide) (by omega) (by decide) rfl rfl (hOl (J 4 k) hj4).1 dX5_turn_28 ?_
  refine lv_aload_n hx hb dX5_turn_29 rfl (lv_at hl 3 rfl) ?_
  refine w_getR (v := .ref (ad 51 0)) Z hW kX5 rfl 28 (by decide) q768 (show (0 : Nat) < 1 by decide) rfl rfl dX5_turn_30 ?_
  refine lv_iload_n hx hb dX5_turn_33 rfl (lv_at hl 2 rfl) ?_
  refine a_D (j := (J 4 k)) (x := D0 1 (J 4 k)) (ix := J 4 k) Z hW rfl (show (0 : Nat) < 1 by decide) (by omega) (by decide) rfl rfl (hOl (J 4 k) hj4).2 dX5_turn_34 ?_
  refine lv_aload_n hx hb dX5_turn_35 rfl (lv_at hl 3 rfl) ?_
  refine w_getR (v := .ref (ad 50 0)) Z hW kX5 rfl 27 (by decide) q767 (show (0 : Nat) < 1 by decide) rfl rfl dX5_turn_36 ?_
  refine lv_iload_n hx hb dX5_turn_39 rfl (lv_at hl 1 rfl) ?_
  refine a_D (j := (J 5 k)) (x := D0 0 (J 5 k)) (ix := J 5 k) Z hW rfl (show (0 : Nat) < 1 by decide) (by omega) (by decide) rfl rfl (hOl (J 5 k) hj5).1 dX5_turn_40 ?_
  refine lv_aload_n hx hb dX5_turn_41 rfl (lv_at hl 3 rfl) ?_
  refine w_getR (v := .ref (ad 51 0)) Z hW kX5 rfl 28 (by decide) q768 (show (0 : Nat) < 1 by decide) rfl rfl dX5_turn_42 ?_
  refine lv_iload_n hx hb dX5_turn_45 rfl (lv_at hl 1 rfl) ?_
  refine a_D (j := (J 5 k)) (x := D0 1 (J 5 k)) (ix := J 5 k) Z hW rfl (show (0 : Nat) < 1 by decide) (by omega) (by decide) rfl rfl (hOl (J 5 k) hj5).2 dX5_turn_46 ?_
  refine wx_wv (wx_V (As := [.double (D0 0 (J 4 k)), .double (D0 1 (J 4 k)), .double (D0 0 (J 5 k)), .double (D0 1 (J 5 k))]) (rest := []) hAt.fix (m_X5_way l A Dg dA ad n nb nr J D I (D0 20 0) ((hag 20 0 rfl)) hB.side (D0 0 (J 4 k)) (D0 1 (J 4 k)) (D0 0 (J 5 k)) (D0 1 (J 5 k)) (((hB.x hj4).mono (by decide))) (((hB.y hj4).mono (by decide))) (((hB.x hj5).mono (by decide))) (((hB.y hj5).mono (by decide)))) q968 q970 qs28 q971 wn_X5_way ⟨Nat.le_of_ble_eq_true rfl, Nat.le_of_ble_eq_true rfl, Nat.le_of_ble_eq_true rfl, Nat.le_of_ble_eq_true rfl⟩ (w_recv hK hW kX5 rfl (show (0 : Nat) < 1 by decide)) (Pw.of hK hW) hl.1 (Nat.le_of_ble_eq_true rfl) dX5_turn_47) hS (fun H locs hW hz hS => ?_)
  obtain ⟨D1, hex1, h50, h51, h52, hW⟩ := hW
  have hag1 := hag.S hex1
  have hT1 := hT.S hex1
  refine lv_aload_n hx hb dX5_turn_50 rfl (lv_at hl 3 rfl) ?_
  refine g_D (x := wA D0 (J 4 k) (J 5 k)) Z hW kX5 rfl 45 (by decide) q785 (show (0 : Nat) < 1 by decide) rfl h50 dX5_turn_51 ?_
  refine lv_dstore (lv' := [(6, .double (wA D0 (J 4 k) (J 5 k))), (4, .double (D0 12 k)), (3, .int (nI (J 5 k))), (2, .int (nI (J 4 k))), (0, .ref (ad 30 0)), (1, .int (nI k))]) hx hb dX5_turn_54 hl (by decide) rfl (fun ls hl => ?_)
  refine lv_aload_n hx hb dX5_turn_56 rfl (lv_at hl 4 rfl) ?_
  refine g_D (x := wB D0 (J 4 k) (J 5 k)) Z hW kX5 rfl 46 (by decide) q786 (show (0 : Nat) < 1 by decide) rfl h51 dX5_turn_57 ?_
  refine lv_dstore (lv' := [(8, .double (wB D0 (J 4 k) (J 5 k))), (6, .double (wA D0 (J 4 k) (J 5 k))), (4, .double (D0 12 k)), (3, .int (nI (J 5 k))), (2, .int (nI (J 4 k))), (0, .ref (ad 30 0)), (1, .int (nI k))]) hx hb dX5_turn_60 hl (by decide) rfl (fun ls hl => ?_)
  refine lv_aload_n hx hb dX5_turn_62 rfl (lv_at hl 5 rfl) ?_
  refine lv_aload_n hx hb dX5_turn_63 rfl (lv_at hl 5 rfl) ?_
  refine w_getR (v := .ref (ad 54 0)) Z hW kX5 rfl 31 (by decide) q771 (show (0 : Nat) < 1 by decide) rfl rfl dX5_turn_64 ?_
  refine lv_iload_n hx hb dX5_turn_67 rfl (lv_at hl 4 rfl) ?_
  refine a_D (j := (J 4 k)) (x := T 32 (J 4 k)) (ix := J 4 k) Z hW rfl (show (0 : Nat) < 1 by decide) (by omega) (by decide) rfl rfl (hT1 (J 4 k) hj4).1 dX5_turn_68 ?_
  refine lv_aload_n hx hb dX5_turn_69 rfl (lv_at hl 5 rfl) ?_
  refine w_getR (v := .ref (ad 55 0)) Z hW kX5 rfl 32 (by decide) q772 (show (0 : Nat) < 1 by decide) rfl rfl dX5_turn_70 ?_
  refine lv_iload_n hx hb dX5_turn_73 rfl (lv_at hl 4 rfl) ?_
  refine a_D (j := (J 4 k)) (x := T 33 (J 4 k)) (ix := J 4 k) Z hW rfl (show (0 : Nat) < 1 by decide) (by omega) (by decide) rfl rfl (hT1 (J 4 k) hj4).2 dX5_turn_74 ?_
  refine lv_aload_n hx hb dX5_turn_75 rfl (lv_at hl 5 rfl) ?_
  refine w_getR (v := .ref (ad 54 0)) Z hW kX5 rfl 31 (by decide) q771 (show (0 : Nat) < 1 by decide) rfl rfl dX5_turn_76 ?_
  refine lv_iload_n hx hb dX5_turn_79 rfl (lv_at hl 3 rfl) ?_
  refine a_D (j := (J 5 k)) (x := T 32 (J 5 k)) (ix := J 5 k) Z hW rfl (show (0 : Nat) < 1 by decide) (by omega) (by decide) rfl rfl (hT1 (J 5 k) hj5).1 dX5_turn_80 ?_
  refine lv_aload_n hx hb dX5_turn_81 rfl (lv_at hl 5 rfl) ?_
  refine w_getR (v := .ref (ad 55 0)) Z hW kX5 rfl 32 (by decide) q772 (show (0 : Nat) < 1 by decide) rfl rfl dX5_turn_82 ?_
  refine lv_iload_n hx hb dX5_turn_85 rfl (lv_at hl 3 rfl) ?_
  refine a_D (j := (J 5 k)) (x := T 33 (J 5 k)) (ix := J 5 k) Z hW rfl (show (0 : Nat) < 1 by decide) (by omega) (by decide) rfl rfl (hT1 (J 5 k) hj5).2 dX5_turn_86 ?_
  refine wx_wv (wx_V (As := [.double (T 32 (J 4 k)), .double (T 33 (J 4 k)), .double (T 32 (J 5 k)), .double (T 33 (J 5 k))]) (rest := []) hAt.fix (m_X5_way l A Dg dA ad n nb nr J D1 I (D0 20 0) ((hag1 20 0 rfl)) hB.side (T 32 (J 4 k)) (T 33 (J 4 k)) (T 32 (J 5 k)) (T 33 (J 5 k)) (((hBT _ hj4).1.bnd (by omega))) (((hBT _ hj4).2.bnd (by omega))) (((hBT _ hj5).1.bnd (by omega))) (((hBT _ hj5).2.bnd (by omega)))) q968 q970 qs28 q971 wn_X5_way ⟨Nat.le_of_ble_eq_true rfl, Nat.le_of_ble_eq_true rfl, Nat.le_of_ble_eq_true rfl, Nat.le_of_ble_eq_true rfl⟩ (w_recv hK hW kX5 rfl (show (0 : Nat) < 1 by decide)) (Pw.of hK hW) hl.1 (Nat.le_of_ble_eq_true rfl) dX5_turn_87) hS (fun H locs hW hz hS => ?_)
  obtain ⟨D2, hex2, h50, h51, h52, hW⟩ := hW
  have hag2 := hag1.S hex2
  have hT2 := hT1.S hex2
  have hx2 : exc sX D2 D := (hex2.trans hex1).mono sSX
  refine wb_meet (fun v : UInt64 => v = sEase D0 (I 1 (J 4 k)) (J 4 k)) (fun v => F0 m 111 ls [.double v]) (fun v hv => ?_) (fun hmt => ?_)
  · subst hv
    refine lv_dstore (lv' := [(10, .double (sEase D0 (I 1 (J 4 k)) (J 4 k))), (8, .double (wB D0 (J 4 k) (J 5 k))), (6, .double (wA D0 (J 4 k) (J 5 k))), (4, .double (D0 12 k)), (3, .int (nI (J 5 k))), (2, .int (nI (J 4 k))), (0, .ref (ad 30 0)), (1, .int (nI k))]) hx hb dX5_turn_111 hl (by decide) rfl (fun ls hl => ?_)
    refine wb_meet (fun v : UInt64 => v = sEase D0 (I 1 (J 5 k)) (J 5 k)) (fun v => F0 m 134 ls [.double v]) (fun v hv => ?_) (fun hmt => ?_)
    · subst hv
      refine lv_dstore (lv' := [(12, .double (sEase D0 (I 1 (J 5 k)) (J 5 k))), (10, .double (sEase D0 (I 1 (J 4 k)) (J 4 k))), (8, .double (wB D0 (J 4 k) (J 5 k))), (6, .double (wA D0 (J 4 k) (J 5 k))), (4, .double (D0 12 k)), (3, .int (nI (J 5 k))), (2, .int (nI (J 4 k))), (0, .ref (ad 30 0)), (1, .int (nI k))]) hx hb dX5_turn_134 hl (by decide) rfl (fun ls hl => ?_)
      refine lv_aload_n hx hb dX5_turn_136 rfl (lv_at hl 7 rfl) ?_
      refine g_D (x := sq (xA D0 T (J 4 k) (J 5 k)) (xB D0 T (J 4 k) (J 5 k))) Z hW kX5 rfl 47 (by decide) q787 (show (0 : Nat) < 1 by decide) rfl h52 dX5_turn_137 ?_
      refine lv_dload hx hb dX5_turn_140 (lv_at hl 4 rfl) ?_
      refine lv_dload hx hb dX5_turn_142 (lv_at hl 4 rfl) ?_
      have f1 : fb (8) (FP.dmul (D0 12 k) (D0 12 k)) := fb.mul (hB.rl (show (k : Nat) < nr by omega)) (hB.rl (show (k : Nat) < nr by omega)) (by decide)
      refine lv_dmul hx hb dX5_turn_144 f1.n64 ?_
      have f2 : fb (12) (FP.dsub (sq (xA D0 T (J 4 k) (J 5 k)) (xB D0 T (J 4 k) (J 5 k))) (FP.dmul (D0 12 k) (D0 12 k))) := fb.sub (sq_fb (xA_fb hB hBT (by omega) hj4 hj5) (xB_fb hB hBT (by omega) hj4 hj5) (by decide)) f1 (by decide)
      refine lv_dsub hx hb dX5_turn_145 f2.n64 ?_
      refine lv_dstore (lv' := [(14, .double (rO D0 T (D0 12 k) (J 4 k) (J 5 k))), (12, .double (sEase D0 (I 1 (J 5 k)) (J 5 k))), (10, .double (sEase D0 (I 1 (J 4 k)) (J 4 k))), (8, .double (wB D0 (J 4 k) (J 5 k))), (6, .double (wA D0 (J 4 k) (J 5 k))), (4, .double (D0 12 k)), (3, .int (nI (J 5 k))), (2, .int (nI (J 4 k))), (0, .ref (ad 30 0)), (1, .int (nI k))]) hx hb dX5_turn_146 hl (by decide) rfl (fun ls hl => ?_)
      refine wb_meet (fun v : UInt64 => v = rAb (rO D0 T (D0 12 k) (J 4 k) (J 5 k))) (fun v => F0 m 163 ls [.double v]) (fun v hv => ?_) (fun hmt => ?_)
      · subst hv
        refine lv_ldc2d (v := 4517329193108106637) hx hb hown (hts _ (lw_car_all q1025)) dX5_turn_163 ?_
        refine lv_dload hx hb dX5_turn_166 (lv_at hl 5 rfl) ?_
        have f3 : fb (-15) (FP.dmul 4517329193108106637 (D0 12 k)) := fb.mul fc_4517329193108106637 (hB.rl (show (k : Nat) < nr by omega)) (by decide)
        refine lv_dmul hx hb dX5_turn_168 f3.n64 ?_
        refine lv_dload hx hb dX5_turn_169 (lv_at hl 5 rfl) ?_
        have f4 : fb (-11) (FP.dmul (FP.dmul 4517329193108106637 (D0 12 k)) (D0 12 k)) := fb.mul f3 (hB.rl (show (k : Nat) < nr by omega)) (by decide)
        refine lv_dmul hx hb dX5_turn_171 f4.n64 ?_
        refine lv_dg_gt (tgt := 178) hx hb dX5_turn_172 dX5_turn_173 (by decide) (fun c5 => ?_) (fun c5 => ?_)
        · refine lv_aload_n hx hb dX5_turn_178 rfl (lv_at hl 8 rfl) ?_
          refine g_D (x := xA D0 T (J 4 k) (J 5 k)) Z hW kX5 rfl 45 (by decide) q785 (show (0 : Nat) < 1 by decide) rfl h50 dX5_turn_179 ?_
          refine lv_dload hx hb dX5_turn_182 (lv_at hl 4 rfl) ?_
          have f6 : fb (10) (FP.dmul (xA D0 T (J 4 k) (J 5 k)) (wA D0 (J 4 k) (J 5 k))) := fb.mul (xA_fb hB hBT (by omega) hj4 hj5) (wA_fb hB hj4 hj5) (by decide)
          refine lv_dmul hx hb dX5_turn_184 f6.n64 ?_
          refine lv_aload_n hx hb dX5_turn_185 rfl (lv_at hl 8 rfl) ?_
          refine g_D (x := xB D0 T (J 4 k) (J 5 k)) Z hW kX5 rfl 46 (by decide) q786 (show (0 : Nat) < 1 by decide) rfl h51 dX5_turn_186 ?_
          refine lv_dload hx hb dX5_turn_189 (lv_at hl 3 rfl) ?_
          have f7 : fb (10) (FP.dmul (xB D0 T (J 4 k) (J 5 k)) (wB D0 (J 4 k) (J 5 k))) := fb.mul (xB_fb hB hBT (by omega) hj4 hj5) (wB_fb hB hj4 hj5) (by decide)
          refine lv_dmul hx hb dX5_turn_191 f7.n64 ?_
          have f8 : fb (11) (FP.dadd (FP.dmul (xA D0 T (J 4 k) (J 5 k)) (wA D0 (J 4 k) (J 5 k))) (FP.dmul (xB D0 T (J 4 k) (J 5 k)) (wB D0 (J 4 k) (J 5 k)))) := fb.add f6 f7 (by decide)
          refine lv_dadd hx hb dX5_turn_192 f8.n64 ?_
          refine lv_dstore (lv' := [(16, .double (FP.dadd (FP.dmul (xA D0 T (J 4 k) (J 5 k)) (wA D0 (J 4 k) (J 5 k))) (FP.dmul (xB D0 T (J 4 k) (J 5 k)) (wB D0 (J 4 k) (J 5 k))))), (14, .double (rO D0 T (D0 12 k) (J 4 k) (J 5 k))), (12, .double (sEase D0 (I 1 (J 5 k)) (J 5 k))), (10, .double (sEase D0 (I 1 (J 4 k)) (J 4 k))), (8, .double (wB D0 (J 4 k) (J 5 k))), (6, .double (wA D0 (J 4 k) (J 5 k))), (4, .double (D0 12 k)), (3, .int (nI (J 5 k))), (2, .int (nI (J 4 k))), (0, .ref (ad 30 0)), (1, .int (nI k))]) hx hb dX5_turn_193 hl (by decide) rfl (fun ls hl => ?_)
          refine lv_ldc2d (v := 4611686018427387904) hx hb hown (hts _ (lw_car_all q1006)) dX5_turn_195 ?_
          refine lv_dload hx hb dX5_turn_198 (lv_at hl 0 rfl) ?_
          have f9 : fb (12) (FP.dmul 4611686018427387904 (FP.dadd (FP.dmul (xA D0 T (J 4 k) (J 5 k)) (wA D0 (J 4 k) (J 5 k))) (FP.dmul (xB D0 T (J 4 k) (J 5 k)) (wB D0 (J 4 k) (J 5 k))))) := fb.mul fc_4611686018427387904 f8 (by decide)
          refine lv_dmul hx hb dX5_turn_200 f9.n64 ?_
          refine lv_dload hx hb dX5_turn_201 (lv_at hl 3 rfl) ?_
          refine lv_dload hx hb dX5_turn_203 (lv_at hl 2 rfl) ?_
          have f10 : fb (4) (FP.dadd (sEase D0 (I 1 (J 4 k)) (J 4 k)) (sEase D0 (I 1 (J 5 k)) (J 5 k))) := fb.add (ease_fb hB hj4 _) (ease_fb hB hj5 _) (by decide)
          refine lv_dadd hx hb dX5_turn_205 f10.n64 ?_
          have f11 : fb (16) (FP.dmul (FP.dmul 4611686018427387904 (FP.dadd (FP.dmul (xA D0 T (J 4 k) (J 5 k)) (wA D0 (J 4 k) (J 5 k))) (FP.dmul (xB D0 T (J 4 k) (J 5 k)) (wB D0 (J 4 k) (J 5 k))))) (FP.dadd (sEase D0 (I 1 (J 4 k)) (J 4 k)) (sEase D0 (I 1 (J 5 k)) (J 5 k)))) := fb.mul f9 f10 (by decide)
          refine lv_dmul hx hb dX5_turn_206 f11.n64 ?_
          refine lv_dstore (lv' := [(18, .double (rH D0 T I (J 4 k) (J 5 k))), (16, .double (FP.dadd (FP.dmul (xA D0 T (J 4 k) (J 5 k)) (wA D0 (J 4 k) (J 5 k))) (FP.dmul (xB D0 T (J 4 k) (J 5 k)) (wB D0 (J 4 k) (J 5 k))))), (14, .double (rO D0 T (D0 12 k) (J 4 k) (J 5 k))), (12, .double (sEase D0 (I 1 (J 5 k)) (J 5 k))), (10, .double (sEase D0 (I 1 (J 4 k)) (J 4 k))), (8, .double (wB D0 (J 4 k) (J 5 k))), (6, .double (wA D0 (J 4 k) (J 5 k))), (4, .double (D0 12 k)), (3, .int (nI (J 5 k))), (2, .int (nI (J 4 k))), (0, .ref (ad 30 0)), (1, .int (nI k))]) hx hb dX5_turn_207 hl (by decide) rfl (fun ls hl => ?_)
          refine wb_meet (fun _ : Unit => ¬ stf (rH D0 T I (J 4 k) (J 5 k))) (fun _ => F0 m 229 ls []) (fun _ hns => ?_) (fun hmt => ?_)
          · refine lv_dload hx hb dX5_turn_229 (lv_at hl 2 rfl) ?_
            refine lv_dload hx hb dX5_turn_231 (lv_at hl 0 rfl) ?_
            have f12 : fb (32) (FP.ddiv (rO D0 T (D0 12 k) (J 4 k) (J 5 k)) (rH D0 T I (J 4 k) (J 5 k))) := fb.div (rO_fb hB hBT (by omega) hj4 hj5 (hB.rl hk)) (stf_lb (rH_fb hB hBT (by omega) hj4 hj5) hns) (by decide)
            refine lv_ddiv hx hb dX5_turn_233 f12.n64 ?_
            refine lv_dstore (lv' := [(20, .double (rG D0 T I (D0 12 k) (J 4 k) (J 5 k))), (18, .double (rH D0 T I (J 4 k) (J 5 k))), (16, .double (FP.dadd (FP.dmul (xA D0 T (J 4 k) (J 5 k)) (wA D0 (J 4 k) (J 5 k))) (FP.dmul (xB D0 T (J 4 k) (J 5 k)) (wB D0 (J 4 k) (J 5 k))))), (14, .double (rO D0 T (D0 12 k) (J 4 k) (J 5 k))), (12, .double (sEase D0 (I 1 (J 5 k)) (J 5 k))), (10, .double (sEase D0 (I 1 (J 4 k)) (J 4 k))), (8, .double (wB D0 (J 4 k) (J 5 k))), (6, .double (wA D0 (J 4 k) (J 5 k))), (4, .double (D0 12 k)), (3, .int (nI (J 5 k))), (2, .int (nI (J 4 k))), (0, .ref (ad 30 0)), (1, .int (nI k))]) hx hb dX5_turn_234 hl (by decide) rfl (fun ls hl => ?_)
            refine lv_aload_n hx hb dX5_turn_236 rfl (lv_at hl 11 rfl) ?_
            refine w_getR (v := .ref (ad 54 0)) Z hW kX5 rfl 31 (by decide) q771 (show (0 : Nat) < 1 by decide) rfl rfl dX5_turn_237 ?_
            refine lv_iload_n hx hb dX5_turn_240 rfl (lv_at hl 10 rfl) ?_
            refine lv_aload_n hx hb dX5_turn_241 rfl (lv_at hl 11 rfl) ?_
            refine w_getR (v := .ref (ad 54 0)) Z hW kX5 rfl 31 (by decide) q771 (show (0 : Nat) < 1 by decide) rfl rfl dX5_turn_242 ?_
            refine lv_iload_n hx hb dX5_turn_245 rfl (lv_at hl 10 rfl) ?_
            refine a_D (j := (J 4 k)) (x := T 32 (J 4 k)) (ix := J 4 k) Z hW rfl (show (0 : Nat) < 1 by decide) (by omega) (by decide) rfl rfl (hT2 (J 4 k) hj4).1 dX5_turn_246 ?_
            refine lv_dload hx hb dX5_turn_247 (lv_at hl 0 rfl) ?_
            refine lv_dload hx hb dX5_turn_249 (lv_at hl 5 rfl) ?_
            have f13 : fb (35) (FP.dmul (rG D0 T I (D0 12 k) (J 4 k) (J 5 k)) (sEase D0 (I 1 (J 4 k)) (J 4 k))) := fb.mul (rG_fb hB hBT (by omega) hj4 hj5 (hB.rl hk) hns) (ease_fb hB hj4 _) (by decide)
            refine lv_dmul hx hb dX5_turn_251 f13.n64 ?_
            refine lv_dload hx hb dX5_turn_252 (lv_at hl 7 rfl) ?_
            have f14 : fb (40) (FP.dmul (FP.dmul (rG D0 T I (D0 12 k) (J 4 k) (J 5 k)) (sEase D0 (I 1 (J 4 k)) (J 4 k))) (wA D0 (J 4 k) (J 5 k))) := fb.mul f13 (wA_fb hB hj4 hj5) (by decide)
            refine lv_dmul hx hb dX5_turn_254 f14.n64 ?_
            have f15 : fb (49) (FP.dadd (T 32 (J 4 k)) (FP.dmul (FP.dmul (rG D0 T I (D0 12 k) (J 4 k) (J 5 k)) (sEase D0 (I 1 (J 4 k)) (J 4 k))) (wA D0 (J 4 k) (J 5 k)))) := fb.add ((hBT _ hj4).1.bnd (by omega)) f14 (by decide)
            refine lv_dadd hx hb dX5_turn_255 f15.n64 ?_
            refine w_ads (j := (J 4 k)) (ix := J 4 k) Z hW hS rfl (show (0 : Nat) < 1 by decide) rfl (by omega) (by decide) (show (J 4 k : Nat) < 10 by omega) rfl rfl dX5_turn_256 (fun H locs hW hS => ?_)
            refine lv_aload_n hx hb dX5_turn_257 rfl (lv_at hl 11 rfl) ?_
            refine w_getR (v := .ref (ad 55 0)) Z hW kX5 rfl 32 (by decide) q772 (show (0 : Nat) < 1 by decide) rfl rfl dX5_turn_258 ?_
            refine lv_iload_n hx hb dX5_turn_261 rfl (lv_at hl 10 rfl) ?_
            refine lv_aload_n hx hb dX5_turn_262 rfl (lv_at hl 11 rfl) ?_
            refine w_getR (v := .ref (ad 55 0)) Z hW kX5 rfl 32 (by decide) q772 (show (0 : Nat) < 1 by decide) rfl rfl dX5_turn_263 ?_
            refine lv_iload_n hx hb dX5_turn_266 rfl (lv_at hl 10 rfl) ?_
            refine a_D (j := (J 4 k)) (x := T 33 (J 4 k)) (ix := J 4 k) Z hW rfl (show (0 : Nat) < 1 by decide) (by omega) (by decide) rfl rfl ((up2_f _ _ _ _ (by decide)).trans (hT2 (J 4 k) hj4).2) dX5_turn_267 ?_
            refine lv_dload hx hb dX5_turn_268 (lv_at hl 0 rfl) ?_
            refine lv_dload hx hb dX5_turn_270 (lv_at hl 5 rfl) ?_
            refine lv_dmul hx hb dX5_turn_272 f13.n64 ?_
            refine lv_dload hx hb dX5_turn_273 (lv_at hl 6 rfl) ?_
            have f16 : fb (40) (FP.dmul (FP.dmul (rG D0 T I (D0 12 k) (J 4 k) (J 5 k)) (sEase D0 (I 1 (J 4 k)) (J 4 k))) (wB D0 (J 4 k) (J 5 k))) := fb.mul f13 (wB_fb hB hj4 hj5) (by decide)
            refine lv_dmul hx hb dX5_turn_275 f16.n64 ?_
            have f17 : fb (49) (FP.dadd (T 33 (J 4 k)) (FP.dmul (FP.dmul (rG D0 T I (D0 12 k) (J 4 k) (J 5 k)) (sEase D0 (I 1 (J 4 k)) (J 4 k))) (wB D0 (J 4 k) (J 5 k)))) := fb.add ((hBT _ hj4).2.bnd (by omega)) f16 (by decide)
            refine lv_dadd hx hb dX5_turn_276 f17.n64 ?_
            refine w_ads (j := (J 4 k)) (ix := J 4 k) Z hW hS rfl (show (0 : Nat) < 1 by decide) rfl (by omega) (by decide) (show (J 4 k : Nat) < 10 by omega) rfl rfl dX5_turn_277 (fun H locs hW hS => ?_)
            refine lv_aload_n hx hb dX5_turn_278 rfl (lv_at hl 11 rfl) ?_
            refine w_getR (v := .ref (ad 54 0)) Z hW kX5 rfl 31 (by decide) q771 (show (0 : Nat) < 1 by decide) rfl rfl dX5_turn_279 ?_
            refine lv_iload_n hx hb dX5_turn_282 rfl (lv_at hl 9 rfl) ?_
            refine lv_aload_n hx hb dX5_turn_283 rfl (lv_at hl 11 rfl) ?_
            refine w_getR (v := .ref (ad 54 0)) Z hW kX5 rfl 31 (by decide) q771 (show (0 : Nat) < 1 by decide) rfl rfl dX5_turn_284 ?_
            refine lv_iload_n hx hb dX5_turn_287 rfl (lv_at hl 9 rfl) ?_
            refine a_D (j := (J 5 k)) (x := T 32 (J 5 k)) (ix := J 5 k) Z hW rfl (show (0 : Nat) < 1 by decide) (by omega) (by decide) rfl rfl ((up2_f _ _ _ _ (by decide)).trans ((up2_i _ _ _ _ (Ne.symm hij)).trans (hT2 (J 5 k) hj5).1)) dX5_turn_288 ?_
            refine lv_dload hx hb dX5_turn_289 (lv_at hl 0 rfl) ?_
            refine lv_dload hx hb dX5_turn_291 (lv_at hl 4 rfl) ?_
            have f18 : fb (35) (FP.dmul (rG D0 T I (D0 12 k) (J 4 k) (J 5 k)) (sEase D0 (I 1 (J 5 k)) (J 5 k))) := fb.mul (rG_fb hB hBT (by omega) hj4 hj5 (hB.rl hk) hns) (ease_fb hB hj5 _) (by decide)
            refine lv_dmul hx hb dX5_turn_293 f18.n64 ?_
            refine lv_dload hx hb dX5_turn_294 (lv_at hl 7 rfl) ?_
            have f19 : fb (40) (FP.dmul (FP.dmul (rG D0 T I (D0 12 k) (J 4 k) (J 5 k)) (sEase D0 (I 1 (J 5 k)) (J 5 k))) (wA D0 (J 4 k) (J 5 k))) := fb.mul f18 (wA_fb hB hj4 hj5) (by decide)
            refine lv_dmul hx hb dX5_turn_296 f19.n64 ?_
            have f20 : fb (49) (FP.dsub (T 32 (J 5 k)) (FP.dmul (FP.dmul (rG D0 T I (D0 12 k) (J 4 k) (J 5 k)) (sEase D0 (I 1 (J 5 k)) (J 5 k))) (wA D0 (J 4 k) (J 5 k)))) := fb.sub ((hBT _ hj5).1.bnd (by omega)) f19 (by decide)
            refine lv_dsub hx hb dX5_turn_297 f20.n64 ?_
            refine w_ads (j := (J 5 k)) (ix := J 5 k) Z hW hS rfl (show (0 : Nat) < 1 by decide) rfl (by omega) (by decide) (show (J 5 k : Nat) < 10 by omega) rfl rfl dX5_turn_298 (fun H locs hW hS => ?_)
            refine lv_aload_n hx hb dX5_turn_299 rfl (lv_at hl 11 rfl) ?_
            refine w_getR (v := .ref (ad 55 0)) Z hW kX5 rfl 32 (by decide) q772 (show (0 : Nat) < 1 by decide) rfl rfl dX5_turn_300 ?_
            refine lv_iload_n hx hb dX5_turn_303 rfl (lv_at hl 9 rfl) ?_
            refine lv_aload_n hx hb dX5_turn_304 rfl (lv_at hl 11 rfl) ?_
            refine w_getR (v := .ref (ad 55 0)) Z hW kX5 rfl 32 (by decide) q772 (show (0 : Nat) < 1 by decide) rfl rfl dX5_turn_305 ?_
            refine lv_iload_n hx hb dX5_turn_308 rfl (lv_at hl 9 rfl) ?_
            refine a_D (j := (J 5 k)) (x := T 33 (J 5 k)) (ix := J 5 k) Z hW rfl (show (0 : Nat) < 1 by decide) (by omega) (by decide) rfl rfl ((up2_f _ _ _ _ (by decide)).trans ((up2_i _ _ _ _ (Ne.symm hij)).trans ((up2_f _ _ _ _ (by decide)).trans (hT2 (J 5 k) hj5).2))) dX5_turn_309 ?_
            refine lv_dload hx hb dX5_turn_310 (lv_at hl 0 rfl) ?_
            refine lv_dload hx hb dX5_turn_312 (lv_at hl 4 rfl) ?_
            refine lv_dmul hx hb dX5_turn_314 f18.n64 ?_
            refine lv_dload hx hb dX5_turn_315 (lv_at hl 6 rfl) ?_
            have f21 : fb (40) (FP.dmul (FP.dmul (rG D0 T I (D0 12 k) (J 4 k) (J 5 k)) (sEase D0 (I 1 (J 5 k)) (J 5 k))) (wB D0 (J 4 k) (J 5 k))) := fb.mul f18 (wB_fb hB hj4 hj5) (by decide)
            refine lv_dmul hx hb dX5_turn_317 f21.n64 ?_
            have f22 : fb (49) (FP.dsub (T 33 (J 5 k)) (FP.dmul (FP.dmul (rG D0 T I (D0 12 k) (J 4 k) (J 5 k)) (sEase D0 (I 1 (J 5 k)) (J 5 k))) (wB D0 (J 4 k) (J 5 k)))) := fb.sub ((hBT _ hj5).2.bnd (by omega)) f21 (by decide)
            refine lv_dsub hx hb dX5_turn_318 f22.n64 ?_
            refine w_ads (j := (J 5 k)) (ix := J 5 k) Z hW hS rfl (show (0 : Nat) < 1 by decide) rfl (by omega) (by decide) (show (J 5 k : Nat) < 10 by omega) rfl rfl dX5_turn_319 (fun H locs hW hS => ?_)
            refine lv_iconst (v := nI 1) hx hb dX5_turn_320 rfl ?_
            rw [hQ]
            exact rW_i hx hb hr hlk hS (⟨by rw [rcd_1 c5 hns], _, (((hx2.up rfl).up rfl).up rfl).up rfl, by rw [rTn_1 (rcd_1 c5 hns)]; exact (((hT2.put _ _ _).put _ _ _).put _ _ _).put _ _ _, hW⟩) dX5_turn_321
          · refine lv_dload hx hb dX5_turn_209 (lv_at hl 0 rfl) ?_
            refine lv_ldc2d (v := 13740701229962882445) hx hb hown (hts _ (lw_car_all q1026)) dX5_turn_211 ?_
            refine lv_dl_le (tgt := 229) hx hb dX5_turn_214 dX5_turn_215 (by decide) (fun c23 => ?_) (fun c23 => ?_)
            · exact hmt () (fun q => c23 q.1)
            · refine lv_dload hx hb dX5_turn_218 (lv_at hl 0 rfl) ?_
              refine lv_ldc2d (v := 4517329193108106637) hx hb hown (hts _ (lw_car_all q1025)) dX5_turn_220 ?_
              refine lv_dg_ge (tgt := 229) hx hb dX5_turn_223 dX5_turn_224 (by decide) (fun c24 => ?_) (fun c24 => ?_)
              · exact hmt () (fun q => c24 q.2)
              · refine lv_iconst (v := nI 2) hx hb dX5_turn_227 rfl ?_
                rw [hQ]
                exact rW_i hx hb hr hlk hS (⟨by rw [rcd_2 c5 ⟨c23, c24⟩], D2, hx2, by rw [rTn_ne (by rw [rcd_2 c5 ⟨c23, c24⟩]; decide)]; exact hT2, hW⟩) dX5_turn_228
        · refine lv_iconst (v := nI 0) hx hb dX5_turn_176 rfl ?_
          rw [hQ]
          exact rW_i hx hb hr hlk hS (⟨by rw [rcd_0 c5], D2, hx2, by rw [rTn_ne (by rw [rcd_0 c5]; decide)]; exact hT2, hW⟩) dX5_turn_177
      · refine lv_dload hx hb dX5_turn_148 (lv_at hl 0 rfl) ?_
        refine lv_dconst0 hx hb dX5_turn_150 ?_
        refine lv_dg_ge (tgt := 161) hx hb dX5_turn_151 dX5_turn_152 (by decide) (fun c25 => ?_) (fun c25 => ?_)
        · refine lv_dload hx hb dX5_turn_161 (lv_at hl 0 rfl) ?_
          exact hmt _ (if_neg c25).symm
        · refine lv_dload hx hb dX5_turn_155 (lv_at hl 0 rfl) ?_
          refine lv_dneg hx hb dX5_turn_157 ?_
          have f26 : fb (12) (FP.dneg (rO D0 T (D0 12 k) (J 4 k) (J 5 k))) := fb.neg (rO_fb hB hBT (by omega) hj4 hj5 (hB.rl hk)) (neg_val (rO_fb hB hBT (by omega) hj4 hj5 (hB.rl hk)).1)
          refine lv_goto (tgt := 163) hx hb dX5_turn_158 (by decide) ?_
          exact hmt _ (if_pos c25).symm
    · refine lv_aload_n hx hb dX5_turn_113 rfl (lv_at hl 6 rfl) ?_
      refine w_getR (v := .ref (ad 37 0)) Z hW kX5 rfl 10 (by decide) q750 (show (0 : Nat) < 1 by decide) rfl rfl dX5_turn_114 ?_
      refine lv_iload_n hx hb dX5_turn_117 rfl (lv_at hl 4 rfl) ?_
      refine a_Z (j := (J 5 k)) (x := I 1 (J 5 k)) (ix := J 5 k) Z hW rfl (show (0 : Nat) < 1 by decide) (by omega) (by decide) rfl rfl rfl dX5_turn_118 ?_
      refine lv_if_eq (tgt := 126) hx hb dX5_turn_119 (by decide) (fun c27 => ?_) (fun c27 => ?_)
      · refine lv_dconst1 hx hb dX5_turn_126 ?_
        refine lv_aload_n hx hb dX5_turn_127 rfl (lv_at hl 6 rfl) ?_
        refine w_getR (v := .ref (ad 35 0)) Z hW kX5 rfl 8 (by decide) q748 (show (0 : Nat) < 1 by decide) rfl rfl dX5_turn_128 ?_
        refine lv_iload_n hx hb dX5_turn_131 rfl (lv_at hl 4 rfl) ?_
        refine a_D (j := (J 5 k)) (x := D0 4 (J 5 k)) (ix := J 5 k) Z hW rfl (show (0 : Nat) < 1 by decide) (by omega) (by decide) rfl rfl (hag2 4 (J 5 k) rfl) dX5_turn_132 ?_
        have f28 : fb (3) (FP.ddiv FP.dconst1 (D0 4 (J 5 k))) := fb.div fc_1 (hB.ml (show (J 5 k : Nat) < n by omega)) (by decide)
        refine lv_ddiv hx hb dX5_turn_133 f28.n64 ?_
        exact hmt _ (if_pos c27).symm
      · refine lv_dconst0 hx hb dX5_turn_122 ?_
        refine lv_goto (tgt := 134) hx hb dX5_turn_123 (by decide) ?_
        exact hmt _ (if_neg c27).symm
  · refine lv_aload_n hx hb dX5_turn_90 rfl (lv_at hl 5 rfl) ?_
    refine w_getR (v := .ref (ad 37 0)) Z hW kX5 rfl 10 (by decide) q750 (show (0 : Nat) < 1 by decide) rfl rfl dX5_turn_91 ?_
    refine lv_iload_n hx hb dX5_turn_94 rfl (lv_at hl 4 rfl) ?_
    refine a_Z (j := (J 4 k)) (x := I 1 (J 4 k)) (ix := J 4 k) Z hW rfl (show (0 : Nat) < 1 by decide) (by omega) (by decide) rfl rfl rfl dX5_turn_95 ?_
    refine lv_if_eq (tgt := 103) hx hb dX5_turn_96 (by decide) (fun c29 => ?_) (fun c29 => ?_)
    · refine lv_dconst1 hx hb dX5_turn_103 ?_
      refine lv_aload_n hx hb dX5_turn_104 rfl (lv_at hl 5 rfl) ?_
      refine w_getR (v := .ref (ad 35 0)) Z hW kX5 rfl 8 (by decide) q748 (show (0 : Nat) < 1 by decide) rfl rfl dX5_turn_105 ?_
      refine lv_iload_n hx hb dX5_turn_108 rfl (lv_at hl 4 rfl) ?_
      refine a_D (j := (J 4 k)) (x := D0 4 (J 4 k)) (ix := J 4 k) Z hW rfl (show (0 : Nat) < 1 by decide) (by omega) (by decide) rfl rfl (hag2 4 (J 4 k) rfl) dX5_turn_109 ?_
      have f30 : fb (3) (FP.ddiv FP.dconst1 (D0 4 (J 4 k))) := fb.div fc_1 (hB.ml (show (J 4 k : Nat) < n by omega)) (by decide)
      refine lv_ddiv hx hb dX5_turn_110 f30.n64 ?_
      exact hmt _ (if_pos c29).symm
    · refine lv_dconst0 hx hb dX5_turn_99 ?_
      refine lv_goto (tgt := 111) hx hb dX5_turn_100 (by decide) ?_
      exact hmt _ (if_neg c29).symm
set_option maxHeartbeats 4000000 in
theorem m_X5_keepRods (l : Launch) (A : Nat → Prop) (Dg : va_G) (dA : Nat → ClassId) (ad : Nat → Nat → Nat) (n : Nat) (nb : Nat) (nr : Nat) (J : Nat → Nat → Nat) (D : T64) (I : T32) (D0 : T64) (hag : agD D D0) (hB : Bd n nb nr J D0) (hM : mI n nb nr J I) (T : T64) (hT : agN n D T) (hBT : BT 1 n T) (hOl : ∀ i, i < n → D 44 i = D0 0 i ∧ D 45 i = D0 1 i) : MX l yX5_keepRods cX5_keepRods 4 (some .boolean) [] (rmx 5 0 0) [.ref (ad 30 0)] (Pw Dg dA (mW A Dg dA ad D I)) (qW (fun r : Int32 => some (.int r)) (fun r H => ∃ D1 x, exc sX D1 D ∧ mW A Dg dA ad D1 ((up2 I 43 0 x)) H ∧ ((r = nI 1 ∧ ∃ q T1, rds D0 I J nr 40 0 T = some (q, T1) ∧ q < 40 ∧ x = nI q ∧ BT 200 n T1 ∧ agN n D1 T1) ∨ (r = nI 0 ∧ rds D0 I J nr 40 0 T = none))) A) 0 0 A := by
  refine MX.start (Nat.le_of_ble_eq_true rfl) ?_
  intro p e s m args below meth c ls Q hAt hPc hl hQ
  have hl : lv_has ls 4 [(0, .ref (ad 30 0))] := hl
  obtain ⟨hx, hb, hml, hr, hlk, hown, hnm, htab, hts⟩ := id hAt
  obtain ⟨hK, hW⟩ := hPc
  have Z := Cx.of hAt hK
  have hS : va_S A s.heap s.heap [] := va_S.rf
  have hnr4 := hB.nr4
  refine lv_aload_n hx hb dX5_keepRods_0 rfl (lv_at hl 0 rfl) ?_
  refine lv_iconst (v := nI 0) hx hb dX5_keepRods_1 rfl ?_
  refine w_putI Z hW hS kX5 rfl 44 (by decide) (by decide) q784 rfl (show (0 : Nat) < 1 by decide) rfl rfl rfl dX5_keepRods_2 (fun H locs hW hS => ?_)
  refine wl_up 40 0 (fun q H locs ls => ∃ D1 T1, lv_has ls 4 [(0, .ref (ad 30 0))] ∧ mW A Dg dA ad D1 ((up2 I 43 0 (nI q))) H ∧ va_S A s.heap H locs ∧ exc sX D1 D ∧ agN n D1 T1 ∧ BT (1 + 4 * q) n T1 ∧ rds D0 I J nr (40 - q) q T1 = rds D0 I J nr 40 0 T) (Nat.zero_le _) ⟨D, T, lv_sub hl [0] rfl, hW, hS, exc.rf, hT, hBT, rfl⟩ ?_ ?_
  · intro q H locs ls hi hP ih
    obtain ⟨D1, T1, hl, hW, hS, hex, hT1, hBT1, hrd⟩ := hP
    have h40 : 40 - q = (40 - (q + 1)) + 1 := by omega
    rw [h40] at hrd
    have h43 : sameS (up2 I 43 0 (nI q)) I := fun _ => rfl
    refine lv_aload_n hx hb dX5_keepRods_5 rfl (lv_at hl 0 rfl) ?_
    refine g_I (x := nI q) Z hW kX5 rfl 44 (by decide) q784 (show (0 : Nat) < 1 by decide) rfl (up2_same _ _ _ _) dX5_keepRods_6 ?_
    refine lv_bipush (v := nI 40) hx hb dX5_keepRods_9 rfl ?_
    refine lv_nge (tgt := 71) hx hb (by omega) (by decide) dX5_keepRods_11 (by decide) (fun c => absurd c (by omega)) (fun c => ?_)
    refine lv_iconst (v := nI 0) hx hb dX5_keepRods_14 rfl ?_
    refine lv_istore_n (lv' := [(1, .int (nI 0)), (0, .ref (ad 30 0))]) hx hb dX5_keepRods_15 rfl hl (by decide) rfl (fun ls hl => ?_)
    refine lv_iconst (v := nI 0) hx hb dX5_keepRods_16 rfl ?_
    refine lv_istore_n (lv' := [(2, .int (nI 0)), (1, .int (nI 0)), (0, .ref (ad 30 0))]) hx hb dX5_keepRods_17 rfl hl (by decide) rfl (fun ls hl => ?_)
    have ih0 := ih
    have hi0 := hi
    have hrd0 := hrd
    refine wl_up nr 0 (fun k H locs ls => ∃ D2, lv_has ls 4 [(2, .int (nI k)), (1, .int (nI (bO1 (rnd D0 I J T1 k).2.1))), (0, .ref (ad 30 0))] ∧ mW A Dg dA ad D2 ((up2 I 43 0 (nI q))) H ∧ va_S A s.heap H locs ∧ exc sX D2 D ∧ agN n D2 (rnd D0 I J T1 k).1 ∧ (rnd D0 I J T1 k).2.2 = false) (Nat.zero_le _) ⟨D1, lv_sub hl [0, 1, 2] rfl, hW, hS, hex, hT1, rfl⟩ ?_ ?_
    · intro k H locs ls hi hP ih
      obtain ⟨D2, hl, hW, hS, hex2, hT2, hsf⟩ := hP
      have hk := hi
      have hag2 := hag.X hex2
      refine lv_iload_n hx hb dX5_keepRods_18 rfl (lv_at hl 0 rfl) ?_
      refine lv_aload_n hx hb dX5_keepRods_19 rfl (lv_at hl 2 rfl) ?_
      refine g_I (x := nI nr) Z hW kX5 rfl 16 (by decide) q756 (show (0 : Nat) < 1 by decide) rfl hM.cr dX5_keepRods_20 ?_
      refine lv_nge (tgt := 52) hx hb (by omega) (by omega) dX5_keepRods_23 (by decide) (fun c => absurd c (by omega)) (fun c => ?_)
      refine lv_aload_n hx hb dX5_keepRods_26 rfl (lv_at hl 2 rfl) ?_
      refine lv_iload_n hx hb dX5_keepRods_27 rfl (lv_at hl 0 rfl) ?_
      refine wx_ws (wx_V (As := [.int (nI k)]) (rest := []) hAt.fix (m_X5_turn l A Dg dA ad n nb nr J D2 ((up2 I 43 0 (nI q))) D0 hag2 hB hM ((rnd D0 I J T1 k).1) hT2 ((1 + 4 * q + k)) ((by omega)) ((rnd_BT hB hBT1 (by omega) k (by omega))) ((fun a ha => ⟨(hex2 44 a rfl).trans (hOl a ha).1, (hex2 45 a rfl).trans (hOl a ha).2⟩)) k hk) q1021 q1023 qs40 q1024 wn_X5_turn ⟨Nat.le_of_ble_eq_true rfl, Nat.le_of_ble_eq_true rfl, Nat.le_of_ble_eq_true rfl, Nat.le_of_ble_eq_true rfl⟩ (w_recv hK hW kX5 rfl (show (0 : Nat) < 1 by decide)) (Pw.of hK hW) hl.1 (Nat.le_of_ble_eq_true rfl) dX5_keepRods_28) hS (fun r H locs hW hz hS => ?_)
      obtain ⟨rfl, D3, hex3, hT3, hW⟩ := hW
      rw [rcd_cg h43]
      rw [rTn_cg h43] at hT3
      have hrs := rnd_s (D := D0) (I := I) (J := J) (T := T1) (k := k) hsf
      have hr3 := rcd_lt (D := D0) (T := (rnd D0 I J T1 k).1) (I := I) (l := D0 12 k) (i := J 4 k) (j := J 5 k)
      generalize hrc : rcd D0 (rnd D0 I J T1 k).1 I (D0 12 k) (J 4 k) (J 5 k) = rc at hrs hr3 hT3
      refine lv_istore_n (lv' := [(3, .int (nI rc)), (2, .int (nI k)), (1, .int (nI (bO1 (rnd D0 I J T1 k).2.1))), (0, .ref (ad 30 0))]) hx hb dX5_keepRods_31 rfl hl (by decide) rfl (fun ls hl => ?_)
      refine lv_iload_n hx hb dX5_keepRods_32 rfl (lv_at hl 0 rfl) ?_
      refine lv_iconst (v := nI 2) hx hb dX5_keepRods_33 rfl ?_
      refine lv_nne (tgt := 39) hx hb (by omega) (by decide) dX5_keepRods_34 (by decide) (fun c1 => ?_) (fun c1 => ?_)
      · refine lv_iload_n hx hb dX5_keepRods_39 rfl (lv_at hl 0 rfl) ?_
        refine lv_iconst (v := nI 1) hx hb dX5_keepRods_40 rfl ?_
        refine lv_nne (tgt := 46) hx hb (by omega) (by decide) dX5_keepRods_41 (by decide) (fun c2 => ?_) (fun c2 => ?_)
        · refine lv_iinc1 (lv' := [(2, .int (nI (k + 1))), (3, .int (nI rc)), (1, .int (nI (bO1 (rnd D0 I J T1 k).2.1))), (0, .ref (ad 30 0))]) hx hb dX5_keepRods_46 hl (k := 1) rfl (by decide) rfl (fun ls hl => ?_)
          refine lv_goto (tgt := 18) hx hb dX5_keepRods_49 (by decide) ?_
          have hl : lv_has ls 4 [(2, .int (nI (k + 1))), (1, .int (nI (bO1 (rnd D0 I J T1 (k + 1)).2.1))), (0, .ref (ad 30 0))] := by
            rw [hrs]
            rw [show ((rnd D0 I J T1 k).2.1 || decide (rc = 1)) = (rnd D0 I J T1 k).2.1 by rw [decide_eq_false c2]; exact Bool.or_false _]
            exact lv_sub hl [0, 2, 3] rfl
          exact ih _ _ _ ⟨D3, hl, hW, hS, hex3.trans hex2, by rw [hrs]; exact hT3, by rw [hrs]; exact decide_eq_false c1⟩
        · refine lv_iconst (v := nI 1) hx hb dX5_keepRods_44 rfl ?_
          refine lv_istore_n (lv' := [(1, .int (nI 1)), (3, .int (nI rc)), (2, .int (nI k)), (0, .ref (ad 30 0))]) hx hb dX5_keepRods_45 rfl hl (by decide) rfl (fun ls hl => ?_)
          refine lv_iinc1 (lv' := [(2, .int (nI (k + 1))), (1, .int (nI 1)), (3, .int (nI rc)), (0, .ref (ad 30 0))]) hx hb dX5_keepRods_46 hl (k := 2) rfl (by decide) rfl (fun ls hl => ?_)
          refine lv_goto (tgt := 18) hx hb dX5_keepRods_49 (by decide) ?_
          have hl : lv_has ls 4 [(2, .int (nI (k + 1))), (1, .int (nI (bO1 (rnd D0 I J T1 (k + 1)).2.1))), (0, .ref (ad 30 0))] := by
            rw [hrs]
            rw [show ((rnd D0 I J T1 k).2.1 || decide (rc = 1)) = true by rw [decide_eq_true c2]; exact Bool.or_true _]
            exact lv_sub hl [0, 1, 3] rfl
          exact ih _ _ _ ⟨D3, hl, hW, hS, hex3.trans hex2, by rw [hrs]; exact hT3, by rw [hrs]; exact decide_eq_false c1⟩
      · refine lv_iconst (v := nI 0) hx hb dX5_keepRods_37 rfl ?_
        rw [hQ]
        exact rW_z hx hb hr hlk hS (Or.inl rfl) (⟨D3, _, hex3.trans hex2, hW, Or.inr ⟨rfl, by rw [← hrd0]; exact rds_stiff (rnd_stiff (by rw [hrs]; exact decide_eq_true c1) nr (by omega))⟩⟩) dX5_keepRods_38
    · intro H locs ls hP
      obtain ⟨D2, hl, hW, hS, hex2, hT2, hsf⟩ := hP
      have hbt := rnd_BT hB hBT1 (by omega) (I := I) nr (Nat.le_refl _)
      refine lv_iload_n hx hb dX5_keepRods_18 rfl (lv_at hl 0 rfl) ?_
      refine lv_aload_n hx hb dX5_keepRods_19 rfl (lv_at hl 2 rfl) ?_
      refine g_I (x := nI nr) Z hW kX5 rfl 16 (by decide) q756 (show (0 : Nat) < 1 by decide) rfl hM.cr dX5_keepRods_20 ?_
      refine lv_nge (tgt := 52) hx hb (by omega) (by omega) dX5_keepRods_23 (by decide) (fun c => ?_) (fun c => absurd c (by omega))
      refine lv_iload_n hx hb dX5_keepRods_52 rfl (lv_at hl 1 rfl) ?_
      refine lv_if_ne (tgt := 58) hx hb dX5_keepRods_53 (by decide) (fun c3 => ?_) (fun c3 => ?_)
      · refine lv_aload_n hx hb dX5_keepRods_58 rfl (lv_at hl 2 rfl) ?_
        refine lv_dup hx hb dX5_keepRods_59 rfl ?_
        refine g_I (x := nI q) Z hW kX5 rfl 44 (by decide) q784 (show (0 : Nat) < 1 by decide) rfl (up2_same _ _ _ _) dX5_keepRods_60 ?_
        refine lv_iconst (v := nI 1) hx hb dX5_keepRods_63 rfl ?_
        refine lv_iadd hx hb dX5_keepRods_64 ?_
        rw [nI_add]
        refine w_putI Z hW hS kX5 rfl 44 (by decide) (by decide) q784 rfl (show (0 : Nat) < 1 by decide) rfl rfl rfl dX5_keepRods_65 (fun H locs hW hS => ?_)
        refine lv_goto (tgt := 5) hx hb dX5_keepRods_68 (by decide) ?_
        exact ih0 _ _ _ ⟨D2, _, lv_sub hl [2] rfl, up2_twice ▸ hW, hS, hex2, hT2, hbt.mono (by omega), by rw [← hrd0, rds_next hsf (bO1_nz c3)]⟩
      · refine lv_iconst (v := nI 1) hx hb dX5_keepRods_56 rfl ?_
        rw [hQ]
        exact rW_z hx hb hr hlk hS (Or.inr rfl) (⟨D2, _, hex2, hW, Or.inl ⟨rfl, q, _, by rw [← hrd0]; exact rds_done hsf (bO1_z c3), hi0, rfl, hbt.mono (by omega), hT2⟩⟩) dX5_keepRods_57
  · intro H locs ls hP
    obtain ⟨D1, T1, hl, hW, hS, hex, hT1, hBT1, hrd⟩ := hP
    refine lv_aload_n hx hb dX5_keepRods_5 rfl (lv_at hl 0 rfl) ?_
    refine g_I (x := nI 40) Z hW kX5 rfl 44 (by decide) q784 (show (0 : Nat) < 1 by decide) rfl (up2_same _ _ _ _) dX5_keepRods_6 ?_
    refine lv_bipush (v := nI 40) hx hb dX5_keepRods_9 rfl ?_
    refine lv_nge (tgt := 71) hx hb (by decide) (by decide) dX5_keepRods_11 (by decide) (fun c => ?_) (fun c => absurd c (by decide))
    refine lv_iconst (v := nI 0) hx hb dX5_keepRods_71 rfl ?_
    rw [hQ]
    exact rW_z hx hb hr hlk hS (Or.inl rfl) (⟨D1, _, hex, hW, Or.inr ⟨rfl, hrd.symm⟩⟩) dX5_keepRods_72
