set_option maxRecDepth 100000
/-! ===== the class: forces, rods ===== -/
set_option maxHeartbeats 4000000 in
theorem m_X1_forces (l : Launch) (hfl : l.flags = flags0) (A : Nat → Prop) (Dg : va_G) (dA : Nat → ClassId) (ad : Nat → Nat → Nat) (n : Nat) (nb : Nat) (nr : Nat) (no : Nat) (J : Nat → Nat → Nat) (R : Nat → Value) (D : T64) (I : T32) (D0 : T64) (hag : agD D D0) (hB : Bd n nb nr J D0) (hn : I 20 0 = nI n) (hnb : I 21 0 = nI nb) (li : Int32) (hli : I 23 0 = li) (hNL : ¬ li = 0 → NL D0 I n) : MX l yX1_forces cX1_forces 2 none [] (rmx 9 1 6) [.ref (ad 0 0)] (Px A Dg dA (cW A Dg dA ad n nb nr no J R D I)) (qX (fun _ : Unit => none) (fun _ H => ∃ D1 I1 R1, cW A Dg dA ad n nb nr no J R1 D1 I1 H ∧ Lst D0 li n D I D1 I1 ∧ ∀ a, a < n → (∀ k, k < (jsC D0 li n a).length → ¬ flt (wR D0 a ((jsC D0 li n a).getD k 0)) 4562146422526312448) ∧ D1 30 a = (fCx D0 J nb a (jsC D0 li n a)).1 ∧ D1 31 a = (fCx D0 J nb a (jsC D0 li n a)).2) (fun C H => ((∃ a, a < n ∧ ∃ k, k < (jsC D0 li n a).length ∧ flt (wR D0 a ((jsC D0 li n a).getD k 0)) 4562146422526312448) ∧ C = "java/lang/ArithmeticException") ∧ ∃ D1 I1 R1, cW A Dg dA ad n nb nr no J R1 D1 ((up2 I1 40 0 (nI 0))) H ∧ Lst D0 li n D I D1 I1) A) 0 0 A := by
  refine MX.start (Nat.le_of_ble_eq_true rfl) ?_
  intro p e s m args below meth c ls Q hAt hPc hl hQ
  have hl : lv_has ls 2 [(0, .ref (ad 0 0))] := hl
  obtain ⟨hx, hb, hml, hr, hlk, hown, hnm, htab, hts⟩ := id hAt
  obtain ⟨hK, hst, hA, hW⟩ := hPc
  have Z := Cx.of hAt hK
  have hS : va_S A s.heap s.heap [] := va_S.rf
  have hn10 := hB.n10
  refine lv_aload_n hx hb dX1_forces_0 rfl (lv_at hl 0 rfl) ?_
  refine wx_wv (wx_V (As := []) (rest := []) hAt.fix (m_X1_list l A Dg dA ad n nb nr no J R D I D0 hag hB hn li hli) q570 q572 qs8 q573 wn_X1_list ⟨Nat.le_of_ble_eq_true rfl, Nat.le_of_ble_eq_true rfl, Nat.le_of_ble_eq_true rfl, Nat.le_of_ble_eq_true rfl⟩ (w_recv hK hW kX1 rfl (show (0 : Nat) < 1 by decide)) (Pw.of hK hW) hl.1 (Nat.le_of_ble_eq_true rfl) dX1_forces_1) hS (fun H locs hW hz hS => ?_)
  obtain ⟨D1, I1, hW, hL⟩ := hW
  replace hL : Lst D0 li n D I D1 I1 := by
    rcases hL with ⟨h1, h2, h3⟩ | ⟨h1, h2, h3⟩
    · exact Or.inl ⟨h1, h2.mono sFN, h3⟩
    · exact Or.inr ⟨h1, h2.mono sFN, h3⟩
  have hag1 := hL.ag hag
  have hrows := hL.rows hNL
  have hn1 : I1 20 0 = nI n := (hL.int 20 0 rfl).trans hn
  have hnb1 : I1 21 0 = nI nb := (hL.int 21 0 rfl).trans hnb
  have hBL : Bd n nb nr J (lsC D0 li n) := hB.lc
  refine lv_iconst (v := nI 0) hx hb dX1_forces_4 rfl ?_
  refine lv_istore_n (lv' := [(1, .int (nI 0)), (0, .ref (ad 0 0))]) hx hb dX1_forces_5 rfl hl (by decide) rfl (fun ls hl => ?_)
  refine wl_up n 0 (fun i H locs ls => ∃ D2 R2, lv_has ls 2 [(1, .int (nI i)), (0, .ref (ad 0 0))] ∧ cW A Dg dA ad n nb nr no J R2 D2 I1 H ∧ va_S A s.heap H locs ∧ exc sN D2 D1 ∧ ∀ a, a < i → (∀ k, k < (jsC D0 li n a).length → ¬ flt (wR D0 a ((jsC D0 li n a).getD k 0)) 4562146422526312448) ∧ D2 30 a = (fCx D0 J nb a (jsC D0 li n a)).1 ∧ D2 31 a = (fCx D0 J nb a (jsC D0 li n a)).2) (Nat.zero_le _) ⟨D1, R, lv_sub hl [0, 1] rfl, hW, hS, exc.rf, lt_0⟩ ?_ ?_
  · intro i H locs ls hi hP ih
    obtain ⟨D2, R2, hl, hW, hS, hex2, hall⟩ := hP
    have hjl : (jsC D0 li n i).length ≤ 10 := Nat.le_trans jsC_len hn10
    refine lv_iload_n hx hb dX1_forces_6 rfl (lv_at hl 0 rfl) ?_
    refine lv_aload_n hx hb dX1_forces_7 rfl (lv_at hl 1 rfl) ?_
    refine g_I (x := nI n) Z hW kX1 rfl 8 (by decide) q149 (show (0 : Nat) < 1 by decide) rfl hn1 dX1_forces_8 ?_
    refine lv_nge (tgt := 42) hx hb (by omega) (by omega) dX1_forces_11 (by decide) (fun c => absurd c (by omega)) (fun c => ?_)
    refine lv_aload_n hx hb dX1_forces_14 rfl (lv_at hl 1 rfl) ?_
    refine lv_aload_n hx hb dX1_forces_15 rfl (lv_at hl 1 rfl) ?_
    refine w_getR (v := .ref (ad 11 0)) Z hW kX1 rfl 5 (by decide) q146 (show (0 : Nat) < 1 by decide) rfl rfl dX1_forces_16 ?_
    refine lv_iload_n hx hb dX1_forces_19 rfl (lv_at hl 0 rfl) ?_
    refine a_R (j := i) (v := .ref (ad 2 i)) (ix := i) Z hW rfl (show (0 : Nat) < 1 by decide) (by omega) (by decide) rfl rfl rfl rfl (cR_atom (show (i : Nat) < n by omega)) dX1_forces_20 ?_
    refine lv_aload_n hx hb dX1_forces_21 rfl (lv_at hl 1 rfl) ?_
    refine w_getR (v := .ref (ad 14 0)) Z hW kX1 rfl 14 (by decide) q155 (show (0 : Nat) < 1 by decide) rfl rfl dX1_forces_22 ?_
    refine lv_iload_n hx hb dX1_forces_25 rfl (lv_at hl 0 rfl) ?_
    refine a_R (j := i) (v := .ref (ad 15 i)) (ix := i) Z hW rfl (show (0 : Nat) < 1 by decide) (by omega) (by decide) rfl rfl rfl rfl rfl dX1_forces_26 ?_
    refine lv_aload_n hx hb dX1_forces_27 rfl (lv_at hl 1 rfl) ?_
    refine w_getR (v := .ref (ad 16 0)) Z hW kX1 rfl 15 (by decide) q156 (show (0 : Nat) < 1 by decide) rfl rfl dX1_forces_28 ?_
    refine lv_iload_n hx hb dX1_forces_31 rfl (lv_at hl 0 rfl) ?_
    refine a_I (j := i) (x := nI (jsC D0 li n i).length) (ix := i) Z hW rfl (show (0 : Nat) < 1 by decide) (by omega) (by decide) rfl rfl (hrows i hi).1 dX1_forces_32 ?_
    refine wx_x (wx_V (As := [.ref (ad 2 i), .ref (ad 15 i), .int (nI (jsC D0 li n i).length)]) (rest := []) hAt.fix (m_X1_forceOn l hfl A Dg dA ad n nb nr no J R2 D2 I1 ((lsC D0 li n)) ((hag1.N hex2)) hBL hnb1 i hi 15 i 30 rfl ((fun _ => rfl)) ((show i < 10 by omega)) ((jsC D0 li n i)) hjl ((fun k hk => ⟨(hrows i hi).2 k hk, jsC_lt hk⟩))) q579 q581 qs10 q582 wn_X1_forceOn ⟨Nat.le_of_ble_eq_true rfl, Nat.le_of_ble_eq_true rfl, Nat.le_of_ble_eq_true rfl, Nat.le_of_ble_eq_true rfl⟩ (w_recv hK hW kX1 rfl (show (0 : Nat) < 1 by decide)) (Px.of hK hst hA hS hW) hl.1 (Nat.le_of_ble_eq_true rfl) dX1_forces_33) hS (fun r H locs hW hz hS => ?_) (fun x C H locs hp hE hz hS => ?_)
    rotate_left
    · rw [hQ]
      obtain ⟨⟨⟨k, hk, hq⟩, rfl⟩, D3, R3, hex3, hW⟩ := hp
      rw [wR_cg lsC_exL] at hq
      exact rT_x hlk htab rfl hS hE ⟨⟨⟨i, hi, k, hk, hq⟩, rfl⟩, D3, I1, R3, hW, hL.then (hex3.trans hex2)⟩
    obtain ⟨hno, D3, R3, hex3, hW⟩ := hW
    rw [fCx_cg lsC_exL] at hex3
    have hno1 : ∀ k, k < (jsC D0 li n i).length → ¬ flt (wR D0 i ((jsC D0 li n i).getD k 0)) 4562146422526312448 := fun k hk hq => hno k hk (by rw [wR_cg lsC_exL]; exact hq)
    have h3 : ∀ a, a < i + 1 → (∀ k, k < (jsC D0 li n a).length → ¬ flt (wR D0 a ((jsC D0 li n a).getD k 0)) 4562146422526312448) ∧ D3 30 a = (fCx D0 J nb a (jsC D0 li n a)).1 ∧ D3 31 a = (fCx D0 J nb a (jsC D0 li n a)).2 := by
      refine lt_s (fun a ha => ?_) ?_
      · obtain ⟨w1, w2, w3⟩ := hall a ha
        exact ⟨w1, (hex3 30 a rfl).trans ((up2_f _ _ _ _ (by decide)).trans ((up2_i _ _ _ _ (by omega)).trans w2)), (hex3 31 a rfl).trans ((up2_i _ _ _ _ (by omega)).trans ((up2_f _ _ _ _ (by decide)).trans w3))⟩
      · exact ⟨hno1, (hex3 30 i rfl).trans ((up2_f _ _ _ _ (by decide)).trans (up2_same _ _ _ _)), (hex3 31 i rfl).trans (up2_same _ _ _ _)⟩
    refine lv_iinc1 (lv' := [(1, .int (nI (i + 1))), (0, .ref (ad 0 0))]) hx hb dX1_forces_36 hl (k := 0) rfl (by decide) rfl (fun ls hl => ?_)
    refine lv_goto (tgt := 6) hx hb dX1_forces_39 (by decide) ?_
    exact ih _ _ _ ⟨D3, R3, lv_sub hl [0, 1] rfl, hW, hS, (hex3.mono sFN).trans ((hex2.up rfl).up rfl), h3⟩
  · intro H locs ls hP
    obtain ⟨D2, R2, hl, hW, hS, hex2, hall⟩ := hP
    refine lv_iload_n hx hb dX1_forces_6 rfl (lv_at hl 0 rfl) ?_
    refine lv_aload_n hx hb dX1_forces_7 rfl (lv_at hl 1 rfl) ?_
    refine g_I (x := nI n) Z hW kX1 rfl 8 (by decide) q149 (show (0 : Nat) < 1 by decide) rfl hn1 dX1_forces_8 ?_
    refine lv_nge (tgt := 42) hx hb (by omega) (by omega) dX1_forces_11 (by decide) (fun c => ?_) (fun c => absurd c (by omega))
    rw [hQ]
    exact rX (rW_v hx hb hr hlk hS (⟨D2, I1, R2, hW, hL.then hex2, hall⟩) dX1_forces_42)
set_option maxHeartbeats 4000000 in
theorem m_X1_straighten (l : Launch) (hfl : l.flags = flags0) (A : Nat → Prop) (Dg : va_G) (dA : Nat → ClassId) (ad : Nat → Nat → Nat) (n : Nat) (nb : Nat) (nr : Nat) (no : Nat) (J : Nat → Nat → Nat) (R : Nat → Value) (D : T64) (I : T32) (D0 : T64) (hag : agD D D0) (hB : Bd n nb nr J D0) (T : T64) (hT : agN n D T) (cB : Nat) (hcB : cB ≤ 240) (hBT : BT cB n T) (k : Nat) (hk : k < nr) : MX l yX1_straighten cX1_straighten 16 (some .boolean) [] (rmx 8 1 6) [.ref (ad 0 0), .ref (ad 4 k)] (Px A Dg dA (cW A Dg dA ad n nb nr no J R D I)) (qX (fun r : Int32 => some (.int r)) (fun r H => ((r = nI 0 ∧ rcd D0 T I (D0 12 k) (J 4 k) (J 5 k) = 0) ∨ (r = nI 1 ∧ rcd D0 T I (D0 12 k) (J 4 k) (J 5 k) = 1)) ∧ ∃ D1, exc sM D1 D ∧ agN n D1 (rTn D0 T I (D0 12 k) (J 4 k) (J 5 k)) ∧ cW A Dg dA ad n nb nr no J R D1 I H) (fun C H => (rcd D0 T I (D0 12 k) (J 4 k) (J 5 k) = 2 ∧ C = "java/lang/ArithmeticException") ∧ ∃ D1, exc sM D1 D ∧ cW A Dg dA ad n nb nr no J R D1 ((up2 I 40 0 (nI 1))) H) A) 0 0 A := by
  refine MX.start (Nat.le_of_ble_eq_true rfl) ?_
  intro p e s m args below meth c ls Q hAt hPc hl hQ
  have hl : lv_has ls 16 [(0, .ref (ad 0 0)), (1, .ref (ad 4 k))] := hl
  obtain ⟨hx, hb, hml, hr, hlk, hown, hnm, htab, hts⟩ := id hAt
  obtain ⟨hK, hst, hA, hW⟩ := hPc
  have Z := Cx.of hAt hK
  have hS : va_S A s.heap s.heap [] := va_S.rf
  have hj4 := hB.j4 hk
  have hj5 := hB.j5 hk
  have hij := hB.j45 hk
  refine lv_aload_n hx hb dX1_straighten_0 rfl (lv_at hl 1 rfl) ?_
  refine w_getR (v := .ref (ad 2 (J 4 k))) Z hW kX8 rfl 0 (by decide) q500 (show (k : Nat) < nr by omega) rfl rfl dX1_straighten_1 ?_
  refine lv_astore_n (lv' := [(2, .ref (ad 2 (J 4 k))), (0, .ref (ad 0 0)), (1, .ref (ad 4 k))]) hx hb dX1_straighten_4 rfl hl (by decide) rfl (fun ls hl => ?_)
  refine lv_aload_n hx hb dX1_straighten_5 rfl (lv_at hl 2 rfl) ?_
  refine w_getR (v := .ref (ad 2 (J 5 k))) Z hW kX8 rfl 1 (by decide) q502 (show (k : Nat) < nr by omega) rfl rfl dX1_straighten_6 ?_
  refine lv_astore_n (lv' := [(3, .ref (ad 2 (J 5 k))), (2, .ref (ad 2 (J 4 k))), (0, .ref (ad 0 0)), (1, .ref (ad 4 k))]) hx hb dX1_straighten_9 rfl hl (by decide) rfl (fun ls hl => ?_)
  refine lv_aload_n hx hb dX1_straighten_10 rfl (lv_at hl 2 rfl) ?_
  refine lv_aload_n hx hb dX1_straighten_11 rfl (lv_at hl 1 rfl) ?_
  refine lv_aload_n hx hb dX1_straighten_12 rfl (lv_at hl 0 rfl) ?_
  refine wx_wv (wx_V (As := [.ref (ad 2 (J 4 k)), .ref (ad 2 (J 5 k))]) (rest := []) hAt.fix (m_X1_from l A Dg dA ad n nb nr no J R D I D0 hag hB (J 4 k) (J 5 k) ((show (J 4 k : Nat) < n by omega)) ((show (J 5 k : Nat) < n by omega))) q228 q230 qs0 q231 wn_X1_from ⟨Nat.le_of_ble_eq_true rfl, Nat.le_of_ble_eq_true rfl, Nat.le_of_ble_eq_true rfl, Nat.le_of_ble_eq_true rfl⟩ (w_recv hK hW kX1 rfl (show (0 : Nat) < 1 by decide)) (Pw.of hK hW) hl.1 (Nat.le_of_ble_eq_true rfl) dX1_straighten_13) hS (fun H locs hW hz hS => ?_)
  refine lv_aload_n hx hb dX1_straighten_16 rfl (lv_at hl 2 rfl) ?_
  refine w_getR (v := .ref (ad 6 1)) Z hW kX1 rfl 13 (by decide) q154 (show (0 : Nat) < 1 by decide) rfl rfl dX1_straighten_17 ?_
  refine lv_aload_n hx hb dX1_straighten_20 rfl (lv_at hl 2 rfl) ?_
  refine w_getR (v := .ref (ad 6 0)) Z hW kX1 rfl 12 (by decide) q153 (show (0 : Nat) < 1 by decide) rfl rfl dX1_straighten_21 ?_
  refine g_D (x := wA D0 (J 4 k) (J 5 k)) Z hW kX4 rfl 0 (by decide) q122 (show (0 : Nat) < 2 by decide) rfl rfl dX1_straighten_24 ?_
  refine w_putD Z hW hS kX4 rfl 0 (by decide) (by decide) q122 rfl (show (1 : Nat) < 2 by decide) rfl rfl dX1_straighten_27 (fun H locs hW hS => ?_)
  refine lv_aload_n hx hb dX1_straighten_30 rfl (lv_at hl 2 rfl) ?_
  refine w_getR (v := .ref (ad 6 1)) Z hW kX1 rfl 13 (by decide) q154 (show (0 : Nat) < 1 by decide) rfl rfl dX1_straighten_31 ?_
  refine lv_aload_n hx hb dX1_straighten_34 rfl (lv_at hl 2 rfl) ?_
  refine w_getR (v := .ref (ad 6 0)) Z hW kX1 rfl 12 (by decide) q153 (show (0 : Nat) < 1 by decide) rfl rfl dX1_straighten_35 ?_
  refine g_D (x := wB D0 (J 4 k) (J 5 k)) Z hW kX4 rfl 1 (by decide) q124 (show (0 : Nat) < 2 by decide) rfl rfl dX1_straighten_38 ?_
  refine w_putD Z hW hS kX4 rfl 1 (by decide) (by decide) q124 rfl (show (1 : Nat) < 2 by decide) rfl rfl dX1_straighten_41 (fun H locs hW hS => ?_)
  refine lv_aload_n hx hb dX1_straighten_44 rfl (lv_at hl 2 rfl) ?_
  refine w_getR (v := .ref (ad 6 0)) Z hW kX1 rfl 12 (by decide) q153 (show (0 : Nat) < 1 by decide) rfl rfl dX1_straighten_45 ?_
  refine lv_aload_n hx hb dX1_straighten_48 rfl (lv_at hl 2 rfl) ?_
  refine lv_aload_n hx hb dX1_straighten_49 rfl (lv_at hl 0 rfl) ?_
  refine g_D (x := T 32 (J 5 k)) Z hW kX6 rfl 10 (by decide) q388 (show (J 5 k : Nat) < n by omega) rfl ((up2_f _ _ _ _ (by decide)).trans ((up2_f _ _ _ _ (by decide)).trans ((up2_f _ _ _ _ (by decide)).trans ((up2_f _ _ _ _ (by decide)).trans (hT (J 5 k) hj5).1)))) dX1_straighten_50 ?_
  refine lv_aload_n hx hb dX1_straighten_53 rfl (lv_at hl 1 rfl) ?_
  refine g_D (x := T 32 (J 4 k)) Z hW kX6 rfl 10 (by decide) q388 (show (J 4 k : Nat) < n by omega) rfl ((up2_f _ _ _ _ (by decide)).trans ((up2_f _ _ _ _ (by decide)).trans ((up2_f _ _ _ _ (by decide)).trans ((up2_f _ _ _ _ (by decide)).trans (hT (J 4 k) hj4).1)))) dX1_straighten_54 ?_
  have f1 : fb (49) (FP.dsub (T 32 (J 5 k)) (T 32 (J 4 k))) := fb.sub ((hBT _ hj5).1.bnd (by omega)) ((hBT _ hj4).1.bnd (by omega)) (by decide)
  refine lv_dsub hx hb dX1_straighten_57 f1.n64 ?_
  refine wx_r (wx_V (As := [.double (FP.dsub (T 32 (J 5 k)) (T 32 (J 4 k)))]) (rest := [.ref (ad 6 0)]) hAt.fix (m_X1_shortest l A Dg dA ad n nb nr no J R ((up2 (up2 (up2 (up2 D 34 0 (wA D0 (J 4 k) (J 5 k))) 35 0 (wB D0 (J 4 k) (J 5 k))) 34 1 (wA D0 (J 4 k) (J 5 k))) 35 1 (wB D0 (J 4 k) (J 5 k)))) I (D0 20 0) (FP.dsub (T 32 (J 5 k)) (T 32 (J 4 k))) (((up2_f _ _ _ _ (by decide)).trans ((up2_f _ _ _ _ (by decide)).trans ((up2_f _ _ _ _ (by decide)).trans ((up2_f _ _ _ _ (by decide)).trans (hag 20 0 rfl)))))) hB.side ((f1.mono (by decide)))) q232 q234 qs1 q235 wn_X1_shortest ⟨Nat.le_of_ble_eq_true rfl, Nat.le_of_ble_eq_true rfl, Nat.le_of_ble_eq_true rfl, Nat.le_of_ble_eq_true rfl⟩ (w_recv hK hW kX1 rfl (show (0 : Nat) < 1 by decide)) (Pw.of hK hW) hl.1 (Nat.le_of_ble_eq_true rfl) dX1_straighten_58) (fun r hr => ?_)
  subst hr
  refine w_putD Z hW hS kX4 rfl 0 (by decide) (by decide) q122 rfl (show (0 : Nat) < 2 by decide) rfl rfl dX1_straighten_61 (fun H locs hW hS => ?_)
  refine lv_aload_n hx hb dX1_straighten_64 rfl (lv_at hl 2 rfl) ?_
  refine w_getR (v := .ref (ad 6 0)) Z hW kX1 rfl 12 (by decide) q153 (show (0 : Nat) < 1 by decide) rfl rfl dX1_straighten_65 ?_
  refine lv_aload_n hx hb dX1_straighten_68 rfl (lv_at hl 2 rfl) ?_
  refine lv_aload_n hx hb dX1_straighten_69 rfl (lv_at hl 0 rfl) ?_
  refine g_D (x := T 33 (J 5 k)) Z hW kX6 rfl 11 (by decide) q389 (show (J 5 k : Nat) < n by omega) rfl ((up2_f _ _ _ _ (by decide)).trans ((up2_f _ _ _ _ (by decide)).trans ((up2_f _ _ _ _ (by decide)).trans ((up2_f _ _ _ _ (by decide)).trans ((up2_f _ _ _ _ (by decide)).trans (hT (J 5 k) hj5).2))))) dX1_straighten_70 ?_
  refine lv_aload_n hx hb dX1_straighten_73 rfl (lv_at hl 1 rfl) ?_
  refine g_D (x := T 33 (J 4 k)) Z hW kX6 rfl 11 (by decide) q389 (show (J 4 k : Nat) < n by omega) rfl ((up2_f _ _ _ _ (by decide)).trans ((up2_f _ _ _ _ (by decide)).trans ((up2_f _ _ _ _ (by decide)).trans ((up2_f _ _ _ _ (by decide)).trans ((up2_f _ _ _ _ (by decide)).trans (hT (J 4 k) hj4).2))))) dX1_straighten_74 ?_
  have f2 : fb (49) (FP.dsub (T 33 (J 5 k)) (T 33 (J 4 k))) := fb.sub ((hBT _ hj5).2.bnd (by omega)) ((hBT _ hj4).2.bnd (by omega)) (by decide)
  refine lv_dsub hx hb dX1_straighten_77 f2.n64 ?_
  refine wx_r (wx_V (As := [.double (FP.dsub (T 33 (J 5 k)) (T 33 (J 4 k)))]) (rest := [.ref (ad 6 0)]) hAt.fix (m_X1_shortest l A Dg dA ad n nb nr no J R ((up2 (up2 (up2 (up2 (up2 D 34 0 (wA D0 (J 4 k) (J 5 k))) 35 0 (wB D0 (J 4 k) (J 5 k))) 34 1 (wA D0 (J 4 k) (J 5 k))) 35 1 (wB D0 (J 4 k) (J 5 k))) 34 0 (sShort (D0 20 0) (FP.dsub (T 32 (J 5 k)) (T 32 (J 4 k)))))) I (D0 20 0) (FP.dsub (T 33 (J 5 k)) (T 33 (J 4 k))) (((up2_f _ _ _ _ (by decide)).trans ((up2_f _ _ _ _ (by decide)).trans ((up2_f _ _ _ _ (by decide)).trans ((up2_f _ _ _ _ (by decide)).trans ((up2_f _ _ _ _ (by decide)).trans (hag 20 0 rfl))))))) hB.side ((f2.mono (by decide)))) q232 q234 qs1 q235 wn_X1_shortest ⟨Nat.le_of_ble_eq_true rfl, Nat.le_of_ble_eq_true rfl, Nat.le_of_ble_eq_true rfl, Nat.le_of_ble_eq_true rfl⟩ (w_recv hK hW kX1 rfl (show (0 : Nat) < 1 by decide)) (Pw.of hK hW) hl.1 (Nat.le_of_ble_eq_true rfl) dX1_straighten_78) (fun r hr => ?_)
  subst hr
  refine w_putD Z hW hS kX4 rfl 1 (by decide) (by decide) q124 rfl (show (0 : Nat) < 2 by decide) rfl rfl dX1_straighten_81 (fun H locs hW hS => ?_)
  obtain ⟨D2, hW, hex2, h340, h350, h341, h351⟩ : ∃ D2, cW A Dg dA ad n nb nr no J R D2 I H ∧ exc sF D2 D ∧ D2 34 0 = xA D0 T (J 4 k) (J 5 k) ∧ D2 35 0 = xB D0 T (J 4 k) (J 5 k) ∧ D2 34 1 = wA D0 (J 4 k) (J 5 k) ∧ D2 35 1 = wB D0 (J 4 k) (J 5 k) := ⟨_, hW, (((((exc.rf.up rfl).up rfl).up rfl).up rfl).up rfl).up rfl, rfl, rfl, rfl, rfl⟩
  have hag2 := hag.F hex2
  have hT2 := hT.F hex2
  refine lv_aload_n hx hb dX1_straighten_84 rfl (lv_at hl 2 rfl) ?_
  refine w_getR (v := .ref (ad 6 0)) Z hW kX1 rfl 12 (by decide) q153 (show (0 : Nat) < 1 by decide) rfl rfl dX1_straighten_85 ?_
  refine wx_r (wx_V (As := []) (rest := []) hAt.fix (m_X4_square l A Dg dA ad n nb nr no J R D2 I 0 ((by decide)) (xA D0 T (J 4 k) (J 5 k)) (xB D0 T (J 4 k) (J 5 k)) h340 h350 ((xA_fb hB hBT (by omega) hj4 hj5)) ((xB_fb hB hBT (by omega) hj4 hj5))) q239 q240 q241 q242 wn_X4_square ⟨Nat.le_of_ble_eq_true rfl, Nat.le_of_ble_eq_true rfl, Nat.le_of_ble_eq_true rfl, Nat.le_of_ble_eq_true rfl⟩ (w_recv hK hW kX4 rfl (show (0 : Nat) < 2 by decide)) (Pw.of hK hW) hl.1 (Nat.le_of_ble_eq_true rfl) dX1_straighten_88) (fun r hr => ?_)
  subst hr
  refine lv_aload_n hx hb dX1_straighten_91 rfl (lv_at hl 3 rfl) ?_
  refine g_D (x := D0 12 k) Z hW kX8 rfl 2 (by decide) q504 (show (k : Nat) < nr by omega) rfl (hag2 12 k rfl) dX1_straighten_92 ?_
  refine lv_aload_n hx hb dX1_straighten_95 rfl (lv_at hl 3 rfl) ?_
  refine g_D (x := D0 12 k) Z hW kX8 rfl 2 (by decide) q504 (show (k : Nat) < nr by omega) rfl (hag2 12 k rfl) dX1_straighten_96 ?_
  have f3 : fb (8) (FP.dmul (D0 12 k) (D0 12 k)) := fb.mul (hB.rl (show (k : Nat) < nr by omega)) (hB.rl (show (k : Nat) < nr by omega)) (by decide)
  refine lv_dmul hx hb dX1_straighten_99 f3.n64 ?_
  have f4 : fb (12) (FP.dsub (sq (xA D0 T (J 4 k) (J 5 k)) (xB D0 T (J 4 k) (J 5 k))) (FP.dmul (D0 12 k) (D0 12 k))) := fb.sub (sq_fb (xA_fb hB hBT (by omega) hj4 hj5) (xB_fb hB hBT (by omega) hj4 hj5) (by decide)) f3 (by decide)
  refine lv_dsub hx hb dX1_straighten_100 f4.n64 ?_
  refine lv_dstore (lv' := [(4, .double (rO D0 T (D0 12 k) (J 4 k) (J 5 k))), (3, .ref (ad 2 (J 5 k))), (2, .ref (ad 2 (J 4 k))), (0, .ref (ad 0 0)), (1, .ref (ad 4 k))]) hx hb dX1_straighten_101 hl (by decide) rfl (fun ls hl => ?_)
  refine wb_meet (fun v : UInt64 => v = rAb (rO D0 T (D0 12 k) (J 4 k) (J 5 k))) (fun v => F0 m 118 ls [.double v]) (fun v hv => ?_) (fun hmt => ?_)
  · subst hv
    refine lv_ldc2d (v := 4517329193108106637) hx hb hown (hts _ (lw_car_all q653)) dX1_straighten_118 ?_
    refine lv_aload_n hx hb dX1_straighten_121 rfl (lv_at hl 4 rfl) ?_
    refine g_D (x := D0 12 k) Z hW kX8 rfl 2 (by decide) q504 (show (k : Nat) < nr by omega) rfl (hag2 12 k rfl) dX1_straighten_122 ?_
    have f5 : fb (-15) (FP.dmul 4517329193108106637 (D0 12 k)) := fb.mul fc_4517329193108106637 (hB.rl (show (k : Nat) < nr by omega)) (by decide)
    refine lv_dmul hx hb dX1_straighten_125 f5.n64 ?_
    refine lv_aload_n hx hb dX1_straighten_126 rfl (lv_at hl 4 rfl) ?_
    refine g_D (x := D0 12 k) Z hW kX8 rfl 2 (by decide) q504 (show (k : Nat) < nr by omega) rfl (hag2 12 k rfl) dX1_straighten_127 ?_
    have f6 : fb (-11) (FP.dmul (FP.dmul 4517329193108106637 (D0 12 k)) (D0 12 k)) := fb.mul f5 (hB.rl (show (k : Nat) < nr by omega)) (by decide)
    refine lv_dmul hx hb dX1_straighten_130 f6.n64 ?_
    refine lv_dg_gt (tgt := 137) hx hb dX1_straighten_131 dX1_straighten_132 (by decide) (fun c7 => ?_) (fun c7 => ?_)
    · refine lv_aload_n hx hb dX1_straighten_137 rfl (lv_at hl 2 rfl) ?_
      refine wx_r (wx_V (As := []) (rest := []) hAt.fix (m_X6_ease l A Dg dA ad n nb nr no J R D2 I D0 hag2 hB ((J 4 k)) hj4 ((I 1 (J 4 k))) rfl) q654 q655 q656 q657 wn_X6_ease ⟨Nat.le_of_ble_eq_true rfl, Nat.le_of_ble_eq_true rfl, Nat.le_of_ble_eq_true rfl, Nat.le_of_ble_eq_true rfl⟩ (w_recv hK hW kX6 rfl (show (J 4 k : Nat) < n by omega)) (Pw.of hK hW) hl.1 (Nat.le_of_ble_eq_true rfl) dX1_straighten_138) (fun r hr => ?_)
      subst hr
      refine lv_dstore (lv' := [(6, .double (sEase D0 (I 1 (J 4 k)) (J 4 k))), (4, .double (rO D0 T (D0 12 k) (J 4 k) (J 5 k))), (3, .ref (ad 2 (J 5 k))), (2, .ref (ad 2 (J 4 k))), (0, .ref (ad 0 0)), (1, .ref (ad 4 k))]) hx hb dX1_straighten_141 hl (by decide) rfl (fun ls hl => ?_)
      refine lv_aload_n hx hb dX1_straighten_143 rfl (lv_at hl 2 rfl) ?_
      refine wx_r (wx_V (As := []) (rest := []) hAt.fix (m_X6_ease l A Dg dA ad n nb nr no J R D2 I D0 hag2 hB ((J 5 k)) hj5 ((I 1 (J 5 k))) rfl) q654 q655 q656 q657 wn_X6_ease ⟨Nat.le_of_ble_eq_true rfl, Nat.le_of_ble_eq_true rfl, Nat.le_of_ble_eq_true rfl, Nat.le_of_ble_eq_true rfl⟩ (w_recv hK hW kX6 rfl (show (J 5 k : Nat) < n by omega)) (Pw.of hK hW) hl.1 (Nat.le_of_ble_eq_true rfl) dX1_straighten_144) (fun r hr => ?_)
      subst hr
      refine lv_dstore (lv' := [(8, .double (sEase D0 (I 1 (J 5 k)) (J 5 k))), (6, .double (sEase D0 (I 1 (J 4 k)) (J 4 k))), (4, .double (rO D0 T (D0 12 k) (J 4 k) (J 5 k))), (3, .ref (ad 2 (J 5 k))), (2, .ref (ad 2 (J 4 k))), (0, .ref (ad 0 0)), (1, .ref (ad 4 k))]) hx hb dX1_straighten_147 hl (by decide) rfl (fun ls hl => ?_)
      refine lv_aload_n hx hb dX1_straighten_149 rfl (lv_at hl 5 rfl) ?_
      refine w_getR (v := .ref (ad 6 0)) Z hW kX1 rfl 12 (by decide) q153 (show (0 : Nat) < 1 by decide) rfl rfl dX1_straighten_150 ?_
      refine g_D (x := xA D0 T (J 4 k) (J 5 k)) Z hW kX4 rfl 0 (by decide) q122 (show (0 : Nat) < 2 by decide) rfl h340 dX1_straighten_153 ?_
      refine lv_aload_n hx hb dX1_straighten_156 rfl (lv_at hl 5 rfl) ?_
      refine w_getR (v := .ref (ad 6 1)) Z hW kX1 rfl 13 (by decide) q154 (show (0 : Nat) < 1 by decide) rfl rfl dX1_straighten_157 ?_
      refine g_D (x := wA D0 (J 4 k) (J 5 k)) Z hW kX4 rfl 0 (by decide) q122 (show (1 : Nat) < 2 by decide) rfl h341 dX1_straighten_160 ?_
      have f8 : fb (10) (FP.dmul (xA D0 T (J 4 k) (J 5 k)) (wA D0 (J 4 k) (J 5 k))) := fb.mul (xA_fb hB hBT (by omega) hj4 hj5) (wA_fb hB hj4 hj5) (by decide)
      refine lv_dmul hx hb dX1_straighten_163 f8.n64 ?_
      refine lv_aload_n hx hb dX1_straighten_164 rfl (lv_at hl 5 rfl) ?_
      refine w_getR (v := .ref (ad 6 0)) Z hW kX1 rfl 12 (by decide) q153 (show (0 : Nat) < 1 by decide) rfl rfl dX1_straighten_165 ?_
      refine g_D (x := xB D0 T (J 4 k) (J 5 k)) Z hW kX4 rfl 1 (by decide) q124 (show (0 : Nat) < 2 by decide) rfl h350 dX1_straighten_168 ?_
      refine lv_aload_n hx hb dX1_straighten_171 rfl (lv_at hl 5 rfl) ?_
      refine w_getR (v := .ref (ad 6 1)) Z hW kX1 rfl 13 (by decide) q154 (show (0 : Nat) < 1 by decide) rfl rfl dX1_straighten_172 ?_
      refine g_D (x := wB D0 (J 4 k) (J 5 k)) Z hW kX4 rfl 1 (by decide) q124 (show (1 : Nat) < 2 by decide) rfl h351 dX1_straighten_175 ?_
      have f9 : fb (10) (FP.dmul (xB D0 T (J 4 k) (J 5 k)) (wB D0 (J 4 k) (J 5 k))) := fb.mul (xB_fb hB hBT (by omega) hj4 hj5) (wB_fb hB hj4 hj5) (by decide)
      refine lv_dmul hx hb dX1_straighten_178 f9.n64 ?_
      have f10 : fb (11) (FP.dadd (FP.dmul (xA D0 T (J 4 k) (J 5 k)) (wA D0 (J 4 k) (J 5 k))) (FP.dmul (xB D0 T (J 4 k) (J 5 k)) (wB D0 (J 4 k) (J 5 k)))) := fb.add f8 f9 (by decide)
      refine lv_dadd hx hb dX1_straighten_179 f10.n64 ?_
      refine lv_dstore (lv' := [(10, .double (FP.dadd (FP.dmul (xA D0 T (J 4 k) (J 5 k)) (wA D0 (J 4 k) (J 5 k))) (FP.dmul (xB D0 T (J 4 k) (J 5 k)) (wB D0 (J 4 k) (J 5 k))))), (8, .double (sEase D0 (I 1 (J 5 k)) (J 5 k))), (6, .double (sEase D0 (I 1 (J 4 k)) (J 4 k))), (4, .double (rO D0 T (D0 12 k) (J 4 k) (J 5 k))), (3, .ref (ad 2 (J 5 k))), (2, .ref (ad 2 (J 4 k))), (0, .ref (ad 0 0)), (1, .ref (ad 4 k))]) hx hb dX1_straighten_180 hl (by decide) rfl (fun ls hl => ?_)
      refine lv_ldc2d (v := 4611686018427387904) hx hb hown (hts _ (lw_car_all q223)) dX1_straighten_182 ?_
      refine lv_dload hx hb dX1_straighten_185 (lv_at hl 0 rfl) ?_
      have f11 : fb (12) (FP.dmul 4611686018427387904 (FP.dadd (FP.dmul (xA D0 T (J 4 k) (J 5 k)) (wA D0 (J 4 k) (J 5 k))) (FP.dmul (xB D0 T (J 4 k) (J 5 k)) (wB D0 (J 4 k) (J 5 k))))) := fb.mul fc_4611686018427387904 f10 (by decide)
      refine lv_dmul hx hb dX1_straighten_187 f11.n64 ?_
      refine lv_dload hx hb dX1_straighten_188 (lv_at hl 2 rfl) ?_
      refine lv_dload hx hb dX1_straighten_190 (lv_at hl 1 rfl) ?_
      have f12 : fb (4) (FP.dadd (sEase D0 (I 1 (J 4 k)) (J 4 k)) (sEase D0 (I 1 (J 5 k)) (J 5 k))) := fb.add (ease_fb hB hj4 _) (ease_fb hB hj5 _) (by decide)
      refine lv_dadd hx hb dX1_straighten_192 f12.n64 ?_
      have f13 : fb (16) (FP.dmul (FP.dmul 4611686018427387904 (FP.dadd (FP.dmul (xA D0 T (J 4 k) (J 5 k)) (wA D0 (J 4 k) (J 5 k))) (FP.dmul (xB D0 T (J 4 k) (J 5 k)) (wB D0 (J 4 k) (J 5 k))))) (FP.dadd (sEase D0 (I 1 (J 4 k)) (J 4 k)) (sEase D0 (I 1 (J 5 k)) (J 5 k)))) := fb.mul f11 f12 (by decide)
      refine lv_dmul hx hb dX1_straighten_193 f13.n64 ?_
      refine lv_dstore (lv' := [(12, .double (rH D0 T I (J 4 k) (J 5 k))), (10, .double (FP.dadd (FP.dmul (xA D0 T (J 4 k) (J 5 k)) (wA D0 (J 4 k) (J 5 k))) (FP.dmul (xB D0 T (J 4 k) (J 5 k)) (wB D0 (J 4 k) (J 5 k))))), (8, .double (sEase D0 (I 1 (J 5 k)) (J 5 k))), (6, .double (sEase D0 (I 1 (J 4 k)) (J 4 k))), (4, .double (rO D0 T (D0 12 k) (J 4 k) (J 5 k))), (3, .ref (ad 2 (J 5 k))), (2, .ref (ad 2 (J 4 k))), (0, .ref (ad 0 0)), (1, .ref (ad 4 k))]) hx hb dX1_straighten_194 hl (by decide) rfl (fun ls hl => ?_)
      refine wb_meet (fun _ : Unit => ¬ stf (rH D0 T I (J 4 k) (J 5 k))) (fun _ => F0 m 220 ls []) (fun _ hns => ?_) (fun hmt => ?_)
      · refine lv_dload hx hb dX1_straighten_220 (lv_at hl 4 rfl) ?_
        refine lv_dload hx hb dX1_straighten_222 (lv_at hl 0 rfl) ?_
        have f14 : fb (32) (FP.ddiv (rO D0 T (D0 12 k) (J 4 k) (J 5 k)) (rH D0 T I (J 4 k) (J 5 k))) := fb.div (rO_fb hB hBT (by omega) hj4 hj5 (hB.rl hk)) (stf_lb (rH_fb hB hBT (by omega) hj4 hj5) hns) (by decide)
        refine lv_ddiv hx hb dX1_straighten_224 f14.n64 ?_
        refine lv_dstore (lv' := [(14, .double (rG D0 T I (D0 12 k) (J 4 k) (J 5 k))), (12, .double (rH D0 T I (J 4 k) (J 5 k))), (10, .double (FP.dadd (FP.dmul (xA D0 T (J 4 k) (J 5 k)) (wA D0 (J 4 k) (J 5 k))) (FP.dmul (xB D0 T (J 4 k) (J 5 k)) (wB D0 (J 4 k) (J 5 k))))), (8, .double (sEase D0 (I 1 (J 5 k)) (J 5 k))), (6, .double (sEase D0 (I 1 (J 4 k)) (J 4 k))), (4, .double (rO D0 T (D0 12 k) (J 4 k) (J 5 k))), (3, .ref (ad 2 (J 5 k))), (2, .ref (ad 2 (J 4 k))), (0, .ref (ad 0 0)), (1, .ref (ad 4 k))]) hx hb dX1_straighten_225 hl (by decide) rfl (fun ls hl => ?_)
        refine lv_aload_n hx hb dX1_straighten_227 rfl (lv_at hl 7 rfl) ?_
        refine lv_aload_n hx hb dX1_straighten_228 rfl (lv_at hl 7 rfl) ?_
        refine g_D (x := T 32 (J 4 k)) Z hW kX6 rfl 10 (by decide) q388 (show (J 4 k : Nat) < n by omega) rfl (hT2 (J 4 k) hj4).1 dX1_straighten_229 ?_
        refine lv_dload hx hb dX1_straighten_232 (lv_at hl 0 rfl) ?_
        refine lv_dload hx hb dX1_straighten_234 (lv_at hl 4 rfl) ?_
        have f15 : fb (35) (FP.dmul (rG D0 T I (D0 12 k) (J 4 k) (J 5 k)) (sEase D0 (I 1 (J 4 k)) (J 4 k))) := fb.mul (rG_fb hB hBT (by omega) hj4 hj5 (hB.rl hk) hns) (ease_fb hB hj4 _) (by decide)
        refine lv_dmul hx hb dX1_straighten_236 f15.n64 ?_
        refine lv_aload_n hx hb dX1_straighten_237 rfl (lv_at hl 8 rfl) ?_
        refine w_getR (v := .ref (ad 6 1)) Z hW kX1 rfl 13 (by decide) q154 (show (0 : Nat) < 1 by decide) rfl rfl dX1_straighten_238 ?_
        refine g_D (x := wA D0 (J 4 k) (J 5 k)) Z hW kX4 rfl 0 (by decide) q122 (show (1 : Nat) < 2 by decide) rfl h341 dX1_straighten_241 ?_
        have f16 : fb (40) (FP.dmul (FP.dmul (rG D0 T I (D0 12 k) (J 4 k) (J 5 k)) (sEase D0 (I 1 (J 4 k)) (J 4 k))) (wA D0 (J 4 k) (J 5 k))) := fb.mul f15 (wA_fb hB hj4 hj5) (by decide)
        refine lv_dmul hx hb dX1_straighten_244 f16.n64 ?_
        have f17 : fb (49) (FP.dadd (T 32 (J 4 k)) (FP.dmul (FP.dmul (rG D0 T I (D0 12 k) (J 4 k) (J 5 k)) (sEase D0 (I 1 (J 4 k)) (J 4 k))) (wA D0 (J 4 k) (J 5 k)))) := fb.add ((hBT _ hj4).1.bnd (by omega)) f16 (by decide)
        refine lv_dadd hx hb dX1_straighten_245 f17.n64 ?_
        refine w_putD Z hW hS kX6 rfl 10 (by decide) (by decide) q388 rfl (show (J 4 k : Nat) < n by omega) rfl rfl dX1_straighten_246 (fun H locs hW hS => ?_)
        refine lv_aload_n hx hb dX1_straighten_249 rfl (lv_at hl 7 rfl) ?_
        refine lv_aload_n hx hb dX1_straighten_250 rfl (lv_at hl 7 rfl) ?_
        refine g_D (x := T 33 (J 4 k)) Z hW kX6 rfl 11 (by decide) q389 (show (J 4 k : Nat) < n by omega) rfl ((up2_f _ _ _ _ (by decide)).trans (hT2 (J 4 k) hj4).2) dX1_straighten_251 ?_
        refine lv_dload hx hb dX1_straighten_254 (lv_at hl 0 rfl) ?_
        refine lv_dload hx hb dX1_straighten_256 (lv_at hl 4 rfl) ?_
        refine lv_dmul hx hb dX1_straighten_258 f15.n64 ?_
        refine lv_aload_n hx hb dX1_straighten_259 rfl (lv_at hl 8 rfl) ?_
        refine w_getR (v := .ref (ad 6 1)) Z hW kX1 rfl 13 (by decide) q154 (show (0 : Nat) < 1 by decide) rfl rfl dX1_straighten_260 ?_
        refine g_D (x := wB D0 (J 4 k) (J 5 k)) Z hW kX4 rfl 1 (by decide) q124 (show (1 : Nat) < 2 by decide) rfl ((up2_f _ _ _ _ (by decide)).trans h351) dX1_straighten_263 ?_
        have f18 : fb (40) (FP.dmul (FP.dmul (rG D0 T I (D0 12 k) (J 4 k) (J 5 k)) (sEase D0 (I 1 (J 4 k)) (J 4 k))) (wB D0 (J 4 k) (J 5 k))) := fb.mul f15 (wB_fb hB hj4 hj5) (by decide)
        refine lv_dmul hx hb dX1_straighten_266 f18.n64 ?_
        have f19 : fb (49) (FP.dadd (T 33 (J 4 k)) (FP.dmul (FP.dmul (rG D0 T I (D0 12 k) (J 4 k) (J 5 k)) (sEase D0 (I 1 (J 4 k)) (J 4 k))) (wB D0 (J 4 k) (J 5 k)))) := fb.add ((hBT _ hj4).2.bnd (by omega)) f18 (by decide)
        refine lv_dadd hx hb dX1_straighten_267 f19.n64 ?_
        refine w_putD Z hW hS kX6 rfl 11 (by decide) (by decide) q389 rfl (show (J 4 k : Nat) < n by omega) rfl rfl dX1_straighten_268 (fun H locs hW hS => ?_)
        refine lv_aload_n hx hb dX1_straighten_271 rfl (lv_at hl 6 rfl) ?_
        refine lv_aload_n hx hb dX1_straighten_272 rfl (lv_at hl 6 rfl) ?_
        refine g_D (x := T 32 (J 5 k)) Z hW kX6 rfl 10 (by decide) q388 (show (J 5 k : Nat) < n by omega) rfl ((up2_f _ _ _ _ (by decide)).trans ((up2_i _ _ _ _ (Ne.symm hij)).trans (hT2 (J 5 k) hj5).1)) dX1_straighten_273 ?_
        refine lv_dload hx hb dX1_straighten_276 (lv_at hl 0 rfl) ?_
        refine lv_dload hx hb dX1_straighten_278 (lv_at hl 3 rfl) ?_
        have f20 : fb (35) (FP.dmul (rG D0 T I (D0 12 k) (J 4 k) (J 5 k)) (sEase D0 (I 1 (J 5 k)) (J 5 k))) := fb.mul (rG_fb hB hBT (by omega) hj4 hj5 (hB.rl hk) hns) (ease_fb hB hj5 _) (by decide)
        refine lv_dmul hx hb dX1_straighten_280 f20.n64 ?_
        refine lv_aload_n hx hb dX1_straighten_281 rfl (lv_at hl 8 rfl) ?_
        refine w_getR (v := .ref (ad 6 1)) Z hW kX1 rfl 13 (by decide) q154 (show (0 : Nat) < 1 by decide) rfl rfl dX1_straighten_282 ?_
        refine g_D (x := wA D0 (J 4 k) (J 5 k)) Z hW kX4 rfl 0 (by decide) q122 (show (1 : Nat) < 2 by decide) rfl ((up2_f _ _ _ _ (by decide)).trans ((up2_f _ _ _ _ (by decide)).trans h341)) dX1_straighten_285 ?_
        have f21 : fb (40) (FP.dmul (FP.dmul (rG D0 T I (D0 12 k) (J 4 k) (J 5 k)) (sEase D0 (I 1 (J 5 k)) (J 5 k))) (wA D0 (J 4 k) (J 5 k))) := fb.mul f20 (wA_fb hB hj4 hj5) (by decide)
        refine lv_dmul hx hb dX1_straighten_288 f21.n64 ?_
        have f22 : fb (49) (FP.dsub (T 32 (J 5 k)) (FP.dmul (FP.dmul (rG D0 T I (D0 12 k) (J 4 k) (J 5 k)) (sEase D0 (I 1 (J 5 k)) (J 5 k))) (wA D0 (J 4 k) (J 5 k)))) := fb.sub ((hBT _ hj5).1.bnd (by omega)) f21 (by decide)
        refine lv_dsub hx hb dX1_straighten_289 f22.n64 ?_
        refine w_putD Z hW hS kX6 rfl 10 (by decide) (by decide) q388 rfl (show (J 5 k : Nat) < n by omega) rfl rfl dX1_straighten_290 (fun H locs hW hS => ?_)
        refine lv_aload_n hx hb dX1_straighten_293 rfl (lv_at hl 6 rfl) ?_
        refine lv_aload_n hx hb dX1_straighten_294 rfl (lv_at hl 6 rfl) ?_
        refine g_D (x := T 33 (J 5 k)) Z hW kX6 rfl 11 (by decide) q389 (show (J 5 k : Nat) < n by omega) rfl ((up2_f _ _ _ _ (by decide)).trans ((up2_i _ _ _ _ (Ne.symm hij)).trans ((up2_f _ _ _ _ (by decide)).trans (hT2 (J 5 k) hj5).2))) dX1_straighten_295 ?_
        refine lv_dload hx hb dX1_straighten_298 (lv_at hl 0 rfl) ?_
        refine lv_dload hx hb dX1_straighten_300 (lv_at hl 3 rfl) ?_
        refine lv_dmul hx hb dX1_straighten_302 f20.n64 ?_
        refine lv_aload_n hx hb dX1_straighten_303 rfl (lv_at hl 8 rfl) ?_
        refine w_getR (v := .ref (ad 6 1)) Z hW kX1 rfl 13 (by decide) q154 (show (0 : Nat) < 1 by decide) rfl rfl dX1_straighten_304 ?_
        refine g_D (x := wB D0 (J 4 k) (J 5 k)) Z hW kX4 rfl 1 (by decide) q124 (show (1 : Nat) < 2 by decide) rfl ((up2_f _ _ _ _ (by decide)).trans ((up2_f _ _ _ _ (by decide)).trans ((up2_f _ _ _ _ (by decide)).trans h351))) dX1_straighten_307 ?_
        have f23 : fb (40) (FP.dmul (FP.dmul (rG D0 T I (D0 12 k) (J 4 k) (J 5 k)) (sEase D0 (I 1 (J 5 k)) (J 5 k))) (wB D0 (J 4 k) (J 5 k))) := fb.mul f20 (wB_fb hB hj4 hj5) (by decide)
        refine lv_dmul hx hb dX1_straighten_310 f23.n64 ?_
        have f24 : fb (49) (FP.dsub (T 33 (J 5 k)) (FP.dmul (FP.dmul (rG D0 T I (D0 12 k) (J 4 k) (J 5 k)) (sEase D0 (I 1 (J 5 k)) (J 5 k))) (wB D0 (J 4 k) (J 5 k)))) := fb.sub ((hBT _ hj5).2.bnd (by omega)) f23 (by decide)
        refine lv_dsub hx hb dX1_straighten_311 f24.n64 ?_
        refine w_putD Z hW hS kX6 rfl 11 (by decide) (by decide) q389 rfl (show (J 5 k : Nat) < n by omega) rfl rfl dX1_straighten_312 (fun H locs hW hS => ?_)
        refine lv_iconst (v := nI 1) hx hb dX1_straighten_315 rfl ?_
        rw [hQ]
        exact rX (rW_z hx hb hr hlk hS (Or.inr rfl) (⟨Or.inr ⟨rfl, rcd_1 c7 hns⟩, _, ((((hex2.mono sFM).up rfl).up rfl).up rfl).up rfl, by rw [rTn_1 (rcd_1 c7 hns)]; exact (((hT2.put _ _ _).put _ _ _).put _ _ _).put _ _ _, hW⟩) dX1_straighten_316)
      · refine lv_dload hx hb dX1_straighten_196 (lv_at hl 0 rfl) ?_
        refine lv_ldc2d (v := 13740701229962882445) hx hb hown (hts _ (lw_car_all q658)) dX1_straighten_198 ?_
        refine lv_dl_le (tgt := 220) hx hb dX1_straighten_201 dX1_straighten_202 (by decide) (fun c25 => ?_) (fun c25 => ?_)
        · exact hmt () (fun q => c25 q.1)
        · refine lv_dload hx hb dX1_straighten_205 (lv_at hl 0 rfl) ?_
          refine lv_ldc2d (v := 4517329193108106637) hx hb hown (hts _ (lw_car_all q653)) dX1_straighten_207 ?_
          refine lv_dg_ge (tgt := 220) hx hb dX1_straighten_210 dX1_straighten_211 (by decide) (fun c26 => ?_) (fun c26 => ?_)
          · exact hmt () (fun q => c26 q.2)
          · refine lv_aload_n hx hb dX1_straighten_214 rfl (lv_at hl 7 rfl) ?_
            refine lv_iconst (v := nI 1) hx hb dX1_straighten_215 rfl ?_
            refine wx_ws (wx_V (As := [.int (nI 1)]) (rest := []) hAt.fix (m_X1_failure l hfl A Dg dA ad n nb nr no J R D2 I (nI 1)) q584 q586 qs11 q587 wn_X1_failure ⟨Nat.le_of_ble_eq_true rfl, Nat.le_of_ble_eq_true rfl, Nat.le_of_ble_eq_true rfl, Nat.le_of_ble_eq_true rfl⟩ (w_recv hK hW kX1 rfl (show (0 : Nat) < 1 by decide)) (Px.of hK hst hA hS hW) hl.1 (Nat.le_of_ble_eq_true rfl) dX1_straighten_216) hS (fun r H locs hW hz hS => ?_)
            refine lv_athrow hx hb dX1_straighten_219 ?_
            rw [hQ]
            exact rT_x hlk htab rfl hS (isAr.to hK hW.1) ⟨⟨rcd_2 c7 ⟨c25, c26⟩, rfl⟩, _, hex2.mono sFM, hW.2⟩
    · refine lv_iconst (v := nI 0) hx hb dX1_straighten_135 rfl ?_
      rw [hQ]
      exact rX (rW_z hx hb hr hlk hS (Or.inl rfl) (⟨Or.inl ⟨rfl, rcd_0 c7⟩, D2, hex2.mono sFM, by rw [rTn_ne (by rw [rcd_0 c7]; decide)]; exact hT2, hW⟩) dX1_straighten_136)
  · refine lv_dload hx hb dX1_straighten_103 (lv_at hl 0 rfl) ?_
    refine lv_dconst0 hx hb dX1_straighten_105 ?_
    refine lv_dg_ge (tgt := 116) hx hb dX1_straighten_106 dX1_straighten_107 (by decide) (fun c27 => ?_) (fun c27 => ?_)
    · refine lv_dload hx hb dX1_straighten_116 (lv_at hl 0 rfl) ?_
      exact hmt _ (if_neg c27).symm
    · refine lv_dload hx hb dX1_straighten_110 (lv_at hl 0 rfl) ?_
      refine lv_dneg hx hb dX1_straighten_112 ?_
      have f28 : fb (12) (FP.dneg (rO D0 T (D0 12 k) (J 4 k) (J 5 k))) := fb.neg (rO_fb hB hBT (by omega) hj4 hj5 (hB.rl hk)) (neg_val (rO_fb hB hBT (by omega) hj4 hj5 (hB.rl hk)).1)
      refine lv_goto (tgt := 118) hx hb dX1_straighten_113 (by decide) ?_
      exact hmt _ (if_pos c27).symm
set_option maxHeartbeats 4000000 in
theorem m_X1_straightenAll (l : Launch) (hfl : l.flags = flags0) (A : Nat → Prop) (Dg : va_G) (dA : Nat → ClassId) (ad : Nat → Nat → Nat) (n : Nat) (nb : Nat) (nr : Nat) (no : Nat) (J : Nat → Nat → Nat) (R : Nat → Value) (D : T64) (I : T32) (D0 : T64) (hag : agD D D0) (hB : Bd n nb nr J D0) (hnr : I 22 0 = nI nr) (T : T64) (hT : agN n D T) (hBT : BT 1 n T) : MX l yX1_straightenAll cX1_straightenAll 4 (some .int) [] (rmx 9 1 6) [.ref (ad 0 0)] (Px A Dg dA (cW A Dg dA ad n nb nr no J R D I)) (qX (fun r : Int32 => some (.int r)) (fun r H => ∃ q T1, rds D0 I J nr 40 0 T = some (q, T1) ∧ q < 40 ∧ r = nI q ∧ BT 200 n T1 ∧ ∃ D1, exc sM D1 D ∧ agN n D1 T1 ∧ cW A Dg dA ad n nb nr no J R D1 I H) (fun C H => (rds D0 I J nr 40 0 T = none ∧ C = "java/lang/ArithmeticException") ∧ ∃ D1, exc sM D1 D ∧ cW A Dg dA ad n nb nr no J R D1 ((up2 I 40 0 (nI 1))) H) A) 0 0 A := by
  refine MX.start (Nat.le_of_ble_eq_true rfl) ?_
  intro p e s m args below meth c ls Q hAt hPc hl hQ
  have hl : lv_has ls 4 [(0, .ref (ad 0 0))] := hl
  obtain ⟨hx, hb, hml, hr, hlk, hown, hnm, htab, hts⟩ := id hAt
  obtain ⟨hK, hst, hA, hW⟩ := hPc
  have Z := Cx.of hAt hK
  have hS : va_S A s.heap s.heap [] := va_S.rf
  have hnr4 := hB.nr4
  refine lv_iconst (v := nI 0) hx hb dX1_straightenAll_0 rfl ?_
  refine lv_istore_n (lv' := [(1, .int (nI 0)), (0, .ref (ad 0 0))]) hx hb dX1_straightenAll_1 rfl hl (by decide) rfl (fun ls hl => ?_)
  refine wl_up 40 0 (fun q H locs ls => ∃ D1 T1, lv_has ls 4 [(1, .int (nI q)), (0, .ref (ad 0 0))] ∧ cW A Dg dA ad n nb nr no J R D1 I H ∧ va_S A s.heap H locs ∧ exc sM D1 D ∧ agN n D1 T1 ∧ BT (1 + 4 * q) n T1 ∧ rds D0 I J nr (40 - q) q T1 = rds D0 I J nr 40 0 T) (Nat.zero_le _) ⟨D, T, lv_sub hl [0, 1] rfl, hW, hS, exc.rf, hT, hBT, rfl⟩ ?_ ?_
  · intro q H locs ls hi hP ih
    obtain ⟨D1, T1, hl, hW, hS, hex, hT1, hBT1, hrd⟩ := hP
    have h40 : 40 - q = (40 - (q + 1)) + 1 := by omega
    rw [h40] at hrd
    refine lv_iload_n hx hb dX1_straightenAll_2 rfl (lv_at hl 0 rfl) ?_
    refine lv_bipush (v := nI 40) hx hb dX1_straightenAll_3 rfl ?_
    refine lv_nge (tgt := 51) hx hb (by omega) (by decide) dX1_straightenAll_5 (by decide) (fun c => absurd c (by omega)) (fun c => ?_)
    refine lv_iconst (v := nI 0) hx hb dX1_straightenAll_8 rfl ?_
    refine lv_istore_n (lv' := [(2, .int (nI 0)), (1, .int (nI q)), (0, .ref (ad 0 0))]) hx hb dX1_straightenAll_9 rfl hl (by decide) rfl (fun ls hl => ?_)
    refine lv_iconst (v := nI 0) hx hb dX1_straightenAll_10 rfl ?_
    refine lv_istore_n (lv' := [(3, .int (nI 0)), (2, .int (nI 0)), (1, .int (nI q)), (0, .ref (ad 0 0))]) hx hb dX1_straightenAll_11 rfl hl (by decide) rfl (fun ls hl => ?_)
    have ih0 := ih
    have hi0 := hi
    have hrd0 := hrd
    refine wl_up nr 0 (fun k H locs ls => ∃ D2, lv_has ls 4 [(3, .int (nI k)), (2, .int (nI (bO1 (rnd D0 I J T1 k).2.1))), (1, .int (nI q)), (0, .ref (ad 0 0))] ∧ cW A Dg dA ad n nb nr no J R D2 I H ∧ va_S A s.heap H locs ∧ exc sM D2 D ∧ agN n D2 (rnd D0 I J T1 k).1 ∧ (rnd D0 I J T1 k).2.2 = false) (Nat.zero_le _) ⟨D1, lv_sub hl [0, 1, 2, 3] rfl, hW, hS, hex, hT1, rfl⟩ ?_ ?_
    · intro k H locs ls hi hP ih
      obtain ⟨D2, hl, hW, hS, hex2, hT2, hsf⟩ := hP
      have hk := hi
      have hag2 := hag.M hex2
      refine lv_iload_n hx hb dX1_straightenAll_12 rfl (lv_at hl 0 rfl) ?_
      refine lv_aload_n hx hb dX1_straightenAll_13 rfl (lv_at hl 3 rfl) ?_
      refine g_I (x := nI nr) Z hW kX1 rfl 10 (by decide) q151 (show (0 : Nat) < 1 by decide) rfl hnr dX1_straightenAll_14 ?_
      refine lv_nge (tgt := 39) hx hb (by omega) (by omega) dX1_straightenAll_17 (by decide) (fun c => absurd c (by omega)) (fun c => ?_)
      refine lv_iload_n hx hb dX1_straightenAll_20 rfl (lv_at hl 1 rfl) ?_
      refine lv_aload_n hx hb dX1_straightenAll_21 rfl (lv_at hl 3 rfl) ?_
      refine lv_aload_n hx hb dX1_straightenAll_22 rfl (lv_at hl 3 rfl) ?_
      refine w_getR (v := .ref (ad 13 0)) Z hW kX1 rfl 7 (by decide) q148 (show (0 : Nat) < 1 by decide) rfl rfl dX1_straightenAll_23 ?_
      refine lv_iload_n hx hb dX1_straightenAll_26 rfl (lv_at hl 0 rfl) ?_
      refine a_R (j := k) (v := .ref (ad 4 k)) (ix := k) Z hW rfl (show (0 : Nat) < 1 by decide) (by omega) (by decide) rfl rfl rfl rfl (cR_rod (show (k : Nat) < nr by omega)) dX1_straightenAll_27 ?_
      refine wx_x (wx_V (As := [.ref (ad 4 k)]) (rest := [.int (nI (bO1 (rnd D0 I J T1 k).2.1))]) hAt.fix (m_X1_straighten l hfl A Dg dA ad n nb nr no J R D2 I D0 hag2 hB ((rnd D0 I J T1 k).1) hT2 ((1 + 4 * q + k)) ((by omega)) ((rnd_BT hB hBT1 (by omega) k (by omega))) k hk) q649 q651 qs18 q652 wn_X1_straighten ⟨Nat.le_of_ble_eq_true rfl, Nat.le_of_ble_eq_true rfl, Nat.le_of_ble_eq_true rfl, Nat.le_of_ble_eq_true rfl⟩ (w_recv hK hW kX1 rfl (show (0 : Nat) < 1 by decide)) (Px.of hK hst hA hS hW) hl.1 (Nat.le_of_ble_eq_true rfl) dX1_straightenAll_28) hS (fun r H locs hW hz hS => ?_) (fun x C H locs hp hE hz hS => ?_)
      rotate_left
      · rw [hQ]
        obtain ⟨⟨hc2, rfl⟩, D3, hex3, hW⟩ := hp
        have hst : (rnd D0 I J T1 (k + 1)).2.2 = true := by rw [rnd_s hsf]; exact decide_eq_true hc2
        exact rT_x hlk htab rfl hS hE ⟨⟨by rw [← hrd0]; exact rds_stiff (rnd_stiff hst nr (by omega)), rfl⟩, D3, hex3.trans hex2, hW⟩
      obtain ⟨hrr, D3, hex3, hT3, hW⟩ := hW
      rcases hrr with ⟨rfl, hq⟩ | ⟨rfl, hq⟩
      · have q1 := hq
        refine lv_ior hx hb dX1_straightenAll_31 ?_
        refine lv_istore_n (lv' := [(2, .int ((nI (bO1 (rnd D0 I J T1 k).2.1)) ||| (nI 0))), (3, .int (nI k)), (1, .int (nI q)), (0, .ref (ad 0 0))]) hx hb dX1_straightenAll_32 rfl hl (by decide) rfl (fun ls hl => ?_)
        refine lv_iinc1 (lv' := [(3, .int (nI (k + 1))), (2, .int ((nI (bO1 (rnd D0 I J T1 k).2.1)) ||| (nI 0))), (1, .int (nI q)), (0, .ref (ad 0 0))]) hx hb dX1_straightenAll_33 hl (k := 1) rfl (by decide) rfl (fun ls hl => ?_)
        refine lv_goto (tgt := 12) hx hb dX1_straightenAll_36 (by decide) ?_
        have hl : lv_has ls 4 [(3, .int (nI (k + 1))), (2, .int (nI (bO1 (rnd D0 I J T1 (k + 1)).2.1))), (1, .int (nI q)), (0, .ref (ad 0 0))] := by
          rw [rnd_s hsf, q1]
          rw [show ((rnd D0 I J T1 k).2.1 || decide (0 = 1)) = (rnd D0 I J T1 k).2.1 from Bool.or_false _, ← bO1_or0]
          exact lv_sub hl [0, 1, 2, 3] rfl
        exact ih _ _ _ ⟨D3, hl, hW, hS, hex3.trans hex2, by rw [rnd_s hsf]; exact hT3, by rw [rnd_s hsf, q1]; rfl⟩
      · have q2 := hq
        refine lv_ior hx hb dX1_straightenAll_31 ?_
        refine lv_istore_n (lv' := [(2, .int ((nI (bO1 (rnd D0 I J T1 k).2.1)) ||| (nI 1))), (3, .int (nI k)), (1, .int (nI q)), (0, .ref (ad 0 0))]) hx hb dX1_straightenAll_32 rfl hl (by decide) rfl (fun ls hl => ?_)
        refine lv_iinc1 (lv' := [(3, .int (nI (k + 1))), (2, .int ((nI (bO1 (rnd D0 I J T1 k).2.1)) ||| (nI 1))), (1, .int (nI q)), (0, .ref (ad 0 0))]) hx hb dX1_straightenAll_33 hl (k := 1) rfl (by decide) rfl (fun ls hl => ?_)
        refine lv_goto (tgt := 12) hx hb dX1_straightenAll_36 (by decide) ?_
        have hl : lv_has ls 4 [(3, .int (nI (k + 1))), (2, .int (nI (bO1 (rnd D0 I J T1 (k + 1)).2.1))), (1, .int (nI q)), (0, .ref (ad 0 0))] := by
          rw [rnd_s hsf, q2]
          rw [show ((rnd D0 I J T1 k).2.1 || decide (1 = 1)) = true from Bool.or_true _, show nI (bO1 true) = nI 1 from rfl, ← bO1_or1 (rnd D0 I J T1 k).2.1]
          exact lv_sub hl [0, 1, 2, 3] rfl
        exact ih _ _ _ ⟨D3, hl, hW, hS, hex3.trans hex2, by rw [rnd_s hsf]; exact hT3, by rw [rnd_s hsf, q2]; rfl⟩
    · intro H locs ls hP
      obtain ⟨D2, hl, hW, hS, hex2, hT2, hsf⟩ := hP
      have hbt := rnd_BT hB hBT1 (by omega) (I := I) nr (Nat.le_refl _)
      refine lv_iload_n hx hb dX1_straightenAll_12 rfl (lv_at hl 0 rfl) ?_
      refine lv_aload_n hx hb dX1_straightenAll_13 rfl (lv_at hl 3 rfl) ?_
      refine g_I (x := nI nr) Z hW kX1 rfl 10 (by decide) q151 (show (0 : Nat) < 1 by decide) rfl hnr dX1_straightenAll_14 ?_
      refine lv_nge (tgt := 39) hx hb (by omega) (by omega) dX1_straightenAll_17 (by decide) (fun c => ?_) (fun c => absurd c (by omega))
      refine lv_iload_n hx hb dX1_straightenAll_39 rfl (lv_at hl 1 rfl) ?_
      refine lv_if_ne (tgt := 45) hx hb dX1_straightenAll_40 (by decide) (fun c3 => ?_) (fun c3 => ?_)
      · refine lv_iinc1 (lv' := [(1, .int (nI (q + 1))), (3, .int (nI nr)), (2, .int (nI (bO1 (rnd D0 I J T1 nr).2.1))), (0, .ref (ad 0 0))]) hx hb dX1_straightenAll_45 hl (k := 2) rfl (by decide) rfl (fun ls hl => ?_)
        refine lv_goto (tgt := 2) hx hb dX1_straightenAll_48 (by decide) ?_
        exact ih0 _ _ _ ⟨D2, _, lv_sub hl [0, 3] rfl, hW, hS, hex2, hT2, hbt.mono (by omega), by rw [← hrd0, rds_next hsf (bO1_nz c3)]⟩
      · refine lv_iload_n hx hb dX1_straightenAll_43 rfl (lv_at hl 2 rfl) ?_
        rw [hQ]
        exact rX (rW_i hx hb hr hlk hS (⟨q, _, by rw [← hrd0]; exact rds_done hsf (bO1_z c3), by omega, rfl, hbt.mono (by omega), D2, hex2, hT2, hW⟩) dX1_straightenAll_44)
  · intro H locs ls hP
    obtain ⟨D1, T1, hl, hW, hS, hex, hT1, hBT1, hrd⟩ := hP
    refine lv_iload_n hx hb dX1_straightenAll_2 rfl (lv_at hl 0 rfl) ?_
    refine lv_bipush (v := nI 40) hx hb dX1_straightenAll_3 rfl ?_
    refine lv_nge (tgt := 51) hx hb (by decide) (by decide) dX1_straightenAll_5 (by decide) (fun c => ?_) (fun c => absurd c (by omega))
    refine lv_aload_n hx hb dX1_straightenAll_51 rfl (lv_at hl 1 rfl) ?_
    refine lv_iconst (v := nI 1) hx hb dX1_straightenAll_52 rfl ?_
    refine wx_ws (wx_V (As := [.int (nI 1)]) (rest := []) hAt.fix (m_X1_failure l hfl A Dg dA ad n nb nr no J R D1 I (nI 1)) q584 q586 qs11 q587 wn_X1_failure ⟨Nat.le_of_ble_eq_true rfl, Nat.le_of_ble_eq_true rfl, Nat.le_of_ble_eq_true rfl, Nat.le_of_ble_eq_true rfl⟩ (w_recv hK hW kX1 rfl (show (0 : Nat) < 1 by decide)) (Px.of hK hst hA hS hW) hl.1 (Nat.le_of_ble_eq_true rfl) dX1_straightenAll_53) hS (fun r H locs hW hz hS => ?_)
    refine lv_athrow hx hb dX1_straightenAll_56 ?_
    rw [hQ]
    exact rT_x hlk htab rfl hS (isAr.to hK hW.1) ⟨⟨hrd.symm, rfl⟩, D1, hex, hW.2⟩
