set_option maxRecDepth 100000
/-! ===== the class: looking ===== -/
def tlW (w : Nat) : Nat := if w < 4 then w else 4
def cnW (I : T32) (w : Int32) : Int32 := if w = nI 0 then I 20 0 else if w = nI 1 then I 21 0 else if w = nI 2 then I 22 0 else if w = nI 3 then I 24 0 else if w = nI 4 then I 25 0 else if w = nI 5 then I 26 0 else if w = nI 6 then I 27 0 else if w = nI 7 then I 28 0 else if w = nI 8 then I 28 1 else if w = nI 9 then I 28 2 else -1
theorem sw_lo {w : Int32} (h : w < 0) : w.toInt < 0 ∨ 9 < w.toInt := by
  rw [Int32.lt_iff_toInt_lt] at h
  have : (0 : Int32).toInt = 0 := rfl
  omega
theorem sw_hi {w : Int32} (h : nI 10 ≤ w) : w.toInt < 0 ∨ 9 < w.toInt := by
  rw [Int32.le_iff_toInt_le, nI_toInt (by omega)] at h
  omega
theorem cnW_out {I : T32} {w : Int32} (h : w.toInt < 0 ∨ 9 < w.toInt) : cnW I w = -1 := by
  have key : ∀ k : Nat, k < 10 → w ≠ nI k := by
    intro k hk e
    rw [e, nI_toInt (by omega)] at h
    omega
  unfold cnW
  rw [if_neg (key 0 (by omega)), if_neg (key 1 (by omega)), if_neg (key 2 (by omega)), if_neg (key 3 (by omega)), if_neg (key 4 (by omega)), if_neg (key 5 (by omega)), if_neg (key 6 (by omega)), if_neg (key 7 (by omega)), if_neg (key 8 (by omega)), if_neg (key 9 (by omega))]
theorem cnW_lo {I : T32} {w : Int32} (h : w < 0) : cnW I w = -1 := cnW_out (sw_lo h)
theorem cnW_hi {I : T32} {w : Int32} (h : nI 10 ≤ w) : cnW I w = -1 := cnW_out (sw_hi h)
theorem okN_of {n : Nat} {k : Int32} (hn : n < 1000) (h1 : ¬ k < 0) (h2 : ¬ nI n ≤ k) : ∃ i, i < n ∧ k = nI i := by
  rcases pk_ix k (n := n) (by omega) with q | q | q
  · exact absurd q h1
  · exact absurd q h2
  · exact q
theorem mn_c {x y : Nat} (hx : x < 1000) (hy : y < 1000) : (if nI y < nI x then nI y else nI x) = nI (if x < y then x else y) := by
  have e : nI y < nI x ↔ y < x := nI_ltI (by omega) (by omega)
  by_cases h : y < x
  · rw [if_pos (e.mpr h), if_neg (by omega)]
  · rw [if_neg (fun q => h (e.mp q))]
    by_cases h2 : x < y
    · rw [if_pos h2]
    · rw [if_neg h2, show x = y by omega]
theorem mx_c {x y : Nat} (hx : x < 1000) (hy : y < 1000) : (if nI x < nI y then nI y else nI x) = nI (if x < y then y else x) := by
  have e : nI x < nI y ↔ x < y := nI_ltI (by omega) (by omega)
  by_cases h : x < y
  · rw [if_pos (e.mpr h), if_pos h]
  · rw [if_neg (fun q => h (e.mp q)), if_neg h]
theorem so_f {a i : Nat} (h : a ≠ i) : (if a < i + 1 then a else 0) = if a < i then a else 0 := by
  by_cases q : a < i
  · rw [if_pos q, if_pos (by omega)]
  · rw [if_neg q, if_neg (by omega)]
theorem so_t {a i : Nat} (h : a = i) : (if a < i + 1 then a else 0) = i := by rw [if_pos (by omega), h]
theorem srt_inj {A : Nat → Prop} {Dg : va_G} {dA : Nat → ClassId} {ad : Nat → Nat → Nat} {n nb nr no : Nat} {J : Jt} {R : Nat → Value} {D : T64} {I : T32} {H : Heap} (hW : cW A Dg dA ad n nb nr no J R D I H) {a b : Nat} (hb : b < 3) (ha : a < 3) (h : ad 1 b = ad 1 a) : a = b := (hW.2.1 1 a 1 b ha hb h.symm).2
theorem smS_23 {D : T64} {J : Jt} {n : Nat} {I : T32} {x : Int32} {k : Nat} : up2 (smS D J n I k).1 27 0 x 23 0 = I 23 0 := (up2_f _ _ _ _ (by decide)).trans (smS_ex k 23 0 rfl)
theorem smS_x6 {D : T64} {J : Jt} {n : Nat} {I : T32} (k : Nat) : exc (s2 6 27) (smS D J n I k).1 I := (smS_ex k).mono (fun f h => by
  unfold s2 at h
  rw [Bool.or_eq_false_iff] at h
  exact h.1)
set_option maxHeartbeats 4000000 in
theorem m_X1_pairEnergy (l : Launch) (A : Nat → Prop) (Dg : va_G) (dA : Nat → ClassId) (ad : Nat → Nat → Nat) (n : Nat) (nb : Nat) (nr : Nat) (no : Nat) (J : Nat → Nat → Nat) (R : Nat → Value) (D : T64) (I : T32) (D0 : T64) (hag : agD D D0) (hB : Bd n nb nr J D0) (hn : I 20 0 = nI n) (ho : ovl D0 n = false) : MX l yX1_pairEnergy cX1_pairEnergy 5 (some .double) [] (rmx 4 0 0) [.ref (ad 0 0)] (Pw Dg dA (cW A Dg dA ad n nb nr no J R D I)) (qW (fun r : UInt64 => some (.double r)) (fun r H => r = eS D0 J n n ∧ ∃ D1 R1, exc sF D1 D ∧ cW A Dg dA ad n nb nr no J R1 D1 I H) A) 0 0 A := by
  refine MX.start (Nat.le_of_ble_eq_true rfl) ?_
  intro p e s m args below meth c ls Q hAt hPc hl hQ
  have hl : lv_has ls 5 [(0, .ref (ad 0 0))] := hl
  obtain ⟨hx, hb, hml, hr, hlk, hown, hnm, htab, hts⟩ := id hAt
  obtain ⟨hK, hW⟩ := hPc
  have Z := Cx.of hAt hK
  have hS : va_S A s.heap s.heap [] := va_S.rf
  have hn10 := hB.n10
  refine lv_dconst0 hx hb dX1_pairEnergy_0 ?_
  refine lv_dstore_n (lv' := [(1, .double (FP.dconst0)), (0, .ref (ad 0 0))]) hx hb dX1_pairEnergy_1 rfl hl (by decide) rfl (fun ls hl => ?_)
  refine lv_iconst (v := nI 0) hx hb dX1_pairEnergy_2 rfl ?_
  refine lv_istore_n (lv' := [(3, .int (nI 0)), (1, .double (FP.dconst0)), (0, .ref (ad 0 0))]) hx hb dX1_pairEnergy_3 rfl hl (by decide) rfl (fun ls hl => ?_)
  refine wl_up n 0 (fun i H locs ls => ∃ D1 R1, lv_has ls 5 [(3, .int (nI i)), (1, .double (eS D0 J n i)), (0, .ref (ad 0 0))] ∧ cW A Dg dA ad n nb nr no J R1 D1 I H ∧ va_S A s.heap H locs ∧ exc sF D1 D) (Nat.zero_le _) ⟨D, R, lv_sub hl [0, 1, 2] rfl, hW, hS, exc.rf⟩ ?_ ?_
  · intro i H locs ls hi hP ih
    obtain ⟨D1, R1, hl, hW, hS, hex⟩ := hP
    refine lv_iload_n hx hb dX1_pairEnergy_4 rfl (lv_at hl 0 rfl) ?_
    refine lv_aload_n hx hb dX1_pairEnergy_5 rfl (lv_at hl 2 rfl) ?_
    refine g_I (x := nI n) Z hW kX1 rfl 8 (by decide) q149 (show (0 : Nat) < 1 by decide) rfl hn dX1_pairEnergy_6 ?_
    refine lv_nge (tgt := 114) hx hb (by omega) (by omega) dX1_pairEnergy_9 (by decide) (fun c => absurd c (by omega)) (fun c => ?_)
    refine lv_iload_n hx hb dX1_pairEnergy_12 rfl (lv_at hl 0 rfl) ?_
    refine lv_iconst (v := nI 1) hx hb dX1_pairEnergy_13 rfl ?_
    refine lv_iadd hx hb dX1_pairEnergy_14 ?_
    rw [nI_add]
    refine lv_istore (lv' := [(4, .int (nI (i + 1))), (3, .int (nI i)), (1, .double (eS D0 J n i)), (0, .ref (ad 0 0))]) hx hb dX1_pairEnergy_15 hl (by decide) rfl (fun ls hl => ?_)
    have ih0 := ih
    have hi0 := hi
    have hl : lv_has ls 5 [(4, .int (nI (i + 1))), (3, .int (nI i)), (1, .double (eR D0 J i (eS D0 J n i) (i + 1))), (0, .ref (ad 0 0))] := by rw [eR_lo _ (Nat.le_refl _)]; exact lv_sub hl [0, 1, 2, 3] rfl
    refine wl_up n ((i + 1)) (fun j H locs ls => i < j ∧ ∃ D1 R1, lv_has ls 5 [(4, .int (nI j)), (3, .int (nI i)), (1, .double (eR D0 J i (eS D0 J n i) j)), (0, .ref (ad 0 0))] ∧ cW A Dg dA ad n nb nr no J R1 D1 I H ∧ va_S A s.heap H locs ∧ exc sF D1 D) (by omega) ⟨by omega, D1, R1, hl, hW, hS, hex⟩ ?_ ?_
    · intro j H locs ls hi hP ih
      obtain ⟨hij, D1, R1, hl, hW, hS, hex⟩ := hP
      have hj := hi
      replace hi := hi0
      have hag1 := hag.F hex
      have hnear := ovl_f.mp ho i j hij hj
      have hfe := eR_fb hB hi ho (show 100 ≤ (100 + 10 * (i : Int)) ∧ (100 + 10 * (i : Int)) ≤ 300 by omega) (eS_fb hB ho i (by omega)) j (by omega)
      refine lv_iload hx hb dX1_pairEnergy_17 (lv_at hl 0 rfl) ?_
      refine lv_aload_n hx hb dX1_pairEnergy_19 rfl (lv_at hl 3 rfl) ?_
      refine g_I (x := nI n) Z hW kX1 rfl 8 (by decide) q149 (show (0 : Nat) < 1 by decide) rfl hn dX1_pairEnergy_20 ?_
      refine lv_nge (tgt := 108) hx hb (by omega) (by omega) dX1_pairEnergy_23 (by decide) (fun c => absurd c (by omega)) (fun c => ?_)
      refine lv_aload_n hx hb dX1_pairEnergy_26 rfl (lv_at hl 3 rfl) ?_
      refine lv_aload_n hx hb dX1_pairEnergy_27 rfl (lv_at hl 3 rfl) ?_
      refine w_getR (v := .ref (ad 11 0)) Z hW kX1 rfl 5 (by decide) q146 (show (0 : Nat) < 1 by decide) rfl rfl dX1_pairEnergy_28 ?_
      refine lv_iload_n hx hb dX1_pairEnergy_31 rfl (lv_at hl 1 rfl) ?_
      refine a_R (j := i) (v := .ref (ad 2 i)) (ix := i) Z hW rfl (show (0 : Nat) < 1 by decide) (by omega) (by decide) rfl rfl rfl rfl (cR_atom (show (i : Nat) < n by omega)) dX1_pairEnergy_32 ?_
      refine lv_aload_n hx hb dX1_pairEnergy_33 rfl (lv_at hl 3 rfl) ?_
      refine w_getR (v := .ref (ad 11 0)) Z hW kX1 rfl 5 (by decide) q146 (show (0 : Nat) < 1 by decide) rfl rfl dX1_pairEnergy_34 ?_
      refine lv_iload hx hb dX1_pairEnergy_37 (lv_at hl 0 rfl) ?_
      refine a_R (j := j) (v := .ref (ad 2 j)) (ix := j) Z hW rfl (show (0 : Nat) < 1 by decide) (by omega) (by decide) rfl rfl rfl rfl (cR_atom (show (j : Nat) < n by omega)) dX1_pairEnergy_39 ?_
      refine wx_wv (wx_V (As := [.ref (ad 2 i), .ref (ad 2 j)]) (rest := []) hAt.fix (m_X1_from l A Dg dA ad n nb nr no J R1 D1 I D0 hag1 hB i j ((show (i : Nat) < n by omega)) ((show (j : Nat) < n by omega))) q228 q230 qs0 q231 wn_X1_from ⟨Nat.le_of_ble_eq_true rfl, Nat.le_of_ble_eq_true rfl, Nat.le_of_ble_eq_true rfl, Nat.le_of_ble_eq_true rfl⟩ (w_recv hK hW kX1 rfl (show (0 : Nat) < 1 by decide)) (Pw.of hK hW) hl.1 (Nat.le_of_ble_eq_true rfl) dX1_pairEnergy_40) hS (fun H locs hW hz hS => ?_)
      refine lv_aload_n hx hb dX1_pairEnergy_43 rfl (lv_at hl 3 rfl) ?_
      refine w_getR (v := .ref (ad 6 0)) Z hW kX1 rfl 12 (by decide) q153 (show (0 : Nat) < 1 by decide) rfl rfl dX1_pairEnergy_44 ?_
      refine wx_r (wx_V (As := []) (rest := []) hAt.fix (m_X4_square l A Dg dA ad n nb nr no J R1 ((up2 (up2 D1 34 0 (wA D0 i j)) 35 0 (wB D0 i j))) I 0 ((by decide)) (wA D0 i j) (wB D0 i j) rfl rfl ((wA_fb hB hi hj)) ((wB_fb hB hi hj))) q239 q240 q241 q242 wn_X4_square ⟨Nat.le_of_ble_eq_true rfl, Nat.le_of_ble_eq_true rfl, Nat.le_of_ble_eq_true rfl, Nat.le_of_ble_eq_true rfl⟩ (w_recv hK hW kX4 rfl (show (0 : Nat) < 2 by decide)) (Pw.of hK hW) hl.1 (Nat.le_of_ble_eq_true rfl) dX1_pairEnergy_47) (fun r hr => ?_)
      subst hr
      refine lv_aload_n hx hb dX1_pairEnergy_50 rfl (lv_at hl 3 rfl) ?_
      refine g_D (x := D0 21 0) Z hW kX1 rfl 1 (by decide) q142 (show (0 : Nat) < 1 by decide) rfl ((up2_f _ _ _ _ (by decide)).trans ((up2_f _ _ _ _ (by decide)).trans (hag1 21 0 rfl))) dX1_pairEnergy_51 ?_
      refine lv_aload_n hx hb dX1_pairEnergy_54 rfl (lv_at hl 3 rfl) ?_
      refine g_D (x := D0 21 0) Z hW kX1 rfl 1 (by decide) q142 (show (0 : Nat) < 1 by decide) rfl ((up2_f _ _ _ _ (by decide)).trans ((up2_f _ _ _ _ (by decide)).trans (hag1 21 0 rfl))) dX1_pairEnergy_55 ?_
      have f1 : fb (8) (FP.dmul (D0 21 0) (D0 21 0)) := fb.mul hB.cut hB.cut (by decide)
      refine lv_dmul hx hb dX1_pairEnergy_58 f1.n64 ?_
      refine lv_dg_ge (tgt := 102) hx hb dX1_pairEnergy_59 dX1_pairEnergy_60 (by decide) (fun c2 => ?_) (fun c2 => ?_)
      · refine lv_iinc1 (lv' := [(4, .int (nI (j + 1))), (3, .int (nI i)), (1, .double (eR D0 J i (eS D0 J n i) j)), (0, .ref (ad 0 0))]) hx hb dX1_pairEnergy_102 hl (k := 0) rfl (by decide) rfl (fun ls hl => ?_)
        refine lv_goto (tgt := 17) hx hb dX1_pairEnergy_105 (by decide) ?_
        have hl : lv_has ls 5 [(4, .int (nI (j + 1))), (3, .int (nI i)), (1, .double (eR D0 J i (eS D0 J n i) (j + 1))), (0, .ref (ad 0 0))] := by rw [eR_f c2]; exact lv_sub hl [0, 1, 2, 3] rfl
        exact ih _ _ _ ⟨by omega, _, _, hl, hW, hS, (hex.up rfl).up rfl⟩
      · refine lv_dload_n hx hb dX1_pairEnergy_63 rfl (lv_at hl 2 rfl) ?_
        refine lv_aload_n hx hb dX1_pairEnergy_64 rfl (lv_at hl 3 rfl) ?_
        refine w_getR (v := .ref (ad 5 0)) Z hW kX1 rfl 11 (by decide) q152 (show (0 : Nat) < 1 by decide) rfl rfl dX1_pairEnergy_65 ?_
        refine lv_aload_n hx hb dX1_pairEnergy_68 rfl (lv_at hl 3 rfl) ?_
        refine w_getR (v := .ref (ad 11 0)) Z hW kX1 rfl 5 (by decide) q146 (show (0 : Nat) < 1 by decide) rfl rfl dX1_pairEnergy_69 ?_
        refine lv_iload_n hx hb dX1_pairEnergy_72 rfl (lv_at hl 1 rfl) ?_
        refine a_R (j := i) (v := .ref (ad 2 i)) (ix := i) Z hW rfl (show (0 : Nat) < 1 by decide) (by omega) (by decide) rfl rfl rfl rfl (cR_atom (show (i : Nat) < n by omega)) dX1_pairEnergy_73 ?_
        refine lv_aload_n hx hb dX1_pairEnergy_74 rfl (lv_at hl 3 rfl) ?_
        refine w_getR (v := .ref (ad 11 0)) Z hW kX1 rfl 5 (by decide) q146 (show (0 : Nat) < 1 by decide) rfl rfl dX1_pairEnergy_75 ?_
        refine lv_iload hx hb dX1_pairEnergy_78 (lv_at hl 0 rfl) ?_
        refine a_R (j := j) (v := .ref (ad 2 j)) (ix := j) Z hW rfl (show (0 : Nat) < 1 by decide) (by omega) (by decide) rfl rfl rfl rfl (cR_atom (show (j : Nat) < n by omega)) dX1_pairEnergy_80 ?_
        refine lv_aload_n hx hb dX1_pairEnergy_81 rfl (lv_at hl 3 rfl) ?_
        refine g_D (x := D0 21 0) Z hW kX1 rfl 1 (by decide) q142 (show (0 : Nat) < 1 by decide) rfl ((up2_f _ _ _ _ (by decide)).trans ((up2_f _ _ _ _ (by decide)).trans (hag1 21 0 rfl))) dX1_pairEnergy_82 ?_
        refine wx_ws (wx_V (As := [.ref (ad 2 i), .ref (ad 2 j), .double (D0 21 0)]) (rest := [.double (eR D0 J i (eS D0 J n i) j)]) hAt.fix (m_X3_of l A Dg dA ad n nb nr no J R1 ((up2 (up2 D1 34 0 (wA D0 i j)) 35 0 (wB D0 i j))) I i j (D0 21 0)) q592 q593 q594 q595 wn_X3_of ⟨Nat.le_of_ble_eq_true rfl, Nat.le_of_ble_eq_true rfl, Nat.le_of_ble_eq_true rfl, Nat.le_of_ble_eq_true rfl⟩ (w_recv hK hW kX3 rfl (show (0 : Nat) < 1 by decide)) (Pw.of hK hW) hl.1 (Nat.le_of_ble_eq_true rfl) dX1_pairEnergy_85) hS (fun r H locs hW hz hS => ?_)
        obtain ⟨rfl, hW⟩ := hW
        refine lv_aload_n hx hb dX1_pairEnergy_88 rfl (lv_at hl 3 rfl) ?_
        refine w_getR (v := .ref (ad 6 0)) Z hW kX1 rfl 12 (by decide) q153 (show (0 : Nat) < 1 by decide) rfl rfl dX1_pairEnergy_89 ?_
        refine wx_r (wx_V (As := []) (rest := [.ref (ad 5 0), .double (eR D0 J i (eS D0 J n i) j)]) hAt.fix (m_X4_square l A Dg dA ad n nb nr no J ((rr (rr R1 0 (.ref (ad 2 i))) 1 (.ref (ad 2 j)))) ((up2 (up2 (up2 D1 34 0 (wA D0 i j)) 35 0 (wB D0 i j)) 36 0 (D0 21 0))) I 0 ((by decide)) (wA D0 i j) (wB D0 i j) rfl rfl ((wA_fb hB hi hj)) ((wB_fb hB hi hj))) q239 q240 q241 q242 wn_X4_square ⟨Nat.le_of_ble_eq_true rfl, Nat.le_of_ble_eq_true rfl, Nat.le_of_ble_eq_true rfl, Nat.le_of_ble_eq_true rfl⟩ (w_recv hK hW kX4 rfl (show (0 : Nat) < 2 by decide)) (Pw.of hK hW) hl.1 (Nat.le_of_ble_eq_true rfl) dX1_pairEnergy_92) (fun r hr => ?_)
        subst hr
        refine wx_r (wx_F (As := [.double (sq (wA D0 i j) (wB D0 i j))]) (rest := [.double (eR D0 J i (eS D0 J n i) j)]) hAt.fix (m_X3_energy l A Dg dA ad n nb nr no J ((rr (rr R1 0 (.ref (ad 2 i))) 1 (.ref (ad 2 j)))) ((up2 (up2 (up2 D1 34 0 (wA D0 i j)) 35 0 (wB D0 i j)) 36 0 (D0 21 0))) I D0 ((hag1.up rfl |>.up rfl |>.up rfl)) hB i j hi hj rfl rfl (sq (wA D0 i j) (wB D0 i j)) ((wR_fb hB hi hj)) ((lc_near (wR_fb hB hi hj) hnear)) rfl) q694 q705 q703 q707 (lw_car_tbl q696 rfl) (lw_car_tbl q695 rfl) (lw_car_tbl q706 rfl) (lw_car_tbl q704 rfl) (lw_car_tbl q610 rfl) wn_Tie_energy (by decide) ⟨Nat.le_of_ble_eq_true rfl, Nat.le_of_ble_eq_true rfl, Nat.le_of_ble_eq_true rfl, Nat.le_of_ble_eq_true rfl⟩ (w_recv hK hW kX3 rfl (show (0 : Nat) < 1 by decide)) (w_kB hK kX3) (Pw.of hK hW) hl.1 (Nat.le_of_ble_eq_true rfl) dX1_pairEnergy_95) (fun r hr => ?_)
        subst hr
        have f3 : fb (((100 + 10 * (i : Int)) + (j : Int)) + 1) (FP.dadd (eR D0 J i (eS D0 J n i) j) (pN D0 J i j (sq (wA D0 i j) (wB D0 i j)))) := fb.add hfe ((pN_fb hB hi hj (lc_near (wR_fb hB hi hj) hnear)).mono (show (100 : Int) ≤ (100 + 10 * (i : Int)) + (j : Int) by omega)) (by omega)
        refine lv_dadd hx hb dX1_pairEnergy_100 f3.n64 ?_
        refine lv_dstore_n (lv' := [(1, .double (FP.dadd (eR D0 J i (eS D0 J n i) j) (pN D0 J i j (sq (wA D0 i j) (wB D0 i j))))), (4, .int (nI j)), (3, .int (nI i)), (0, .ref (ad 0 0))]) hx hb dX1_pairEnergy_101 rfl hl (by decide) rfl (fun ls hl => ?_)
        refine lv_iinc1 (lv' := [(4, .int (nI (j + 1))), (1, .double (FP.dadd (eR D0 J i (eS D0 J n i) j) (pN D0 J i j (sq (wA D0 i j) (wB D0 i j))))), (3, .int (nI i)), (0, .ref (ad 0 0))]) hx hb dX1_pairEnergy_102 hl (k := 1) rfl (by decide) rfl (fun ls hl => ?_)
        refine lv_goto (tgt := 17) hx hb dX1_pairEnergy_105 (by decide) ?_
        have hl : lv_has ls 5 [(4, .int (nI (j + 1))), (3, .int (nI i)), (1, .double (eR D0 J i (eS D0 J n i) (j + 1))), (0, .ref (ad 0 0))] := by rw [eR_t hij c2]; exact lv_sub hl [0, 2, 1, 3] rfl
        exact ih _ _ _ ⟨by omega, _, _, hl, hW, hS, ((hex.up rfl).up rfl).up rfl⟩
    · intro H locs ls hP
      obtain ⟨hij, D1, R1, hl, hW, hS, hex⟩ := hP
      refine lv_iload hx hb dX1_pairEnergy_17 (lv_at hl 0 rfl) ?_
      refine lv_aload_n hx hb dX1_pairEnergy_19 rfl (lv_at hl 3 rfl) ?_
      refine g_I (x := nI n) Z hW kX1 rfl 8 (by decide) q149 (show (0 : Nat) < 1 by decide) rfl hn dX1_pairEnergy_20 ?_
      refine lv_nge (tgt := 108) hx hb (by omega) (by omega) dX1_pairEnergy_23 (by decide) (fun c => ?_) (fun c => absurd c (by omega))
      refine lv_iinc1 (lv' := [(3, .int (nI (i + 1))), (4, .int (nI n)), (1, .double (eR D0 J i (eS D0 J n i) n)), (0, .ref (ad 0 0))]) hx hb dX1_pairEnergy_108 hl (k := 1) rfl (by decide) rfl (fun ls hl => ?_)
      refine lv_goto (tgt := 4) hx hb dX1_pairEnergy_111 (by decide) ?_
      exact ih0 _ _ _ ⟨_, _, lv_sub hl [0, 2, 3] rfl, hW, hS, hex⟩
  · intro H locs ls hP
    obtain ⟨D1, R1, hl, hW, hS, hex⟩ := hP
    refine lv_iload_n hx hb dX1_pairEnergy_4 rfl (lv_at hl 0 rfl) ?_
    refine lv_aload_n hx hb dX1_pairEnergy_5 rfl (lv_at hl 2 rfl) ?_
    refine g_I (x := nI n) Z hW kX1 rfl 8 (by decide) q149 (show (0 : Nat) < 1 by decide) rfl hn dX1_pairEnergy_6 ?_
    refine lv_nge (tgt := 114) hx hb (by omega) (by omega) dX1_pairEnergy_9 (by decide) (fun c => ?_) (fun c => absurd c (by omega))
    refine lv_dload_n hx hb dX1_pairEnergy_114 rfl (lv_at hl 1 rfl) ?_
    rw [hQ]
    exact rW_d hx hb hr hlk hS (⟨rfl, D1, R1, hex, hW⟩) dX1_pairEnergy_115
set_option maxHeartbeats 4000000 in
theorem m_C_energy (l : Launch) (hfl : l.flags = flags0) (A : Nat → Prop) (Dg : va_G) (dA : Nat → ClassId) (x : Nat) (n : Nat) (nb : Nat) (nr : Nat) (J : Jt) (D0 : T64) (I0 : T32) (hI : Inv n nb nr J D0 I0) (k : Int32) : MX l yX1_energy cX1_energy 5 (some .double) [] (rmx 9 1 6) [.ref (x), .int (k)] (Px A Dg dA (CS A Dg dA x n nb nr J D0 I0)) (qX (fun r : UInt64 => some (.double r)) (fun r H => ok3 k ∧ (k < nI 2 → ovl D0 n = false) ∧ r = enW D0 J n nb k ∧ CS A Dg dA x n nb nr J D0 I0 H) (fun C H => ((¬ ok3 k ∧ C = "java/lang/IllegalArgumentException") ∧ CS A Dg dA x n nb nr J D0 I0 H) ∨ ((ok3 k ∧ k < nI 2 ∧ ovl D0 n = true ∧ C = "java/lang/ArithmeticException") ∧ CS A Dg dA x n nb nr J D0 I0 H)) A) 0 0 A := by
  refine MX.start (Nat.le_of_ble_eq_true rfl) ?_
  intro p e s m args below meth c ls Q hAt hPc hl hQ
  have hl : lv_has ls 5 [(0, .ref (x)), (1, .int (k))] := hl
  obtain ⟨hx, hb, hml, hr, hlk, hown, hnm, htab, hts⟩ := id hAt
  obtain ⟨hK, hst, hA, hW⟩ := hPc
  have Z := Cx.of hAt hK
  have hS : va_S A s.heap s.heap [] := va_S.rf
  obtain ⟨ad, D, I, R, rfl, hW, hag, hagI, hwo, hNL⟩ := hW
  have hB := hI.bd
  have hn10 := hB.n10
  have hn : I 20 0 = nI n := (hagI 20 0 rfl).trans hI.cn.1
  have hnb : I 21 0 = nI nb := (hagI 21 0 rfl).trans hI.cn.2.1
  have hnb8 := hB.nb8
  refine lv_iload_n hx hb dX1_energy_0 rfl (lv_at hl 1 rfl) ?_
  refine lv_if_lt (tgt := 13) hx hb dX1_energy_1 (by decide) (fun c1 => ?_) (fun c1 => ?_)
  · refine lv_iconst (v := nI 0) hx hb dX1_energy_13 rfl ?_
    refine wx_x (wx_S (As := [.int (nI 0)]) (rest := []) hAt.fix (m_X1_check l hfl A Dg dA ((fun H => cW A Dg dA ad n nb nr 0 J R D I H)) gr_W (nI 0)) q271 q272 q45 q273 wn_X1_check ⟨Nat.le_of_ble_eq_true rfl, Nat.le_of_ble_eq_true rfl, Nat.le_of_ble_eq_true rfl, Nat.le_of_ble_eq_true rfl⟩ (Px.of hK hst hA hS hW) hl.1 (Nat.le_of_ble_eq_true rfl) dX1_energy_14) hS (fun r H locs hW hz hS => ?_) (fun x C H locs hp hE hz hS => ?_)
    · exact absurd nI_0 hW.1
    · rw [hQ]
      obtain ⟨⟨-, rfl⟩, hW⟩ := hp
      exact rT_x hlk htab rfl hS hE (Or.inl ⟨⟨fun q => q.1 c1, rfl⟩, ⟨ad, _, _, _, rfl, hW, hag, hagI, hwo, hNL⟩⟩)
  · refine lv_iload_n hx hb dX1_energy_4 rfl (lv_at hl 1 rfl) ?_
    refine lv_iconst (v := nI 3) hx hb dX1_energy_5 rfl ?_
    refine lv_icmp_ge (tgt := 13) hx hb dX1_energy_6 (by decide) (fun c2 => ?_) (fun c2 => ?_)
    · refine lv_iconst (v := nI 0) hx hb dX1_energy_13 rfl ?_
      refine wx_x (wx_S (As := [.int (nI 0)]) (rest := []) hAt.fix (m_X1_check l hfl A Dg dA ((fun H => cW A Dg dA ad n nb nr 0 J R D I H)) gr_W (nI 0)) q271 q272 q45 q273 wn_X1_check ⟨Nat.le_of_ble_eq_true rfl, Nat.le_of_ble_eq_true rfl, Nat.le_of_ble_eq_true rfl, Nat.le_of_ble_eq_true rfl⟩ (Px.of hK hst hA hS hW) hl.1 (Nat.le_of_ble_eq_true rfl) dX1_energy_14) hS (fun r H locs hW hz hS => ?_) (fun x C H locs hp hE hz hS => ?_)
      · exact absurd nI_0 hW.1
      · rw [hQ]
        obtain ⟨⟨-, rfl⟩, hW⟩ := hp
        exact rT_x hlk htab rfl hS hE (Or.inl ⟨⟨fun q => q.2 c2, rfl⟩, ⟨ad, _, _, _, rfl, hW, hag, hagI, hwo, hNL⟩⟩)
    · refine lv_iconst (v := nI 1) hx hb dX1_energy_9 rfl ?_
      refine lv_goto (tgt := 14) hx hb dX1_energy_10 (by decide) ?_
      refine wx_x (wx_S (As := [.int (nI 1)]) (rest := []) hAt.fix (m_X1_check l hfl A Dg dA ((fun H => cW A Dg dA ad n nb nr 0 J R D I H)) gr_W (nI 1)) q271 q272 q45 q273 wn_X1_check ⟨Nat.le_of_ble_eq_true rfl, Nat.le_of_ble_eq_true rfl, Nat.le_of_ble_eq_true rfl, Nat.le_of_ble_eq_true rfl⟩ (Px.of hK hst hA hS hW) hl.1 (Nat.le_of_ble_eq_true rfl) dX1_energy_14) hS (fun r H locs hW hz hS => ?_) (fun x C H locs hp hE hz hS => ?_)
      rotate_left
      · exact absurd hp.1.1 (by decide)
      replace hW := hW.2
      have hok : ok3 k := ⟨c1, c2⟩
      obtain ⟨q, hq, rfl⟩ := ok3_of hok
      have hcs : q = 0 ∨ q = 1 ∨ q = 2 := by omega
      rcases hcs with rfl | rfl | rfl
      · refine lv_iload_n hx hb dX1_energy_17 rfl (lv_at hl 1 rfl) ?_
        refine lv_iconst (v := nI 2) hx hb dX1_energy_18 rfl ?_
        refine lv_nge (tgt := 26) hx hb (by decide) (by decide) dX1_energy_19 (by decide) (fun c => absurd c (by decide)) (fun c => ?_)
        refine lv_aload_n hx hb dX1_energy_22 rfl (lv_at hl 0 rfl) ?_
        refine wx_x (wx_V (As := []) (rest := []) hAt.fix (m_X1_checkOverlap l hfl A Dg dA ad n nb nr 0 J R D I D0 hag hB hn) q685 q687 qs20 q688 wn_X1_checkOverlap ⟨Nat.le_of_ble_eq_true rfl, Nat.le_of_ble_eq_true rfl, Nat.le_of_ble_eq_true rfl, Nat.le_of_ble_eq_true rfl⟩ (w_recv hK hW kX1 rfl (show (0 : Nat) < 1 by decide)) (Px.of hK hst hA hS hW) hl.1 (Nat.le_of_ble_eq_true rfl) dX1_energy_23) hS (fun r H locs hW hz hS => ?_) (fun x C H locs hp hE hz hS => ?_)
        rotate_left
        · rw [hQ]
          obtain ⟨⟨ho, rfl⟩, D1, hex, hW⟩ := hp
          exact rT_x hlk htab rfl hS hE (Or.inr ⟨⟨hok, by decide, ho, rfl⟩, ⟨ad, D1, _, _, rfl, hW, hag.F hex, hagI, hwo.cg (hex 43 0 rfl) rfl, hNL⟩⟩)
        obtain ⟨ho, D1, hex, hW⟩ := hW
        have hag1 := hag.F hex
        have hwo1 : wOK D1 D0 := hwo.cg (hex 43 0 rfl) rfl
        refine lv_iload_n hx hb dX1_energy_26 rfl (lv_at hl 1 rfl) ?_
        refine lv_if_ne (tgt := 35) hx hb dX1_energy_27 (by decide) (fun h => absurd nI_0 h) (fun _ => ?_)
        refine lv_aload_n hx hb dX1_energy_30 rfl (lv_at hl 0 rfl) ?_
        refine wx_ws (wx_V (As := []) (rest := []) hAt.fix (m_X1_pairEnergy l A Dg dA ad n nb nr 0 J R D1 I D0 hag1 hB hn ho) q689 q691 qs21 q692 wn_X1_pairEnergy ⟨Nat.le_of_ble_eq_true rfl, Nat.le_of_ble_eq_true rfl, Nat.le_of_ble_eq_true rfl, Nat.le_of_ble_eq_true rfl⟩ (w_recv hK hW kX1 rfl (show (0 : Nat) < 1 by decide)) (Pw.of hK hW) hl.1 (Nat.le_of_ble_eq_true rfl) dX1_energy_31) hS (fun r H locs hW hz hS => ?_)
        obtain ⟨rfl, D2, R2, hex2, hW⟩ := hW
        rw [hQ]
        exact rX (rW_d hx hb hr hlk hS (⟨hok, fun _ => ho, rfl, ad, _, _, _, rfl, hW, hag1.F hex2, hagI, hwo1.cg (hex2 43 0 rfl) rfl, hNL⟩) dX1_energy_34)
      · refine lv_iload_n hx hb dX1_energy_17 rfl (lv_at hl 1 rfl) ?_
        refine lv_iconst (v := nI 2) hx hb dX1_energy_18 rfl ?_
        refine lv_nge (tgt := 26) hx hb (by decide) (by decide) dX1_energy_19 (by decide) (fun c => absurd c (by decide)) (fun c => ?_)
        refine lv_aload_n hx hb dX1_energy_22 rfl (lv_at hl 0 rfl) ?_
        refine wx_x (wx_V (As := []) (rest := []) hAt.fix (m_X1_checkOverlap l hfl A Dg dA ad n nb nr 0 J R D I D0 hag hB hn) q685 q687 qs20 q688 wn_X1_checkOverlap ⟨Nat.le_of_ble_eq_true rfl, Nat.le_of_ble_eq_true rfl, Nat.le_of_ble_eq_true rfl, Nat.le_of_ble_eq_true rfl⟩ (w_recv hK hW kX1 rfl (show (0 : Nat) < 1 by decide)) (Px.of hK hst hA hS hW) hl.1 (Nat.le_of_ble_eq_true rfl) dX1_energy_23) hS (fun r H locs hW hz hS => ?_) (fun x C H locs hp hE hz hS => ?_)
        rotate_left
        · rw [hQ]
          obtain ⟨⟨ho, rfl⟩, D1, hex, hW⟩ := hp
          exact rT_x hlk htab rfl hS hE (Or.inr ⟨⟨hok, by decide, ho, rfl⟩, ⟨ad, D1, _, _, rfl, hW, hag.F hex, hagI, hwo.cg (hex 43 0 rfl) rfl, hNL⟩⟩)
        obtain ⟨ho, D1, hex, hW⟩ := hW
        have hag1 := hag.F hex
        have hwo1 : wOK D1 D0 := hwo.cg (hex 43 0 rfl) rfl
        refine lv_iload_n hx hb dX1_energy_26 rfl (lv_at hl 1 rfl) ?_
        refine lv_if_ne (tgt := 35) hx hb dX1_energy_27 (by decide) (fun _ => ?_) (fun h => absurd h (by decide))
        refine lv_dconst0 hx hb dX1_energy_35 ?_
        refine lv_dstore_n (lv' := [(2, .double (FP.dconst0)), (0, .ref (ad 0 0)), (1, .int (nI 1))]) hx hb dX1_energy_36 rfl hl (by decide) rfl (fun ls hl => ?_)
        refine lv_iload_n hx hb dX1_energy_37 rfl (lv_at hl 2 rfl) ?_
        refine lv_iconst (v := nI 1) hx hb dX1_energy_38 rfl ?_
        refine lv_nne (tgt := 107) hx hb (by decide) (by decide) dX1_energy_39 (by decide) (fun c => absurd c (by decide)) (fun c => ?_)
        refine lv_iconst (v := nI 0) hx hb dX1_energy_42 rfl ?_
        refine lv_istore (lv' := [(4, .int (nI 0)), (2, .double (FP.dconst0)), (0, .ref (ad 0 0)), (1, .int (nI 1))]) hx hb dX1_energy_43 hl (by decide) rfl (fun ls hl => ?_)
        refine wl_up nb 0 (fun k H locs ls => ∃ D2 R2, lv_has ls 5 [(4, .int (nI k)), (2, .double (eB D0 J k)), (0, .ref (ad 0 0))] ∧ cW A Dg dA ad n nb nr 0 J R2 D2 I H ∧ va_S A s.heap H locs ∧ exc sF D2 D1) (Nat.zero_le _) ⟨D1, _, lv_sub hl [0, 1, 2] rfl, hW, hS, exc.rf⟩ ?_ ?_
        · intro k H locs ls hi hP ih
          obtain ⟨D2, R2, hl, hW, hS, hex2⟩ := hP
          have hag2 := hag1.F hex2
          have hj2 := hB.j2 hi
          have hj3 := hB.j3 hi
          refine lv_iload hx hb dX1_energy_45 (lv_at hl 0 rfl) ?_
          refine lv_aload_n hx hb dX1_energy_47 rfl (lv_at hl 2 rfl) ?_
          refine g_I (x := nI nb) Z hW kX1 rfl 9 (by decide) q150 (show (0 : Nat) < 1 by decide) rfl hnb dX1_energy_48 ?_
          refine lv_nge (tgt := 104) hx hb (by omega) (by omega) dX1_energy_51 (by decide) (fun c => absurd c (by omega)) (fun c => ?_)
          refine lv_aload_n hx hb dX1_energy_54 rfl (lv_at hl 2 rfl) ?_
          refine lv_aload_n hx hb dX1_energy_55 rfl (lv_at hl 2 rfl) ?_
          refine w_getR (v := .ref (ad 12 0)) Z hW kX1 rfl 6 (by decide) q147 (show (0 : Nat) < 1 by decide) rfl rfl dX1_energy_56 ?_
          refine lv_iload hx hb dX1_energy_59 (lv_at hl 0 rfl) ?_
          refine a_R (j := k) (v := .ref (ad 3 k)) (ix := k) Z hW rfl (show (0 : Nat) < 1 by decide) (by omega) (by decide) rfl rfl rfl rfl (cR_bond (show (k : Nat) < nb by omega)) dX1_energy_61 ?_
          have hj5 := hB.j2 (show (k : Nat) < nb by omega)
          refine w_getR (v := .ref (ad 2 (J 2 k))) Z hW kX7 rfl 0 (by decide) q473 (show (k : Nat) < nb by omega) rfl rfl dX1_energy_62 ?_
          refine lv_aload_n hx hb dX1_energy_65 rfl (lv_at hl 2 rfl) ?_
          refine w_getR (v := .ref (ad 12 0)) Z hW kX1 rfl 6 (by decide) q147 (show (0 : Nat) < 1 by decide) rfl rfl dX1_energy_66 ?_
          refine lv_iload hx hb dX1_energy_69 (lv_at hl 0 rfl) ?_
          refine a_R (j := k) (v := .ref (ad 3 k)) (ix := k) Z hW rfl (show (0 : Nat) < 1 by decide) (by omega) (by decide) rfl rfl rfl rfl (cR_bond (show (k : Nat) < nb by omega)) dX1_energy_71 ?_
          have hj6 := hB.j3 (show (k : Nat) < nb by omega)
          refine w_getR (v := .ref (ad 2 (J 3 k))) Z hW kX7 rfl 1 (by decide) q475 (show (k : Nat) < nb by omega) rfl rfl dX1_energy_72 ?_
          refine wx_wv (wx_V (As := [.ref (ad 2 (J 2 k)), .ref (ad 2 (J 3 k))]) (rest := []) hAt.fix (m_X1_from l A Dg dA ad n nb nr 0 J R2 D2 I D0 hag2 hB (J 2 k) (J 3 k) ((show (J 2 k : Nat) < n by omega)) ((show (J 3 k : Nat) < n by omega))) q228 q230 qs0 q231 wn_X1_from ⟨Nat.le_of_ble_eq_true rfl, Nat.le_of_ble_eq_true rfl, Nat.le_of_ble_eq_true rfl, Nat.le_of_ble_eq_true rfl⟩ (w_recv hK hW kX1 rfl (show (0 : Nat) < 1 by decide)) (Pw.of hK hW) hl.1 (Nat.le_of_ble_eq_true rfl) dX1_energy_75) hS (fun H locs hW hz hS => ?_)
          refine lv_dload_n hx hb dX1_energy_78 rfl (lv_at hl 1 rfl) ?_
          refine lv_aload_n hx hb dX1_energy_79 rfl (lv_at hl 2 rfl) ?_
          refine w_getR (v := .ref (ad 12 0)) Z hW kX1 rfl 6 (by decide) q147 (show (0 : Nat) < 1 by decide) rfl rfl dX1_energy_80 ?_
          refine lv_iload hx hb dX1_energy_83 (lv_at hl 0 rfl) ?_
          refine a_R (j := k) (v := .ref (ad 3 k)) (ix := k) Z hW rfl (show (0 : Nat) < 1 by decide) (by omega) (by decide) rfl rfl rfl rfl (cR_bond (show (k : Nat) < nb by omega)) dX1_energy_85 ?_
          refine lv_aload_n hx hb dX1_energy_86 rfl (lv_at hl 2 rfl) ?_
          refine w_getR (v := .ref (ad 6 0)) Z hW kX1 rfl 12 (by decide) q153 (show (0 : Nat) < 1 by decide) rfl rfl dX1_energy_87 ?_
          refine wx_r (wx_V (As := []) (rest := [.ref (ad 3 k), .double (eB D0 J k)]) hAt.fix (m_X4_square l A Dg dA ad n nb nr 0 J R2 ((up2 (up2 D2 34 0 (wA D0 (J 2 k) (J 3 k))) 35 0 (wB D0 (J 2 k) (J 3 k)))) I 0 ((by decide)) (wA D0 (J 2 k) (J 3 k)) (wB D0 (J 2 k) (J 3 k)) rfl rfl ((wA_fb hB hj2 hj3)) ((wB_fb hB hj2 hj3))) q239 q240 q241 q242 wn_X4_square ⟨Nat.le_of_ble_eq_true rfl, Nat.le_of_ble_eq_true rfl, Nat.le_of_ble_eq_true rfl, Nat.le_of_ble_eq_true rfl⟩ (w_recv hK hW kX4 rfl (show (0 : Nat) < 2 by decide)) (Pw.of hK hW) hl.1 (Nat.le_of_ble_eq_true rfl) dX1_energy_90) (fun r hr => ?_)
          subst hr
          refine wx_r (wx_V (As := [.double (sq (wA D0 (J 2 k) (J 3 k)) (wB D0 (J 2 k) (J 3 k)))]) (rest := [.double (eB D0 J k)]) hAt.fix (m_X7_energy l A Dg dA ad n nb nr 0 J R2 ((up2 (up2 D2 34 0 (wA D0 (J 2 k) (J 3 k))) 35 0 (wB D0 (J 2 k) (J 3 k)))) I D0 ((hag2.up rfl |>.up rfl)) hB k hi (sq (wA D0 (J 2 k) (J 3 k)) (wB D0 (J 2 k) (J 3 k))) ((wR_fb hB hj2 hj3))) q709 q699 q1082 q701 wn_X7_energy ⟨Nat.le_of_ble_eq_true rfl, Nat.le_of_ble_eq_true rfl, Nat.le_of_ble_eq_true rfl, Nat.le_of_ble_eq_true rfl⟩ (w_recv hK hW kX7 rfl (show (k : Nat) < nb by omega)) (Pw.of hK hW) hl.1 (Nat.le_of_ble_eq_true rfl) dX1_energy_93) (fun r hr => ?_)
          subst hr
          have f7 : fb ((100 + (k : Int)) + 1) (FP.dadd (eB D0 J k) (bN D0 k (sq (wA D0 (J 2 k) (J 3 k)) (wB D0 (J 2 k) (J 3 k))))) := fb.add (eB_fb hB k (by omega)) ((bN_fb hB hi (wR_fb hB hj2 hj3)).mono (show (100 : Int) ≤ 100 + (k : Int) by omega)) (by omega)
          refine lv_dadd hx hb dX1_energy_96 f7.n64 ?_
          refine lv_dstore_n (lv' := [(2, .double (FP.dadd (eB D0 J k) (bN D0 k (sq (wA D0 (J 2 k) (J 3 k)) (wB D0 (J 2 k) (J 3 k)))))), (4, .int (nI k)), (0, .ref (ad 0 0))]) hx hb dX1_energy_97 rfl hl (by decide) rfl (fun ls hl => ?_)
          refine lv_iinc1 (lv' := [(4, .int (nI (k + 1))), (2, .double (FP.dadd (eB D0 J k) (bN D0 k (sq (wA D0 (J 2 k) (J 3 k)) (wB D0 (J 2 k) (J 3 k)))))), (0, .ref (ad 0 0))]) hx hb dX1_energy_98 hl (k := 1) rfl (by decide) rfl (fun ls hl => ?_)
          refine lv_goto (tgt := 45) hx hb dX1_energy_101 (by decide) ?_
          exact ih _ _ _ ⟨_, _, lv_sub hl [0, 1, 2] rfl, hW, hS, (hex2.up rfl).up rfl⟩
        · intro H locs ls hP
          obtain ⟨D2, R2, hl, hW, hS, hex2⟩ := hP
          refine lv_iload hx hb dX1_energy_45 (lv_at hl 0 rfl) ?_
          refine lv_aload_n hx hb dX1_energy_47 rfl (lv_at hl 2 rfl) ?_
          refine g_I (x := nI nb) Z hW kX1 rfl 9 (by decide) q150 (show (0 : Nat) < 1 by decide) rfl hnb dX1_energy_48 ?_
          refine lv_nge (tgt := 104) hx hb (by omega) (by omega) dX1_energy_51 (by decide) (fun c => ?_) (fun c => absurd c (by omega))
          refine lv_goto (tgt := 186) hx hb dX1_energy_104 (by decide) ?_
          refine lv_dload_n hx hb dX1_energy_186 rfl (lv_at hl 1 rfl) ?_
          rw [hQ]
          exact rX (rW_d hx hb hr hlk hS (⟨hok, fun _ => ho, rfl, ad, _, _, _, rfl, hW, hag1.F hex2, hagI, hwo1.cg (hex2 43 0 rfl) rfl, hNL⟩) dX1_energy_187)
      · refine lv_iload_n hx hb dX1_energy_17 rfl (lv_at hl 1 rfl) ?_
        refine lv_iconst (v := nI 2) hx hb dX1_energy_18 rfl ?_
        refine lv_nge (tgt := 26) hx hb (by decide) (by decide) dX1_energy_19 (by decide) (fun c => ?_) (fun c => absurd c (by decide))
        refine lv_iload_n hx hb dX1_energy_26 rfl (lv_at hl 1 rfl) ?_
        refine lv_if_ne (tgt := 35) hx hb dX1_energy_27 (by decide) (fun _ => ?_) (fun h => absurd h (by decide))
        refine lv_dconst0 hx hb dX1_energy_35 ?_
        refine lv_dstore_n (lv' := [(2, .double (FP.dconst0)), (0, .ref (ad 0 0)), (1, .int (nI 2))]) hx hb dX1_energy_36 rfl hl (by decide) rfl (fun ls hl => ?_)
        refine lv_iload_n hx hb dX1_energy_37 rfl (lv_at hl 2 rfl) ?_
        refine lv_iconst (v := nI 1) hx hb dX1_energy_38 rfl ?_
        refine lv_nne (tgt := 107) hx hb (by decide) (by decide) dX1_energy_39 (by decide) (fun c => ?_) (fun c => absurd c (by decide))
        refine lv_iconst (v := nI 0) hx hb dX1_energy_107 rfl ?_
        refine lv_istore (lv' := [(4, .int (nI 0)), (2, .double (FP.dconst0)), (0, .ref (ad 0 0)), (1, .int (nI 2))]) hx hb dX1_energy_108 hl (by decide) rfl (fun ls hl => ?_)
        refine wl_up n 0 (fun i H locs ls => lv_has ls 5 [(4, .int (nI i)), (2, .double (eK D0 i)), (0, .ref (ad 0 0))] ∧ cW A Dg dA ad n nb nr 0 J R D I H ∧ va_S A s.heap H locs) (Nat.zero_le _) ⟨lv_sub hl [0, 1, 2] rfl, hW, hS⟩ ?_ ?_
        · intro i H locs ls hi hP ih
          obtain ⟨hl, hW, hS⟩ := hP
          refine lv_iload hx hb dX1_energy_110 (lv_at hl 0 rfl) ?_
          refine lv_aload_n hx hb dX1_energy_112 rfl (lv_at hl 2 rfl) ?_
          refine g_I (x := nI n) Z hW kX1 rfl 8 (by decide) q149 (show (0 : Nat) < 1 by decide) rfl hn dX1_energy_113 ?_
          refine lv_nge (tgt := 186) hx hb (by omega) (by omega) dX1_energy_116 (by decide) (fun c => absurd c (by omega)) (fun c => ?_)
          refine lv_dload_n hx hb dX1_energy_119 rfl (lv_at hl 1 rfl) ?_
          refine lv_ldc2d (v := 4602678819172646912) hx hb hown (hts _ (lw_car_all q69)) dX1_energy_120 ?_
          refine lv_aload_n hx hb dX1_energy_123 rfl (lv_at hl 2 rfl) ?_
          refine w_getR (v := .ref (ad 11 0)) Z hW kX1 rfl 5 (by decide) q146 (show (0 : Nat) < 1 by decide) rfl rfl dX1_energy_124 ?_
          refine lv_iload hx hb dX1_energy_127 (lv_at hl 0 rfl) ?_
          refine a_R (j := i) (v := .ref (ad 2 i)) (ix := i) Z hW rfl (show (0 : Nat) < 1 by decide) (by omega) (by decide) rfl rfl rfl rfl (cR_atom (show (i : Nat) < n by omega)) dX1_energy_129 ?_
          refine g_D (x := D0 4 i) Z hW kX6 rfl 0 (by decide) q369 (show (i : Nat) < n by omega) rfl (hag 4 i rfl) dX1_energy_130 ?_
          have f9 : fb (5) (FP.dmul 4602678819172646912 (D0 4 i)) := fb.mul fc_4602678819172646912 (hB.m (show (i : Nat) < n by omega)) (by decide)
          refine lv_dmul hx hb dX1_energy_133 f9.n64 ?_
          refine lv_aload_n hx hb dX1_energy_134 rfl (lv_at hl 2 rfl) ?_
          refine w_getR (v := .ref (ad 11 0)) Z hW kX1 rfl 5 (by decide) q146 (show (0 : Nat) < 1 by decide) rfl rfl dX1_energy_135 ?_
          refine lv_iload hx hb dX1_energy_138 (lv_at hl 0 rfl) ?_
          refine a_R (j := i) (v := .ref (ad 2 i)) (ix := i) Z hW rfl (show (0 : Nat) < 1 by decide) (by omega) (by decide) rfl rfl rfl rfl (cR_atom (show (i : Nat) < n by omega)) dX1_energy_140 ?_
          refine g_D (x := D0 2 i) Z hW kX6 rfl 5 (by decide) q379 (show (i : Nat) < n by omega) rfl (hag 2 i rfl) dX1_energy_141 ?_
          refine lv_aload_n hx hb dX1_energy_144 rfl (lv_at hl 2 rfl) ?_
          refine w_getR (v := .ref (ad 11 0)) Z hW kX1 rfl 5 (by decide) q146 (show (0 : Nat) < 1 by decide) rfl rfl dX1_energy_145 ?_
          refine lv_iload hx hb dX1_energy_148 (lv_at hl 0 rfl) ?_
          refine a_R (j := i) (v := .ref (ad 2 i)) (ix := i) Z hW rfl (show (0 : Nat) < 1 by decide) (by omega) (by decide) rfl rfl rfl rfl (cR_atom (show (i : Nat) < n by omega)) dX1_energy_150 ?_
          refine g_D (x := D0 2 i) Z hW kX6 rfl 5 (by decide) q379 (show (i : Nat) < n by omega) rfl (hag 2 i rfl) dX1_energy_151 ?_
          have f10 : fb (40) (FP.dmul (D0 2 i) (D0 2 i)) := fb.mul (hI.bu i hi).1 (hI.bu i hi).1 (by decide)
          refine lv_dmul hx hb dX1_energy_154 f10.n64 ?_
          refine lv_aload_n hx hb dX1_energy_155 rfl (lv_at hl 2 rfl) ?_
          refine w_getR (v := .ref (ad 11 0)) Z hW kX1 rfl 5 (by decide) q146 (show (0 : Nat) < 1 by decide) rfl rfl dX1_energy_156 ?_
          refine lv_iload hx hb dX1_energy_159 (lv_at hl 0 rfl) ?_
          refine a_R (j := i) (v := .ref (ad 2 i)) (ix := i) Z hW rfl (show (0 : Nat) < 1 by decide) (by omega) (by decide) rfl rfl rfl rfl (cR_atom (show (i : Nat) < n by omega)) dX1_energy_161 ?_
          refine g_D (x := D0 3 i) Z hW kX6 rfl 6 (by decide) q381 (show (i : Nat) < n by omega) rfl (hag 3 i rfl) dX1_energy_162 ?_
          refine lv_aload_n hx hb dX1_energy_165 rfl (lv_at hl 2 rfl) ?_
          refine w_getR (v := .ref (ad 11 0)) Z hW kX1 rfl 5 (by decide) q146 (show (0 : Nat) < 1 by decide) rfl rfl dX1_energy_166 ?_
          refine lv_iload hx hb dX1_energy_169 (lv_at hl 0 rfl) ?_
          refine a_R (j := i) (v := .ref (ad 2 i)) (ix := i) Z hW rfl (show (0 : Nat) < 1 by decide) (by omega) (by decide) rfl rfl rfl rfl (cR_atom (show (i : Nat) < n by omega)) dX1_energy_171 ?_
          refine g_D (x := D0 3 i) Z hW kX6 rfl 6 (by decide) q381 (show (i : Nat) < n by omega) rfl (hag 3 i rfl) dX1_energy_172 ?_
          have f11 : fb (40) (FP.dmul (D0 3 i) (D0 3 i)) := fb.mul (hI.bu i hi).2 (hI.bu i hi).2 (by decide)
          refine lv_dmul hx hb dX1_energy_175 f11.n64 ?_
          have f12 : fb (41) (FP.dadd (FP.dmul (D0 2 i) (D0 2 i)) (FP.dmul (D0 3 i) (D0 3 i))) := fb.add f10 f11 (by decide)
          refine lv_dadd hx hb dX1_energy_176 f12.n64 ?_
          have f13 : fb (46) (FP.dmul (FP.dmul 4602678819172646912 (D0 4 i)) (FP.dadd (FP.dmul (D0 2 i) (D0 2 i)) (FP.dmul (D0 3 i) (D0 3 i)))) := fb.mul f9 f12 (by decide)
          refine lv_dmul hx hb dX1_energy_177 f13.n64 ?_
          have f14 : fb ((100 + (i : Int)) + 1) (FP.dadd (eK D0 i) (FP.dmul (FP.dmul 4602678819172646912 (D0 4 i)) (FP.dadd (FP.dmul (D0 2 i) (D0 2 i)) (FP.dmul (D0 3 i) (D0 3 i))))) := fb.add (eK_fb hB hI.bu i (by omega)) (f13.mono (show (46 : Int) ≤ 100 + (i : Int) by omega)) (by omega)
          refine lv_dadd hx hb dX1_energy_178 f14.n64 ?_
          refine lv_dstore_n (lv' := [(2, .double (FP.dadd (eK D0 i) (FP.dmul (FP.dmul 4602678819172646912 (D0 4 i)) (FP.dadd (FP.dmul (D0 2 i) (D0 2 i)) (FP.dmul (D0 3 i) (D0 3 i)))))), (4, .int (nI i)), (0, .ref (ad 0 0))]) hx hb dX1_energy_179 rfl hl (by decide) rfl (fun ls hl => ?_)
          refine lv_iinc1 (lv' := [(4, .int (nI (i + 1))), (2, .double (FP.dadd (eK D0 i) (FP.dmul (FP.dmul 4602678819172646912 (D0 4 i)) (FP.dadd (FP.dmul (D0 2 i) (D0 2 i)) (FP.dmul (D0 3 i) (D0 3 i)))))), (0, .ref (ad 0 0))]) hx hb dX1_energy_180 hl (k := 1) rfl (by decide) rfl (fun ls hl => ?_)
          refine lv_goto (tgt := 110) hx hb dX1_energy_183 (by decide) ?_
          exact ih _ _ _ ⟨lv_sub hl [0, 1, 2] rfl, hW, hS⟩
        · intro H locs ls hP
          obtain ⟨hl, hW, hS⟩ := hP
          refine lv_iload hx hb dX1_energy_110 (lv_at hl 0 rfl) ?_
          refine lv_aload_n hx hb dX1_energy_112 rfl (lv_at hl 2 rfl) ?_
          refine g_I (x := nI n) Z hW kX1 rfl 8 (by decide) q149 (show (0 : Nat) < 1 by decide) rfl hn dX1_energy_113 ?_
          refine lv_nge (tgt := 186) hx hb (by omega) (by omega) dX1_energy_116 (by decide) (fun c => ?_) (fun c => absurd c (by omega))
          refine lv_dload_n hx hb dX1_energy_186 rfl (lv_at hl 1 rfl) ?_
          rw [hQ]
          exact rX (rW_d hx hb hr hlk hS (⟨hok, fun q => absurd q (by decide), rfl, ⟨ad, _, _, _, rfl, hW, hag, hagI, hwo, hNL⟩⟩) dX1_energy_187)
set_option maxHeartbeats 4000000 in
theorem m_C_told (l : Launch) (hfl : l.flags = flags0) (A : Nat → Prop) (Dg : va_G) (dA : Nat → ClassId) (x : Nat) (n : Nat) (nb : Nat) (nr : Nat) (J : Jt) (D0 : T64) (I0 : T32) (hI : Inv n nb nr J D0 I0) (k : Int32) (w : Int32) : MX l yX1_told cX1_told 4 (some .double) [] (rmx 9 1 6) [.ref (x), .int (k), .int (w)] (Px A Dg dA (CS A Dg dA x n nb nr J D0 I0)) (qX (fun r : UInt64 => some (.double r)) (fun r H => okTo k n w ∧ r = D0 (tlW (ix w)) (ix k) ∧ CS A Dg dA x n nb nr J D0 I0 H) (fun C H => (¬ okTo k n w ∧ C = "java/lang/IllegalArgumentException") ∧ CS A Dg dA x n nb nr J D0 I0 H) A) 0 0 A := by
  refine MX.start (Nat.le_of_ble_eq_true rfl) ?_
  intro p e s m args below meth c ls Q hAt hPc hl hQ
  have hl : lv_has ls 4 [(0, .ref (x)), (1, .int (k)), (2, .int (w))] := hl
  obtain ⟨hx, hb, hml, hr, hlk, hown, hnm, htab, hts⟩ := id hAt
  obtain ⟨hK, hst, hA, hW⟩ := hPc
  have Z := Cx.of hAt hK
  have hS : va_S A s.heap s.heap [] := va_S.rf
  obtain ⟨ad, D, I, R, rfl, hW, hag, hagI, hwo, hNL⟩ := hW
  have hB := hI.bd
  have hn10 := hB.n10
  have hn : I 20 0 = nI n := (hagI 20 0 rfl).trans hI.cn.1
  refine lv_aload_n hx hb dX1_told_0 rfl (lv_at hl 0 rfl) ?_
  refine lv_iload_n hx hb dX1_told_1 rfl (lv_at hl 1 rfl) ?_
  refine wx_x (wx_V (As := [.int (k)]) (rest := []) hAt.fix (m_X1_at l hfl A Dg dA ad n nb nr 0 J R D I k hn hn10) q432 q434 qs5 q435 wn_X1_at ⟨Nat.le_of_ble_eq_true rfl, Nat.le_of_ble_eq_true rfl, Nat.le_of_ble_eq_true rfl, Nat.le_of_ble_eq_true rfl⟩ (w_recv hK hW kX1 rfl (show (0 : Nat) < 1 by decide)) (Px.of hK hst hA hS hW) hl.1 (Nat.le_of_ble_eq_true rfl) dX1_told_2) hS (fun r H locs hW hz hS => ?_) (fun x C H locs hp hE hz hS => ?_)
  rotate_left
  · rw [hQ]
    obtain ⟨⟨hno, rfl⟩, hW⟩ := hp
    exact rT_x hlk htab rfl hS hE ⟨⟨fun q => hno q.1, rfl⟩, ⟨ad, _, _, _, rfl, hW, hag, hagI, hwo, hNL⟩⟩
  obtain ⟨⟨i, hi, rfl, rfl⟩, hW⟩ := hW
  refine lv_astore_n (lv' := [(3, .ref (ad 2 i)), (0, .ref (ad 0 0)), (1, .int (nI i)), (2, .int (w))]) hx hb dX1_told_5 rfl hl (by decide) rfl (fun ls hl => ?_)
  refine lv_iload_n hx hb dX1_told_6 rfl (lv_at hl 3 rfl) ?_
  refine lv_if_lt (tgt := 19) hx hb dX1_told_7 (by decide) (fun c1 => ?_) (fun c1 => ?_)
  · refine lv_iconst (v := nI 0) hx hb dX1_told_19 rfl ?_
    refine wx_x (wx_S (As := [.int (nI 0)]) (rest := []) hAt.fix (m_X1_check l hfl A Dg dA ((fun H => cW A Dg dA ad n nb nr 0 J R D I H)) gr_W (nI 0)) q271 q272 q45 q273 wn_X1_check ⟨Nat.le_of_ble_eq_true rfl, Nat.le_of_ble_eq_true rfl, Nat.le_of_ble_eq_true rfl, Nat.le_of_ble_eq_true rfl⟩ (Px.of hK hst hA hS hW) hl.1 (Nat.le_of_ble_eq_true rfl) dX1_told_20) hS (fun r H locs hW hz hS => ?_) (fun x C H locs hp hE hz hS => ?_)
    · exact absurd nI_0 hW.1
    · rw [hQ]
      obtain ⟨⟨-, rfl⟩, hW⟩ := hp
      exact rT_x hlk htab rfl hS hE (⟨⟨fun q => q.2.1 c1, rfl⟩, ⟨ad, _, _, _, rfl, hW, hag, hagI, hwo, hNL⟩⟩)
  · refine lv_iload_n hx hb dX1_told_10 rfl (lv_at hl 3 rfl) ?_
    refine lv_iconst (v := nI 5) hx hb dX1_told_11 rfl ?_
    refine lv_icmp_ge (tgt := 19) hx hb dX1_told_12 (by decide) (fun c2 => ?_) (fun c2 => ?_)
    · refine lv_iconst (v := nI 0) hx hb dX1_told_19 rfl ?_
      refine wx_x (wx_S (As := [.int (nI 0)]) (rest := []) hAt.fix (m_X1_check l hfl A Dg dA ((fun H => cW A Dg dA ad n nb nr 0 J R D I H)) gr_W (nI 0)) q271 q272 q45 q273 wn_X1_check ⟨Nat.le_of_ble_eq_true rfl, Nat.le_of_ble_eq_true rfl, Nat.le_of_ble_eq_true rfl, Nat.le_of_ble_eq_true rfl⟩ (Px.of hK hst hA hS hW) hl.1 (Nat.le_of_ble_eq_true rfl) dX1_told_20) hS (fun r H locs hW hz hS => ?_) (fun x C H locs hp hE hz hS => ?_)
      · exact absurd nI_0 hW.1
      · rw [hQ]
        obtain ⟨⟨-, rfl⟩, hW⟩ := hp
        exact rT_x hlk htab rfl hS hE (⟨⟨fun q => q.2.2 c2, rfl⟩, ⟨ad, _, _, _, rfl, hW, hag, hagI, hwo, hNL⟩⟩)
    · refine lv_iconst (v := nI 1) hx hb dX1_told_15 rfl ?_
      refine lv_goto (tgt := 20) hx hb dX1_told_16 (by decide) ?_
      refine wx_x (wx_S (As := [.int (nI 1)]) (rest := []) hAt.fix (m_X1_check l hfl A Dg dA ((fun H => cW A Dg dA ad n nb nr 0 J R D I H)) gr_W (nI 1)) q271 q272 q45 q273 wn_X1_check ⟨Nat.le_of_ble_eq_true rfl, Nat.le_of_ble_eq_true rfl, Nat.le_of_ble_eq_true rfl, Nat.le_of_ble_eq_true rfl⟩ (Px.of hK hst hA hS hW) hl.1 (Nat.le_of_ble_eq_true rfl) dX1_told_20) hS (fun r H locs hW hz hS => ?_) (fun x C H locs hp hE hz hS => ?_)
      rotate_left
      · exact absurd hp.1.1 (by decide)
      replace hW := hW.2
      have hok : okTo (nI i) n w := ⟨⟨i, hi, rfl⟩, c1, c2⟩
      obtain ⟨q, hq, rfl⟩ := okN_of (n := 5) (by omega) hok.2.1 hok.2.2
      have hcs : q = 0 ∨ q = 1 ∨ q = 2 ∨ q = 3 ∨ q = 4 := by omega
      rcases hcs with rfl | rfl | rfl | rfl | rfl
      · refine lv_iload_n hx hb dX1_told_23 rfl (lv_at hl 3 rfl) ?_
        refine lv_tableIn (tgt := 56) hx hb dX1_told_24 (by decide) (by decide) rfl (by decide) ?_
        refine lv_aload_n hx hb dX1_told_56 rfl (lv_at hl 0 rfl) ?_
        refine g_D (x := D0 0 i) Z hW kX6 rfl 3 (by decide) q375 (show (i : Nat) < n by omega) rfl (hag 0 i rfl) dX1_told_57 ?_
        rw [hQ]
        exact rX (rW_d hx hb hr hlk hS (by rw [ix_nI (by omega), ix_nI (by omega)]; exact ⟨hok, rfl, ⟨ad, _, _, _, rfl, hW, hag, hagI, hwo, hNL⟩⟩) dX1_told_60)
      · refine lv_iload_n hx hb dX1_told_23 rfl (lv_at hl 3 rfl) ?_
        refine lv_tableIn (tgt := 61) hx hb dX1_told_24 (by decide) (by decide) rfl (by decide) ?_
        refine lv_aload_n hx hb dX1_told_61 rfl (lv_at hl 0 rfl) ?_
        refine g_D (x := D0 1 i) Z hW kX6 rfl 4 (by decide) q377 (show (i : Nat) < n by omega) rfl (hag 1 i rfl) dX1_told_62 ?_
        rw [hQ]
        exact rX (rW_d hx hb hr hlk hS (by rw [ix_nI (by omega), ix_nI (by omega)]; exact ⟨hok, rfl, ⟨ad, _, _, _, rfl, hW, hag, hagI, hwo, hNL⟩⟩) dX1_told_65)
      · refine lv_iload_n hx hb dX1_told_23 rfl (lv_at hl 3 rfl) ?_
        refine lv_tableIn (tgt := 66) hx hb dX1_told_24 (by decide) (by decide) rfl (by decide) ?_
        refine lv_aload_n hx hb dX1_told_66 rfl (lv_at hl 0 rfl) ?_
        refine g_D (x := D0 2 i) Z hW kX6 rfl 5 (by decide) q379 (show (i : Nat) < n by omega) rfl (hag 2 i rfl) dX1_told_67 ?_
        rw [hQ]
        exact rX (rW_d hx hb hr hlk hS (by rw [ix_nI (by omega), ix_nI (by omega)]; exact ⟨hok, rfl, ⟨ad, _, _, _, rfl, hW, hag, hagI, hwo, hNL⟩⟩) dX1_told_70)
      · refine lv_iload_n hx hb dX1_told_23 rfl (lv_at hl 3 rfl) ?_
        refine lv_tableIn (tgt := 71) hx hb dX1_told_24 (by decide) (by decide) rfl (by decide) ?_
        refine lv_aload_n hx hb dX1_told_71 rfl (lv_at hl 0 rfl) ?_
        refine g_D (x := D0 3 i) Z hW kX6 rfl 6 (by decide) q381 (show (i : Nat) < n by omega) rfl (hag 3 i rfl) dX1_told_72 ?_
        rw [hQ]
        exact rX (rW_d hx hb hr hlk hS (by rw [ix_nI (by omega), ix_nI (by omega)]; exact ⟨hok, rfl, ⟨ad, _, _, _, rfl, hW, hag, hagI, hwo, hNL⟩⟩) dX1_told_75)
      · refine lv_iload_n hx hb dX1_told_23 rfl (lv_at hl 3 rfl) ?_
        refine lv_tableOut (tgt := 76) hx hb dX1_told_24 (by decide) (by decide) ?_
        refine lv_aload_n hx hb dX1_told_76 rfl (lv_at hl 0 rfl) ?_
        refine g_D (x := D0 4 i) Z hW kX6 rfl 0 (by decide) q369 (show (i : Nat) < n by omega) rfl (hag 4 i rfl) dX1_told_77 ?_
        rw [hQ]
        exact rX (rW_d hx hb hr hlk hS (by rw [ix_nI (by omega), ix_nI (by omega)]; exact ⟨hok, rfl, ⟨ad, _, _, _, rfl, hW, hag, hagI, hwo, hNL⟩⟩) dX1_told_80)
set_option maxHeartbeats 4000000 in
theorem m_C_count (l : Launch) (hfl : l.flags = flags0) (A : Nat → Prop) (Dg : va_G) (dA : Nat → ClassId) (x : Nat) (n : Nat) (nb : Nat) (nr : Nat) (J : Jt) (D0 : T64) (I0 : T32) (hI : Inv n nb nr J D0 I0) (w : Int32) : MX l yX1_count cX1_count 2 (some .int) [] (rmx 1 1 6) [.ref (x), .int (w)] (Px A Dg dA (CS A Dg dA x n nb nr J D0 I0)) (qW (fun r : Int32 => some (.int r)) (fun r H => r = cnW I0 w ∧ CS A Dg dA x n nb nr J D0 I0 H) A) 0 0 A := by
  refine MX.start (Nat.le_of_ble_eq_true rfl) ?_
  intro p e s m args below meth c ls Q hAt hPc hl hQ
  have hl : lv_has ls 2 [(0, .ref (x)), (1, .int (w))] := hl
  obtain ⟨hx, hb, hml, hr, hlk, hown, hnm, htab, hts⟩ := id hAt
  obtain ⟨hK, hst, hA, hW⟩ := hPc
  have Z := Cx.of hAt hK
  have hS : va_S A s.heap s.heap [] := va_S.rf
  obtain ⟨ad, D, I, R, rfl, hW, hag, hagI, hwo, hNL⟩ := hW
  have hB := hI.bd
  have hn10 := hB.n10
  have hn : I 20 0 = nI n := (hagI 20 0 rfl).trans hI.cn.1
  rcases pk_ix w (n := 10) (by omega) with hw | hw | ⟨q, hq, rfl⟩
  · refine lv_iload_n hx hb dX1_count_0 rfl (lv_at hl 1 rfl) ?_
    refine lv_tableOut (tgt := 101) hx hb dX1_count_1 (sw_lo hw) (by decide) ?_
    refine lv_iconst (v := -1) hx hb dX1_count_101 (by decide) ?_
    rw [hQ]
    exact rW_i hx hb hr hlk hS (⟨(cnW_lo hw).symm, ⟨ad, _, _, _, rfl, hW, hag, hagI, hwo, hNL⟩⟩) dX1_count_102
  · refine lv_iload_n hx hb dX1_count_0 rfl (lv_at hl 1 rfl) ?_
    refine lv_tableOut (tgt := 101) hx hb dX1_count_1 (sw_hi hw) (by decide) ?_
    refine lv_iconst (v := -1) hx hb dX1_count_101 (by decide) ?_
    rw [hQ]
    exact rW_i hx hb hr hlk hS (⟨(cnW_hi hw).symm, ⟨ad, _, _, _, rfl, hW, hag, hagI, hwo, hNL⟩⟩) dX1_count_102
  · have hcs : q = 0 ∨ q = 1 ∨ q = 2 ∨ q = 3 ∨ q = 4 ∨ q = 5 ∨ q = 6 ∨ q = 7 ∨ q = 8 ∨ q = 9 := by omega
    rcases hcs with rfl | rfl | rfl | rfl | rfl | rfl | rfl | rfl | rfl | rfl
    · refine lv_iload_n hx hb dX1_count_0 rfl (lv_at hl 1 rfl) ?_
      refine lv_tableIn (tgt := 56) hx hb dX1_count_1 (by decide) (by decide) rfl (by decide) ?_
      refine lv_aload_n hx hb dX1_count_56 rfl (lv_at hl 0 rfl) ?_
      refine g_I (x := I0 20 0) Z hW kX1 rfl 8 (by decide) q149 (show (0 : Nat) < 1 by decide) rfl (hagI 20 0 rfl) dX1_count_57 ?_
      rw [hQ]
      exact rW_i hx hb hr hlk hS (⟨rfl, ⟨ad, _, _, _, rfl, hW, hag, hagI, hwo, hNL⟩⟩) dX1_count_60
    · refine lv_iload_n hx hb dX1_count_0 rfl (lv_at hl 1 rfl) ?_
      refine lv_tableIn (tgt := 61) hx hb dX1_count_1 (by decide) (by decide) rfl (by decide) ?_
      refine lv_aload_n hx hb dX1_count_61 rfl (lv_at hl 0 rfl) ?_
      refine g_I (x := I0 21 0) Z hW kX1 rfl 9 (by decide) q150 (show (0 : Nat) < 1 by decide) rfl (hagI 21 0 rfl) dX1_count_62 ?_
      rw [hQ]
      exact rW_i hx hb hr hlk hS (⟨rfl, ⟨ad, _, _, _, rfl, hW, hag, hagI, hwo, hNL⟩⟩) dX1_count_65
    · refine lv_iload_n hx hb dX1_count_0 rfl (lv_at hl 1 rfl) ?_
      refine lv_tableIn (tgt := 66) hx hb dX1_count_1 (by decide) (by decide) rfl (by decide) ?_
      refine lv_aload_n hx hb dX1_count_66 rfl (lv_at hl 0 rfl) ?_
      refine g_I (x := I0 22 0) Z hW kX1 rfl 10 (by decide) q151 (show (0 : Nat) < 1 by decide) rfl (hagI 22 0 rfl) dX1_count_67 ?_
      rw [hQ]
      exact rW_i hx hb hr hlk hS (⟨rfl, ⟨ad, _, _, _, rfl, hW, hag, hagI, hwo, hNL⟩⟩) dX1_count_70
    · refine lv_iload_n hx hb dX1_count_0 rfl (lv_at hl 1 rfl) ?_
      refine lv_tableIn (tgt := 71) hx hb dX1_count_1 (by decide) (by decide) rfl (by decide) ?_
      refine lv_aload_n hx hb dX1_count_71 rfl (lv_at hl 0 rfl) ?_
      refine g_I (x := I0 24 0) Z hW kX1 rfl 19 (by decide) q160 (show (0 : Nat) < 1 by decide) rfl (hagI 24 0 rfl) dX1_count_72 ?_
      rw [hQ]
      exact rW_i hx hb hr hlk hS (⟨rfl, ⟨ad, _, _, _, rfl, hW, hag, hagI, hwo, hNL⟩⟩) dX1_count_75
    · refine lv_iload_n hx hb dX1_count_0 rfl (lv_at hl 1 rfl) ?_
      refine lv_tableIn (tgt := 76) hx hb dX1_count_1 (by decide) (by decide) rfl (by decide) ?_
      refine lv_aload_n hx hb dX1_count_76 rfl (lv_at hl 0 rfl) ?_
      refine g_I (x := I0 25 0) Z hW kX1 rfl 20 (by decide) q161 (show (0 : Nat) < 1 by decide) rfl (hagI 25 0 rfl) dX1_count_77 ?_
      rw [hQ]
      exact rW_i hx hb hr hlk hS (⟨rfl, ⟨ad, _, _, _, rfl, hW, hag, hagI, hwo, hNL⟩⟩) dX1_count_80
    · refine lv_iload_n hx hb dX1_count_0 rfl (lv_at hl 1 rfl) ?_
      refine lv_tableIn (tgt := 81) hx hb dX1_count_1 (by decide) (by decide) rfl (by decide) ?_
      refine lv_aload_n hx hb dX1_count_81 rfl (lv_at hl 0 rfl) ?_
      refine g_I (x := I0 26 0) Z hW kX1 rfl 21 (by decide) q162 (show (0 : Nat) < 1 by decide) rfl (hagI 26 0 rfl) dX1_count_82 ?_
      rw [hQ]
      exact rW_i hx hb hr hlk hS (⟨rfl, ⟨ad, _, _, _, rfl, hW, hag, hagI, hwo, hNL⟩⟩) dX1_count_85
    · refine lv_iload_n hx hb dX1_count_0 rfl (lv_at hl 1 rfl) ?_
      refine lv_tableIn (tgt := 86) hx hb dX1_count_1 (by decide) (by decide) rfl (by decide) ?_
      refine lv_aload_n hx hb dX1_count_86 rfl (lv_at hl 0 rfl) ?_
      refine g_I (x := I0 27 0) Z hW kX1 rfl 22 (by decide) q163 (show (0 : Nat) < 1 by decide) rfl (hagI 27 0 rfl) dX1_count_87 ?_
      rw [hQ]
      exact rW_i hx hb hr hlk hS (⟨rfl, ⟨ad, _, _, _, rfl, hW, hag, hagI, hwo, hNL⟩⟩) dX1_count_90
    · refine lv_iload_n hx hb dX1_count_0 rfl (lv_at hl 1 rfl) ?_
      refine lv_tableIn (tgt := 91) hx hb dX1_count_1 (by decide) (by decide) rfl (by decide) ?_
      refine lv_aload_n hx hb dX1_count_91 rfl (lv_at hl 0 rfl) ?_
      refine w_getR (v := .ref (ad 21 0)) Z hW kX1 rfl 23 (by decide) q164 (show (0 : Nat) < 1 by decide) rfl rfl dX1_count_92 ?_
      refine lv_iload_n hx hb dX1_count_95 rfl (lv_at hl 1 rfl) ?_
      refine lv_bipush (v := nI 7) hx hb dX1_count_96 rfl ?_
      refine lv_isub hx hb dX1_count_98 ?_
      rw [show nI 7 - nI 7 = nI 0 from by decide]
      refine a_I (j := 0) (x := I0 28 0) (ix := 0) Z hW rfl (show (0 : Nat) < 1 by decide) (by decide) (by decide) rfl rfl (hagI 28 0 rfl) dX1_count_99 ?_
      rw [hQ]
      exact rW_i hx hb hr hlk hS (⟨rfl, ⟨ad, _, _, _, rfl, hW, hag, hagI, hwo, hNL⟩⟩) dX1_count_100
    · refine lv_iload_n hx hb dX1_count_0 rfl (lv_at hl 1 rfl) ?_
      refine lv_tableIn (tgt := 91) hx hb dX1_count_1 (by decide) (by decide) rfl (by decide) ?_
      refine lv_aload_n hx hb dX1_count_91 rfl (lv_at hl 0 rfl) ?_
      refine w_getR (v := .ref (ad 21 0)) Z hW kX1 rfl 23 (by decide) q164 (show (0 : Nat) < 1 by decide) rfl rfl dX1_count_92 ?_
      refine lv_iload_n hx hb dX1_count_95 rfl (lv_at hl 1 rfl) ?_
      refine lv_bipush (v := nI 7) hx hb dX1_count_96 rfl ?_
      refine lv_isub hx hb dX1_count_98 ?_
      rw [show nI 8 - nI 7 = nI 1 from by decide]
      refine a_I (j := 1) (x := I0 28 1) (ix := 1) Z hW rfl (show (0 : Nat) < 1 by decide) (by decide) (by decide) rfl rfl (hagI 28 1 rfl) dX1_count_99 ?_
      rw [hQ]
      exact rW_i hx hb hr hlk hS (⟨rfl, ⟨ad, _, _, _, rfl, hW, hag, hagI, hwo, hNL⟩⟩) dX1_count_100
    · refine lv_iload_n hx hb dX1_count_0 rfl (lv_at hl 1 rfl) ?_
      refine lv_tableIn (tgt := 91) hx hb dX1_count_1 (by decide) (by decide) rfl (by decide) ?_
      refine lv_aload_n hx hb dX1_count_91 rfl (lv_at hl 0 rfl) ?_
      refine w_getR (v := .ref (ad 21 0)) Z hW kX1 rfl 23 (by decide) q164 (show (0 : Nat) < 1 by decide) rfl rfl dX1_count_92 ?_
      refine lv_iload_n hx hb dX1_count_95 rfl (lv_at hl 1 rfl) ?_
      refine lv_bipush (v := nI 7) hx hb dX1_count_96 rfl ?_
      refine lv_isub hx hb dX1_count_98 ?_
      rw [show nI 9 - nI 7 = nI 2 from by decide]
      refine a_I (j := 2) (x := I0 28 2) (ix := 2) Z hW rfl (show (0 : Nat) < 1 by decide) (by decide) (by decide) rfl rfl (hagI 28 2 rfl) dX1_count_99 ?_
      rw [hQ]
      exact rW_i hx hb hr hlk hS (⟨rfl, ⟨ad, _, _, _, rfl, hW, hag, hagI, hwo, hNL⟩⟩) dX1_count_100
set_option maxHeartbeats 4000000 in
theorem m_C_bin (l : Launch) (hfl : l.flags = flags0) (A : Nat → Prop) (Dg : va_G) (dA : Nat → ClassId) (x : Nat) (n : Nat) (nb : Nat) (nr : Nat) (J : Jt) (D0 : T64) (I0 : T32) (hI : Inv n nb nr J D0 I0) (a : Int32) (b : Int32) (k : Int32) : MX l yX1_bin cX1_bin 4 (some .int) [] (rmx 9 1 6) [.ref (x), .int (a), .int (b), .int (k)] (Px A Dg dA (CS A Dg dA x n nb nr J D0 I0)) (qX (fun r : Int32 => some (.int r)) (fun r H => okBi a b k ∧ r = I0 6 (ix k + 16 * clN (ix a) (ix b)) ∧ CS A Dg dA x n nb nr J D0 I0 H) (fun C H => (¬ okBi a b k ∧ C = "java/lang/IllegalArgumentException") ∧ CS A Dg dA x n nb nr J D0 I0 H) A) 0 0 A := by
  refine MX.start (Nat.le_of_ble_eq_true rfl) ?_
  intro p e s m args below meth c ls Q hAt hPc hl hQ
  have hl : lv_has ls 4 [(0, .ref (x)), (1, .int (a)), (2, .int (b)), (3, .int (k))] := hl
  obtain ⟨hx, hb, hml, hr, hlk, hown, hnm, htab, hts⟩ := id hAt
  obtain ⟨hK, hst, hA, hW⟩ := hPc
  have Z := Cx.of hAt hK
  have hS : va_S A s.heap s.heap [] := va_S.rf
  obtain ⟨ad, D, I, R, rfl, hW, hag, hagI, hwo, hNL⟩ := hW
  have hB := hI.bd
  have hn10 := hB.n10
  have hn : I 20 0 = nI n := (hagI 20 0 rfl).trans hI.cn.1
  refine lv_iload_n hx hb dX1_bin_0 rfl (lv_at hl 1 rfl) ?_
  refine lv_if_lt (tgt := 32) hx hb dX1_bin_1 (by decide) (fun c1 => ?_) (fun c1 => ?_)
  · refine lv_iconst (v := nI 0) hx hb dX1_bin_32 rfl ?_
    refine wx_x (wx_S (As := [.int (nI 0)]) (rest := []) hAt.fix (m_X1_check l hfl A Dg dA ((fun H => cW A Dg dA ad n nb nr 0 J R D I H)) gr_W (nI 0)) q271 q272 q45 q273 wn_X1_check ⟨Nat.le_of_ble_eq_true rfl, Nat.le_of_ble_eq_true rfl, Nat.le_of_ble_eq_true rfl, Nat.le_of_ble_eq_true rfl⟩ (Px.of hK hst hA hS hW) hl.1 (Nat.le_of_ble_eq_true rfl) dX1_bin_33) hS (fun r H locs hW hz hS => ?_) (fun x C H locs hp hE hz hS => ?_)
    · exact absurd nI_0 hW.1
    · rw [hQ]
      obtain ⟨⟨-, rfl⟩, hW⟩ := hp
      exact rT_x hlk htab rfl hS hE (⟨⟨fun q => q.1.1 c1, rfl⟩, ⟨ad, _, _, _, rfl, hW, hag, hagI, hwo, hNL⟩⟩)
  · refine lv_iload_n hx hb dX1_bin_4 rfl (lv_at hl 1 rfl) ?_
    refine lv_iconst (v := nI 3) hx hb dX1_bin_5 rfl ?_
    refine lv_icmp_ge (tgt := 32) hx hb dX1_bin_6 (by decide) (fun c2 => ?_) (fun c2 => ?_)
    · refine lv_iconst (v := nI 0) hx hb dX1_bin_32 rfl ?_
      refine wx_x (wx_S (As := [.int (nI 0)]) (rest := []) hAt.fix (m_X1_check l hfl A Dg dA ((fun H => cW A Dg dA ad n nb nr 0 J R D I H)) gr_W (nI 0)) q271 q272 q45 q273 wn_X1_check ⟨Nat.le_of_ble_eq_true rfl, Nat.le_of_ble_eq_true rfl, Nat.le_of_ble_eq_true rfl, Nat.le_of_ble_eq_true rfl⟩ (Px.of hK hst hA hS hW) hl.1 (Nat.le_of_ble_eq_true rfl) dX1_bin_33) hS (fun r H locs hW hz hS => ?_) (fun x C H locs hp hE hz hS => ?_)
      · exact absurd nI_0 hW.1
      · rw [hQ]
        obtain ⟨⟨-, rfl⟩, hW⟩ := hp
        exact rT_x hlk htab rfl hS hE (⟨⟨fun q => q.1.2 c2, rfl⟩, ⟨ad, _, _, _, rfl, hW, hag, hagI, hwo, hNL⟩⟩)
    · refine lv_iload_n hx hb dX1_bin_9 rfl (lv_at hl 2 rfl) ?_
      refine lv_if_lt (tgt := 32) hx hb dX1_bin_10 (by decide) (fun c3 => ?_) (fun c3 => ?_)
      · refine lv_iconst (v := nI 0) hx hb dX1_bin_32 rfl ?_
        refine wx_x (wx_S (As := [.int (nI 0)]) (rest := []) hAt.fix (m_X1_check l hfl A Dg dA ((fun H => cW A Dg dA ad n nb nr 0 J R D I H)) gr_W (nI 0)) q271 q272 q45 q273 wn_X1_check ⟨Nat.le_of_ble_eq_true rfl, Nat.le_of_ble_eq_true rfl, Nat.le_of_ble_eq_true rfl, Nat.le_of_ble_eq_true rfl⟩ (Px.of hK hst hA hS hW) hl.1 (Nat.le_of_ble_eq_true rfl) dX1_bin_33) hS (fun r H locs hW hz hS => ?_) (fun x C H locs hp hE hz hS => ?_)
        · exact absurd nI_0 hW.1
        · rw [hQ]
          obtain ⟨⟨-, rfl⟩, hW⟩ := hp
          exact rT_x hlk htab rfl hS hE (⟨⟨fun q => q.2.1.1 c3, rfl⟩, ⟨ad, _, _, _, rfl, hW, hag, hagI, hwo, hNL⟩⟩)
      · refine lv_iload_n hx hb dX1_bin_13 rfl (lv_at hl 2 rfl) ?_
        refine lv_iconst (v := nI 3) hx hb dX1_bin_14 rfl ?_
        refine lv_icmp_ge (tgt := 32) hx hb dX1_bin_15 (by decide) (fun c4 => ?_) (fun c4 => ?_)
        · refine lv_iconst (v := nI 0) hx hb dX1_bin_32 rfl ?_
          refine wx_x (wx_S (As := [.int (nI 0)]) (rest := []) hAt.fix (m_X1_check l hfl A Dg dA ((fun H => cW A Dg dA ad n nb nr 0 J R D I H)) gr_W (nI 0)) q271 q272 q45 q273 wn_X1_check ⟨Nat.le_of_ble_eq_true rfl, Nat.le_of_ble_eq_true rfl, Nat.le_of_ble_eq_true rfl, Nat.le_of_ble_eq_true rfl⟩ (Px.of hK hst hA hS hW) hl.1 (Nat.le_of_ble_eq_true rfl) dX1_bin_33) hS (fun r H locs hW hz hS => ?_) (fun x C H locs hp hE hz hS => ?_)
          · exact absurd nI_0 hW.1
          · rw [hQ]
            obtain ⟨⟨-, rfl⟩, hW⟩ := hp
            exact rT_x hlk htab rfl hS hE (⟨⟨fun q => q.2.1.2 c4, rfl⟩, ⟨ad, _, _, _, rfl, hW, hag, hagI, hwo, hNL⟩⟩)
        · refine lv_iload_n hx hb dX1_bin_18 rfl (lv_at hl 3 rfl) ?_
          refine lv_if_lt (tgt := 32) hx hb dX1_bin_19 (by decide) (fun c5 => ?_) (fun c5 => ?_)
          · refine lv_iconst (v := nI 0) hx hb dX1_bin_32 rfl ?_
            refine wx_x (wx_S (As := [.int (nI 0)]) (rest := []) hAt.fix (m_X1_check l hfl A Dg dA ((fun H => cW A Dg dA ad n nb nr 0 J R D I H)) gr_W (nI 0)) q271 q272 q45 q273 wn_X1_check ⟨Nat.le_of_ble_eq_true rfl, Nat.le_of_ble_eq_true rfl, Nat.le_of_ble_eq_true rfl, Nat.le_of_ble_eq_true rfl⟩ (Px.of hK hst hA hS hW) hl.1 (Nat.le_of_ble_eq_true rfl) dX1_bin_33) hS (fun r H locs hW hz hS => ?_) (fun x C H locs hp hE hz hS => ?_)
            · exact absurd nI_0 hW.1
            · rw [hQ]
              obtain ⟨⟨-, rfl⟩, hW⟩ := hp
              exact rT_x hlk htab rfl hS hE (⟨⟨fun q => q.2.2.1 c5, rfl⟩, ⟨ad, _, _, _, rfl, hW, hag, hagI, hwo, hNL⟩⟩)
          · refine lv_iload_n hx hb dX1_bin_22 rfl (lv_at hl 3 rfl) ?_
            refine lv_bipush (v := nI 16) hx hb dX1_bin_23 rfl ?_
            refine lv_icmp_ge (tgt := 32) hx hb dX1_bin_25 (by decide) (fun c6 => ?_) (fun c6 => ?_)
            · refine lv_iconst (v := nI 0) hx hb dX1_bin_32 rfl ?_
              refine wx_x (wx_S (As := [.int (nI 0)]) (rest := []) hAt.fix (m_X1_check l hfl A Dg dA ((fun H => cW A Dg dA ad n nb nr 0 J R D I H)) gr_W (nI 0)) q271 q272 q45 q273 wn_X1_check ⟨Nat.le_of_ble_eq_true rfl, Nat.le_of_ble_eq_true rfl, Nat.le_of_ble_eq_true rfl, Nat.le_of_ble_eq_true rfl⟩ (Px.of hK hst hA hS hW) hl.1 (Nat.le_of_ble_eq_true rfl) dX1_bin_33) hS (fun r H locs hW hz hS => ?_) (fun x C H locs hp hE hz hS => ?_)
              · exact absurd nI_0 hW.1
              · rw [hQ]
                obtain ⟨⟨-, rfl⟩, hW⟩ := hp
                exact rT_x hlk htab rfl hS hE (⟨⟨fun q => q.2.2.2 c6, rfl⟩, ⟨ad, _, _, _, rfl, hW, hag, hagI, hwo, hNL⟩⟩)
            · refine lv_iconst (v := nI 1) hx hb dX1_bin_28 rfl ?_
              refine lv_goto (tgt := 33) hx hb dX1_bin_29 (by decide) ?_
              refine wx_x (wx_S (As := [.int (nI 1)]) (rest := []) hAt.fix (m_X1_check l hfl A Dg dA ((fun H => cW A Dg dA ad n nb nr 0 J R D I H)) gr_W (nI 1)) q271 q272 q45 q273 wn_X1_check ⟨Nat.le_of_ble_eq_true rfl, Nat.le_of_ble_eq_true rfl, Nat.le_of_ble_eq_true rfl, Nat.le_of_ble_eq_true rfl⟩ (Px.of hK hst hA hS hW) hl.1 (Nat.le_of_ble_eq_true rfl) dX1_bin_33) hS (fun r H locs hW hz hS => ?_) (fun x C H locs hp hE hz hS => ?_)
              rotate_left
              · exact absurd hp.1.1 (by decide)
              replace hW := hW.2
              have hok : okBi a b k := ⟨⟨c1, c2⟩, ⟨c3, c4⟩, c5, c6⟩
              obtain ⟨p1, hp1, rfl⟩ := ok3_of hok.1
              obtain ⟨p2, hp2, rfl⟩ := ok3_of hok.2.1
              obtain ⟨p3, hp3, rfl⟩ := okN_of (n := 16) (by omega) hok.2.2.1 hok.2.2.2
              have hcl := clN_lt hp1 hp2
              refine lv_aload_n hx hb dX1_bin_36 rfl (lv_at hl 0 rfl) ?_
              refine w_getR (v := .ref (ad 19 0)) Z hW kX1 rfl 18 (by decide) q159 (show (0 : Nat) < 1 by decide) rfl rfl dX1_bin_37 ?_
              refine lv_iload_n hx hb dX1_bin_40 rfl (lv_at hl 1 rfl) ?_
              refine lv_iload_n hx hb dX1_bin_41 rfl (lv_at hl 2 rfl) ?_
              refine va_mmin hx hb (hml.trans hl.1.symm) hown (hts _ (lw_car_all q134)) (hts _ (lw_car_all q135)) (hts _ (lw_car_all q49)) (hts _ (lw_car_all q136)) (Nat.le_of_ble_eq_true rfl) (Nat.le_of_ble_eq_true rfl) (Nat.le_of_ble_eq_true rfl) (Nat.le_of_ble_eq_true rfl) dX1_bin_42 ?_
              rw [mn_c (by omega) (by omega)]
              refine lv_iconst (v := nI 3) hx hb dX1_bin_45 rfl ?_
              refine lv_imul hx hb dX1_bin_46 ?_
              rw [pk_mul]
              refine lv_iload_n hx hb dX1_bin_47 rfl (lv_at hl 1 rfl) ?_
              refine lv_iload_n hx hb dX1_bin_48 rfl (lv_at hl 2 rfl) ?_
              refine va_mmax hx hb (hml.trans hl.1.symm) hown (hts _ (lw_car_all q137)) (hts _ (lw_car_all q138)) (hts _ (lw_car_all q49)) (hts _ (lw_car_all q139)) (Nat.le_of_ble_eq_true rfl) (Nat.le_of_ble_eq_true rfl) (Nat.le_of_ble_eq_true rfl) (Nat.le_of_ble_eq_true rfl) dX1_bin_49 ?_
              rw [mx_c (by omega) (by omega)]
              refine lv_iadd hx hb dX1_bin_52 ?_
              rw [nI_add]
              rw [show nI ((if p1 < p2 then p1 else p2) * 3 + if p1 < p2 then p2 else p1) = nI (clN p1 p2) from rfl]
              refine a_R (j := (clN p1 p2)) (v := .ref (ad 20 (clN p1 p2))) (ix := clN p1 p2) Z hW rfl (show (0 : Nat) < 1 by decide) (by omega) (by decide) rfl rfl rfl rfl rfl dX1_bin_53 ?_
              refine lv_iload_n hx hb dX1_bin_54 rfl (lv_at hl 3 rfl) ?_
              refine a_I (j := p3) (x := I0 6 (p3 + 16 * (clN p1 p2))) (ix := p3 + 16 * (clN p1 p2)) Z hW rfl (show (clN p1 p2 : Nat) < 9 by omega) (by omega) (by decide) rfl rfl (hagI 6 _ rfl) dX1_bin_55 ?_
              rw [hQ]
              exact rX (rW_i hx hb hr hlk hS (by rw [ix_nI (by omega), ix_nI (by omega), ix_nI (by omega)]; exact ⟨hok, rfl, ⟨ad, _, _, _, rfl, hW, hag, hagI, hwo, hNL⟩⟩) dX1_bin_56)
set_option maxHeartbeats 4000000 in
theorem m_X1_classOf (l : Launch) (A : Nat → Prop) (Dg : va_G) (dA : Nat → ClassId) (ad : Nat → Nat → Nat) (n : Nat) (nb : Nat) (nr : Nat) (no : Nat) (J : Nat → Nat → Nat) (R : Nat → Value) (D : T64) (I : T32) (a : Nat) (b : Nat) (ha : a < 3) (hb3 : b < 3) : MX l yX1_classOf cX1_classOf 6 (some .int) [] (rmx 1 0 0) [.ref (ad 0 0), .ref (ad 1 a), .ref (ad 1 b)] (Pw Dg dA (cW A Dg dA ad n nb nr no J R D I)) (qR Value.int (fun r => r = nI (clN a b))) 0 0 (fun _ => False) := by
  refine MX.start (Nat.le_of_ble_eq_true rfl) ?_
  intro p e s m args below meth c ls Q hAt hPc hl hQ
  have hl : lv_has ls 6 [(0, .ref (ad 0 0)), (1, .ref (ad 1 a)), (2, .ref (ad 1 b))] := hl
  obtain ⟨hx, hb, hml, hr, hlk, hown, hnm, htab, hts⟩ := id hAt
  obtain ⟨hK, hW⟩ := hPc
  have Z := Cx.of hAt hK
  refine lv_iconst (v := nI 0) hx hb dX1_classOf_0 rfl ?_
  refine lv_istore_n (lv' := [(3, .int (nI 0)), (0, .ref (ad 0 0)), (1, .ref (ad 1 a)), (2, .ref (ad 1 b))]) hx hb dX1_classOf_1 rfl hl (by decide) rfl (fun ls hl => ?_)
  refine lv_iconst (v := nI 0) hx hb dX1_classOf_2 rfl ?_
  refine lv_istore (lv' := [(4, .int (nI 0)), (3, .int (nI 0)), (0, .ref (ad 0 0)), (1, .ref (ad 1 a)), (2, .ref (ad 1 b))]) hx hb dX1_classOf_3 hl (by decide) rfl (fun ls hl => ?_)
  refine lv_iconst (v := nI 0) hx hb dX1_classOf_5 rfl ?_
  refine lv_istore (lv' := [(5, .int (nI 0)), (4, .int (nI 0)), (3, .int (nI 0)), (0, .ref (ad 0 0)), (1, .ref (ad 1 a)), (2, .ref (ad 1 b))]) hx hb dX1_classOf_6 hl (by decide) rfl (fun ls hl => ?_)
  have hl : lv_has ls 6 [(5, .int (nI 0)), (3, .int (nI (if a < 0 then a else 0))), (4, .int (nI (if b < 0 then b else 0))), (0, .ref (ad 0 0)), (1, .ref (ad 1 a)), (2, .ref (ad 1 b))] := lv_sub hl [0, 2, 1, 3, 4, 5] rfl
  refine wl_up 3 0 (fun i H locs ls => H = s.heap ∧ locs = [] ∧ lv_has ls 6 [(5, .int (nI i)), (3, .int (nI (if a < i then a else 0))), (4, .int (nI (if b < i then b else 0))), (0, .ref (ad 0 0)), (1, .ref (ad 1 a)), (2, .ref (ad 1 b))]) (Nat.zero_le _) ⟨rfl, rfl, hl⟩ ?_ ?_
  · intro i H locs ls hi hP ih
    obtain ⟨rfl, rfl, hl⟩ := hP
    refine lv_iload hx hb dX1_classOf_8 (lv_at hl 0 rfl) ?_
    refine lv_iconst (v := nI 3) hx hb dX1_classOf_10 rfl ?_
    refine lv_nge (tgt := 49) hx hb (by omega) (by decide) dX1_classOf_11 (by decide) (fun c => absurd c (by omega)) (fun c => ?_)
    refine lv_aload_n hx hb dX1_classOf_14 rfl (lv_at hl 3 rfl) ?_
    refine w_getR (v := .ref (ad 10 0)) Z hW kX1 rfl 4 (by decide) q145 (show (0 : Nat) < 1 by decide) rfl rfl dX1_classOf_15 ?_
    refine lv_iload hx hb dX1_classOf_18 (lv_at hl 0 rfl) ?_
    refine a_R (j := i) (v := .ref (ad 1 i)) (ix := i) Z hW rfl (show (0 : Nat) < 1 by decide) (by omega) (by decide) rfl rfl rfl rfl rfl dX1_classOf_20 ?_
    refine lv_aload_n hx hb dX1_classOf_21 rfl (lv_at hl 4 rfl) ?_
    refine lv_ane (tgt := 28) hx hb dX1_classOf_22 (by decide) (fun c1 => ?_) (fun c1 => ?_)
    · refine lv_aload_n hx hb dX1_classOf_28 rfl (lv_at hl 3 rfl) ?_
      refine w_getR (v := .ref (ad 10 0)) Z hW kX1 rfl 4 (by decide) q145 (show (0 : Nat) < 1 by decide) rfl rfl dX1_classOf_29 ?_
      refine lv_iload hx hb dX1_classOf_32 (lv_at hl 0 rfl) ?_
      refine a_R (j := i) (v := .ref (ad 1 i)) (ix := i) Z hW rfl (show (0 : Nat) < 1 by decide) (by omega) (by decide) rfl rfl rfl rfl rfl dX1_classOf_34 ?_
      refine lv_aload_n hx hb dX1_classOf_35 rfl (lv_at hl 5 rfl) ?_
      refine lv_ane (tgt := 43) hx hb dX1_classOf_36 (by decide) (fun c2 => ?_) (fun c2 => ?_)
      · refine lv_iinc1 (lv' := [(5, .int (nI (i + 1))), (3, .int (nI (if a < i then a else 0))), (4, .int (nI (if b < i then b else 0))), (0, .ref (ad 0 0)), (1, .ref (ad 1 a)), (2, .ref (ad 1 b))]) hx hb dX1_classOf_43 hl (k := 0) rfl (by decide) rfl (fun ls hl => ?_)
        refine lv_goto (tgt := 8) hx hb dX1_classOf_46 (by decide) ?_
        have ea : (if a < i + 1 then a else 0) = if a < i then a else 0 := so_f (fun q => c1 (by rw [q]))
        have eb : (if b < i + 1 then b else 0) = if b < i then b else 0 := so_f (fun q => c2 (by rw [q]))
        have hl : lv_has ls 6 [(5, .int (nI (i + 1))), (3, .int (nI (if a < (i + 1) then a else 0))), (4, .int (nI (if b < (i + 1) then b else 0))), (0, .ref (ad 0 0)), (1, .ref (ad 1 a)), (2, .ref (ad 1 b))] := by rw [ea, eb]; exact lv_sub hl [0, 1, 2, 3, 4, 5] rfl
        exact ih _ _ _ ⟨rfl, rfl, hl⟩
      · refine lv_iload hx hb dX1_classOf_39 (lv_at hl 0 rfl) ?_
        refine lv_istore (lv' := [(4, .int (nI i)), (5, .int (nI i)), (3, .int (nI (if a < i then a else 0))), (0, .ref (ad 0 0)), (1, .ref (ad 1 a)), (2, .ref (ad 1 b))]) hx hb dX1_classOf_41 hl (by decide) rfl (fun ls hl => ?_)
        refine lv_iinc1 (lv' := [(5, .int (nI (i + 1))), (4, .int (nI i)), (3, .int (nI (if a < i then a else 0))), (0, .ref (ad 0 0)), (1, .ref (ad 1 a)), (2, .ref (ad 1 b))]) hx hb dX1_classOf_43 hl (k := 1) rfl (by decide) rfl (fun ls hl => ?_)
        refine lv_goto (tgt := 8) hx hb dX1_classOf_46 (by decide) ?_
        have ea : (if a < i + 1 then a else 0) = if a < i then a else 0 := so_f (fun q => c1 (by rw [q]))
        have eb : (if b < i + 1 then b else 0) = i := so_t (srt_inj hW hi hb3 c2)
        have hl : lv_has ls 6 [(5, .int (nI (i + 1))), (3, .int (nI (if a < (i + 1) then a else 0))), (4, .int (nI (if b < (i + 1) then b else 0))), (0, .ref (ad 0 0)), (1, .ref (ad 1 a)), (2, .ref (ad 1 b))] := by rw [ea, eb]; exact lv_sub hl [0, 2, 1, 3, 4, 5] rfl
        exact ih _ _ _ ⟨rfl, rfl, hl⟩
    · refine lv_iload hx hb dX1_classOf_25 (lv_at hl 0 rfl) ?_
      refine lv_istore_n (lv' := [(3, .int (nI i)), (5, .int (nI i)), (4, .int (nI (if b < i then b else 0))), (0, .ref (ad 0 0)), (1, .ref (ad 1 a)), (2, .ref (ad 1 b))]) hx hb dX1_classOf_27 rfl hl (by decide) rfl (fun ls hl => ?_)
      refine lv_aload_n hx hb dX1_classOf_28 rfl (lv_at hl 3 rfl) ?_
      refine w_getR (v := .ref (ad 10 0)) Z hW kX1 rfl 4 (by decide) q145 (show (0 : Nat) < 1 by decide) rfl rfl dX1_classOf_29 ?_
      refine lv_iload hx hb dX1_classOf_32 (lv_at hl 1 rfl) ?_
      refine a_R (j := i) (v := .ref (ad 1 i)) (ix := i) Z hW rfl (show (0 : Nat) < 1 by decide) (by omega) (by decide) rfl rfl rfl rfl rfl dX1_classOf_34 ?_
      refine lv_aload_n hx hb dX1_classOf_35 rfl (lv_at hl 5 rfl) ?_
      refine lv_ane (tgt := 43) hx hb dX1_classOf_36 (by decide) (fun c3 => ?_) (fun c3 => ?_)
      · refine lv_iinc1 (lv' := [(5, .int (nI (i + 1))), (3, .int (nI i)), (4, .int (nI (if b < i then b else 0))), (0, .ref (ad 0 0)), (1, .ref (ad 1 a)), (2, .ref (ad 1 b))]) hx hb dX1_classOf_43 hl (k := 1) rfl (by decide) rfl (fun ls hl => ?_)
        refine lv_goto (tgt := 8) hx hb dX1_classOf_46 (by decide) ?_
        have ea : (if a < i + 1 then a else 0) = i := so_t (srt_inj hW hi ha c1)
        have eb : (if b < i + 1 then b else 0) = if b < i then b else 0 := so_f (fun q => c3 (by rw [q]))
        have hl : lv_has ls 6 [(5, .int (nI (i + 1))), (3, .int (nI (if a < (i + 1) then a else 0))), (4, .int (nI (if b < (i + 1) then b else 0))), (0, .ref (ad 0 0)), (1, .ref (ad 1 a)), (2, .ref (ad 1 b))] := by rw [ea, eb]; exact lv_sub hl [0, 1, 2, 3, 4, 5] rfl
        exact ih _ _ _ ⟨rfl, rfl, hl⟩
      · refine lv_iload hx hb dX1_classOf_39 (lv_at hl 1 rfl) ?_
        refine lv_istore (lv' := [(4, .int (nI i)), (3, .int (nI i)), (5, .int (nI i)), (0, .ref (ad 0 0)), (1, .ref (ad 1 a)), (2, .ref (ad 1 b))]) hx hb dX1_classOf_41 hl (by decide) rfl (fun ls hl => ?_)
        refine lv_iinc1 (lv' := [(5, .int (nI (i + 1))), (4, .int (nI i)), (3, .int (nI i)), (0, .ref (ad 0 0)), (1, .ref (ad 1 a)), (2, .ref (ad 1 b))]) hx hb dX1_classOf_43 hl (k := 2) rfl (by decide) rfl (fun ls hl => ?_)
        refine lv_goto (tgt := 8) hx hb dX1_classOf_46 (by decide) ?_
        have ea : (if a < i + 1 then a else 0) = i := so_t (srt_inj hW hi ha c1)
        have eb : (if b < i + 1 then b else 0) = i := so_t (srt_inj hW hi hb3 c3)
        have hl : lv_has ls 6 [(5, .int (nI (i + 1))), (3, .int (nI (if a < (i + 1) then a else 0))), (4, .int (nI (if b < (i + 1) then b else 0))), (0, .ref (ad 0 0)), (1, .ref (ad 1 a)), (2, .ref (ad 1 b))] := by rw [ea, eb]; exact lv_sub hl [0, 2, 1, 3, 4, 5] rfl
        exact ih _ _ _ ⟨rfl, rfl, hl⟩
  · intro H locs ls hP
    obtain ⟨rfl, rfl, hl⟩ := hP
    rw [if_pos ha, if_pos hb3] at hl
    refine lv_iload hx hb dX1_classOf_8 (lv_at hl 0 rfl) ?_
    refine lv_iconst (v := nI 3) hx hb dX1_classOf_10 rfl ?_
    refine lv_nge (tgt := 49) hx hb (by decide) (by decide) dX1_classOf_11 (by decide) (fun c => ?_) (fun c => absurd c (by decide))
    refine lv_iload_n hx hb dX1_classOf_49 rfl (lv_at hl 1 rfl) ?_
    refine lv_iload hx hb dX1_classOf_50 (lv_at hl 2 rfl) ?_
    refine va_mmin hx hb (hml.trans hl.1.symm) hown (hts _ (lw_car_all q134)) (hts _ (lw_car_all q135)) (hts _ (lw_car_all q49)) (hts _ (lw_car_all q136)) (Nat.le_of_ble_eq_true rfl) (Nat.le_of_ble_eq_true rfl) (Nat.le_of_ble_eq_true rfl) (Nat.le_of_ble_eq_true rfl) dX1_classOf_52 ?_
    rw [mn_c (by omega) (by omega)]
    refine lv_iconst (v := nI 3) hx hb dX1_classOf_55 rfl ?_
    refine lv_imul hx hb dX1_classOf_56 ?_
    rw [pk_mul]
    refine lv_iload_n hx hb dX1_classOf_57 rfl (lv_at hl 1 rfl) ?_
    refine lv_iload hx hb dX1_classOf_58 (lv_at hl 2 rfl) ?_
    refine va_mmax hx hb (hml.trans hl.1.symm) hown (hts _ (lw_car_all q137)) (hts _ (lw_car_all q138)) (hts _ (lw_car_all q49)) (hts _ (lw_car_all q139)) (Nat.le_of_ble_eq_true rfl) (Nat.le_of_ble_eq_true rfl) (Nat.le_of_ble_eq_true rfl) (Nat.le_of_ble_eq_true rfl) dX1_classOf_60 ?_
    rw [mx_c (by omega) (by omega)]
    refine lv_iadd hx hb dX1_classOf_63 ?_
    rw [nI_add]
    rw [show nI ((if a < b then a else b) * 3 + if a < b then b else a) = nI (clN a b) from rfl]
    rw [hQ]
    exact rR_i hx hb hr hlk rfl dX1_classOf_64
set_option maxHeartbeats 4000000 in
theorem m_C_sample (l : Launch) (hfl : l.flags = flags0) (A : Nat → Prop) (Dg : va_G) (dA : Nat → ClassId) (x : Nat) (n : Nat) (nb : Nat) (nr : Nat) (J : Jt) (D0 : T64) (I0 : T32) (hI : Inv n nb nr J D0 I0) : MX l yX1_sample cX1_sample 5 (some .int) [] (rmx 4 1 6) [.ref (x)] (Px A Dg dA (CS A Dg dA x n nb nr J D0 I0)) (qW (fun r : Int32 => some (.int r)) (fun r H => r = nI (smS D0 J n I0 n).2 ∧ CS A Dg dA x n nb nr J D0 ((up2 (smS D0 J n I0 n).1 27 0 (I0 27 0 + nI 1))) H) A) 0 0 A := by
  refine MX.start (Nat.le_of_ble_eq_true rfl) ?_
  intro p e s m args below meth c ls Q hAt hPc hl hQ
  have hl : lv_has ls 5 [(0, .ref (x))] := hl
  obtain ⟨hx, hb, hml, hr, hlk, hown, hnm, htab, hts⟩ := id hAt
  obtain ⟨hK, hst, hA, hW⟩ := hPc
  have Z := Cx.of hAt hK
  have hS : va_S A s.heap s.heap [] := va_S.rf
  obtain ⟨ad, D, I, R, rfl, hW, hag, hagI, hwo, hNL⟩ := hW
  have hB := hI.bd
  have hn10 := hB.n10
  have hn : I 20 0 = nI n := (hagI 20 0 rfl).trans hI.cn.1
  refine lv_iconst (v := nI 0) hx hb dX1_sample_0 rfl ?_
  refine lv_istore_n (lv' := [(1, .int (nI 0)), (0, .ref (ad 0 0))]) hx hb dX1_sample_1 rfl hl (by decide) rfl (fun ls hl => ?_)
  refine lv_iconst (v := nI 0) hx hb dX1_sample_2 rfl ?_
  refine lv_istore_n (lv' := [(2, .int (nI 0)), (1, .int (nI 0)), (0, .ref (ad 0 0))]) hx hb dX1_sample_3 rfl hl (by decide) rfl (fun ls hl => ?_)
  refine wl_up n 0 (fun i H locs ls => ∃ D1, lv_has ls 5 [(2, .int (nI i)), (1, .int (nI (smS D0 J n I i).2)), (0, .ref (ad 0 0))] ∧ cW A Dg dA ad n nb nr 0 J R D1 ((smS D0 J n I i).1) H ∧ va_S A s.heap H locs ∧ exc sF D1 D) (Nat.zero_le _) ⟨D, lv_sub hl [0, 1, 2] rfl, hW, hS, exc.rf⟩ ?_ ?_
  · intro i H locs ls hi hP ih
    obtain ⟨D1, hl, hW, hS, hex⟩ := hP
    refine lv_iload_n hx hb dX1_sample_4 rfl (lv_at hl 0 rfl) ?_
    refine lv_aload_n hx hb dX1_sample_5 rfl (lv_at hl 2 rfl) ?_
    refine g_I (x := nI n) Z hW kX1 rfl 8 (by decide) q149 (show (0 : Nat) < 1 by decide) rfl (((smS_ex i) 20 0 rfl).trans hn) dX1_sample_6 ?_
    refine lv_nge (tgt := 138) hx hb (by omega) (by omega) dX1_sample_9 (by decide) (fun c => absurd c (by omega)) (fun c => ?_)
    refine lv_iload_n hx hb dX1_sample_12 rfl (lv_at hl 0 rfl) ?_
    refine lv_iconst (v := nI 1) hx hb dX1_sample_13 rfl ?_
    refine lv_iadd hx hb dX1_sample_14 ?_
    rw [nI_add]
    refine lv_istore_n (lv' := [(3, .int (nI (i + 1))), (2, .int (nI i)), (1, .int (nI (smS D0 J n I i).2)), (0, .ref (ad 0 0))]) hx hb dX1_sample_15 rfl hl (by decide) rfl (fun ls hl => ?_)
    have ih0 := ih
    have hi0 := hi
    have hlo := (smI_lo (i + 1) (Nat.le_refl _) : smI D0 J i (smS D0 J n I i) (i + 1) = _)
    have hl : lv_has ls 5 [(3, .int (nI (i + 1))), (2, .int (nI i)), (1, .int (nI (smI D0 J i (smS D0 J n I i) (i + 1)).2)), (0, .ref (ad 0 0))] := by rw [hlo]; exact lv_sub hl [0, 1, 2, 3] rfl
    refine wl_up n ((i + 1)) (fun j H locs ls => i < j ∧ ∃ D1, lv_has ls 5 [(3, .int (nI j)), (2, .int (nI i)), (1, .int (nI (smI D0 J i (smS D0 J n I i) j).2)), (0, .ref (ad 0 0))] ∧ cW A Dg dA ad n nb nr 0 J R D1 ((smI D0 J i (smS D0 J n I i) j).1) H ∧ va_S A s.heap H locs ∧ exc sF D1 D) (by omega) ⟨by omega, D1, hl, by rw [hlo]; exact hW, hS, hex⟩ ?_ ?_
    · intro j H locs ls hi hP ih
      obtain ⟨hij, D1, hl, hW, hS, hex⟩ := hP
      have hj := hi
      replace hi := hi0
      have hag1 := hag.F hex
      have hcl := clN_lt (hB.j0 hi) (hB.j0 hj)
      obtain ⟨z1, z2⟩ := zq_b hB hi hj
      have hbk := bnk_le (z := zq D0 i j)
      refine lv_iload_n hx hb dX1_sample_16 rfl (lv_at hl 0 rfl) ?_
      refine lv_aload_n hx hb dX1_sample_17 rfl (lv_at hl 3 rfl) ?_
      refine g_I (x := nI n) Z hW kX1 rfl 8 (by decide) q149 (show (0 : Nat) < 1 by decide) rfl ((((smI_ex j).trans (smS_ex i)) 20 0 rfl).trans hn) dX1_sample_18 ?_
      refine lv_nge (tgt := 132) hx hb (by omega) (by omega) dX1_sample_21 (by decide) (fun c => absurd c (by omega)) (fun c => ?_)
      refine lv_aload_n hx hb dX1_sample_24 rfl (lv_at hl 3 rfl) ?_
      refine lv_aload_n hx hb dX1_sample_25 rfl (lv_at hl 3 rfl) ?_
      refine w_getR (v := .ref (ad 11 0)) Z hW kX1 rfl 5 (by decide) q146 (show (0 : Nat) < 1 by decide) rfl rfl dX1_sample_26 ?_
      refine lv_iload_n hx hb dX1_sample_29 rfl (lv_at hl 1 rfl) ?_
      refine a_R (j := i) (v := .ref (ad 2 i)) (ix := i) Z hW rfl (show (0 : Nat) < 1 by decide) (by omega) (by decide) rfl rfl rfl rfl (cR_atom (show (i : Nat) < n by omega)) dX1_sample_30 ?_
      refine lv_aload_n hx hb dX1_sample_31 rfl (lv_at hl 3 rfl) ?_
      refine w_getR (v := .ref (ad 11 0)) Z hW kX1 rfl 5 (by decide) q146 (show (0 : Nat) < 1 by decide) rfl rfl dX1_sample_32 ?_
      refine lv_iload_n hx hb dX1_sample_35 rfl (lv_at hl 0 rfl) ?_
      refine a_R (j := j) (v := .ref (ad 2 j)) (ix := j) Z hW rfl (show (0 : Nat) < 1 by decide) (by omega) (by decide) rfl rfl rfl rfl (cR_atom (show (j : Nat) < n by omega)) dX1_sample_36 ?_
      refine wx_wv (wx_V (As := [.ref (ad 2 i), .ref (ad 2 j)]) (rest := []) hAt.fix (m_X1_from l A Dg dA ad n nb nr 0 J R D1 ((smI D0 J i (smS D0 J n I i) j).1) D0 hag1 hB i j ((show (i : Nat) < n by omega)) ((show (j : Nat) < n by omega))) q228 q230 qs0 q231 wn_X1_from ⟨Nat.le_of_ble_eq_true rfl, Nat.le_of_ble_eq_true rfl, Nat.le_of_ble_eq_true rfl, Nat.le_of_ble_eq_true rfl⟩ (w_recv hK hW kX1 rfl (show (0 : Nat) < 1 by decide)) (Pw.of hK hW) hl.1 (Nat.le_of_ble_eq_true rfl) dX1_sample_37) hS (fun H locs hW hz hS => ?_)
      refine lv_aload_n hx hb dX1_sample_40 rfl (lv_at hl 3 rfl) ?_
      refine w_getR (v := .ref (ad 6 0)) Z hW kX1 rfl 12 (by decide) q153 (show (0 : Nat) < 1 by decide) rfl rfl dX1_sample_41 ?_
      refine wx_r (wx_V (As := []) (rest := []) hAt.fix (m_X4_square l A Dg dA ad n nb nr 0 J R ((up2 (up2 D1 34 0 (wA D0 i j)) 35 0 (wB D0 i j))) ((smI D0 J i (smS D0 J n I i) j).1) 0 ((by decide)) (wA D0 i j) (wB D0 i j) rfl rfl ((wA_fb hB hi hj)) ((wB_fb hB hi hj))) q239 q240 q241 q242 wn_X4_square ⟨Nat.le_of_ble_eq_true rfl, Nat.le_of_ble_eq_true rfl, Nat.le_of_ble_eq_true rfl, Nat.le_of_ble_eq_true rfl⟩ (w_recv hK hW kX4 rfl (show (0 : Nat) < 2 by decide)) (Pw.of hK hW) hl.1 (Nat.le_of_ble_eq_true rfl) dX1_sample_44) (fun r hr => ?_)
      subst hr
      refine lv_aload_n hx hb dX1_sample_47 rfl (lv_at hl 3 rfl) ?_
      refine g_D (x := D0 21 0) Z hW kX1 rfl 1 (by decide) q142 (show (0 : Nat) < 1 by decide) rfl ((up2_f _ _ _ _ (by decide)).trans ((up2_f _ _ _ _ (by decide)).trans (hag1 21 0 rfl))) dX1_sample_48 ?_
      refine lv_aload_n hx hb dX1_sample_51 rfl (lv_at hl 3 rfl) ?_
      refine g_D (x := D0 21 0) Z hW kX1 rfl 1 (by decide) q142 (show (0 : Nat) < 1 by decide) rfl ((up2_f _ _ _ _ (by decide)).trans ((up2_f _ _ _ _ (by decide)).trans (hag1 21 0 rfl))) dX1_sample_52 ?_
      have f1 : fb (8) (FP.dmul (D0 21 0) (D0 21 0)) := fb.mul hB.cut hB.cut (by decide)
      refine lv_dmul hx hb dX1_sample_55 f1.n64 ?_
      refine lv_dg_ge (tgt := 126) hx hb dX1_sample_56 dX1_sample_57 (by decide) (fun c2 => ?_) (fun c2 => ?_)
      · refine lv_iinc1 (lv' := [(3, .int (nI (j + 1))), (2, .int (nI i)), (1, .int (nI (smI D0 J i (smS D0 J n I i) j).2)), (0, .ref (ad 0 0))]) hx hb dX1_sample_126 hl (k := 0) rfl (by decide) rfl (fun ls hl => ?_)
        refine lv_goto (tgt := 16) hx hb dX1_sample_129 (by decide) ?_
        have he := (smI_f c2 : smI D0 J i (smS D0 J n I i) (j + 1) = _)
        have hl : lv_has ls 5 [(3, .int (nI (j + 1))), (2, .int (nI i)), (1, .int (nI (smI D0 J i (smS D0 J n I i) (j + 1)).2)), (0, .ref (ad 0 0))] := by rw [he]; exact lv_sub hl [0, 1, 2, 3] rfl
        exact ih _ _ _ ⟨by omega, _, hl, by rw [he]; exact hW, hS, (hex.up rfl).up rfl⟩
      · refine lv_aload_n hx hb dX1_sample_60 rfl (lv_at hl 3 rfl) ?_
        refine w_getR (v := .ref (ad 6 0)) Z hW kX1 rfl 12 (by decide) q153 (show (0 : Nat) < 1 by decide) rfl rfl dX1_sample_61 ?_
        refine wx_r (wx_V (As := []) (rest := []) hAt.fix (m_X4_square l A Dg dA ad n nb nr 0 J R ((up2 (up2 D1 34 0 (wA D0 i j)) 35 0 (wB D0 i j))) ((smI D0 J i (smS D0 J n I i) j).1) 0 ((by decide)) (wA D0 i j) (wB D0 i j) rfl rfl ((wA_fb hB hi hj)) ((wB_fb hB hi hj))) q239 q240 q241 q242 wn_X4_square ⟨Nat.le_of_ble_eq_true rfl, Nat.le_of_ble_eq_true rfl, Nat.le_of_ble_eq_true rfl, Nat.le_of_ble_eq_true rfl⟩ (w_recv hK hW kX4 rfl (show (0 : Nat) < 2 by decide)) (Pw.of hK hW) hl.1 (Nat.le_of_ble_eq_true rfl) dX1_sample_64) (fun r hr => ?_)
        subst hr
        refine lv_aload_n hx hb dX1_sample_67 rfl (lv_at hl 3 rfl) ?_
        refine g_D (x := D0 21 0) Z hW kX1 rfl 1 (by decide) q142 (show (0 : Nat) < 1 by decide) rfl ((up2_f _ _ _ _ (by decide)).trans ((up2_f _ _ _ _ (by decide)).trans (hag1 21 0 rfl))) dX1_sample_68 ?_
        refine lv_aload_n hx hb dX1_sample_71 rfl (lv_at hl 3 rfl) ?_
        refine g_D (x := D0 21 0) Z hW kX1 rfl 1 (by decide) q142 (show (0 : Nat) < 1 by decide) rfl ((up2_f _ _ _ _ (by decide)).trans ((up2_f _ _ _ _ (by decide)).trans (hag1 21 0 rfl))) dX1_sample_72 ?_
        refine lv_dmul hx hb dX1_sample_75 f1.n64 ?_
        refine lv_ldc2d (v := 4625196817309499392) hx hb hown (hts _ (lw_car_all q243)) dX1_sample_76 ?_
        refine lv_ddiv hx hb dX1_sample_79 (c16_b hB).1.n64 ?_
        have f3 : fb (17) (FP.ddiv (sq (wA D0 i j) (wB D0 i j)) (FP.ddiv (FP.dmul (D0 21 0) (D0 21 0)) 4625196817309499392)) := fb.div (sq_fb (wA_fb hB hi hj) (wB_fb hB hi hj) (by decide)) (c16_b hB).2.1 (by decide)
        refine lv_ddiv hx hb dX1_sample_80 f3.n64 ?_
        refine lv_d2i hx hb dX1_sample_81 ?_
        refine lv_istore (lv' := [(4, .int (FP.d2i (FP.ddiv (sq (wA D0 i j) (wB D0 i j)) (FP.ddiv (FP.dmul (D0 21 0) (D0 21 0)) 4625196817309499392)))), (3, .int (nI j)), (2, .int (nI i)), (1, .int (nI (smI D0 J i (smS D0 J n I i) j).2)), (0, .ref (ad 0 0))]) hx hb dX1_sample_82 hl (by decide) rfl (fun ls hl => ?_)
        refine lv_aload_n hx hb dX1_sample_84 rfl (lv_at hl 4 rfl) ?_
        refine w_getR (v := .ref (ad 19 0)) Z hW kX1 rfl 18 (by decide) q159 (show (0 : Nat) < 1 by decide) rfl rfl dX1_sample_85 ?_
        refine lv_aload_n hx hb dX1_sample_88 rfl (lv_at hl 4 rfl) ?_
        refine lv_aload_n hx hb dX1_sample_89 rfl (lv_at hl 4 rfl) ?_
        refine w_getR (v := .ref (ad 11 0)) Z hW kX1 rfl 5 (by decide) q146 (show (0 : Nat) < 1 by decide) rfl rfl dX1_sample_90 ?_
        refine lv_iload_n hx hb dX1_sample_93 rfl (lv_at hl 2 rfl) ?_
        refine a_R (j := i) (v := .ref (ad 2 i)) (ix := i) Z hW rfl (show (0 : Nat) < 1 by decide) (by omega) (by decide) rfl rfl rfl rfl (cR_atom (show (i : Nat) < n by omega)) dX1_sample_94 ?_
        have hj4 := hB.j0 (show (i : Nat) < n by omega)
        refine w_getR (v := .ref (ad 1 (J 0 i))) Z hW kX6 rfl 1 (by decide) q372 (show (i : Nat) < n by omega) rfl rfl dX1_sample_95 ?_
        refine lv_aload_n hx hb dX1_sample_98 rfl (lv_at hl 4 rfl) ?_
        refine w_getR (v := .ref (ad 11 0)) Z hW kX1 rfl 5 (by decide) q146 (show (0 : Nat) < 1 by decide) rfl rfl dX1_sample_99 ?_
        refine lv_iload_n hx hb dX1_sample_102 rfl (lv_at hl 1 rfl) ?_
        refine a_R (j := j) (v := .ref (ad 2 j)) (ix := j) Z hW rfl (show (0 : Nat) < 1 by decide) (by omega) (by decide) rfl rfl rfl rfl (cR_atom (show (j : Nat) < n by omega)) dX1_sample_103 ?_
        have hj5 := hB.j0 (show (j : Nat) < n by omega)
        refine w_getR (v := .ref (ad 1 (J 0 j))) Z hW kX6 rfl 1 (by decide) q372 (show (j : Nat) < n by omega) rfl rfl dX1_sample_104 ?_
        refine wx_r (wx_V (As := [.ref (ad 1 (J 0 i)), .ref (ad 1 (J 0 j))]) (rest := [.ref (ad 19 0)]) hAt.fix (m_X1_classOf l A Dg dA ad n nb nr 0 J R ((up2 (up2 D1 34 0 (wA D0 i j)) 35 0 (wB D0 i j))) ((smI D0 J i (smS D0 J n I i) j).1) (J 0 i) (J 0 j) ((hB.j0 hi)) ((hB.j0 hj))) q244 q246 qs2 q247 wn_X1_classOf ⟨Nat.le_of_ble_eq_true rfl, Nat.le_of_ble_eq_true rfl, Nat.le_of_ble_eq_true rfl, Nat.le_of_ble_eq_true rfl⟩ (w_recv hK hW kX1 rfl (show (0 : Nat) < 1 by decide)) (Pw.of hK hW) hl.1 (Nat.le_of_ble_eq_true rfl) dX1_sample_107) (fun r hr => ?_)
        subst hr
        refine a_R (j := (clN (J 0 i) (J 0 j))) (v := .ref (ad 20 (clN (J 0 i) (J 0 j)))) (ix := clN (J 0 i) (J 0 j)) Z hW rfl (show (0 : Nat) < 1 by decide) (by omega) (by decide) rfl rfl rfl rfl rfl dX1_sample_110 ?_
        refine lv_iload hx hb dX1_sample_111 (lv_at hl 0 rfl) ?_
        refine lv_bipush (v := nI 15) hx hb dX1_sample_113 rfl ?_
        refine va_mmin hx hb (hml.trans hl.1.symm) hown (hts _ (lw_car_all q134)) (hts _ (lw_car_all q135)) (hts _ (lw_car_all q49)) (hts _ (lw_car_all q136)) (Nat.le_of_ble_eq_true rfl) (Nat.le_of_ble_eq_true rfl) (Nat.le_of_ble_eq_true rfl) (Nat.le_of_ble_eq_true rfl) dX1_sample_115 ?_
        rw [show (if nI 15 < FP.d2i (FP.ddiv (sq (wA D0 i j) (wB D0 i j)) (FP.ddiv (FP.dmul (D0 21 0) (D0 21 0)) 4625196817309499392)) then nI 15 else FP.d2i (FP.ddiv (sq (wA D0 i j) (wB D0 i j)) (FP.ddiv (FP.dmul (D0 21 0) (D0 21 0)) 4625196817309499392))) = nI (bnk (zq D0 i j)) from bnk_c (z1.mono (by decide)) z2]
        refine lv_dup2_11 hx hb dX1_sample_118 rfl rfl ?_
        refine a_I (j := (bnk (zq D0 i j))) (x := (smI D0 J i (smS D0 J n I i) j).1 6 ((bnk (zq D0 i j)) + 16 * (clN (J 0 i) (J 0 j)))) (ix := (bnk (zq D0 i j)) + 16 * (clN (J 0 i) (J 0 j))) Z hW rfl (show (clN (J 0 i) (J 0 j) : Nat) < 9 by omega) (by omega) (by decide) rfl rfl rfl dX1_sample_119 ?_
        refine lv_iconst (v := nI 1) hx hb dX1_sample_120 rfl ?_
        refine lv_iadd hx hb dX1_sample_121 ?_
        refine w_ais (j := (bnk (zq D0 i j))) (ix := (bnk (zq D0 i j)) + 16 * (clN (J 0 i) (J 0 j))) Z hW hS rfl (show (clN (J 0 i) (J 0 j) : Nat) < 9 by omega) rfl (by omega) (by decide) (show (bnk (zq D0 i j) : Nat) < 16 by omega) rfl rfl dX1_sample_122 (fun H locs hW hS => ?_)
        refine lv_iinc1 (lv' := [(1, .int (nI ((smI D0 J i (smS D0 J n I i) j).2 + 1))), (4, .int (FP.d2i (FP.ddiv (sq (wA D0 i j) (wB D0 i j)) (FP.ddiv (FP.dmul (D0 21 0) (D0 21 0)) 4625196817309499392)))), (3, .int (nI j)), (2, .int (nI i)), (0, .ref (ad 0 0))]) hx hb dX1_sample_123 hl (k := 3) rfl (by decide) rfl (fun ls hl => ?_)
        refine lv_iinc1 (lv' := [(3, .int (nI (j + 1))), (1, .int (nI ((smI D0 J i (smS D0 J n I i) j).2 + 1))), (4, .int (FP.d2i (FP.ddiv (sq (wA D0 i j) (wB D0 i j)) (FP.ddiv (FP.dmul (D0 21 0) (D0 21 0)) 4625196817309499392)))), (2, .int (nI i)), (0, .ref (ad 0 0))]) hx hb dX1_sample_126 hl (k := 2) rfl (by decide) rfl (fun ls hl => ?_)
        refine lv_goto (tgt := 16) hx hb dX1_sample_129 (by decide) ?_
        have he := (smI_t hij c2 : smI D0 J i (smS D0 J n I i) (j + 1) = _)
        have hl : lv_has ls 5 [(3, .int (nI (j + 1))), (2, .int (nI i)), (1, .int (nI (smI D0 J i (smS D0 J n I i) (j + 1)).2)), (0, .ref (ad 0 0))] := by rw [he]; exact lv_sub hl [0, 3, 1, 4] rfl
        exact ih _ _ _ ⟨by omega, _, hl, by rw [he]; exact hW, hS, (hex.up rfl).up rfl⟩
    · intro H locs ls hP
      obtain ⟨hij, D1, hl, hW, hS, hex⟩ := hP
      refine lv_iload_n hx hb dX1_sample_16 rfl (lv_at hl 0 rfl) ?_
      refine lv_aload_n hx hb dX1_sample_17 rfl (lv_at hl 3 rfl) ?_
      refine g_I (x := nI n) Z hW kX1 rfl 8 (by decide) q149 (show (0 : Nat) < 1 by decide) rfl ((((smI_ex n).trans (smS_ex i)) 20 0 rfl).trans hn) dX1_sample_18 ?_
      refine lv_nge (tgt := 132) hx hb (by omega) (by omega) dX1_sample_21 (by decide) (fun c => ?_) (fun c => absurd c (by omega))
      refine lv_iinc1 (lv' := [(2, .int (nI (i + 1))), (3, .int (nI n)), (1, .int (nI (smI D0 J i (smS D0 J n I i) n).2)), (0, .ref (ad 0 0))]) hx hb dX1_sample_132 hl (k := 1) rfl (by decide) rfl (fun ls hl => ?_)
      refine lv_goto (tgt := 4) hx hb dX1_sample_135 (by decide) ?_
      exact ih0 _ _ _ ⟨_, lv_sub hl [0, 2, 3] rfl, hW, hS, hex⟩
  · intro H locs ls hP
    obtain ⟨D1, hl, hW, hS, hex⟩ := hP
    obtain ⟨sa, sb⟩ := smS_ag (D := D0) (J := J) (n := n) hagI n
    refine lv_iload_n hx hb dX1_sample_4 rfl (lv_at hl 0 rfl) ?_
    refine lv_aload_n hx hb dX1_sample_5 rfl (lv_at hl 2 rfl) ?_
    refine g_I (x := nI n) Z hW kX1 rfl 8 (by decide) q149 (show (0 : Nat) < 1 by decide) rfl (((smS_ex n) 20 0 rfl).trans hn) dX1_sample_6 ?_
    refine lv_nge (tgt := 138) hx hb (by omega) (by omega) dX1_sample_9 (by decide) (fun c => ?_) (fun c => absurd c (by omega))
    refine lv_aload_n hx hb dX1_sample_138 rfl (lv_at hl 2 rfl) ?_
    refine lv_dup hx hb dX1_sample_139 rfl ?_
    refine g_I (x := I0 27 0) Z hW kX1 rfl 22 (by decide) q163 (show (0 : Nat) < 1 by decide) rfl (((smS_ex n) 27 0 rfl).trans (hagI 27 0 rfl)) dX1_sample_140 ?_
    refine lv_iconst (v := nI 1) hx hb dX1_sample_143 rfl ?_
    refine lv_iadd hx hb dX1_sample_144 ?_
    refine w_putI Z hW hS kX1 rfl 22 (by decide) (by decide) q163 rfl (show (0 : Nat) < 1 by decide) rfl rfl rfl dX1_sample_145 (fun H locs hW hS => ?_)
    refine lv_iload_n hx hb dX1_sample_148 rfl (lv_at hl 1 rfl) ?_
    rw [hQ]
    exact rW_i hx hb hr hlk hS (⟨by rw [sb], ad, _, _, _, rfl, hW, hag.F hex, sa.put 27 0 _, hwo.cg (hex 43 0 rfl) rfl, fun q => (hNL (by rw [smS_23] at q; exact q)).cgJ (S := s2 6 27) ((smS_x6 n).up rfl) rfl rfl⟩) dX1_sample_149
