set_option maxRecDepth 100000
/-! ===== the class: forces ===== -/
set_option maxHeartbeats 4000000 in
theorem m_X1_forceOn (l : Launch) (hfl : l.flags = flags0) (A : Nat → Prop) (Dg : va_G) (dA : Nat → ClassId) (ad : Nat → Nat → Nat) (n : Nat) (nb : Nat) (nr : Nat) (no : Nat) (J : Nat → Nat → Nat) (R : Nat → Value) (D : T64) (I : T32) (D0 : T64) (hag : agD D D0) (hB : Bd n nb nr J D0) (hnb : I 21 0 = nI nb) (i : Nat) (hi : i < n) (ko : Nat) (bo : Nat) (fo : Nat) (hko : w_sh ko = .inr (5, 10)) (hks : ∀ j, w_src ko j = (1, fo, 16)) (hbo : bo < cN n nb nr no ko) (js : List Nat) (hjl : js.length ≤ 10) (hjs : ∀ k, k < js.length → I fo (k + 16 * bo) = nI (js.getD k 0) ∧ js.getD k 0 < n) : MX l yX1_forceOn cX1_forceOn 6 none [] (rmx 8 1 6) [.ref (ad 0 0), .ref (ad 2 i), .ref (ad ko bo), .int (nI js.length)] (Px A Dg dA (cW A Dg dA ad n nb nr no J R D I)) (qX (fun _ : Unit => none) (fun _ H => (∀ k, k < js.length → ¬ flt (wR D0 i (js.getD k 0)) 4562146422526312448) ∧ ∃ D1 R1, exc sF D1 (up2 (up2 D 30 i (fCx D0 J nb i js).1) 31 i (fCx D0 J nb i js).2) ∧ cW A Dg dA ad n nb nr no J R1 D1 I H) (fun C H => ((∃ k, k < js.length ∧ flt (wR D0 i (js.getD k 0)) 4562146422526312448) ∧ C = "java/lang/ArithmeticException") ∧ ∃ D1 R1, exc sN D1 D ∧ cW A Dg dA ad n nb nr no J R1 D1 ((up2 I 40 0 (nI 0))) H) A) 0 0 A := by
  refine MX.start (Nat.le_of_ble_eq_true rfl) ?_
  intro p e s m args below meth c ls Q hAt hPc hl hQ
  have hl : lv_has ls 6 [(0, .ref (ad 0 0)), (1, .ref (ad 2 i)), (2, .ref (ad ko bo)), (3, .int (nI js.length))] := hl
  obtain ⟨hx, hb, hml, hr, hlk, hown, hnm, htab, hts⟩ := id hAt
  obtain ⟨hK, hst, hA, hW⟩ := hPc
  have Z := Cx.of hAt hK
  have hS : va_S A s.heap s.heap [] := va_S.rf
  have hn10 := hB.n10
  have hnb8 := hB.nb8
  refine lv_aload_n hx hb dX1_forceOn_0 rfl (lv_at hl 1 rfl) ?_
  refine lv_dconst0 hx hb dX1_forceOn_1 ?_
  refine w_putD Z hW hS kX6 rfl 7 (by decide) (by decide) q383 rfl (show (i : Nat) < n by omega) rfl rfl dX1_forceOn_2 (fun H locs hW hS => ?_)
  refine lv_aload_n hx hb dX1_forceOn_5 rfl (lv_at hl 1 rfl) ?_
  refine lv_dconst0 hx hb dX1_forceOn_6 ?_
  refine w_putD Z hW hS kX6 rfl 8 (by decide) (by decide) q385 rfl (show (i : Nat) < n by omega) rfl rfl dX1_forceOn_7 (fun H locs hW hS => ?_)
  refine lv_iconst (v := nI 0) hx hb dX1_forceOn_10 rfl ?_
  refine lv_istore (lv' := [(4, .int (nI 0)), (0, .ref (ad 0 0)), (1, .ref (ad 2 i)), (2, .ref (ad ko bo)), (3, .int (nI js.length))]) hx hb dX1_forceOn_11 hl (by decide) rfl (fun ls hl => ?_)
  have hi0 := hi
  refine wl_up js.length 0 (fun k H locs ls => ∃ D1 R1, lv_has ls 6 [(4, .int (nI k)), (0, .ref (ad 0 0)), (1, .ref (ad 2 i)), (2, .ref (ad ko bo)), (3, .int (nI js.length))] ∧ cW A Dg dA ad n nb nr no J R1 D1 I H ∧ va_S A s.heap H locs ∧ exc sF D1 (up2 (up2 D 30 i (fPl D0 J i js k).1) 31 i (fPl D0 J i js k).2) ∧ ∀ q, q < k → ¬ flt (wR D0 i (js.getD q 0)) 4562146422526312448) (Nat.zero_le _) ⟨_, R, lv_sub hl [0, 1, 2, 3, 4] rfl, hW, hS, exc.rf, lt_0⟩ ?_ ?_
  · intro k H locs ls hi hP ih
    obtain ⟨D1, R1, hl, hW, hS, hex, hlt⟩ := hP
    have hi1 := hi
    replace hi := hi0
    have hjn := (hjs k hi1).2
    have hag1 : agD D1 D0 := ((hag.up rfl).up rfl).F hex
    have h30 : D1 30 i = (fPl D0 J i js k).1 := (hex 30 i rfl).trans ((up2_f _ _ _ _ (by decide)).trans (up2_same _ _ _ _))
    have h31 : D1 31 i = (fPl D0 J i js k).2 := (hex 31 i rfl).trans (up2_same _ _ _ _)
    have hfp := fPl_fb hB hi (js := js) k (by omega) (fun q hq => ⟨(hjs q (by omega)).2, hlt q hq⟩)
    refine lv_iload hx hb dX1_forceOn_13 (lv_at hl 0 rfl) ?_
    refine lv_iload_n hx hb dX1_forceOn_15 rfl (lv_at hl 4 rfl) ?_
    refine lv_nge (tgt := 102) hx hb (by omega) (by omega) dX1_forceOn_16 (by decide) (fun c => absurd c (by omega)) (fun c => ?_)
    refine lv_aload_n hx hb dX1_forceOn_19 rfl (lv_at hl 1 rfl) ?_
    refine w_getR (v := .ref (ad 11 0)) Z hW kX1 rfl 5 (by decide) q146 (show (0 : Nat) < 1 by decide) rfl rfl dX1_forceOn_20 ?_
    refine lv_aload_n hx hb dX1_forceOn_23 rfl (lv_at hl 3 rfl) ?_
    refine lv_iload hx hb dX1_forceOn_24 (lv_at hl 0 rfl) ?_
    refine a_I (j := k) (x := nI (js.getD k 0)) (ix := k + 16 * bo) Z hW hko hbo (by omega) (by decide) (hks _) rfl (hjs k hi1).1 dX1_forceOn_26 ?_
    refine a_R (j := (js.getD k 0)) (v := .ref (ad 2 (js.getD k 0))) (ix := js.getD k 0) Z hW rfl (show (0 : Nat) < 1 by decide) (by omega) (by decide) rfl rfl rfl rfl (cR_atom (show (js.getD k 0 : Nat) < n by omega)) dX1_forceOn_27 ?_
    refine lv_astore (lv' := [(5, .ref (ad 2 (js.getD k 0))), (4, .int (nI k)), (0, .ref (ad 0 0)), (1, .ref (ad 2 i)), (2, .ref (ad ko bo)), (3, .int (nI js.length))]) hx hb dX1_forceOn_28 hl (by decide) rfl (fun ls hl => ?_)
    refine lv_aload_n hx hb dX1_forceOn_30 rfl (lv_at hl 2 rfl) ?_
    refine lv_aload_n hx hb dX1_forceOn_31 rfl (lv_at hl 3 rfl) ?_
    refine lv_aload hx hb dX1_forceOn_32 (lv_at hl 0 rfl) ?_
    refine wx_wv (wx_V (As := [.ref (ad 2 i), .ref (ad 2 (js.getD k 0))]) (rest := []) hAt.fix (m_X1_from l A Dg dA ad n nb nr no J R1 D1 I D0 hag1 hB i (js.getD k 0) ((show (i : Nat) < n by omega)) ((show (js.getD k 0 : Nat) < n by omega))) q228 q230 qs0 q231 wn_X1_from ⟨Nat.le_of_ble_eq_true rfl, Nat.le_of_ble_eq_true rfl, Nat.le_of_ble_eq_true rfl, Nat.le_of_ble_eq_true rfl⟩ (w_recv hK hW kX1 rfl (show (0 : Nat) < 1 by decide)) (Pw.of hK hW) hl.1 (Nat.le_of_ble_eq_true rfl) dX1_forceOn_34) hS (fun H locs hW hz hS => ?_)
    refine lv_aload_n hx hb dX1_forceOn_37 rfl (lv_at hl 2 rfl) ?_
    refine w_getR (v := .ref (ad 6 0)) Z hW kX1 rfl 12 (by decide) q153 (show (0 : Nat) < 1 by decide) rfl rfl dX1_forceOn_38 ?_
    refine wx_r (wx_V (As := []) (rest := []) hAt.fix (m_X4_square l A Dg dA ad n nb nr no J R1 ((up2 (up2 D1 34 0 (wA D0 i (js.getD k 0))) 35 0 (wB D0 i (js.getD k 0)))) I 0 ((by decide)) (wA D0 i (js.getD k 0)) (wB D0 i (js.getD k 0)) rfl rfl ((wA_fb hB hi hjn)) ((wB_fb hB hi hjn))) q239 q240 q241 q242 wn_X4_square ⟨Nat.le_of_ble_eq_true rfl, Nat.le_of_ble_eq_true rfl, Nat.le_of_ble_eq_true rfl, Nat.le_of_ble_eq_true rfl⟩ (w_recv hK hW kX4 rfl (show (0 : Nat) < 2 by decide)) (Pw.of hK hW) hl.1 (Nat.le_of_ble_eq_true rfl) dX1_forceOn_41) (fun r hr => ?_)
    subst hr
    refine lv_ldc2d (v := 4562146422526312448) hx hb hown (hts _ (lw_car_all q583)) dX1_forceOn_44 ?_
    refine lv_dg_ge (tgt := 57) hx hb dX1_forceOn_47 dX1_forceOn_48 (by decide) (fun c1 => ?_) (fun c1 => ?_)
    · refine lv_aload_n hx hb dX1_forceOn_57 rfl (lv_at hl 2 rfl) ?_
      refine w_getR (v := .ref (ad 6 0)) Z hW kX1 rfl 12 (by decide) q153 (show (0 : Nat) < 1 by decide) rfl rfl dX1_forceOn_58 ?_
      refine wx_r (wx_V (As := []) (rest := []) hAt.fix (m_X4_square l A Dg dA ad n nb nr no J R1 ((up2 (up2 D1 34 0 (wA D0 i (js.getD k 0))) 35 0 (wB D0 i (js.getD k 0)))) I 0 ((by decide)) (wA D0 i (js.getD k 0)) (wB D0 i (js.getD k 0)) rfl rfl ((wA_fb hB hi hjn)) ((wB_fb hB hi hjn))) q239 q240 q241 q242 wn_X4_square ⟨Nat.le_of_ble_eq_true rfl, Nat.le_of_ble_eq_true rfl, Nat.le_of_ble_eq_true rfl, Nat.le_of_ble_eq_true rfl⟩ (w_recv hK hW kX4 rfl (show (0 : Nat) < 2 by decide)) (Pw.of hK hW) hl.1 (Nat.le_of_ble_eq_true rfl) dX1_forceOn_61) (fun r hr => ?_)
      subst hr
      refine lv_aload_n hx hb dX1_forceOn_64 rfl (lv_at hl 2 rfl) ?_
      refine g_D (x := D0 21 0) Z hW kX1 rfl 1 (by decide) q142 (show (0 : Nat) < 1 by decide) rfl ((up2_f _ _ _ _ (by decide)).trans ((up2_f _ _ _ _ (by decide)).trans (hag1 21 0 rfl))) dX1_forceOn_65 ?_
      refine lv_aload_n hx hb dX1_forceOn_68 rfl (lv_at hl 2 rfl) ?_
      refine g_D (x := D0 21 0) Z hW kX1 rfl 1 (by decide) q142 (show (0 : Nat) < 1 by decide) rfl ((up2_f _ _ _ _ (by decide)).trans ((up2_f _ _ _ _ (by decide)).trans (hag1 21 0 rfl))) dX1_forceOn_69 ?_
      have f2 : fb (8) (FP.dmul (D0 21 0) (D0 21 0)) := fb.mul hB.cut hB.cut (by decide)
      refine lv_dmul hx hb dX1_forceOn_72 f2.n64 ?_
      refine lv_dg_ge (tgt := 96) hx hb dX1_forceOn_73 dX1_forceOn_74 (by decide) (fun c3 => ?_) (fun c3 => ?_)
      · refine lv_iinc1 (lv' := [(4, .int (nI (k + 1))), (5, .ref (ad 2 (js.getD k 0))), (0, .ref (ad 0 0)), (1, .ref (ad 2 i)), (2, .ref (ad ko bo)), (3, .int (nI js.length))]) hx hb dX1_forceOn_96 hl (k := 1) rfl (by decide) rfl (fun ls hl => ?_)
        refine lv_goto (tgt := 13) hx hb dX1_forceOn_99 (by decide) ?_
        have e : fPl D0 J i js (k + 1) = fPl D0 J i js k := if_neg c3
        exact ih _ _ _ ⟨_, _, lv_sub hl [0, 2, 3, 4, 5] rfl, hW, hS, by rw [e]; exact (hex.up rfl).up rfl, lt_s hlt c1⟩
      · refine lv_aload_n hx hb dX1_forceOn_77 rfl (lv_at hl 2 rfl) ?_
        refine lv_aload_n hx hb dX1_forceOn_78 rfl (lv_at hl 3 rfl) ?_
        refine lv_aload_n hx hb dX1_forceOn_79 rfl (lv_at hl 2 rfl) ?_
        refine w_getR (v := .ref (ad 5 0)) Z hW kX1 rfl 11 (by decide) q152 (show (0 : Nat) < 1 by decide) rfl rfl dX1_forceOn_80 ?_
        refine lv_aload_n hx hb dX1_forceOn_83 rfl (lv_at hl 3 rfl) ?_
        refine lv_aload hx hb dX1_forceOn_84 (lv_at hl 0 rfl) ?_
        refine lv_aload_n hx hb dX1_forceOn_86 rfl (lv_at hl 2 rfl) ?_
        refine g_D (x := D0 21 0) Z hW kX1 rfl 1 (by decide) q142 (show (0 : Nat) < 1 by decide) rfl ((up2_f _ _ _ _ (by decide)).trans ((up2_f _ _ _ _ (by decide)).trans (hag1 21 0 rfl))) dX1_forceOn_87 ?_
        refine wx_ws (wx_V (As := [.ref (ad 2 i), .ref (ad 2 (js.getD k 0)), .double (D0 21 0)]) (rest := [.ref (ad 2 i), .ref (ad 0 0)]) hAt.fix (m_X3_of l A Dg dA ad n nb nr no J R1 ((up2 (up2 D1 34 0 (wA D0 i (js.getD k 0))) 35 0 (wB D0 i (js.getD k 0)))) I i ((js.getD k 0)) (D0 21 0)) q592 q593 q594 q595 wn_X3_of ⟨Nat.le_of_ble_eq_true rfl, Nat.le_of_ble_eq_true rfl, Nat.le_of_ble_eq_true rfl, Nat.le_of_ble_eq_true rfl⟩ (w_recv hK hW kX3 rfl (show (0 : Nat) < 1 by decide)) (Pw.of hK hW) hl.1 (Nat.le_of_ble_eq_true rfl) dX1_forceOn_90) hS (fun r H locs hW hz hS => ?_)
        obtain ⟨rfl, hW⟩ := hW
        refine wx_wv (wx_V (As := [.ref (ad 2 i), .ref (ad 5 0)]) (rest := []) hAt.fix (m_X1_pullN l A Dg dA ad n nb nr no J ((rr (rr R1 0 (.ref (ad 2 i))) 1 (.ref (ad 2 (js.getD k 0))))) ((up2 (up2 (up2 D1 34 0 (wA D0 i (js.getD k 0))) 35 0 (wB D0 i (js.getD k 0))) 36 0 (D0 21 0))) I D0 ((hag1.up rfl |>.up rfl |>.up rfl)) hB i hi (wA D0 i (js.getD k 0)) (wB D0 i (js.getD k 0)) rfl rfl ((wA_fb hB hi hjn)) ((wB_fb hB hi hjn)) ((js.getD k 0)) hjn rfl rfl ((lc_near (wR_fb hB hi hjn) c1)) ((120 + (k : Int))) ((by omega)) ((fPl D0 J i js k).1) ((fPl D0 J i js k).2) h30 h31 hfp.1 hfp.2) q596 q598 qs12 q599 wn_X1_pull ⟨Nat.le_of_ble_eq_true rfl, Nat.le_of_ble_eq_true rfl, Nat.le_of_ble_eq_true rfl, Nat.le_of_ble_eq_true rfl⟩ (w_recv hK hW kX1 rfl (show (0 : Nat) < 1 by decide)) (Pw.of hK hW) hl.1 (Nat.le_of_ble_eq_true rfl) dX1_forceOn_93) hS (fun H locs hW hz hS => ?_)
        refine lv_iinc1 (lv' := [(4, .int (nI (k + 1))), (5, .ref (ad 2 (js.getD k 0))), (0, .ref (ad 0 0)), (1, .ref (ad 2 i)), (2, .ref (ad ko bo)), (3, .int (nI js.length))]) hx hb dX1_forceOn_96 hl (k := 1) rfl (by decide) rfl (fun ls hl => ?_)
        refine lv_goto (tgt := 13) hx hb dX1_forceOn_99 (by decide) ?_
        have e : fPl D0 J i js (k + 1) = _ := if_pos c3
        exact ih _ _ _ ⟨_, _, lv_sub hl [0, 2, 3, 4, 5] rfl, hW, hS, by rw [e]; exact exc_fxy (((hex.up rfl).up rfl).up rfl), lt_s hlt c1⟩
    · refine lv_aload_n hx hb dX1_forceOn_51 rfl (lv_at hl 2 rfl) ?_
      refine lv_iconst (v := nI 0) hx hb dX1_forceOn_52 rfl ?_
      refine wx_ws (wx_V (As := [.int (nI 0)]) (rest := []) hAt.fix (m_X1_failure l hfl A Dg dA ad n nb nr no J R1 ((up2 (up2 D1 34 0 (wA D0 i (js.getD k 0))) 35 0 (wB D0 i (js.getD k 0)))) I (nI 0)) q584 q586 qs11 q587 wn_X1_failure ⟨Nat.le_of_ble_eq_true rfl, Nat.le_of_ble_eq_true rfl, Nat.le_of_ble_eq_true rfl, Nat.le_of_ble_eq_true rfl⟩ (w_recv hK hW kX1 rfl (show (0 : Nat) < 1 by decide)) (Px.of hK hst hA hS hW) hl.1 (Nat.le_of_ble_eq_true rfl) dX1_forceOn_53) hS (fun r H locs hW hz hS => ?_)
      refine lv_athrow hx hb dX1_forceOn_56 ?_
      rw [hQ]
      exact rT_x hlk htab rfl hS (isAr.to hK hW.1) ⟨⟨⟨k, hi1, c1⟩, rfl⟩, _, _, (((hex.mono sFN).trans ((exc.rf.up rfl).up rfl)).up rfl).up rfl, hW.2⟩
  · intro H locs ls hP
    obtain ⟨D1, R1, hl, hW, hS, hex, hlt⟩ := hP
    refine lv_iload hx hb dX1_forceOn_13 (lv_at hl 0 rfl) ?_
    refine lv_iload_n hx hb dX1_forceOn_15 rfl (lv_at hl 4 rfl) ?_
    refine lv_nge (tgt := 102) hx hb (by omega) (by omega) dX1_forceOn_16 (by decide) (fun c => ?_) (fun c => absurd c (by omega))
    refine lv_iconst (v := nI 0) hx hb dX1_forceOn_102 rfl ?_
    refine lv_istore (lv' := [(4, .int (nI 0)), (0, .ref (ad 0 0)), (1, .ref (ad 2 i)), (2, .ref (ad ko bo)), (3, .int (nI js.length))]) hx hb dX1_forceOn_103 hl (by decide) rfl (fun ls hl => ?_)
    have hfa := fPl_fb hB hi (js := js) js.length (by omega) (fun q hq => ⟨(hjs q hq).2, hlt q hq⟩)
    replace hfa : fb 140 (fPl D0 J i js js.length).1 ∧ fb 140 (fPl D0 J i js js.length).2 := ⟨hfa.1.mono (by omega), hfa.2.mono (by omega)⟩
    refine wl_up nb 0 (fun k H locs ls => ∃ D1 R1, lv_has ls 6 [(4, .int (nI k)), (0, .ref (ad 0 0)), (1, .ref (ad 2 i))] ∧ cW A Dg dA ad n nb nr no J R1 D1 I H ∧ va_S A s.heap H locs ∧ exc sF D1 (up2 (up2 D 30 i (fBo D0 J i (fPl D0 J i js js.length) k).1) 31 i (fBo D0 J i (fPl D0 J i js js.length) k).2)) (Nat.zero_le _) ⟨D1, R1, lv_sub hl [0, 1, 2] rfl, hW, hS, hex⟩ ?_ ?_
    · intro k H locs ls hi hP ih
      obtain ⟨D1, R1, hl, hW, hS, hex⟩ := hP
      have hk := hi
      replace hi := hi0
      have hag1 : agD D1 D0 := ((hag.up rfl).up rfl).F hex
      have h30 : D1 30 i = (fBo D0 J i (fPl D0 J i js js.length) k).1 := (hex 30 i rfl).trans ((up2_f _ _ _ _ (by decide)).trans (up2_same _ _ _ _))
      have h31 : D1 31 i = (fBo D0 J i (fPl D0 J i js js.length) k).2 := (hex 31 i rfl).trans (up2_same _ _ _ _)
      have hfp := fBo_fb hB hi hfa k (by omega)
      have hj2 := hB.j2 hk
      have hj3 := hB.j3 hk
      refine lv_iload hx hb dX1_forceOn_105 (lv_at hl 0 rfl) ?_
      refine lv_aload_n hx hb dX1_forceOn_107 rfl (lv_at hl 1 rfl) ?_
      refine g_I (x := nI nb) Z hW kX1 rfl 9 (by decide) q150 (show (0 : Nat) < 1 by decide) rfl hnb dX1_forceOn_108 ?_
      refine lv_nge (tgt := 181) hx hb (by omega) (by omega) dX1_forceOn_111 (by decide) (fun c => absurd c (by omega)) (fun c => ?_)
      refine lv_aload_n hx hb dX1_forceOn_114 rfl (lv_at hl 1 rfl) ?_
      refine w_getR (v := .ref (ad 12 0)) Z hW kX1 rfl 6 (by decide) q147 (show (0 : Nat) < 1 by decide) rfl rfl dX1_forceOn_115 ?_
      refine lv_iload hx hb dX1_forceOn_118 (lv_at hl 0 rfl) ?_
      refine a_R (j := k) (v := .ref (ad 3 k)) (ix := k) Z hW rfl (show (0 : Nat) < 1 by decide) (by omega) (by decide) rfl rfl rfl rfl (cR_bond (show (k : Nat) < nb by omega)) dX1_forceOn_120 ?_
      refine lv_astore (lv' := [(5, .ref (ad 3 k)), (4, .int (nI k)), (0, .ref (ad 0 0)), (1, .ref (ad 2 i))]) hx hb dX1_forceOn_121 hl (by decide) rfl (fun ls hl => ?_)
      refine lv_aload hx hb dX1_forceOn_123 (lv_at hl 0 rfl) ?_
      have hj4 := hB.j2 (show (k : Nat) < nb by omega)
      refine w_getR (v := .ref (ad 2 (J 2 k))) Z hW kX7 rfl 0 (by decide) q473 (show (k : Nat) < nb by omega) rfl rfl dX1_forceOn_125 ?_
      refine lv_aload_n hx hb dX1_forceOn_128 rfl (lv_at hl 3 rfl) ?_
      refine lv_aeq (tgt := 141) hx hb dX1_forceOn_129 (by decide) (fun c5 => ?_) (fun c5 => ?_)
      · refine lv_aload_n hx hb dX1_forceOn_141 rfl (lv_at hl 2 rfl) ?_
        refine lv_aload_n hx hb dX1_forceOn_142 rfl (lv_at hl 3 rfl) ?_
        refine lv_aload hx hb dX1_forceOn_143 (lv_at hl 0 rfl) ?_
        refine w_getR (v := .ref (ad 2 (J 2 k))) Z hW kX7 rfl 0 (by decide) q473 (show (k : Nat) < nb by omega) rfl rfl dX1_forceOn_145 ?_
        refine lv_aload_n hx hb dX1_forceOn_148 rfl (lv_at hl 3 rfl) ?_
        refine lv_ane (tgt := 160) hx hb dX1_forceOn_149 (by decide) (fun c => absurd c5 c) (fun c => ?_)
        refine lv_aload hx hb dX1_forceOn_152 (lv_at hl 0 rfl) ?_
        have hj6 := hB.j3 (show (k : Nat) < nb by omega)
        refine w_getR (v := .ref (ad 2 (J 3 k))) Z hW kX7 rfl 1 (by decide) q475 (show (k : Nat) < nb by omega) rfl rfl dX1_forceOn_154 ?_
        refine lv_goto (tgt := 165) hx hb dX1_forceOn_157 (by decide) ?_
        refine wx_wv (wx_V (As := [.ref (ad 2 i), .ref (ad 2 (J 3 k))]) (rest := []) hAt.fix (m_X1_from l A Dg dA ad n nb nr no J R1 D1 I D0 hag1 hB i (J 3 k) ((show (i : Nat) < n by omega)) ((show (J 3 k : Nat) < n by omega))) q228 q230 qs0 q231 wn_X1_from ⟨Nat.le_of_ble_eq_true rfl, Nat.le_of_ble_eq_true rfl, Nat.le_of_ble_eq_true rfl, Nat.le_of_ble_eq_true rfl⟩ (w_recv hK hW kX1 rfl (show (0 : Nat) < 1 by decide)) (Pw.of hK hW) hl.1 (Nat.le_of_ble_eq_true rfl) dX1_forceOn_165) hS (fun H locs hW hz hS => ?_)
        refine lv_aload_n hx hb dX1_forceOn_168 rfl (lv_at hl 2 rfl) ?_
        refine lv_aload_n hx hb dX1_forceOn_169 rfl (lv_at hl 3 rfl) ?_
        refine lv_aload hx hb dX1_forceOn_170 (lv_at hl 0 rfl) ?_
        refine wx_wv (wx_V (As := [.ref (ad 2 i), .ref (ad 3 k)]) (rest := []) hAt.fix (m_X1_pullB l A Dg dA ad n nb nr no J R1 ((up2 (up2 D1 34 0 (wA D0 i (J 3 k))) 35 0 (wB D0 i (J 3 k)))) I D0 ((hag1.up rfl |>.up rfl)) hB i hi (wA D0 i (J 3 k)) (wB D0 i (J 3 k)) rfl rfl ((wA_fb hB hi hj3)) ((wB_fb hB hi hj3)) k hk ((140 + (k : Int))) ((by omega)) ((fBo D0 J i (fPl D0 J i js js.length) k).1) ((fBo D0 J i (fPl D0 J i js js.length) k).2) h30 h31 hfp.1 hfp.2) q596 q598 qs12 q599 wn_X1_pull ⟨Nat.le_of_ble_eq_true rfl, Nat.le_of_ble_eq_true rfl, Nat.le_of_ble_eq_true rfl, Nat.le_of_ble_eq_true rfl⟩ (w_recv hK hW kX1 rfl (show (0 : Nat) < 1 by decide)) (Pw.of hK hW) hl.1 (Nat.le_of_ble_eq_true rfl) dX1_forceOn_172) hS (fun H locs hW hz hS => ?_)
        refine lv_iinc1 (lv' := [(4, .int (nI (k + 1))), (5, .ref (ad 3 k)), (0, .ref (ad 0 0)), (1, .ref (ad 2 i))]) hx hb dX1_forceOn_175 hl (k := 1) rfl (by decide) rfl (fun ls hl => ?_)
        refine lv_goto (tgt := 105) hx hb dX1_forceOn_178 (by decide) ?_
        have e : fBo D0 J i (fPl D0 J i js js.length) (k + 1) = _ := if_pos (cW_inj hW hj2 hi c5)
        exact ih _ _ _ ⟨_, _, lv_sub hl [0, 2, 3] rfl, hW, hS, by rw [e]; exact exc_fxy ((hex.up rfl).up rfl)⟩
      · refine lv_aload hx hb dX1_forceOn_132 (lv_at hl 0 rfl) ?_
        have hj7 := hB.j3 (show (k : Nat) < nb by omega)
        refine w_getR (v := .ref (ad 2 (J 3 k))) Z hW kX7 rfl 1 (by decide) q475 (show (k : Nat) < nb by omega) rfl rfl dX1_forceOn_134 ?_
        refine lv_aload_n hx hb dX1_forceOn_137 rfl (lv_at hl 3 rfl) ?_
        refine lv_ane (tgt := 175) hx hb dX1_forceOn_138 (by decide) (fun c8 => ?_) (fun c8 => ?_)
        · refine lv_iinc1 (lv' := [(4, .int (nI (k + 1))), (5, .ref (ad 3 k)), (0, .ref (ad 0 0)), (1, .ref (ad 2 i))]) hx hb dX1_forceOn_175 hl (k := 1) rfl (by decide) rfl (fun ls hl => ?_)
          refine lv_goto (tgt := 105) hx hb dX1_forceOn_178 (by decide) ?_
          have e : fBo D0 J i (fPl D0 J i js js.length) (k + 1) = fBo D0 J i (fPl D0 J i js js.length) k := (if_neg (fun q => c5 (by rw [q]))).trans (if_neg (fun q => c8 (by rw [q])))
          exact ih _ _ _ ⟨_, _, lv_sub hl [0, 2, 3] rfl, hW, hS, by rw [e]; exact hex⟩
        · refine lv_aload_n hx hb dX1_forceOn_141 rfl (lv_at hl 2 rfl) ?_
          refine lv_aload_n hx hb dX1_forceOn_142 rfl (lv_at hl 3 rfl) ?_
          refine lv_aload hx hb dX1_forceOn_143 (lv_at hl 0 rfl) ?_
          refine w_getR (v := .ref (ad 2 (J 2 k))) Z hW kX7 rfl 0 (by decide) q473 (show (k : Nat) < nb by omega) rfl rfl dX1_forceOn_145 ?_
          refine lv_aload_n hx hb dX1_forceOn_148 rfl (lv_at hl 3 rfl) ?_
          refine lv_ane (tgt := 160) hx hb dX1_forceOn_149 (by decide) (fun c => ?_) (fun c => absurd c c5)
          refine lv_aload hx hb dX1_forceOn_160 (lv_at hl 0 rfl) ?_
          refine w_getR (v := .ref (ad 2 (J 2 k))) Z hW kX7 rfl 0 (by decide) q473 (show (k : Nat) < nb by omega) rfl rfl dX1_forceOn_162 ?_
          refine wx_wv (wx_V (As := [.ref (ad 2 i), .ref (ad 2 (J 2 k))]) (rest := []) hAt.fix (m_X1_from l A Dg dA ad n nb nr no J R1 D1 I D0 hag1 hB i (J 2 k) ((show (i : Nat) < n by omega)) ((show (J 2 k : Nat) < n by omega))) q228 q230 qs0 q231 wn_X1_from ⟨Nat.le_of_ble_eq_true rfl, Nat.le_of_ble_eq_true rfl, Nat.le_of_ble_eq_true rfl, Nat.le_of_ble_eq_true rfl⟩ (w_recv hK hW kX1 rfl (show (0 : Nat) < 1 by decide)) (Pw.of hK hW) hl.1 (Nat.le_of_ble_eq_true rfl) dX1_forceOn_165) hS (fun H locs hW hz hS => ?_)
          refine lv_aload_n hx hb dX1_forceOn_168 rfl (lv_at hl 2 rfl) ?_
          refine lv_aload_n hx hb dX1_forceOn_169 rfl (lv_at hl 3 rfl) ?_
          refine lv_aload hx hb dX1_forceOn_170 (lv_at hl 0 rfl) ?_
          refine wx_wv (wx_V (As := [.ref (ad 2 i), .ref (ad 3 k)]) (rest := []) hAt.fix (m_X1_pullB l A Dg dA ad n nb nr no J R1 ((up2 (up2 D1 34 0 (wA D0 i (J 2 k))) 35 0 (wB D0 i (J 2 k)))) I D0 ((hag1.up rfl |>.up rfl)) hB i hi (wA D0 i (J 2 k)) (wB D0 i (J 2 k)) rfl rfl ((wA_fb hB hi hj2)) ((wB_fb hB hi hj2)) k hk ((140 + (k : Int))) ((by omega)) ((fBo D0 J i (fPl D0 J i js js.length) k).1) ((fBo D0 J i (fPl D0 J i js js.length) k).2) h30 h31 hfp.1 hfp.2) q596 q598 qs12 q599 wn_X1_pull ⟨Nat.le_of_ble_eq_true rfl, Nat.le_of_ble_eq_true rfl, Nat.le_of_ble_eq_true rfl, Nat.le_of_ble_eq_true rfl⟩ (w_recv hK hW kX1 rfl (show (0 : Nat) < 1 by decide)) (Pw.of hK hW) hl.1 (Nat.le_of_ble_eq_true rfl) dX1_forceOn_172) hS (fun H locs hW hz hS => ?_)
          refine lv_iinc1 (lv' := [(4, .int (nI (k + 1))), (5, .ref (ad 3 k)), (0, .ref (ad 0 0)), (1, .ref (ad 2 i))]) hx hb dX1_forceOn_175 hl (k := 1) rfl (by decide) rfl (fun ls hl => ?_)
          refine lv_goto (tgt := 105) hx hb dX1_forceOn_178 (by decide) ?_
          have e : fBo D0 J i (fPl D0 J i js js.length) (k + 1) = _ := (if_neg (fun q => c5 (by rw [q]))).trans (if_pos (cW_inj hW hj3 hi c8))
          exact ih _ _ _ ⟨_, _, lv_sub hl [0, 2, 3] rfl, hW, hS, by rw [e]; exact exc_fxy ((hex.up rfl).up rfl)⟩
    · intro H locs ls hP
      obtain ⟨D1, R1, hl, hW, hS, hex⟩ := hP
      refine lv_iload hx hb dX1_forceOn_105 (lv_at hl 0 rfl) ?_
      refine lv_aload_n hx hb dX1_forceOn_107 rfl (lv_at hl 1 rfl) ?_
      refine g_I (x := nI nb) Z hW kX1 rfl 9 (by decide) q150 (show (0 : Nat) < 1 by decide) rfl hnb dX1_forceOn_108 ?_
      refine lv_nge (tgt := 181) hx hb (by omega) (by omega) dX1_forceOn_111 (by decide) (fun c => ?_) (fun c => absurd c (by omega))
      rw [hQ]
      exact rX (rW_v hx hb hr hlk hS (⟨hlt, D1, R1, hex, hW⟩) dX1_forceOn_181)
set_option maxHeartbeats 4000000 in
theorem m_X1_list (l : Launch) (A : Nat → Prop) (Dg : va_G) (dA : Nat → ClassId) (ad : Nat → Nat → Nat) (n : Nat) (nb : Nat) (nr : Nat) (no : Nat) (J : Nat → Nat → Nat) (R : Nat → Value) (D : T64) (I : T32) (D0 : T64) (hag : agD D D0) (hB : Bd n nb nr J D0) (hn : I 20 0 = nI n) (li : Int32) (hli : I 23 0 = li) : MX l yX1_list cX1_list 5 none [] (rmx 4 0 0) [.ref (ad 0 0)] (Pw Dg dA (cW A Dg dA ad n nb nr no J R D I)) (qW (fun _ : Unit => none) (fun _ H => ∃ D1 I1, cW A Dg dA ad n nb nr no J R D1 I1 H ∧ ((oldB D0 li n = false ∧ exc sF D1 D ∧ I1 = I) ∨ (oldB D0 li n = true ∧ exc sF D1 (lsT n D) ∧ exc sI I1 I ∧ I1 23 0 = nI 1 ∧ I1 25 0 = I 25 0 + 1 ∧ ∀ i, i < n → RowOK I1 i (nbs D0 i n)))) A) 0 0 A := by
  refine MX.start (Nat.le_of_ble_eq_true rfl) ?_
  intro p e s m args below meth c ls Q hAt hPc hl hQ
  have hl : lv_has ls 5 [(0, .ref (ad 0 0))] := hl
  obtain ⟨hx, hb, hml, hr, hlk, hown, hnm, htab, hts⟩ := id hAt
  obtain ⟨hK, hW⟩ := hPc
  have Z := Cx.of hAt hK
  have hS : va_S A s.heap s.heap [] := va_S.rf
  have hn10 := hB.n10
  refine lv_aload_n hx hb dX1_list_0 rfl (lv_at hl 0 rfl) ?_
  refine wx_ws (wx_V (As := []) (rest := []) hAt.fix (m_X1_outdated l A Dg dA ad n nb nr no J R D I D0 hag hB hn li hli) q574 q576 qs9 q577 wn_X1_outdated ⟨Nat.le_of_ble_eq_true rfl, Nat.le_of_ble_eq_true rfl, Nat.le_of_ble_eq_true rfl, Nat.le_of_ble_eq_true rfl⟩ (w_recv hK hW kX1 rfl (show (0 : Nat) < 1 by decide)) (Pw.of hK hW) hl.1 (Nat.le_of_ble_eq_true rfl) dX1_list_1) hS (fun r H locs hW hz hS => ?_)
  obtain ⟨hr1, D1, hex, hW⟩ := hW
  have hag1 := hag.F hex
  rcases hr1 with ⟨rfl, hq⟩ | ⟨rfl, hq⟩
  · have q1 := hq
    refine lv_if_ne (tgt := 8) hx hb dX1_list_4 (by decide) (fun _ => ?_) (fun h => absurd h (by decide))
    refine lv_aload_n hx hb dX1_list_8 rfl (lv_at hl 0 rfl) ?_
    refine g_D (x := D0 21 0) Z hW kX1 rfl 1 (by decide) q142 (show (0 : Nat) < 1 by decide) rfl (hag1 21 0 rfl) dX1_list_9 ?_
    refine lv_aload_n hx hb dX1_list_12 rfl (lv_at hl 0 rfl) ?_
    refine g_D (x := D0 22 0) Z hW kX1 rfl 2 (by decide) q143 (show (0 : Nat) < 1 by decide) rfl (hag1 22 0 rfl) dX1_list_13 ?_
    have f3 : fb (5) (FP.dadd (D0 21 0) (D0 22 0)) := fb.add hB.cut hB.skin (by decide)
    refine lv_dadd hx hb dX1_list_16 f3.n64 ?_
    refine lv_ldc2d (v := 4562254508917369340) hx hb hown (hts _ (lw_car_all q578)) dX1_list_17 ?_
    have f4 : fb (6) (FP.dadd (FP.dadd (D0 21 0) (D0 22 0)) 4562254508917369340) := fb.add f3 fc_4562254508917369340 (by decide)
    refine lv_dadd hx hb dX1_list_20 f4.n64 ?_
    refine lv_dstore_n (lv' := [(1, .double (FP.dadd (FP.dadd (D0 21 0) (D0 22 0)) 4562254508917369340)), (0, .ref (ad 0 0))]) hx hb dX1_list_21 rfl hl (by decide) rfl (fun ls hl => ?_)
    refine lv_iconst (v := nI 0) hx hb dX1_list_22 rfl ?_
    refine lv_istore_n (lv' := [(3, .int (nI 0)), (1, .double (FP.dadd (FP.dadd (D0 21 0) (D0 22 0)) 4562254508917369340)), (0, .ref (ad 0 0))]) hx hb dX1_list_23 rfl hl (by decide) rfl (fun ls hl => ?_)
    refine wl_up n 0 (fun i H locs ls => ∃ D1 I1, lv_has ls 5 [(3, .int (nI i)), (1, .double (rch D0)), (0, .ref (ad 0 0))] ∧ cW A Dg dA ad n nb nr no J R D1 I1 H ∧ va_S A s.heap H locs ∧ exc sF D1 (lsT i D) ∧ exc sR I1 I ∧ ∀ a, a < i → RowOK I1 a (nbs D0 a n)) (Nat.zero_le _) ⟨_, I, lv_sub hl [0, 1, 2] rfl, hW, hS, by rw [lsT_0]; exact hex, exc.rf, lt_0⟩ ?_ ?_
    · intro i H locs ls hi hP ih
      obtain ⟨D1, I1, hl, hW, hS, hex, hexI, hrows⟩ := hP
      have hn1 : I1 20 0 = nI n := (hexI 20 0 rfl).trans hn
      have hag1 : agD D1 (lsT i D0) := (hag.ls i).F hex
      refine lv_iload_n hx hb dX1_list_24 rfl (lv_at hl 0 rfl) ?_
      refine lv_aload_n hx hb dX1_list_25 rfl (lv_at hl 2 rfl) ?_
      refine g_I (x := nI n) Z hW kX1 rfl 8 (by decide) q149 (show (0 : Nat) < 1 by decide) rfl hn1 dX1_list_26 ?_
      refine lv_nge (tgt := 156) hx hb (by omega) (by omega) dX1_list_29 (by decide) (fun c => absurd c (by omega)) (fun c => ?_)
      refine lv_aload_n hx hb dX1_list_32 rfl (lv_at hl 2 rfl) ?_
      refine w_getR (v := .ref (ad 16 0)) Z hW kX1 rfl 15 (by decide) q156 (show (0 : Nat) < 1 by decide) rfl rfl dX1_list_33 ?_
      refine lv_iload_n hx hb dX1_list_36 rfl (lv_at hl 0 rfl) ?_
      refine lv_iconst (v := nI 0) hx hb dX1_list_37 rfl ?_
      refine w_ais (j := i) (ix := i) Z hW hS rfl (show (0 : Nat) < 1 by decide) rfl (by omega) (by decide) (show (i : Nat) < 10 by omega) rfl rfl dX1_list_38 (fun H locs hW hS => ?_)
      refine lv_aload_n hx hb dX1_list_39 rfl (lv_at hl 2 rfl) ?_
      refine w_getR (v := .ref (ad 11 0)) Z hW kX1 rfl 5 (by decide) q146 (show (0 : Nat) < 1 by decide) rfl rfl dX1_list_40 ?_
      refine lv_iload_n hx hb dX1_list_43 rfl (lv_at hl 0 rfl) ?_
      refine a_R (j := i) (v := .ref (ad 2 i)) (ix := i) Z hW rfl (show (0 : Nat) < 1 by decide) (by omega) (by decide) rfl rfl rfl rfl (cR_atom (show (i : Nat) < n by omega)) dX1_list_44 ?_
      refine lv_aload_n hx hb dX1_list_45 rfl (lv_at hl 2 rfl) ?_
      refine w_getR (v := .ref (ad 11 0)) Z hW kX1 rfl 5 (by decide) q146 (show (0 : Nat) < 1 by decide) rfl rfl dX1_list_46 ?_
      refine lv_iload_n hx hb dX1_list_49 rfl (lv_at hl 0 rfl) ?_
      refine a_R (j := i) (v := .ref (ad 2 i)) (ix := i) Z hW rfl (show (0 : Nat) < 1 by decide) (by omega) (by decide) rfl rfl rfl rfl (cR_atom (show (i : Nat) < n by omega)) dX1_list_50 ?_
      refine g_D (x := D0 0 i) Z hW kX6 rfl 3 (by decide) q375 (show (i : Nat) < n by omega) rfl (hag1 0 i rfl) dX1_list_51 ?_
      refine w_putD Z hW hS kX6 rfl 12 (by decide) (by decide) q390 rfl (show (i : Nat) < n by omega) rfl rfl dX1_list_54 (fun H locs hW hS => ?_)
      refine lv_aload_n hx hb dX1_list_57 rfl (lv_at hl 2 rfl) ?_
      refine w_getR (v := .ref (ad 11 0)) Z hW kX1 rfl 5 (by decide) q146 (show (0 : Nat) < 1 by decide) rfl rfl dX1_list_58 ?_
      refine lv_iload_n hx hb dX1_list_61 rfl (lv_at hl 0 rfl) ?_
      refine a_R (j := i) (v := .ref (ad 2 i)) (ix := i) Z hW rfl (show (0 : Nat) < 1 by decide) (by omega) (by decide) rfl rfl rfl rfl (cR_atom (show (i : Nat) < n by omega)) dX1_list_62 ?_
      refine lv_aload_n hx hb dX1_list_63 rfl (lv_at hl 2 rfl) ?_
      refine w_getR (v := .ref (ad 11 0)) Z hW kX1 rfl 5 (by decide) q146 (show (0 : Nat) < 1 by decide) rfl rfl dX1_list_64 ?_
      refine lv_iload_n hx hb dX1_list_67 rfl (lv_at hl 0 rfl) ?_
      refine a_R (j := i) (v := .ref (ad 2 i)) (ix := i) Z hW rfl (show (0 : Nat) < 1 by decide) (by omega) (by decide) rfl rfl rfl rfl (cR_atom (show (i : Nat) < n by omega)) dX1_list_68 ?_
      refine g_D (x := D0 1 i) Z hW kX6 rfl 4 (by decide) q377 (show (i : Nat) < n by omega) rfl ((up2_f _ _ _ _ (by decide)).trans (hag1 1 i rfl)) dX1_list_69 ?_
      refine w_putD Z hW hS kX6 rfl 13 (by decide) (by decide) q391 rfl (show (i : Nat) < n by omega) rfl rfl dX1_list_72 (fun H locs hW hS => ?_)
      refine lv_iconst (v := nI 0) hx hb dX1_list_75 rfl ?_
      refine lv_istore (lv' := [(4, .int (nI 0)), (3, .int (nI i)), (1, .double (rch D0)), (0, .ref (ad 0 0))]) hx hb dX1_list_76 hl (by decide) rfl (fun ls hl => ?_)
      have hex2 : exc sF (up2 (up2 D1 5 i (D0 0 i)) 6 i (D0 1 i)) (lsT (i + 1) D) := by rw [← lsT_step, hag 0 i rfl, hag 1 i rfl]; exact (hex.put 5 i _).put 6 i _
      have hexI2 : exc sR (up2 I1 31 i (nI 0)) I := hexI.up rfl
      have ih0 := ih
      have hi0 := hi
      refine wl_up n 0 (fun j H locs ls => ∃ D2 I2, lv_has ls 5 [(4, .int (nI j)), (3, .int (nI i)), (1, .double (rch D0)), (0, .ref (ad 0 0))] ∧ cW A Dg dA ad n nb nr no J R D2 I2 H ∧ va_S A s.heap H locs ∧ exc sF D2 (lsT (i + 1) D) ∧ exc sR I2 I ∧ (∀ a, a < i → RowOK I2 a (nbs D0 a n)) ∧ RowOK I2 i (nbs D0 i j)) (Nat.zero_le _) ⟨_, _, lv_sub hl [0, 1, 2, 3] rfl, hW, hS, hex2, hexI2, fun a ha => (hrows a ha).keep0 (by omega), RowOK.zero⟩ ?_ ?_
      · intro j H locs ls hi hP ih
        obtain ⟨D2, I2, hl, hW, hS, hex2, hexI2, hrows, hrow⟩ := hP
        have hn2 : I2 20 0 = nI n := (hexI2 20 0 rfl).trans hn
        have hj := hi
        replace hi := hi0
        have hag2 : agD D2 (lsT (i + 1) D0) := (hag.ls (i + 1)).F hex2
        have hlen := nbs_len (D := D0) (i := i) (m := j)
        refine lv_iload hx hb dX1_list_78 (lv_at hl 0 rfl) ?_
        refine lv_aload_n hx hb dX1_list_80 rfl (lv_at hl 3 rfl) ?_
        refine g_I (x := nI n) Z hW kX1 rfl 8 (by decide) q149 (show (0 : Nat) < 1 by decide) rfl hn2 dX1_list_81 ?_
        refine lv_nge (tgt := 150) hx hb (by omega) (by omega) dX1_list_84 (by decide) (fun c => absurd c (by omega)) (fun c => ?_)
        refine lv_aload_n hx hb dX1_list_87 rfl (lv_at hl 3 rfl) ?_
        refine lv_aload_n hx hb dX1_list_88 rfl (lv_at hl 3 rfl) ?_
        refine w_getR (v := .ref (ad 11 0)) Z hW kX1 rfl 5 (by decide) q146 (show (0 : Nat) < 1 by decide) rfl rfl dX1_list_89 ?_
        refine lv_iload_n hx hb dX1_list_92 rfl (lv_at hl 1 rfl) ?_
        refine a_R (j := i) (v := .ref (ad 2 i)) (ix := i) Z hW rfl (show (0 : Nat) < 1 by decide) (by omega) (by decide) rfl rfl rfl rfl (cR_atom (show (i : Nat) < n by omega)) dX1_list_93 ?_
        refine lv_aload_n hx hb dX1_list_94 rfl (lv_at hl 3 rfl) ?_
        refine w_getR (v := .ref (ad 11 0)) Z hW kX1 rfl 5 (by decide) q146 (show (0 : Nat) < 1 by decide) rfl rfl dX1_list_95 ?_
        refine lv_iload hx hb dX1_list_98 (lv_at hl 0 rfl) ?_
        refine a_R (j := j) (v := .ref (ad 2 j)) (ix := j) Z hW rfl (show (0 : Nat) < 1 by decide) (by omega) (by decide) rfl rfl rfl rfl (cR_atom (show (j : Nat) < n by omega)) dX1_list_100 ?_
        refine wx_wv (wx_V (As := [.ref (ad 2 i), .ref (ad 2 j)]) (rest := []) hAt.fix (m_X1_from l A Dg dA ad n nb nr no J R D2 I2 ((lsT (i + 1) D0)) hag2 hB.ls i j hi hj) q228 q230 qs0 q231 wn_X1_from ⟨Nat.le_of_ble_eq_true rfl, Nat.le_of_ble_eq_true rfl, Nat.le_of_ble_eq_true rfl, Nat.le_of_ble_eq_true rfl⟩ (w_recv hK hW kX1 rfl (show (0 : Nat) < 1 by decide)) (Pw.of hK hW) hl.1 (Nat.le_of_ble_eq_true rfl) dX1_list_101) hS (fun H locs hW hz hS => ?_)
        replace hW : cW A Dg dA ad n nb nr no J R ((up2 (up2 D2 34 0 (wA D0 i j)) 35 0 (wB D0 i j))) I2 H := hW
        refine lv_iload hx hb dX1_list_104 (lv_at hl 0 rfl) ?_
        refine lv_iload_n hx hb dX1_list_106 rfl (lv_at hl 1 rfl) ?_
        refine lv_neq (tgt := 144) hx hb (by omega) (by omega) dX1_list_107 (by decide) (fun c5 => ?_) (fun c5 => ?_)
        · refine lv_iinc1 (lv' := [(4, .int (nI (j + 1))), (3, .int (nI i)), (1, .double (rch D0)), (0, .ref (ad 0 0))]) hx hb dX1_list_144 hl (k := 0) rfl (by decide) rfl (fun ls hl => ?_)
          refine lv_goto (tgt := 78) hx hb dX1_list_147 (by decide) ?_
          exact ih _ _ _ ⟨_, _, lv_sub hl [0, 1, 2, 3] rfl, hW, hS, (hex2.up rfl).up rfl, hexI2, hrows, by rw [nbs_no (Or.inl c5)]; exact hrow⟩
        · refine lv_aload_n hx hb dX1_list_110 rfl (lv_at hl 3 rfl) ?_
          refine w_getR (v := .ref (ad 6 0)) Z hW kX1 rfl 12 (by decide) q153 (show (0 : Nat) < 1 by decide) rfl rfl dX1_list_111 ?_
          refine wx_r (wx_V (As := []) (rest := []) hAt.fix (m_X4_square l A Dg dA ad n nb nr no J R ((up2 (up2 D2 34 0 (wA D0 i j)) 35 0 (wB D0 i j))) I2 0 ((by decide)) (wA D0 i j) (wB D0 i j) rfl rfl ((wA_fb hB hi hj)) ((wB_fb hB hi hj))) q239 q240 q241 q242 wn_X4_square ⟨Nat.le_of_ble_eq_true rfl, Nat.le_of_ble_eq_true rfl, Nat.le_of_ble_eq_true rfl, Nat.le_of_ble_eq_true rfl⟩ (w_recv hK hW kX4 rfl (show (0 : Nat) < 2 by decide)) (Pw.of hK hW) hl.1 (Nat.le_of_ble_eq_true rfl) dX1_list_114) (fun r hr => ?_)
          subst hr
          refine lv_dload_n hx hb dX1_list_117 rfl (lv_at hl 2 rfl) ?_
          refine lv_dload_n hx hb dX1_list_118 rfl (lv_at hl 2 rfl) ?_
          have f6 : fb (12) (FP.dmul (rch D0) (rch D0)) := fb.mul (rch_fb hB) (rch_fb hB) (by decide)
          refine lv_dmul hx hb dX1_list_119 f6.n64 ?_
          refine lv_dg_ge (tgt := 144) hx hb dX1_list_120 dX1_list_121 (by decide) (fun c7 => ?_) (fun c7 => ?_)
          · refine lv_iinc1 (lv' := [(4, .int (nI (j + 1))), (3, .int (nI i)), (1, .double (rch D0)), (0, .ref (ad 0 0))]) hx hb dX1_list_144 hl (k := 0) rfl (by decide) rfl (fun ls hl => ?_)
            refine lv_goto (tgt := 78) hx hb dX1_list_147 (by decide) ?_
            exact ih _ _ _ ⟨_, _, lv_sub hl [0, 1, 2, 3] rfl, hW, hS, (hex2.up rfl).up rfl, hexI2, hrows, by rw [nbs_no (Or.inr c7)]; exact hrow⟩
          · refine lv_aload_n hx hb dX1_list_124 rfl (lv_at hl 3 rfl) ?_
            refine w_getR (v := .ref (ad 14 0)) Z hW kX1 rfl 14 (by decide) q155 (show (0 : Nat) < 1 by decide) rfl rfl dX1_list_125 ?_
            refine lv_iload_n hx hb dX1_list_128 rfl (lv_at hl 1 rfl) ?_
            refine a_R (j := i) (v := .ref (ad 15 i)) (ix := i) Z hW rfl (show (0 : Nat) < 1 by decide) (by omega) (by decide) rfl rfl rfl rfl rfl dX1_list_129 ?_
            refine lv_aload_n hx hb dX1_list_130 rfl (lv_at hl 3 rfl) ?_
            refine w_getR (v := .ref (ad 16 0)) Z hW kX1 rfl 15 (by decide) q156 (show (0 : Nat) < 1 by decide) rfl rfl dX1_list_131 ?_
            refine lv_iload_n hx hb dX1_list_134 rfl (lv_at hl 1 rfl) ?_
            refine lv_dup2_11 hx hb dX1_list_135 rfl rfl ?_
            refine a_I (j := i) (x := nI (nbs D0 i j).length) (ix := i) Z hW rfl (show (0 : Nat) < 1 by decide) (by omega) (by decide) rfl rfl hrow.1 dX1_list_136 ?_
            refine lv_dup_x2 hx hb dX1_list_137 rfl rfl rfl ?_
            refine lv_iconst (v := nI 1) hx hb dX1_list_138 rfl ?_
            refine lv_iadd hx hb dX1_list_139 ?_
            rw [nI_add]
            refine w_ais (j := i) (ix := i) Z hW hS rfl (show (0 : Nat) < 1 by decide) rfl (by omega) (by decide) (show (i : Nat) < 10 by omega) rfl rfl dX1_list_140 (fun H locs hW hS => ?_)
            refine lv_iload hx hb dX1_list_141 (lv_at hl 0 rfl) ?_
            refine w_ais (j := ((nbs D0 i j).length)) (ix := ((nbs D0 i j).length) + 16 * i) Z hW hS rfl (show (i : Nat) < 10 by omega) rfl (by omega) (by decide) (show ((nbs D0 i j).length : Nat) < 10 by omega) rfl rfl dX1_list_143 (fun H locs hW hS => ?_)
            refine lv_iinc1 (lv' := [(4, .int (nI (j + 1))), (3, .int (nI i)), (1, .double (rch D0)), (0, .ref (ad 0 0))]) hx hb dX1_list_144 hl (k := 0) rfl (by decide) rfl (fun ls hl => ?_)
            refine lv_goto (tgt := 78) hx hb dX1_list_147 (by decide) ?_
            exact ih _ _ _ ⟨_, _, lv_sub hl [0, 1, 2, 3] rfl, hW, hS, (hex2.up rfl).up rfl, (hexI2.up rfl).up rfl, fun a ha => (hrows a ha).keep (by omega) (by omega) (Nat.le_trans nbs_len (by omega)), by rw [nbs_add c5 c7]; exact hrow.push⟩
      · intro H locs ls hP
        obtain ⟨D2, I2, hl, hW, hS, hex2, hexI2, hrows, hrow⟩ := hP
        have hn2 : I2 20 0 = nI n := (hexI2 20 0 rfl).trans hn
        refine lv_iload hx hb dX1_list_78 (lv_at hl 0 rfl) ?_
        refine lv_aload_n hx hb dX1_list_80 rfl (lv_at hl 3 rfl) ?_
        refine g_I (x := nI n) Z hW kX1 rfl 8 (by decide) q149 (show (0 : Nat) < 1 by decide) rfl hn2 dX1_list_81 ?_
        refine lv_nge (tgt := 150) hx hb (by omega) (by omega) dX1_list_84 (by decide) (fun c => ?_) (fun c => absurd c (by omega))
        refine lv_iinc1 (lv' := [(3, .int (nI (i + 1))), (4, .int (nI n)), (1, .double (rch D0)), (0, .ref (ad 0 0))]) hx hb dX1_list_150 hl (k := 1) rfl (by decide) rfl (fun ls hl => ?_)
        refine lv_goto (tgt := 24) hx hb dX1_list_153 (by decide) ?_
        exact ih0 _ _ _ ⟨_, _, lv_sub hl [0, 2, 3] rfl, hW, hS, hex2, hexI2, lt_s hrows hrow⟩
    · intro H locs ls hP
      obtain ⟨D1, I1, hl, hW, hS, hex, hexI, hrows⟩ := hP
      have hn1 : I1 20 0 = nI n := (hexI 20 0 rfl).trans hn
      have hag1 : agD D1 (lsT n D0) := (hag.ls n).F hex
      refine lv_iload_n hx hb dX1_list_24 rfl (lv_at hl 0 rfl) ?_
      refine lv_aload_n hx hb dX1_list_25 rfl (lv_at hl 2 rfl) ?_
      refine g_I (x := nI n) Z hW kX1 rfl 8 (by decide) q149 (show (0 : Nat) < 1 by decide) rfl hn1 dX1_list_26 ?_
      refine lv_nge (tgt := 156) hx hb (by omega) (by omega) dX1_list_29 (by decide) (fun c => ?_) (fun c => absurd c (by omega))
      refine lv_aload_n hx hb dX1_list_156 rfl (lv_at hl 2 rfl) ?_
      refine lv_iconst (v := nI 1) hx hb dX1_list_157 rfl ?_
      refine w_putI Z hW hS kX1 rfl 16 (by decide) (by decide) q157 rfl (show (0 : Nat) < 1 by decide) rfl rfl rfl dX1_list_158 (fun H locs hW hS => ?_)
      refine lv_aload_n hx hb dX1_list_161 rfl (lv_at hl 2 rfl) ?_
      refine lv_dup hx hb dX1_list_162 rfl ?_
      refine g_I (x := I 25 0) Z hW kX1 rfl 20 (by decide) q161 (show (0 : Nat) < 1 by decide) rfl (hexI 25 0 rfl) dX1_list_163 ?_
      refine lv_iconst (v := nI 1) hx hb dX1_list_166 rfl ?_
      refine lv_iadd hx hb dX1_list_167 ?_
      refine w_putI Z hW hS kX1 rfl 20 (by decide) (by decide) q161 rfl (show (0 : Nat) < 1 by decide) rfl rfl rfl dX1_list_168 (fun H locs hW hS => ?_)
      rw [hQ]
      exact rW_v hx hb hr hlk hS (⟨_, _, hW, Or.inr ⟨q1, hex, ((hexI.mono sRI).up rfl).up rfl, rfl, rfl, fun a ha => (hrows a ha).cg (S := s2 23 25) ((exc.rf.up rfl).up rfl) rfl rfl⟩⟩) dX1_list_171
  · have q8 := hq
    refine lv_if_ne (tgt := 8) hx hb dX1_list_4 (by decide) (fun h => absurd nI_0 h) (fun _ => ?_)
    rw [hQ]
    exact rW_v hx hb hr hlk hS (⟨D1, I, hW, Or.inl ⟨q8, hex, rfl⟩⟩) dX1_list_7
