set_option maxRecDepth 100000
/-! ===== the class: loops ===== -/
theorem sroot_fb {z : UInt64} (hz : feq z FP.dconst0 ∨ RtZ z) : fb 32 (sRoot z) := by
  unfold sRoot
  split
  · exact fc_0.mono (by decide)
  · rename_i h
    exact (root_b (hz.resolve_left h) 40 (Nat.le_refl _)).1
theorem rsc_t {T : UInt64} {n : Nat} {D : T64} {I : T32} (h : flt (tmpS D I n) 4517329193108106637) : rsc T n D I = D := if_pos h
theorem rsc_f {T : UInt64} {n : Nat} {D : T64} {I : T32} (h : ¬ flt (tmpS D I n) 4517329193108106637) : rsc T n D I = scD (sRoot (FP.ddiv T (tmpS D I n))) n D I := if_neg h
set_option maxHeartbeats 4000000 in
theorem m_X1_outdated (l : Launch) (A : Nat → Prop) (Dg : va_G) (dA : Nat → ClassId) (ad : Nat → Nat → Nat) (n : Nat) (nb : Nat) (nr : Nat) (no : Nat) (J : Nat → Nat → Nat) (R : Nat → Value) (D : T64) (I : T32) (D0 : T64) (hag : agD D D0) (hB : Bd n nb nr J D0) (hn : I 20 0 = nI n) (li : Int32) (hli : I 23 0 = li) : MX l yX1_outdated cX1_outdated 5 (some .boolean) [] (rmx 3 0 0) [.ref (ad 0 0)] (Pw Dg dA (cW A Dg dA ad n nb nr no J R D I)) (qW (fun r : Int32 => some (.int r)) (fun r H => ((r = nI 1 ∧ oldB D0 li n = true) ∨ (r = nI 0 ∧ oldB D0 li n = false)) ∧ ∃ D1, exc sF D1 D ∧ cW A Dg dA ad n nb nr no J R D1 I H) A) 0 0 A := by
  refine MX.start (Nat.le_of_ble_eq_true rfl) ?_
  intro p e s m args below meth c ls Q hAt hPc hl hQ
  have hl : lv_has ls 5 [(0, .ref (ad 0 0))] := hl
  obtain ⟨hx, hb, hml, hr, hlk, hown, hnm, htab, hts⟩ := id hAt
  obtain ⟨hK, hW⟩ := hPc
  have Z := Cx.of hAt hK
  have hS : va_S A s.heap s.heap [] := va_S.rf
  have hn10 := hB.n10
  refine lv_aload_n hx hb dX1_outdated_0 rfl (lv_at hl 0 rfl) ?_
  refine g_I (x := li) Z hW kX1 rfl 16 (by decide) q157 (show (0 : Nat) < 1 by decide) rfl hli dX1_outdated_1 ?_
  refine lv_if_ne (tgt := 9) hx hb dX1_outdated_4 (by decide) (fun c1 => ?_) (fun c1 => ?_)
  · refine lv_aload_n hx hb dX1_outdated_9 rfl (lv_at hl 0 rfl) ?_
    refine g_D (x := D0 22 0) Z hW kX1 rfl 2 (by decide) q143 (show (0 : Nat) < 1 by decide) rfl (hag 22 0 rfl) dX1_outdated_10 ?_
    refine lv_ldc2d (v := 4602678819172646912) hx hb hown (hts _ (lw_car_all q69)) dX1_outdated_13 ?_
    have f2 : fb (1) (FP.dmul (D0 22 0) 4602678819172646912) := fb.mul hB.skin fc_4602678819172646912 (by decide)
    refine lv_dmul hx hb dX1_outdated_16 f2.n64 ?_
    refine lv_aload_n hx hb dX1_outdated_17 rfl (lv_at hl 0 rfl) ?_
    refine g_D (x := D0 22 0) Z hW kX1 rfl 2 (by decide) q143 (show (0 : Nat) < 1 by decide) rfl (hag 22 0 rfl) dX1_outdated_18 ?_
    refine lv_ldc2d (v := 4602678819172646912) hx hb hown (hts _ (lw_car_all q69)) dX1_outdated_21 ?_
    refine lv_dmul hx hb dX1_outdated_24 f2.n64 ?_
    have f3 : fb (2) (FP.dmul (FP.dmul (D0 22 0) 4602678819172646912) (FP.dmul (D0 22 0) 4602678819172646912)) := fb.mul f2 f2 (by decide)
    refine lv_dmul hx hb dX1_outdated_25 f3.n64 ?_
    refine lv_dstore_n (lv' := [(1, .double (FP.dmul (FP.dmul (D0 22 0) 4602678819172646912) (FP.dmul (D0 22 0) 4602678819172646912))), (0, .ref (ad 0 0))]) hx hb dX1_outdated_26 rfl hl (by decide) rfl (fun ls hl => ?_)
    refine lv_iconst (v := nI 0) hx hb dX1_outdated_27 rfl ?_
    refine lv_istore_n (lv' := [(3, .int (nI 0)), (1, .double (FP.dmul (FP.dmul (D0 22 0) 4602678819172646912) (FP.dmul (D0 22 0) 4602678819172646912))), (0, .ref (ad 0 0))]) hx hb dX1_outdated_28 rfl hl (by decide) rfl (fun ls hl => ?_)
    refine wl_up n 0 (fun i H locs ls => ∃ D1, lv_has ls 5 [(3, .int (nI i)), (1, .double (most D0)), (0, .ref (ad 0 0))] ∧ cW A Dg dA ad n nb nr no J R D1 I H ∧ va_S A s.heap H locs ∧ exc sF D1 D ∧ ∀ j, j < i → ¬ fgt (vR D0 j) (most D0)) (Nat.zero_le _) ⟨D, lv_sub hl [0, 1, 2] rfl, hW, hS, exc.rf, lt_0⟩ ?_ ?_
    · intro i H locs ls hi hP ih
      obtain ⟨D1, hl, hW, hS, hex, hlt⟩ := hP
      have hag1 := hag.F hex
      refine lv_iload_n hx hb dX1_outdated_29 rfl (lv_at hl 0 rfl) ?_
      refine lv_aload_n hx hb dX1_outdated_30 rfl (lv_at hl 2 rfl) ?_
      refine g_I (x := nI n) Z hW kX1 rfl 8 (by decide) q149 (show (0 : Nat) < 1 by decide) rfl hn dX1_outdated_31 ?_
      refine lv_nge (tgt := 109) hx hb (by omega) (by omega) dX1_outdated_34 (by decide) (fun c => absurd c (by omega)) (fun c => ?_)
      refine lv_aload_n hx hb dX1_outdated_37 rfl (lv_at hl 2 rfl) ?_
      refine w_getR (v := .ref (ad 11 0)) Z hW kX1 rfl 5 (by decide) q146 (show (0 : Nat) < 1 by decide) rfl rfl dX1_outdated_38 ?_
      refine lv_iload_n hx hb dX1_outdated_41 rfl (lv_at hl 0 rfl) ?_
      refine a_R (j := i) (v := .ref (ad 2 i)) (ix := i) Z hW rfl (show (0 : Nat) < 1 by decide) (by omega) (by decide) rfl rfl rfl rfl (cR_atom (show (i : Nat) < n by omega)) dX1_outdated_42 ?_
      refine lv_astore (lv' := [(4, .ref (ad 2 i)), (3, .int (nI i)), (1, .double (most D0)), (0, .ref (ad 0 0))]) hx hb dX1_outdated_43 hl (by decide) rfl (fun ls hl => ?_)
      refine lv_aload_n hx hb dX1_outdated_45 rfl (lv_at hl 3 rfl) ?_
      refine w_getR (v := .ref (ad 6 0)) Z hW kX1 rfl 12 (by decide) q153 (show (0 : Nat) < 1 by decide) rfl rfl dX1_outdated_46 ?_
      refine lv_aload_n hx hb dX1_outdated_49 rfl (lv_at hl 3 rfl) ?_
      refine lv_aload hx hb dX1_outdated_50 (lv_at hl 0 rfl) ?_
      refine g_D (x := D0 0 i) Z hW kX6 rfl 3 (by decide) q375 (show (i : Nat) < n by omega) rfl (hag1 0 i rfl) dX1_outdated_52 ?_
      refine lv_aload hx hb dX1_outdated_55 (lv_at hl 0 rfl) ?_
      refine g_D (x := D0 5 i) Z hW kX6 rfl 12 (by decide) q390 (show (i : Nat) < n by omega) rfl (hag1 5 i rfl) dX1_outdated_57 ?_
      have f4 : fb (6) (FP.dsub (D0 0 i) (D0 5 i)) := fb.sub (hB.x (show (i : Nat) < n by omega)) (hB.lx (show (i : Nat) < n by omega)) (by decide)
      refine lv_dsub hx hb dX1_outdated_60 f4.n64 ?_
      refine wx_r (wx_V (As := [.double (FP.dsub (D0 0 i) (D0 5 i))]) (rest := [.ref (ad 6 0)]) hAt.fix (m_X1_shortest l A Dg dA ad n nb nr no J R D1 I (D0 20 0) (FP.dsub (D0 0 i) (D0 5 i)) ((hag1 20 0 rfl)) hB.side ((f4.mono (by decide)))) q232 q234 qs1 q235 wn_X1_shortest ⟨Nat.le_of_ble_eq_true rfl, Nat.le_of_ble_eq_true rfl, Nat.le_of_ble_eq_true rfl, Nat.le_of_ble_eq_true rfl⟩ (w_recv hK hW kX1 rfl (show (0 : Nat) < 1 by decide)) (Pw.of hK hW) hl.1 (Nat.le_of_ble_eq_true rfl) dX1_outdated_61) (fun r hr => ?_)
      subst hr
      refine w_putD Z hW hS kX4 rfl 0 (by decide) (by decide) q122 rfl (show (0 : Nat) < 2 by decide) rfl rfl dX1_outdated_64 (fun H locs hW hS => ?_)
      refine lv_aload_n hx hb dX1_outdated_67 rfl (lv_at hl 3 rfl) ?_
      refine w_getR (v := .ref (ad 6 0)) Z hW kX1 rfl 12 (by decide) q153 (show (0 : Nat) < 1 by decide) rfl rfl dX1_outdated_68 ?_
      refine lv_aload_n hx hb dX1_outdated_71 rfl (lv_at hl 3 rfl) ?_
      refine lv_aload hx hb dX1_outdated_72 (lv_at hl 0 rfl) ?_
      refine g_D (x := D0 1 i) Z hW kX6 rfl 4 (by decide) q377 (show (i : Nat) < n by omega) rfl ((up2_f _ _ _ _ (by decide)).trans (hag1 1 i rfl)) dX1_outdated_74 ?_
      refine lv_aload hx hb dX1_outdated_77 (lv_at hl 0 rfl) ?_
      refine g_D (x := D0 6 i) Z hW kX6 rfl 13 (by decide) q391 (show (i : Nat) < n by omega) rfl ((up2_f _ _ _ _ (by decide)).trans (hag1 6 i rfl)) dX1_outdated_79 ?_
      have f5 : fb (6) (FP.dsub (D0 1 i) (D0 6 i)) := fb.sub (hB.y (show (i : Nat) < n by omega)) (hB.ly (show (i : Nat) < n by omega)) (by decide)
      refine lv_dsub hx hb dX1_outdated_82 f5.n64 ?_
      refine wx_r (wx_V (As := [.double (FP.dsub (D0 1 i) (D0 6 i))]) (rest := [.ref (ad 6 0)]) hAt.fix (m_X1_shortest l A Dg dA ad n nb nr no J R ((up2 D1 34 0 (sShort (D0 20 0) (FP.dsub (D0 0 i) (D0 5 i))))) I (D0 20 0) (FP.dsub (D0 1 i) (D0 6 i)) (((up2_f _ _ _ _ (by decide)).trans (hag1 20 0 rfl))) hB.side ((f5.mono (by decide)))) q232 q234 qs1 q235 wn_X1_shortest ⟨Nat.le_of_ble_eq_true rfl, Nat.le_of_ble_eq_true rfl, Nat.le_of_ble_eq_true rfl, Nat.le_of_ble_eq_true rfl⟩ (w_recv hK hW kX1 rfl (show (0 : Nat) < 1 by decide)) (Pw.of hK hW) hl.1 (Nat.le_of_ble_eq_true rfl) dX1_outdated_83) (fun r hr => ?_)
      subst hr
      refine w_putD Z hW hS kX4 rfl 1 (by decide) (by decide) q124 rfl (show (0 : Nat) < 2 by decide) rfl rfl dX1_outdated_86 (fun H locs hW hS => ?_)
      refine lv_aload_n hx hb dX1_outdated_89 rfl (lv_at hl 3 rfl) ?_
      refine w_getR (v := .ref (ad 6 0)) Z hW kX1 rfl 12 (by decide) q153 (show (0 : Nat) < 1 by decide) rfl rfl dX1_outdated_90 ?_
      refine wx_r (wx_V (As := []) (rest := []) hAt.fix (m_X4_square l A Dg dA ad n nb nr no J R ((up2 (up2 D1 34 0 (sShort (D0 20 0) (FP.dsub (D0 0 i) (D0 5 i)))) 35 0 (sShort (D0 20 0) (FP.dsub (D0 1 i) (D0 6 i))))) I 0 ((by decide)) (vA D0 i) (vB D0 i) rfl rfl ((vA_fb hB hi)) ((vB_fb hB hi))) q239 q240 q241 q242 wn_X4_square ⟨Nat.le_of_ble_eq_true rfl, Nat.le_of_ble_eq_true rfl, Nat.le_of_ble_eq_true rfl, Nat.le_of_ble_eq_true rfl⟩ (w_recv hK hW kX4 rfl (show (0 : Nat) < 2 by decide)) (Pw.of hK hW) hl.1 (Nat.le_of_ble_eq_true rfl) dX1_outdated_93) (fun r hr => ?_)
      subst hr
      refine lv_dload_n hx hb dX1_outdated_96 rfl (lv_at hl 2 rfl) ?_
      refine lv_dl_le (tgt := 103) hx hb dX1_outdated_97 dX1_outdated_98 (by decide) (fun c6 => ?_) (fun c6 => ?_)
      · refine lv_iinc1 (lv' := [(3, .int (nI (i + 1))), (4, .ref (ad 2 i)), (1, .double (most D0)), (0, .ref (ad 0 0))]) hx hb dX1_outdated_103 hl (k := 1) rfl (by decide) rfl (fun ls hl => ?_)
        refine lv_goto (tgt := 29) hx hb dX1_outdated_106 (by decide) ?_
        exact ih _ _ _ ⟨_, lv_sub hl [0, 2, 3] rfl, hW, hS, (hex.up rfl).up rfl, lt_s hlt c6⟩
      · refine lv_iconst (v := nI 1) hx hb dX1_outdated_101 rfl ?_
        rw [hQ]
        exact rW_z hx hb hr hlk hS (Or.inr rfl) (⟨Or.inl ⟨rfl, oldB_t.mpr (Or.inr ⟨i, hi, c6⟩)⟩, _, (hex.up rfl).up rfl, hW⟩) dX1_outdated_102
    · intro H locs ls hP
      obtain ⟨D1, hl, hW, hS, hex, hlt⟩ := hP
      have hag1 := hag.F hex
      refine lv_iload_n hx hb dX1_outdated_29 rfl (lv_at hl 0 rfl) ?_
      refine lv_aload_n hx hb dX1_outdated_30 rfl (lv_at hl 2 rfl) ?_
      refine g_I (x := nI n) Z hW kX1 rfl 8 (by decide) q149 (show (0 : Nat) < 1 by decide) rfl hn dX1_outdated_31 ?_
      refine lv_nge (tgt := 109) hx hb (by omega) (by omega) dX1_outdated_34 (by decide) (fun c => ?_) (fun c => absurd c (by omega))
      refine lv_iconst (v := nI 0) hx hb dX1_outdated_109 rfl ?_
      rw [hQ]
      exact rW_z hx hb hr hlk hS (Or.inl rfl) (⟨Or.inr ⟨rfl, oldB_f.mpr ⟨c1, hlt⟩⟩, D1, hex, hW⟩) dX1_outdated_110
  · refine lv_iconst (v := nI 1) hx hb dX1_outdated_7 rfl ?_
    rw [hQ]
    exact rW_z hx hb hr hlk hS (Or.inr rfl) (⟨Or.inl ⟨rfl, oldB_t.mpr (Or.inl c1)⟩, D, exc.rf, hW⟩) dX1_outdated_8
set_option maxHeartbeats 4000000 in
theorem m_X1_pushAll (l : Launch) (A : Nat → Prop) (Dg : va_G) (dA : Nat → ClassId) (ad : Nat → Nat → Nat) (n : Nat) (nb : Nat) (nr : Nat) (no : Nat) (J : Nat → Nat → Nat) (R : Nat → Value) (D : T64) (I : T32) (hB : Bd n nb nr J D) (hn : I 20 0 = nI n) (half : UInt64) (f1 : fb 0 half) (hu : Bu 20 n D) (hf : ∀ i, i < n → fb 160 (D 30 i) ∧ fb 160 (D 31 i)) : MX l yX1_pushAll cX1_pushAll 4 none [] (rmx 2 0 0) [.ref (ad 0 0), .double (half)] (Pw Dg dA (cW A Dg dA ad n nb nr no J R D I)) (qW (fun _ : Unit => none) (fun _ H => cW A Dg dA ad n nb nr no J R ((psD half n D I)) I H) A) 0 0 A := by
  refine MX.start (Nat.le_of_ble_eq_true rfl) ?_
  intro p e s m args below meth c ls Q hAt hPc hl hQ
  have hl : lv_has ls 4 [(0, .ref (ad 0 0)), (1, .double (half))] := hl
  obtain ⟨hx, hb, hml, hr, hlk, hown, hnm, htab, hts⟩ := id hAt
  obtain ⟨hK, hW⟩ := hPc
  have Z := Cx.of hAt hK
  have hS : va_S A s.heap s.heap [] := va_S.rf
  have hn10 := hB.n10
  refine lv_iconst (v := nI 0) hx hb dX1_pushAll_0 rfl ?_
  refine lv_istore_n (lv' := [(3, .int (nI 0)), (0, .ref (ad 0 0)), (1, .double (half))]) hx hb dX1_pushAll_1 rfl hl (by decide) rfl (fun ls hl => ?_)
  refine wl_up n 0 (fun i H locs ls => lv_has ls 4 [(3, .int (nI i)), (0, .ref (ad 0 0)), (1, .double (half))] ∧ cW A Dg dA ad n nb nr no J R ((psD half i D I)) I H ∧ va_S A s.heap H locs) (Nat.zero_le _) ⟨lv_sub hl [0, 1, 2] rfl, by unfold psD; rw [tg_0]; exact hW, hS⟩ ?_ ?_
  · intro i H locs ls hi hP ih
    obtain ⟨hl, hW, hS⟩ := hP
    refine lv_iload_n hx hb dX1_pushAll_2 rfl (lv_at hl 0 rfl) ?_
    refine lv_aload_n hx hb dX1_pushAll_3 rfl (lv_at hl 1 rfl) ?_
    refine g_I (x := nI n) Z hW kX1 rfl 8 (by decide) q149 (show (0 : Nat) < 1 by decide) rfl hn dX1_pushAll_4 ?_
    refine lv_nge (tgt := 26) hx hb (by omega) (by omega) dX1_pushAll_7 (by decide) (fun c => absurd c (by omega)) (fun c => ?_)
    refine lv_aload_n hx hb dX1_pushAll_10 rfl (lv_at hl 1 rfl) ?_
    refine w_getR (v := .ref (ad 11 0)) Z hW kX1 rfl 5 (by decide) q146 (show (0 : Nat) < 1 by decide) rfl rfl dX1_pushAll_11 ?_
    refine lv_iload_n hx hb dX1_pushAll_14 rfl (lv_at hl 0 rfl) ?_
    refine a_R (j := i) (v := .ref (ad 2 i)) (ix := i) Z hW rfl (show (0 : Nat) < 1 by decide) (by omega) (by decide) rfl rfl rfl rfl (cR_atom (show (i : Nat) < n by omega)) dX1_pushAll_15 ?_
    refine lv_dload_n hx hb dX1_pushAll_16 rfl (lv_at hl 2 rfl) ?_
    refine wx_wv (wx_V (As := [.double (half)]) (rest := []) hAt.fix (m_X6_push l A Dg dA ad n nb nr no J R ((psD half i D I)) I i hi half (D 2 i) (D 3 i) (D 30 i) (D 31 i) (D 4 i) (I 1 i) (tg_hi (Nat.lt_irrefl i)) (tg_hi (Nat.lt_irrefl i)) (tg_hi (Nat.lt_irrefl i)) (tg_hi (Nat.lt_irrefl i)) (tg_hi (Nat.lt_irrefl i)) rfl f1 ((hu i hi).1) ((hu i hi).2) ((hf i hi).1) ((hf i hi).2) ((hB.ml hi))) q631 q632 q633 q634 wn_X6_push ⟨Nat.le_of_ble_eq_true rfl, Nat.le_of_ble_eq_true rfl, Nat.le_of_ble_eq_true rfl, Nat.le_of_ble_eq_true rfl⟩ (w_recv hK hW kX6 rfl (show (i : Nat) < n by omega)) (Pw.of hK hW) hl.1 (Nat.le_of_ble_eq_true rfl) dX1_pushAll_17) hS (fun H locs hW hz hS => ?_)
    refine lv_iinc1 (lv' := [(3, .int (nI (i + 1))), (0, .ref (ad 0 0)), (1, .double (half))]) hx hb dX1_pushAll_20 hl (k := 0) rfl (by decide) rfl (fun ls hl => ?_)
    refine lv_goto (tgt := 2) hx hb dX1_pushAll_23 (by decide) ?_
    exact ih _ _ _ ⟨lv_sub hl [0, 1, 2] rfl, psD_step ▸ hW, hS⟩
  · intro H locs ls hP
    obtain ⟨hl, hW, hS⟩ := hP
    refine lv_iload_n hx hb dX1_pushAll_2 rfl (lv_at hl 0 rfl) ?_
    refine lv_aload_n hx hb dX1_pushAll_3 rfl (lv_at hl 1 rfl) ?_
    refine g_I (x := nI n) Z hW kX1 rfl 8 (by decide) q149 (show (0 : Nat) < 1 by decide) rfl hn dX1_pushAll_4 ?_
    refine lv_nge (tgt := 26) hx hb (by omega) (by omega) dX1_pushAll_7 (by decide) (fun c => ?_) (fun c => absurd c (by omega))
    rw [hQ]
    exact rW_v hx hb hr hlk hS (hW) dX1_pushAll_26
set_option maxHeartbeats 4000000 in
theorem m_X1_checkSpeeds (l : Launch) (hfl : l.flags = flags0) (A : Nat → Prop) (Dg : va_G) (dA : Nat → ClassId) (ad : Nat → Nat → Nat) (n : Nat) (nb : Nat) (nr : Nat) (no : Nat) (J : Nat → Nat → Nat) (R : Nat → Value) (D : T64) (I : T32) (hn : I 20 0 = nI n) (hn10 : n ≤ 10) : MX l yX1_checkSpeeds cX1_checkSpeeds 2 none [] (rmx 8 1 6) [.ref (ad 0 0)] (Px A Dg dA (cW A Dg dA ad n nb nr no J R D I)) (qX (fun _ : Unit => none) (fun _ H => (∀ i, i < n → ¬ fast (D 2 i) (D 3 i)) ∧ cW A Dg dA ad n nb nr no J R D I H) (fun C H => ((∃ i, i < n ∧ fast (D 2 i) (D 3 i)) ∧ C = "java/lang/ArithmeticException") ∧ cW A Dg dA ad n nb nr no J R D ((up2 I 40 0 (nI 2))) H) A) 0 0 A := by
  refine MX.start (Nat.le_of_ble_eq_true rfl) ?_
  intro p e s m args below meth c ls Q hAt hPc hl hQ
  have hl : lv_has ls 2 [(0, .ref (ad 0 0))] := hl
  obtain ⟨hx, hb, hml, hr, hlk, hown, hnm, htab, hts⟩ := id hAt
  obtain ⟨hK, hst, hA, hW⟩ := hPc
  have Z := Cx.of hAt hK
  have hS : va_S A s.heap s.heap [] := va_S.rf
  refine lv_iconst (v := nI 0) hx hb dX1_checkSpeeds_0 rfl ?_
  refine lv_istore_n (lv' := [(1, .int (nI 0)), (0, .ref (ad 0 0))]) hx hb dX1_checkSpeeds_1 rfl hl (by decide) rfl (fun ls hl => ?_)
  refine wl_up n 0 (fun i H locs ls => lv_has ls 2 [(1, .int (nI i)), (0, .ref (ad 0 0))] ∧ cW A Dg dA ad n nb nr no J R D I H ∧ va_S A s.heap H locs ∧ ∀ j, j < i → ¬ fast (D 2 j) (D 3 j)) (Nat.zero_le _) ⟨lv_sub hl [0, 1] rfl, hW, hS, lt_0⟩ ?_ ?_
  · intro i H locs ls hi hP ih
    obtain ⟨hl, hW, hS, hlt⟩ := hP
    refine lv_iload_n hx hb dX1_checkSpeeds_2 rfl (lv_at hl 0 rfl) ?_
    refine lv_aload_n hx hb dX1_checkSpeeds_3 rfl (lv_at hl 1 rfl) ?_
    refine g_I (x := nI n) Z hW kX1 rfl 8 (by decide) q149 (show (0 : Nat) < 1 by decide) rfl hn dX1_checkSpeeds_4 ?_
    refine lv_nge (tgt := 34) hx hb (by omega) (by omega) dX1_checkSpeeds_7 (by decide) (fun c => absurd c (by omega)) (fun c => ?_)
    refine lv_aload_n hx hb dX1_checkSpeeds_10 rfl (lv_at hl 1 rfl) ?_
    refine w_getR (v := .ref (ad 11 0)) Z hW kX1 rfl 5 (by decide) q146 (show (0 : Nat) < 1 by decide) rfl rfl dX1_checkSpeeds_11 ?_
    refine lv_iload_n hx hb dX1_checkSpeeds_14 rfl (lv_at hl 0 rfl) ?_
    refine a_R (j := i) (v := .ref (ad 2 i)) (ix := i) Z hW rfl (show (0 : Nat) < 1 by decide) (by omega) (by decide) rfl rfl rfl rfl (cR_atom (show (i : Nat) < n by omega)) dX1_checkSpeeds_15 ?_
    refine wx_r (wx_V (As := []) (rest := []) hAt.fix (m_X6_tooFast l A Dg dA ad n nb nr no J R D I i hi (D 2 i) (D 3 i) rfl rfl) q639 q640 q641 q642 wn_X6_tooFast ⟨Nat.le_of_ble_eq_true rfl, Nat.le_of_ble_eq_true rfl, Nat.le_of_ble_eq_true rfl, Nat.le_of_ble_eq_true rfl⟩ (w_recv hK hW kX6 rfl (show (i : Nat) < n by omega)) (Pw.of hK hW) hl.1 (Nat.le_of_ble_eq_true rfl) dX1_checkSpeeds_16) (fun r hr => ?_)
    rcases hr with ⟨rfl, hq⟩ | ⟨rfl, hq⟩
    · have q1 := hq
      refine lv_if_eq (tgt := 28) hx hb dX1_checkSpeeds_19 (by decide) (fun h => absurd h (by decide)) (fun _ => ?_)
      refine lv_aload_n hx hb dX1_checkSpeeds_22 rfl (lv_at hl 1 rfl) ?_
      refine lv_iconst (v := nI 2) hx hb dX1_checkSpeeds_23 rfl ?_
      refine wx_ws (wx_V (As := [.int (nI 2)]) (rest := []) hAt.fix (m_X1_failure l hfl A Dg dA ad n nb nr no J R D I (nI 2)) q584 q586 qs11 q587 wn_X1_failure ⟨Nat.le_of_ble_eq_true rfl, Nat.le_of_ble_eq_true rfl, Nat.le_of_ble_eq_true rfl, Nat.le_of_ble_eq_true rfl⟩ (w_recv hK hW kX1 rfl (show (0 : Nat) < 1 by decide)) (Px.of hK hst hA hS hW) hl.1 (Nat.le_of_ble_eq_true rfl) dX1_checkSpeeds_24) hS (fun r H locs hW hz hS => ?_)
      refine lv_athrow hx hb dX1_checkSpeeds_27 ?_
      rw [hQ]
      exact rT_x hlk htab rfl hS (isAr.to hK hW.1) (⟨⟨⟨i, hi, q1⟩, rfl⟩, hW.2⟩)
    · have q3 := hq
      refine lv_if_eq (tgt := 28) hx hb dX1_checkSpeeds_19 (by decide) (fun _ => ?_) (fun h => absurd nI_0 h)
      refine lv_iinc1 (lv' := [(1, .int (nI (i + 1))), (0, .ref (ad 0 0))]) hx hb dX1_checkSpeeds_28 hl (k := 0) rfl (by decide) rfl (fun ls hl => ?_)
      refine lv_goto (tgt := 2) hx hb dX1_checkSpeeds_31 (by decide) ?_
      exact ih _ _ _ ⟨lv_sub hl [0, 1] rfl, hW, hS, lt_s hlt q3⟩
  · intro H locs ls hP
    obtain ⟨hl, hW, hS, hlt⟩ := hP
    refine lv_iload_n hx hb dX1_checkSpeeds_2 rfl (lv_at hl 0 rfl) ?_
    refine lv_aload_n hx hb dX1_checkSpeeds_3 rfl (lv_at hl 1 rfl) ?_
    refine g_I (x := nI n) Z hW kX1 rfl 8 (by decide) q149 (show (0 : Nat) < 1 by decide) rfl hn dX1_checkSpeeds_4 ?_
    refine lv_nge (tgt := 34) hx hb (by omega) (by omega) dX1_checkSpeeds_7 (by decide) (fun c => ?_) (fun c => absurd c (by omega))
    rw [hQ]
    exact rX (rW_v hx hb hr hlk hS (⟨hlt, hW⟩) dX1_checkSpeeds_34)
set_option maxHeartbeats 4000000 in
theorem m_X1_temperature (l : Launch) (A : Nat → Prop) (Dg : va_G) (dA : Nat → ClassId) (ad : Nat → Nat → Nat) (n : Nat) (nb : Nat) (nr : Nat) (no : Nat) (J : Nat → Nat → Nat) (R : Nat → Value) (D : T64) (I : T32) (hB : Bd n nb nr J D) (hu : Bu 20 n D) (hn : I 20 0 = nI n) : MX l yX1_temperature cX1_temperature 6 (some .double) [] (rmx 1 0 0) [.ref (ad 0 0)] (Pw Dg dA (cW A Dg dA ad n nb nr no J R D I)) (qR Value.double (fun r => r = tmpS D I n)) 0 0 (fun _ => False) := by
  refine MX.start (Nat.le_of_ble_eq_true rfl) ?_
  intro p e s m args below meth c ls Q hAt hPc hl hQ
  have hl : lv_has ls 6 [(0, .ref (ad 0 0))] := hl
  obtain ⟨hx, hb, hml, hr, hlk, hown, hnm, htab, hts⟩ := id hAt
  obtain ⟨hK, hW⟩ := hPc
  have Z := Cx.of hAt hK
  have hn10 := hB.n10
  refine lv_dconst0 hx hb dX1_temperature_0 ?_
  refine lv_dstore_n (lv' := [(1, .double (FP.dconst0)), (0, .ref (ad 0 0))]) hx hb dX1_temperature_1 rfl hl (by decide) rfl (fun ls hl => ?_)
  refine lv_iconst (v := nI 0) hx hb dX1_temperature_2 rfl ?_
  refine lv_istore_n (lv' := [(3, .int (nI 0)), (1, .double (FP.dconst0)), (0, .ref (ad 0 0))]) hx hb dX1_temperature_3 rfl hl (by decide) rfl (fun ls hl => ?_)
  refine lv_iconst (v := nI 0) hx hb dX1_temperature_4 rfl ?_
  refine lv_istore (lv' := [(4, .int (nI 0)), (3, .int (nI 0)), (1, .double (FP.dconst0)), (0, .ref (ad 0 0))]) hx hb dX1_temperature_5 hl (by decide) rfl (fun ls hl => ?_)
  refine wl_up n 0 (fun i H locs ls => H = s.heap ∧ locs = [] ∧ lv_has ls 6 [(1, .double (smT D i)), (3, .int (nI (frc I i))), (4, .int (nI i)), (0, .ref (ad 0 0))]) (Nat.zero_le _) ⟨rfl, rfl, lv_sub hl [2, 1, 0, 3] rfl⟩ ?_ ?_
  · intro i H locs ls hi hP ih
    obtain ⟨rfl, rfl, hl⟩ := hP
    have hfr := frc_le I i
    refine lv_iload hx hb dX1_temperature_7 (lv_at hl 2 rfl) ?_
    refine lv_aload_n hx hb dX1_temperature_9 rfl (lv_at hl 3 rfl) ?_
    refine g_I (x := nI n) Z hW kX1 rfl 8 (by decide) q149 (show (0 : Nat) < 1 by decide) rfl hn dX1_temperature_10 ?_
    refine lv_nge (tgt := 74) hx hb (by omega) (by omega) dX1_temperature_13 (by decide) (fun c => absurd c (by omega)) (fun c => ?_)
    refine lv_aload_n hx hb dX1_temperature_16 rfl (lv_at hl 3 rfl) ?_
    refine w_getR (v := .ref (ad 11 0)) Z hW kX1 rfl 5 (by decide) q146 (show (0 : Nat) < 1 by decide) rfl rfl dX1_temperature_17 ?_
    refine lv_iload hx hb dX1_temperature_20 (lv_at hl 2 rfl) ?_
    refine a_R (j := i) (v := .ref (ad 2 i)) (ix := i) Z hW rfl (show (0 : Nat) < 1 by decide) (by omega) (by decide) rfl rfl rfl rfl (cR_atom (show (i : Nat) < n by omega)) dX1_temperature_22 ?_
    refine lv_astore (lv' := [(5, .ref (ad 2 i)), (1, .double (smT D i)), (3, .int (nI (frc I i))), (4, .int (nI i)), (0, .ref (ad 0 0))]) hx hb dX1_temperature_23 hl (by decide) rfl (fun ls hl => ?_)
    refine lv_dload_n hx hb dX1_temperature_25 rfl (lv_at hl 1 rfl) ?_
    refine lv_aload hx hb dX1_temperature_26 (lv_at hl 0 rfl) ?_
    refine g_D (x := D 4 i) Z hW kX6 rfl 0 (by decide) q369 (show (i : Nat) < n by omega) rfl rfl dX1_temperature_28 ?_
    refine lv_aload hx hb dX1_temperature_31 (lv_at hl 0 rfl) ?_
    refine g_D (x := D 2 i) Z hW kX6 rfl 5 (by decide) q379 (show (i : Nat) < n by omega) rfl rfl dX1_temperature_33 ?_
    refine lv_aload hx hb dX1_temperature_36 (lv_at hl 0 rfl) ?_
    refine g_D (x := D 2 i) Z hW kX6 rfl 5 (by decide) q379 (show (i : Nat) < n by omega) rfl rfl dX1_temperature_38 ?_
    have f1 : fb (40) (FP.dmul (D 2 i) (D 2 i)) := fb.mul (hu i hi).1 (hu i hi).1 (by decide)
    refine lv_dmul hx hb dX1_temperature_41 f1.n64 ?_
    refine lv_aload hx hb dX1_temperature_42 (lv_at hl 0 rfl) ?_
    refine g_D (x := D 3 i) Z hW kX6 rfl 6 (by decide) q381 (show (i : Nat) < n by omega) rfl rfl dX1_temperature_44 ?_
    refine lv_aload hx hb dX1_temperature_47 (lv_at hl 0 rfl) ?_
    refine g_D (x := D 3 i) Z hW kX6 rfl 6 (by decide) q381 (show (i : Nat) < n by omega) rfl rfl dX1_temperature_49 ?_
    have f2 : fb (40) (FP.dmul (D 3 i) (D 3 i)) := fb.mul (hu i hi).2 (hu i hi).2 (by decide)
    refine lv_dmul hx hb dX1_temperature_52 f2.n64 ?_
    have f3 : fb (41) (FP.dadd (FP.dmul (D 2 i) (D 2 i)) (FP.dmul (D 3 i) (D 3 i))) := fb.add f1 f2 (by decide)
    refine lv_dadd hx hb dX1_temperature_53 f3.n64 ?_
    have f4 : fb (47) (FP.dmul (D 4 i) (FP.dadd (FP.dmul (D 2 i) (D 2 i)) (FP.dmul (D 3 i) (D 3 i)))) := fb.mul (hB.m (show (i : Nat) < n by omega)) f3 (by decide)
    refine lv_dmul hx hb dX1_temperature_54 f4.n64 ?_
    have f5 : fb ((47 + (i : Int)) + 1) (FP.dadd (smT D i) (FP.dmul (D 4 i) (FP.dadd (FP.dmul (D 2 i) (D 2 i)) (FP.dmul (D 3 i) (D 3 i))))) := fb.add (smT_fb hB hu i (by omega)) (f4.mono (show (47 : Int) ≤ 47 + (i : Int) by omega)) (by omega)
    refine lv_dadd hx hb dX1_temperature_55 f5.n64 ?_
    refine lv_dstore_n (lv' := [(1, .double (FP.dadd (smT D i) (FP.dmul (D 4 i) (FP.dadd (FP.dmul (D 2 i) (D 2 i)) (FP.dmul (D 3 i) (D 3 i)))))), (5, .ref (ad 2 i)), (3, .int (nI (frc I i))), (4, .int (nI i)), (0, .ref (ad 0 0))]) hx hb dX1_temperature_56 rfl hl (by decide) rfl (fun ls hl => ?_)
    refine lv_aload hx hb dX1_temperature_57 (lv_at hl 1 rfl) ?_
    refine g_I (x := I 1 i) Z hW kX6 rfl 9 (by decide) q387 (show (i : Nat) < n by omega) rfl rfl dX1_temperature_59 ?_
    refine lv_if_ne (tgt := 68) hx hb dX1_temperature_62 (by decide) (fun c6 => ?_) (fun c6 => ?_)
    · refine lv_iinc1 (lv' := [(4, .int (nI (i + 1))), (1, .double (FP.dadd (smT D i) (FP.dmul (D 4 i) (FP.dadd (FP.dmul (D 2 i) (D 2 i)) (FP.dmul (D 3 i) (D 3 i)))))), (5, .ref (ad 2 i)), (3, .int (nI (frc I i))), (0, .ref (ad 0 0))]) hx hb dX1_temperature_68 hl (k := 3) rfl (by decide) rfl (fun ls hl => ?_)
      refine lv_goto (tgt := 7) hx hb dX1_temperature_71 (by decide) ?_
      have hl : lv_has ls 6 [(1, .double (smT D (i + 1))), (3, .int (nI (frc I (i + 1)))), (4, .int (nI (i + 1))), (0, .ref (ad 0 0))] := by rw [frc_f c6]; exact lv_sub hl [1, 3, 0, 4] rfl
      exact ih _ _ _ ⟨rfl, rfl, hl⟩
    · refine lv_iinc1 (lv' := [(3, .int (nI ((frc I i) + 1))), (1, .double (FP.dadd (smT D i) (FP.dmul (D 4 i) (FP.dadd (FP.dmul (D 2 i) (D 2 i)) (FP.dmul (D 3 i) (D 3 i)))))), (5, .ref (ad 2 i)), (4, .int (nI i)), (0, .ref (ad 0 0))]) hx hb dX1_temperature_65 hl (k := 2) rfl (by decide) rfl (fun ls hl => ?_)
      refine lv_iinc1 (lv' := [(4, .int (nI (i + 1))), (3, .int (nI ((frc I i) + 1))), (1, .double (FP.dadd (smT D i) (FP.dmul (D 4 i) (FP.dadd (FP.dmul (D 2 i) (D 2 i)) (FP.dmul (D 3 i) (D 3 i)))))), (5, .ref (ad 2 i)), (0, .ref (ad 0 0))]) hx hb dX1_temperature_68 hl (k := 3) rfl (by decide) rfl (fun ls hl => ?_)
      refine lv_goto (tgt := 7) hx hb dX1_temperature_71 (by decide) ?_
      have hl : lv_has ls 6 [(1, .double (smT D (i + 1))), (3, .int (nI (frc I (i + 1)))), (4, .int (nI (i + 1))), (0, .ref (ad 0 0))] := by rw [frc_t c6]; exact lv_sub hl [2, 1, 0, 4] rfl
      exact ih _ _ _ ⟨rfl, rfl, hl⟩
  · intro H locs ls hP
    obtain ⟨rfl, rfl, hl⟩ := hP
    have hfr := frc_le I n
    refine lv_iload hx hb dX1_temperature_7 (lv_at hl 2 rfl) ?_
    refine lv_aload_n hx hb dX1_temperature_9 rfl (lv_at hl 3 rfl) ?_
    refine g_I (x := nI n) Z hW kX1 rfl 8 (by decide) q149 (show (0 : Nat) < 1 by decide) rfl hn dX1_temperature_10 ?_
    refine lv_nge (tgt := 74) hx hb (by omega) (by omega) dX1_temperature_13 (by decide) (fun c => ?_) (fun c => absurd c (by omega))
    refine lv_iload_n hx hb dX1_temperature_74 rfl (lv_at hl 1 rfl) ?_
    refine lv_if_ne (tgt := 82) hx hb dX1_temperature_75 (by decide) (fun c7 => ?_) (fun c7 => ?_)
    · refine lv_dload_n hx hb dX1_temperature_82 rfl (lv_at hl 0 rfl) ?_
      refine lv_ldc2d (v := 4611686018427387904) hx hb hown (hts _ (lw_car_all q223)) dX1_temperature_83 ?_
      refine lv_iload_n hx hb dX1_temperature_86 rfl (lv_at hl 1 rfl) ?_
      refine lv_i2d hx hb dX1_temperature_87 ?_
      have f8 : fb (5) (FP.dmul 4611686018427387904 (FP.i2d (nI (frc I n)))) := fb.mul fc_4611686018427387904 (i2d_b (by omega)) (by decide)
      refine lv_dmul hx hb dX1_temperature_88 f8.n64 ?_
      have f9 : fb (56) (FP.ddiv (smT D n) (FP.dmul 4611686018427387904 (FP.i2d (nI (frc I n))))) := fb.div ((smT_fb hB hu n (Nat.le_refl _)).mono (show (47 + n : Int) ≤ 57 by omega)) (lb.mul lc_4611686018427387904 (i2d_lb (by omega) (Nat.pos_of_ne_zero (nI_nz c7))) fc_4611686018427387904 (i2d_b (by omega)) (G := 1) (by decide)) (by decide)
      refine lv_ddiv hx hb dX1_temperature_89 f9.n64 ?_
      rw [hQ]
      exact rR_d hx hb hr hlk (if_neg (nI_nz c7)).symm dX1_temperature_90
    · refine lv_dconst0 hx hb dX1_temperature_78 ?_
      refine lv_goto (tgt := 90) hx hb dX1_temperature_79 (by decide) ?_
      rw [hQ]
      exact rR_d hx hb hr hlk (if_pos (nI_z (by omega) c7)).symm dX1_temperature_90
set_option maxHeartbeats 4000000 in
theorem m_X1_rescale (l : Launch) (A : Nat → Prop) (Dg : va_G) (dA : Nat → ClassId) (ad : Nat → Nat → Nat) (n : Nat) (nb : Nat) (nr : Nat) (no : Nat) (J : Nat → Nat → Nat) (R : Nat → Value) (D : T64) (I : T32) (hB : Bd n nb nr J D) (hu : Bu 20 n D) (hn : I 20 0 = nI n) (T : UInt64) (hT : okT T) : MX l yX1_rescale cX1_rescale 9 none [] (rmx 2 0 0) [.ref (ad 0 0), .double (T)] (Pw Dg dA (cW A Dg dA ad n nb nr no J R D I)) (qW (fun _ : Unit => none) (fun _ H => cW A Dg dA ad n nb nr no J R ((rsc T n D I)) I H) A) 0 0 A := by
  refine MX.start (Nat.le_of_ble_eq_true rfl) ?_
  intro p e s m args below meth c ls Q hAt hPc hl hQ
  have hl : lv_has ls 9 [(0, .ref (ad 0 0)), (1, .double (T))] := hl
  obtain ⟨hx, hb, hml, hr, hlk, hown, hnm, htab, hts⟩ := id hAt
  obtain ⟨hK, hW⟩ := hPc
  have Z := Cx.of hAt hK
  have hS : va_S A s.heap s.heap [] := va_S.rf
  have hn10 := hB.n10
  refine lv_aload_n hx hb dX1_rescale_0 rfl (lv_at hl 0 rfl) ?_
  refine wx_r (wx_V (As := []) (rest := []) hAt.fix (m_X1_temperature l A Dg dA ad n nb nr no J R D I hB hu hn) q663 q220 q221 q222 wn_X1_temperature ⟨Nat.le_of_ble_eq_true rfl, Nat.le_of_ble_eq_true rfl, Nat.le_of_ble_eq_true rfl, Nat.le_of_ble_eq_true rfl⟩ (w_recv hK hW kX1 rfl (show (0 : Nat) < 1 by decide)) (Pw.of hK hW) hl.1 (Nat.le_of_ble_eq_true rfl) dX1_rescale_1) (fun r hr => ?_)
  subst hr
  refine lv_dstore_n (lv' := [(3, .double (tmpS D I n)), (0, .ref (ad 0 0)), (1, .double (T))]) hx hb dX1_rescale_4 rfl hl (by decide) rfl (fun ls hl => ?_)
  refine lv_dload_n hx hb dX1_rescale_5 rfl (lv_at hl 0 rfl) ?_
  refine lv_ldc2d (v := 4517329193108106637) hx hb hown (hts _ (lw_car_all q653)) dX1_rescale_6 ?_
  refine lv_dg_ge (tgt := 14) hx hb dX1_rescale_9 dX1_rescale_10 (by decide) (fun c1 => ?_) (fun c1 => ?_)
  · obtain ⟨htl, hz⟩ := rtz hT (tmp_fb (I := I) hB hu) c1
    have fT : fb 10 T := ⟨hT.1, by have e10 : p2 10 = 1024 := (p2_nat 10).trans (by decide +kernel); rcases hT.2 with q | q <;> rw [e10] <;> grind, by have e10 : p2 10 = 1024 := (p2_nat 10).trans (by decide +kernel); rcases hT.2 with q | q <;> rw [e10] <;> grind⟩
    refine lv_dload_n hx hb dX1_rescale_14 rfl (lv_at hl 2 rfl) ?_
    refine lv_dload_n hx hb dX1_rescale_15 rfl (lv_at hl 0 rfl) ?_
    have f2 : fb (30) (FP.ddiv T (tmpS D I n)) := fb.div fT htl (by decide)
    refine lv_ddiv hx hb dX1_rescale_16 f2.n64 ?_
    refine wx_r (wx_S (As := [.double (FP.ddiv T (tmpS D I n))]) (rest := []) hAt.fix (m_X1_root l (FP.ddiv T (tmpS D I n)) hz) q664 q665 q45 q666 wn_X1_root ⟨Nat.le_of_ble_eq_true rfl, Nat.le_of_ble_eq_true rfl, Nat.le_of_ble_eq_true rfl, Nat.le_of_ble_eq_true rfl⟩ (fun _ _ _ => trivial) hl.1 (Nat.le_of_ble_eq_true rfl) dX1_rescale_17) (fun r hr => ?_)
    subst hr
    refine lv_dstore (lv' := [(5, .double (sRoot (FP.ddiv T (tmpS D I n)))), (3, .double (tmpS D I n)), (0, .ref (ad 0 0)), (1, .double (T))]) hx hb dX1_rescale_20 hl (by decide) rfl (fun ls hl => ?_)
    refine lv_iconst (v := nI 0) hx hb dX1_rescale_22 rfl ?_
    refine lv_istore (lv' := [(7, .int (nI 0)), (5, .double (sRoot (FP.ddiv T (tmpS D I n)))), (3, .double (tmpS D I n)), (0, .ref (ad 0 0)), (1, .double (T))]) hx hb dX1_rescale_23 hl (by decide) rfl (fun ls hl => ?_)
    refine wl_up n 0 (fun i H locs ls => lv_has ls 9 [(7, .int (nI i)), (5, .double (sRoot (FP.ddiv T (tmpS D I n)))), (0, .ref (ad 0 0))] ∧ cW A Dg dA ad n nb nr no J R ((scD (sRoot (FP.ddiv T (tmpS D I n))) i D I)) I H ∧ va_S A s.heap H locs) (Nat.zero_le _) ⟨lv_sub hl [0, 1, 3] rfl, by unfold scD; rw [tg_0]; exact hW, hS⟩ ?_ ?_
    · intro i H locs ls hi hP ih
      obtain ⟨hl, hW, hS⟩ := hP
      refine lv_iload hx hb dX1_rescale_25 (lv_at hl 0 rfl) ?_
      refine lv_aload_n hx hb dX1_rescale_27 rfl (lv_at hl 2 rfl) ?_
      refine g_I (x := nI n) Z hW kX1 rfl 8 (by decide) q149 (show (0 : Nat) < 1 by decide) rfl hn dX1_rescale_28 ?_
      refine lv_nge (tgt := 81) hx hb (by omega) (by omega) dX1_rescale_31 (by decide) (fun c => absurd c (by omega)) (fun c => ?_)
      refine lv_aload_n hx hb dX1_rescale_34 rfl (lv_at hl 2 rfl) ?_
      refine w_getR (v := .ref (ad 11 0)) Z hW kX1 rfl 5 (by decide) q146 (show (0 : Nat) < 1 by decide) rfl rfl dX1_rescale_35 ?_
      refine lv_iload hx hb dX1_rescale_38 (lv_at hl 0 rfl) ?_
      refine a_R (j := i) (v := .ref (ad 2 i)) (ix := i) Z hW rfl (show (0 : Nat) < 1 by decide) (by omega) (by decide) rfl rfl rfl rfl (cR_atom (show (i : Nat) < n by omega)) dX1_rescale_40 ?_
      refine lv_astore (lv' := [(8, .ref (ad 2 i)), (7, .int (nI i)), (5, .double (sRoot (FP.ddiv T (tmpS D I n)))), (0, .ref (ad 0 0))]) hx hb dX1_rescale_41 hl (by decide) rfl (fun ls hl => ?_)
      refine lv_aload hx hb dX1_rescale_43 (lv_at hl 0 rfl) ?_
      refine g_I (x := I 1 i) Z hW kX6 rfl 9 (by decide) q387 (show (i : Nat) < n by omega) rfl rfl dX1_rescale_45 ?_
      refine lv_if_ne (tgt := 75) hx hb dX1_rescale_48 (by decide) (fun c3 => ?_) (fun c3 => ?_)
      · refine lv_iinc1 (lv' := [(7, .int (nI (i + 1))), (8, .ref (ad 2 i)), (5, .double (sRoot (FP.ddiv T (tmpS D I n)))), (0, .ref (ad 0 0))]) hx hb dX1_rescale_75 hl (k := 1) rfl (by decide) rfl (fun ls hl => ?_)
        refine lv_goto (tgt := 25) hx hb dX1_rescale_78 (by decide) ?_
        exact ih _ _ _ ⟨lv_sub hl [0, 2, 3] rfl, (scD_f c3).symm ▸ hW, hS⟩
      · refine lv_aload hx hb dX1_rescale_51 (lv_at hl 0 rfl) ?_
        refine lv_dup hx hb dX1_rescale_53 rfl ?_
        refine g_D (x := D 2 i) Z hW kX6 rfl 5 (by decide) q379 (show (i : Nat) < n by omega) rfl (tg_hi (Nat.lt_irrefl i)) dX1_rescale_54 ?_
        refine lv_dload hx hb dX1_rescale_57 (lv_at hl 2 rfl) ?_
        have f4 : fb (52) (FP.dmul (D 2 i) (sRoot (FP.ddiv T (tmpS D I n)))) := fb.mul (hu i hi).1 (sroot_fb hz) (by decide)
        refine lv_dmul hx hb dX1_rescale_59 f4.n64 ?_
        refine w_putD Z hW hS kX6 rfl 5 (by decide) (by decide) q379 rfl (show (i : Nat) < n by omega) rfl rfl dX1_rescale_60 (fun H locs hW hS => ?_)
        refine lv_aload hx hb dX1_rescale_63 (lv_at hl 0 rfl) ?_
        refine lv_dup hx hb dX1_rescale_65 rfl ?_
        refine g_D (x := D 3 i) Z hW kX6 rfl 6 (by decide) q381 (show (i : Nat) < n by omega) rfl ((up2_f _ _ _ _ (by decide)).trans (tg_hi (Nat.lt_irrefl i))) dX1_rescale_66 ?_
        refine lv_dload hx hb dX1_rescale_69 (lv_at hl 2 rfl) ?_
        have f5 : fb (52) (FP.dmul (D 3 i) (sRoot (FP.ddiv T (tmpS D I n)))) := fb.mul (hu i hi).2 (sroot_fb hz) (by decide)
        refine lv_dmul hx hb dX1_rescale_71 f5.n64 ?_
        refine w_putD Z hW hS kX6 rfl 6 (by decide) (by decide) q381 rfl (show (i : Nat) < n by omega) rfl rfl dX1_rescale_72 (fun H locs hW hS => ?_)
        refine lv_iinc1 (lv' := [(7, .int (nI (i + 1))), (8, .ref (ad 2 i)), (5, .double (sRoot (FP.ddiv T (tmpS D I n)))), (0, .ref (ad 0 0))]) hx hb dX1_rescale_75 hl (k := 1) rfl (by decide) rfl (fun ls hl => ?_)
        refine lv_goto (tgt := 25) hx hb dX1_rescale_78 (by decide) ?_
        exact ih _ _ _ ⟨lv_sub hl [0, 2, 3] rfl, scD_t c3 ▸ hW, hS⟩
    · intro H locs ls hP
      obtain ⟨hl, hW, hS⟩ := hP
      refine lv_iload hx hb dX1_rescale_25 (lv_at hl 0 rfl) ?_
      refine lv_aload_n hx hb dX1_rescale_27 rfl (lv_at hl 2 rfl) ?_
      refine g_I (x := nI n) Z hW kX1 rfl 8 (by decide) q149 (show (0 : Nat) < 1 by decide) rfl hn dX1_rescale_28 ?_
      refine lv_nge (tgt := 81) hx hb (by omega) (by omega) dX1_rescale_31 (by decide) (fun c => ?_) (fun c => absurd c (by omega))
      rw [hQ]
      exact rW_v hx hb hr hlk hS (by show World _ _ _ _ _ _ _; rw [rsc_f c1]; exact hW) dX1_rescale_81
  · rw [hQ]
    exact rW_v hx hb hr hlk hS (by show World _ _ _ _ _ _ _; rw [rsc_t c1]; exact hW) dX1_rescale_13
set_option maxHeartbeats 4000000 in
theorem m_X1_checkOverlap (l : Launch) (hfl : l.flags = flags0) (A : Nat → Prop) (Dg : va_G) (dA : Nat → ClassId) (ad : Nat → Nat → Nat) (n : Nat) (nb : Nat) (nr : Nat) (no : Nat) (J : Nat → Nat → Nat) (R : Nat → Value) (D : T64) (I : T32) (D0 : T64) (hag : agD D D0) (hB : Bd n nb nr J D0) (hn : I 20 0 = nI n) : MX l yX1_checkOverlap cX1_checkOverlap 3 none [] (rmx 7 1 6) [.ref (ad 0 0)] (Px A Dg dA (cW A Dg dA ad n nb nr no J R D I)) (qX (fun _ : Unit => none) (fun _ H => ovl D0 n = false ∧ ∃ D1, exc sF D1 D ∧ cW A Dg dA ad n nb nr no J R D1 I H) (fun C H => (ovl D0 n = true ∧ C = "java/lang/ArithmeticException") ∧ ∃ D1, exc sF D1 D ∧ cW A Dg dA ad n nb nr no J R D1 I H) A) 0 0 A := by
  refine MX.start (Nat.le_of_ble_eq_true rfl) ?_
  intro p e s m args below meth c ls Q hAt hPc hl hQ
  have hl : lv_has ls 3 [(0, .ref (ad 0 0))] := hl
  obtain ⟨hx, hb, hml, hr, hlk, hown, hnm, htab, hts⟩ := id hAt
  obtain ⟨hK, hst, hA, hW⟩ := hPc
  have Z := Cx.of hAt hK
  have hS : va_S A s.heap s.heap [] := va_S.rf
  have hn10 := hB.n10
  refine lv_iconst (v := nI 0) hx hb dX1_checkOverlap_0 rfl ?_
  refine lv_istore_n (lv' := [(1, .int (nI 0)), (0, .ref (ad 0 0))]) hx hb dX1_checkOverlap_1 rfl hl (by decide) rfl (fun ls hl => ?_)
  refine wl_up n 0 (fun i H locs ls => ∃ D1, lv_has ls 3 [(1, .int (nI i)), (0, .ref (ad 0 0))] ∧ cW A Dg dA ad n nb nr no J R D1 I H ∧ va_S A s.heap H locs ∧ exc sF D1 D ∧ ∀ a, a < i → ∀ b, a < b → b < n → ¬ flt (wR D0 a b) 4562146422526312448) (Nat.zero_le _) ⟨D, lv_sub hl [0, 1] rfl, hW, hS, exc.rf, lt_0⟩ ?_ ?_
  · intro i H locs ls hi hP ih
    obtain ⟨D1, hl, hW, hS, hex, hlt⟩ := hP
    refine lv_iload_n hx hb dX1_checkOverlap_2 rfl (lv_at hl 0 rfl) ?_
    refine lv_aload_n hx hb dX1_checkOverlap_3 rfl (lv_at hl 1 rfl) ?_
    refine g_I (x := nI n) Z hW kX1 rfl 8 (by decide) q149 (show (0 : Nat) < 1 by decide) rfl hn dX1_checkOverlap_4 ?_
    refine lv_nge (tgt := 72) hx hb (by omega) (by omega) dX1_checkOverlap_7 (by decide) (fun c => absurd c (by omega)) (fun c => ?_)
    refine lv_iload_n hx hb dX1_checkOverlap_10 rfl (lv_at hl 0 rfl) ?_
    refine lv_iconst (v := nI 1) hx hb dX1_checkOverlap_11 rfl ?_
    refine lv_iadd hx hb dX1_checkOverlap_12 ?_
    rw [nI_add]
    refine lv_istore_n (lv' := [(2, .int (nI (i + 1))), (1, .int (nI i)), (0, .ref (ad 0 0))]) hx hb dX1_checkOverlap_13 rfl hl (by decide) rfl (fun ls hl => ?_)
    have ih0 := ih
    have hi0 := hi
    refine wl_up n ((i + 1)) (fun j H locs ls => i < j ∧ ∃ D1, lv_has ls 3 [(2, .int (nI j)), (1, .int (nI i)), (0, .ref (ad 0 0))] ∧ cW A Dg dA ad n nb nr no J R D1 I H ∧ va_S A s.heap H locs ∧ exc sF D1 D ∧ ∀ b, b < j → i < b → ¬ flt (wR D0 i b) 4562146422526312448) (by omega) ⟨by omega, D1, lv_sub hl [0, 1, 2] rfl, hW, hS, hex, fun b h1 h2 => absurd h1 (by omega)⟩ ?_ ?_
    · intro j H locs ls hi hP ih
      obtain ⟨hij, D1, hl, hW, hS, hex, hlt2⟩ := hP
      have hj := hi
      replace hi := hi0
      have hag1 := hag.F hex
      refine lv_iload_n hx hb dX1_checkOverlap_14 rfl (lv_at hl 0 rfl) ?_
      refine lv_aload_n hx hb dX1_checkOverlap_15 rfl (lv_at hl 2 rfl) ?_
      refine g_I (x := nI n) Z hW kX1 rfl 8 (by decide) q149 (show (0 : Nat) < 1 by decide) rfl hn dX1_checkOverlap_16 ?_
      refine lv_nge (tgt := 66) hx hb (by omega) (by omega) dX1_checkOverlap_19 (by decide) (fun c => absurd c (by omega)) (fun c => ?_)
      refine lv_aload_n hx hb dX1_checkOverlap_22 rfl (lv_at hl 2 rfl) ?_
      refine lv_aload_n hx hb dX1_checkOverlap_23 rfl (lv_at hl 2 rfl) ?_
      refine w_getR (v := .ref (ad 11 0)) Z hW kX1 rfl 5 (by decide) q146 (show (0 : Nat) < 1 by decide) rfl rfl dX1_checkOverlap_24 ?_
      refine lv_iload_n hx hb dX1_checkOverlap_27 rfl (lv_at hl 1 rfl) ?_
      refine a_R (j := i) (v := .ref (ad 2 i)) (ix := i) Z hW rfl (show (0 : Nat) < 1 by decide) (by omega) (by decide) rfl rfl rfl rfl (cR_atom (show (i : Nat) < n by omega)) dX1_checkOverlap_28 ?_
      refine lv_aload_n hx hb dX1_checkOverlap_29 rfl (lv_at hl 2 rfl) ?_
      refine w_getR (v := .ref (ad 11 0)) Z hW kX1 rfl 5 (by decide) q146 (show (0 : Nat) < 1 by decide) rfl rfl dX1_checkOverlap_30 ?_
      refine lv_iload_n hx hb dX1_checkOverlap_33 rfl (lv_at hl 0 rfl) ?_
      refine a_R (j := j) (v := .ref (ad 2 j)) (ix := j) Z hW rfl (show (0 : Nat) < 1 by decide) (by omega) (by decide) rfl rfl rfl rfl (cR_atom (show (j : Nat) < n by omega)) dX1_checkOverlap_34 ?_
      refine wx_wv (wx_V (As := [.ref (ad 2 i), .ref (ad 2 j)]) (rest := []) hAt.fix (m_X1_from l A Dg dA ad n nb nr no J R D1 I D0 hag1 hB i j ((show (i : Nat) < n by omega)) ((show (j : Nat) < n by omega))) q228 q230 qs0 q231 wn_X1_from ⟨Nat.le_of_ble_eq_true rfl, Nat.le_of_ble_eq_true rfl, Nat.le_of_ble_eq_true rfl, Nat.le_of_ble_eq_true rfl⟩ (w_recv hK hW kX1 rfl (show (0 : Nat) < 1 by decide)) (Pw.of hK hW) hl.1 (Nat.le_of_ble_eq_true rfl) dX1_checkOverlap_35) hS (fun H locs hW hz hS => ?_)
      refine lv_aload_n hx hb dX1_checkOverlap_38 rfl (lv_at hl 2 rfl) ?_
      refine w_getR (v := .ref (ad 6 0)) Z hW kX1 rfl 12 (by decide) q153 (show (0 : Nat) < 1 by decide) rfl rfl dX1_checkOverlap_39 ?_
      refine wx_r (wx_V (As := []) (rest := []) hAt.fix (m_X4_square l A Dg dA ad n nb nr no J R ((up2 (up2 D1 34 0 (wA D0 i j)) 35 0 (wB D0 i j))) I 0 ((by decide)) (wA D0 i j) (wB D0 i j) rfl rfl ((wA_fb hB hi hj)) ((wB_fb hB hi hj))) q239 q240 q241 q242 wn_X4_square ⟨Nat.le_of_ble_eq_true rfl, Nat.le_of_ble_eq_true rfl, Nat.le_of_ble_eq_true rfl, Nat.le_of_ble_eq_true rfl⟩ (w_recv hK hW kX4 rfl (show (0 : Nat) < 2 by decide)) (Pw.of hK hW) hl.1 (Nat.le_of_ble_eq_true rfl) dX1_checkOverlap_42) (fun r hr => ?_)
      subst hr
      refine lv_ldc2d (v := 4562146422526312448) hx hb hown (hts _ (lw_car_all q583)) dX1_checkOverlap_45 ?_
      refine lv_dg_ge (tgt := 60) hx hb dX1_checkOverlap_48 dX1_checkOverlap_49 (by decide) (fun c1 => ?_) (fun c1 => ?_)
      · refine lv_iinc1 (lv' := [(2, .int (nI (j + 1))), (1, .int (nI i)), (0, .ref (ad 0 0))]) hx hb dX1_checkOverlap_60 hl (k := 0) rfl (by decide) rfl (fun ls hl => ?_)
        refine lv_goto (tgt := 14) hx hb dX1_checkOverlap_63 (by decide) ?_
        exact ih _ _ _ ⟨by omega, _, lv_sub hl [0, 1, 2] rfl, hW, hS, (hex.up rfl).up rfl, lt_s hlt2 (fun _ => c1)⟩
      · refine w_exc0 hAt.fix hfl exA q552 q530 q59 (by decide +kernel) (by decide +kernel) hst hA hS hl.1 dX1_checkOverlap_52 dX1_checkOverlap_55 dX1_checkOverlap_56 (Nat.le_of_ble_eq_true rfl) (Nat.le_of_ble_eq_true rfl) (Nat.le_of_ble_eq_true rfl) (Nat.le_of_ble_eq_true rfl) (fun x H locs hE hk hS => ?_)
        have hW := hW.grown hk
        refine lv_athrow hx hb dX1_checkOverlap_59 ?_
        rw [hQ]
        exact rT_x hlk htab rfl hS hE ⟨⟨ovl_t.mpr ⟨i, j, by omega, hj, c1⟩, rfl⟩, _, (hex.up rfl).up rfl, hW⟩
    · intro H locs ls hP
      obtain ⟨hij, D1, hl, hW, hS, hex, hlt2⟩ := hP
      refine lv_iload_n hx hb dX1_checkOverlap_14 rfl (lv_at hl 0 rfl) ?_
      refine lv_aload_n hx hb dX1_checkOverlap_15 rfl (lv_at hl 2 rfl) ?_
      refine g_I (x := nI n) Z hW kX1 rfl 8 (by decide) q149 (show (0 : Nat) < 1 by decide) rfl hn dX1_checkOverlap_16 ?_
      refine lv_nge (tgt := 66) hx hb (by omega) (by omega) dX1_checkOverlap_19 (by decide) (fun c => ?_) (fun c => absurd c (by omega))
      refine lv_iinc1 (lv' := [(1, .int (nI (i + 1))), (2, .int (nI n)), (0, .ref (ad 0 0))]) hx hb dX1_checkOverlap_66 hl (k := 1) rfl (by decide) rfl (fun ls hl => ?_)
      refine lv_goto (tgt := 2) hx hb dX1_checkOverlap_69 (by decide) ?_
      exact ih0 _ _ _ ⟨_, lv_sub hl [0, 2] rfl, hW, hS, hex, lt_s hlt (fun b h1 h2 => hlt2 b h2 h1)⟩
  · intro H locs ls hP
    obtain ⟨D1, hl, hW, hS, hex, hlt⟩ := hP
    refine lv_iload_n hx hb dX1_checkOverlap_2 rfl (lv_at hl 0 rfl) ?_
    refine lv_aload_n hx hb dX1_checkOverlap_3 rfl (lv_at hl 1 rfl) ?_
    refine g_I (x := nI n) Z hW kX1 rfl 8 (by decide) q149 (show (0 : Nat) < 1 by decide) rfl hn dX1_checkOverlap_4 ?_
    refine lv_nge (tgt := 72) hx hb (by omega) (by omega) dX1_checkOverlap_7 (by decide) (fun c => ?_) (fun c => absurd c (by omega))
    rw [hQ]
    exact rX (rW_v hx hb hr hlk hS (⟨ovl_f.mpr (fun a b h1 h2 => hlt a (by omega) b h1 h2), D1, hex, hW⟩) dX1_checkOverlap_72)
