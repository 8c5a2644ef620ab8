set_option maxRecDepth 100000
/-! ===== the class: atoms, ties, checks ===== -/
def sEase (D : T64) (sk : Int32) (i : Nat) : UInt64 := if sk = 0 then FP.ddiv FP.dconst1 (D 4 i) else FP.dconst0
def fast (u v : UInt64) : Prop := fgt u 4696837146684686336 ∨ flt u 13920209183539462144 ∨ fgt v 4696837146684686336 ∨ flt v 13920209183539462144
def pu (half u f m : UInt64) : UInt64 := FP.dadd u (FP.dmul half (FP.ddiv f m))
def svD (D : T64) (i : Nat) : T64 := up2 (up2 (up2 (up2 D 37 (0 + 4 * i) (D 0 i)) 37 (1 + 4 * i) (D 1 i)) 37 (2 + 4 * i) (D 2 i)) 37 (3 + 4 * i) (D 3 i)
def rsD (D : T64) (i : Nat) : T64 := up2 (up2 (up2 (up2 D 0 i (D 37 (0 + 4 * i))) 1 i (D 37 (1 + 4 * i))) 2 i (D 37 (2 + 4 * i))) 3 i (D 37 (3 + 4 * i))
set_option maxHeartbeats 4000000 in
theorem m_X6_ease (l : Launch) (A : Nat → Prop) (Dg : va_G) (dA : Nat → ClassId) (ad : Nat → Nat → Nat) (n : Nat) (nb : Nat) (nr : Nat) (no : Nat) (J : Nat → Nat → Nat) (R : Nat → Value) (D : T64) (I : T32) (D0 : T64) (hag : agD D D0) (hB : Bd n nb nr J D0) (i : Nat) (hi : i < n) (sk : Int32) (hsk : I 1 i = sk) : MX l yX6_ease cX6_ease 1 (some .double) [] (rmx 1 0 0) [.ref (ad 2 i)] (Pw Dg dA (cW A Dg dA ad n nb nr no J R D I)) (qR Value.double (fun r => r = sEase D0 sk i)) 0 0 (fun _ => False) := by
  refine MX.start (Nat.le_of_ble_eq_true rfl) ?_
  intro p e s m args below meth c ls Q hAt hPc hl hQ
  have hl : lv_has ls 1 [(0, .ref (ad 2 i))] := hl
  obtain ⟨hx, hb, hml, hr, hlk, hown, hnm, htab, hts⟩ := id hAt
  obtain ⟨hK, hW⟩ := hPc
  have Z := Cx.of hAt hK
  refine lv_aload_n hx hb dX6_ease_0 rfl (lv_at hl 0 rfl) ?_
  refine g_I (x := sk) Z hW kX6 rfl 9 (by decide) q386 (show (i : Nat) < n by omega) rfl hsk dX6_ease_1 ?_
  refine lv_if_eq (tgt := 11) hx hb dX6_ease_4 (by decide) (fun c1 => ?_) (fun c1 => ?_)
  · refine lv_dconst1 hx hb dX6_ease_11 ?_
    refine lv_aload_n hx hb dX6_ease_12 rfl (lv_at hl 0 rfl) ?_
    refine g_D (x := D0 4 i) Z hW kX6 rfl 0 (by decide) q368 (show (i : Nat) < n by omega) rfl (hag 4 i rfl) dX6_ease_13 ?_
    have f2 : fb (3) (FP.ddiv FP.dconst1 (D0 4 i)) := fb.div fc_1 (hB.ml (show (i : Nat) < n by omega)) (by decide)
    refine lv_ddiv hx hb dX6_ease_16 f2.n64 ?_
    rw [hQ]
    exact rR_d hx hb hr hlk (if_pos c1).symm dX6_ease_17
  · refine lv_dconst0 hx hb dX6_ease_7 ?_
    refine lv_goto (tgt := 17) hx hb dX6_ease_8 (by decide) ?_
    rw [hQ]
    exact rR_d hx hb hr hlk (if_neg c1).symm dX6_ease_17
set_option maxHeartbeats 4000000 in
theorem m_X6_tooFast (l : Launch) (A : Nat → Prop) (Dg : va_G) (dA : Nat → ClassId) (ad : Nat → Nat → Nat) (n : Nat) (nb : Nat) (nr : Nat) (no : Nat) (J : Nat → Nat → Nat) (R : Nat → Value) (D : T64) (I : T32) (i : Nat) (hi : i < n) (u : UInt64) (v : UInt64) (hu : D 2 i = u) (hv : D 3 i = v) : MX l yX6_tooFast cX6_tooFast 1 (some .boolean) [] (rmx 1 0 0) [.ref (ad 2 i)] (Pw Dg dA (cW A Dg dA ad n nb nr no J R D I)) (qR Value.int (fun r => (r = nI 1 ∧ fast u v) ∨ (r = nI 0 ∧ ¬ fast u v))) 0 0 (fun _ => False) := by
  refine MX.start (Nat.le_of_ble_eq_true rfl) ?_
  intro p e s m args below meth c ls Q hAt hPc hl hQ
  have hl : lv_has ls 1 [(0, .ref (ad 2 i))] := hl
  obtain ⟨hx, hb, hml, hr, hlk, hown, hnm, htab, hts⟩ := id hAt
  obtain ⟨hK, hW⟩ := hPc
  have Z := Cx.of hAt hK
  refine lv_aload_n hx hb dX6_tooFast_0 rfl (lv_at hl 0 rfl) ?_
  refine g_D (x := u) Z hW kX6 rfl 5 (by decide) q378 (show (i : Nat) < n by omega) rfl hu dX6_tooFast_1 ?_
  refine lv_ldc2d (v := 4696837146684686336) hx hb hown (hts _ (lw_car_all q643)) dX6_tooFast_4 ?_
  refine lv_dl_gt (tgt := 44) hx hb dX6_tooFast_7 dX6_tooFast_8 (by decide) (fun c1 => ?_) (fun c1 => ?_)
  · refine lv_iconst (v := nI 1) hx hb dX6_tooFast_44 rfl ?_
    refine lv_goto (tgt := 49) hx hb dX6_tooFast_45 (by decide) ?_
    rw [hQ]
    exact rR_z hx hb hr hlk (Or.inr rfl) (Or.inl ⟨rfl, Or.inl c1⟩) dX6_tooFast_49
  · refine lv_aload_n hx hb dX6_tooFast_11 rfl (lv_at hl 0 rfl) ?_
    refine g_D (x := u) Z hW kX6 rfl 5 (by decide) q378 (show (i : Nat) < n by omega) rfl hu dX6_tooFast_12 ?_
    refine lv_ldc2d (v := 13920209183539462144) hx hb hown (hts _ (lw_car_all q644)) dX6_tooFast_15 ?_
    refine lv_dg_lt (tgt := 44) hx hb dX6_tooFast_18 dX6_tooFast_19 (by decide) (fun c2 => ?_) (fun c2 => ?_)
    · refine lv_iconst (v := nI 1) hx hb dX6_tooFast_44 rfl ?_
      refine lv_goto (tgt := 49) hx hb dX6_tooFast_45 (by decide) ?_
      rw [hQ]
      exact rR_z hx hb hr hlk (Or.inr rfl) (Or.inl ⟨rfl, Or.inr (Or.inl c2)⟩) dX6_tooFast_49
    · refine lv_aload_n hx hb dX6_tooFast_22 rfl (lv_at hl 0 rfl) ?_
      refine g_D (x := v) Z hW kX6 rfl 6 (by decide) q380 (show (i : Nat) < n by omega) rfl hv dX6_tooFast_23 ?_
      refine lv_ldc2d (v := 4696837146684686336) hx hb hown (hts _ (lw_car_all q643)) dX6_tooFast_26 ?_
      refine lv_dl_gt (tgt := 44) hx hb dX6_tooFast_29 dX6_tooFast_30 (by decide) (fun c3 => ?_) (fun c3 => ?_)
      · refine lv_iconst (v := nI 1) hx hb dX6_tooFast_44 rfl ?_
        refine lv_goto (tgt := 49) hx hb dX6_tooFast_45 (by decide) ?_
        rw [hQ]
        exact rR_z hx hb hr hlk (Or.inr rfl) (Or.inl ⟨rfl, Or.inr (Or.inr (Or.inl c3))⟩) dX6_tooFast_49
      · refine lv_aload_n hx hb dX6_tooFast_33 rfl (lv_at hl 0 rfl) ?_
        refine g_D (x := v) Z hW kX6 rfl 6 (by decide) q380 (show (i : Nat) < n by omega) rfl hv dX6_tooFast_34 ?_
        refine lv_ldc2d (v := 13920209183539462144) hx hb hown (hts _ (lw_car_all q644)) dX6_tooFast_37 ?_
        refine lv_dg_ge (tgt := 48) hx hb dX6_tooFast_40 dX6_tooFast_41 (by decide) (fun c4 => ?_) (fun c4 => ?_)
        · refine lv_iconst (v := nI 0) hx hb dX6_tooFast_48 rfl ?_
          rw [hQ]
          exact rR_z hx hb hr hlk (Or.inl rfl) (Or.inr ⟨rfl, fun q => q.elim c1 (fun q => q.elim c2 (fun q => q.elim c3 c4))⟩) dX6_tooFast_49
        · refine lv_iconst (v := nI 1) hx hb dX6_tooFast_44 rfl ?_
          refine lv_goto (tgt := 49) hx hb dX6_tooFast_45 (by decide) ?_
          rw [hQ]
          exact rR_z hx hb hr hlk (Or.inr rfl) (Or.inl ⟨rfl, Or.inr (Or.inr (Or.inr c4))⟩) dX6_tooFast_49
set_option maxHeartbeats 4000000 in
theorem m_X6_push (l : Launch) (A : Nat → Prop) (Dg : va_G) (dA : Nat → ClassId) (ad : Nat → Nat → Nat) (n : Nat) (nb : Nat) (nr : Nat) (no : Nat) (J : Nat → Nat → Nat) (R : Nat → Value) (D : T64) (I : T32) (i : Nat) (hi : i < n) (half : UInt64) (u : UInt64) (v : UInt64) (fx : UInt64) (fy : UInt64) (ms : UInt64) (sk : Int32) (hu : D 2 i = u) (hv : D 3 i = v) (hfx : D 30 i = fx) (hfy : D 31 i = fy) (hms : D 4 i = ms) (hsk : I 1 i = sk) (f1 : fb 0 half) (f2 : fb 20 u) (f3 : fb 20 v) (f4 : fb 160 fx) (f5 : fb 160 fy) (f6 : lb (-3) ms) : MX l yX6_push cX6_push 3 none [] (rmx 1 0 0) [.ref (ad 2 i), .double (half)] (Pw Dg dA (cW A Dg dA ad n nb nr no J R D I)) (qW (fun _ : Unit => none) (fun _ H => cW A Dg dA ad n nb nr no J R ((if sk = 0 then up2 (up2 D 2 i (pu half u fx ms)) 3 i (pu half v fy ms) else D)) I H) A) 0 0 A := by
  refine MX.start (Nat.le_of_ble_eq_true rfl) ?_
  intro p e s m args below meth c ls Q hAt hPc hl hQ
  have hl : lv_has ls 3 [(0, .ref (ad 2 i)), (1, .double (half))] := hl
  obtain ⟨hx, hb, hml, hr, hlk, hown, hnm, htab, hts⟩ := id hAt
  obtain ⟨hK, hW⟩ := hPc
  have Z := Cx.of hAt hK
  have hS : va_S A s.heap s.heap [] := va_S.rf
  refine lv_aload_n hx hb dX6_push_0 rfl (lv_at hl 0 rfl) ?_
  refine g_I (x := sk) Z hW kX6 rfl 9 (by decide) q386 (show (i : Nat) < n by omega) rfl hsk dX6_push_1 ?_
  refine lv_if_eq (tgt := 8) hx hb dX6_push_4 (by decide) (fun c11 => ?_) (fun c11 => ?_)
  · refine lv_aload_n hx hb dX6_push_8 rfl (lv_at hl 0 rfl) ?_
    refine lv_aload_n hx hb dX6_push_9 rfl (lv_at hl 0 rfl) ?_
    refine g_D (x := u) Z hW kX6 rfl 5 (by decide) q378 (show (i : Nat) < n by omega) rfl hu dX6_push_10 ?_
    refine lv_dload_n hx hb dX6_push_13 rfl (lv_at hl 1 rfl) ?_
    refine lv_aload_n hx hb dX6_push_14 rfl (lv_at hl 0 rfl) ?_
    refine g_D (x := fx) Z hW kX6 rfl 7 (by decide) q382 (show (i : Nat) < n by omega) rfl hfx dX6_push_15 ?_
    refine lv_aload_n hx hb dX6_push_18 rfl (lv_at hl 0 rfl) ?_
    refine g_D (x := ms) Z hW kX6 rfl 0 (by decide) q368 (show (i : Nat) < n by omega) rfl hms dX6_push_19 ?_
    have f12 : fb (163) (FP.ddiv fx ms) := fb.div f4 f6 (by decide)
    refine lv_ddiv hx hb dX6_push_22 f12.n64 ?_
    have f13 : fb (163) (FP.dmul half (FP.ddiv fx ms)) := fb.mul f1 f12 (by decide)
    refine lv_dmul hx hb dX6_push_23 f13.n64 ?_
    have f14 : fb (164) (FP.dadd u (FP.dmul half (FP.ddiv fx ms))) := fb.add f2 f13 (by decide)
    refine lv_dadd hx hb dX6_push_24 f14.n64 ?_
    refine w_putD Z hW hS kX6 rfl 5 (by decide) (by decide) q378 rfl (show (i : Nat) < n by omega) rfl rfl dX6_push_25 (fun H locs hW hS => ?_)
    refine lv_aload_n hx hb dX6_push_28 rfl (lv_at hl 0 rfl) ?_
    refine lv_aload_n hx hb dX6_push_29 rfl (lv_at hl 0 rfl) ?_
    refine g_D (x := v) Z hW kX6 rfl 6 (by decide) q380 (show (i : Nat) < n by omega) rfl ((up2_f _ _ _ _ (by decide)).trans hv) dX6_push_30 ?_
    refine lv_dload_n hx hb dX6_push_33 rfl (lv_at hl 1 rfl) ?_
    refine lv_aload_n hx hb dX6_push_34 rfl (lv_at hl 0 rfl) ?_
    refine g_D (x := fy) Z hW kX6 rfl 8 (by decide) q384 (show (i : Nat) < n by omega) rfl ((up2_f _ _ _ _ (by decide)).trans hfy) dX6_push_35 ?_
    refine lv_aload_n hx hb dX6_push_38 rfl (lv_at hl 0 rfl) ?_
    refine g_D (x := ms) Z hW kX6 rfl 0 (by decide) q368 (show (i : Nat) < n by omega) rfl ((up2_f _ _ _ _ (by decide)).trans hms) dX6_push_39 ?_
    have f15 : fb (163) (FP.ddiv fy ms) := fb.div f5 f6 (by decide)
    refine lv_ddiv hx hb dX6_push_42 f15.n64 ?_
    have f16 : fb (163) (FP.dmul half (FP.ddiv fy ms)) := fb.mul f1 f15 (by decide)
    refine lv_dmul hx hb dX6_push_43 f16.n64 ?_
    have f17 : fb (164) (FP.dadd v (FP.dmul half (FP.ddiv fy ms))) := fb.add f3 f16 (by decide)
    refine lv_dadd hx hb dX6_push_44 f17.n64 ?_
    refine w_putD Z hW hS kX6 rfl 6 (by decide) (by decide) q380 rfl (show (i : Nat) < n by omega) rfl rfl dX6_push_45 (fun H locs hW hS => ?_)
    rw [hQ]
    exact rW_v hx hb hr hlk hS (by show World _ _ _ _ _ _ _; rw [if_pos c11]; exact hW) dX6_push_48
  · rw [hQ]
    exact rW_v hx hb hr hlk hS (by show World _ _ _ _ _ _ _; rw [if_neg c11]; exact hW) dX6_push_7
set_option maxHeartbeats 4000000 in
theorem m_X6_save (l : Launch) (A : Nat → Prop) (Dg : va_G) (dA : Nat → ClassId) (ad : Nat → Nat → Nat) (n : Nat) (nb : Nat) (nr : Nat) (no : Nat) (J : Nat → Nat → Nat) (R : Nat → Value) (D : T64) (I : T32) (i : Nat) (hi : i < n) (hn10 : n ≤ 10) : MX l yX6_save cX6_save 2 none [] (rmx 1 0 0) [.ref (ad 2 i), .ref (ad 18 i)] (Pw Dg dA (cW A Dg dA ad n nb nr no J R D I)) (qW (fun _ : Unit => none) (fun _ H => cW A Dg dA ad n nb nr no J R ((svD D i)) I H) A) 0 0 A := by
  refine MX.start (Nat.le_of_ble_eq_true rfl) ?_
  intro p e s m args below meth c ls Q hAt hPc hl hQ
  have hl : lv_has ls 2 [(0, .ref (ad 2 i)), (1, .ref (ad 18 i))] := hl
  obtain ⟨hx, hb, hml, hr, hlk, hown, hnm, htab, hts⟩ := id hAt
  obtain ⟨hK, hW⟩ := hPc
  have Z := Cx.of hAt hK
  have hS : va_S A s.heap s.heap [] := va_S.rf
  refine lv_aload_n hx hb dX6_save_0 rfl (lv_at hl 1 rfl) ?_
  refine lv_iconst (v := nI 0) hx hb dX6_save_1 rfl ?_
  refine lv_aload_n hx hb dX6_save_2 rfl (lv_at hl 0 rfl) ?_
  refine g_D (x := D 0 i) Z hW kX6 rfl 3 (by decide) q374 (show (i : Nat) < n by omega) rfl rfl dX6_save_3 ?_
  refine w_ads (j := 0) (ix := 0 + 4 * i) Z hW hS rfl (show (i : Nat) < 10 by omega) rfl (by decide) (by decide) (by decide) rfl rfl dX6_save_6 (fun H locs hW hS => ?_)
  refine lv_aload_n hx hb dX6_save_7 rfl (lv_at hl 1 rfl) ?_
  refine lv_iconst (v := nI 1) hx hb dX6_save_8 rfl ?_
  refine lv_aload_n hx hb dX6_save_9 rfl (lv_at hl 0 rfl) ?_
  refine g_D (x := D 1 i) Z hW kX6 rfl 4 (by decide) q376 (show (i : Nat) < n by omega) rfl rfl dX6_save_10 ?_
  refine w_ads (j := 1) (ix := 1 + 4 * i) Z hW hS rfl (show (i : Nat) < 10 by omega) rfl (by decide) (by decide) (by decide) rfl rfl dX6_save_13 (fun H locs hW hS => ?_)
  refine lv_aload_n hx hb dX6_save_14 rfl (lv_at hl 1 rfl) ?_
  refine lv_iconst (v := nI 2) hx hb dX6_save_15 rfl ?_
  refine lv_aload_n hx hb dX6_save_16 rfl (lv_at hl 0 rfl) ?_
  refine g_D (x := D 2 i) Z hW kX6 rfl 5 (by decide) q378 (show (i : Nat) < n by omega) rfl rfl dX6_save_17 ?_
  refine w_ads (j := 2) (ix := 2 + 4 * i) Z hW hS rfl (show (i : Nat) < 10 by omega) rfl (by decide) (by decide) (by decide) rfl rfl dX6_save_20 (fun H locs hW hS => ?_)
  refine lv_aload_n hx hb dX6_save_21 rfl (lv_at hl 1 rfl) ?_
  refine lv_iconst (v := nI 3) hx hb dX6_save_22 rfl ?_
  refine lv_aload_n hx hb dX6_save_23 rfl (lv_at hl 0 rfl) ?_
  refine g_D (x := D 3 i) Z hW kX6 rfl 6 (by decide) q380 (show (i : Nat) < n by omega) rfl rfl dX6_save_24 ?_
  refine w_ads (j := 3) (ix := 3 + 4 * i) Z hW hS rfl (show (i : Nat) < 10 by omega) rfl (by decide) (by decide) (by decide) rfl rfl dX6_save_27 (fun H locs hW hS => ?_)
  rw [hQ]
  exact rW_v hx hb hr hlk hS (hW) dX6_save_28
set_option maxHeartbeats 4000000 in
theorem m_X6_restore (l : Launch) (A : Nat → Prop) (Dg : va_G) (dA : Nat → ClassId) (ad : Nat → Nat → Nat) (n : Nat) (nb : Nat) (nr : Nat) (no : Nat) (J : Nat → Nat → Nat) (R : Nat → Value) (D : T64) (I : T32) (i : Nat) (hi : i < n) (hn10 : n ≤ 10) : MX l yX6_restore cX6_restore 2 none [] (rmx 1 0 0) [.ref (ad 2 i), .ref (ad 18 i)] (Pw Dg dA (cW A Dg dA ad n nb nr no J R D I)) (qW (fun _ : Unit => none) (fun _ H => cW A Dg dA ad n nb nr no J R ((rsD D i)) I H) A) 0 0 A := by
  refine MX.start (Nat.le_of_ble_eq_true rfl) ?_
  intro p e s m args below meth c ls Q hAt hPc hl hQ
  have hl : lv_has ls 2 [(0, .ref (ad 2 i)), (1, .ref (ad 18 i))] := hl
  obtain ⟨hx, hb, hml, hr, hlk, hown, hnm, htab, hts⟩ := id hAt
  obtain ⟨hK, hW⟩ := hPc
  have Z := Cx.of hAt hK
  have hS : va_S A s.heap s.heap [] := va_S.rf
  refine lv_aload_n hx hb dX6_restore_0 rfl (lv_at hl 0 rfl) ?_
  refine lv_aload_n hx hb dX6_restore_1 rfl (lv_at hl 1 rfl) ?_
  refine lv_iconst (v := nI 0) hx hb dX6_restore_2 rfl ?_
  refine a_D (j := 0) (x := D 37 (0 + 4 * i)) (ix := 0 + 4 * i) Z hW rfl (show (i : Nat) < 10 by omega) (by decide) (by decide) rfl rfl rfl dX6_restore_3 ?_
  refine w_putD Z hW hS kX6 rfl 3 (by decide) (by decide) q374 rfl (show (i : Nat) < n by omega) rfl rfl dX6_restore_4 (fun H locs hW hS => ?_)
  refine lv_aload_n hx hb dX6_restore_7 rfl (lv_at hl 0 rfl) ?_
  refine lv_aload_n hx hb dX6_restore_8 rfl (lv_at hl 1 rfl) ?_
  refine lv_iconst (v := nI 1) hx hb dX6_restore_9 rfl ?_
  refine a_D (j := 1) (x := D 37 (1 + 4 * i)) (ix := 1 + 4 * i) Z hW rfl (show (i : Nat) < 10 by omega) (by decide) (by decide) rfl rfl rfl dX6_restore_10 ?_
  refine w_putD Z hW hS kX6 rfl 4 (by decide) (by decide) q376 rfl (show (i : Nat) < n by omega) rfl rfl dX6_restore_11 (fun H locs hW hS => ?_)
  refine lv_aload_n hx hb dX6_restore_14 rfl (lv_at hl 0 rfl) ?_
  refine lv_aload_n hx hb dX6_restore_15 rfl (lv_at hl 1 rfl) ?_
  refine lv_iconst (v := nI 2) hx hb dX6_restore_16 rfl ?_
  refine a_D (j := 2) (x := D 37 (2 + 4 * i)) (ix := 2 + 4 * i) Z hW rfl (show (i : Nat) < 10 by omega) (by decide) (by decide) rfl rfl rfl dX6_restore_17 ?_
  refine w_putD Z hW hS kX6 rfl 5 (by decide) (by decide) q378 rfl (show (i : Nat) < n by omega) rfl rfl dX6_restore_18 (fun H locs hW hS => ?_)
  refine lv_aload_n hx hb dX6_restore_21 rfl (lv_at hl 0 rfl) ?_
  refine lv_aload_n hx hb dX6_restore_22 rfl (lv_at hl 1 rfl) ?_
  refine lv_iconst (v := nI 3) hx hb dX6_restore_23 rfl ?_
  refine a_D (j := 3) (x := D 37 (3 + 4 * i)) (ix := 3 + 4 * i) Z hW rfl (show (i : Nat) < 10 by omega) (by decide) (by decide) rfl rfl rfl dX6_restore_24 ?_
  refine w_putD Z hW hS kX6 rfl 6 (by decide) (by decide) q380 rfl (show (i : Nat) < n by omega) rfl rfl dX6_restore_25 (fun H locs hW hS => ?_)
  rw [hQ]
  exact rW_v hx hb hr hlk hS (hW) dX6_restore_28
set_option maxHeartbeats 4000000 in
theorem m_X7_factor (l : Launch) (A : Nat → Prop) (Dg : va_G) (dA : Nat → ClassId) (ad : Nat → Nat → Nat) (n : Nat) (nb : Nat) (nr : Nat) (no : Nat) (J : Nat → Nat → Nat) (R : Nat → Value) (D : T64) (I : T32) (D0 : T64) (hag : agD D D0) (hB : Bd n nb nr J D0) (k : Nat) (hk : k < nb) (r : UInt64) (hrf : fb 11 r) : MX l yX7_factor cX7_factor 3 (some .double) [] (rmx 1 0 0) [.ref (ad 3 k), .double (r)] (Pw Dg dA (cW A Dg dA ad n nb nr no J R D I)) (qR Value.double (fun z => z = bF D0 k r)) 0 0 (fun _ => False) := by
  refine MX.start (Nat.le_of_ble_eq_true rfl) ?_
  intro p e s m args below meth c ls Q hAt hPc hl hQ
  have hl : lv_has ls 3 [(0, .ref (ad 3 k)), (1, .double (r))] := hl
  obtain ⟨hx, hb, hml, hr, hlk, hown, hnm, htab, hts⟩ := id hAt
  obtain ⟨hK, hW⟩ := hPc
  have Z := Cx.of hAt hK
  refine lv_aload_n hx hb dX7_factor_0 rfl (lv_at hl 0 rfl) ?_
  refine g_D (x := D0 10 k) Z hW kX7 rfl 2 (by decide) q476 (show (k : Nat) < nb by omega) rfl (hag 10 k rfl) dX7_factor_1 ?_
  refine lv_dload_n hx hb dX7_factor_4 rfl (lv_at hl 1 rfl) ?_
  refine lv_aload_n hx hb dX7_factor_5 rfl (lv_at hl 0 rfl) ?_
  refine g_D (x := D0 11 k) Z hW kX7 rfl 3 (by decide) q477 (show (k : Nat) < nb by omega) rfl (hag 11 k rfl) dX7_factor_6 ?_
  refine lv_aload_n hx hb dX7_factor_9 rfl (lv_at hl 0 rfl) ?_
  refine g_D (x := D0 11 k) Z hW kX7 rfl 3 (by decide) q477 (show (k : Nat) < nb by omega) rfl (hag 11 k rfl) dX7_factor_10 ?_
  have f1 : fb (8) (FP.dmul (D0 11 k) (D0 11 k)) := fb.mul (hB.bl (show (k : Nat) < nb by omega)) (hB.bl (show (k : Nat) < nb by omega)) (by decide)
  refine lv_dmul hx hb dX7_factor_13 f1.n64 ?_
  have f2 : fb (12) (FP.dsub r (FP.dmul (D0 11 k) (D0 11 k))) := fb.sub hrf f1 (by decide)
  refine lv_dsub hx hb dX7_factor_14 f2.n64 ?_
  have f3 : fb (18) (FP.dmul (D0 10 k) (FP.dsub r (FP.dmul (D0 11 k) (D0 11 k)))) := fb.mul (hB.bk (show (k : Nat) < nb by omega)) f2 (by decide)
  refine lv_dmul hx hb dX7_factor_15 f3.n64 ?_
  rw [hQ]
  exact rR_d hx hb hr hlk rfl dX7_factor_16
set_option maxHeartbeats 4000000 in
theorem m_X7_energy (l : Launch) (A : Nat → Prop) (Dg : va_G) (dA : Nat → ClassId) (ad : Nat → Nat → Nat) (n : Nat) (nb : Nat) (nr : Nat) (no : Nat) (J : Nat → Nat → Nat) (R : Nat → Value) (D : T64) (I : T32) (D0 : T64) (hag : agD D D0) (hB : Bd n nb nr J D0) (k : Nat) (hk : k < nb) (r : UInt64) (hrf : fb 11 r) : MX l yX7_energy cX7_energy 3 (some .double) [] (rmx 1 0 0) [.ref (ad 3 k), .double (r)] (Pw Dg dA (cW A Dg dA ad n nb nr no J R D I)) (qR Value.double (fun z => z = bN D0 k r)) 0 0 (fun _ => False) := by
  refine MX.start (Nat.le_of_ble_eq_true rfl) ?_
  intro p e s m args below meth c ls Q hAt hPc hl hQ
  have hl : lv_has ls 3 [(0, .ref (ad 3 k)), (1, .double (r))] := hl
  obtain ⟨hx, hb, hml, hr, hlk, hown, hnm, htab, hts⟩ := id hAt
  obtain ⟨hK, hW⟩ := hPc
  have Z := Cx.of hAt hK
  refine lv_ldc2d (v := 4598175219545276416) hx hb hown (hts _ (lw_car_all q702)) dX7_energy_0 ?_
  refine lv_aload_n hx hb dX7_energy_3 rfl (lv_at hl 0 rfl) ?_
  refine g_D (x := D0 10 k) Z hW kX7 rfl 2 (by decide) q476 (show (k : Nat) < nb by omega) rfl (hag 10 k rfl) dX7_energy_4 ?_
  have f1 : fb (4) (FP.dmul 4598175219545276416 (D0 10 k)) := fb.mul fc_4598175219545276416 (hB.bk (show (k : Nat) < nb by omega)) (by decide)
  refine lv_dmul hx hb dX7_energy_7 f1.n64 ?_
  refine lv_dload_n hx hb dX7_energy_8 rfl (lv_at hl 1 rfl) ?_
  refine lv_aload_n hx hb dX7_energy_9 rfl (lv_at hl 0 rfl) ?_
  refine g_D (x := D0 11 k) Z hW kX7 rfl 3 (by decide) q477 (show (k : Nat) < nb by omega) rfl (hag 11 k rfl) dX7_energy_10 ?_
  refine lv_aload_n hx hb dX7_energy_13 rfl (lv_at hl 0 rfl) ?_
  refine g_D (x := D0 11 k) Z hW kX7 rfl 3 (by decide) q477 (show (k : Nat) < nb by omega) rfl (hag 11 k rfl) dX7_energy_14 ?_
  have f2 : fb (8) (FP.dmul (D0 11 k) (D0 11 k)) := fb.mul (hB.bl (show (k : Nat) < nb by omega)) (hB.bl (show (k : Nat) < nb by omega)) (by decide)
  refine lv_dmul hx hb dX7_energy_17 f2.n64 ?_
  have f3 : fb (12) (FP.dsub r (FP.dmul (D0 11 k) (D0 11 k))) := fb.sub hrf f2 (by decide)
  refine lv_dsub hx hb dX7_energy_18 f3.n64 ?_
  have f4 : fb (16) (FP.dmul (FP.dmul 4598175219545276416 (D0 10 k)) (FP.dsub r (FP.dmul (D0 11 k) (D0 11 k)))) := fb.mul f1 f3 (by decide)
  refine lv_dmul hx hb dX7_energy_19 f4.n64 ?_
  refine lv_dload_n hx hb dX7_energy_20 rfl (lv_at hl 1 rfl) ?_
  refine lv_aload_n hx hb dX7_energy_21 rfl (lv_at hl 0 rfl) ?_
  refine g_D (x := D0 11 k) Z hW kX7 rfl 3 (by decide) q477 (show (k : Nat) < nb by omega) rfl (hag 11 k rfl) dX7_energy_22 ?_
  refine lv_aload_n hx hb dX7_energy_25 rfl (lv_at hl 0 rfl) ?_
  refine g_D (x := D0 11 k) Z hW kX7 rfl 3 (by decide) q477 (show (k : Nat) < nb by omega) rfl (hag 11 k rfl) dX7_energy_26 ?_
  refine lv_dmul hx hb dX7_energy_29 f2.n64 ?_
  refine lv_dsub hx hb dX7_energy_30 f3.n64 ?_
  have f5 : fb (28) (FP.dmul (FP.dmul (FP.dmul 4598175219545276416 (D0 10 k)) (FP.dsub r (FP.dmul (D0 11 k) (D0 11 k)))) (FP.dsub r (FP.dmul (D0 11 k) (D0 11 k)))) := fb.mul f4 f3 (by decide)
  refine lv_dmul hx hb dX7_energy_31 f5.n64 ?_
  rw [hQ]
  exact rR_d hx hb hr hlk rfl dX7_energy_32
set_option maxHeartbeats 4000000 in
theorem m_X3_of (l : Launch) (A : Nat → Prop) (Dg : va_G) (dA : Nat → ClassId) (ad : Nat → Nat → Nat) (n : Nat) (nb : Nat) (nr : Nat) (no : Nat) (J : Nat → Nat → Nat) (R : Nat → Value) (D : T64) (I : T32) (i : Nat) (j : Nat) (cu : UInt64) : MX l yX3_of cX3_of 5 (Option.some (.object "ParticleBox$Tie")) [] (rmx 1 0 0) [.ref (ad 5 0), .ref (ad 2 i), .ref (ad 2 j), .double (cu)] (Pw Dg dA (cW A Dg dA ad n nb nr no J R D I)) (qW (fun r : Nat => some (.ref r)) (fun r H => r = ad 5 0 ∧ cW A Dg dA ad n nb nr no J ((rr (rr R 0 (.ref (ad 2 i))) 1 (.ref (ad 2 j)))) ((up2 D 36 0 cu)) I H) A) 0 0 A := by
  refine MX.start (Nat.le_of_ble_eq_true rfl) ?_
  intro p e s m args below meth c ls Q hAt hPc hl hQ
  have hl : lv_has ls 5 [(0, .ref (ad 5 0)), (1, .ref (ad 2 i)), (2, .ref (ad 2 j)), (3, .double (cu))] := hl
  obtain ⟨hx, hb, hml, hr, hlk, hown, hnm, htab, hts⟩ := id hAt
  obtain ⟨hK, hW⟩ := hPc
  have Z := Cx.of hAt hK
  have hS : va_S A s.heap s.heap [] := va_S.rf
  refine lv_aload_n hx hb dX3_of_0 rfl (lv_at hl 0 rfl) ?_
  refine lv_aload_n hx hb dX3_of_1 rfl (lv_at hl 1 rfl) ?_
  refine w_putR Z hW hS 1 0 (Or.inl ⟨rfl, rfl, rfl⟩) q106 dX3_of_2 (fun H locs hW hS => ?_)
  refine lv_aload_n hx hb dX3_of_5 rfl (lv_at hl 0 rfl) ?_
  refine lv_aload_n hx hb dX3_of_6 rfl (lv_at hl 2 rfl) ?_
  refine w_putR Z hW hS 2 1 (Or.inr ⟨rfl, rfl, rfl⟩) q107 dX3_of_7 (fun H locs hW hS => ?_)
  refine lv_aload_n hx hb dX3_of_10 rfl (lv_at hl 0 rfl) ?_
  refine lv_dload_n hx hb dX3_of_11 rfl (lv_at hl 3 rfl) ?_
  refine w_putD Z hW hS kX3 rfl 0 (by decide) (by decide) q105 rfl (show (0 : Nat) < 1 by decide) rfl rfl dX3_of_12 (fun H locs hW hS => ?_)
  refine lv_aload_n hx hb dX3_of_15 rfl (lv_at hl 0 rfl) ?_
  rw [hQ]
  exact rW_a hx hb hr (Or.inl ⟨_, rfl⟩) hlk hS (⟨rfl, hW⟩) dX3_of_16
set_option maxHeartbeats 4000000 in
theorem m_X3_sixth (l : Launch) (A : Nat → Prop) (Dg : va_G) (dA : Nat → ClassId) (ad : Nat → Nat → Nat) (n : Nat) (nb : Nat) (nr : Nat) (no : Nat) (J : Nat → Nat → Nat) (R : Nat → Value) (D : T64) (I : T32) (D0 : T64) (hag : agD D D0) (hB : Bd n nb nr J D0) (i : Nat) (j : Nat) (hi : i < n) (hj : j < n) (hR0 : R 0 = .ref (ad 2 i)) (hR1 : R 1 = .ref (ad 2 j)) (r : UInt64) (hrf : fb 11 r) (hrl : lb (-10) r) : MX l yX3_sixth cX3_sixth 7 (some .double) [] (rmx 1 0 0) [.ref (ad 5 0), .double (r)] (Pw Dg dA (cW A Dg dA ad n nb nr no J R D I)) (qR Value.double (fun z => z = pP D0 J i j r)) 0 0 (fun _ => False) := by
  refine MX.start (Nat.le_of_ble_eq_true rfl) ?_
  intro p e s m args below meth c ls Q hAt hPc hl hQ
  have hl : lv_has ls 7 [(0, .ref (ad 5 0)), (1, .double (r))] := hl
  obtain ⟨hx, hb, hml, hr, hlk, hown, hnm, htab, hts⟩ := id hAt
  obtain ⟨hK, hW⟩ := hPc
  have Z := Cx.of hAt hK
  refine lv_aload_n hx hb dX3_sixth_0 rfl (lv_at hl 0 rfl) ?_
  refine w_getR (v := .ref (ad 2 i)) Z hW kX3 rfl 1 (by decide) q106 (show (0 : Nat) < 1 by decide) rfl hR0 dX3_sixth_1 ?_
  have hj1 := hB.j0 (show (i : Nat) < n by omega)
  refine w_getR (v := .ref (ad 1 (J 0 i))) Z hW kX6 rfl 1 (by decide) q371 (show (i : Nat) < n by omega) rfl rfl dX3_sixth_4 ?_
  refine g_D (x := D0 7 (J 0 i)) Z hW kX2 rfl 0 (by decide) q79 (show (J 0 i : Nat) < 3 by omega) rfl (hag 7 (J 0 i) rfl) dX3_sixth_7 ?_
  refine lv_aload_n hx hb dX3_sixth_10 rfl (lv_at hl 0 rfl) ?_
  refine w_getR (v := .ref (ad 2 j)) Z hW kX3 rfl 2 (by decide) q107 (show (0 : Nat) < 1 by decide) rfl hR1 dX3_sixth_11 ?_
  have hj2 := hB.j0 (show (j : Nat) < n by omega)
  refine w_getR (v := .ref (ad 1 (J 0 j))) Z hW kX6 rfl 1 (by decide) q371 (show (j : Nat) < n by omega) rfl rfl dX3_sixth_14 ?_
  refine g_D (x := D0 7 (J 0 j)) Z hW kX2 rfl 0 (by decide) q79 (show (J 0 j : Nat) < 3 by omega) rfl (hag 7 (J 0 j) rfl) dX3_sixth_17 ?_
  have f3 : fb (3) (FP.dadd (D0 7 (J 0 i)) (D0 7 (J 0 j))) := fb.add (hB.w (show (J 0 i : Nat) < 3 by omega)) (hB.w (show (J 0 j : Nat) < 3 by omega)) (by decide)
  refine lv_dadd hx hb dX3_sixth_20 f3.n64 ?_
  refine lv_ldc2d (v := 4602678819172646912) hx hb hown (hts _ (lw_car_all q620)) dX3_sixth_21 ?_
  have f4 : fb (2) (FP.dmul (FP.dadd (D0 7 (J 0 i)) (D0 7 (J 0 j))) 4602678819172646912) := fb.mul f3 fc_4602678819172646912 (by decide)
  refine lv_dmul hx hb dX3_sixth_24 f4.n64 ?_
  refine lv_dstore_n (lv' := [(3, .double (FP.dmul (FP.dadd (D0 7 (J 0 i)) (D0 7 (J 0 j))) 4602678819172646912)), (0, .ref (ad 5 0)), (1, .double (r))]) hx hb dX3_sixth_25 rfl hl (by decide) rfl (fun ls hl => ?_)
  refine lv_dload_n hx hb dX3_sixth_26 rfl (lv_at hl 0 rfl) ?_
  refine lv_dload_n hx hb dX3_sixth_27 rfl (lv_at hl 0 rfl) ?_
  have f5 : fb (4) (FP.dmul (FP.dmul (FP.dadd (D0 7 (J 0 i)) (D0 7 (J 0 j))) 4602678819172646912) (FP.dmul (FP.dadd (D0 7 (J 0 i)) (D0 7 (J 0 j))) 4602678819172646912)) := fb.mul f4 f4 (by decide)
  refine lv_dmul hx hb dX3_sixth_28 f5.n64 ?_
  refine lv_dload_n hx hb dX3_sixth_29 rfl (lv_at hl 2 rfl) ?_
  have f6 : fb (14) (FP.ddiv (FP.dmul (FP.dmul (FP.dadd (D0 7 (J 0 i)) (D0 7 (J 0 j))) 4602678819172646912) (FP.dmul (FP.dadd (D0 7 (J 0 i)) (D0 7 (J 0 j))) 4602678819172646912)) r) := fb.div f5 hrl (by decide)
  refine lv_ddiv hx hb dX3_sixth_30 f6.n64 ?_
  refine lv_dstore (lv' := [(5, .double (FP.ddiv (FP.dmul (FP.dmul (FP.dadd (D0 7 (J 0 i)) (D0 7 (J 0 j))) 4602678819172646912) (FP.dmul (FP.dadd (D0 7 (J 0 i)) (D0 7 (J 0 j))) 4602678819172646912)) r)), (3, .double (FP.dmul (FP.dadd (D0 7 (J 0 i)) (D0 7 (J 0 j))) 4602678819172646912)), (0, .ref (ad 5 0)), (1, .double (r))]) hx hb dX3_sixth_31 hl (by decide) rfl (fun ls hl => ?_)
  refine lv_dload hx hb dX3_sixth_33 (lv_at hl 0 rfl) ?_
  refine lv_dload hx hb dX3_sixth_35 (lv_at hl 0 rfl) ?_
  have f7 : fb (28) (FP.dmul (FP.ddiv (FP.dmul (FP.dmul (FP.dadd (D0 7 (J 0 i)) (D0 7 (J 0 j))) 4602678819172646912) (FP.dmul (FP.dadd (D0 7 (J 0 i)) (D0 7 (J 0 j))) 4602678819172646912)) r) (FP.ddiv (FP.dmul (FP.dmul (FP.dadd (D0 7 (J 0 i)) (D0 7 (J 0 j))) 4602678819172646912) (FP.dmul (FP.dadd (D0 7 (J 0 i)) (D0 7 (J 0 j))) 4602678819172646912)) r)) := fb.mul f6 f6 (by decide)
  refine lv_dmul hx hb dX3_sixth_37 f7.n64 ?_
  refine lv_dload hx hb dX3_sixth_38 (lv_at hl 0 rfl) ?_
  have f8 : fb (42) (FP.dmul (FP.dmul (FP.ddiv (FP.dmul (FP.dmul (FP.dadd (D0 7 (J 0 i)) (D0 7 (J 0 j))) 4602678819172646912) (FP.dmul (FP.dadd (D0 7 (J 0 i)) (D0 7 (J 0 j))) 4602678819172646912)) r) (FP.ddiv (FP.dmul (FP.dmul (FP.dadd (D0 7 (J 0 i)) (D0 7 (J 0 j))) 4602678819172646912) (FP.dmul (FP.dadd (D0 7 (J 0 i)) (D0 7 (J 0 j))) 4602678819172646912)) r)) (FP.ddiv (FP.dmul (FP.dmul (FP.dadd (D0 7 (J 0 i)) (D0 7 (J 0 j))) 4602678819172646912) (FP.dmul (FP.dadd (D0 7 (J 0 i)) (D0 7 (J 0 j))) 4602678819172646912)) r)) := fb.mul f7 f6 (by decide)
  refine lv_dmul hx hb dX3_sixth_40 f8.n64 ?_
  rw [hQ]
  exact rR_d hx hb hr hlk rfl dX3_sixth_41
set_option maxHeartbeats 4000000 in
theorem m_X3_strength (l : Launch) (A : Nat → Prop) (Dg : va_G) (dA : Nat → ClassId) (ad : Nat → Nat → Nat) (n : Nat) (nb : Nat) (nr : Nat) (no : Nat) (J : Nat → Nat → Nat) (R : Nat → Value) (D : T64) (I : T32) (D0 : T64) (hag : agD D D0) (hB : Bd n nb nr J D0) (i : Nat) (j : Nat) (hi : i < n) (hj : j < n) (hR0 : R 0 = .ref (ad 2 i)) (hR1 : R 1 = .ref (ad 2 j)) : MX l yX3_strength cX3_strength 1 (some .double) [] (rmx 1 0 0) [.ref (ad 5 0)] (Pw Dg dA (cW A Dg dA ad n nb nr no J R D I)) (qR Value.double (fun z => z = pE D0 J i j)) 0 0 (fun _ => False) := by
  refine MX.start (Nat.le_of_ble_eq_true rfl) ?_
  intro p e s m args below meth c ls Q hAt hPc hl hQ
  have hl : lv_has ls 1 [(0, .ref (ad 5 0))] := hl
  obtain ⟨hx, hb, hml, hr, hlk, hown, hnm, htab, hts⟩ := id hAt
  obtain ⟨hK, hW⟩ := hPc
  have Z := Cx.of hAt hK
  refine lv_aload_n hx hb dX3_strength_0 rfl (lv_at hl 0 rfl) ?_
  refine w_getR (v := .ref (ad 2 i)) Z hW kX3 rfl 1 (by decide) q106 (show (0 : Nat) < 1 by decide) rfl hR0 dX3_strength_1 ?_
  have hj1 := hB.j0 (show (i : Nat) < n by omega)
  refine w_getR (v := .ref (ad 1 (J 0 i))) Z hW kX6 rfl 1 (by decide) q371 (show (i : Nat) < n by omega) rfl rfl dX3_strength_4 ?_
  refine g_D (x := D0 8 (J 0 i)) Z hW kX2 rfl 1 (by decide) q82 (show (J 0 i : Nat) < 3 by omega) rfl (hag 8 (J 0 i) rfl) dX3_strength_7 ?_
  refine lv_aload_n hx hb dX3_strength_10 rfl (lv_at hl 0 rfl) ?_
  refine w_getR (v := .ref (ad 2 j)) Z hW kX3 rfl 2 (by decide) q107 (show (0 : Nat) < 1 by decide) rfl hR1 dX3_strength_11 ?_
  have hj2 := hB.j0 (show (j : Nat) < n by omega)
  refine w_getR (v := .ref (ad 1 (J 0 j))) Z hW kX6 rfl 1 (by decide) q371 (show (j : Nat) < n by omega) rfl rfl dX3_strength_14 ?_
  refine g_D (x := D0 8 (J 0 j)) Z hW kX2 rfl 1 (by decide) q82 (show (J 0 j : Nat) < 3 by omega) rfl (hag 8 (J 0 j) rfl) dX3_strength_17 ?_
  have f3 : fb (7) (FP.dadd (D0 8 (J 0 i)) (D0 8 (J 0 j))) := fb.add (hB.d (show (J 0 i : Nat) < 3 by omega)) (hB.d (show (J 0 j : Nat) < 3 by omega)) (by decide)
  refine lv_dadd hx hb dX3_strength_20 f3.n64 ?_
  refine lv_ldc2d (v := 4602678819172646912) hx hb hown (hts _ (lw_car_all q620)) dX3_strength_21 ?_
  have f4 : fb (6) (FP.dmul (FP.dadd (D0 8 (J 0 i)) (D0 8 (J 0 j))) 4602678819172646912) := fb.mul f3 fc_4602678819172646912 (by decide)
  refine lv_dmul hx hb dX3_strength_24 f4.n64 ?_
  rw [hQ]
  exact rR_d hx hb hr hlk rfl dX3_strength_25
set_option maxHeartbeats 4000000 in
theorem m_X3_factor (l : Launch) (A : Nat → Prop) (Dg : va_G) (dA : Nat → ClassId) (ad : Nat → Nat → Nat) (n : Nat) (nb : Nat) (nr : Nat) (no : Nat) (J : Nat → Nat → Nat) (R : Nat → Value) (D : T64) (I : T32) (D0 : T64) (hag : agD D D0) (hB : Bd n nb nr J D0) (i : Nat) (j : Nat) (hi : i < n) (hj : j < n) (hR0 : R 0 = .ref (ad 2 i)) (hR1 : R 1 = .ref (ad 2 j)) (r : UInt64) (hrf : fb 11 r) (hrl : lb (-10) r) : MX l yX3_factor cX3_factor 7 (some .double) [] (rmx 2 0 0) [.ref (ad 5 0), .double (r)] (Pw Dg dA (cW A Dg dA ad n nb nr no J R D I)) (qR Value.double (fun z => z = pF D0 J i j r)) 0 0 (fun _ => False) := by
  refine MX.start (Nat.le_of_ble_eq_true rfl) ?_
  intro p e s m args below meth c ls Q hAt hPc hl hQ
  have hl : lv_has ls 7 [(0, .ref (ad 5 0)), (1, .double (r))] := hl
  obtain ⟨hx, hb, hml, hr, hlk, hown, hnm, htab, hts⟩ := id hAt
  obtain ⟨hK, hW⟩ := hPc
  have Z := Cx.of hAt hK
  refine lv_aload_n hx hb dX3_factor_0 rfl (lv_at hl 0 rfl) ?_
  refine lv_dload_n hx hb dX3_factor_1 rfl (lv_at hl 1 rfl) ?_
  refine wx_r (wx_V (As := [.double (r)]) (rest := []) hAt.fix (m_X3_sixth l A Dg dA ad n nb nr no J R D I D0 hag hB i j hi hj hR0 hR1 r hrf hrl) q616 q618 qs13 q619 wn_X3_sixth ⟨Nat.le_of_ble_eq_true rfl, Nat.le_of_ble_eq_true rfl, Nat.le_of_ble_eq_true rfl, Nat.le_of_ble_eq_true rfl⟩ (w_recv hK hW kX3 rfl (show (0 : Nat) < 1 by decide)) (Pw.of hK hW) hl.1 (Nat.le_of_ble_eq_true rfl) dX3_factor_2) (fun r hr => ?_)
  subst hr
  refine lv_dstore_n (lv' := [(3, .double (pP D0 J i j r)), (0, .ref (ad 5 0)), (1, .double (r))]) hx hb dX3_factor_5 rfl hl (by decide) rfl (fun ls hl => ?_)
  refine lv_aload_n hx hb dX3_factor_6 rfl (lv_at hl 1 rfl) ?_
  refine w_getR (v := .ref (ad 2 i)) Z hW kX3 rfl 1 (by decide) q106 (show (0 : Nat) < 1 by decide) rfl hR0 dX3_factor_7 ?_
  have hj1 := hB.j0 (show (i : Nat) < n by omega)
  refine w_getR (v := .ref (ad 1 (J 0 i))) Z hW kX6 rfl 1 (by decide) q371 (show (i : Nat) < n by omega) rfl rfl dX3_factor_10 ?_
  refine g_D (x := D0 9 (J 0 i)) Z hW kX2 rfl 2 (by decide) q84 (show (J 0 i : Nat) < 3 by omega) rfl (hag 9 (J 0 i) rfl) dX3_factor_13 ?_
  refine lv_aload_n hx hb dX3_factor_16 rfl (lv_at hl 1 rfl) ?_
  refine w_getR (v := .ref (ad 2 j)) Z hW kX3 rfl 2 (by decide) q107 (show (0 : Nat) < 1 by decide) rfl hR1 dX3_factor_17 ?_
  have hj2 := hB.j0 (show (j : Nat) < n by omega)
  refine w_getR (v := .ref (ad 1 (J 0 j))) Z hW kX6 rfl 1 (by decide) q371 (show (j : Nat) < n by omega) rfl rfl dX3_factor_20 ?_
  refine g_D (x := D0 9 (J 0 j)) Z hW kX2 rfl 2 (by decide) q84 (show (J 0 j : Nat) < 3 by omega) rfl (hag 9 (J 0 j) rfl) dX3_factor_23 ?_
  have f3 : fb (6) (FP.dmul (D0 9 (J 0 i)) (D0 9 (J 0 j))) := fb.mul (hB.c (show (J 0 i : Nat) < 3 by omega)) (hB.c (show (J 0 j : Nat) < 3 by omega)) (by decide)
  refine lv_dmul hx hb dX3_factor_26 f3.n64 ?_
  refine lv_dstore (lv' := [(5, .double (FP.dmul (D0 9 (J 0 i)) (D0 9 (J 0 j)))), (3, .double (pP D0 J i j r)), (0, .ref (ad 5 0)), (1, .double (r))]) hx hb dX3_factor_27 hl (by decide) rfl (fun ls hl => ?_)
  refine lv_ldc2d (v := 4627448617123184640) hx hb hown (hts _ (lw_car_all q621)) dX3_factor_29 ?_
  refine lv_aload_n hx hb dX3_factor_32 rfl (lv_at hl 2 rfl) ?_
  refine wx_r (wx_V (As := []) (rest := [.double (4627448617123184640)]) hAt.fix (m_X3_strength l A Dg dA ad n nb nr no J R D I D0 hag hB i j hi hj hR0 hR1) q622 q624 qs14 q625 wn_X3_strength ⟨Nat.le_of_ble_eq_true rfl, Nat.le_of_ble_eq_true rfl, Nat.le_of_ble_eq_true rfl, Nat.le_of_ble_eq_true rfl⟩ (w_recv hK hW kX3 rfl (show (0 : Nat) < 1 by decide)) (Pw.of hK hW) hl.1 (Nat.le_of_ble_eq_true rfl) dX3_factor_33) (fun r hr => ?_)
  subst hr
  have f4 : fb (11) (FP.dmul 4627448617123184640 (pE D0 J i j)) := fb.mul fc_4627448617123184640 (pE_fb hB hi hj) (by decide)
  refine lv_dmul hx hb dX3_factor_36 f4.n64 ?_
  refine lv_dload_n hx hb dX3_factor_37 rfl (lv_at hl 1 rfl) ?_
  refine lv_ldc2d (v := 4611686018427387904) hx hb hown (hts _ (lw_car_all q626)) dX3_factor_38 ?_
  refine lv_dload_n hx hb dX3_factor_41 rfl (lv_at hl 1 rfl) ?_
  have f5 : fb (43) (FP.dmul 4611686018427387904 (pP D0 J i j r)) := fb.mul fc_4611686018427387904 (pP_fb hB hi hj hrl) (by decide)
  refine lv_dmul hx hb dX3_factor_42 f5.n64 ?_
  refine lv_dload_n hx hb dX3_factor_43 rfl (lv_at hl 1 rfl) ?_
  have f6 : fb (85) (FP.dmul (FP.dmul 4611686018427387904 (pP D0 J i j r)) (pP D0 J i j r)) := fb.mul f5 (pP_fb hB hi hj hrl) (by decide)
  refine lv_dmul hx hb dX3_factor_44 f6.n64 ?_
  have f7 : fb (86) (FP.dsub (pP D0 J i j r) (FP.dmul (FP.dmul 4611686018427387904 (pP D0 J i j r)) (pP D0 J i j r))) := fb.sub (pP_fb hB hi hj hrl) f6 (by decide)
  refine lv_dsub hx hb dX3_factor_45 f7.n64 ?_
  have f8 : fb (97) (FP.dmul (FP.dmul 4627448617123184640 (pE D0 J i j)) (FP.dsub (pP D0 J i j r) (FP.dmul (FP.dmul 4611686018427387904 (pP D0 J i j r)) (pP D0 J i j r)))) := fb.mul f4 f7 (by decide)
  refine lv_dmul hx hb dX3_factor_46 f8.n64 ?_
  refine lv_dload_n hx hb dX3_factor_47 rfl (lv_at hl 3 rfl) ?_
  have f9 : fb (107) (FP.ddiv (FP.dmul (FP.dmul 4627448617123184640 (pE D0 J i j)) (FP.dsub (pP D0 J i j r) (FP.dmul (FP.dmul 4611686018427387904 (pP D0 J i j r)) (pP D0 J i j r)))) r) := fb.div f8 hrl (by decide)
  refine lv_ddiv hx hb dX3_factor_48 f9.n64 ?_
  refine lv_ldc2d (v := 4611686018427387904) hx hb hown (hts _ (lw_car_all q626)) dX3_factor_49 ?_
  refine lv_dload hx hb dX3_factor_52 (lv_at hl 0 rfl) ?_
  have f10 : fb (7) (FP.dmul 4611686018427387904 (FP.dmul (D0 9 (J 0 i)) (D0 9 (J 0 j)))) := fb.mul fc_4611686018427387904 f3 (by decide)
  refine lv_dmul hx hb dX3_factor_54 f10.n64 ?_
  refine lv_dload_n hx hb dX3_factor_55 rfl (lv_at hl 3 rfl) ?_
  refine lv_dload_n hx hb dX3_factor_56 rfl (lv_at hl 3 rfl) ?_
  have f11 : fb (22) (FP.dmul r r) := fb.mul hrf hrf (by decide)
  refine lv_dmul hx hb dX3_factor_57 f11.n64 ?_
  have f12 : fb (27) (FP.ddiv (FP.dmul 4611686018427387904 (FP.dmul (D0 9 (J 0 i)) (D0 9 (J 0 j)))) (FP.dmul r r)) := fb.div f10 (lb.mul hrl hrl hrf hrf (G := -20) (by decide)) (by decide)
  refine lv_ddiv hx hb dX3_factor_58 f12.n64 ?_
  have f13 : fb (108) (FP.dsub (FP.ddiv (FP.dmul (FP.dmul 4627448617123184640 (pE D0 J i j)) (FP.dsub (pP D0 J i j r) (FP.dmul (FP.dmul 4611686018427387904 (pP D0 J i j r)) (pP D0 J i j r)))) r) (FP.ddiv (FP.dmul 4611686018427387904 (FP.dmul (D0 9 (J 0 i)) (D0 9 (J 0 j)))) (FP.dmul r r))) := fb.sub f9 f12 (by decide)
  refine lv_dsub hx hb dX3_factor_59 f13.n64 ?_
  rw [hQ]
  exact rR_d hx hb hr hlk rfl dX3_factor_60
set_option maxHeartbeats 4000000 in
theorem m_X3_energy (l : Launch) (A : Nat → Prop) (Dg : va_G) (dA : Nat → ClassId) (ad : Nat → Nat → Nat) (n : Nat) (nb : Nat) (nr : Nat) (no : Nat) (J : Nat → Nat → Nat) (R : Nat → Value) (D : T64) (I : T32) (D0 : T64) (hag : agD D D0) (hB : Bd n nb nr J D0) (i : Nat) (j : Nat) (hi : i < n) (hj : j < n) (hR0 : R 0 = .ref (ad 2 i)) (hR1 : R 1 = .ref (ad 2 j)) (r : UInt64) (hrf : fb 11 r) (hrl : lb (-10) r) (hcut : D 36 0 = D0 21 0) : MX l yX3_energy cX3_energy 7 (some .double) [] (rmx 2 0 0) [.ref (ad 5 0), .double (r)] (Pw Dg dA (cW A Dg dA ad n nb nr no J R D I)) (qR Value.double (fun z => z = pN D0 J i j r)) 0 0 (fun _ => False) := by
  refine MX.start (Nat.le_of_ble_eq_true rfl) ?_
  intro p e s m args below meth c ls Q hAt hPc hl hQ
  have hl : lv_has ls 7 [(0, .ref (ad 5 0)), (1, .double (r))] := hl
  obtain ⟨hx, hb, hml, hr, hlk, hown, hnm, htab, hts⟩ := id hAt
  obtain ⟨hK, hW⟩ := hPc
  have Z := Cx.of hAt hK
  refine lv_aload_n hx hb dX3_energy_0 rfl (lv_at hl 0 rfl) ?_
  refine lv_dload_n hx hb dX3_energy_1 rfl (lv_at hl 1 rfl) ?_
  refine wx_r (wx_V (As := [.double (r)]) (rest := []) hAt.fix (m_X3_sixth l A Dg dA ad n nb nr no J R D I D0 hag hB i j hi hj hR0 hR1 r hrf hrl) q616 q618 qs13 q619 wn_X3_sixth ⟨Nat.le_of_ble_eq_true rfl, Nat.le_of_ble_eq_true rfl, Nat.le_of_ble_eq_true rfl, Nat.le_of_ble_eq_true rfl⟩ (w_recv hK hW kX3 rfl (show (0 : Nat) < 1 by decide)) (Pw.of hK hW) hl.1 (Nat.le_of_ble_eq_true rfl) dX3_energy_2) (fun r hr => ?_)
  subst hr
  refine lv_dstore_n (lv' := [(3, .double (pP D0 J i j r)), (0, .ref (ad 5 0)), (1, .double (r))]) hx hb dX3_energy_5 rfl hl (by decide) rfl (fun ls hl => ?_)
  refine lv_aload_n hx hb dX3_energy_6 rfl (lv_at hl 1 rfl) ?_
  refine w_getR (v := .ref (ad 2 i)) Z hW kX3 rfl 1 (by decide) q106 (show (0 : Nat) < 1 by decide) rfl hR0 dX3_energy_7 ?_
  have hj1 := hB.j0 (show (i : Nat) < n by omega)
  refine w_getR (v := .ref (ad 1 (J 0 i))) Z hW kX6 rfl 1 (by decide) q371 (show (i : Nat) < n by omega) rfl rfl dX3_energy_10 ?_
  refine g_D (x := D0 9 (J 0 i)) Z hW kX2 rfl 2 (by decide) q84 (show (J 0 i : Nat) < 3 by omega) rfl (hag 9 (J 0 i) rfl) dX3_energy_13 ?_
  refine lv_aload_n hx hb dX3_energy_16 rfl (lv_at hl 1 rfl) ?_
  refine w_getR (v := .ref (ad 2 j)) Z hW kX3 rfl 2 (by decide) q107 (show (0 : Nat) < 1 by decide) rfl hR1 dX3_energy_17 ?_
  have hj2 := hB.j0 (show (j : Nat) < n by omega)
  refine w_getR (v := .ref (ad 1 (J 0 j))) Z hW kX6 rfl 1 (by decide) q371 (show (j : Nat) < n by omega) rfl rfl dX3_energy_20 ?_
  refine g_D (x := D0 9 (J 0 j)) Z hW kX2 rfl 2 (by decide) q84 (show (J 0 j : Nat) < 3 by omega) rfl (hag 9 (J 0 j) rfl) dX3_energy_23 ?_
  have f3 : fb (6) (FP.dmul (D0 9 (J 0 i)) (D0 9 (J 0 j))) := fb.mul (hB.c (show (J 0 i : Nat) < 3 by omega)) (hB.c (show (J 0 j : Nat) < 3 by omega)) (by decide)
  refine lv_dmul hx hb dX3_energy_26 f3.n64 ?_
  refine lv_dstore (lv' := [(5, .double (FP.dmul (D0 9 (J 0 i)) (D0 9 (J 0 j)))), (3, .double (pP D0 J i j r)), (0, .ref (ad 5 0)), (1, .double (r))]) hx hb dX3_energy_27 hl (by decide) rfl (fun ls hl => ?_)
  refine lv_ldc2d (v := 4616189618054758400) hx hb hown (hts _ (lw_car_all q708)) dX3_energy_29 ?_
  refine lv_aload_n hx hb dX3_energy_32 rfl (lv_at hl 2 rfl) ?_
  refine wx_r (wx_V (As := []) (rest := [.double (4616189618054758400)]) hAt.fix (m_X3_strength l A Dg dA ad n nb nr no J R D I D0 hag hB i j hi hj hR0 hR1) q622 q624 qs14 q625 wn_X3_strength ⟨Nat.le_of_ble_eq_true rfl, Nat.le_of_ble_eq_true rfl, Nat.le_of_ble_eq_true rfl, Nat.le_of_ble_eq_true rfl⟩ (w_recv hK hW kX3 rfl (show (0 : Nat) < 1 by decide)) (Pw.of hK hW) hl.1 (Nat.le_of_ble_eq_true rfl) dX3_energy_33) (fun r hr => ?_)
  subst hr
  have f4 : fb (8) (FP.dmul 4616189618054758400 (pE D0 J i j)) := fb.mul fc_4616189618054758400 (pE_fb hB hi hj) (by decide)
  refine lv_dmul hx hb dX3_energy_36 f4.n64 ?_
  refine lv_dload_n hx hb dX3_energy_37 rfl (lv_at hl 1 rfl) ?_
  refine lv_dload_n hx hb dX3_energy_38 rfl (lv_at hl 1 rfl) ?_
  have f5 : fb (84) (FP.dmul (pP D0 J i j r) (pP D0 J i j r)) := fb.mul (pP_fb hB hi hj hrl) (pP_fb hB hi hj hrl) (by decide)
  refine lv_dmul hx hb dX3_energy_39 f5.n64 ?_
  refine lv_dload_n hx hb dX3_energy_40 rfl (lv_at hl 1 rfl) ?_
  have f6 : fb (85) (FP.dsub (FP.dmul (pP D0 J i j r) (pP D0 J i j r)) (pP D0 J i j r)) := fb.sub f5 (pP_fb hB hi hj hrl) (by decide)
  refine lv_dsub hx hb dX3_energy_41 f6.n64 ?_
  have f7 : fb (93) (FP.dmul (FP.dmul 4616189618054758400 (pE D0 J i j)) (FP.dsub (FP.dmul (pP D0 J i j r) (pP D0 J i j r)) (pP D0 J i j r))) := fb.mul f4 f6 (by decide)
  refine lv_dmul hx hb dX3_energy_42 f7.n64 ?_
  refine lv_dload hx hb dX3_energy_43 (lv_at hl 0 rfl) ?_
  refine lv_dconst1 hx hb dX3_energy_45 ?_
  refine lv_dload_n hx hb dX3_energy_46 rfl (lv_at hl 3 rfl) ?_
  have f8 : fb (10) (FP.ddiv FP.dconst1 r) := fb.div fc_1 hrl (by decide)
  refine lv_ddiv hx hb dX3_energy_47 f8.n64 ?_
  refine lv_dconst1 hx hb dX3_energy_48 ?_
  refine lv_aload_n hx hb dX3_energy_49 rfl (lv_at hl 2 rfl) ?_
  refine g_D (x := D0 21 0) Z hW kX3 rfl 0 (by decide) q105 (show (0 : Nat) < 1 by decide) rfl hcut dX3_energy_50 ?_
  refine lv_aload_n hx hb dX3_energy_53 rfl (lv_at hl 2 rfl) ?_
  refine g_D (x := D0 21 0) Z hW kX3 rfl 0 (by decide) q105 (show (0 : Nat) < 1 by decide) rfl hcut dX3_energy_54 ?_
  have f9 : fb (8) (FP.dmul (D0 21 0) (D0 21 0)) := fb.mul hB.cut hB.cut (by decide)
  refine lv_dmul hx hb dX3_energy_57 f9.n64 ?_
  have f10 : fb (2) (FP.ddiv FP.dconst1 (FP.dmul (D0 21 0) (D0 21 0))) := fb.div fc_1 (lb.mul hB.cutl hB.cutl hB.cut hB.cut (G := -2) (by decide)) (by decide)
  refine lv_ddiv hx hb dX3_energy_58 f10.n64 ?_
  have f11 : fb (11) (FP.dsub (FP.ddiv FP.dconst1 r) (FP.ddiv FP.dconst1 (FP.dmul (D0 21 0) (D0 21 0)))) := fb.sub f8 f10 (by decide)
  refine lv_dsub hx hb dX3_energy_59 f11.n64 ?_
  have f12 : fb (17) (FP.dmul (FP.dmul (D0 9 (J 0 i)) (D0 9 (J 0 j))) (FP.dsub (FP.ddiv FP.dconst1 r) (FP.ddiv FP.dconst1 (FP.dmul (D0 21 0) (D0 21 0))))) := fb.mul f3 f11 (by decide)
  refine lv_dmul hx hb dX3_energy_60 f12.n64 ?_
  have f13 : fb (94) (FP.dadd (FP.dmul (FP.dmul 4616189618054758400 (pE D0 J i j)) (FP.dsub (FP.dmul (pP D0 J i j r) (pP D0 J i j r)) (pP D0 J i j r))) (FP.dmul (FP.dmul (D0 9 (J 0 i)) (D0 9 (J 0 j))) (FP.dsub (FP.ddiv FP.dconst1 r) (FP.ddiv FP.dconst1 (FP.dmul (D0 21 0) (D0 21 0)))))) := fb.add f7 f12 (by decide)
  refine lv_dadd hx hb dX3_energy_61 f13.n64 ?_
  rw [hQ]
  exact rR_d hx hb hr hlk rfl dX3_energy_62
set_option maxHeartbeats 4000000 in
theorem m_X1_pullN (l : Launch) (A : Nat → Prop) (Dg : va_G) (dA : Nat → ClassId) (ad : Nat → Nat → Nat) (n : Nat) (nb : Nat) (nr : Nat) (no : Nat) (J : Nat → Nat → Nat) (R : Nat → Value) (D : T64) (I : T32) (D0 : T64) (hag : agD D D0) (hB : Bd n nb nr J D0) (i : Nat) (hi : i < n) (a : UInt64) (b : UInt64) (ha : D 34 0 = a) (hb0 : D 35 0 = b) (fa : fb 5 a) (fbb : fb 5 b) (j : Nat) (hj : j < n) (hR0 : R 0 = .ref (ad 2 i)) (hR1 : R 1 = .ref (ad 2 j)) (hrl : lb (-10) (sq a b)) (Ea : Int) (hE : 120 ≤ Ea ∧ Ea ≤ 200) (fx : UInt64) (fy : UInt64) (hfx : D 30 i = fx) (hfy : D 31 i = fy) (ffx : fb Ea fx) (ffy : fb Ea fy) : MX l yX1_pull cX1_pull 5 none [] (rmx 3 0 0) [.ref (ad 0 0), .ref (ad 2 i), .ref (ad 5 0)] (Pw Dg dA (cW A Dg dA ad n nb nr no J R D I)) (qW (fun _ : Unit => none) (fun _ H => cW A Dg dA ad n nb nr no J R ((up2 (up2 D 30 i (FP.dadd fx (FP.dmul (pF D0 J i j (sq a b)) a))) 31 i (FP.dadd fy (FP.dmul (pF D0 J i j (sq a b)) b)))) I H) A) 0 0 A := by
  refine MX.start (Nat.le_of_ble_eq_true rfl) ?_
  intro p e s m args below meth c ls Q hAt hPc hl hQ
  have hl : lv_has ls 5 [(0, .ref (ad 0 0)), (1, .ref (ad 2 i)), (2, .ref (ad 5 0))] := hl
  obtain ⟨hx, hb, hml, hr, hlk, hown, hnm, htab, hts⟩ := id hAt
  obtain ⟨hK, hW⟩ := hPc
  have Z := Cx.of hAt hK
  have hS : va_S A s.heap s.heap [] := va_S.rf
  refine lv_aload_n hx hb dX1_pull_0 rfl (lv_at hl 2 rfl) ?_
  refine lv_aload_n hx hb dX1_pull_1 rfl (lv_at hl 0 rfl) ?_
  refine w_getR (v := .ref (ad 6 0)) Z hW kX1 rfl 12 (by decide) q153 (show (0 : Nat) < 1 by decide) rfl rfl dX1_pull_2 ?_
  refine wx_r (wx_V (As := []) (rest := [.ref (ad 5 0)]) hAt.fix (m_X4_square l A Dg dA ad n nb nr no J R D I 0 ((by decide)) a b ha hb0 fa fbb) q239 q240 q241 q242 wn_X4_square ⟨Nat.le_of_ble_eq_true rfl, Nat.le_of_ble_eq_true rfl, Nat.le_of_ble_eq_true rfl, Nat.le_of_ble_eq_true rfl⟩ (w_recv hK hW kX4 rfl (show (0 : Nat) < 2 by decide)) (Pw.of hK hW) hl.1 (Nat.le_of_ble_eq_true rfl) dX1_pull_5) (fun r hr => ?_)
  subst hr
  refine wx_r (wx_F (As := [.double (sq a b)]) (rest := []) hAt.fix (m_X3_factor l A Dg dA ad n nb nr no J R D I D0 hag hB i j hi hj hR0 hR1 (sq a b) ((sq_fb fa fbb (by decide))) hrl) q601 q613 q611 q615 (lw_car_tbl q603 rfl) (lw_car_tbl q602 rfl) (lw_car_tbl q614 rfl) (lw_car_tbl q612 rfl) (lw_car_tbl q610 rfl) wn_Tie_factor (by decide) ⟨Nat.le_of_ble_eq_true rfl, Nat.le_of_ble_eq_true rfl, Nat.le_of_ble_eq_true rfl, Nat.le_of_ble_eq_true rfl⟩ (w_recv hK hW kX3 rfl (show (0 : Nat) < 1 by decide)) (w_kB hK kX3) (Pw.of hK hW) hl.1 (Nat.le_of_ble_eq_true rfl) dX1_pull_8) (fun r hr => ?_)
  subst hr
  refine lv_dstore_n (lv' := [(3, .double (pF D0 J i j (sq a b))), (0, .ref (ad 0 0)), (1, .ref (ad 2 i)), (2, .ref (ad 5 0))]) hx hb dX1_pull_13 rfl hl (by decide) rfl (fun ls hl => ?_)
  refine lv_aload_n hx hb dX1_pull_14 rfl (lv_at hl 2 rfl) ?_
  refine lv_aload_n hx hb dX1_pull_15 rfl (lv_at hl 2 rfl) ?_
  refine g_D (x := fx) Z hW kX6 rfl 7 (by decide) q383 (show (i : Nat) < n by omega) rfl hfx dX1_pull_16 ?_
  refine lv_dload_n hx hb dX1_pull_19 rfl (lv_at hl 0 rfl) ?_
  refine lv_aload_n hx hb dX1_pull_20 rfl (lv_at hl 1 rfl) ?_
  refine w_getR (v := .ref (ad 6 0)) Z hW kX1 rfl 12 (by decide) q153 (show (0 : Nat) < 1 by decide) rfl rfl dX1_pull_21 ?_
  refine g_D (x := a) Z hW kX4 rfl 0 (by decide) q122 (show (0 : Nat) < 2 by decide) rfl ha dX1_pull_24 ?_
  have f1 : fb (115) (FP.dmul (pF D0 J i j (sq a b)) a) := fb.mul (pF_fb hB hi hj hrl (sq_fb fa fbb (by decide))) fa (by decide)
  refine lv_dmul hx hb dX1_pull_27 f1.n64 ?_
  have f2 : fb ((Ea) + 1) (FP.dadd fx (FP.dmul (pF D0 J i j (sq a b)) a)) := fb.add ffx (f1.mono (show (115 : Int) ≤ Ea by omega)) (by omega)
  refine lv_dadd hx hb dX1_pull_28 f2.n64 ?_
  refine w_putD Z hW hS kX6 rfl 7 (by decide) (by decide) q383 rfl (show (i : Nat) < n by omega) rfl rfl dX1_pull_29 (fun H locs hW hS => ?_)
  refine lv_aload_n hx hb dX1_pull_32 rfl (lv_at hl 2 rfl) ?_
  refine lv_aload_n hx hb dX1_pull_33 rfl (lv_at hl 2 rfl) ?_
  refine g_D (x := fy) Z hW kX6 rfl 8 (by decide) q385 (show (i : Nat) < n by omega) rfl ((up2_f _ _ _ _ (by decide)).trans hfy) dX1_pull_34 ?_
  refine lv_dload_n hx hb dX1_pull_37 rfl (lv_at hl 0 rfl) ?_
  refine lv_aload_n hx hb dX1_pull_38 rfl (lv_at hl 1 rfl) ?_
  refine w_getR (v := .ref (ad 6 0)) Z hW kX1 rfl 12 (by decide) q153 (show (0 : Nat) < 1 by decide) rfl rfl dX1_pull_39 ?_
  refine g_D (x := b) Z hW kX4 rfl 1 (by decide) q124 (show (0 : Nat) < 2 by decide) rfl ((up2_f _ _ _ _ (by decide)).trans hb0) dX1_pull_42 ?_
  have f3 : fb (115) (FP.dmul (pF D0 J i j (sq a b)) b) := fb.mul (pF_fb hB hi hj hrl (sq_fb fa fbb (by decide))) fbb (by decide)
  refine lv_dmul hx hb dX1_pull_45 f3.n64 ?_
  have f4 : fb ((Ea) + 1) (FP.dadd fy (FP.dmul (pF D0 J i j (sq a b)) b)) := fb.add ffy (f3.mono (show (115 : Int) ≤ Ea by omega)) (by omega)
  refine lv_dadd hx hb dX1_pull_46 f4.n64 ?_
  refine w_putD Z hW hS kX6 rfl 8 (by decide) (by decide) q385 rfl (show (i : Nat) < n by omega) rfl rfl dX1_pull_47 (fun H locs hW hS => ?_)
  rw [hQ]
  exact rW_v hx hb hr hlk hS (hW) dX1_pull_50
set_option maxHeartbeats 4000000 in
theorem m_X1_pullB (l : Launch) (A : Nat → Prop) (Dg : va_G) (dA : Nat → ClassId) (ad : Nat → Nat → Nat) (n : Nat) (nb : Nat) (nr : Nat) (no : Nat) (J : Nat → Nat → Nat) (R : Nat → Value) (D : T64) (I : T32) (D0 : T64) (hag : agD D D0) (hB : Bd n nb nr J D0) (i : Nat) (hi : i < n) (a : UInt64) (b : UInt64) (ha : D 34 0 = a) (hb0 : D 35 0 = b) (fa : fb 5 a) (fbb : fb 5 b) (k : Nat) (hk : k < nb) (Ea : Int) (hE : 120 ≤ Ea ∧ Ea ≤ 200) (fx : UInt64) (fy : UInt64) (hfx : D 30 i = fx) (hfy : D 31 i = fy) (ffx : fb Ea fx) (ffy : fb Ea fy) : MX l yX1_pull cX1_pull 5 none [] (rmx 3 0 0) [.ref (ad 0 0), .ref (ad 2 i), .ref (ad 3 k)] (Pw Dg dA (cW A Dg dA ad n nb nr no J R D I)) (qW (fun _ : Unit => none) (fun _ H => cW A Dg dA ad n nb nr no J R ((up2 (up2 D 30 i (FP.dadd fx (FP.dmul (bF D0 k (sq a b)) a))) 31 i (FP.dadd fy (FP.dmul (bF D0 k (sq a b)) b)))) I H) A) 0 0 A := by
  refine MX.start (Nat.le_of_ble_eq_true rfl) ?_
  intro p e s m args below meth c ls Q hAt hPc hl hQ
  have hl : lv_has ls 5 [(0, .ref (ad 0 0)), (1, .ref (ad 2 i)), (2, .ref (ad 3 k))] := hl
  obtain ⟨hx, hb, hml, hr, hlk, hown, hnm, htab, hts⟩ := id hAt
  obtain ⟨hK, hW⟩ := hPc
  have Z := Cx.of hAt hK
  have hS : va_S A s.heap s.heap [] := va_S.rf
  refine lv_aload_n hx hb dX1_pull_0 rfl (lv_at hl 2 rfl) ?_
  refine lv_aload_n hx hb dX1_pull_1 rfl (lv_at hl 0 rfl) ?_
  refine w_getR (v := .ref (ad 6 0)) Z hW kX1 rfl 12 (by decide) q153 (show (0 : Nat) < 1 by decide) rfl rfl dX1_pull_2 ?_
  refine wx_r (wx_V (As := []) (rest := [.ref (ad 3 k)]) hAt.fix (m_X4_square l A Dg dA ad n nb nr no J R D I 0 ((by decide)) a b ha hb0 fa fbb) q239 q240 q241 q242 wn_X4_square ⟨Nat.le_of_ble_eq_true rfl, Nat.le_of_ble_eq_true rfl, Nat.le_of_ble_eq_true rfl, Nat.le_of_ble_eq_true rfl⟩ (w_recv hK hW kX4 rfl (show (0 : Nat) < 2 by decide)) (Pw.of hK hW) hl.1 (Nat.le_of_ble_eq_true rfl) dX1_pull_5) (fun r hr => ?_)
  subst hr
  refine wx_r (wx_F (As := [.double (sq a b)]) (rest := []) hAt.fix (m_X7_factor l A Dg dA ad n nb nr no J R D I D0 hag hB k hk (sq a b) ((sq_fb fa fbb (by decide)))) q601 q607 q605 q609 (lw_car_tbl q603 rfl) (lw_car_tbl q602 rfl) (lw_car_tbl q608 rfl) (lw_car_tbl q606 rfl) (lw_car_tbl q604 rfl) wn_Tie_factor (by decide) ⟨Nat.le_of_ble_eq_true rfl, Nat.le_of_ble_eq_true rfl, Nat.le_of_ble_eq_true rfl, Nat.le_of_ble_eq_true rfl⟩ (w_recv hK hW kX7 rfl (show (k : Nat) < nb by omega)) (w_kB hK kX7) (Pw.of hK hW) hl.1 (Nat.le_of_ble_eq_true rfl) dX1_pull_8) (fun r hr => ?_)
  subst hr
  refine lv_dstore_n (lv' := [(3, .double (bF D0 k (sq a b))), (0, .ref (ad 0 0)), (1, .ref (ad 2 i)), (2, .ref (ad 3 k))]) hx hb dX1_pull_13 rfl hl (by decide) rfl (fun ls hl => ?_)
  refine lv_aload_n hx hb dX1_pull_14 rfl (lv_at hl 2 rfl) ?_
  refine lv_aload_n hx hb dX1_pull_15 rfl (lv_at hl 2 rfl) ?_
  refine g_D (x := fx) Z hW kX6 rfl 7 (by decide) q383 (show (i : Nat) < n by omega) rfl hfx dX1_pull_16 ?_
  refine lv_dload_n hx hb dX1_pull_19 rfl (lv_at hl 0 rfl) ?_
  refine lv_aload_n hx hb dX1_pull_20 rfl (lv_at hl 1 rfl) ?_
  refine w_getR (v := .ref (ad 6 0)) Z hW kX1 rfl 12 (by decide) q153 (show (0 : Nat) < 1 by decide) rfl rfl dX1_pull_21 ?_
  refine g_D (x := a) Z hW kX4 rfl 0 (by decide) q122 (show (0 : Nat) < 2 by decide) rfl ha dX1_pull_24 ?_
  have f1 : fb (115) (FP.dmul (bF D0 k (sq a b)) a) := fb.mul (bF_fb hB hk (sq_fb fa fbb (by decide))) fa (by decide)
  refine lv_dmul hx hb dX1_pull_27 f1.n64 ?_
  have f2 : fb ((Ea) + 1) (FP.dadd fx (FP.dmul (bF D0 k (sq a b)) a)) := fb.add ffx (f1.mono (show (115 : Int) ≤ Ea by omega)) (by omega)
  refine lv_dadd hx hb dX1_pull_28 f2.n64 ?_
  refine w_putD Z hW hS kX6 rfl 7 (by decide) (by decide) q383 rfl (show (i : Nat) < n by omega) rfl rfl dX1_pull_29 (fun H locs hW hS => ?_)
  refine lv_aload_n hx hb dX1_pull_32 rfl (lv_at hl 2 rfl) ?_
  refine lv_aload_n hx hb dX1_pull_33 rfl (lv_at hl 2 rfl) ?_
  refine g_D (x := fy) Z hW kX6 rfl 8 (by decide) q385 (show (i : Nat) < n by omega) rfl ((up2_f _ _ _ _ (by decide)).trans hfy) dX1_pull_34 ?_
  refine lv_dload_n hx hb dX1_pull_37 rfl (lv_at hl 0 rfl) ?_
  refine lv_aload_n hx hb dX1_pull_38 rfl (lv_at hl 1 rfl) ?_
  refine w_getR (v := .ref (ad 6 0)) Z hW kX1 rfl 12 (by decide) q153 (show (0 : Nat) < 1 by decide) rfl rfl dX1_pull_39 ?_
  refine g_D (x := b) Z hW kX4 rfl 1 (by decide) q124 (show (0 : Nat) < 2 by decide) rfl ((up2_f _ _ _ _ (by decide)).trans hb0) dX1_pull_42 ?_
  have f3 : fb (115) (FP.dmul (bF D0 k (sq a b)) b) := fb.mul (bF_fb hB hk (sq_fb fa fbb (by decide))) fbb (by decide)
  refine lv_dmul hx hb dX1_pull_45 f3.n64 ?_
  have f4 : fb ((Ea) + 1) (FP.dadd fy (FP.dmul (bF D0 k (sq a b)) b)) := fb.add ffy (f3.mono (show (115 : Int) ≤ Ea by omega)) (by omega)
  refine lv_dadd hx hb dX1_pull_46 f4.n64 ?_
  refine w_putD Z hW hS kX6 rfl 8 (by decide) (by decide) q385 rfl (show (i : Nat) < n by omega) rfl rfl dX1_pull_47 (fun H locs hW hS => ?_)
  rw [hQ]
  exact rW_v hx hb hr hlk hS (hW) dX1_pull_50
set_option maxHeartbeats 4000000 in
theorem m_X1_check (l : Launch) (hfl : l.flags = flags0) (A : Nat → Prop) (Dg : va_G) (dA : Nat → ClassId) (B : Heap → Prop) (hgr : Gr B) (b : Int32) : MX l yX1_check cX1_check 1 none [] (rmx 7 1 6) [.int (b)] (Px A Dg dA (B)) (qX (fun _ : Unit => none) (fun _ H => b ≠ 0 ∧ B H) (fun C H => (b = 0 ∧ C = "java/lang/IllegalArgumentException") ∧ B H) A) 0 0 A := by
  refine MX.start (Nat.le_of_ble_eq_true rfl) ?_
  intro p e s m args below meth c ls Q hAt hPc hl hQ
  have hl : lv_has ls 1 [(0, .int (b))] := hl
  obtain ⟨hx, hb, hml, hr, hlk, hown, hnm, htab, hts⟩ := id hAt
  obtain ⟨hK, hst, hA, hW⟩ := hPc
  have Z := Cx.of hAt hK
  have hS : va_S A s.heap s.heap [] := va_S.rf
  refine lv_iload_n hx hb dX1_check_0 rfl (lv_at hl 0 rfl) ?_
  refine lv_if_ne (tgt := 12) hx hb dX1_check_1 (by decide) (fun c1 => ?_) (fun c1 => ?_)
  · rw [hQ]
    exact rX (rW_v hx hb hr hlk hS (⟨c1, hW⟩) dX1_check_12)
  · refine w_exc0 hAt.fix hfl exI q274 q275 q54 (by decide +kernel) (by decide +kernel) hst hA hS hl.1 dX1_check_4 dX1_check_7 dX1_check_8 (Nat.le_of_ble_eq_true rfl) (Nat.le_of_ble_eq_true rfl) (Nat.le_of_ble_eq_true rfl) (Nat.le_of_ble_eq_true rfl) (fun x H locs hE hk hS => ?_)
    have hW := hgr _ _ hW hk
    refine lv_athrow hx hb dX1_check_11 ?_
    rw [hQ]
    exact rT_x hlk htab rfl hS hE ⟨⟨c1, rfl⟩, hW⟩
set_option maxHeartbeats 4000000 in
theorem m_X1_failure (l : Launch) (hfl : l.flags = flags0) (A : Nat → Prop) (Dg : va_G) (dA : Nat → ClassId) (ad : Nat → Nat → Nat) (n : Nat) (nb : Nat) (nr : Nat) (no : Nat) (J : Nat → Nat → Nat) (R : Nat → Value) (D : T64) (I : T32) (w : Int32) : MX l yX1_failure cX1_failure 2 (Option.some (.object "java/lang/ArithmeticException")) [] (rmx 7 1 6) [.ref (ad 0 0), .int (w)] (Px A Dg dA (cW A Dg dA ad n nb nr no J R D I)) (qW (fun r : Nat => some (.ref r)) (fun r H => isAr Dg r H ∧ cW A Dg dA ad n nb nr no J R D ((up2 I 40 0 w)) H) A) 1 6 A := by
  refine MX.start (Nat.le_of_ble_eq_true rfl) ?_
  intro p e s m args below meth c ls Q hAt hPc hl hQ
  have hl : lv_has ls 2 [(0, .ref (ad 0 0)), (1, .int (w))] := hl
  obtain ⟨hx, hb, hml, hr, hlk, hown, hnm, htab, hts⟩ := id hAt
  obtain ⟨hK, hst, hA, hW⟩ := hPc
  have Z := Cx.of hAt hK
  have hS : va_S A s.heap s.heap [] := va_S.rf
  refine lv_aload_n hx hb dX1_failure_0 rfl (lv_at hl 0 rfl) ?_
  refine lv_iload_n hx hb dX1_failure_1 rfl (lv_at hl 1 rfl) ?_
  refine w_putI Z hW hS kX1 rfl 24 (by decide) (by decide) q165 rfl (show (0 : Nat) < 1 by decide) rfl rfl rfl dX1_failure_2 (fun H locs hW hS => ?_)
  refine w_exc0 hAt.fix hfl exA q552 q530 q59 (by decide +kernel) (by decide +kernel) hst hA hS hl.1 dX1_failure_5 dX1_failure_8 dX1_failure_9 (Nat.le_of_ble_eq_true rfl) (Nat.le_of_ble_eq_true rfl) (Nat.le_of_ble_eq_true rfl) (Nat.le_of_ble_eq_true rfl) (fun x H locs hE hk hS => ?_)
  have hW := hW.grown hk
  rw [hQ]
  exact rW_a hx hb hr (Or.inl ⟨_, rfl⟩) hlk hS (⟨isAr.of hK hE, hW⟩) dX1_failure_12
set_option maxHeartbeats 4000000 in
theorem m_X1_at (l : Launch) (hfl : l.flags = flags0) (A : Nat → Prop) (Dg : va_G) (dA : Nat → ClassId) (ad : Nat → Nat → Nat) (n : Nat) (nb : Nat) (nr : Nat) (no : Nat) (J : Nat → Nat → Nat) (R : Nat → Value) (D : T64) (I : T32) (k : Int32) (hn : I 20 0 = nI n) (hn10 : n ≤ 10) : MX l yX1_at cX1_at 2 (Option.some (.object "ParticleBox$Atom")) [] (rmx 8 1 6) [.ref (ad 0 0), .int (k)] (Px A Dg dA (cW A Dg dA ad n nb nr no J R D I)) (qX (fun r : Nat => some (.ref r)) (fun r H => (∃ i, i < n ∧ k = nI i ∧ r = ad 2 i) ∧ cW A Dg dA ad n nb nr no J R D I H) (fun C H => (¬ okI k n ∧ C = "java/lang/IllegalArgumentException") ∧ cW A Dg dA ad n nb nr no J R D I H) A) 0 0 A := by
  refine MX.start (Nat.le_of_ble_eq_true rfl) ?_
  intro p e s m args below meth c ls Q hAt hPc hl hQ
  have hl : lv_has ls 2 [(0, .ref (ad 0 0)), (1, .int (k))] := hl
  obtain ⟨hx, hb, hml, hr, hlk, hown, hnm, htab, hts⟩ := id hAt
  obtain ⟨hK, hst, hA, hW⟩ := hPc
  have Z := Cx.of hAt hK
  have hS : va_S A s.heap s.heap [] := va_S.rf
  refine lv_iload_n hx hb dX1_at_0 rfl (lv_at hl 1 rfl) ?_
  refine lv_if_lt (tgt := 16) hx hb dX1_at_1 (by decide) (fun c1 => ?_) (fun c1 => ?_)
  · refine lv_iconst (v := nI 0) hx hb dX1_at_16 rfl ?_
    refine wx_x (wx_S (As := [.int (nI 0)]) (rest := []) hAt.fix (m_X1_check l hfl A Dg dA ((fun H => cW A Dg dA ad n nb nr no J R D I H)) gr_W (nI 0)) q271 q272 q45 q273 wn_X1_check ⟨Nat.le_of_ble_eq_true rfl, Nat.le_of_ble_eq_true rfl, Nat.le_of_ble_eq_true rfl, Nat.le_of_ble_eq_true rfl⟩ (Px.of hK hst hA hS hW) hl.1 (Nat.le_of_ble_eq_true rfl) dX1_at_17) hS (fun r H locs hW hz hS => ?_) (fun x C H locs hp hE hz hS => ?_)
    · exact absurd nI_0 hW.1
    · rw [hQ]
      obtain ⟨⟨-, rfl⟩, hW⟩ := hp
      exact rT_x hlk htab rfl hS hE (⟨⟨okI_lt hn10 c1, rfl⟩, hW⟩)
  · refine lv_iload_n hx hb dX1_at_4 rfl (lv_at hl 1 rfl) ?_
    refine lv_aload_n hx hb dX1_at_5 rfl (lv_at hl 0 rfl) ?_
    refine g_I (x := nI n) Z hW kX1 rfl 8 (by decide) q149 (show (0 : Nat) < 1 by decide) rfl hn dX1_at_6 ?_
    refine lv_icmp_ge (tgt := 16) hx hb dX1_at_9 (by decide) (fun c2 => ?_) (fun c2 => ?_)
    · refine lv_iconst (v := nI 0) hx hb dX1_at_16 rfl ?_
      refine wx_x (wx_S (As := [.int (nI 0)]) (rest := []) hAt.fix (m_X1_check l hfl A Dg dA ((fun H => cW A Dg dA ad n nb nr no J R D I H)) gr_W (nI 0)) q271 q272 q45 q273 wn_X1_check ⟨Nat.le_of_ble_eq_true rfl, Nat.le_of_ble_eq_true rfl, Nat.le_of_ble_eq_true rfl, Nat.le_of_ble_eq_true rfl⟩ (Px.of hK hst hA hS hW) hl.1 (Nat.le_of_ble_eq_true rfl) dX1_at_17) hS (fun r H locs hW hz hS => ?_) (fun x C H locs hp hE hz hS => ?_)
      · exact absurd nI_0 hW.1
      · rw [hQ]
        obtain ⟨⟨-, rfl⟩, hW⟩ := hp
        exact rT_x hlk htab rfl hS hE (⟨⟨okI_ge hn10 c2, rfl⟩, hW⟩)
    · refine lv_iconst (v := nI 1) hx hb dX1_at_12 rfl ?_
      refine lv_goto (tgt := 17) hx hb dX1_at_13 (by decide) ?_
      refine wx_x (wx_S (As := [.int (nI 1)]) (rest := []) hAt.fix (m_X1_check l hfl A Dg dA ((fun H => cW A Dg dA ad n nb nr no J R D I H)) gr_W (nI 1)) q271 q272 q45 q273 wn_X1_check ⟨Nat.le_of_ble_eq_true rfl, Nat.le_of_ble_eq_true rfl, Nat.le_of_ble_eq_true rfl, Nat.le_of_ble_eq_true rfl⟩ (Px.of hK hst hA hS hW) hl.1 (Nat.le_of_ble_eq_true rfl) dX1_at_17) hS (fun r H locs hW hz hS => ?_) (fun x C H locs hp hE hz hS => ?_)
      rotate_left
      · exact absurd hp.1.1 (by decide)
      replace hW := hW.2
      obtain ⟨i, hi, rfl⟩ := okI_of hn10 c1 c2
      refine lv_aload_n hx hb dX1_at_20 rfl (lv_at hl 0 rfl) ?_
      refine w_getR (v := .ref (ad 11 0)) Z hW kX1 rfl 5 (by decide) q146 (show (0 : Nat) < 1 by decide) rfl rfl dX1_at_21 ?_
      refine lv_iload_n hx hb dX1_at_24 rfl (lv_at hl 1 rfl) ?_
      refine a_R (j := i) (v := .ref (ad 2 i)) (ix := i) Z hW rfl (show (0 : Nat) < 1 by decide) (by omega) (by decide) rfl rfl rfl rfl (cR_atom (show (i : Nat) < n by omega)) dX1_at_25 ?_
      rw [hQ]
      exact rX (rW_a hx hb hr (Or.inl ⟨_, rfl⟩) hlk hS (⟨⟨i, hi, rfl, rfl⟩, hW⟩) dX1_at_26)
