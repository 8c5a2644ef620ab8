set_option maxRecDepth 100000
/-! ===== the model: leaves, pairs ===== -/
/-- the model's own way -/
def sS : Nat → Bool := fun f => Nat.ble 50 f && Nat.ble f 52
theorem djS : ∀ f, cD f = true → sS f = false := by
  intro f h
  cases hb : sS f with
  | false => rfl
  | true =>
    exfalso
    unfold sS at hb
    unfold cD at h
    simp only [Bool.or_eq_true, Bool.and_eq_true, Nat.beq_eq, ble_i] at h hb
    omega
theorem agD.S {D D1 D0 : T64} (h : agD D D0) (h1 : exc sS D1 D) : agD D1 D0 := h.of h1 djS
/-- the model's ints -/
def mI (n nb nr : Nat) (J : Jt) (I : T32) : Prop := (I 20 0 = nI n ∧ I 21 0 = nI nb ∧ I 22 0 = nI nr) ∧ (∀ i, i < n → I 0 i = nI (J 0 i)) ∧ (∀ k, k < nb → I 2 k = nI (J 2 k) ∧ I 3 k = nI (J 3 k)) ∧ ∀ k, k < nr → I 4 k = nI (J 4 k) ∧ I 5 k = nI (J 5 k)
section MIs
variable {n nb nr : Nat} {J : Jt} {I I1 : T32}
theorem mI.cn (h : mI n nb nr J I) : I 20 0 = nI n := h.1.1
theorem mI.cb (h : mI n nb nr J I) : I 21 0 = nI nb := h.1.2.1
theorem mI.cr (h : mI n nb nr J I) : I 22 0 = nI nr := h.1.2.2
theorem mI.s (h : mI n nb nr J I) {i : Nat} (hi : i < n) : I 0 i = nI (J 0 i) := h.2.1 i hi
theorem mI.bi (h : mI n nb nr J I) {i : Nat} (hi : i < nb) : I 2 i = nI (J 2 i) := (h.2.2.1 i hi).1
theorem mI.bj (h : mI n nb nr J I) {i : Nat} (hi : i < nb) : I 3 i = nI (J 3 i) := (h.2.2.1 i hi).2
theorem mI.ri (h : mI n nb nr J I) {i : Nat} (hi : i < nr) : I 4 i = nI (J 4 i) := (h.2.2.2 i hi).1
theorem mI.rj (h : mI n nb nr J I) {i : Nat} (hi : i < nr) : I 5 i = nI (J 5 i) := (h.2.2.2 i hi).2
end MIs
theorem ge_nlt {x y : UInt64} (h : fge x y) : ¬ FP.dcmp x y = some .lt := by
  unfold fge at h
  intro q
  rw [q] at h
  rcases h with h | h <;> cases h
theorem nlt_of {x y : UInt64} (h : ¬ fge x y) (hx : Fn x) (hy : Fn y) : FP.dcmp x y = some .lt := by
  obtain ⟨c1, c2, c3, c4⟩ := cmp_val hx hy
  refine c1.mpr ?_
  by_cases q : rv x < rv y
  · exact q
  · exfalso
    apply h
    unfold fge
    by_cases e : rv x = rv y
    · exact Or.inr (c2.mpr e)
    · exact Or.inl (c3.mpr (by grind))
theorem wrapX_fn {sd x : UInt64} (hs : Sd sd) (hx : fb 48 x) : Fn (sWrapX sd x) := by
  have h1 := fb.div hx hs.lb (G := 46) (by decide)
  have h2 := fb_floor h1 (by decide)
  exact (fb.sub hx (fb.mul hs.fb h2 (G := 52) (by decide)) (G := 53) (by decide)).1
set_option maxHeartbeats 4000000 in
theorem m_X5_floor (l : Launch) (z : UInt64) (hz : fb 50 z) : MX l yX5_floor cX5_floor 4 (some .double) [] (rmx 1 0 0) [.double (z)] (fun _ => True) (qR Value.double (fun r => r = sFloor z)) 0 0 (fun _ => False) := by
  refine MX.start (Nat.le_of_ble_eq_true rfl) ?_
  intro p e s m args below meth c ls Q hAt hPc hl hQ
  have hl : lv_has ls 4 [(0, .double (z))] := hl
  obtain ⟨hx, hb, hml, hr, hlk, hown, hnm, htab, hts⟩ := id hAt
  refine lv_dload_n hx hb dX5_floor_0 rfl (lv_at hl 0 rfl) ?_
  refine lv_d2l hx hb dX5_floor_1 ?_
  refine lv_lstore_n (lv' := [(2, .long (FP.d2l z)), (0, .double (z))]) hx hb dX5_floor_2 rfl hl (by decide) rfl (fun ls hl => ?_)
  refine lv_lload_n hx hb dX5_floor_3 rfl (lv_at hl 0 rfl) ?_
  refine lv_l2d hx hb dX5_floor_4 ?_
  refine lv_dload_n hx hb dX5_floor_5 rfl (lv_at hl 1 rfl) ?_
  refine lv_dl_le (tgt := 17) hx hb dX5_floor_6 dX5_floor_7 (by decide) (fun c1 => ?_) (fun c1 => ?_)
  · refine lv_lload_n hx hb dX5_floor_17 rfl (lv_at hl 0 rfl) ?_
    refine lv_l2d hx hb dX5_floor_18 ?_
    rw [hQ]
    exact rR_d hx hb hr hlk (if_neg c1).symm dX5_floor_19
  · refine lv_lload_n hx hb dX5_floor_10 rfl (lv_at hl 0 rfl) ?_
    refine lv_lconst (v := 1) hx hb dX5_floor_11 (by decide) ?_
    refine lv_lsub hx hb dX5_floor_12 ?_
    refine lv_l2d hx hb dX5_floor_13 ?_
    refine lv_goto (tgt := 19) hx hb dX5_floor_14 (by decide) ?_
    rw [hQ]
    exact rR_d hx hb hr hlk ((floor_long hz c1).trans (if_pos c1).symm) dX5_floor_19
set_option maxHeartbeats 4000000 in
theorem m_X5_within (l : Launch) (v : UInt64) (lo : UInt64) (hi : UInt64) : MX l yX5_in cX5_in 6 (some .boolean) [] (rmx 1 0 0) [.double (v), .double (lo), .double (hi)] (fun _ => True) (qR Value.int (fun r => (r = nI 1 ∧ inn v lo hi) ∨ (r = nI 0 ∧ ¬ inn v lo hi))) 0 0 (fun _ => False) := by
  refine MX.start (Nat.le_of_ble_eq_true rfl) ?_
  intro p e s m args below meth c ls Q hAt hPc hl hQ
  have hl : lv_has ls 6 [(0, .double (v)), (2, .double (lo)), (4, .double (hi))] := hl
  obtain ⟨hx, hb, hml, hr, hlk, hown, hnm, htab, hts⟩ := id hAt
  refine lv_dload_n hx hb dX5_in_0 rfl (lv_at hl 0 rfl) ?_
  refine lv_dload_n hx hb dX5_in_1 rfl (lv_at hl 1 rfl) ?_
  refine lv_dl_lt (tgt := 17) hx hb dX5_in_2 dX5_in_3 (by decide) (fun c1 => ?_) (fun c1 => ?_)
  · refine lv_iconst (v := nI 0) hx hb dX5_in_17 rfl ?_
    rw [hQ]
    exact rR_z hx hb hr hlk (Or.inl rfl) (Or.inr ⟨rfl, fun q => c1 q.1⟩) dX5_in_18
  · refine lv_dload_n hx hb dX5_in_6 rfl (lv_at hl 0 rfl) ?_
    refine lv_dload hx hb dX5_in_7 (lv_at hl 2 rfl) ?_
    refine lv_dg_gt (tgt := 17) hx hb dX5_in_9 dX5_in_10 (by decide) (fun c2 => ?_) (fun c2 => ?_)
    · refine lv_iconst (v := nI 0) hx hb dX5_in_17 rfl ?_
      rw [hQ]
      exact rR_z hx hb hr hlk (Or.inl rfl) (Or.inr ⟨rfl, fun q => c2 q.2⟩) dX5_in_18
    · refine lv_iconst (v := nI 1) hx hb dX5_in_13 rfl ?_
      refine lv_goto (tgt := 18) hx hb dX5_in_14 (by decide) ?_
      rw [hQ]
      exact rR_z hx hb hr hlk (Or.inr rfl) (Or.inl ⟨rfl, c1, c2⟩) dX5_in_18
set_option maxHeartbeats 4000000 in
theorem m_X5_root (l : Launch) (z : UInt64) (hz : feq z FP.dconst0 ∨ RtZ z) : MX l yX5_root cX5_root 5 (some .double) [] (rmx 1 0 0) [.double (z)] (fun _ => True) (qR Value.double (fun r => r = sRoot z)) 0 0 (fun _ => False) := by
  refine MX.start (Nat.le_of_ble_eq_true rfl) ?_
  intro p e s m args below meth c ls Q hAt hPc hl hQ
  have hl : lv_has ls 5 [(0, .double (z))] := hl
  obtain ⟨hx, hb, hml, hr, hlk, hown, hnm, htab, hts⟩ := id hAt
  refine lv_dload_n hx hb dX5_root_0 rfl (lv_at hl 0 rfl) ?_
  refine lv_dconst0 hx hb dX5_root_1 ?_
  refine lv_dl_ne (tgt := 8) hx hb dX5_root_2 dX5_root_3 (by decide) (fun c1 => ?_) (fun c1 => ?_)
  · have hz1 : RtZ z := hz.resolve_left c1
    have fz : fb 30 z := ⟨hz1.1, hz1.2.2, by have := p2_pos (-60); have := p2_pos 30; have := hz1.2.1; grind⟩
    refine lv_dload_n hx hb dX5_root_8 rfl (lv_at hl 0 rfl) ?_
    refine lv_dconst1 hx hb dX5_root_9 ?_
    have f2 : fb (31) (FP.dadd z FP.dconst1) := fb.add fz fc_1 (by decide)
    refine lv_dadd hx hb dX5_root_10 f2.n64 ?_
    refine lv_ldc2d (v := 4602678819172646912) hx hb hown (hts _ (lw_car_all q737)) dX5_root_11 ?_
    have f3 : fb (30) (FP.dmul (FP.dadd z FP.dconst1) 4602678819172646912) := fb.mul f2 fc_4602678819172646912 (by decide)
    refine lv_dmul hx hb dX5_root_14 f3.n64 ?_
    refine lv_dstore_n (lv' := [(2, .double (FP.dmul (FP.dadd z FP.dconst1) 4602678819172646912)), (0, .double (z))]) hx hb dX5_root_15 rfl hl (by decide) rfl (fun ls hl => ?_)
    refine lv_iconst (v := nI 0) hx hb dX5_root_16 rfl ?_
    refine lv_istore (lv' := [(4, .int (nI 0)), (2, .double (FP.dmul (FP.dadd z FP.dconst1) 4602678819172646912)), (0, .double (z))]) hx hb dX5_root_17 hl (by decide) rfl (fun ls hl => ?_)
    have key : ∀ (d i : Nat) (ls : Array Slot), i + d = 40 → lv_has ls 5 [(4, .int (nI i)), (2, .double (rtN z i)), (0, .double z)] → W p l e (rmx 1 0 0) s m args below meth c s.heap [] 0 0 Q (F0 m 19 ls []) := by
      intro d
      induction d with
      | zero =>
        intro i ls hd hP
        have hi : i = 40 := by omega
        subst hi
        have hl := hP
        refine lv_iload hx hb dX5_root_19 (lv_at hl 0 rfl) ?_
        refine lv_bipush (v := nI 40) hx hb dX5_root_21 rfl ?_
        refine lv_nge (tgt := 42) hx hb (by decide) (by decide) dX5_root_23 (by decide) (fun c => ?_) (fun c => absurd c (by omega))
        refine lv_dload_n hx hb dX5_root_42 rfl (lv_at hl 1 rfl) ?_
        rw [hQ]
        exact rR_d hx hb hr hlk (if_neg c1).symm dX5_root_43
      | succ d ihd =>
        intro i ls hd hP
        have hi : i < 40 := by omega
        have ih : ∀ (_ _ : Unit) (ls : Array Slot), lv_has ls 5 [(4, .int (nI (i + 1))), (2, .double (rtN z (i + 1))), (0, .double z)] → W p l e (rmx 1 0 0) s m args below meth c s.heap [] 0 0 Q (F0 m 19 ls []) := fun _ _ ls h => ihd (i + 1) ls (by omega) h
        have hl := hP
        obtain ⟨f1, f2⟩ := root_b hz1 i (by omega)
        refine lv_iload hx hb dX5_root_19 (lv_at hl 0 rfl) ?_
        refine lv_bipush (v := nI 40) hx hb dX5_root_21 rfl ?_
        refine lv_nge (tgt := 42) hx hb (by omega) (by decide) dX5_root_23 (by decide) (fun c => absurd c (by omega)) (fun c => ?_)
        refine lv_dload_n hx hb dX5_root_26 rfl (lv_at hl 1 rfl) ?_
        refine lv_dload_n hx hb dX5_root_27 rfl (lv_at hl 2 rfl) ?_
        refine lv_dload_n hx hb dX5_root_28 rfl (lv_at hl 1 rfl) ?_
        have f4 : fb (63) (FP.ddiv z (rtN z i)) := fb.div fz f2 (by decide)
        refine lv_ddiv hx hb dX5_root_29 f4.n64 ?_
        have f5 : fb (64) (FP.dadd (rtN z i) (FP.ddiv z (rtN z i))) := fb.add f1 f4 (by decide)
        refine lv_dadd hx hb dX5_root_30 f5.n64 ?_
        refine lv_ldc2d (v := 4602678819172646912) hx hb hown (hts _ (lw_car_all q737)) dX5_root_31 ?_
        have f6 : fb (63) (FP.dmul (FP.dadd (rtN z i) (FP.ddiv z (rtN z i))) 4602678819172646912) := fb.mul f5 fc_4602678819172646912 (by decide)
        refine lv_dmul hx hb dX5_root_34 f6.n64 ?_
        refine lv_dstore_n (lv' := [(2, .double (FP.dmul (FP.dadd (rtN z i) (FP.ddiv z (rtN z i))) 4602678819172646912)), (4, .int (nI i)), (0, .double (z))]) hx hb dX5_root_35 rfl hl (by decide) rfl (fun ls hl => ?_)
        refine lv_iinc1 (lv' := [(4, .int (nI (i + 1))), (2, .double (FP.dmul (FP.dadd (rtN z i) (FP.ddiv z (rtN z i))) 4602678819172646912)), (0, .double (z))]) hx hb dX5_root_36 hl (k := 1) rfl (by decide) rfl (fun ls hl => ?_)
        refine lv_goto (tgt := 19) hx hb dX5_root_39 (by decide) ?_
        exact ih () () _ hl
    exact key 40 0 ls rfl hl
  · refine lv_dconst0 hx hb dX5_root_6 ?_
    rw [hQ]
    exact rR_d hx hb hr hlk (if_pos c1).symm dX5_root_7
set_option maxHeartbeats 4000000 in
theorem m_X5_nearest (l : Launch) (A : Nat → Prop) (Dg : va_G) (dA : Nat → ClassId) (ad : Nat → Nat → Nat) (n : Nat) (nb : Nat) (nr : Nat) (J : Nat → Nat → Nat) (D : T64) (I : T32) (sd : UInt64) (d : UInt64) (hsd : D 20 0 = sd) (hSd : Sd sd) (hd : fb 49 d) : MX l yX5_nearest cX5_nearest 3 (some .double) [] (rmx 2 0 0) [.ref (ad 30 0), .double (d)] (Pw Dg dA (mW A Dg dA ad D I)) (qR Value.double (fun r => r = sShort sd d)) 0 0 (fun _ => False) := by
  refine MX.start (Nat.le_of_ble_eq_true rfl) ?_
  intro p e s m args below meth c ls Q hAt hPc hl hQ
  have hl : lv_has ls 3 [(0, .ref (ad 30 0)), (1, .double (d))] := hl
  obtain ⟨hx, hb, hml, hr, hlk, hown, hnm, htab, hts⟩ := id hAt
  obtain ⟨hK, hW⟩ := hPc
  have Z := Cx.of hAt hK
  refine lv_dload_n hx hb dX5_nearest_0 rfl (lv_at hl 1 rfl) ?_
  refine lv_aload_n hx hb dX5_nearest_1 rfl (lv_at hl 0 rfl) ?_
  refine g_D (x := sd) Z hW kX5 rfl 0 (by decide) q740 (show (0 : Nat) < 1 by decide) rfl hsd dX5_nearest_2 ?_
  refine lv_dload_n hx hb dX5_nearest_5 rfl (lv_at hl 1 rfl) ?_
  refine lv_aload_n hx hb dX5_nearest_6 rfl (lv_at hl 0 rfl) ?_
  refine g_D (x := sd) Z hW kX5 rfl 0 (by decide) q740 (show (0 : Nat) < 1 by decide) rfl hsd dX5_nearest_7 ?_
  have f1 : fb (47) (FP.ddiv d sd) := fb.div hd hSd.lb (by decide)
  refine lv_ddiv hx hb dX5_nearest_10 f1.n64 ?_
  refine lv_ldc2d (v := 4602678819172646912) hx hb hown (hts _ (lw_car_all q737)) dX5_nearest_11 ?_
  have f2 : fb (48) (FP.dadd (FP.ddiv d sd) 4602678819172646912) := fb.add f1 fc_4602678819172646912 (by decide)
  refine lv_dadd hx hb dX5_nearest_14 f2.n64 ?_
  refine wx_r (wx_S (As := [.double (FP.dadd (FP.ddiv d sd) 4602678819172646912)]) (rest := [.double (sd), .double (d)]) hAt.fix (m_X5_floor l (FP.dadd (FP.ddiv d sd) 4602678819172646912) ((f2.mono (by decide)))) q909 q910 q50 q911 wn_X5_floor ⟨Nat.le_of_ble_eq_true rfl, Nat.le_of_ble_eq_true rfl, Nat.le_of_ble_eq_true rfl, Nat.le_of_ble_eq_true rfl⟩ (fun _ _ _ => trivial) hl.1 (Nat.le_of_ble_eq_true rfl) dX5_nearest_15) (fun r hr => ?_)
  subst hr
  have f3 : fb (54) (FP.dmul sd (sFloor (FP.dadd (FP.ddiv d sd) 4602678819172646912))) := fb.mul hSd.fb (fb_floor f2 (by decide)) (by decide)
  refine lv_dmul hx hb dX5_nearest_18 f3.n64 ?_
  have f4 : fb (55) (FP.dsub d (FP.dmul sd (sFloor (FP.dadd (FP.ddiv d sd) 4602678819172646912)))) := fb.sub hd f3 (by decide)
  refine lv_dsub hx hb dX5_nearest_19 f4.n64 ?_
  rw [hQ]
  exact rR_d hx hb hr hlk rfl dX5_nearest_20
set_option maxHeartbeats 4000000 in
theorem m_X5_wrapped (l : Launch) (A : Nat → Prop) (Dg : va_G) (dA : Nat → ClassId) (ad : Nat → Nat → Nat) (n : Nat) (nb : Nat) (nr : Nat) (J : Nat → Nat → Nat) (D : T64) (I : T32) (sd : UInt64) (d : UInt64) (hsd : D 20 0 = sd) (hSd : Sd sd) (hd : fb 48 d) : MX l yX5_wrapped cX5_wrapped 5 (some .double) [] (rmx 2 0 0) [.ref (ad 30 0), .double (d)] (Pw Dg dA (mW A Dg dA ad D I)) (qR Value.double (fun r => r = sWrap sd d)) 0 0 (fun _ => False) := by
  refine MX.start (Nat.le_of_ble_eq_true rfl) ?_
  intro p e s m args below meth c ls Q hAt hPc hl hQ
  have hl : lv_has ls 5 [(0, .ref (ad 30 0)), (1, .double (d))] := hl
  obtain ⟨hx, hb, hml, hr, hlk, hown, hnm, htab, hts⟩ := id hAt
  obtain ⟨hK, hW⟩ := hPc
  have Z := Cx.of hAt hK
  refine lv_dload_n hx hb dX5_wrapped_0 rfl (lv_at hl 1 rfl) ?_
  refine lv_aload_n hx hb dX5_wrapped_1 rfl (lv_at hl 0 rfl) ?_
  refine g_D (x := sd) Z hW kX5 rfl 0 (by decide) q740 (show (0 : Nat) < 1 by decide) rfl hsd dX5_wrapped_2 ?_
  refine lv_dload_n hx hb dX5_wrapped_5 rfl (lv_at hl 1 rfl) ?_
  refine lv_aload_n hx hb dX5_wrapped_6 rfl (lv_at hl 0 rfl) ?_
  refine g_D (x := sd) Z hW kX5 rfl 0 (by decide) q740 (show (0 : Nat) < 1 by decide) rfl hsd dX5_wrapped_7 ?_
  have f1 : fb (46) (FP.ddiv d sd) := fb.div hd hSd.lb (by decide)
  refine lv_ddiv hx hb dX5_wrapped_10 f1.n64 ?_
  refine wx_r (wx_S (As := [.double (FP.ddiv d sd)]) (rest := [.double (sd), .double (d)]) hAt.fix (m_X5_floor l (FP.ddiv d sd) ((f1.mono (by decide)))) q909 q910 q50 q911 wn_X5_floor ⟨Nat.le_of_ble_eq_true rfl, Nat.le_of_ble_eq_true rfl, Nat.le_of_ble_eq_true rfl, Nat.le_of_ble_eq_true rfl⟩ (fun _ _ _ => trivial) hl.1 (Nat.le_of_ble_eq_true rfl) dX5_wrapped_11) (fun r hr => ?_)
  subst hr
  have f2 : fb (52) (FP.dmul sd (sFloor (FP.ddiv d sd))) := fb.mul hSd.fb (fb_floor f1 (by decide)) (by decide)
  refine lv_dmul hx hb dX5_wrapped_14 f2.n64 ?_
  have f3 : fb (53) (FP.dsub d (FP.dmul sd (sFloor (FP.ddiv d sd)))) := fb.sub hd f2 (by decide)
  refine lv_dsub hx hb dX5_wrapped_15 f3.n64 ?_
  refine lv_dstore_n (lv' := [(3, .double (FP.dsub d (FP.dmul sd (sFloor (FP.ddiv d sd))))), (0, .ref (ad 30 0)), (1, .double (d))]) hx hb dX5_wrapped_16 rfl hl (by decide) rfl (fun ls hl => ?_)
  refine lv_dload_n hx hb dX5_wrapped_17 rfl (lv_at hl 0 rfl) ?_
  refine lv_aload_n hx hb dX5_wrapped_18 rfl (lv_at hl 1 rfl) ?_
  refine g_D (x := sd) Z hW kX5 rfl 0 (by decide) q740 (show (0 : Nat) < 1 by decide) rfl hsd dX5_wrapped_19 ?_
  refine lv_dl_lt (tgt := 30) hx hb dX5_wrapped_22 dX5_wrapped_23 (by decide) (fun c4 => ?_) (fun c4 => ?_)
  · refine lv_dload_n hx hb dX5_wrapped_30 rfl (lv_at hl 0 rfl) ?_
    rw [hQ]
    exact rR_d hx hb hr hlk (if_pos (nlt_of c4 (wrapX_fn hSd hd) hSd.fb.1)).symm dX5_wrapped_31
  · refine lv_dconst0 hx hb dX5_wrapped_26 ?_
    refine lv_goto (tgt := 31) hx hb dX5_wrapped_27 (by decide) ?_
    rw [hQ]
    exact rR_d hx hb hr hlk (if_neg (ge_nlt c4)).symm dX5_wrapped_31
set_option maxHeartbeats 4000000 in
theorem m_X5_way (l : Launch) (A : Nat → Prop) (Dg : va_G) (dA : Nat → ClassId) (ad : Nat → Nat → Nat) (n : Nat) (nb : Nat) (nr : Nat) (J : Nat → Nat → Nat) (D : T64) (I : T32) (sd : UInt64) (hsd : D 20 0 = sd) (hSd : Sd sd) (x0 : UInt64) (y0 : UInt64) (x1 : UInt64) (y1 : UInt64) (f0 : fb 48 x0) (f1 : fb 48 y0) (f2 : fb 48 x1) (f3 : fb 48 y1) : MX l yX5_way cX5_way 9 none [] (rmx 3 0 0) [.ref (ad 30 0), .double (x0), .double (y0), .double (x1), .double (y1)] (Pw Dg dA (mW A Dg dA ad D I)) (qW (fun _ : Unit => none) (fun _ H => ∃ D1, exc sS D1 D ∧ D1 50 0 = sShort sd (FP.dsub x1 x0) ∧ D1 51 0 = sShort sd (FP.dsub y1 y0) ∧ D1 52 0 = sq (sShort sd (FP.dsub x1 x0)) (sShort sd (FP.dsub y1 y0)) ∧ mW A Dg dA ad D1 I H) A) 0 0 A := by
  refine MX.start (Nat.le_of_ble_eq_true rfl) ?_
  intro p e s m args below meth c ls Q hAt hPc hl hQ
  have hl : lv_has ls 9 [(0, .ref (ad 30 0)), (1, .double (x0)), (3, .double (y0)), (5, .double (x1)), (7, .double (y1))] := hl
  obtain ⟨hx, hb, hml, hr, hlk, hown, hnm, htab, hts⟩ := id hAt
  obtain ⟨hK, hW⟩ := hPc
  have Z := Cx.of hAt hK
  have hS : va_S A s.heap s.heap [] := va_S.rf
  refine lv_aload_n hx hb dX5_way_0 rfl (lv_at hl 0 rfl) ?_
  refine lv_dload hx hb dX5_way_1 (lv_at hl 3 rfl) ?_
  refine lv_dload_n hx hb dX5_way_3 rfl (lv_at hl 1 rfl) ?_
  have f11 : fb (49) (FP.dsub x1 x0) := fb.sub f2 f0 (by decide)
  refine lv_dsub hx hb dX5_way_4 f11.n64 ?_
  refine w_putD Z hW hS kX5 rfl 45 (by decide) (by decide) q785 rfl (show (0 : Nat) < 1 by decide) rfl rfl dX5_way_5 (fun H locs hW hS => ?_)
  refine lv_aload_n hx hb dX5_way_8 rfl (lv_at hl 0 rfl) ?_
  refine lv_aload_n hx hb dX5_way_9 rfl (lv_at hl 0 rfl) ?_
  refine lv_aload_n hx hb dX5_way_10 rfl (lv_at hl 0 rfl) ?_
  refine g_D (x := FP.dsub x1 x0) Z hW kX5 rfl 45 (by decide) q785 (show (0 : Nat) < 1 by decide) rfl rfl dX5_way_11 ?_
  refine wx_r (wx_V (As := [.double (FP.dsub x1 x0)]) (rest := [.ref (ad 30 0)]) hAt.fix (m_X5_nearest l A Dg dA ad n nb nr J ((up2 D 50 0 (FP.dsub x1 x0))) I sd (FP.dsub x1 x0) (((up2_f _ _ _ _ (by decide)).trans hsd)) hSd ((f11.mono (by decide)))) q972 q974 qs29 q975 wn_X5_nearest ⟨Nat.le_of_ble_eq_true rfl, Nat.le_of_ble_eq_true rfl, Nat.le_of_ble_eq_true rfl, Nat.le_of_ble_eq_true rfl⟩ (w_recv hK hW kX5 rfl (show (0 : Nat) < 1 by decide)) (Pw.of hK hW) hl.1 (Nat.le_of_ble_eq_true rfl) dX5_way_14) (fun r hr => ?_)
  subst hr
  refine w_putD Z hW hS kX5 rfl 45 (by decide) (by decide) q785 rfl (show (0 : Nat) < 1 by decide) rfl rfl dX5_way_17 (fun H locs hW hS => ?_)
  refine lv_aload_n hx hb dX5_way_20 rfl (lv_at hl 0 rfl) ?_
  refine lv_dload hx hb dX5_way_21 (lv_at hl 4 rfl) ?_
  refine lv_dload_n hx hb dX5_way_23 rfl (lv_at hl 2 rfl) ?_
  have f12 : fb (49) (FP.dsub y1 y0) := fb.sub f3 f1 (by decide)
  refine lv_dsub hx hb dX5_way_24 f12.n64 ?_
  refine w_putD Z hW hS kX5 rfl 46 (by decide) (by decide) q786 rfl (show (0 : Nat) < 1 by decide) rfl rfl dX5_way_25 (fun H locs hW hS => ?_)
  refine lv_aload_n hx hb dX5_way_28 rfl (lv_at hl 0 rfl) ?_
  refine lv_aload_n hx hb dX5_way_29 rfl (lv_at hl 0 rfl) ?_
  refine lv_aload_n hx hb dX5_way_30 rfl (lv_at hl 0 rfl) ?_
  refine g_D (x := FP.dsub y1 y0) Z hW kX5 rfl 46 (by decide) q786 (show (0 : Nat) < 1 by decide) rfl rfl dX5_way_31 ?_
  refine wx_r (wx_V (As := [.double (FP.dsub y1 y0)]) (rest := [.ref (ad 30 0)]) hAt.fix (m_X5_nearest l A Dg dA ad n nb nr J ((up2 (up2 (up2 D 50 0 (FP.dsub x1 x0)) 50 0 (sShort sd (FP.dsub x1 x0))) 51 0 (FP.dsub y1 y0))) I sd (FP.dsub y1 y0) (((up2_f _ _ _ _ (by decide)).trans ((up2_f _ _ _ _ (by decide)).trans ((up2_f _ _ _ _ (by decide)).trans hsd)))) hSd ((f12.mono (by decide)))) q972 q974 qs29 q975 wn_X5_nearest ⟨Nat.le_of_ble_eq_true rfl, Nat.le_of_ble_eq_true rfl, Nat.le_of_ble_eq_true rfl, Nat.le_of_ble_eq_true rfl⟩ (w_recv hK hW kX5 rfl (show (0 : Nat) < 1 by decide)) (Pw.of hK hW) hl.1 (Nat.le_of_ble_eq_true rfl) dX5_way_34) (fun r hr => ?_)
  subst hr
  refine w_putD Z hW hS kX5 rfl 46 (by decide) (by decide) q786 rfl (show (0 : Nat) < 1 by decide) rfl rfl dX5_way_37 (fun H locs hW hS => ?_)
  refine lv_aload_n hx hb dX5_way_40 rfl (lv_at hl 0 rfl) ?_
  refine lv_aload_n hx hb dX5_way_41 rfl (lv_at hl 0 rfl) ?_
  refine g_D (x := sShort sd (FP.dsub x1 x0)) Z hW kX5 rfl 45 (by decide) q785 (show (0 : Nat) < 1 by decide) rfl rfl dX5_way_42 ?_
  refine lv_aload_n hx hb dX5_way_45 rfl (lv_at hl 0 rfl) ?_
  refine g_D (x := sShort sd (FP.dsub x1 x0)) Z hW kX5 rfl 45 (by decide) q785 (show (0 : Nat) < 1 by decide) rfl rfl dX5_way_46 ?_
  have f13 : fb (10) (FP.dmul (sShort sd (FP.dsub x1 x0)) (sShort sd (FP.dsub x1 x0))) := fb.mul (short_fb hSd (f11.mono (by decide))) (short_fb hSd (f11.mono (by decide))) (by decide)
  refine lv_dmul hx hb dX5_way_49 f13.n64 ?_
  refine lv_aload_n hx hb dX5_way_50 rfl (lv_at hl 0 rfl) ?_
  refine g_D (x := sShort sd (FP.dsub y1 y0)) Z hW kX5 rfl 46 (by decide) q786 (show (0 : Nat) < 1 by decide) rfl rfl dX5_way_51 ?_
  refine lv_aload_n hx hb dX5_way_54 rfl (lv_at hl 0 rfl) ?_
  refine g_D (x := sShort sd (FP.dsub y1 y0)) Z hW kX5 rfl 46 (by decide) q786 (show (0 : Nat) < 1 by decide) rfl rfl dX5_way_55 ?_
  have f14 : fb (10) (FP.dmul (sShort sd (FP.dsub y1 y0)) (sShort sd (FP.dsub y1 y0))) := fb.mul (short_fb hSd (f12.mono (by decide))) (short_fb hSd (f12.mono (by decide))) (by decide)
  refine lv_dmul hx hb dX5_way_58 f14.n64 ?_
  have f15 : fb (11) (FP.dadd (FP.dmul (sShort sd (FP.dsub x1 x0)) (sShort sd (FP.dsub x1 x0))) (FP.dmul (sShort sd (FP.dsub y1 y0)) (sShort sd (FP.dsub y1 y0)))) := fb.add f13 f14 (by decide)
  refine lv_dadd hx hb dX5_way_59 f15.n64 ?_
  refine w_putD Z hW hS kX5 rfl 47 (by decide) (by decide) q787 rfl (show (0 : Nat) < 1 by decide) rfl rfl dX5_way_60 (fun H locs hW hS => ?_)
  rw [hQ]
  exact rW_v hx hb hr hlk hS (⟨_, ((((exc.rf.up rfl).up rfl).up rfl).up rfl).up rfl, rfl, rfl, rfl, hW⟩) dX5_way_63
set_option maxHeartbeats 4000000 in
theorem m_X5_between (l : Launch) (A : Nat → Prop) (Dg : va_G) (dA : Nat → ClassId) (ad : Nat → Nat → Nat) (n : Nat) (nb : Nat) (nr : Nat) (J : Nat → Nat → Nat) (D : T64) (I : T32) (D0 : T64) (hag : agD D D0) (hB : Bd n nb nr J D0) (i : Nat) (j : Nat) (hi : i < n) (hj : j < n) : MX l yX5_between cX5_between 3 none [] (rmx 4 0 0) [.ref (ad 30 0), .int (nI i), .int (nI j)] (Pw Dg dA (mW A Dg dA ad D I)) (qW (fun _ : Unit => none) (fun _ H => ∃ D1, exc sS D1 D ∧ D1 50 0 = wA D0 i j ∧ D1 51 0 = wB D0 i j ∧ D1 52 0 = wR D0 i j ∧ mW A Dg dA ad D1 I H) A) 0 0 A := by
  refine MX.start (Nat.le_of_ble_eq_true rfl) ?_
  intro p e s m args below meth c ls Q hAt hPc hl hQ
  have hl : lv_has ls 3 [(0, .ref (ad 30 0)), (1, .int (nI i)), (2, .int (nI j))] := hl
  obtain ⟨hx, hb, hml, hr, hlk, hown, hnm, htab, hts⟩ := id hAt
  obtain ⟨hK, hW⟩ := hPc
  have Z := Cx.of hAt hK
  have hS : va_S A s.heap s.heap [] := va_S.rf
  have hn10 := hB.n10
  refine lv_aload_n hx hb dX5_between_0 rfl (lv_at hl 0 rfl) ?_
  refine lv_aload_n hx hb dX5_between_1 rfl (lv_at hl 0 rfl) ?_
  refine w_getR (v := .ref (ad 31 0)) Z hW kX5 rfl 4 (by decide) q744 (show (0 : Nat) < 1 by decide) rfl rfl dX5_between_2 ?_
  refine lv_iload_n hx hb dX5_between_5 rfl (lv_at hl 1 rfl) ?_
  refine a_D (j := i) (x := D0 0 i) (ix := i) Z hW rfl (show (0 : Nat) < 1 by decide) (by omega) (by decide) rfl rfl (hag 0 i rfl) dX5_between_6 ?_
  refine lv_aload_n hx hb dX5_between_7 rfl (lv_at hl 0 rfl) ?_
  refine w_getR (v := .ref (ad 32 0)) Z hW kX5 rfl 5 (by decide) q745 (show (0 : Nat) < 1 by decide) rfl rfl dX5_between_8 ?_
  refine lv_iload_n hx hb dX5_between_11 rfl (lv_at hl 1 rfl) ?_
  refine a_D (j := i) (x := D0 1 i) (ix := i) Z hW rfl (show (0 : Nat) < 1 by decide) (by omega) (by decide) rfl rfl (hag 1 i rfl) dX5_between_12 ?_
  refine lv_aload_n hx hb dX5_between_13 rfl (lv_at hl 0 rfl) ?_
  refine w_getR (v := .ref (ad 31 0)) Z hW kX5 rfl 4 (by decide) q744 (show (0 : Nat) < 1 by decide) rfl rfl dX5_between_14 ?_
  refine lv_iload_n hx hb dX5_between_17 rfl (lv_at hl 2 rfl) ?_
  refine a_D (j := j) (x := D0 0 j) (ix := j) Z hW rfl (show (0 : Nat) < 1 by decide) (by omega) (by decide) rfl rfl (hag 0 j rfl) dX5_between_18 ?_
  refine lv_aload_n hx hb dX5_between_19 rfl (lv_at hl 0 rfl) ?_
  refine w_getR (v := .ref (ad 32 0)) Z hW kX5 rfl 5 (by decide) q745 (show (0 : Nat) < 1 by decide) rfl rfl dX5_between_20 ?_
  refine lv_iload_n hx hb dX5_between_23 rfl (lv_at hl 2 rfl) ?_
  refine a_D (j := j) (x := D0 1 j) (ix := j) Z hW rfl (show (0 : Nat) < 1 by decide) (by omega) (by decide) rfl rfl (hag 1 j rfl) dX5_between_24 ?_
  refine wx_wv (wx_V (As := [.double (D0 0 i), .double (D0 1 i), .double (D0 0 j), .double (D0 1 j)]) (rest := []) hAt.fix (m_X5_way l A Dg dA ad n nb nr J D I (D0 20 0) ((hag 20 0 rfl)) hB.side (D0 0 i) (D0 1 i) (D0 0 j) (D0 1 j) (((hB.x hi).mono (by decide))) (((hB.y hi).mono (by decide))) (((hB.x hj).mono (by decide))) (((hB.y hj).mono (by decide)))) q968 q970 qs28 q971 wn_X5_way ⟨Nat.le_of_ble_eq_true rfl, Nat.le_of_ble_eq_true rfl, Nat.le_of_ble_eq_true rfl, Nat.le_of_ble_eq_true rfl⟩ (w_recv hK hW kX5 rfl (show (0 : Nat) < 1 by decide)) (Pw.of hK hW) hl.1 (Nat.le_of_ble_eq_true rfl) dX5_between_25) hS (fun H locs hW hz hS => ?_)
  obtain ⟨D1, hex, h50, h51, h52, hW⟩ := hW
  rw [hQ]
  exact rW_v hx hb hr hlk hS (⟨D1, hex, h50, h51, h52, hW⟩) dX5_between_28
set_option maxHeartbeats 4000000 in
theorem m_X5_isAtom (l : Launch) (A : Nat → Prop) (Dg : va_G) (dA : Nat → ClassId) (ad : Nat → Nat → Nat) (n : Nat) (nb : Nat) (nr : Nat) (J : Nat → Nat → Nat) (D : T64) (I : T32) (k : Int32) (hn : I 20 0 = nI n) (hn10 : n ≤ 10) : MX l yX5_isAtom cX5_isAtom 2 (some .boolean) [] (rmx 1 0 0) [.ref (ad 30 0), .int (k)] (Pw Dg dA (mW A Dg dA ad D I)) (qR Value.int (fun r => (r = nI 1 ∧ okI k n) ∨ (r = nI 0 ∧ ¬ okI k n))) 0 0 (fun _ => False) := by
  refine MX.start (Nat.le_of_ble_eq_true rfl) ?_
  intro p e s m args below meth c ls Q hAt hPc hl hQ
  have hl : lv_has ls 2 [(0, .ref (ad 30 0)), (1, .int (k))] := hl
  obtain ⟨hx, hb, hml, hr, hlk, hown, hnm, htab, hts⟩ := id hAt
  obtain ⟨hK, hW⟩ := hPc
  have Z := Cx.of hAt hK
  refine lv_iload_n hx hb dX5_isAtom_0 rfl (lv_at hl 1 rfl) ?_
  refine lv_if_lt (tgt := 16) hx hb dX5_isAtom_1 (by decide) (fun c1 => ?_) (fun c1 => ?_)
  · refine lv_iconst (v := nI 0) hx hb dX5_isAtom_16 rfl ?_
    rw [hQ]
    exact rR_z hx hb hr hlk (Or.inl rfl) (Or.inr ⟨rfl, okI_lt hn10 c1⟩) dX5_isAtom_17
  · refine lv_iload_n hx hb dX5_isAtom_4 rfl (lv_at hl 1 rfl) ?_
    refine lv_aload_n hx hb dX5_isAtom_5 rfl (lv_at hl 0 rfl) ?_
    refine g_I (x := nI n) Z hW kX5 rfl 14 (by decide) q754 (show (0 : Nat) < 1 by decide) rfl hn dX5_isAtom_6 ?_
    refine lv_icmp_ge (tgt := 16) hx hb dX5_isAtom_9 (by decide) (fun c2 => ?_) (fun c2 => ?_)
    · refine lv_iconst (v := nI 0) hx hb dX5_isAtom_16 rfl ?_
      rw [hQ]
      exact rR_z hx hb hr hlk (Or.inl rfl) (Or.inr ⟨rfl, okI_ge hn10 c2⟩) dX5_isAtom_17
    · refine lv_iconst (v := nI 1) hx hb dX5_isAtom_12 rfl ?_
      refine lv_goto (tgt := 17) hx hb dX5_isAtom_13 (by decide) ?_
      rw [hQ]
      exact rR_z hx hb hr hlk (Or.inr rfl) (Or.inl ⟨rfl, okI_of hn10 c1 c2⟩) dX5_isAtom_17
set_option maxHeartbeats 4000000 in
theorem m_X5_bad1 (l : Launch) (A : Nat → Prop) (Dg : va_G) (dA : Nat → ClassId) (ad : Nat → Nat → Nat) (n : Nat) (nb : Nat) (nr : Nat) (J : Nat → Nat → Nat) (D : T64) (I : T32) : MX l yX5_bad cX5_bad 2 (some .boolean) [] (rmx 1 0 0) [.ref (ad 30 0), .int (nI 1)] (Pw Dg dA (mW A Dg dA ad D I)) (qW (fun r : Int32 => some (.int r)) (fun r H => r = nI 0 ∧ mW A Dg dA ad D ((up2 I 42 0 (nI 0))) H) A) 0 0 A := by
  refine MX.start (Nat.le_of_ble_eq_true rfl) ?_
  intro p e s m args below meth c ls Q hAt hPc hl hQ
  have hl : lv_has ls 2 [(0, .ref (ad 30 0)), (1, .int (nI 1))] := hl
  obtain ⟨hx, hb, hml, hr, hlk, hown, hnm, htab, hts⟩ := id hAt
  obtain ⟨hK, hW⟩ := hPc
  have Z := Cx.of hAt hK
  have hS : va_S A s.heap s.heap [] := va_S.rf
  refine lv_aload_n hx hb dX5_bad_0 rfl (lv_at hl 0 rfl) ?_
  refine lv_iload_n hx hb dX5_bad_1 rfl (lv_at hl 1 rfl) ?_
  refine lv_if_eq (tgt := 9) hx hb dX5_bad_2 (by decide) (fun h => absurd h (by decide)) (fun _ => ?_)
  refine lv_iconst (v := nI 0) hx hb dX5_bad_5 rfl ?_
  refine lv_goto (tgt := 10) hx hb dX5_bad_6 (by decide) ?_
  refine w_putI Z hW hS kX5 rfl 43 (by decide) (by decide) q783 rfl (show (0 : Nat) < 1 by decide) rfl rfl rfl dX5_bad_10 (fun H locs hW hS => ?_)
  refine lv_iload_n hx hb dX5_bad_13 rfl (lv_at hl 1 rfl) ?_
  refine lv_if_ne (tgt := 21) hx hb dX5_bad_14 (by decide) (fun _ => ?_) (fun h => absurd h (by decide))
  refine lv_iconst (v := nI 0) hx hb dX5_bad_21 rfl ?_
  rw [hQ]
  exact rW_z hx hb hr hlk hS (Or.inl rfl) (⟨rfl, hW⟩) dX5_bad_22
set_option maxHeartbeats 4000000 in
theorem m_X5_bad0 (l : Launch) (A : Nat → Prop) (Dg : va_G) (dA : Nat → ClassId) (ad : Nat → Nat → Nat) (n : Nat) (nb : Nat) (nr : Nat) (J : Nat → Nat → Nat) (D : T64) (I : T32) : MX l yX5_bad cX5_bad 2 (some .boolean) [] (rmx 1 0 0) [.ref (ad 30 0), .int (nI 0)] (Pw Dg dA (mW A Dg dA ad D I)) (qW (fun r : Int32 => some (.int r)) (fun r H => r = nI 1 ∧ mW A Dg dA ad D ((up2 I 42 0 (nI 1))) H) A) 0 0 A := by
  refine MX.start (Nat.le_of_ble_eq_true rfl) ?_
  intro p e s m args below meth c ls Q hAt hPc hl hQ
  have hl : lv_has ls 2 [(0, .ref (ad 30 0)), (1, .int (nI 0))] := hl
  obtain ⟨hx, hb, hml, hr, hlk, hown, hnm, htab, hts⟩ := id hAt
  obtain ⟨hK, hW⟩ := hPc
  have Z := Cx.of hAt hK
  have hS : va_S A s.heap s.heap [] := va_S.rf
  refine lv_aload_n hx hb dX5_bad_0 rfl (lv_at hl 0 rfl) ?_
  refine lv_iload_n hx hb dX5_bad_1 rfl (lv_at hl 1 rfl) ?_
  refine lv_if_eq (tgt := 9) hx hb dX5_bad_2 (by decide) (fun _ => ?_) (fun h => absurd nI_0 h)
  refine lv_iconst (v := nI 1) hx hb dX5_bad_9 rfl ?_
  refine w_putI Z hW hS kX5 rfl 43 (by decide) (by decide) q783 rfl (show (0 : Nat) < 1 by decide) rfl rfl rfl dX5_bad_10 (fun H locs hW hS => ?_)
  refine lv_iload_n hx hb dX5_bad_13 rfl (lv_at hl 1 rfl) ?_
  refine lv_if_ne (tgt := 21) hx hb dX5_bad_14 (by decide) (fun h => absurd nI_0 h) (fun _ => ?_)
  refine lv_iconst (v := nI 1) hx hb dX5_bad_17 rfl ?_
  refine lv_goto (tgt := 22) hx hb dX5_bad_18 (by decide) ?_
  rw [hQ]
  exact rW_z hx hb hr hlk hS (Or.inr rfl) (⟨rfl, hW⟩) dX5_bad_22
set_option maxHeartbeats 4000000 in
theorem m_X5_thrown (l : Launch) (A : Nat → Prop) (Dg : va_G) (dA : Nat → ClassId) (ad : Nat → Nat → Nat) (n : Nat) (nb : Nat) (nr : Nat) (J : Nat → Nat → Nat) (D : T64) (I : T32) : MX l yX5_thrown cX5_thrown 1 (some .int) [] (rmx 1 0 0) [.ref (ad 30 0)] (Pw Dg dA (mW A Dg dA ad D I)) (qR Value.int (fun r => r = I 42 0)) 0 0 (fun _ => False) := by
  refine MX.start (Nat.le_of_ble_eq_true rfl) ?_
  intro p e s m args below meth c ls Q hAt hPc hl hQ
  have hl : lv_has ls 1 [(0, .ref (ad 30 0))] := hl
  obtain ⟨hx, hb, hml, hr, hlk, hown, hnm, htab, hts⟩ := id hAt
  obtain ⟨hK, hW⟩ := hPc
  have Z := Cx.of hAt hK
  refine lv_aload_n hx hb dX5_thrown_0 rfl (lv_at hl 0 rfl) ?_
  refine g_I (x := I 42 0) Z hW kX5 rfl 43 (by decide) q783 (show (0 : Nat) < 1 by decide) rfl rfl dX5_thrown_1 ?_
  rw [hQ]
  exact rR_i hx hb hr hlk rfl dX5_thrown_4
set_option maxHeartbeats 4000000 in
theorem m_X5_sixth (l : Launch) (A : Nat → Prop) (Dg : va_G) (dA : Nat → ClassId) (ad : Nat → Nat → Nat) (n : Nat) (nb : Nat) (nr : Nat) (J : Nat → Nat → Nat) (D : T64) (I : T32) (D0 : T64) (hag : agD D D0) (hB : Bd n nb nr J D0) (hM : mI n nb nr J I) (i : Nat) (j : Nat) (hi : i < n) (hj : j < n) (r : UInt64) (h52 : D 52 0 = r) (hrf : fb 11 r) (hrl : lb (-10) r) : MX l yX5_sixth cX5_sixth 7 (some .double) [] (rmx 1 0 0) [.ref (ad 30 0), .int (nI i), .int (nI j)] (Pw Dg dA (mW A Dg dA ad D I)) (qR Value.double (fun z => z = pP D0 J i j r)) 0 0 (fun _ => False) := by
  refine MX.start (Nat.le_of_ble_eq_true rfl) ?_
  intro p e s m args below meth c ls Q hAt hPc hl hQ
  have hl : lv_has ls 7 [(0, .ref (ad 30 0)), (1, .int (nI i)), (2, .int (nI j))] := hl
  obtain ⟨hx, hb, hml, hr, hlk, hown, hnm, htab, hts⟩ := id hAt
  obtain ⟨hK, hW⟩ := hPc
  have Z := Cx.of hAt hK
  have hn10 := hB.n10
  have hji := hB.j0 hi
  have hjj := hB.j0 hj
  refine lv_aload_n hx hb dX5_sixth_0 rfl (lv_at hl 0 rfl) ?_
  refine w_getR (v := .ref (ad 38 0)) Z hW kX5 rfl 11 (by decide) q751 (show (0 : Nat) < 1 by decide) rfl rfl dX5_sixth_1 ?_
  refine lv_aload_n hx hb dX5_sixth_4 rfl (lv_at hl 0 rfl) ?_
  refine w_getR (v := .ref (ad 36 0)) Z hW kX5 rfl 9 (by decide) q749 (show (0 : Nat) < 1 by decide) rfl rfl dX5_sixth_5 ?_
  refine lv_iload_n hx hb dX5_sixth_8 rfl (lv_at hl 1 rfl) ?_
  refine a_I (j := i) (x := nI (J 0 i)) (ix := i) Z hW rfl (show (0 : Nat) < 1 by decide) (by omega) (by decide) rfl rfl (hM.s (show (i : Nat) < n by omega)) dX5_sixth_9 ?_
  refine a_D (j := (J 0 i)) (x := D0 7 (J 0 i)) (ix := J 0 i) Z hW rfl (show (0 : Nat) < 1 by decide) (by omega) (by decide) rfl rfl (hag 7 (J 0 i) rfl) dX5_sixth_10 ?_
  refine lv_aload_n hx hb dX5_sixth_11 rfl (lv_at hl 0 rfl) ?_
  refine w_getR (v := .ref (ad 38 0)) Z hW kX5 rfl 11 (by decide) q751 (show (0 : Nat) < 1 by decide) rfl rfl dX5_sixth_12 ?_
  refine lv_aload_n hx hb dX5_sixth_15 rfl (lv_at hl 0 rfl) ?_
  refine w_getR (v := .ref (ad 36 0)) Z hW kX5 rfl 9 (by decide) q749 (show (0 : Nat) < 1 by decide) rfl rfl dX5_sixth_16 ?_
  refine lv_iload_n hx hb dX5_sixth_19 rfl (lv_at hl 2 rfl) ?_
  refine a_I (j := j) (x := nI (J 0 j)) (ix := j) Z hW rfl (show (0 : Nat) < 1 by decide) (by omega) (by decide) rfl rfl (hM.s (show (j : Nat) < n by omega)) dX5_sixth_20 ?_
  refine a_D (j := (J 0 j)) (x := D0 7 (J 0 j)) (ix := J 0 j) Z hW rfl (show (0 : Nat) < 1 by decide) (by omega) (by decide) rfl rfl (hag 7 (J 0 j) rfl) dX5_sixth_21 ?_
  have f1 : fb (3) (FP.dadd (D0 7 (J 0 i)) (D0 7 (J 0 j))) := fb.add (hB.w (show (J 0 i : Nat) < 3 by omega)) (hB.w (show (J 0 j : Nat) < 3 by omega)) (by decide)
  refine lv_dadd hx hb dX5_sixth_22 f1.n64 ?_
  refine lv_ldc2d (v := 4602678819172646912) hx hb hown (hts _ (lw_car_all q737)) dX5_sixth_23 ?_
  have f2 : fb (2) (FP.dmul (FP.dadd (D0 7 (J 0 i)) (D0 7 (J 0 j))) 4602678819172646912) := fb.mul f1 fc_4602678819172646912 (by decide)
  refine lv_dmul hx hb dX5_sixth_26 f2.n64 ?_
  refine lv_dstore_n (lv' := [(3, .double (FP.dmul (FP.dadd (D0 7 (J 0 i)) (D0 7 (J 0 j))) 4602678819172646912)), (0, .ref (ad 30 0)), (1, .int (nI i)), (2, .int (nI j))]) hx hb dX5_sixth_27 rfl hl (by decide) rfl (fun ls hl => ?_)
  refine lv_dload_n hx hb dX5_sixth_28 rfl (lv_at hl 0 rfl) ?_
  refine lv_dload_n hx hb dX5_sixth_29 rfl (lv_at hl 0 rfl) ?_
  have f3 : fb (4) (FP.dmul (FP.dmul (FP.dadd (D0 7 (J 0 i)) (D0 7 (J 0 j))) 4602678819172646912) (FP.dmul (FP.dadd (D0 7 (J 0 i)) (D0 7 (J 0 j))) 4602678819172646912)) := fb.mul f2 f2 (by decide)
  refine lv_dmul hx hb dX5_sixth_30 f3.n64 ?_
  refine lv_aload_n hx hb dX5_sixth_31 rfl (lv_at hl 1 rfl) ?_
  refine g_D (x := r) Z hW kX5 rfl 47 (by decide) q787 (show (0 : Nat) < 1 by decide) rfl h52 dX5_sixth_32 ?_
  have f4 : fb (14) (FP.ddiv (FP.dmul (FP.dmul (FP.dadd (D0 7 (J 0 i)) (D0 7 (J 0 j))) 4602678819172646912) (FP.dmul (FP.dadd (D0 7 (J 0 i)) (D0 7 (J 0 j))) 4602678819172646912)) r) := fb.div f3 hrl (by decide)
  refine lv_ddiv hx hb dX5_sixth_35 f4.n64 ?_
  refine lv_dstore (lv' := [(5, .double (FP.ddiv (FP.dmul (FP.dmul (FP.dadd (D0 7 (J 0 i)) (D0 7 (J 0 j))) 4602678819172646912) (FP.dmul (FP.dadd (D0 7 (J 0 i)) (D0 7 (J 0 j))) 4602678819172646912)) r)), (3, .double (FP.dmul (FP.dadd (D0 7 (J 0 i)) (D0 7 (J 0 j))) 4602678819172646912)), (0, .ref (ad 30 0)), (1, .int (nI i)), (2, .int (nI j))]) hx hb dX5_sixth_36 hl (by decide) rfl (fun ls hl => ?_)
  refine lv_dload hx hb dX5_sixth_38 (lv_at hl 0 rfl) ?_
  refine lv_dload hx hb dX5_sixth_40 (lv_at hl 0 rfl) ?_
  have f5 : fb (28) (FP.dmul (FP.ddiv (FP.dmul (FP.dmul (FP.dadd (D0 7 (J 0 i)) (D0 7 (J 0 j))) 4602678819172646912) (FP.dmul (FP.dadd (D0 7 (J 0 i)) (D0 7 (J 0 j))) 4602678819172646912)) r) (FP.ddiv (FP.dmul (FP.dmul (FP.dadd (D0 7 (J 0 i)) (D0 7 (J 0 j))) 4602678819172646912) (FP.dmul (FP.dadd (D0 7 (J 0 i)) (D0 7 (J 0 j))) 4602678819172646912)) r)) := fb.mul f4 f4 (by decide)
  refine lv_dmul hx hb dX5_sixth_42 f5.n64 ?_
  refine lv_dload hx hb dX5_sixth_43 (lv_at hl 0 rfl) ?_
  have f6 : fb (42) (FP.dmul (FP.dmul (FP.ddiv (FP.dmul (FP.dmul (FP.dadd (D0 7 (J 0 i)) (D0 7 (J 0 j))) 4602678819172646912) (FP.dmul (FP.dadd (D0 7 (J 0 i)) (D0 7 (J 0 j))) 4602678819172646912)) r) (FP.ddiv (FP.dmul (FP.dmul (FP.dadd (D0 7 (J 0 i)) (D0 7 (J 0 j))) 4602678819172646912) (FP.dmul (FP.dadd (D0 7 (J 0 i)) (D0 7 (J 0 j))) 4602678819172646912)) r)) (FP.ddiv (FP.dmul (FP.dmul (FP.dadd (D0 7 (J 0 i)) (D0 7 (J 0 j))) 4602678819172646912) (FP.dmul (FP.dadd (D0 7 (J 0 i)) (D0 7 (J 0 j))) 4602678819172646912)) r)) := fb.mul f5 f4 (by decide)
  refine lv_dmul hx hb dX5_sixth_45 f6.n64 ?_
  rw [hQ]
  exact rR_d hx hb hr hlk rfl dX5_sixth_46
set_option maxHeartbeats 4000000 in
theorem m_X5_deep (l : Launch) (A : Nat → Prop) (Dg : va_G) (dA : Nat → ClassId) (ad : Nat → Nat → Nat) (n : Nat) (nb : Nat) (nr : Nat) (J : Nat → Nat → Nat) (D : T64) (I : T32) (D0 : T64) (hag : agD D D0) (hB : Bd n nb nr J D0) (hM : mI n nb nr J I) (i : Nat) (j : Nat) (hi : i < n) (hj : j < n) : MX l yX5_deep cX5_deep 3 (some .double) [] (rmx 1 0 0) [.ref (ad 30 0), .int (nI i), .int (nI j)] (Pw Dg dA (mW A Dg dA ad D I)) (qR Value.double (fun z => z = pE D0 J i j)) 0 0 (fun _ => False) := by
  refine MX.start (Nat.le_of_ble_eq_true rfl) ?_
  intro p e s m args below meth c ls Q hAt hPc hl hQ
  have hl : lv_has ls 3 [(0, .ref (ad 30 0)), (1, .int (nI i)), (2, .int (nI j))] := hl
  obtain ⟨hx, hb, hml, hr, hlk, hown, hnm, htab, hts⟩ := id hAt
  obtain ⟨hK, hW⟩ := hPc
  have Z := Cx.of hAt hK
  have hn10 := hB.n10
  have hji := hB.j0 hi
  have hjj := hB.j0 hj
  refine lv_aload_n hx hb dX5_deep_0 rfl (lv_at hl 0 rfl) ?_
  refine w_getR (v := .ref (ad 39 0)) Z hW kX5 rfl 12 (by decide) q752 (show (0 : Nat) < 1 by decide) rfl rfl dX5_deep_1 ?_
  refine lv_aload_n hx hb dX5_deep_4 rfl (lv_at hl 0 rfl) ?_
  refine w_getR (v := .ref (ad 36 0)) Z hW kX5 rfl 9 (by decide) q749 (show (0 : Nat) < 1 by decide) rfl rfl dX5_deep_5 ?_
  refine lv_iload_n hx hb dX5_deep_8 rfl (lv_at hl 1 rfl) ?_
  refine a_I (j := i) (x := nI (J 0 i)) (ix := i) Z hW rfl (show (0 : Nat) < 1 by decide) (by omega) (by decide) rfl rfl (hM.s (show (i : Nat) < n by omega)) dX5_deep_9 ?_
  refine a_D (j := (J 0 i)) (x := D0 8 (J 0 i)) (ix := J 0 i) Z hW rfl (show (0 : Nat) < 1 by decide) (by omega) (by decide) rfl rfl (hag 8 (J 0 i) rfl) dX5_deep_10 ?_
  refine lv_aload_n hx hb dX5_deep_11 rfl (lv_at hl 0 rfl) ?_
  refine w_getR (v := .ref (ad 39 0)) Z hW kX5 rfl 12 (by decide) q752 (show (0 : Nat) < 1 by decide) rfl rfl dX5_deep_12 ?_
  refine lv_aload_n hx hb dX5_deep_15 rfl (lv_at hl 0 rfl) ?_
  refine w_getR (v := .ref (ad 36 0)) Z hW kX5 rfl 9 (by decide) q749 (show (0 : Nat) < 1 by decide) rfl rfl dX5_deep_16 ?_
  refine lv_iload_n hx hb dX5_deep_19 rfl (lv_at hl 2 rfl) ?_
  refine a_I (j := j) (x := nI (J 0 j)) (ix := j) Z hW rfl (show (0 : Nat) < 1 by decide) (by omega) (by decide) rfl rfl (hM.s (show (j : Nat) < n by omega)) dX5_deep_20 ?_
  refine a_D (j := (J 0 j)) (x := D0 8 (J 0 j)) (ix := J 0 j) Z hW rfl (show (0 : Nat) < 1 by decide) (by omega) (by decide) rfl rfl (hag 8 (J 0 j) rfl) dX5_deep_21 ?_
  have f1 : fb (7) (FP.dadd (D0 8 (J 0 i)) (D0 8 (J 0 j))) := fb.add (hB.d (show (J 0 i : Nat) < 3 by omega)) (hB.d (show (J 0 j : Nat) < 3 by omega)) (by decide)
  refine lv_dadd hx hb dX5_deep_22 f1.n64 ?_
  refine lv_ldc2d (v := 4602678819172646912) hx hb hown (hts _ (lw_car_all q737)) dX5_deep_23 ?_
  have f2 : fb (6) (FP.dmul (FP.dadd (D0 8 (J 0 i)) (D0 8 (J 0 j))) 4602678819172646912) := fb.mul f1 fc_4602678819172646912 (by decide)
  refine lv_dmul hx hb dX5_deep_26 f2.n64 ?_
  rw [hQ]
  exact rR_d hx hb hr hlk rfl dX5_deep_27
set_option maxHeartbeats 4000000 in
theorem m_X5_charges (l : Launch) (A : Nat → Prop) (Dg : va_G) (dA : Nat → ClassId) (ad : Nat → Nat → Nat) (n : Nat) (nb : Nat) (nr : Nat) (J : Nat → Nat → Nat) (D : T64) (I : T32) (D0 : T64) (hag : agD D D0) (hB : Bd n nb nr J D0) (hM : mI n nb nr J I) (i : Nat) (j : Nat) (hi : i < n) (hj : j < n) : MX l yX5_charges cX5_charges 3 (some .double) [] (rmx 1 0 0) [.ref (ad 30 0), .int (nI i), .int (nI j)] (Pw Dg dA (mW A Dg dA ad D I)) (qR Value.double (fun z => z = pC D0 J i j)) 0 0 (fun _ => False) := by
  refine MX.start (Nat.le_of_ble_eq_true rfl) ?_
  intro p e s m args below meth c ls Q hAt hPc hl hQ
  have hl : lv_has ls 3 [(0, .ref (ad 30 0)), (1, .int (nI i)), (2, .int (nI j))] := hl
  obtain ⟨hx, hb, hml, hr, hlk, hown, hnm, htab, hts⟩ := id hAt
  obtain ⟨hK, hW⟩ := hPc
  have Z := Cx.of hAt hK
  have hn10 := hB.n10
  have hji := hB.j0 hi
  have hjj := hB.j0 hj
  refine lv_aload_n hx hb dX5_charges_0 rfl (lv_at hl 0 rfl) ?_
  refine w_getR (v := .ref (ad 40 0)) Z hW kX5 rfl 13 (by decide) q753 (show (0 : Nat) < 1 by decide) rfl rfl dX5_charges_1 ?_
  refine lv_aload_n hx hb dX5_charges_4 rfl (lv_at hl 0 rfl) ?_
  refine w_getR (v := .ref (ad 36 0)) Z hW kX5 rfl 9 (by decide) q749 (show (0 : Nat) < 1 by decide) rfl rfl dX5_charges_5 ?_
  refine lv_iload_n hx hb dX5_charges_8 rfl (lv_at hl 1 rfl) ?_
  refine a_I (j := i) (x := nI (J 0 i)) (ix := i) Z hW rfl (show (0 : Nat) < 1 by decide) (by omega) (by decide) rfl rfl (hM.s (show (i : Nat) < n by omega)) dX5_charges_9 ?_
  refine a_D (j := (J 0 i)) (x := D0 9 (J 0 i)) (ix := J 0 i) Z hW rfl (show (0 : Nat) < 1 by decide) (by omega) (by decide) rfl rfl (hag 9 (J 0 i) rfl) dX5_charges_10 ?_
  refine lv_aload_n hx hb dX5_charges_11 rfl (lv_at hl 0 rfl) ?_
  refine w_getR (v := .ref (ad 40 0)) Z hW kX5 rfl 13 (by decide) q753 (show (0 : Nat) < 1 by decide) rfl rfl dX5_charges_12 ?_
  refine lv_aload_n hx hb dX5_charges_15 rfl (lv_at hl 0 rfl) ?_
  refine w_getR (v := .ref (ad 36 0)) Z hW kX5 rfl 9 (by decide) q749 (show (0 : Nat) < 1 by decide) rfl rfl dX5_charges_16 ?_
  refine lv_iload_n hx hb dX5_charges_19 rfl (lv_at hl 2 rfl) ?_
  refine a_I (j := j) (x := nI (J 0 j)) (ix := j) Z hW rfl (show (0 : Nat) < 1 by decide) (by omega) (by decide) rfl rfl (hM.s (show (j : Nat) < n by omega)) dX5_charges_20 ?_
  refine a_D (j := (J 0 j)) (x := D0 9 (J 0 j)) (ix := J 0 j) Z hW rfl (show (0 : Nat) < 1 by decide) (by omega) (by decide) rfl rfl (hag 9 (J 0 j) rfl) dX5_charges_21 ?_
  have f1 : fb (6) (FP.dmul (D0 9 (J 0 i)) (D0 9 (J 0 j))) := fb.mul (hB.c (show (J 0 i : Nat) < 3 by omega)) (hB.c (show (J 0 j : Nat) < 3 by omega)) (by decide)
  refine lv_dmul hx hb dX5_charges_22 f1.n64 ?_
  rw [hQ]
  exact rR_d hx hb hr hlk rfl dX5_charges_23
set_option maxHeartbeats 4000000 in
theorem m_X5_isPair (l : Launch) (A : Nat → Prop) (Dg : va_G) (dA : Nat → ClassId) (ad : Nat → Nat → Nat) (n : Nat) (nb : Nat) (nr : Nat) (J : Nat → Nat → Nat) (D : T64) (I : T32) (D0 : T64) (hag : agD D D0) (hB : Bd n nb nr J D0) (i : Nat) (j : Nat) (hi : i < n) (hj : j < n) : MX l yX5_isPair cX5_isPair 3 (some .boolean) [] (rmx 5 0 0) [.ref (ad 30 0), .int (nI i), .int (nI j)] (Pw Dg dA (mW A Dg dA ad D I)) (qW (fun r : Int32 => some (.int r)) (fun r H => ((r = nI 1 ∧ flt (wR D0 i j) (cq D0)) ∨ (r = nI 0 ∧ ¬ flt (wR D0 i j) (cq D0))) ∧ ∃ D1, exc sS D1 D ∧ D1 50 0 = wA D0 i j ∧ D1 51 0 = wB D0 i j ∧ D1 52 0 = wR D0 i j ∧ mW A Dg dA ad D1 I H) A) 0 0 A := by
  refine MX.start (Nat.le_of_ble_eq_true rfl) ?_
  intro p e s m args below meth c ls Q hAt hPc hl hQ
  have hl : lv_has ls 3 [(0, .ref (ad 30 0)), (1, .int (nI i)), (2, .int (nI j))] := hl
  obtain ⟨hx, hb, hml, hr, hlk, hown, hnm, htab, hts⟩ := id hAt
  obtain ⟨hK, hW⟩ := hPc
  have Z := Cx.of hAt hK
  have hS : va_S A s.heap s.heap [] := va_S.rf
  refine lv_aload_n hx hb dX5_isPair_0 rfl (lv_at hl 0 rfl) ?_
  refine lv_iload_n hx hb dX5_isPair_1 rfl (lv_at hl 1 rfl) ?_
  refine lv_iload_n hx hb dX5_isPair_2 rfl (lv_at hl 2 rfl) ?_
  refine wx_wv (wx_V (As := [.int (nI i), .int (nI j)]) (rest := []) hAt.fix (m_X5_between l A Dg dA ad n nb nr J D I D0 hag hB i j hi hj) q980 q982 qs31 q983 wn_X5_between ⟨Nat.le_of_ble_eq_true rfl, Nat.le_of_ble_eq_true rfl, Nat.le_of_ble_eq_true rfl, Nat.le_of_ble_eq_true rfl⟩ (w_recv hK hW kX5 rfl (show (0 : Nat) < 1 by decide)) (Pw.of hK hW) hl.1 (Nat.le_of_ble_eq_true rfl) dX5_isPair_3) hS (fun H locs hW hz hS => ?_)
  obtain ⟨D1, hexw, h50, h51, h52, hW⟩ := hW
  have hag1 := hag.S hexw
  refine lv_aload_n hx hb dX5_isPair_6 rfl (lv_at hl 0 rfl) ?_
  refine g_D (x := wR D0 i j) Z hW kX5 rfl 47 (by decide) q787 (show (0 : Nat) < 1 by decide) rfl h52 dX5_isPair_7 ?_
  refine lv_aload_n hx hb dX5_isPair_10 rfl (lv_at hl 0 rfl) ?_
  refine g_D (x := D0 21 0) Z hW kX5 rfl 1 (by decide) q741 (show (0 : Nat) < 1 by decide) rfl (hag1 21 0 rfl) dX5_isPair_11 ?_
  refine lv_aload_n hx hb dX5_isPair_14 rfl (lv_at hl 0 rfl) ?_
  refine g_D (x := D0 21 0) Z hW kX5 rfl 1 (by decide) q741 (show (0 : Nat) < 1 by decide) rfl (hag1 21 0 rfl) dX5_isPair_15 ?_
  have f1 : fb (8) (FP.dmul (D0 21 0) (D0 21 0)) := fb.mul hB.cut hB.cut (by decide)
  refine lv_dmul hx hb dX5_isPair_18 f1.n64 ?_
  refine lv_dg_ge (tgt := 27) hx hb dX5_isPair_19 dX5_isPair_20 (by decide) (fun c2 => ?_) (fun c2 => ?_)
  · refine lv_iconst (v := nI 0) hx hb dX5_isPair_27 rfl ?_
    rw [hQ]
    exact rW_z hx hb hr hlk hS (Or.inl rfl) (⟨Or.inr ⟨rfl, c2⟩, D1, hexw, h50, h51, h52, hW⟩) dX5_isPair_28
  · refine lv_iconst (v := nI 1) hx hb dX5_isPair_23 rfl ?_
    refine lv_goto (tgt := 28) hx hb dX5_isPair_24 (by decide) ?_
    rw [hQ]
    exact rW_z hx hb hr hlk hS (Or.inr rfl) (⟨Or.inl ⟨rfl, c2⟩, D1, hexw, h50, h51, h52, hW⟩) dX5_isPair_28
set_option maxHeartbeats 4000000 in
theorem m_X5_overlap (l : Launch) (A : Nat → Prop) (Dg : va_G) (dA : Nat → ClassId) (ad : Nat → Nat → Nat) (n : Nat) (nb : Nat) (nr : Nat) (J : Nat → Nat → Nat) (D : T64) (I : T32) (D0 : T64) (hag : agD D D0) (hB : Bd n nb nr J D0) (hn : I 20 0 = nI n) : MX l yX5_overlap cX5_overlap 3 (some .boolean) [] (rmx 5 0 0) [.ref (ad 30 0)] (Pw Dg dA (mW A Dg dA ad D I)) (qW (fun r : Int32 => some (.int r)) (fun r H => ((r = nI 1 ∧ ovl D0 n = true) ∨ (r = nI 0 ∧ ovl D0 n = false)) ∧ ∃ D1, exc sS D1 D ∧ mW A Dg dA ad D1 I H) A) 0 0 A := by
  refine MX.start (Nat.le_of_ble_eq_true rfl) ?_
  intro p e s m args below meth c ls Q hAt hPc hl hQ
  have hl : lv_has ls 3 [(0, .ref (ad 30 0))] := hl
  obtain ⟨hx, hb, hml, hr, hlk, hown, hnm, htab, hts⟩ := id hAt
  obtain ⟨hK, hW⟩ := hPc
  have Z := Cx.of hAt hK
  have hS : va_S A s.heap s.heap [] := va_S.rf
  have hn10 := hB.n10
  refine lv_iconst (v := nI 0) hx hb dX5_overlap_0 rfl ?_
  refine lv_istore_n (lv' := [(1, .int (nI 0)), (0, .ref (ad 30 0))]) hx hb dX5_overlap_1 rfl hl (by decide) rfl (fun ls hl => ?_)
  refine wl_up n 0 (fun i H locs ls => ∃ D1, lv_has ls 3 [(1, .int (nI i)), (0, .ref (ad 30 0))] ∧ mW A Dg dA ad D1 I H ∧ va_S A s.heap H locs ∧ exc sS D1 D ∧ ∀ a, a < i → ∀ b, a < b → b < n → ¬ flt (wR D0 a b) 4562146422526312448) (Nat.zero_le _) ⟨D, lv_sub hl [0, 1] rfl, hW, hS, exc.rf, lt_0⟩ ?_ ?_
  · intro i H locs ls hi hP ih
    obtain ⟨D1, hl, hW, hS, hex, hlt⟩ := hP
    refine lv_iload_n hx hb dX5_overlap_2 rfl (lv_at hl 0 rfl) ?_
    refine lv_aload_n hx hb dX5_overlap_3 rfl (lv_at hl 1 rfl) ?_
    refine g_I (x := nI n) Z hW kX5 rfl 14 (by decide) q754 (show (0 : Nat) < 1 by decide) rfl hn dX5_overlap_4 ?_
    refine lv_nge (tgt := 53) hx hb (by omega) (by omega) dX5_overlap_7 (by decide) (fun c => absurd c (by omega)) (fun c => ?_)
    refine lv_iload_n hx hb dX5_overlap_10 rfl (lv_at hl 0 rfl) ?_
    refine lv_iconst (v := nI 1) hx hb dX5_overlap_11 rfl ?_
    refine lv_iadd hx hb dX5_overlap_12 ?_
    rw [nI_add]
    refine lv_istore_n (lv' := [(2, .int (nI (i + 1))), (1, .int (nI i)), (0, .ref (ad 30 0))]) hx hb dX5_overlap_13 rfl hl (by decide) rfl (fun ls hl => ?_)
    have ih0 := ih
    have hi0 := hi
    refine wl_up n ((i + 1)) (fun j H locs ls => i < j ∧ ∃ D1, lv_has ls 3 [(2, .int (nI j)), (1, .int (nI i)), (0, .ref (ad 30 0))] ∧ mW A Dg dA ad D1 I H ∧ va_S A s.heap H locs ∧ exc sS D1 D ∧ ∀ b, b < j → i < b → ¬ flt (wR D0 i b) 4562146422526312448) (by omega) ⟨by omega, D1, lv_sub hl [0, 1, 2] rfl, hW, hS, hex, fun b h1 h2 => absurd h1 (by omega)⟩ ?_ ?_
    · intro j H locs ls hi hP ih
      obtain ⟨hij, D1, hl, hW, hS, hex, hlt2⟩ := hP
      have hj := hi
      replace hi := hi0
      have hag1 := hag.S hex
      refine lv_iload_n hx hb dX5_overlap_14 rfl (lv_at hl 0 rfl) ?_
      refine lv_aload_n hx hb dX5_overlap_15 rfl (lv_at hl 2 rfl) ?_
      refine g_I (x := nI n) Z hW kX5 rfl 14 (by decide) q754 (show (0 : Nat) < 1 by decide) rfl hn dX5_overlap_16 ?_
      refine lv_nge (tgt := 47) hx hb (by omega) (by omega) dX5_overlap_19 (by decide) (fun c => absurd c (by omega)) (fun c => ?_)
      refine lv_aload_n hx hb dX5_overlap_22 rfl (lv_at hl 2 rfl) ?_
      refine lv_iload_n hx hb dX5_overlap_23 rfl (lv_at hl 1 rfl) ?_
      refine lv_iload_n hx hb dX5_overlap_24 rfl (lv_at hl 0 rfl) ?_
      refine wx_wv (wx_V (As := [.int (nI i), .int (nI j)]) (rest := []) hAt.fix (m_X5_between l A Dg dA ad n nb nr J D1 I D0 hag1 hB i j hi hj) q980 q982 qs31 q983 wn_X5_between ⟨Nat.le_of_ble_eq_true rfl, Nat.le_of_ble_eq_true rfl, Nat.le_of_ble_eq_true rfl, Nat.le_of_ble_eq_true rfl⟩ (w_recv hK hW kX5 rfl (show (0 : Nat) < 1 by decide)) (Pw.of hK hW) hl.1 (Nat.le_of_ble_eq_true rfl) dX5_overlap_25) hS (fun H locs hW hz hS => ?_)
      obtain ⟨D2, hexw, h50, h51, h52, hW⟩ := hW
      refine lv_aload_n hx hb dX5_overlap_28 rfl (lv_at hl 2 rfl) ?_
      refine g_D (x := wR D0 i j) Z hW kX5 rfl 47 (by decide) q787 (show (0 : Nat) < 1 by decide) rfl h52 dX5_overlap_29 ?_
      refine lv_ldc2d (v := 4562146422526312448) hx hb hown (hts _ (lw_car_all q984)) dX5_overlap_32 ?_
      refine lv_dg_ge (tgt := 41) hx hb dX5_overlap_35 dX5_overlap_36 (by decide) (fun c1 => ?_) (fun c1 => ?_)
      · refine lv_iinc1 (lv' := [(2, .int (nI (j + 1))), (1, .int (nI i)), (0, .ref (ad 30 0))]) hx hb dX5_overlap_41 hl (k := 0) rfl (by decide) rfl (fun ls hl => ?_)
        refine lv_goto (tgt := 14) hx hb dX5_overlap_44 (by decide) ?_
        exact ih _ _ _ ⟨by omega, _, lv_sub hl [0, 1, 2] rfl, hW, hS, hexw.trans hex, lt_s hlt2 (fun _ => c1)⟩
      · refine lv_iconst (v := nI 1) hx hb dX5_overlap_39 rfl ?_
        rw [hQ]
        exact rW_z hx hb hr hlk hS (Or.inr rfl) (⟨Or.inl ⟨rfl, ovl_t.mpr ⟨i, j, by omega, hj, c1⟩⟩, _, hexw.trans hex, hW⟩) dX5_overlap_40
    · intro H locs ls hP
      obtain ⟨hij, D1, hl, hW, hS, hex, hlt2⟩ := hP
      refine lv_iload_n hx hb dX5_overlap_14 rfl (lv_at hl 0 rfl) ?_
      refine lv_aload_n hx hb dX5_overlap_15 rfl (lv_at hl 2 rfl) ?_
      refine g_I (x := nI n) Z hW kX5 rfl 14 (by decide) q754 (show (0 : Nat) < 1 by decide) rfl hn dX5_overlap_16 ?_
      refine lv_nge (tgt := 47) hx hb (by omega) (by omega) dX5_overlap_19 (by decide) (fun c => ?_) (fun c => absurd c (by omega))
      refine lv_iinc1 (lv' := [(1, .int (nI (i + 1))), (2, .int (nI n)), (0, .ref (ad 30 0))]) hx hb dX5_overlap_47 hl (k := 1) rfl (by decide) rfl (fun ls hl => ?_)
      refine lv_goto (tgt := 2) hx hb dX5_overlap_50 (by decide) ?_
      exact ih0 _ _ _ ⟨_, lv_sub hl [0, 2] rfl, hW, hS, hex, lt_s hlt (fun b h1 h2 => hlt2 b h2 h1)⟩
  · intro H locs ls hP
    obtain ⟨D1, hl, hW, hS, hex, hlt⟩ := hP
    refine lv_iload_n hx hb dX5_overlap_2 rfl (lv_at hl 0 rfl) ?_
    refine lv_aload_n hx hb dX5_overlap_3 rfl (lv_at hl 1 rfl) ?_
    refine g_I (x := nI n) Z hW kX5 rfl 14 (by decide) q754 (show (0 : Nat) < 1 by decide) rfl hn dX5_overlap_4 ?_
    refine lv_nge (tgt := 53) hx hb (by omega) (by omega) dX5_overlap_7 (by decide) (fun c => ?_) (fun c => absurd c (by omega))
    refine lv_iconst (v := nI 0) hx hb dX5_overlap_53 rfl ?_
    rw [hQ]
    exact rW_z hx hb hr hlk hS (Or.inl rfl) (⟨Or.inr ⟨rfl, ovl_f.mpr (fun a b h1 h2 => hlt a (by omega) b h1 h2)⟩, D1, hex, hW⟩) dX5_overlap_54
