set_option maxRecDepth 100000
/-! ===== the class: leaves ===== -/
set_option maxHeartbeats 4000000 in
theorem m_X1_floor (l : Launch) (z : UInt64) (hz : fb 50 z) : MX l yX1_floor cX1_floor 4 (some .double) [] (rmx 1 0 0) [.double (z)] (fun _ => True) (qR Value.double (fun r => r = sFloor z)) 0 0 (fun _ => False) := by
  refine MX.start (Nat.le_of_ble_eq_true rfl) ?_
  intro p e s m args below meth c ls Q hAt hPc hl hQ
  have hl : lv_has ls 4 [(0, .double (z))] := hl
  obtain ⟨hx, hb, hml, hr, hlk, hown, hnm, htab, hts⟩ := id hAt
  refine lv_dload_n hx hb dX1_floor_0 rfl (lv_at hl 0 rfl) ?_
  refine lv_d2l hx hb dX1_floor_1 ?_
  refine lv_l2d hx hb dX1_floor_2 ?_
  refine lv_dstore_n (lv' := [(2, .double (FP.l2d (FP.d2l z))), (0, .double (z))]) hx hb dX1_floor_3 rfl hl (by decide) rfl (fun ls hl => ?_)
  refine lv_dload_n hx hb dX1_floor_4 rfl (lv_at hl 0 rfl) ?_
  refine lv_dload_n hx hb dX1_floor_5 rfl (lv_at hl 1 rfl) ?_
  refine lv_dl_le (tgt := 16) hx hb dX1_floor_6 dX1_floor_7 (by decide) (fun c1 => ?_) (fun c1 => ?_)
  · refine lv_dload_n hx hb dX1_floor_16 rfl (lv_at hl 0 rfl) ?_
    rw [hQ]
    exact rR_d hx hb hr hlk (if_neg c1).symm dX1_floor_17
  · refine lv_dload_n hx hb dX1_floor_10 rfl (lv_at hl 0 rfl) ?_
    refine lv_dconst1 hx hb dX1_floor_11 ?_
    have f2 : fb (51) (FP.dsub (FP.l2d (FP.d2l z)) FP.dconst1) := fb.sub (fb_trunc hz (by decide)) fc_1 (by decide)
    refine lv_dsub hx hb dX1_floor_12 f2.n64 ?_
    refine lv_goto (tgt := 17) hx hb dX1_floor_13 (by decide) ?_
    rw [hQ]
    exact rR_d hx hb hr hlk (if_pos c1).symm dX1_floor_17
set_option maxHeartbeats 4000000 in
theorem m_X1_within (l : Launch) (v : UInt64) (lo : UInt64) (hi : UInt64) : MX l yX1_within cX1_within 6 (some .boolean) [] (rmx 1 0 0) [.double (v), .double (lo), .double (hi)] (fun _ => True) (qR Value.int (fun r => (r = nI 1 ∧ inn v lo hi) ∨ (r = nI 0 ∧ ¬ inn v lo hi))) 0 0 (fun _ => False) := by
  refine MX.start (Nat.le_of_ble_eq_true rfl) ?_
  intro p e s m args below meth c ls Q hAt hPc hl hQ
  have hl : lv_has ls 6 [(0, .double (v)), (2, .double (lo)), (4, .double (hi))] := hl
  obtain ⟨hx, hb, hml, hr, hlk, hown, hnm, htab, hts⟩ := id hAt
  refine lv_dload_n hx hb dX1_within_0 rfl (lv_at hl 0 rfl) ?_
  refine lv_dload_n hx hb dX1_within_1 rfl (lv_at hl 1 rfl) ?_
  refine lv_dl_lt (tgt := 17) hx hb dX1_within_2 dX1_within_3 (by decide) (fun c1 => ?_) (fun c1 => ?_)
  · refine lv_iconst (v := nI 0) hx hb dX1_within_17 rfl ?_
    rw [hQ]
    exact rR_z hx hb hr hlk (Or.inl rfl) (Or.inr ⟨rfl, fun q => c1 q.1⟩) dX1_within_18
  · refine lv_dload_n hx hb dX1_within_6 rfl (lv_at hl 0 rfl) ?_
    refine lv_dload hx hb dX1_within_7 (lv_at hl 2 rfl) ?_
    refine lv_dg_gt (tgt := 17) hx hb dX1_within_9 dX1_within_10 (by decide) (fun c2 => ?_) (fun c2 => ?_)
    · refine lv_iconst (v := nI 0) hx hb dX1_within_17 rfl ?_
      rw [hQ]
      exact rR_z hx hb hr hlk (Or.inl rfl) (Or.inr ⟨rfl, fun q => c2 q.2⟩) dX1_within_18
    · refine lv_iconst (v := nI 1) hx hb dX1_within_13 rfl ?_
      refine lv_goto (tgt := 18) hx hb dX1_within_14 (by decide) ?_
      rw [hQ]
      exact rR_z hx hb hr hlk (Or.inr rfl) (Or.inl ⟨rfl, c1, c2⟩) dX1_within_18
set_option maxHeartbeats 4000000 in
theorem m_X1_root (l : Launch) (z : UInt64) (hz : feq z FP.dconst0 ∨ RtZ z) : MX l yX1_root cX1_root 5 (some .double) [] (rmx 1 0 0) [.double (z)] (fun _ => True) (qR Value.double (fun r => r = sRoot z)) 0 0 (fun _ => False) := by
  refine MX.start (Nat.le_of_ble_eq_true rfl) ?_
  intro p e s m args below meth c ls Q hAt hPc hl hQ
  have hl : lv_has ls 5 [(0, .double (z))] := hl
  obtain ⟨hx, hb, hml, hr, hlk, hown, hnm, htab, hts⟩ := id hAt
  refine lv_dload_n hx hb dX1_root_0 rfl (lv_at hl 0 rfl) ?_
  refine lv_dconst0 hx hb dX1_root_1 ?_
  refine lv_dl_ne (tgt := 8) hx hb dX1_root_2 dX1_root_3 (by decide) (fun c1 => ?_) (fun c1 => ?_)
  · have hz1 : RtZ z := hz.resolve_left c1
    have fz : fb 30 z := ⟨hz1.1, hz1.2.2, by have := p2_pos (-60); have := p2_pos 30; have := hz1.2.1; grind⟩
    refine lv_dload_n hx hb dX1_root_8 rfl (lv_at hl 0 rfl) ?_
    refine lv_dconst1 hx hb dX1_root_9 ?_
    have f2 : fb (31) (FP.dadd z FP.dconst1) := fb.add fz fc_1 (by decide)
    refine lv_dadd hx hb dX1_root_10 f2.n64 ?_
    refine lv_ldc2d (v := 4602678819172646912) hx hb hown (hts _ (lw_car_all q69)) dX1_root_11 ?_
    have f3 : fb (30) (FP.dmul (FP.dadd z FP.dconst1) 4602678819172646912) := fb.mul f2 fc_4602678819172646912 (by decide)
    refine lv_dmul hx hb dX1_root_14 f3.n64 ?_
    refine lv_dstore_n (lv' := [(2, .double (FP.dmul (FP.dadd z FP.dconst1) 4602678819172646912)), (0, .double (z))]) hx hb dX1_root_15 rfl hl (by decide) rfl (fun ls hl => ?_)
    refine lv_iconst (v := nI 0) hx hb dX1_root_16 rfl ?_
    refine lv_istore (lv' := [(4, .int (nI 0)), (2, .double (FP.dmul (FP.dadd z FP.dconst1) 4602678819172646912)), (0, .double (z))]) hx hb dX1_root_17 hl (by decide) rfl (fun ls hl => ?_)
    have key : ∀ (d i : Nat) (ls : Array Slot), i + d = 40 → lv_has ls 5 [(4, .int (nI i)), (2, .double (rtN z i)), (0, .double z)] → W p l e (rmx 1 0 0) s m args below meth c s.heap [] 0 0 Q (F0 m 19 ls []) := by
      intro d
      induction d with
      | zero =>
        intro i ls hd hP
        have hi : i = 40 := by omega
        subst hi
        have hl := hP
        refine lv_iload hx hb dX1_root_19 (lv_at hl 0 rfl) ?_
        refine lv_bipush (v := nI 40) hx hb dX1_root_21 rfl ?_
        refine lv_nge (tgt := 42) hx hb (by decide) (by decide) dX1_root_23 (by decide) (fun c => ?_) (fun c => absurd c (by omega))
        refine lv_dload_n hx hb dX1_root_42 rfl (lv_at hl 1 rfl) ?_
        rw [hQ]
        exact rR_d hx hb hr hlk (if_neg c1).symm dX1_root_43
      | succ d ihd =>
        intro i ls hd hP
        have hi : i < 40 := by omega
        have ih : ∀ (_ _ : Unit) (ls : Array Slot), lv_has ls 5 [(4, .int (nI (i + 1))), (2, .double (rtN z (i + 1))), (0, .double z)] → W p l e (rmx 1 0 0) s m args below meth c s.heap [] 0 0 Q (F0 m 19 ls []) := fun _ _ ls h => ihd (i + 1) ls (by omega) h
        have hl := hP
        obtain ⟨f1, f2⟩ := root_b hz1 i (by omega)
        refine lv_iload hx hb dX1_root_19 (lv_at hl 0 rfl) ?_
        refine lv_bipush (v := nI 40) hx hb dX1_root_21 rfl ?_
        refine lv_nge (tgt := 42) hx hb (by omega) (by decide) dX1_root_23 (by decide) (fun c => absurd c (by omega)) (fun c => ?_)
        refine lv_dload_n hx hb dX1_root_26 rfl (lv_at hl 1 rfl) ?_
        refine lv_dload_n hx hb dX1_root_27 rfl (lv_at hl 2 rfl) ?_
        refine lv_dload_n hx hb dX1_root_28 rfl (lv_at hl 1 rfl) ?_
        have f4 : fb (63) (FP.ddiv z (rtN z i)) := fb.div fz f2 (by decide)
        refine lv_ddiv hx hb dX1_root_29 f4.n64 ?_
        have f5 : fb (64) (FP.dadd (rtN z i) (FP.ddiv z (rtN z i))) := fb.add f1 f4 (by decide)
        refine lv_dadd hx hb dX1_root_30 f5.n64 ?_
        refine lv_ldc2d (v := 4602678819172646912) hx hb hown (hts _ (lw_car_all q69)) dX1_root_31 ?_
        have f6 : fb (63) (FP.dmul (FP.dadd (rtN z i) (FP.ddiv z (rtN z i))) 4602678819172646912) := fb.mul f5 fc_4602678819172646912 (by decide)
        refine lv_dmul hx hb dX1_root_34 f6.n64 ?_
        refine lv_dstore_n (lv' := [(2, .double (FP.dmul (FP.dadd (rtN z i) (FP.ddiv z (rtN z i))) 4602678819172646912)), (4, .int (nI i)), (0, .double (z))]) hx hb dX1_root_35 rfl hl (by decide) rfl (fun ls hl => ?_)
        refine lv_iinc1 (lv' := [(4, .int (nI (i + 1))), (2, .double (FP.dmul (FP.dadd (rtN z i) (FP.ddiv z (rtN z i))) 4602678819172646912)), (0, .double (z))]) hx hb dX1_root_36 hl (k := 1) rfl (by decide) rfl (fun ls hl => ?_)
        refine lv_goto (tgt := 19) hx hb dX1_root_39 (by decide) ?_
        exact ih () () _ hl
    exact key 40 0 ls rfl hl
  · refine lv_dconst0 hx hb dX1_root_6 ?_
    rw [hQ]
    exact rR_d hx hb hr hlk (if_pos c1).symm dX1_root_7
set_option maxHeartbeats 4000000 in
theorem m_X4_square (l : Launch) (A : Nat → Prop) (Dg : va_G) (dA : Nat → ClassId) (ad : Nat → Nat → Nat) (n : Nat) (nb : Nat) (nr : Nat) (no : Nat) (J : Nat → Nat → Nat) (R : Nat → Value) (D : T64) (I : T32) (w : Nat) (hw : w < 2) (a : UInt64) (b : UInt64) (ha : D 34 w = a) (hb0 : D 35 w = b) (fa : fb 5 a) (fbb : fb 5 b) : MX l yX4_square cX4_square 1 (some .double) [] (rmx 1 0 0) [.ref (ad 6 w)] (Pw Dg dA (cW A Dg dA ad n nb nr no J R D I)) (qR Value.double (fun r => r = sq a b)) 0 0 (fun _ => False) := by
  refine MX.start (Nat.le_of_ble_eq_true rfl) ?_
  intro p e s m args below meth c ls Q hAt hPc hl hQ
  have hl : lv_has ls 1 [(0, .ref (ad 6 w))] := hl
  obtain ⟨hx, hb, hml, hr, hlk, hown, hnm, htab, hts⟩ := id hAt
  obtain ⟨hK, hW⟩ := hPc
  have Z := Cx.of hAt hK
  refine lv_aload_n hx hb dX4_square_0 rfl (lv_at hl 0 rfl) ?_
  refine g_D (x := a) Z hW kX4 rfl 0 (by decide) q121 (show (w : Nat) < 2 by omega) rfl ha dX4_square_1 ?_
  refine lv_aload_n hx hb dX4_square_4 rfl (lv_at hl 0 rfl) ?_
  refine g_D (x := a) Z hW kX4 rfl 0 (by decide) q121 (show (w : Nat) < 2 by omega) rfl ha dX4_square_5 ?_
  have f1 : fb (10) (FP.dmul a a) := fb.mul fa fa (by decide)
  refine lv_dmul hx hb dX4_square_8 f1.n64 ?_
  refine lv_aload_n hx hb dX4_square_9 rfl (lv_at hl 0 rfl) ?_
  refine g_D (x := b) Z hW kX4 rfl 1 (by decide) q123 (show (w : Nat) < 2 by omega) rfl hb0 dX4_square_10 ?_
  refine lv_aload_n hx hb dX4_square_13 rfl (lv_at hl 0 rfl) ?_
  refine g_D (x := b) Z hW kX4 rfl 1 (by decide) q123 (show (w : Nat) < 2 by omega) rfl hb0 dX4_square_14 ?_
  have f2 : fb (10) (FP.dmul b b) := fb.mul fbb fbb (by decide)
  refine lv_dmul hx hb dX4_square_17 f2.n64 ?_
  have f3 : fb (11) (FP.dadd (FP.dmul a a) (FP.dmul b b)) := fb.add f1 f2 (by decide)
  refine lv_dadd hx hb dX4_square_18 f3.n64 ?_
  rw [hQ]
  exact rR_d hx hb hr hlk rfl dX4_square_19
set_option maxHeartbeats 4000000 in
theorem m_X1_shortest (l : Launch) (A : Nat → Prop) (Dg : va_G) (dA : Nat → ClassId) (ad : Nat → Nat → Nat) (n : Nat) (nb : Nat) (nr : Nat) (no : Nat) (J : Nat → Nat → Nat) (R : Nat → Value) (D : T64) (I : T32) (sd : UInt64) (d : UInt64) (hsd : D 20 0 = sd) (hSd : Sd sd) (hd : fb 49 d) : MX l yX1_shortest cX1_shortest 3 (some .double) [] (rmx 2 0 0) [.ref (ad 0 0), .double (d)] (Pw Dg dA (cW A Dg dA ad n nb nr no J R D I)) (qR Value.double (fun r => r = sShort sd d)) 0 0 (fun _ => False) := by
  refine MX.start (Nat.le_of_ble_eq_true rfl) ?_
  intro p e s m args below meth c ls Q hAt hPc hl hQ
  have hl : lv_has ls 3 [(0, .ref (ad 0 0)), (1, .double (d))] := hl
  obtain ⟨hx, hb, hml, hr, hlk, hown, hnm, htab, hts⟩ := id hAt
  obtain ⟨hK, hW⟩ := hPc
  have Z := Cx.of hAt hK
  refine lv_dload_n hx hb dX1_shortest_0 rfl (lv_at hl 1 rfl) ?_
  refine lv_aload_n hx hb dX1_shortest_1 rfl (lv_at hl 0 rfl) ?_
  refine g_D (x := sd) Z hW kX1 rfl 0 (by decide) q141 (show (0 : Nat) < 1 by decide) rfl hsd dX1_shortest_2 ?_
  refine lv_dload_n hx hb dX1_shortest_5 rfl (lv_at hl 1 rfl) ?_
  refine lv_aload_n hx hb dX1_shortest_6 rfl (lv_at hl 0 rfl) ?_
  refine g_D (x := sd) Z hW kX1 rfl 0 (by decide) q141 (show (0 : Nat) < 1 by decide) rfl hsd dX1_shortest_7 ?_
  have f1 : fb (47) (FP.ddiv d sd) := fb.div hd hSd.lb (by decide)
  refine lv_ddiv hx hb dX1_shortest_10 f1.n64 ?_
  refine lv_ldc2d (v := 4602678819172646912) hx hb hown (hts _ (lw_car_all q69)) dX1_shortest_11 ?_
  have f2 : fb (48) (FP.dadd (FP.ddiv d sd) 4602678819172646912) := fb.add f1 fc_4602678819172646912 (by decide)
  refine lv_dadd hx hb dX1_shortest_14 f2.n64 ?_
  refine wx_r (wx_S (As := [.double (FP.dadd (FP.ddiv d sd) 4602678819172646912)]) (rest := [.double (sd), .double (d)]) hAt.fix (m_X1_floor l (FP.dadd (FP.ddiv d sd) 4602678819172646912) ((f2.mono (by decide)))) q236 q237 q45 q238 wn_X1_floor ⟨Nat.le_of_ble_eq_true rfl, Nat.le_of_ble_eq_true rfl, Nat.le_of_ble_eq_true rfl, Nat.le_of_ble_eq_true rfl⟩ (fun _ _ _ => trivial) hl.1 (Nat.le_of_ble_eq_true rfl) dX1_shortest_15) (fun r hr => ?_)
  subst hr
  have f3 : fb (54) (FP.dmul sd (sFloor (FP.dadd (FP.ddiv d sd) 4602678819172646912))) := fb.mul hSd.fb (fb_floor f2 (by decide)) (by decide)
  refine lv_dmul hx hb dX1_shortest_18 f3.n64 ?_
  have f4 : fb (55) (FP.dsub d (FP.dmul sd (sFloor (FP.dadd (FP.ddiv d sd) 4602678819172646912)))) := fb.sub hd f3 (by decide)
  refine lv_dsub hx hb dX1_shortest_19 f4.n64 ?_
  rw [hQ]
  exact rR_d hx hb hr hlk rfl dX1_shortest_20
set_option maxHeartbeats 4000000 in
theorem m_X1_wrapped (l : Launch) (A : Nat → Prop) (Dg : va_G) (dA : Nat → ClassId) (ad : Nat → Nat → Nat) (n : Nat) (nb : Nat) (nr : Nat) (no : Nat) (J : Nat → Nat → Nat) (R : Nat → Value) (D : T64) (I : T32) (sd : UInt64) (d : UInt64) (hsd : D 20 0 = sd) (hSd : Sd sd) (hd : fb 48 d) : MX l yX1_wrapped cX1_wrapped 5 (some .double) [] (rmx 2 0 0) [.ref (ad 0 0), .double (d)] (Pw Dg dA (cW A Dg dA ad n nb nr no J R D I)) (qR Value.double (fun r => r = sWrap sd d)) 0 0 (fun _ => False) := by
  refine MX.start (Nat.le_of_ble_eq_true rfl) ?_
  intro p e s m args below meth c ls Q hAt hPc hl hQ
  have hl : lv_has ls 5 [(0, .ref (ad 0 0)), (1, .double (d))] := hl
  obtain ⟨hx, hb, hml, hr, hlk, hown, hnm, htab, hts⟩ := id hAt
  obtain ⟨hK, hW⟩ := hPc
  have Z := Cx.of hAt hK
  refine lv_dload_n hx hb dX1_wrapped_0 rfl (lv_at hl 1 rfl) ?_
  refine lv_aload_n hx hb dX1_wrapped_1 rfl (lv_at hl 0 rfl) ?_
  refine g_D (x := sd) Z hW kX1 rfl 0 (by decide) q141 (show (0 : Nat) < 1 by decide) rfl hsd dX1_wrapped_2 ?_
  refine lv_dload_n hx hb dX1_wrapped_5 rfl (lv_at hl 1 rfl) ?_
  refine lv_aload_n hx hb dX1_wrapped_6 rfl (lv_at hl 0 rfl) ?_
  refine g_D (x := sd) Z hW kX1 rfl 0 (by decide) q141 (show (0 : Nat) < 1 by decide) rfl hsd dX1_wrapped_7 ?_
  have f1 : fb (46) (FP.ddiv d sd) := fb.div hd hSd.lb (by decide)
  refine lv_ddiv hx hb dX1_wrapped_10 f1.n64 ?_
  refine wx_r (wx_S (As := [.double (FP.ddiv d sd)]) (rest := [.double (sd), .double (d)]) hAt.fix (m_X1_floor l (FP.ddiv d sd) ((f1.mono (by decide)))) q236 q237 q45 q238 wn_X1_floor ⟨Nat.le_of_ble_eq_true rfl, Nat.le_of_ble_eq_true rfl, Nat.le_of_ble_eq_true rfl, Nat.le_of_ble_eq_true rfl⟩ (fun _ _ _ => trivial) hl.1 (Nat.le_of_ble_eq_true rfl) dX1_wrapped_11) (fun r hr => ?_)
  subst hr
  have f2 : fb (52) (FP.dmul sd (sFloor (FP.ddiv d sd))) := fb.mul hSd.fb (fb_floor f1 (by decide)) (by decide)
  refine lv_dmul hx hb dX1_wrapped_14 f2.n64 ?_
  have f3 : fb (53) (FP.dsub d (FP.dmul sd (sFloor (FP.ddiv d sd)))) := fb.sub hd f2 (by decide)
  refine lv_dsub hx hb dX1_wrapped_15 f3.n64 ?_
  refine lv_dstore_n (lv' := [(3, .double (FP.dsub d (FP.dmul sd (sFloor (FP.ddiv d sd))))), (0, .ref (ad 0 0)), (1, .double (d))]) hx hb dX1_wrapped_16 rfl hl (by decide) rfl (fun ls hl => ?_)
  refine lv_dload_n hx hb dX1_wrapped_17 rfl (lv_at hl 0 rfl) ?_
  refine lv_aload_n hx hb dX1_wrapped_18 rfl (lv_at hl 1 rfl) ?_
  refine g_D (x := sd) Z hW kX1 rfl 0 (by decide) q141 (show (0 : Nat) < 1 by decide) rfl hsd dX1_wrapped_19 ?_
  refine lv_dg_ge (tgt := 30) hx hb dX1_wrapped_22 dX1_wrapped_23 (by decide) (fun c4 => ?_) (fun c4 => ?_)
  · refine lv_dconst0 hx hb dX1_wrapped_30 ?_
    rw [hQ]
    exact rR_d hx hb hr hlk (if_neg c4).symm dX1_wrapped_31
  · refine lv_dload_n hx hb dX1_wrapped_26 rfl (lv_at hl 0 rfl) ?_
    refine lv_goto (tgt := 31) hx hb dX1_wrapped_27 (by decide) ?_
    rw [hQ]
    exact rR_d hx hb hr hlk (if_pos c4).symm dX1_wrapped_31
set_option maxHeartbeats 4000000 in
theorem m_X1_from (l : Launch) (A : Nat → Prop) (Dg : va_G) (dA : Nat → ClassId) (ad : Nat → Nat → Nat) (n : Nat) (nb : Nat) (nr : Nat) (no : Nat) (J : Nat → Nat → Nat) (R : Nat → Value) (D : T64) (I : T32) (D0 : T64) (hag : agD D D0) (hB : Bd n nb nr J D0) (i : Nat) (j : Nat) (hi : i < n) (hj : j < n) : MX l yX1_from cX1_from 3 none [] (rmx 3 0 0) [.ref (ad 0 0), .ref (ad 2 i), .ref (ad 2 j)] (Pw Dg dA (cW A Dg dA ad n nb nr no J R D I)) (qW (fun _ : Unit => none) (fun _ H => cW A Dg dA ad n nb nr no J R ((up2 (up2 D 34 0 (wA D0 i j)) 35 0 (wB D0 i j))) I H) A) 0 0 A := by
  refine MX.start (Nat.le_of_ble_eq_true rfl) ?_
  intro p e s m args below meth c ls Q hAt hPc hl hQ
  have hl : lv_has ls 3 [(0, .ref (ad 0 0)), (1, .ref (ad 2 i)), (2, .ref (ad 2 j))] := hl
  obtain ⟨hx, hb, hml, hr, hlk, hown, hnm, htab, hts⟩ := id hAt
  obtain ⟨hK, hW⟩ := hPc
  have Z := Cx.of hAt hK
  have hS : va_S A s.heap s.heap [] := va_S.rf
  refine lv_aload_n hx hb dX1_from_0 rfl (lv_at hl 0 rfl) ?_
  refine w_getR (v := .ref (ad 6 0)) Z hW kX1 rfl 12 (by decide) q153 (show (0 : Nat) < 1 by decide) rfl rfl dX1_from_1 ?_
  refine lv_aload_n hx hb dX1_from_4 rfl (lv_at hl 0 rfl) ?_
  refine lv_aload_n hx hb dX1_from_5 rfl (lv_at hl 2 rfl) ?_
  refine g_D (x := D0 0 j) Z hW kX6 rfl 3 (by decide) q375 (show (j : Nat) < n by omega) rfl (hag 0 j rfl) dX1_from_6 ?_
  refine lv_aload_n hx hb dX1_from_9 rfl (lv_at hl 1 rfl) ?_
  refine g_D (x := D0 0 i) Z hW kX6 rfl 3 (by decide) q375 (show (i : Nat) < n by omega) rfl (hag 0 i rfl) dX1_from_10 ?_
  have f1 : fb (6) (FP.dsub (D0 0 j) (D0 0 i)) := fb.sub (hB.x (show (j : Nat) < n by omega)) (hB.x (show (i : Nat) < n by omega)) (by decide)
  refine lv_dsub hx hb dX1_from_13 f1.n64 ?_
  refine wx_r (wx_V (As := [.double (FP.dsub (D0 0 j) (D0 0 i))]) (rest := [.ref (ad 6 0)]) hAt.fix (m_X1_shortest l A Dg dA ad n nb nr no J R D I (D0 20 0) (FP.dsub (D0 0 j) (D0 0 i)) ((hag 20 0 rfl)) hB.side ((f1.mono (by decide)))) q232 q234 qs1 q235 wn_X1_shortest ⟨Nat.le_of_ble_eq_true rfl, Nat.le_of_ble_eq_true rfl, Nat.le_of_ble_eq_true rfl, Nat.le_of_ble_eq_true rfl⟩ (w_recv hK hW kX1 rfl (show (0 : Nat) < 1 by decide)) (Pw.of hK hW) hl.1 (Nat.le_of_ble_eq_true rfl) dX1_from_14) (fun r hr => ?_)
  subst hr
  refine w_putD Z hW hS kX4 rfl 0 (by decide) (by decide) q122 rfl (show (0 : Nat) < 2 by decide) rfl rfl dX1_from_17 (fun H locs hW hS => ?_)
  refine lv_aload_n hx hb dX1_from_20 rfl (lv_at hl 0 rfl) ?_
  refine w_getR (v := .ref (ad 6 0)) Z hW kX1 rfl 12 (by decide) q153 (show (0 : Nat) < 1 by decide) rfl rfl dX1_from_21 ?_
  refine lv_aload_n hx hb dX1_from_24 rfl (lv_at hl 0 rfl) ?_
  refine lv_aload_n hx hb dX1_from_25 rfl (lv_at hl 2 rfl) ?_
  refine g_D (x := D0 1 j) Z hW kX6 rfl 4 (by decide) q377 (show (j : Nat) < n by omega) rfl ((up2_f _ _ _ _ (by decide)).trans (hag 1 j rfl)) dX1_from_26 ?_
  refine lv_aload_n hx hb dX1_from_29 rfl (lv_at hl 1 rfl) ?_
  refine g_D (x := D0 1 i) Z hW kX6 rfl 4 (by decide) q377 (show (i : Nat) < n by omega) rfl ((up2_f _ _ _ _ (by decide)).trans (hag 1 i rfl)) dX1_from_30 ?_
  have f2 : fb (6) (FP.dsub (D0 1 j) (D0 1 i)) := fb.sub (hB.y (show (j : Nat) < n by omega)) (hB.y (show (i : Nat) < n by omega)) (by decide)
  refine lv_dsub hx hb dX1_from_33 f2.n64 ?_
  refine wx_r (wx_V (As := [.double (FP.dsub (D0 1 j) (D0 1 i))]) (rest := [.ref (ad 6 0)]) hAt.fix (m_X1_shortest l A Dg dA ad n nb nr no J R ((up2 D 34 0 (sShort (D0 20 0) (FP.dsub (D0 0 j) (D0 0 i))))) I (D0 20 0) (FP.dsub (D0 1 j) (D0 1 i)) (((up2_f _ _ _ _ (by decide)).trans (hag 20 0 rfl))) hB.side ((f2.mono (by decide)))) q232 q234 qs1 q235 wn_X1_shortest ⟨Nat.le_of_ble_eq_true rfl, Nat.le_of_ble_eq_true rfl, Nat.le_of_ble_eq_true rfl, Nat.le_of_ble_eq_true rfl⟩ (w_recv hK hW kX1 rfl (show (0 : Nat) < 1 by decide)) (Pw.of hK hW) hl.1 (Nat.le_of_ble_eq_true rfl) dX1_from_34) (fun r hr => ?_)
  subst hr
  refine w_putD Z hW hS kX4 rfl 1 (by decide) (by decide) q124 rfl (show (0 : Nat) < 2 by decide) rfl rfl dX1_from_37 (fun H locs hW hS => ?_)
  rw [hQ]
  exact rW_v hx hb hr hlk hS (hW) dX1_from_40
