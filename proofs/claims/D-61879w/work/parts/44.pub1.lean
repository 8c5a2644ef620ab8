set_option maxRecDepth 100000
/-! ===== the class: public calls ===== -/
theorem agD.up0 {D D0 : T64} (h : agD D D0) {f i : Nat} {x : UInt64} (hf : cD f = false) : agD D (up2 D0 f i x) := by
  intro g j hg
  rw [up2_f _ _ _ _ (fun q => by rw [q, hf] at hg; cases hg)]
  exact h g j hg
theorem oSt_0 {D : T64} {i : Nat} {on : Int32} (h : on = 0) : oSt D i on = D := if_pos h
theorem oSt_1 {D : T64} {i : Nat} {on : Int32} (h : ¬ on = 0) : oSt D i on = up2 (up2 D 2 i FP.dconst0) 3 i FP.dconst0 := if_neg h
theorem NL.cgS {D : T64} {I : T32} {n i : Nat} {x : Int32} (h : NL D I n) : NL D (up2 I 1 i x) n := fun a ha => (h a ha).cg (S := fun f => Nat.beq f 1) (exc.rf.up rfl) rfl rfl
theorem wOK_th {D D0 : T64} {t : UInt64} (ht : Fn t) : wOK (up2 D 43 0 t) (oTh D0 t) := by
  obtain ⟨c1, c2, c3, c4⟩ := cmp_val ht fc_0.1
  have e1 : up2 D 43 0 t 43 0 = t := up2_same _ _ _ _
  have e2 : oTh D0 t 23 0 = if FP.dcmp t FP.dconst0 = some .lt then 13830554455654793216 else t := up2_same _ _ _ _
  unfold wOK
  rw [e1, e2]
  by_cases hl : FP.dcmp t FP.dconst0 = some .lt
  · rw [if_pos hl]
    refine ⟨fun q => ?_, fun _ q => ?_⟩
    · unfold fge at q; rw [hl] at q; rcases q with q | q <;> cases q
    · revert q; unfold fge; decide +kernel
  · rw [if_neg hl]
    exact ⟨fun _ => rfl, fun q => q⟩
/-- a number of eighths -/
def E8 (t : UInt64) : Prop := Fn t ∧ ∃ k : Int, rv t * 8 = (k : Rat)
theorem okT_of {t : UInt64} (h : E8 t) (hs : okSc t) : okT t := by
  obtain ⟨h1, k, hk⟩ := h
  refine ⟨h1, ?_⟩
  obtain ⟨s1, s2⟩ := hs
  obtain ⟨c1, c2, c3, c4⟩ := cmp_val h1 fc_0.1
  obtain ⟨d1, d2, d3, d4⟩ := cmp_val h1 fc_4652007308841189376.1
  rw [rv_0] at c2 c3
  have ev : rv 4652007308841189376 = 1000 := by
    rw [rv_fin vc_4652007308841189376]
    simp only [sg, Bool.false_eq_true, if_false, Rat.one_mul]
    have : p2 (-43) * p2 43 = 1 := p2_sub 43
    have e43 : p2 43 = ((8796093022208 : Nat) : Rat) := (p2_nat 43).trans (by decide +kernel)
    rw [e43] at this
    have e : ((8796093022208000 : Nat) : Rat) = ((8796093022208 : Nat) : Rat) * 1000 := by norm_cast
    rw [e]
    grind
  have a0 : 0 ≤ rv t := by
    rcases s1 with q | q
    · have := c3.mp q; grind
    · have := c2.mp q; grind
  have a1 : rv t ≤ 1000 := by
    rcases s2 with q | q
    · have := d1.mp q; rw [ev] at this; grind
    · have := d2.mp q; rw [ev] at this; grind
  by_cases h0 : k ≤ 0
  · left
    have : ((k : Int) : Rat) ≤ 0 := by exact_mod_cast h0
    grind
  · right
    have h3 : (1 : Int) ≤ k := by omega
    have : ((1 : Int) : Rat) ≤ ((k : Int) : Rat) := by exact_mod_cast h3
    have e1 : ((1 : Int) : Rat) = 1 := rfl
    rw [e1] at this
    grind
set_option maxHeartbeats 4000000 in
theorem m_C_place (l : Launch) (hfl : l.flags = flags0) (A : Nat → Prop) (Dg : va_G) (dA : Nat → ClassId) (x : Nat) (n : Nat) (nb : Nat) (nr : Nat) (J : Jt) (D0 : T64) (I0 : T32) (hI : Inv n nb nr J D0 I0) (k : Int32) (px : UInt64) (py : UInt64) (fx : fb 28 px) (fy : fb 28 py) : MX l yX1_place cX1_place 7 none [] (rmx 9 1 6) [.ref (x), .int (k), .double (px), .double (py)] (Px A Dg dA (CS A Dg dA x n nb nr J D0 I0)) (qX (fun _ : Unit => none) (fun _ H => okXY k n px py ∧ CS A Dg dA x n nb nr J ((oPl D0 (ix k) px py)) ((oUl I0)) H) (fun C H => (¬ okXY k n px py ∧ C = "java/lang/IllegalArgumentException") ∧ CS A Dg dA x n nb nr J D0 I0 H) A) 0 0 A := by
  refine MX.start (Nat.le_of_ble_eq_true rfl) ?_
  intro p e s m args below meth c ls Q hAt hPc hl hQ
  have hl : lv_has ls 7 [(0, .ref (x)), (1, .int (k)), (2, .double (px)), (4, .double (py))] := hl
  obtain ⟨hx, hb, hml, hr, hlk, hown, hnm, htab, hts⟩ := id hAt
  obtain ⟨hK, hst, hA, hW⟩ := hPc
  have Z := Cx.of hAt hK
  have hS : va_S A s.heap s.heap [] := va_S.rf
  obtain ⟨ad, D, I, R, rfl, hW, hag, hagI, hwo, hNL⟩ := hW
  have hB := hI.bd
  have hn10 := hB.n10
  have hn : I 20 0 = nI n := (hagI 20 0 rfl).trans hI.cn.1
  refine lv_aload_n hx hb dX1_place_0 rfl (lv_at hl 0 rfl) ?_
  refine lv_iload_n hx hb dX1_place_1 rfl (lv_at hl 1 rfl) ?_
  refine wx_x (wx_V (As := [.int (k)]) (rest := []) hAt.fix (m_X1_at l hfl A Dg dA ad n nb nr 0 J R D I k hn hn10) q432 q434 qs5 q435 wn_X1_at ⟨Nat.le_of_ble_eq_true rfl, Nat.le_of_ble_eq_true rfl, Nat.le_of_ble_eq_true rfl, Nat.le_of_ble_eq_true rfl⟩ (w_recv hK hW kX1 rfl (show (0 : Nat) < 1 by decide)) (Px.of hK hst hA hS hW) hl.1 (Nat.le_of_ble_eq_true rfl) dX1_place_2) hS (fun r H locs hW hz hS => ?_) (fun x C H locs hp hE hz hS => ?_)
  rotate_left
  · rw [hQ]
    obtain ⟨⟨hno, rfl⟩, hW⟩ := hp
    exact rT_x hlk htab rfl hS hE ⟨⟨fun q => hno q.1, rfl⟩, ⟨ad, _, _, _, rfl, hW, hag, hagI, hwo, hNL⟩⟩
  obtain ⟨⟨i, hi, rfl, rfl⟩, hW⟩ := hW
  refine lv_astore (lv' := [(6, .ref (ad 2 i)), (0, .ref (ad 0 0)), (1, .int (nI i)), (2, .double (px)), (4, .double (py))]) hx hb dX1_place_5 hl (by decide) rfl (fun ls hl => ?_)
  refine lv_dload_n hx hb dX1_place_7 rfl (lv_at hl 3 rfl) ?_
  refine lv_ldc2d (v := 13875379345695965184) hx hb hown (hts _ (lw_car_all q264)) dX1_place_8 ?_
  refine lv_ldc2d (v := 4652007308841189376) hx hb hown (hts _ (lw_car_all q265)) dX1_place_11 ?_
  refine wx_r (wx_S (As := [.double (px), .double (13875379345695965184), .double (4652007308841189376)]) (rest := []) hAt.fix (m_X1_within l px 13875379345695965184 4652007308841189376) q266 q267 q45 q268 wn_X1_within ⟨Nat.le_of_ble_eq_true rfl, Nat.le_of_ble_eq_true rfl, Nat.le_of_ble_eq_true rfl, Nat.le_of_ble_eq_true rfl⟩ (fun _ _ _ => trivial) hl.1 (Nat.le_of_ble_eq_true rfl) dX1_place_14) (fun r hr => ?_)
  rcases hr with ⟨rfl, hq⟩ | ⟨rfl, hq⟩
  · have q1 := hq
    refine lv_if_eq (tgt := 38) hx hb dX1_place_17 (by decide) (fun h => absurd h (by decide)) (fun _ => ?_)
    refine lv_dload hx hb dX1_place_20 (lv_at hl 4 rfl) ?_
    refine lv_ldc2d (v := 13875379345695965184) hx hb hown (hts _ (lw_car_all q264)) dX1_place_22 ?_
    refine lv_ldc2d (v := 4652007308841189376) hx hb hown (hts _ (lw_car_all q265)) dX1_place_25 ?_
    refine wx_r (wx_S (As := [.double (py), .double (13875379345695965184), .double (4652007308841189376)]) (rest := []) hAt.fix (m_X1_within l py 13875379345695965184 4652007308841189376) q266 q267 q45 q268 wn_X1_within ⟨Nat.le_of_ble_eq_true rfl, Nat.le_of_ble_eq_true rfl, Nat.le_of_ble_eq_true rfl, Nat.le_of_ble_eq_true rfl⟩ (fun _ _ _ => trivial) hl.1 (Nat.le_of_ble_eq_true rfl) dX1_place_28) (fun r hr => ?_)
    rcases hr with ⟨rfl, hq⟩ | ⟨rfl, hq⟩
    · have q3 := hq
      refine lv_if_eq (tgt := 38) hx hb dX1_place_31 (by decide) (fun h => absurd h (by decide)) (fun _ => ?_)
      refine lv_iconst (v := nI 1) hx hb dX1_place_34 rfl ?_
      refine lv_goto (tgt := 39) hx hb dX1_place_35 (by decide) ?_
      refine wx_x (wx_S (As := [.int (nI 1)]) (rest := []) hAt.fix (m_X1_check l hfl A Dg dA ((fun H => cW A Dg dA ad n nb nr 0 J R D I H)) gr_W (nI 1)) q271 q272 q45 q273 wn_X1_check ⟨Nat.le_of_ble_eq_true rfl, Nat.le_of_ble_eq_true rfl, Nat.le_of_ble_eq_true rfl, Nat.le_of_ble_eq_true rfl⟩ (Px.of hK hst hA hS hW) hl.1 (Nat.le_of_ble_eq_true rfl) dX1_place_39) hS (fun r H locs hW hz hS => ?_) (fun x C H locs hp hE hz hS => ?_)
      rotate_left
      · exact absurd hp.1.1 (by decide)
      replace hW := hW.2
      refine lv_aload hx hb dX1_place_42 (lv_at hl 0 rfl) ?_
      refine lv_aload_n hx hb dX1_place_44 rfl (lv_at hl 1 rfl) ?_
      refine lv_dload_n hx hb dX1_place_45 rfl (lv_at hl 3 rfl) ?_
      refine wx_r (wx_V (As := [.double (px)]) (rest := [.ref (ad 2 i)]) hAt.fix (m_X1_wrapped l A Dg dA ad n nb nr 0 J R D I (D0 20 0) px ((hag 20 0 rfl)) hB.side ((fx.mono (by decide)))) q421 q423 qs4 q424 wn_X1_wrapped ⟨Nat.le_of_ble_eq_true rfl, Nat.le_of_ble_eq_true rfl, Nat.le_of_ble_eq_true rfl, Nat.le_of_ble_eq_true rfl⟩ (w_recv hK hW kX1 rfl (show (0 : Nat) < 1 by decide)) (Pw.of hK hW) hl.1 (Nat.le_of_ble_eq_true rfl) dX1_place_46) (fun r hr => ?_)
      subst hr
      refine w_putD Z hW hS kX6 rfl 3 (by decide) (by decide) q375 rfl (show (i : Nat) < n by omega) rfl rfl dX1_place_49 (fun H locs hW hS => ?_)
      refine lv_aload hx hb dX1_place_52 (lv_at hl 0 rfl) ?_
      refine lv_aload_n hx hb dX1_place_54 rfl (lv_at hl 1 rfl) ?_
      refine lv_dload hx hb dX1_place_55 (lv_at hl 4 rfl) ?_
      refine wx_r (wx_V (As := [.double (py)]) (rest := [.ref (ad 2 i)]) hAt.fix (m_X1_wrapped l A Dg dA ad n nb nr 0 J R ((up2 D 0 i (sWrap (D0 20 0) px))) I (D0 20 0) py (((up2_f _ _ _ _ (by decide)).trans (hag 20 0 rfl))) hB.side ((fy.mono (by decide)))) q421 q423 qs4 q424 wn_X1_wrapped ⟨Nat.le_of_ble_eq_true rfl, Nat.le_of_ble_eq_true rfl, Nat.le_of_ble_eq_true rfl, Nat.le_of_ble_eq_true rfl⟩ (w_recv hK hW kX1 rfl (show (0 : Nat) < 1 by decide)) (Pw.of hK hW) hl.1 (Nat.le_of_ble_eq_true rfl) dX1_place_57) (fun r hr => ?_)
      subst hr
      refine w_putD Z hW hS kX6 rfl 4 (by decide) (by decide) q377 rfl (show (i : Nat) < n by omega) rfl rfl dX1_place_60 (fun H locs hW hS => ?_)
      refine lv_aload_n hx hb dX1_place_63 rfl (lv_at hl 1 rfl) ?_
      refine lv_iconst (v := nI 0) hx hb dX1_place_64 rfl ?_
      refine w_putI Z hW hS kX1 rfl 16 (by decide) (by decide) q157 rfl (show (0 : Nat) < 1 by decide) rfl rfl rfl dX1_place_65 (fun H locs hW hS => ?_)
      rw [hQ]
      exact rX (rW_v hx hb hr hlk hS (by rw [ix_nI (by omega)]; exact ⟨⟨⟨i, hi, rfl⟩, q1, q3⟩, ad, _, _, _, rfl, hW, (hag.put 0 i _).put 1 i _, hagI.put 23 0 _, hwo.cg rfl rfl, NL_0 rfl⟩) dX1_place_68)
    · have q5 := hq
      refine lv_if_eq (tgt := 38) hx hb dX1_place_31 (by decide) (fun _ => ?_) (fun h => absurd nI_0 h)
      refine lv_iconst (v := nI 0) hx hb dX1_place_38 rfl ?_
      refine wx_x (wx_S (As := [.int (nI 0)]) (rest := []) hAt.fix (m_X1_check l hfl A Dg dA ((fun H => cW A Dg dA ad n nb nr 0 J R D I H)) gr_W (nI 0)) q271 q272 q45 q273 wn_X1_check ⟨Nat.le_of_ble_eq_true rfl, Nat.le_of_ble_eq_true rfl, Nat.le_of_ble_eq_true rfl, Nat.le_of_ble_eq_true rfl⟩ (Px.of hK hst hA hS hW) hl.1 (Nat.le_of_ble_eq_true rfl) dX1_place_39) hS (fun r H locs hW hz hS => ?_) (fun x C H locs hp hE hz hS => ?_)
      · exact absurd nI_0 hW.1
      · rw [hQ]
        obtain ⟨⟨-, rfl⟩, hW⟩ := hp
        exact rT_x hlk htab rfl hS hE (⟨⟨fun q => q5 q.2.2, rfl⟩, ⟨ad, _, _, _, rfl, hW, hag, hagI, hwo, hNL⟩⟩)
  · have q7 := hq
    refine lv_if_eq (tgt := 38) hx hb dX1_place_17 (by decide) (fun _ => ?_) (fun h => absurd nI_0 h)
    refine lv_iconst (v := nI 0) hx hb dX1_place_38 rfl ?_
    refine wx_x (wx_S (As := [.int (nI 0)]) (rest := []) hAt.fix (m_X1_check l hfl A Dg dA ((fun H => cW A Dg dA ad n nb nr 0 J R D I H)) gr_W (nI 0)) q271 q272 q45 q273 wn_X1_check ⟨Nat.le_of_ble_eq_true rfl, Nat.le_of_ble_eq_true rfl, Nat.le_of_ble_eq_true rfl, Nat.le_of_ble_eq_true rfl⟩ (Px.of hK hst hA hS hW) hl.1 (Nat.le_of_ble_eq_true rfl) dX1_place_39) hS (fun r H locs hW hz hS => ?_) (fun x C H locs hp hE hz hS => ?_)
    · exact absurd nI_0 hW.1
    · rw [hQ]
      obtain ⟨⟨-, rfl⟩, hW⟩ := hp
      exact rT_x hlk htab rfl hS hE (⟨⟨fun q => q7 q.2.1, rfl⟩, ⟨ad, _, _, _, rfl, hW, hag, hagI, hwo, hNL⟩⟩)
set_option maxHeartbeats 4000000 in
theorem m_C_speed (l : Launch) (hfl : l.flags = flags0) (A : Nat → Prop) (Dg : va_G) (dA : Nat → ClassId) (x : Nat) (n : Nat) (nb : Nat) (nr : Nat) (J : Jt) (D0 : T64) (I0 : T32) (hI : Inv n nb nr J D0 I0) (k : Int32) (pu : UInt64) (pv : UInt64) : MX l yX1_speed cX1_speed 7 none [] (rmx 9 1 6) [.ref (x), .int (k), .double (pu), .double (pv)] (Px A Dg dA (CS A Dg dA x n nb nr J D0 I0)) (qX (fun _ : Unit => none) (fun _ H => okXY k n pu pv ∧ CS A Dg dA x n nb nr J ((oSp D0 (ix k) pu pv)) I0 H) (fun C H => (¬ okXY k n pu pv ∧ C = "java/lang/IllegalArgumentException") ∧ CS A Dg dA x n nb nr J D0 I0 H) A) 0 0 A := by
  refine MX.start (Nat.le_of_ble_eq_true rfl) ?_
  intro p e s m args below meth c ls Q hAt hPc hl hQ
  have hl : lv_has ls 7 [(0, .ref (x)), (1, .int (k)), (2, .double (pu)), (4, .double (pv))] := hl
  obtain ⟨hx, hb, hml, hr, hlk, hown, hnm, htab, hts⟩ := id hAt
  obtain ⟨hK, hst, hA, hW⟩ := hPc
  have Z := Cx.of hAt hK
  have hS : va_S A s.heap s.heap [] := va_S.rf
  obtain ⟨ad, D, I, R, rfl, hW, hag, hagI, hwo, hNL⟩ := hW
  have hB := hI.bd
  have hn10 := hB.n10
  have hn : I 20 0 = nI n := (hagI 20 0 rfl).trans hI.cn.1
  refine lv_aload_n hx hb dX1_speed_0 rfl (lv_at hl 0 rfl) ?_
  refine lv_iload_n hx hb dX1_speed_1 rfl (lv_at hl 1 rfl) ?_
  refine wx_x (wx_V (As := [.int (k)]) (rest := []) hAt.fix (m_X1_at l hfl A Dg dA ad n nb nr 0 J R D I k hn hn10) q432 q434 qs5 q435 wn_X1_at ⟨Nat.le_of_ble_eq_true rfl, Nat.le_of_ble_eq_true rfl, Nat.le_of_ble_eq_true rfl, Nat.le_of_ble_eq_true rfl⟩ (w_recv hK hW kX1 rfl (show (0 : Nat) < 1 by decide)) (Px.of hK hst hA hS hW) hl.1 (Nat.le_of_ble_eq_true rfl) dX1_speed_2) hS (fun r H locs hW hz hS => ?_) (fun x C H locs hp hE hz hS => ?_)
  rotate_left
  · rw [hQ]
    obtain ⟨⟨hno, rfl⟩, hW⟩ := hp
    exact rT_x hlk htab rfl hS hE ⟨⟨fun q => hno q.1, rfl⟩, ⟨ad, _, _, _, rfl, hW, hag, hagI, hwo, hNL⟩⟩
  obtain ⟨⟨i, hi, rfl, rfl⟩, hW⟩ := hW
  refine lv_astore (lv' := [(6, .ref (ad 2 i)), (0, .ref (ad 0 0)), (1, .int (nI i)), (2, .double (pu)), (4, .double (pv))]) hx hb dX1_speed_5 hl (by decide) rfl (fun ls hl => ?_)
  refine lv_dload_n hx hb dX1_speed_7 rfl (lv_at hl 3 rfl) ?_
  refine lv_ldc2d (v := 13875379345695965184) hx hb hown (hts _ (lw_car_all q264)) dX1_speed_8 ?_
  refine lv_ldc2d (v := 4652007308841189376) hx hb hown (hts _ (lw_car_all q265)) dX1_speed_11 ?_
  refine wx_r (wx_S (As := [.double (pu), .double (13875379345695965184), .double (4652007308841189376)]) (rest := []) hAt.fix (m_X1_within l pu 13875379345695965184 4652007308841189376) q266 q267 q45 q268 wn_X1_within ⟨Nat.le_of_ble_eq_true rfl, Nat.le_of_ble_eq_true rfl, Nat.le_of_ble_eq_true rfl, Nat.le_of_ble_eq_true rfl⟩ (fun _ _ _ => trivial) hl.1 (Nat.le_of_ble_eq_true rfl) dX1_speed_14) (fun r hr => ?_)
  rcases hr with ⟨rfl, hq⟩ | ⟨rfl, hq⟩
  · have q1 := hq
    refine lv_if_eq (tgt := 38) hx hb dX1_speed_17 (by decide) (fun h => absurd h (by decide)) (fun _ => ?_)
    refine lv_dload hx hb dX1_speed_20 (lv_at hl 4 rfl) ?_
    refine lv_ldc2d (v := 13875379345695965184) hx hb hown (hts _ (lw_car_all q264)) dX1_speed_22 ?_
    refine lv_ldc2d (v := 4652007308841189376) hx hb hown (hts _ (lw_car_all q265)) dX1_speed_25 ?_
    refine wx_r (wx_S (As := [.double (pv), .double (13875379345695965184), .double (4652007308841189376)]) (rest := []) hAt.fix (m_X1_within l pv 13875379345695965184 4652007308841189376) q266 q267 q45 q268 wn_X1_within ⟨Nat.le_of_ble_eq_true rfl, Nat.le_of_ble_eq_true rfl, Nat.le_of_ble_eq_true rfl, Nat.le_of_ble_eq_true rfl⟩ (fun _ _ _ => trivial) hl.1 (Nat.le_of_ble_eq_true rfl) dX1_speed_28) (fun r hr => ?_)
    rcases hr with ⟨rfl, hq⟩ | ⟨rfl, hq⟩
    · have q3 := hq
      refine lv_if_eq (tgt := 38) hx hb dX1_speed_31 (by decide) (fun h => absurd h (by decide)) (fun _ => ?_)
      refine lv_iconst (v := nI 1) hx hb dX1_speed_34 rfl ?_
      refine lv_goto (tgt := 39) hx hb dX1_speed_35 (by decide) ?_
      refine wx_x (wx_S (As := [.int (nI 1)]) (rest := []) hAt.fix (m_X1_check l hfl A Dg dA ((fun H => cW A Dg dA ad n nb nr 0 J R D I H)) gr_W (nI 1)) q271 q272 q45 q273 wn_X1_check ⟨Nat.le_of_ble_eq_true rfl, Nat.le_of_ble_eq_true rfl, Nat.le_of_ble_eq_true rfl, Nat.le_of_ble_eq_true rfl⟩ (Px.of hK hst hA hS hW) hl.1 (Nat.le_of_ble_eq_true rfl) dX1_speed_39) hS (fun r H locs hW hz hS => ?_) (fun x C H locs hp hE hz hS => ?_)
      rotate_left
      · exact absurd hp.1.1 (by decide)
      replace hW := hW.2
      refine lv_aload hx hb dX1_speed_42 (lv_at hl 0 rfl) ?_
      refine lv_dload_n hx hb dX1_speed_44 rfl (lv_at hl 3 rfl) ?_
      refine w_putD Z hW hS kX6 rfl 5 (by decide) (by decide) q379 rfl (show (i : Nat) < n by omega) rfl rfl dX1_speed_45 (fun H locs hW hS => ?_)
      refine lv_aload hx hb dX1_speed_48 (lv_at hl 0 rfl) ?_
      refine lv_dload hx hb dX1_speed_50 (lv_at hl 4 rfl) ?_
      refine w_putD Z hW hS kX6 rfl 6 (by decide) (by decide) q381 rfl (show (i : Nat) < n by omega) rfl rfl dX1_speed_52 (fun H locs hW hS => ?_)
      rw [hQ]
      exact rX (rW_v hx hb hr hlk hS (by rw [ix_nI (by omega)]; exact ⟨⟨⟨i, hi, rfl⟩, q1, q3⟩, ad, _, _, _, rfl, hW, (hag.put 2 i _).put 3 i _, hagI, hwo.cg rfl rfl, fun q => (hNL q).cg ((exc.rf.up rfl).up rfl) exc.rf⟩) dX1_speed_55)
    · have q5 := hq
      refine lv_if_eq (tgt := 38) hx hb dX1_speed_31 (by decide) (fun _ => ?_) (fun h => absurd nI_0 h)
      refine lv_iconst (v := nI 0) hx hb dX1_speed_38 rfl ?_
      refine wx_x (wx_S (As := [.int (nI 0)]) (rest := []) hAt.fix (m_X1_check l hfl A Dg dA ((fun H => cW A Dg dA ad n nb nr 0 J R D I H)) gr_W (nI 0)) q271 q272 q45 q273 wn_X1_check ⟨Nat.le_of_ble_eq_true rfl, Nat.le_of_ble_eq_true rfl, Nat.le_of_ble_eq_true rfl, Nat.le_of_ble_eq_true rfl⟩ (Px.of hK hst hA hS hW) hl.1 (Nat.le_of_ble_eq_true rfl) dX1_speed_39) hS (fun r H locs hW hz hS => ?_) (fun x C H locs hp hE hz hS => ?_)
      · exact absurd nI_0 hW.1
      · rw [hQ]
        obtain ⟨⟨-, rfl⟩, hW⟩ := hp
        exact rT_x hlk htab rfl hS hE (⟨⟨fun q => q5 q.2.2, rfl⟩, ⟨ad, _, _, _, rfl, hW, hag, hagI, hwo, hNL⟩⟩)
  · have q7 := hq
    refine lv_if_eq (tgt := 38) hx hb dX1_speed_17 (by decide) (fun _ => ?_) (fun h => absurd nI_0 h)
    refine lv_iconst (v := nI 0) hx hb dX1_speed_38 rfl ?_
    refine wx_x (wx_S (As := [.int (nI 0)]) (rest := []) hAt.fix (m_X1_check l hfl A Dg dA ((fun H => cW A Dg dA ad n nb nr 0 J R D I H)) gr_W (nI 0)) q271 q272 q45 q273 wn_X1_check ⟨Nat.le_of_ble_eq_true rfl, Nat.le_of_ble_eq_true rfl, Nat.le_of_ble_eq_true rfl, Nat.le_of_ble_eq_true rfl⟩ (Px.of hK hst hA hS hW) hl.1 (Nat.le_of_ble_eq_true rfl) dX1_speed_39) hS (fun r H locs hW hz hS => ?_) (fun x C H locs hp hE hz hS => ?_)
    · exact absurd nI_0 hW.1
    · rw [hQ]
      obtain ⟨⟨-, rfl⟩, hW⟩ := hp
      exact rT_x hlk htab rfl hS hE (⟨⟨fun q => q7 q.2.1, rfl⟩, ⟨ad, _, _, _, rfl, hW, hag, hagI, hwo, hNL⟩⟩)
set_option maxHeartbeats 4000000 in
theorem m_C_sort (l : Launch) (hfl : l.flags = flags0) (A : Nat → Prop) (Dg : va_G) (dA : Nat → ClassId) (x : Nat) (n : Nat) (nb : Nat) (nr : Nat) (J : Jt) (D0 : T64) (I0 : T32) (hI : Inv n nb nr J D0 I0) (k : Int32) (w : UInt64) (d : UInt64) (ch : UInt64) : MX l yX1_sort cX1_sort 8 none [] (rmx 9 1 6) [.ref (x), .int (k), .double (w), .double (d), .double (ch)] (Px A Dg dA (CS A Dg dA x n nb nr J D0 I0)) (qX (fun _ : Unit => none) (fun _ H => okSo k w d ch ∧ CS A Dg dA x n nb nr J ((oSo D0 (ix k) w d ch)) I0 H) (fun C H => (¬ okSo k w d ch ∧ C = "java/lang/IllegalArgumentException") ∧ CS A Dg dA x n nb nr J D0 I0 H) A) 0 0 A := by
  refine MX.start (Nat.le_of_ble_eq_true rfl) ?_
  intro p e s m args below meth c ls Q hAt hPc hl hQ
  have hl : lv_has ls 8 [(0, .ref (x)), (1, .int (k)), (2, .double (w)), (4, .double (d)), (6, .double (ch))] := hl
  obtain ⟨hx, hb, hml, hr, hlk, hown, hnm, htab, hts⟩ := id hAt
  obtain ⟨hK, hst, hA, hW⟩ := hPc
  have Z := Cx.of hAt hK
  have hS : va_S A s.heap s.heap [] := va_S.rf
  obtain ⟨ad, D, I, R, rfl, hW, hag, hagI, hwo, hNL⟩ := hW
  have hB := hI.bd
  have hn10 := hB.n10
  have hn : I 20 0 = nI n := (hagI 20 0 rfl).trans hI.cn.1
  refine lv_iload_n hx hb dX1_sort_0 rfl (lv_at hl 1 rfl) ?_
  refine lv_if_lt (tgt := 52) hx hb dX1_sort_1 (by decide) (fun c1 => ?_) (fun c1 => ?_)
  · refine lv_iconst (v := nI 0) hx hb dX1_sort_52 rfl ?_
    refine wx_x (wx_S (As := [.int (nI 0)]) (rest := []) hAt.fix (m_X1_check l hfl A Dg dA ((fun H => cW A Dg dA ad n nb nr 0 J R D I H)) gr_W (nI 0)) q271 q272 q45 q273 wn_X1_check ⟨Nat.le_of_ble_eq_true rfl, Nat.le_of_ble_eq_true rfl, Nat.le_of_ble_eq_true rfl, Nat.le_of_ble_eq_true rfl⟩ (Px.of hK hst hA hS hW) hl.1 (Nat.le_of_ble_eq_true rfl) dX1_sort_53) hS (fun r H locs hW hz hS => ?_) (fun x C H locs hp hE hz hS => ?_)
    · exact absurd nI_0 hW.1
    · rw [hQ]
      obtain ⟨⟨-, rfl⟩, hW⟩ := hp
      exact rT_x hlk htab rfl hS hE (⟨⟨fun q => q.1.1 c1, rfl⟩, ⟨ad, _, _, _, rfl, hW, hag, hagI, hwo, hNL⟩⟩)
  · refine lv_iload_n hx hb dX1_sort_4 rfl (lv_at hl 1 rfl) ?_
    refine lv_iconst (v := nI 3) hx hb dX1_sort_5 rfl ?_
    refine lv_icmp_ge (tgt := 52) hx hb dX1_sort_6 (by decide) (fun c2 => ?_) (fun c2 => ?_)
    · refine lv_iconst (v := nI 0) hx hb dX1_sort_52 rfl ?_
      refine wx_x (wx_S (As := [.int (nI 0)]) (rest := []) hAt.fix (m_X1_check l hfl A Dg dA ((fun H => cW A Dg dA ad n nb nr 0 J R D I H)) gr_W (nI 0)) q271 q272 q45 q273 wn_X1_check ⟨Nat.le_of_ble_eq_true rfl, Nat.le_of_ble_eq_true rfl, Nat.le_of_ble_eq_true rfl, Nat.le_of_ble_eq_true rfl⟩ (Px.of hK hst hA hS hW) hl.1 (Nat.le_of_ble_eq_true rfl) dX1_sort_53) hS (fun r H locs hW hz hS => ?_) (fun x C H locs hp hE hz hS => ?_)
      · exact absurd nI_0 hW.1
      · rw [hQ]
        obtain ⟨⟨-, rfl⟩, hW⟩ := hp
        exact rT_x hlk htab rfl hS hE (⟨⟨fun q => q.1.2 c2, rfl⟩, ⟨ad, _, _, _, rfl, hW, hag, hagI, hwo, hNL⟩⟩)
    · refine lv_dload_n hx hb dX1_sort_9 rfl (lv_at hl 2 rfl) ?_
      refine lv_ldc2d (v := 4593671619917905920) hx hb hown (hts _ (lw_car_all q269)) dX1_sort_10 ?_
      refine lv_ldc2d (v := 4616189618054758400) hx hb hown (hts _ (lw_car_all q450)) dX1_sort_13 ?_
      refine wx_r (wx_S (As := [.double (w), .double (4593671619917905920), .double (4616189618054758400)]) (rest := []) hAt.fix (m_X1_within l w 4593671619917905920 4616189618054758400) q266 q267 q45 q268 wn_X1_within ⟨Nat.le_of_ble_eq_true rfl, Nat.le_of_ble_eq_true rfl, Nat.le_of_ble_eq_true rfl, Nat.le_of_ble_eq_true rfl⟩ (fun _ _ _ => trivial) hl.1 (Nat.le_of_ble_eq_true rfl) dX1_sort_16) (fun r hr => ?_)
      rcases hr with ⟨rfl, hq⟩ | ⟨rfl, hq⟩
      · have q3 := hq
        refine lv_if_eq (tgt := 52) hx hb dX1_sort_19 (by decide) (fun h => absurd h (by decide)) (fun _ => ?_)
        refine lv_dload hx hb dX1_sort_22 (lv_at hl 3 rfl) ?_
        refine lv_dconst0 hx hb dX1_sort_24 ?_
        refine lv_ldc2d (v := 4634204016564240384) hx hb hown (hts _ (lw_car_all q270)) dX1_sort_25 ?_
        refine wx_r (wx_S (As := [.double (d), .double (FP.dconst0), .double (4634204016564240384)]) (rest := []) hAt.fix (m_X1_within l d FP.dconst0 4634204016564240384) q266 q267 q45 q268 wn_X1_within ⟨Nat.le_of_ble_eq_true rfl, Nat.le_of_ble_eq_true rfl, Nat.le_of_ble_eq_true rfl, Nat.le_of_ble_eq_true rfl⟩ (fun _ _ _ => trivial) hl.1 (Nat.le_of_ble_eq_true rfl) dX1_sort_28) (fun r hr => ?_)
        rcases hr with ⟨rfl, hq⟩ | ⟨rfl, hq⟩
        · have q5 := hq
          refine lv_if_eq (tgt := 52) hx hb dX1_sort_31 (by decide) (fun h => absurd h (by decide)) (fun _ => ?_)
          refine lv_dload hx hb dX1_sort_34 (lv_at hl 4 rfl) ?_
          refine lv_ldc2d (v := 13844065254536904704) hx hb hown (hts _ (lw_car_all q451)) dX1_sort_36 ?_
          refine lv_ldc2d (v := 4620693217682128896) hx hb hown (hts _ (lw_car_all q452)) dX1_sort_39 ?_
          refine wx_r (wx_S (As := [.double (ch), .double (13844065254536904704), .double (4620693217682128896)]) (rest := []) hAt.fix (m_X1_within l ch 13844065254536904704 4620693217682128896) q266 q267 q45 q268 wn_X1_within ⟨Nat.le_of_ble_eq_true rfl, Nat.le_of_ble_eq_true rfl, Nat.le_of_ble_eq_true rfl, Nat.le_of_ble_eq_true rfl⟩ (fun _ _ _ => trivial) hl.1 (Nat.le_of_ble_eq_true rfl) dX1_sort_42) (fun r hr => ?_)
          rcases hr with ⟨rfl, hq⟩ | ⟨rfl, hq⟩
          · have q7 := hq
            refine lv_if_eq (tgt := 52) hx hb dX1_sort_45 (by decide) (fun h => absurd h (by decide)) (fun _ => ?_)
            refine lv_iconst (v := nI 1) hx hb dX1_sort_48 rfl ?_
            refine lv_goto (tgt := 53) hx hb dX1_sort_49 (by decide) ?_
            refine wx_x (wx_S (As := [.int (nI 1)]) (rest := []) hAt.fix (m_X1_check l hfl A Dg dA ((fun H => cW A Dg dA ad n nb nr 0 J R D I H)) gr_W (nI 1)) q271 q272 q45 q273 wn_X1_check ⟨Nat.le_of_ble_eq_true rfl, Nat.le_of_ble_eq_true rfl, Nat.le_of_ble_eq_true rfl, Nat.le_of_ble_eq_true rfl⟩ (Px.of hK hst hA hS hW) hl.1 (Nat.le_of_ble_eq_true rfl) dX1_sort_53) hS (fun r H locs hW hz hS => ?_) (fun x C H locs hp hE hz hS => ?_)
            rotate_left
            · exact absurd hp.1.1 (by decide)
            replace hW := hW.2
            have hok : okSo k w d ch := ⟨⟨c1, c2⟩, q3, q5, q7⟩
            obtain ⟨i, hi, rfl⟩ := ok3_of hok.1
            refine lv_aload_n hx hb dX1_sort_56 rfl (lv_at hl 0 rfl) ?_
            refine w_getR (v := .ref (ad 10 0)) Z hW kX1 rfl 4 (by decide) q145 (show (0 : Nat) < 1 by decide) rfl rfl dX1_sort_57 ?_
            refine lv_iload_n hx hb dX1_sort_60 rfl (lv_at hl 1 rfl) ?_
            refine a_R (j := i) (v := .ref (ad 1 i)) (ix := i) Z hW rfl (show (0 : Nat) < 1 by decide) (by omega) (by decide) rfl rfl rfl rfl rfl dX1_sort_61 ?_
            refine lv_dload_n hx hb dX1_sort_62 rfl (lv_at hl 2 rfl) ?_
            refine w_putD Z hW hS kX2 rfl 0 (by decide) (by decide) q80 rfl (show (i : Nat) < 3 by omega) rfl rfl dX1_sort_63 (fun H locs hW hS => ?_)
            refine lv_aload_n hx hb dX1_sort_66 rfl (lv_at hl 0 rfl) ?_
            refine w_getR (v := .ref (ad 10 0)) Z hW kX1 rfl 4 (by decide) q145 (show (0 : Nat) < 1 by decide) rfl rfl dX1_sort_67 ?_
            refine lv_iload_n hx hb dX1_sort_70 rfl (lv_at hl 1 rfl) ?_
            refine a_R (j := i) (v := .ref (ad 1 i)) (ix := i) Z hW rfl (show (0 : Nat) < 1 by decide) (by omega) (by decide) rfl rfl rfl rfl rfl dX1_sort_71 ?_
            refine lv_dload hx hb dX1_sort_72 (lv_at hl 3 rfl) ?_
            refine w_putD Z hW hS kX2 rfl 1 (by decide) (by decide) q83 rfl (show (i : Nat) < 3 by omega) rfl rfl dX1_sort_74 (fun H locs hW hS => ?_)
            refine lv_aload_n hx hb dX1_sort_77 rfl (lv_at hl 0 rfl) ?_
            refine w_getR (v := .ref (ad 10 0)) Z hW kX1 rfl 4 (by decide) q145 (show (0 : Nat) < 1 by decide) rfl rfl dX1_sort_78 ?_
            refine lv_iload_n hx hb dX1_sort_81 rfl (lv_at hl 1 rfl) ?_
            refine a_R (j := i) (v := .ref (ad 1 i)) (ix := i) Z hW rfl (show (0 : Nat) < 1 by decide) (by omega) (by decide) rfl rfl rfl rfl rfl dX1_sort_82 ?_
            refine lv_dload hx hb dX1_sort_83 (lv_at hl 4 rfl) ?_
            refine w_putD Z hW hS kX2 rfl 2 (by decide) (by decide) q85 rfl (show (i : Nat) < 3 by omega) rfl rfl dX1_sort_85 (fun H locs hW hS => ?_)
            rw [hQ]
            exact rX (rW_v hx hb hr hlk hS (by rw [ix_nI (by omega)]; exact ⟨hok, ad, _, _, _, rfl, hW, ((hag.put 7 i _).put 8 i _).put 9 i _, hagI, hwo.cg rfl rfl, fun q => (hNL q).cg (((exc.rf.up rfl).up rfl).up rfl) exc.rf⟩) dX1_sort_88)
          · have q9 := hq
            refine lv_if_eq (tgt := 52) hx hb dX1_sort_45 (by decide) (fun _ => ?_) (fun h => absurd nI_0 h)
            refine lv_iconst (v := nI 0) hx hb dX1_sort_52 rfl ?_
            refine wx_x (wx_S (As := [.int (nI 0)]) (rest := []) hAt.fix (m_X1_check l hfl A Dg dA ((fun H => cW A Dg dA ad n nb nr 0 J R D I H)) gr_W (nI 0)) q271 q272 q45 q273 wn_X1_check ⟨Nat.le_of_ble_eq_true rfl, Nat.le_of_ble_eq_true rfl, Nat.le_of_ble_eq_true rfl, Nat.le_of_ble_eq_true rfl⟩ (Px.of hK hst hA hS hW) hl.1 (Nat.le_of_ble_eq_true rfl) dX1_sort_53) hS (fun r H locs hW hz hS => ?_) (fun x C H locs hp hE hz hS => ?_)
            · exact absurd nI_0 hW.1
            · rw [hQ]
              obtain ⟨⟨-, rfl⟩, hW⟩ := hp
              exact rT_x hlk htab rfl hS hE (⟨⟨fun q => q9 q.2.2.2, rfl⟩, ⟨ad, _, _, _, rfl, hW, hag, hagI, hwo, hNL⟩⟩)
        · have q11 := hq
          refine lv_if_eq (tgt := 52) hx hb dX1_sort_31 (by decide) (fun _ => ?_) (fun h => absurd nI_0 h)
          refine lv_iconst (v := nI 0) hx hb dX1_sort_52 rfl ?_
          refine wx_x (wx_S (As := [.int (nI 0)]) (rest := []) hAt.fix (m_X1_check l hfl A Dg dA ((fun H => cW A Dg dA ad n nb nr 0 J R D I H)) gr_W (nI 0)) q271 q272 q45 q273 wn_X1_check ⟨Nat.le_of_ble_eq_true rfl, Nat.le_of_ble_eq_true rfl, Nat.le_of_ble_eq_true rfl, Nat.le_of_ble_eq_true rfl⟩ (Px.of hK hst hA hS hW) hl.1 (Nat.le_of_ble_eq_true rfl) dX1_sort_53) hS (fun r H locs hW hz hS => ?_) (fun x C H locs hp hE hz hS => ?_)
          · exact absurd nI_0 hW.1
          · rw [hQ]
            obtain ⟨⟨-, rfl⟩, hW⟩ := hp
            exact rT_x hlk htab rfl hS hE (⟨⟨fun q => q11 q.2.2.1, rfl⟩, ⟨ad, _, _, _, rfl, hW, hag, hagI, hwo, hNL⟩⟩)
      · have q13 := hq
        refine lv_if_eq (tgt := 52) hx hb dX1_sort_19 (by decide) (fun _ => ?_) (fun h => absurd nI_0 h)
        refine lv_iconst (v := nI 0) hx hb dX1_sort_52 rfl ?_
        refine wx_x (wx_S (As := [.int (nI 0)]) (rest := []) hAt.fix (m_X1_check l hfl A Dg dA ((fun H => cW A Dg dA ad n nb nr 0 J R D I H)) gr_W (nI 0)) q271 q272 q45 q273 wn_X1_check ⟨Nat.le_of_ble_eq_true rfl, Nat.le_of_ble_eq_true rfl, Nat.le_of_ble_eq_true rfl, Nat.le_of_ble_eq_true rfl⟩ (Px.of hK hst hA hS hW) hl.1 (Nat.le_of_ble_eq_true rfl) dX1_sort_53) hS (fun r H locs hW hz hS => ?_) (fun x C H locs hp hE hz hS => ?_)
        · exact absurd nI_0 hW.1
        · rw [hQ]
          obtain ⟨⟨-, rfl⟩, hW⟩ := hp
          exact rT_x hlk htab rfl hS hE (⟨⟨fun q => q13 q.2.1, rfl⟩, ⟨ad, _, _, _, rfl, hW, hag, hagI, hwo, hNL⟩⟩)
set_option maxHeartbeats 4000000 in
theorem m_C_cut (l : Launch) (hfl : l.flags = flags0) (A : Nat → Prop) (Dg : va_G) (dA : Nat → ClassId) (x : Nat) (n : Nat) (nb : Nat) (nr : Nat) (J : Jt) (D0 : T64) (I0 : T32) (hI : Inv n nb nr J D0 I0) (pc : UInt64) (pk : UInt64) : MX l yX1_cut cX1_cut 5 none [] (rmx 9 1 6) [.ref (x), .double (pc), .double (pk)] (Px A Dg dA (CS A Dg dA x n nb nr J D0 I0)) (qX (fun _ : Unit => none) (fun _ H => okCu (D0 20 0) pc pk ∧ CS A Dg dA x n nb nr J ((oCu D0 pc pk)) ((oUl I0)) H) (fun C H => (¬ okCu (D0 20 0) pc pk ∧ C = "java/lang/IllegalArgumentException") ∧ CS A Dg dA x n nb nr J D0 I0 H) A) 0 0 A := by
  refine MX.start (Nat.le_of_ble_eq_true rfl) ?_
  intro p e s m args below meth c ls Q hAt hPc hl hQ
  have hl : lv_has ls 5 [(0, .ref (x)), (1, .double (pc)), (3, .double (pk))] := hl
  obtain ⟨hx, hb, hml, hr, hlk, hown, hnm, htab, hts⟩ := id hAt
  obtain ⟨hK, hst, hA, hW⟩ := hPc
  have Z := Cx.of hAt hK
  have hS : va_S A s.heap s.heap [] := va_S.rf
  obtain ⟨ad, D, I, R, rfl, hW, hag, hagI, hwo, hNL⟩ := hW
  have hB := hI.bd
  have hn10 := hB.n10
  have hn : I 20 0 = nI n := (hagI 20 0 rfl).trans hI.cn.1
  refine lv_dload_n hx hb dX1_cut_0 rfl (lv_at hl 1 rfl) ?_
  refine lv_ldc2d (v := 4602678819172646912) hx hb hown (hts _ (lw_car_all q69)) dX1_cut_1 ?_
  refine lv_aload_n hx hb dX1_cut_4 rfl (lv_at hl 0 rfl) ?_
  refine g_D (x := D0 20 0) Z hW kX1 rfl 0 (by decide) q141 (show (0 : Nat) < 1 by decide) rfl (hag 20 0 rfl) dX1_cut_5 ?_
  refine lv_ldc2d (v := 4602678819172646912) hx hb hown (hts _ (lw_car_all q69)) dX1_cut_8 ?_
  have f1 : fb (4) (FP.dmul (D0 20 0) 4602678819172646912) := fb.mul hB.side.fb fc_4602678819172646912 (by decide)
  refine lv_dmul hx hb dX1_cut_11 f1.n64 ?_
  refine wx_r (wx_S (As := [.double (pc), .double (4602678819172646912), .double (FP.dmul (D0 20 0) 4602678819172646912)]) (rest := []) hAt.fix (m_X1_within l pc 4602678819172646912 (FP.dmul (D0 20 0) 4602678819172646912)) q266 q267 q45 q268 wn_X1_within ⟨Nat.le_of_ble_eq_true rfl, Nat.le_of_ble_eq_true rfl, Nat.le_of_ble_eq_true rfl, Nat.le_of_ble_eq_true rfl⟩ (fun _ _ _ => trivial) hl.1 (Nat.le_of_ble_eq_true rfl) dX1_cut_12) (fun r hr => ?_)
  rcases hr with ⟨rfl, hq⟩ | ⟨rfl, hq⟩
  · have q2 := hq
    refine lv_if_eq (tgt := 33) hx hb dX1_cut_15 (by decide) (fun h => absurd h (by decide)) (fun _ => ?_)
    refine lv_dload_n hx hb dX1_cut_18 rfl (lv_at hl 2 rfl) ?_
    refine lv_dconst0 hx hb dX1_cut_19 ?_
    refine lv_ldc2d (v := 4616189618054758400) hx hb hown (hts _ (lw_car_all q450)) dX1_cut_20 ?_
    refine wx_r (wx_S (As := [.double (pk), .double (FP.dconst0), .double (4616189618054758400)]) (rest := []) hAt.fix (m_X1_within l pk FP.dconst0 4616189618054758400) q266 q267 q45 q268 wn_X1_within ⟨Nat.le_of_ble_eq_true rfl, Nat.le_of_ble_eq_true rfl, Nat.le_of_ble_eq_true rfl, Nat.le_of_ble_eq_true rfl⟩ (fun _ _ _ => trivial) hl.1 (Nat.le_of_ble_eq_true rfl) dX1_cut_23) (fun r hr => ?_)
    rcases hr with ⟨rfl, hq⟩ | ⟨rfl, hq⟩
    · have q4 := hq
      refine lv_if_eq (tgt := 33) hx hb dX1_cut_26 (by decide) (fun h => absurd h (by decide)) (fun _ => ?_)
      refine lv_iconst (v := nI 1) hx hb dX1_cut_29 rfl ?_
      refine lv_goto (tgt := 34) hx hb dX1_cut_30 (by decide) ?_
      refine wx_x (wx_S (As := [.int (nI 1)]) (rest := []) hAt.fix (m_X1_check l hfl A Dg dA ((fun H => cW A Dg dA ad n nb nr 0 J R D I H)) gr_W (nI 1)) q271 q272 q45 q273 wn_X1_check ⟨Nat.le_of_ble_eq_true rfl, Nat.le_of_ble_eq_true rfl, Nat.le_of_ble_eq_true rfl, Nat.le_of_ble_eq_true rfl⟩ (Px.of hK hst hA hS hW) hl.1 (Nat.le_of_ble_eq_true rfl) dX1_cut_34) hS (fun r H locs hW hz hS => ?_) (fun x C H locs hp hE hz hS => ?_)
      rotate_left
      · exact absurd hp.1.1 (by decide)
      replace hW := hW.2
      refine lv_aload_n hx hb dX1_cut_37 rfl (lv_at hl 0 rfl) ?_
      refine lv_dload_n hx hb dX1_cut_38 rfl (lv_at hl 1 rfl) ?_
      refine w_putD Z hW hS kX1 rfl 1 (by decide) (by decide) q142 rfl (show (0 : Nat) < 1 by decide) rfl rfl dX1_cut_39 (fun H locs hW hS => ?_)
      refine lv_aload_n hx hb dX1_cut_42 rfl (lv_at hl 0 rfl) ?_
      refine lv_dload_n hx hb dX1_cut_43 rfl (lv_at hl 2 rfl) ?_
      refine w_putD Z hW hS kX1 rfl 2 (by decide) (by decide) q143 rfl (show (0 : Nat) < 1 by decide) rfl rfl dX1_cut_44 (fun H locs hW hS => ?_)
      refine lv_aload_n hx hb dX1_cut_47 rfl (lv_at hl 0 rfl) ?_
      refine lv_iconst (v := nI 0) hx hb dX1_cut_48 rfl ?_
      refine w_putI Z hW hS kX1 rfl 16 (by decide) (by decide) q157 rfl (show (0 : Nat) < 1 by decide) rfl rfl rfl dX1_cut_49 (fun H locs hW hS => ?_)
      rw [hQ]
      exact rX (rW_v hx hb hr hlk hS (⟨⟨q2, q4⟩, ad, _, _, _, rfl, hW, (hag.put 21 0 _).put 22 0 _, hagI.put 23 0 _, hwo.cg rfl rfl, NL_0 rfl⟩) dX1_cut_52)
    · have q6 := hq
      refine lv_if_eq (tgt := 33) hx hb dX1_cut_26 (by decide) (fun _ => ?_) (fun h => absurd nI_0 h)
      refine lv_iconst (v := nI 0) hx hb dX1_cut_33 rfl ?_
      refine wx_x (wx_S (As := [.int (nI 0)]) (rest := []) hAt.fix (m_X1_check l hfl A Dg dA ((fun H => cW A Dg dA ad n nb nr 0 J R D I H)) gr_W (nI 0)) q271 q272 q45 q273 wn_X1_check ⟨Nat.le_of_ble_eq_true rfl, Nat.le_of_ble_eq_true rfl, Nat.le_of_ble_eq_true rfl, Nat.le_of_ble_eq_true rfl⟩ (Px.of hK hst hA hS hW) hl.1 (Nat.le_of_ble_eq_true rfl) dX1_cut_34) hS (fun r H locs hW hz hS => ?_) (fun x C H locs hp hE hz hS => ?_)
      · exact absurd nI_0 hW.1
      · rw [hQ]
        obtain ⟨⟨-, rfl⟩, hW⟩ := hp
        exact rT_x hlk htab rfl hS hE (⟨⟨fun q => q6 q.2, rfl⟩, ⟨ad, _, _, _, rfl, hW, hag, hagI, hwo, hNL⟩⟩)
  · have q8 := hq
    refine lv_if_eq (tgt := 33) hx hb dX1_cut_15 (by decide) (fun _ => ?_) (fun h => absurd nI_0 h)
    refine lv_iconst (v := nI 0) hx hb dX1_cut_33 rfl ?_
    refine wx_x (wx_S (As := [.int (nI 0)]) (rest := []) hAt.fix (m_X1_check l hfl A Dg dA ((fun H => cW A Dg dA ad n nb nr 0 J R D I H)) gr_W (nI 0)) q271 q272 q45 q273 wn_X1_check ⟨Nat.le_of_ble_eq_true rfl, Nat.le_of_ble_eq_true rfl, Nat.le_of_ble_eq_true rfl, Nat.le_of_ble_eq_true rfl⟩ (Px.of hK hst hA hS hW) hl.1 (Nat.le_of_ble_eq_true rfl) dX1_cut_34) hS (fun r H locs hW hz hS => ?_) (fun x C H locs hp hE hz hS => ?_)
    · exact absurd nI_0 hW.1
    · rw [hQ]
      obtain ⟨⟨-, rfl⟩, hW⟩ := hp
      exact rT_x hlk htab rfl hS hE (⟨⟨fun q => q8 q.1, rfl⟩, ⟨ad, _, _, _, rfl, hW, hag, hagI, hwo, hNL⟩⟩)
set_option maxHeartbeats 4000000 in
theorem m_C_stuck (l : Launch) (hfl : l.flags = flags0) (A : Nat → Prop) (Dg : va_G) (dA : Nat → ClassId) (x : Nat) (n : Nat) (nb : Nat) (nr : Nat) (J : Jt) (D0 : T64) (I0 : T32) (hI : Inv n nb nr J D0 I0) (k : Int32) (on : Int32) (hon : on = 0 ∨ on = 1) : MX l yX1_stuck cX1_stuck 4 none [] (rmx 9 1 6) [.ref (x), .int (k), .int (on)] (Px A Dg dA (CS A Dg dA x n nb nr J D0 I0)) (qX (fun _ : Unit => none) (fun _ H => okI k n ∧ CS A Dg dA x n nb nr J ((oSt D0 (ix k) on)) ((up2 I0 1 (ix k) on)) H) (fun C H => (¬ okI k n ∧ C = "java/lang/IllegalArgumentException") ∧ CS A Dg dA x n nb nr J D0 I0 H) A) 0 0 A := by
  refine MX.start (Nat.le_of_ble_eq_true rfl) ?_
  intro p e s m args below meth c ls Q hAt hPc hl hQ
  have hl : lv_has ls 4 [(0, .ref (x)), (1, .int (k)), (2, .int (on))] := hl
  obtain ⟨hx, hb, hml, hr, hlk, hown, hnm, htab, hts⟩ := id hAt
  obtain ⟨hK, hst, hA, hW⟩ := hPc
  have Z := Cx.of hAt hK
  have hS : va_S A s.heap s.heap [] := va_S.rf
  obtain ⟨ad, D, I, R, rfl, hW, hag, hagI, hwo, hNL⟩ := hW
  have hB := hI.bd
  have hn10 := hB.n10
  have hn : I 20 0 = nI n := (hagI 20 0 rfl).trans hI.cn.1
  refine lv_aload_n hx hb dX1_stuck_0 rfl (lv_at hl 0 rfl) ?_
  refine lv_iload_n hx hb dX1_stuck_1 rfl (lv_at hl 1 rfl) ?_
  refine wx_x (wx_V (As := [.int (k)]) (rest := []) hAt.fix (m_X1_at l hfl A Dg dA ad n nb nr 0 J R D I k hn hn10) q432 q434 qs5 q435 wn_X1_at ⟨Nat.le_of_ble_eq_true rfl, Nat.le_of_ble_eq_true rfl, Nat.le_of_ble_eq_true rfl, Nat.le_of_ble_eq_true rfl⟩ (w_recv hK hW kX1 rfl (show (0 : Nat) < 1 by decide)) (Px.of hK hst hA hS hW) hl.1 (Nat.le_of_ble_eq_true rfl) dX1_stuck_2) hS (fun r H locs hW hz hS => ?_) (fun x C H locs hp hE hz hS => ?_)
  rotate_left
  · rw [hQ]
    obtain ⟨⟨hno, rfl⟩, hW⟩ := hp
    exact rT_x hlk htab rfl hS hE ⟨⟨hno, rfl⟩, ⟨ad, _, _, _, rfl, hW, hag, hagI, hwo, hNL⟩⟩
  obtain ⟨⟨i, hi, rfl, rfl⟩, hW⟩ := hW
  refine lv_astore_n (lv' := [(3, .ref (ad 2 i)), (0, .ref (ad 0 0)), (1, .int (nI i)), (2, .int (on))]) hx hb dX1_stuck_5 rfl hl (by decide) rfl (fun ls hl => ?_)
  refine lv_aload_n hx hb dX1_stuck_6 rfl (lv_at hl 0 rfl) ?_
  refine lv_iload_n hx hb dX1_stuck_7 rfl (lv_at hl 3 rfl) ?_
  refine w_putI Z hW hS kX6 rfl 9 (by decide) (by decide) q387 rfl (show (i : Nat) < n by omega) rfl (nar_z hon) (fit_z hon) dX1_stuck_8 (fun H locs hW hS => ?_)
  refine lv_iload_n hx hb dX1_stuck_11 rfl (lv_at hl 3 rfl) ?_
  refine lv_if_ne (tgt := 16) hx hb dX1_stuck_12 (by decide) (fun c1 => ?_) (fun c1 => ?_)
  · refine lv_aload_n hx hb dX1_stuck_16 rfl (lv_at hl 0 rfl) ?_
    refine lv_dconst0 hx hb dX1_stuck_17 ?_
    refine w_putD Z hW hS kX6 rfl 5 (by decide) (by decide) q379 rfl (show (i : Nat) < n by omega) rfl rfl dX1_stuck_18 (fun H locs hW hS => ?_)
    refine lv_aload_n hx hb dX1_stuck_21 rfl (lv_at hl 0 rfl) ?_
    refine lv_dconst0 hx hb dX1_stuck_22 ?_
    refine w_putD Z hW hS kX6 rfl 6 (by decide) (by decide) q381 rfl (show (i : Nat) < n by omega) rfl rfl dX1_stuck_23 (fun H locs hW hS => ?_)
    rw [hQ]
    exact rX (rW_v hx hb hr hlk hS (by rw [ix_nI (by omega), oSt_1 c1]; exact ⟨⟨i, hi, rfl⟩, ad, _, _, _, rfl, hW, (hag.put 2 i _).put 3 i _, hagI.put 1 i _, hwo.cg rfl rfl, fun q => ((hNL q).cg ((exc.rf.up rfl).up rfl) exc.rf).cgS⟩) dX1_stuck_26)
  · rw [hQ]
    exact rX (rW_v hx hb hr hlk hS (by rw [ix_nI (by omega), oSt_0 c1]; exact ⟨⟨i, hi, rfl⟩, ad, _, _, _, rfl, hW, hag, hagI.put 1 i _, hwo, fun q => (hNL q).cgS⟩) dX1_stuck_15)
set_option maxHeartbeats 4000000 in
theorem m_C_thermostat (l : Launch) (hfl : l.flags = flags0) (A : Nat → Prop) (Dg : va_G) (dA : Nat → ClassId) (x : Nat) (n : Nat) (nb : Nat) (nr : Nat) (J : Jt) (D0 : T64) (I0 : T32) (hI : Inv n nb nr J D0 I0) (t : UInt64) (ft : Fn t) : MX l yX1_thermostat cX1_thermostat 3 none [] (rmx 9 1 6) [.ref (x), .double (t)] (Px A Dg dA (CS A Dg dA x n nb nr J D0 I0)) (qX (fun _ : Unit => none) (fun _ H => okTh t ∧ CS A Dg dA x n nb nr J ((oTh D0 t)) I0 H) (fun C H => (¬ okTh t ∧ C = "java/lang/IllegalArgumentException") ∧ CS A Dg dA x n nb nr J D0 I0 H) A) 0 0 A := by
  refine MX.start (Nat.le_of_ble_eq_true rfl) ?_
  intro p e s m args below meth c ls Q hAt hPc hl hQ
  have hl : lv_has ls 3 [(0, .ref (x)), (1, .double (t))] := hl
  obtain ⟨hx, hb, hml, hr, hlk, hown, hnm, htab, hts⟩ := id hAt
  obtain ⟨hK, hst, hA, hW⟩ := hPc
  have Z := Cx.of hAt hK
  have hS : va_S A s.heap s.heap [] := va_S.rf
  obtain ⟨ad, D, I, R, rfl, hW, hag, hagI, hwo, hNL⟩ := hW
  have hB := hI.bd
  have hn10 := hB.n10
  have hn : I 20 0 = nI n := (hagI 20 0 rfl).trans hI.cn.1
  refine lv_dload_n hx hb dX1_thermostat_0 rfl (lv_at hl 1 rfl) ?_
  refine lv_ldc2d (v := 4652007308841189376) hx hb hown (hts _ (lw_car_all q265)) dX1_thermostat_1 ?_
  refine lv_dg_gt (tgt := 12) hx hb dX1_thermostat_4 dX1_thermostat_5 (by decide) (fun c1 => ?_) (fun c1 => ?_)
  · refine lv_iconst (v := nI 0) hx hb dX1_thermostat_12 rfl ?_
    refine wx_x (wx_S (As := [.int (nI 0)]) (rest := []) hAt.fix (m_X1_check l hfl A Dg dA ((fun H => cW A Dg dA ad n nb nr 0 J R D I H)) gr_W (nI 0)) q271 q272 q45 q273 wn_X1_check ⟨Nat.le_of_ble_eq_true rfl, Nat.le_of_ble_eq_true rfl, Nat.le_of_ble_eq_true rfl, Nat.le_of_ble_eq_true rfl⟩ (Px.of hK hst hA hS hW) hl.1 (Nat.le_of_ble_eq_true rfl) dX1_thermostat_13) hS (fun r H locs hW hz hS => ?_) (fun x C H locs hp hE hz hS => ?_)
    · exact absurd nI_0 hW.1
    · rw [hQ]
      obtain ⟨⟨-, rfl⟩, hW⟩ := hp
      exact rT_x hlk htab rfl hS hE (⟨⟨c1, rfl⟩, ⟨ad, _, _, _, rfl, hW, hag, hagI, hwo, hNL⟩⟩)
  · refine lv_iconst (v := nI 1) hx hb dX1_thermostat_8 rfl ?_
    refine lv_goto (tgt := 13) hx hb dX1_thermostat_9 (by decide) ?_
    refine wx_x (wx_S (As := [.int (nI 1)]) (rest := []) hAt.fix (m_X1_check l hfl A Dg dA ((fun H => cW A Dg dA ad n nb nr 0 J R D I H)) gr_W (nI 1)) q271 q272 q45 q273 wn_X1_check ⟨Nat.le_of_ble_eq_true rfl, Nat.le_of_ble_eq_true rfl, Nat.le_of_ble_eq_true rfl, Nat.le_of_ble_eq_true rfl⟩ (Px.of hK hst hA hS hW) hl.1 (Nat.le_of_ble_eq_true rfl) dX1_thermostat_13) hS (fun r H locs hW hz hS => ?_) (fun x C H locs hp hE hz hS => ?_)
    rotate_left
    · exact absurd hp.1.1 (by decide)
    replace hW := hW.2
    refine lv_aload_n hx hb dX1_thermostat_16 rfl (lv_at hl 0 rfl) ?_
    refine lv_dload_n hx hb dX1_thermostat_17 rfl (lv_at hl 1 rfl) ?_
    refine w_putD Z hW hS kX1 rfl 3 (by decide) (by decide) q144 rfl (show (0 : Nat) < 1 by decide) rfl rfl dX1_thermostat_18 (fun H locs hW hS => ?_)
    rw [hQ]
    exact rX (rW_v hx hb hr hlk hS (⟨c1, ad, _, _, _, rfl, hW, (hag.up rfl).up0 rfl, hagI, wOK_th ft, fun q => (hNL q).cg (exc.rf.up rfl) exc.rf⟩) dX1_thermostat_21)
set_option maxHeartbeats 4000000 in
theorem m_C_scale (l : Launch) (hfl : l.flags = flags0) (A : Nat → Prop) (Dg : va_G) (dA : Nat → ClassId) (x : Nat) (n : Nat) (nb : Nat) (nr : Nat) (J : Jt) (D0 : T64) (I0 : T32) (hI : Inv n nb nr J D0 I0) (t : UInt64) (h8 : E8 t) : MX l yX1_scale cX1_scale 5 (some .double) [] (rmx 9 1 6) [.ref (x), .double (t)] (Px A Dg dA (CS A Dg dA x n nb nr J D0 I0)) (qX (fun r : UInt64 => some (.double r)) (fun r H => okSc t ∧ r = tmpS D0 I0 n ∧ CS A Dg dA x n nb nr J ((rsc t n D0 I0)) I0 H) (fun C H => (¬ okSc t ∧ C = "java/lang/IllegalArgumentException") ∧ CS A Dg dA x n nb nr J D0 I0 H) A) 0 0 A := by
  refine MX.start (Nat.le_of_ble_eq_true rfl) ?_
  intro p e s m args below meth c ls Q hAt hPc hl hQ
  have hl : lv_has ls 5 [(0, .ref (x)), (1, .double (t))] := hl
  obtain ⟨hx, hb, hml, hr, hlk, hown, hnm, htab, hts⟩ := id hAt
  obtain ⟨hK, hst, hA, hW⟩ := hPc
  have Z := Cx.of hAt hK
  have hS : va_S A s.heap s.heap [] := va_S.rf
  obtain ⟨ad, D, I, R, rfl, hW, hag, hagI, hwo, hNL⟩ := hW
  have hB := hI.bd
  have hn10 := hB.n10
  have hn : I 20 0 = nI n := (hagI 20 0 rfl).trans hI.cn.1
  refine lv_dload_n hx hb dX1_scale_0 rfl (lv_at hl 1 rfl) ?_
  refine lv_dconst0 hx hb dX1_scale_1 ?_
  refine lv_ldc2d (v := 4652007308841189376) hx hb hown (hts _ (lw_car_all q265)) dX1_scale_2 ?_
  refine wx_r (wx_S (As := [.double (t), .double (FP.dconst0), .double (4652007308841189376)]) (rest := []) hAt.fix (m_X1_within l t FP.dconst0 4652007308841189376) q266 q267 q45 q268 wn_X1_within ⟨Nat.le_of_ble_eq_true rfl, Nat.le_of_ble_eq_true rfl, Nat.le_of_ble_eq_true rfl, Nat.le_of_ble_eq_true rfl⟩ (fun _ _ _ => trivial) hl.1 (Nat.le_of_ble_eq_true rfl) dX1_scale_5) (fun r hr => ?_)
  rcases hr with ⟨rfl, hq⟩ | ⟨rfl, hq⟩
  · have q1 := hq
    refine wx_x (wx_S (As := [.int (nI 1)]) (rest := []) hAt.fix (m_X1_check l hfl A Dg dA ((fun H => cW A Dg dA ad n nb nr 0 J R D I H)) gr_W (nI 1)) q271 q272 q45 q273 wn_X1_check ⟨Nat.le_of_ble_eq_true rfl, Nat.le_of_ble_eq_true rfl, Nat.le_of_ble_eq_true rfl, Nat.le_of_ble_eq_true rfl⟩ (Px.of hK hst hA hS hW) hl.1 (Nat.le_of_ble_eq_true rfl) dX1_scale_8) hS (fun r H locs hW hz hS => ?_) (fun x C H locs hp hE hz hS => ?_)
    rotate_left
    · exact absurd hp.1.1 (by decide)
    replace hW := hW.2
    refine lv_aload_n hx hb dX1_scale_11 rfl (lv_at hl 0 rfl) ?_
    have hS0 : sameS I I0 := fun j => hagI 1 j rfl
    refine wx_r (wx_V (As := []) (rest := []) hAt.fix (m_X1_temperature l A Dg dA ad n nb nr 0 J R D I ((hB.cg hag)) ((hI.bu.ag hag)) hn) q663 q220 q221 q222 wn_X1_temperature ⟨Nat.le_of_ble_eq_true rfl, Nat.le_of_ble_eq_true rfl, Nat.le_of_ble_eq_true rfl, Nat.le_of_ble_eq_true rfl⟩ (w_recv hK hW kX1 rfl (show (0 : Nat) < 1 by decide)) (Pw.of hK hW) hl.1 (Nat.le_of_ble_eq_true rfl) dX1_scale_12) (fun r hr => ?_)
    rw [tmpS_ag hag, tmpS_cg hS0] at hr
    subst hr
    refine lv_dstore_n (lv' := [(3, .double (tmpS D0 I0 n)), (0, .ref (ad 0 0)), (1, .double (t))]) hx hb dX1_scale_15 rfl hl (by decide) rfl (fun ls hl => ?_)
    refine lv_aload_n hx hb dX1_scale_16 rfl (lv_at hl 1 rfl) ?_
    refine lv_dload_n hx hb dX1_scale_17 rfl (lv_at hl 2 rfl) ?_
    refine wx_wv (wx_V (As := [.double (t)]) (rest := []) hAt.fix (m_X1_rescale l A Dg dA ad n nb nr 0 J R D I ((hB.cg hag)) ((hI.bu.ag hag)) hn t ((okT_of h8 q1))) q659 q661 qs19 q662 wn_X1_rescale ⟨Nat.le_of_ble_eq_true rfl, Nat.le_of_ble_eq_true rfl, Nat.le_of_ble_eq_true rfl, Nat.le_of_ble_eq_true rfl⟩ (w_recv hK hW kX1 rfl (show (0 : Nat) < 1 by decide)) (Pw.of hK hW) hl.1 (Nat.le_of_ble_eq_true rfl) dX1_scale_18) hS (fun H locs hW hz hS => ?_)
    refine lv_dload_n hx hb dX1_scale_21 rfl (lv_at hl 0 rfl) ?_
    rw [hQ]
    exact rX (rW_d hx hb hr hlk hS (⟨q1, rfl, ad, _, _, _, rfl, hW, rsc_ag hag hS0, hagI, hwo.cg (rsc_exc 43 0 rfl) (rsc_exc 23 0 rfl), fun q => (hNL q).cg ((rsc_exc.mono s23_4).mono sL_4) exc.rf⟩) dX1_scale_22)
  · have q2 := hq
    refine wx_x (wx_S (As := [.int (nI 0)]) (rest := []) hAt.fix (m_X1_check l hfl A Dg dA ((fun H => cW A Dg dA ad n nb nr 0 J R D I H)) gr_W (nI 0)) q271 q272 q45 q273 wn_X1_check ⟨Nat.le_of_ble_eq_true rfl, Nat.le_of_ble_eq_true rfl, Nat.le_of_ble_eq_true rfl, Nat.le_of_ble_eq_true rfl⟩ (Px.of hK hst hA hS hW) hl.1 (Nat.le_of_ble_eq_true rfl) dX1_scale_8) hS (fun r H locs hW hz hS => ?_) (fun x C H locs hp hE hz hS => ?_)
    · exact absurd nI_0 hW.1
    · rw [hQ]
      obtain ⟨⟨-, rfl⟩, hW⟩ := hp
      exact rT_x hlk htab rfl hS hE (⟨⟨fun q => q2 q, rfl⟩, ⟨ad, _, _, _, rfl, hW, hag, hagI, hwo, hNL⟩⟩)
theorem m_C_temperature (l : Launch) (A : Nat → Prop) (Dg : va_G) (dA : Nat → ClassId) (x : Nat) (n : Nat) (nb : Nat) (nr : Nat) (J : Jt) (D0 : T64) (I0 : T32) (hI : Inv n nb nr J D0 I0) : MX l yX1_temperature cX1_temperature 6 (some .double) [] (rmx 1 0 0) [.ref (x)] (Pw Dg dA (CS A Dg dA x n nb nr J D0 I0)) (qR Value.double (fun r => r = tmpS D0 I0 n)) 0 0 (fun _ => False) := by
  intro p e s m below meth c hAt hPc
  obtain ⟨hK, ad, D, I, R, rfl, hW, hag, hagI, hwo, hNL⟩ := hPc
  have h := m_X1_temperature l A Dg dA ad n nb nr 0 J R D I (hI.bd.cg hag) (hI.bu.ag hag) ((hagI 20 0 rfl).trans hI.cn.1) p e s m below meth c hAt ⟨hK, hW⟩
  rw [tmpS_ag hag, tmpS_cg (fun j => hagI 1 j rfl)] at h
  exact h
