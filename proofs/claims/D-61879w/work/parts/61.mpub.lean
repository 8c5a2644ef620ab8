set_option maxRecDepth 100000
/-! ===== the model: public calls ===== -/
/-- the model's ints against the shared ones -/
def mA (n nb nr : Nat) (J : Jt) (I I0 : T32) : Prop := mI n nb nr J I ∧ (∀ f i, cI f i = true → f ≠ 28 → I f i = I0 f i) ∧ I 50 0 = I0 28 0 ∧ I 51 0 = I0 28 1 ∧ I 52 0 = I0 28 2
def MS (A : Nat → Prop) (Dg : va_G) (dA : Nat → ClassId) (x n nb nr : Nat) (J : Jt) (D0 : T64) (I0 : T32) (th : Int32) (H : Heap) : Prop := ∃ ad D I, ad 30 0 = x ∧ mW A Dg dA ad D I H ∧ agD D D0 ∧ D 23 0 = D0 23 0 ∧ mA n nb nr J I I0 ∧ I 42 0 = th
section MAs
variable {n nb nr : Nat} {J : Jt} {I I0 : T32}
theorem mA.th (h : mA n nb nr J I I0) {x : Int32} : mA n nb nr J (up2 I 42 0 x) I0 := by
  refine ⟨h.1, fun f i hf h28 => ?_, h.2.2⟩
  rw [up2_f _ _ _ _ (fun q => by rw [q] at hf; cases hf)]
  exact h.2.1 f i hf h28
theorem mA.put23 (h : mA n nb nr J I I0) (x : Int32) : mA n nb nr J (up2 I 23 0 x) (up2 I0 23 0 x) := by
  refine ⟨h.1, fun f i hf h28 => ?_, h.2.2⟩
  rw [up2_eq, up2_eq]
  split
  · rfl
  · exact h.2.1 f i hf h28
theorem mA.put1 (h : mA n nb nr J I I0) (i : Nat) (x : Int32) : mA n nb nr J (up2 I 1 i x) (up2 I0 1 i x) := by
  refine ⟨h.1, fun f j hf h28 => ?_, h.2.2⟩
  rw [up2_eq, up2_eq]
  split
  · rfl
  · exact h.2.1 f j hf h28
end MAs
theorem clN_m {a b : Nat} (h : a < b) : nI (a * 3 + b) = nI (clN a b) := by unfold clN; rw [if_pos (by omega), if_pos (by omega)]
theorem clN_n {a b : Nat} (h : b ≤ a) : nI (b * 3 + a) = nI (clN a b) := by
  unfold clN
  rw [if_neg (by omega), if_neg (by omega)]
theorem bix_c {I : T32} {c k : Nat} : I 6 (c * 16 + k) = I 6 (k + 16 * c) := by rw [show c * 16 + k = k + 16 * c by omega]
set_option maxHeartbeats 4000000 in
theorem m_M_place (l : Launch) (A : Nat → Prop) (Dg : va_G) (dA : Nat → ClassId) (x : Nat) (n : Nat) (nb : Nat) (nr : Nat) (J : Jt) (D0 : T64) (I0 : T32) (hI : Inv n nb nr J D0 I0) (k : Int32) (px : UInt64) (py : UInt64) (fx : fb 28 px) (fy : fb 28 py) (th : Int32) : MX l yX5_place cX5_place 6 none [] (rmx 3 0 0) [.ref (x), .int (k), .double (px), .double (py)] (Pw Dg dA (MS A Dg dA x n nb nr J D0 I0 th)) (qW (fun _ : Unit => none) (fun _ H => (okXY k n px py ∧ MS A Dg dA x n nb nr J ((oPl D0 (ix k) px py)) ((oUl I0)) ((nI 0)) H) ∨ (¬ okXY k n px py ∧ MS A Dg dA x n nb nr J D0 I0 ((nI 1)) H)) A) 0 0 A := by
  refine MX.start (Nat.le_of_ble_eq_true rfl) ?_
  intro p e s m args below meth c ls Q hAt hPc hl hQ
  have hl : lv_has ls 6 [(0, .ref (x)), (1, .int (k)), (2, .double (px)), (4, .double (py))] := hl
  obtain ⟨hx, hb, hml, hr, hlk, hown, hnm, htab, hts⟩ := id hAt
  obtain ⟨hK, hW⟩ := hPc
  have Z := Cx.of hAt hK
  have hS : va_S A s.heap s.heap [] := va_S.rf
  obtain ⟨ad, D, I, rfl, hW, hag, hht, hMA, hth⟩ := hW
  have hB := hI.bd
  have hn10 := hB.n10
  have hM := hMA.1
  refine lv_aload_n hx hb dX5_place_0 rfl (lv_at hl 0 rfl) ?_
  refine lv_aload_n hx hb dX5_place_1 rfl (lv_at hl 0 rfl) ?_
  refine lv_iload_n hx hb dX5_place_2 rfl (lv_at hl 1 rfl) ?_
  refine wx_r (wx_V (As := [.int (k)]) (rest := [.ref (ad 30 0)]) hAt.fix (m_X5_isAtom l A Dg dA ad n nb nr J D I k hM.cn hn10) q916 q918 qs24 q919 wn_X5_isAtom ⟨Nat.le_of_ble_eq_true rfl, Nat.le_of_ble_eq_true rfl, Nat.le_of_ble_eq_true rfl, Nat.le_of_ble_eq_true rfl⟩ (w_recv hK hW kX5 rfl (show (0 : Nat) < 1 by decide)) (Pw.of hK hW) hl.1 (Nat.le_of_ble_eq_true rfl) dX5_place_3) (fun r hr => ?_)
  rcases hr with ⟨rfl, hq⟩ | ⟨rfl, hq⟩
  · have q1 := hq
    refine lv_if_eq (tgt := 40) hx hb dX5_place_6 (by decide) (fun h => absurd h (by decide)) (fun _ => ?_)
    refine lv_dload_n hx hb dX5_place_9 rfl (lv_at hl 2 rfl) ?_
    refine lv_ldc2d (v := 13875379345695965184) hx hb hown (hts _ (lw_car_all q894)) dX5_place_10 ?_
    refine lv_ldc2d (v := 4652007308841189376) hx hb hown (hts _ (lw_car_all q895)) dX5_place_13 ?_
    refine wx_r (wx_S (As := [.double (px), .double (13875379345695965184), .double (4652007308841189376)]) (rest := [.ref (ad 30 0)]) hAt.fix (m_X5_within l px 13875379345695965184 4652007308841189376) q896 q897 q50 q898 wn_X5_in ⟨Nat.le_of_ble_eq_true rfl, Nat.le_of_ble_eq_true rfl, Nat.le_of_ble_eq_true rfl, Nat.le_of_ble_eq_true rfl⟩ (fun _ _ _ => trivial) hl.1 (Nat.le_of_ble_eq_true rfl) dX5_place_16) (fun r hr => ?_)
    rcases hr with ⟨rfl, hq⟩ | ⟨rfl, hq⟩
    · have q3 := hq
      refine lv_if_eq (tgt := 40) hx hb dX5_place_19 (by decide) (fun h => absurd h (by decide)) (fun _ => ?_)
      refine lv_dload hx hb dX5_place_22 (lv_at hl 3 rfl) ?_
      refine lv_ldc2d (v := 13875379345695965184) hx hb hown (hts _ (lw_car_all q894)) dX5_place_24 ?_
      refine lv_ldc2d (v := 4652007308841189376) hx hb hown (hts _ (lw_car_all q895)) dX5_place_27 ?_
      refine wx_r (wx_S (As := [.double (py), .double (13875379345695965184), .double (4652007308841189376)]) (rest := [.ref (ad 30 0)]) hAt.fix (m_X5_within l py 13875379345695965184 4652007308841189376) q896 q897 q50 q898 wn_X5_in ⟨Nat.le_of_ble_eq_true rfl, Nat.le_of_ble_eq_true rfl, Nat.le_of_ble_eq_true rfl, Nat.le_of_ble_eq_true rfl⟩ (fun _ _ _ => trivial) hl.1 (Nat.le_of_ble_eq_true rfl) dX5_place_30) (fun r hr => ?_)
      rcases hr with ⟨rfl, hq⟩ | ⟨rfl, hq⟩
      · have q5 := hq
        refine lv_if_eq (tgt := 40) hx hb dX5_place_33 (by decide) (fun h => absurd h (by decide)) (fun _ => ?_)
        refine lv_iconst (v := nI 1) hx hb dX5_place_36 rfl ?_
        refine lv_goto (tgt := 41) hx hb dX5_place_37 (by decide) ?_
        refine wx_ws (wx_V (As := [.int (nI 1)]) (rest := []) hAt.fix (m_X5_bad1 l A Dg dA ad n nb nr J D I) q901 q903 qs22 q904 wn_X5_bad ⟨Nat.le_of_ble_eq_true rfl, Nat.le_of_ble_eq_true rfl, Nat.le_of_ble_eq_true rfl, Nat.le_of_ble_eq_true rfl⟩ (w_recv hK hW kX5 rfl (show (0 : Nat) < 1 by decide)) (Pw.of hK hW) hl.1 (Nat.le_of_ble_eq_true rfl) dX5_place_41) hS (fun r H locs hW hz hS => ?_)
        obtain ⟨rfl, hW⟩ := hW
        have hok : okXY k n px py := ⟨q1, q3, q5⟩
        obtain ⟨i, hi, rfl⟩ := hok.1
        refine lv_if_eq (tgt := 48) hx hb dX5_place_44 (by decide) (fun _ => ?_) (fun h => absurd nI_0 h)
        refine lv_aload_n hx hb dX5_place_48 rfl (lv_at hl 0 rfl) ?_
        refine w_getR (v := .ref (ad 31 0)) Z hW kX5 rfl 4 (by decide) q744 (show (0 : Nat) < 1 by decide) rfl rfl dX5_place_49 ?_
        refine lv_iload_n hx hb dX5_place_52 rfl (lv_at hl 1 rfl) ?_
        refine lv_aload_n hx hb dX5_place_53 rfl (lv_at hl 0 rfl) ?_
        refine lv_dload_n hx hb dX5_place_54 rfl (lv_at hl 2 rfl) ?_
        refine wx_r (wx_V (As := [.double (px)]) (rest := [.int (nI i), .ref (ad 31 0)]) hAt.fix (m_X5_wrapped l A Dg dA ad n nb nr J D ((up2 I 42 0 (nI 0))) (D0 20 0) px ((hag 20 0 rfl)) hB.side ((fx.mono (by decide)))) q905 q907 qs23 q908 wn_X5_wrapped ⟨Nat.le_of_ble_eq_true rfl, Nat.le_of_ble_eq_true rfl, Nat.le_of_ble_eq_true rfl, Nat.le_of_ble_eq_true rfl⟩ (w_recv hK hW kX5 rfl (show (0 : Nat) < 1 by decide)) (Pw.of hK hW) hl.1 (Nat.le_of_ble_eq_true rfl) dX5_place_55) (fun r hr => ?_)
        subst hr
        refine w_ads (j := i) (ix := i) Z hW hS rfl (show (0 : Nat) < 1 by decide) rfl (by omega) (by decide) (show (i : Nat) < 10 by omega) rfl rfl dX5_place_58 (fun H locs hW hS => ?_)
        refine lv_aload_n hx hb dX5_place_59 rfl (lv_at hl 0 rfl) ?_
        refine w_getR (v := .ref (ad 32 0)) Z hW kX5 rfl 5 (by decide) q745 (show (0 : Nat) < 1 by decide) rfl rfl dX5_place_60 ?_
        refine lv_iload_n hx hb dX5_place_63 rfl (lv_at hl 1 rfl) ?_
        refine lv_aload_n hx hb dX5_place_64 rfl (lv_at hl 0 rfl) ?_
        refine lv_dload hx hb dX5_place_65 (lv_at hl 3 rfl) ?_
        refine wx_r (wx_V (As := [.double (py)]) (rest := [.int (nI i), .ref (ad 32 0)]) hAt.fix (m_X5_wrapped l A Dg dA ad n nb nr J ((up2 D 0 i (sWrap (D0 20 0) px))) ((up2 I 42 0 (nI 0))) (D0 20 0) py (((up2_f _ _ _ _ (by decide)).trans (hag 20 0 rfl))) hB.side ((fy.mono (by decide)))) q905 q907 qs23 q908 wn_X5_wrapped ⟨Nat.le_of_ble_eq_true rfl, Nat.le_of_ble_eq_true rfl, Nat.le_of_ble_eq_true rfl, Nat.le_of_ble_eq_true rfl⟩ (w_recv hK hW kX5 rfl (show (0 : Nat) < 1 by decide)) (Pw.of hK hW) hl.1 (Nat.le_of_ble_eq_true rfl) dX5_place_67) (fun r hr => ?_)
        subst hr
        refine w_ads (j := i) (ix := i) Z hW hS rfl (show (0 : Nat) < 1 by decide) rfl (by omega) (by decide) (show (i : Nat) < 10 by omega) rfl rfl dX5_place_70 (fun H locs hW hS => ?_)
        refine lv_aload_n hx hb dX5_place_71 rfl (lv_at hl 0 rfl) ?_
        refine lv_iconst (v := nI 0) hx hb dX5_place_72 rfl ?_
        refine w_putI Z hW hS kX5 rfl 26 (by decide) (by decide) q766 rfl (show (0 : Nat) < 1 by decide) rfl rfl rfl dX5_place_73 (fun H locs hW hS => ?_)
        rw [hQ]
        exact rW_v hx hb hr hlk hS (Or.inl (by rw [ix_nI (by omega)]; exact ⟨hok, ad, _, _, rfl, hW, (hag.put 0 i _).put 1 i _, hht, (hMA.th).put23 _, rfl⟩)) dX5_place_76
      · have q8 := hq
        refine lv_if_eq (tgt := 40) hx hb dX5_place_33 (by decide) (fun _ => ?_) (fun h => absurd nI_0 h)
        refine lv_iconst (v := nI 0) hx hb dX5_place_40 rfl ?_
        refine wx_ws (wx_V (As := [.int (nI 0)]) (rest := []) hAt.fix (m_X5_bad0 l A Dg dA ad n nb nr J D I) q901 q903 qs22 q904 wn_X5_bad ⟨Nat.le_of_ble_eq_true rfl, Nat.le_of_ble_eq_true rfl, Nat.le_of_ble_eq_true rfl, Nat.le_of_ble_eq_true rfl⟩ (w_recv hK hW kX5 rfl (show (0 : Nat) < 1 by decide)) (Pw.of hK hW) hl.1 (Nat.le_of_ble_eq_true rfl) dX5_place_41) hS (fun r H locs hW hz hS => ?_)
        obtain ⟨rfl, hW⟩ := hW
        refine lv_if_eq (tgt := 48) hx hb dX5_place_44 (by decide) (fun h => absurd h (by decide)) (fun _ => ?_)
        rw [hQ]
        exact rW_v hx hb hr hlk hS (Or.inr ⟨fun q => q8 q.2.2, ⟨ad, _, _, rfl, hW, hag, hht, hMA.th, rfl⟩⟩) dX5_place_47
    · have q11 := hq
      refine lv_if_eq (tgt := 40) hx hb dX5_place_19 (by decide) (fun _ => ?_) (fun h => absurd nI_0 h)
      refine lv_iconst (v := nI 0) hx hb dX5_place_40 rfl ?_
      refine wx_ws (wx_V (As := [.int (nI 0)]) (rest := []) hAt.fix (m_X5_bad0 l A Dg dA ad n nb nr J D I) q901 q903 qs22 q904 wn_X5_bad ⟨Nat.le_of_ble_eq_true rfl, Nat.le_of_ble_eq_true rfl, Nat.le_of_ble_eq_true rfl, Nat.le_of_ble_eq_true rfl⟩ (w_recv hK hW kX5 rfl (show (0 : Nat) < 1 by decide)) (Pw.of hK hW) hl.1 (Nat.le_of_ble_eq_true rfl) dX5_place_41) hS (fun r H locs hW hz hS => ?_)
      obtain ⟨rfl, hW⟩ := hW
      refine lv_if_eq (tgt := 48) hx hb dX5_place_44 (by decide) (fun h => absurd h (by decide)) (fun _ => ?_)
      rw [hQ]
      exact rW_v hx hb hr hlk hS (Or.inr ⟨fun q => q11 q.2.1, ⟨ad, _, _, rfl, hW, hag, hht, hMA.th, rfl⟩⟩) dX5_place_47
  · have q14 := hq
    refine lv_if_eq (tgt := 40) hx hb dX5_place_6 (by decide) (fun _ => ?_) (fun h => absurd nI_0 h)
    refine lv_iconst (v := nI 0) hx hb dX5_place_40 rfl ?_
    refine wx_ws (wx_V (As := [.int (nI 0)]) (rest := []) hAt.fix (m_X5_bad0 l A Dg dA ad n nb nr J D I) q901 q903 qs22 q904 wn_X5_bad ⟨Nat.le_of_ble_eq_true rfl, Nat.le_of_ble_eq_true rfl, Nat.le_of_ble_eq_true rfl, Nat.le_of_ble_eq_true rfl⟩ (w_recv hK hW kX5 rfl (show (0 : Nat) < 1 by decide)) (Pw.of hK hW) hl.1 (Nat.le_of_ble_eq_true rfl) dX5_place_41) hS (fun r H locs hW hz hS => ?_)
    obtain ⟨rfl, hW⟩ := hW
    refine lv_if_eq (tgt := 48) hx hb dX5_place_44 (by decide) (fun h => absurd h (by decide)) (fun _ => ?_)
    rw [hQ]
    exact rW_v hx hb hr hlk hS (Or.inr ⟨fun q => q14 q.1, ⟨ad, _, _, rfl, hW, hag, hht, hMA.th, rfl⟩⟩) dX5_place_47
set_option maxHeartbeats 4000000 in
theorem m_M_speed (l : Launch) (A : Nat → Prop) (Dg : va_G) (dA : Nat → ClassId) (x : Nat) (n : Nat) (nb : Nat) (nr : Nat) (J : Jt) (D0 : T64) (I0 : T32) (hI : Inv n nb nr J D0 I0) (k : Int32) (px : UInt64) (py : UInt64) (th : Int32) : MX l yX5_speed cX5_speed 6 none [] (rmx 3 0 0) [.ref (x), .int (k), .double (px), .double (py)] (Pw Dg dA (MS A Dg dA x n nb nr J D0 I0 th)) (qW (fun _ : Unit => none) (fun _ H => (okXY k n px py ∧ MS A Dg dA x n nb nr J ((oSp D0 (ix k) px py)) I0 ((nI 0)) H) ∨ (¬ okXY k n px py ∧ MS A Dg dA x n nb nr J D0 I0 ((nI 1)) H)) A) 0 0 A := by
  refine MX.start (Nat.le_of_ble_eq_true rfl) ?_
  intro p e s m args below meth c ls Q hAt hPc hl hQ
  have hl : lv_has ls 6 [(0, .ref (x)), (1, .int (k)), (2, .double (px)), (4, .double (py))] := hl
  obtain ⟨hx, hb, hml, hr, hlk, hown, hnm, htab, hts⟩ := id hAt
  obtain ⟨hK, hW⟩ := hPc
  have Z := Cx.of hAt hK
  have hS : va_S A s.heap s.heap [] := va_S.rf
  obtain ⟨ad, D, I, rfl, hW, hag, hht, hMA, hth⟩ := hW
  have hB := hI.bd
  have hn10 := hB.n10
  have hM := hMA.1
  refine lv_aload_n hx hb dX5_speed_0 rfl (lv_at hl 0 rfl) ?_
  refine lv_aload_n hx hb dX5_speed_1 rfl (lv_at hl 0 rfl) ?_
  refine lv_iload_n hx hb dX5_speed_2 rfl (lv_at hl 1 rfl) ?_
  refine wx_r (wx_V (As := [.int (k)]) (rest := [.ref (ad 30 0)]) hAt.fix (m_X5_isAtom l A Dg dA ad n nb nr J D I k hM.cn hn10) q916 q918 qs24 q919 wn_X5_isAtom ⟨Nat.le_of_ble_eq_true rfl, Nat.le_of_ble_eq_true rfl, Nat.le_of_ble_eq_true rfl, Nat.le_of_ble_eq_true rfl⟩ (w_recv hK hW kX5 rfl (show (0 : Nat) < 1 by decide)) (Pw.of hK hW) hl.1 (Nat.le_of_ble_eq_true rfl) dX5_speed_3) (fun r hr => ?_)
  rcases hr with ⟨rfl, hq⟩ | ⟨rfl, hq⟩
  · have q1 := hq
    refine lv_if_eq (tgt := 40) hx hb dX5_speed_6 (by decide) (fun h => absurd h (by decide)) (fun _ => ?_)
    refine lv_dload_n hx hb dX5_speed_9 rfl (lv_at hl 2 rfl) ?_
    refine lv_ldc2d (v := 13875379345695965184) hx hb hown (hts _ (lw_car_all q894)) dX5_speed_10 ?_
    refine lv_ldc2d (v := 4652007308841189376) hx hb hown (hts _ (lw_car_all q895)) dX5_speed_13 ?_
    refine wx_r (wx_S (As := [.double (px), .double (13875379345695965184), .double (4652007308841189376)]) (rest := [.ref (ad 30 0)]) hAt.fix (m_X5_within l px 13875379345695965184 4652007308841189376) q896 q897 q50 q898 wn_X5_in ⟨Nat.le_of_ble_eq_true rfl, Nat.le_of_ble_eq_true rfl, Nat.le_of_ble_eq_true rfl, Nat.le_of_ble_eq_true rfl⟩ (fun _ _ _ => trivial) hl.1 (Nat.le_of_ble_eq_true rfl) dX5_speed_16) (fun r hr => ?_)
    rcases hr with ⟨rfl, hq⟩ | ⟨rfl, hq⟩
    · have q3 := hq
      refine lv_if_eq (tgt := 40) hx hb dX5_speed_19 (by decide) (fun h => absurd h (by decide)) (fun _ => ?_)
      refine lv_dload hx hb dX5_speed_22 (lv_at hl 3 rfl) ?_
      refine lv_ldc2d (v := 13875379345695965184) hx hb hown (hts _ (lw_car_all q894)) dX5_speed_24 ?_
      refine lv_ldc2d (v := 4652007308841189376) hx hb hown (hts _ (lw_car_all q895)) dX5_speed_27 ?_
      refine wx_r (wx_S (As := [.double (py), .double (13875379345695965184), .double (4652007308841189376)]) (rest := [.ref (ad 30 0)]) hAt.fix (m_X5_within l py 13875379345695965184 4652007308841189376) q896 q897 q50 q898 wn_X5_in ⟨Nat.le_of_ble_eq_true rfl, Nat.le_of_ble_eq_true rfl, Nat.le_of_ble_eq_true rfl, Nat.le_of_ble_eq_true rfl⟩ (fun _ _ _ => trivial) hl.1 (Nat.le_of_ble_eq_true rfl) dX5_speed_30) (fun r hr => ?_)
      rcases hr with ⟨rfl, hq⟩ | ⟨rfl, hq⟩
      · have q5 := hq
        refine lv_if_eq (tgt := 40) hx hb dX5_speed_33 (by decide) (fun h => absurd h (by decide)) (fun _ => ?_)
        refine lv_iconst (v := nI 1) hx hb dX5_speed_36 rfl ?_
        refine lv_goto (tgt := 41) hx hb dX5_speed_37 (by decide) ?_
        refine wx_ws (wx_V (As := [.int (nI 1)]) (rest := []) hAt.fix (m_X5_bad1 l A Dg dA ad n nb nr J D I) q901 q903 qs22 q904 wn_X5_bad ⟨Nat.le_of_ble_eq_true rfl, Nat.le_of_ble_eq_true rfl, Nat.le_of_ble_eq_true rfl, Nat.le_of_ble_eq_true rfl⟩ (w_recv hK hW kX5 rfl (show (0 : Nat) < 1 by decide)) (Pw.of hK hW) hl.1 (Nat.le_of_ble_eq_true rfl) dX5_speed_41) hS (fun r H locs hW hz hS => ?_)
        obtain ⟨rfl, hW⟩ := hW
        have hok : okXY k n px py := ⟨q1, q3, q5⟩
        obtain ⟨i, hi, rfl⟩ := hok.1
        refine lv_if_eq (tgt := 48) hx hb dX5_speed_44 (by decide) (fun _ => ?_) (fun h => absurd nI_0 h)
        refine lv_aload_n hx hb dX5_speed_48 rfl (lv_at hl 0 rfl) ?_
        refine w_getR (v := .ref (ad 33 0)) Z hW kX5 rfl 6 (by decide) q746 (show (0 : Nat) < 1 by decide) rfl rfl dX5_speed_49 ?_
        refine lv_iload_n hx hb dX5_speed_52 rfl (lv_at hl 1 rfl) ?_
        refine lv_dload_n hx hb dX5_speed_53 rfl (lv_at hl 2 rfl) ?_
        refine w_ads (j := i) (ix := i) Z hW hS rfl (show (0 : Nat) < 1 by decide) rfl (by omega) (by decide) (show (i : Nat) < 10 by omega) rfl rfl dX5_speed_54 (fun H locs hW hS => ?_)
        refine lv_aload_n hx hb dX5_speed_55 rfl (lv_at hl 0 rfl) ?_
        refine w_getR (v := .ref (ad 34 0)) Z hW kX5 rfl 7 (by decide) q747 (show (0 : Nat) < 1 by decide) rfl rfl dX5_speed_56 ?_
        refine lv_iload_n hx hb dX5_speed_59 rfl (lv_at hl 1 rfl) ?_
        refine lv_dload hx hb dX5_speed_60 (lv_at hl 3 rfl) ?_
        refine w_ads (j := i) (ix := i) Z hW hS rfl (show (0 : Nat) < 1 by decide) rfl (by omega) (by decide) (show (i : Nat) < 10 by omega) rfl rfl dX5_speed_62 (fun H locs hW hS => ?_)
        rw [hQ]
        exact rW_v hx hb hr hlk hS (Or.inl (by rw [ix_nI (by omega)]; exact ⟨hok, ad, _, _, rfl, hW, (hag.put 2 i _).put 3 i _, hht, hMA.th, rfl⟩)) dX5_speed_63
      · have q8 := hq
        refine lv_if_eq (tgt := 40) hx hb dX5_speed_33 (by decide) (fun _ => ?_) (fun h => absurd nI_0 h)
        refine lv_iconst (v := nI 0) hx hb dX5_speed_40 rfl ?_
        refine wx_ws (wx_V (As := [.int (nI 0)]) (rest := []) hAt.fix (m_X5_bad0 l A Dg dA ad n nb nr J D I) q901 q903 qs22 q904 wn_X5_bad ⟨Nat.le_of_ble_eq_true rfl, Nat.le_of_ble_eq_true rfl, Nat.le_of_ble_eq_true rfl, Nat.le_of_ble_eq_true rfl⟩ (w_recv hK hW kX5 rfl (show (0 : Nat) < 1 by decide)) (Pw.of hK hW) hl.1 (Nat.le_of_ble_eq_true rfl) dX5_speed_41) hS (fun r H locs hW hz hS => ?_)
        obtain ⟨rfl, hW⟩ := hW
        refine lv_if_eq (tgt := 48) hx hb dX5_speed_44 (by decide) (fun h => absurd h (by decide)) (fun _ => ?_)
        rw [hQ]
        exact rW_v hx hb hr hlk hS (Or.inr ⟨fun q => q8 q.2.2, ⟨ad, _, _, rfl, hW, hag, hht, hMA.th, rfl⟩⟩) dX5_speed_47
    · have q11 := hq
      refine lv_if_eq (tgt := 40) hx hb dX5_speed_19 (by decide) (fun _ => ?_) (fun h => absurd nI_0 h)
      refine lv_iconst (v := nI 0) hx hb dX5_speed_40 rfl ?_
      refine wx_ws (wx_V (As := [.int (nI 0)]) (rest := []) hAt.fix (m_X5_bad0 l A Dg dA ad n nb nr J D I) q901 q903 qs22 q904 wn_X5_bad ⟨Nat.le_of_ble_eq_true rfl, Nat.le_of_ble_eq_true rfl, Nat.le_of_ble_eq_true rfl, Nat.le_of_ble_eq_true rfl⟩ (w_recv hK hW kX5 rfl (show (0 : Nat) < 1 by decide)) (Pw.of hK hW) hl.1 (Nat.le_of_ble_eq_true rfl) dX5_speed_41) hS (fun r H locs hW hz hS => ?_)
      obtain ⟨rfl, hW⟩ := hW
      refine lv_if_eq (tgt := 48) hx hb dX5_speed_44 (by decide) (fun h => absurd h (by decide)) (fun _ => ?_)
      rw [hQ]
      exact rW_v hx hb hr hlk hS (Or.inr ⟨fun q => q11 q.2.1, ⟨ad, _, _, rfl, hW, hag, hht, hMA.th, rfl⟩⟩) dX5_speed_47
  · have q14 := hq
    refine lv_if_eq (tgt := 40) hx hb dX5_speed_6 (by decide) (fun _ => ?_) (fun h => absurd nI_0 h)
    refine lv_iconst (v := nI 0) hx hb dX5_speed_40 rfl ?_
    refine wx_ws (wx_V (As := [.int (nI 0)]) (rest := []) hAt.fix (m_X5_bad0 l A Dg dA ad n nb nr J D I) q901 q903 qs22 q904 wn_X5_bad ⟨Nat.le_of_ble_eq_true rfl, Nat.le_of_ble_eq_true rfl, Nat.le_of_ble_eq_true rfl, Nat.le_of_ble_eq_true rfl⟩ (w_recv hK hW kX5 rfl (show (0 : Nat) < 1 by decide)) (Pw.of hK hW) hl.1 (Nat.le_of_ble_eq_true rfl) dX5_speed_41) hS (fun r H locs hW hz hS => ?_)
    obtain ⟨rfl, hW⟩ := hW
    refine lv_if_eq (tgt := 48) hx hb dX5_speed_44 (by decide) (fun h => absurd h (by decide)) (fun _ => ?_)
    rw [hQ]
    exact rW_v hx hb hr hlk hS (Or.inr ⟨fun q => q14 q.1, ⟨ad, _, _, rfl, hW, hag, hht, hMA.th, rfl⟩⟩) dX5_speed_47
set_option maxHeartbeats 4000000 in
theorem m_M_sort (l : Launch) (A : Nat → Prop) (Dg : va_G) (dA : Nat → ClassId) (x : Nat) (n : Nat) (nb : Nat) (nr : Nat) (J : Jt) (D0 : T64) (I0 : T32) (hI : Inv n nb nr J D0 I0) (k : Int32) (w : UInt64) (d : UInt64) (ch : UInt64) (th : Int32) : MX l yX5_sort cX5_sort 8 none [] (rmx 3 0 0) [.ref (x), .int (k), .double (w), .double (d), .double (ch)] (Pw Dg dA (MS A Dg dA x n nb nr J D0 I0 th)) (qW (fun _ : Unit => none) (fun _ H => (okSo k w d ch ∧ MS A Dg dA x n nb nr J ((oSo D0 (ix k) w d ch)) I0 ((nI 0)) H) ∨ (¬ okSo k w d ch ∧ MS A Dg dA x n nb nr J D0 I0 ((nI 1)) H)) A) 0 0 A := by
  refine MX.start (Nat.le_of_ble_eq_true rfl) ?_
  intro p e s m args below meth c ls Q hAt hPc hl hQ
  have hl : lv_has ls 8 [(0, .ref (x)), (1, .int (k)), (2, .double (w)), (4, .double (d)), (6, .double (ch))] := hl
  obtain ⟨hx, hb, hml, hr, hlk, hown, hnm, htab, hts⟩ := id hAt
  obtain ⟨hK, hW⟩ := hPc
  have Z := Cx.of hAt hK
  have hS : va_S A s.heap s.heap [] := va_S.rf
  obtain ⟨ad, D, I, rfl, hW, hag, hht, hMA, hth⟩ := hW
  have hB := hI.bd
  have hn10 := hB.n10
  have hM := hMA.1
  refine lv_aload_n hx hb dX5_sort_0 rfl (lv_at hl 0 rfl) ?_
  refine lv_iload_n hx hb dX5_sort_1 rfl (lv_at hl 1 rfl) ?_
  refine lv_if_lt (tgt := 53) hx hb dX5_sort_2 (by decide) (fun c1 => ?_) (fun c1 => ?_)
  · refine lv_iconst (v := nI 0) hx hb dX5_sort_53 rfl ?_
    refine wx_ws (wx_V (As := [.int (nI 0)]) (rest := []) hAt.fix (m_X5_bad0 l A Dg dA ad n nb nr J D I) q901 q903 qs22 q904 wn_X5_bad ⟨Nat.le_of_ble_eq_true rfl, Nat.le_of_ble_eq_true rfl, Nat.le_of_ble_eq_true rfl, Nat.le_of_ble_eq_true rfl⟩ (w_recv hK hW kX5 rfl (show (0 : Nat) < 1 by decide)) (Pw.of hK hW) hl.1 (Nat.le_of_ble_eq_true rfl) dX5_sort_54) hS (fun r H locs hW hz hS => ?_)
    obtain ⟨rfl, hW⟩ := hW
    refine lv_if_eq (tgt := 61) hx hb dX5_sort_57 (by decide) (fun h => absurd h (by decide)) (fun _ => ?_)
    rw [hQ]
    exact rW_v hx hb hr hlk hS (Or.inr ⟨fun q => q.1.1 c1, ⟨ad, _, _, rfl, hW, hag, hht, hMA.th, rfl⟩⟩) dX5_sort_60
  · refine lv_iload_n hx hb dX5_sort_5 rfl (lv_at hl 1 rfl) ?_
    refine lv_iconst (v := nI 3) hx hb dX5_sort_6 rfl ?_
    refine lv_icmp_ge (tgt := 53) hx hb dX5_sort_7 (by decide) (fun c3 => ?_) (fun c3 => ?_)
    · refine lv_iconst (v := nI 0) hx hb dX5_sort_53 rfl ?_
      refine wx_ws (wx_V (As := [.int (nI 0)]) (rest := []) hAt.fix (m_X5_bad0 l A Dg dA ad n nb nr J D I) q901 q903 qs22 q904 wn_X5_bad ⟨Nat.le_of_ble_eq_true rfl, Nat.le_of_ble_eq_true rfl, Nat.le_of_ble_eq_true rfl, Nat.le_of_ble_eq_true rfl⟩ (w_recv hK hW kX5 rfl (show (0 : Nat) < 1 by decide)) (Pw.of hK hW) hl.1 (Nat.le_of_ble_eq_true rfl) dX5_sort_54) hS (fun r H locs hW hz hS => ?_)
      obtain ⟨rfl, hW⟩ := hW
      refine lv_if_eq (tgt := 61) hx hb dX5_sort_57 (by decide) (fun h => absurd h (by decide)) (fun _ => ?_)
      rw [hQ]
      exact rW_v hx hb hr hlk hS (Or.inr ⟨fun q => q.1.2 c3, ⟨ad, _, _, rfl, hW, hag, hht, hMA.th, rfl⟩⟩) dX5_sort_60
    · refine lv_dload_n hx hb dX5_sort_10 rfl (lv_at hl 2 rfl) ?_
      refine lv_ldc2d (v := 4593671619917905920) hx hb hown (hts _ (lw_car_all q899)) dX5_sort_11 ?_
      refine lv_ldc2d (v := 4616189618054758400) hx hb hown (hts _ (lw_car_all q928)) dX5_sort_14 ?_
      refine wx_r (wx_S (As := [.double (w), .double (4593671619917905920), .double (4616189618054758400)]) (rest := [.ref (ad 30 0)]) hAt.fix (m_X5_within l w 4593671619917905920 4616189618054758400) q896 q897 q50 q898 wn_X5_in ⟨Nat.le_of_ble_eq_true rfl, Nat.le_of_ble_eq_true rfl, Nat.le_of_ble_eq_true rfl, Nat.le_of_ble_eq_true rfl⟩ (fun _ _ _ => trivial) hl.1 (Nat.le_of_ble_eq_true rfl) dX5_sort_17) (fun r hr => ?_)
      rcases hr with ⟨rfl, hq⟩ | ⟨rfl, hq⟩
      · have q5 := hq
        refine lv_if_eq (tgt := 53) hx hb dX5_sort_20 (by decide) (fun h => absurd h (by decide)) (fun _ => ?_)
        refine lv_dload hx hb dX5_sort_23 (lv_at hl 3 rfl) ?_
        refine lv_dconst0 hx hb dX5_sort_25 ?_
        refine lv_ldc2d (v := 4634204016564240384) hx hb hown (hts _ (lw_car_all q900)) dX5_sort_26 ?_
        refine wx_r (wx_S (As := [.double (d), .double (FP.dconst0), .double (4634204016564240384)]) (rest := [.ref (ad 30 0)]) hAt.fix (m_X5_within l d FP.dconst0 4634204016564240384) q896 q897 q50 q898 wn_X5_in ⟨Nat.le_of_ble_eq_true rfl, Nat.le_of_ble_eq_true rfl, Nat.le_of_ble_eq_true rfl, Nat.le_of_ble_eq_true rfl⟩ (fun _ _ _ => trivial) hl.1 (Nat.le_of_ble_eq_true rfl) dX5_sort_29) (fun r hr => ?_)
        rcases hr with ⟨rfl, hq⟩ | ⟨rfl, hq⟩
        · have q7 := hq
          refine lv_if_eq (tgt := 53) hx hb dX5_sort_32 (by decide) (fun h => absurd h (by decide)) (fun _ => ?_)
          refine lv_dload hx hb dX5_sort_35 (lv_at hl 4 rfl) ?_
          refine lv_ldc2d (v := 13844065254536904704) hx hb hown (hts _ (lw_car_all q929)) dX5_sort_37 ?_
          refine lv_ldc2d (v := 4620693217682128896) hx hb hown (hts _ (lw_car_all q930)) dX5_sort_40 ?_
          refine wx_r (wx_S (As := [.double (ch), .double (13844065254536904704), .double (4620693217682128896)]) (rest := [.ref (ad 30 0)]) hAt.fix (m_X5_within l ch 13844065254536904704 4620693217682128896) q896 q897 q50 q898 wn_X5_in ⟨Nat.le_of_ble_eq_true rfl, Nat.le_of_ble_eq_true rfl, Nat.le_of_ble_eq_true rfl, Nat.le_of_ble_eq_true rfl⟩ (fun _ _ _ => trivial) hl.1 (Nat.le_of_ble_eq_true rfl) dX5_sort_43) (fun r hr => ?_)
          rcases hr with ⟨rfl, hq⟩ | ⟨rfl, hq⟩
          · have q9 := hq
            refine lv_if_eq (tgt := 53) hx hb dX5_sort_46 (by decide) (fun h => absurd h (by decide)) (fun _ => ?_)
            refine lv_iconst (v := nI 1) hx hb dX5_sort_49 rfl ?_
            refine lv_goto (tgt := 54) hx hb dX5_sort_50 (by decide) ?_
            refine wx_ws (wx_V (As := [.int (nI 1)]) (rest := []) hAt.fix (m_X5_bad1 l A Dg dA ad n nb nr J D I) q901 q903 qs22 q904 wn_X5_bad ⟨Nat.le_of_ble_eq_true rfl, Nat.le_of_ble_eq_true rfl, Nat.le_of_ble_eq_true rfl, Nat.le_of_ble_eq_true rfl⟩ (w_recv hK hW kX5 rfl (show (0 : Nat) < 1 by decide)) (Pw.of hK hW) hl.1 (Nat.le_of_ble_eq_true rfl) dX5_sort_54) hS (fun r H locs hW hz hS => ?_)
            obtain ⟨rfl, hW⟩ := hW
            have hok : okSo k w d ch := ⟨⟨c1, c3⟩, q5, q7, q9⟩
            obtain ⟨i, hi, rfl⟩ := ok3_of hok.1
            refine lv_if_eq (tgt := 61) hx hb dX5_sort_57 (by decide) (fun _ => ?_) (fun h => absurd nI_0 h)
            refine lv_aload_n hx hb dX5_sort_61 rfl (lv_at hl 0 rfl) ?_
            refine w_getR (v := .ref (ad 38 0)) Z hW kX5 rfl 11 (by decide) q751 (show (0 : Nat) < 1 by decide) rfl rfl dX5_sort_62 ?_
            refine lv_iload_n hx hb dX5_sort_65 rfl (lv_at hl 1 rfl) ?_
            refine lv_dload_n hx hb dX5_sort_66 rfl (lv_at hl 2 rfl) ?_
            refine w_ads (j := i) (ix := i) Z hW hS rfl (show (0 : Nat) < 1 by decide) rfl (by omega) (by decide) (show (i : Nat) < 3 by omega) rfl rfl dX5_sort_67 (fun H locs hW hS => ?_)
            refine lv_aload_n hx hb dX5_sort_68 rfl (lv_at hl 0 rfl) ?_
            refine w_getR (v := .ref (ad 39 0)) Z hW kX5 rfl 12 (by decide) q752 (show (0 : Nat) < 1 by decide) rfl rfl dX5_sort_69 ?_
            refine lv_iload_n hx hb dX5_sort_72 rfl (lv_at hl 1 rfl) ?_
            refine lv_dload hx hb dX5_sort_73 (lv_at hl 3 rfl) ?_
            refine w_ads (j := i) (ix := i) Z hW hS rfl (show (0 : Nat) < 1 by decide) rfl (by omega) (by decide) (show (i : Nat) < 3 by omega) rfl rfl dX5_sort_75 (fun H locs hW hS => ?_)
            refine lv_aload_n hx hb dX5_sort_76 rfl (lv_at hl 0 rfl) ?_
            refine w_getR (v := .ref (ad 40 0)) Z hW kX5 rfl 13 (by decide) q753 (show (0 : Nat) < 1 by decide) rfl rfl dX5_sort_77 ?_
            refine lv_iload_n hx hb dX5_sort_80 rfl (lv_at hl 1 rfl) ?_
            refine lv_dload hx hb dX5_sort_81 (lv_at hl 4 rfl) ?_
            refine w_ads (j := i) (ix := i) Z hW hS rfl (show (0 : Nat) < 1 by decide) rfl (by omega) (by decide) (show (i : Nat) < 3 by omega) rfl rfl dX5_sort_83 (fun H locs hW hS => ?_)
            rw [hQ]
            exact rW_v hx hb hr hlk hS (Or.inl (by rw [ix_nI (by omega)]; exact ⟨hok, ad, _, _, rfl, hW, ((hag.put 7 i _).put 8 i _).put 9 i _, hht, hMA.th, rfl⟩)) dX5_sort_84
          · have q12 := hq
            refine lv_if_eq (tgt := 53) hx hb dX5_sort_46 (by decide) (fun _ => ?_) (fun h => absurd nI_0 h)
            refine lv_iconst (v := nI 0) hx hb dX5_sort_53 rfl ?_
            refine wx_ws (wx_V (As := [.int (nI 0)]) (rest := []) hAt.fix (m_X5_bad0 l A Dg dA ad n nb nr J D I) q901 q903 qs22 q904 wn_X5_bad ⟨Nat.le_of_ble_eq_true rfl, Nat.le_of_ble_eq_true rfl, Nat.le_of_ble_eq_true rfl, Nat.le_of_ble_eq_true rfl⟩ (w_recv hK hW kX5 rfl (show (0 : Nat) < 1 by decide)) (Pw.of hK hW) hl.1 (Nat.le_of_ble_eq_true rfl) dX5_sort_54) hS (fun r H locs hW hz hS => ?_)
            obtain ⟨rfl, hW⟩ := hW
            refine lv_if_eq (tgt := 61) hx hb dX5_sort_57 (by decide) (fun h => absurd h (by decide)) (fun _ => ?_)
            rw [hQ]
            exact rW_v hx hb hr hlk hS (Or.inr ⟨fun q => q12 q.2.2.2, ⟨ad, _, _, rfl, hW, hag, hht, hMA.th, rfl⟩⟩) dX5_sort_60
        · have q15 := hq
          refine lv_if_eq (tgt := 53) hx hb dX5_sort_32 (by decide) (fun _ => ?_) (fun h => absurd nI_0 h)
          refine lv_iconst (v := nI 0) hx hb dX5_sort_53 rfl ?_
          refine wx_ws (wx_V (As := [.int (nI 0)]) (rest := []) hAt.fix (m_X5_bad0 l A Dg dA ad n nb nr J D I) q901 q903 qs22 q904 wn_X5_bad ⟨Nat.le_of_ble_eq_true rfl, Nat.le_of_ble_eq_true rfl, Nat.le_of_ble_eq_true rfl, Nat.le_of_ble_eq_true rfl⟩ (w_recv hK hW kX5 rfl (show (0 : Nat) < 1 by decide)) (Pw.of hK hW) hl.1 (Nat.le_of_ble_eq_true rfl) dX5_sort_54) hS (fun r H locs hW hz hS => ?_)
          obtain ⟨rfl, hW⟩ := hW
          refine lv_if_eq (tgt := 61) hx hb dX5_sort_57 (by decide) (fun h => absurd h (by decide)) (fun _ => ?_)
          rw [hQ]
          exact rW_v hx hb hr hlk hS (Or.inr ⟨fun q => q15 q.2.2.1, ⟨ad, _, _, rfl, hW, hag, hht, hMA.th, rfl⟩⟩) dX5_sort_60
      · have q18 := hq
        refine lv_if_eq (tgt := 53) hx hb dX5_sort_20 (by decide) (fun _ => ?_) (fun h => absurd nI_0 h)
        refine lv_iconst (v := nI 0) hx hb dX5_sort_53 rfl ?_
        refine wx_ws (wx_V (As := [.int (nI 0)]) (rest := []) hAt.fix (m_X5_bad0 l A Dg dA ad n nb nr J D I) q901 q903 qs22 q904 wn_X5_bad ⟨Nat.le_of_ble_eq_true rfl, Nat.le_of_ble_eq_true rfl, Nat.le_of_ble_eq_true rfl, Nat.le_of_ble_eq_true rfl⟩ (w_recv hK hW kX5 rfl (show (0 : Nat) < 1 by decide)) (Pw.of hK hW) hl.1 (Nat.le_of_ble_eq_true rfl) dX5_sort_54) hS (fun r H locs hW hz hS => ?_)
        obtain ⟨rfl, hW⟩ := hW
        refine lv_if_eq (tgt := 61) hx hb dX5_sort_57 (by decide) (fun h => absurd h (by decide)) (fun _ => ?_)
        rw [hQ]
        exact rW_v hx hb hr hlk hS (Or.inr ⟨fun q => q18 q.2.1, ⟨ad, _, _, rfl, hW, hag, hht, hMA.th, rfl⟩⟩) dX5_sort_60
set_option maxHeartbeats 4000000 in
theorem m_M_cut (l : Launch) (A : Nat → Prop) (Dg : va_G) (dA : Nat → ClassId) (x : Nat) (n : Nat) (nb : Nat) (nr : Nat) (J : Jt) (D0 : T64) (I0 : T32) (hI : Inv n nb nr J D0 I0) (pc : UInt64) (pk : UInt64) (th : Int32) : MX l yX5_cut cX5_cut 5 none [] (rmx 3 0 0) [.ref (x), .double (pc), .double (pk)] (Pw Dg dA (MS A Dg dA x n nb nr J D0 I0 th)) (qW (fun _ : Unit => none) (fun _ H => (okCu (D0 20 0) pc pk ∧ MS A Dg dA x n nb nr J ((oCu D0 pc pk)) ((oUl I0)) ((nI 0)) H) ∨ (¬ okCu (D0 20 0) pc pk ∧ MS A Dg dA x n nb nr J D0 I0 ((nI 1)) H)) A) 0 0 A := by
  refine MX.start (Nat.le_of_ble_eq_true rfl) ?_
  intro p e s m args below meth c ls Q hAt hPc hl hQ
  have hl : lv_has ls 5 [(0, .ref (x)), (1, .double (pc)), (3, .double (pk))] := hl
  obtain ⟨hx, hb, hml, hr, hlk, hown, hnm, htab, hts⟩ := id hAt
  obtain ⟨hK, hW⟩ := hPc
  have Z := Cx.of hAt hK
  have hS : va_S A s.heap s.heap [] := va_S.rf
  obtain ⟨ad, D, I, rfl, hW, hag, hht, hMA, hth⟩ := hW
  have hB := hI.bd
  have hn10 := hB.n10
  have hM := hMA.1
  refine lv_aload_n hx hb dX5_cut_0 rfl (lv_at hl 0 rfl) ?_
  refine lv_dload_n hx hb dX5_cut_1 rfl (lv_at hl 1 rfl) ?_
  refine lv_ldc2d (v := 4602678819172646912) hx hb hown (hts _ (lw_car_all q737)) dX5_cut_2 ?_
  refine lv_aload_n hx hb dX5_cut_5 rfl (lv_at hl 0 rfl) ?_
  refine g_D (x := D0 20 0) Z hW kX5 rfl 0 (by decide) q740 (show (0 : Nat) < 1 by decide) rfl (hag 20 0 rfl) dX5_cut_6 ?_
  refine lv_ldc2d (v := 4602678819172646912) hx hb hown (hts _ (lw_car_all q737)) dX5_cut_9 ?_
  have f1 : fb (4) (FP.dmul (D0 20 0) 4602678819172646912) := fb.mul hB.side.fb fc_4602678819172646912 (by decide)
  refine lv_dmul hx hb dX5_cut_12 f1.n64 ?_
  refine wx_r (wx_S (As := [.double (pc), .double (4602678819172646912), .double (FP.dmul (D0 20 0) 4602678819172646912)]) (rest := [.ref (ad 30 0)]) hAt.fix (m_X5_within l pc 4602678819172646912 (FP.dmul (D0 20 0) 4602678819172646912)) q896 q897 q50 q898 wn_X5_in ⟨Nat.le_of_ble_eq_true rfl, Nat.le_of_ble_eq_true rfl, Nat.le_of_ble_eq_true rfl, Nat.le_of_ble_eq_true rfl⟩ (fun _ _ _ => trivial) hl.1 (Nat.le_of_ble_eq_true rfl) dX5_cut_13) (fun r hr => ?_)
  rcases hr with ⟨rfl, hq⟩ | ⟨rfl, hq⟩
  · have q2 := hq
    refine lv_if_eq (tgt := 34) hx hb dX5_cut_16 (by decide) (fun h => absurd h (by decide)) (fun _ => ?_)
    refine lv_dload_n hx hb dX5_cut_19 rfl (lv_at hl 2 rfl) ?_
    refine lv_dconst0 hx hb dX5_cut_20 ?_
    refine lv_ldc2d (v := 4616189618054758400) hx hb hown (hts _ (lw_car_all q928)) dX5_cut_21 ?_
    refine wx_r (wx_S (As := [.double (pk), .double (FP.dconst0), .double (4616189618054758400)]) (rest := [.ref (ad 30 0)]) hAt.fix (m_X5_within l pk FP.dconst0 4616189618054758400) q896 q897 q50 q898 wn_X5_in ⟨Nat.le_of_ble_eq_true rfl, Nat.le_of_ble_eq_true rfl, Nat.le_of_ble_eq_true rfl, Nat.le_of_ble_eq_true rfl⟩ (fun _ _ _ => trivial) hl.1 (Nat.le_of_ble_eq_true rfl) dX5_cut_24) (fun r hr => ?_)
    rcases hr with ⟨rfl, hq⟩ | ⟨rfl, hq⟩
    · have q4 := hq
      refine lv_if_eq (tgt := 34) hx hb dX5_cut_27 (by decide) (fun h => absurd h (by decide)) (fun _ => ?_)
      refine lv_iconst (v := nI 1) hx hb dX5_cut_30 rfl ?_
      refine lv_goto (tgt := 35) hx hb dX5_cut_31 (by decide) ?_
      refine wx_ws (wx_V (As := [.int (nI 1)]) (rest := []) hAt.fix (m_X5_bad1 l A Dg dA ad n nb nr J D I) q901 q903 qs22 q904 wn_X5_bad ⟨Nat.le_of_ble_eq_true rfl, Nat.le_of_ble_eq_true rfl, Nat.le_of_ble_eq_true rfl, Nat.le_of_ble_eq_true rfl⟩ (w_recv hK hW kX5 rfl (show (0 : Nat) < 1 by decide)) (Pw.of hK hW) hl.1 (Nat.le_of_ble_eq_true rfl) dX5_cut_35) hS (fun r H locs hW hz hS => ?_)
      obtain ⟨rfl, hW⟩ := hW
      refine lv_if_eq (tgt := 42) hx hb dX5_cut_38 (by decide) (fun _ => ?_) (fun h => absurd nI_0 h)
      refine lv_aload_n hx hb dX5_cut_42 rfl (lv_at hl 0 rfl) ?_
      refine lv_dload_n hx hb dX5_cut_43 rfl (lv_at hl 1 rfl) ?_
      refine w_putD Z hW hS kX5 rfl 1 (by decide) (by decide) q741 rfl (show (0 : Nat) < 1 by decide) rfl rfl dX5_cut_44 (fun H locs hW hS => ?_)
      refine lv_aload_n hx hb dX5_cut_47 rfl (lv_at hl 0 rfl) ?_
      refine lv_dload_n hx hb dX5_cut_48 rfl (lv_at hl 2 rfl) ?_
      refine w_putD Z hW hS kX5 rfl 2 (by decide) (by decide) q742 rfl (show (0 : Nat) < 1 by decide) rfl rfl dX5_cut_49 (fun H locs hW hS => ?_)
      refine lv_aload_n hx hb dX5_cut_52 rfl (lv_at hl 0 rfl) ?_
      refine lv_iconst (v := nI 0) hx hb dX5_cut_53 rfl ?_
      refine w_putI Z hW hS kX5 rfl 26 (by decide) (by decide) q766 rfl (show (0 : Nat) < 1 by decide) rfl rfl rfl dX5_cut_54 (fun H locs hW hS => ?_)
      rw [hQ]
      exact rW_v hx hb hr hlk hS (Or.inl ⟨⟨q2, q4⟩, ad, _, _, rfl, hW, (hag.put 21 0 _).put 22 0 _, hht, (hMA.th).put23 _, rfl⟩) dX5_cut_57
    · have q7 := hq
      refine lv_if_eq (tgt := 34) hx hb dX5_cut_27 (by decide) (fun _ => ?_) (fun h => absurd nI_0 h)
      refine lv_iconst (v := nI 0) hx hb dX5_cut_34 rfl ?_
      refine wx_ws (wx_V (As := [.int (nI 0)]) (rest := []) hAt.fix (m_X5_bad0 l A Dg dA ad n nb nr J D I) q901 q903 qs22 q904 wn_X5_bad ⟨Nat.le_of_ble_eq_true rfl, Nat.le_of_ble_eq_true rfl, Nat.le_of_ble_eq_true rfl, Nat.le_of_ble_eq_true rfl⟩ (w_recv hK hW kX5 rfl (show (0 : Nat) < 1 by decide)) (Pw.of hK hW) hl.1 (Nat.le_of_ble_eq_true rfl) dX5_cut_35) hS (fun r H locs hW hz hS => ?_)
      obtain ⟨rfl, hW⟩ := hW
      refine lv_if_eq (tgt := 42) hx hb dX5_cut_38 (by decide) (fun h => absurd h (by decide)) (fun _ => ?_)
      rw [hQ]
      exact rW_v hx hb hr hlk hS (Or.inr ⟨fun q => q7 q.2, ⟨ad, _, _, rfl, hW, hag, hht, hMA.th, rfl⟩⟩) dX5_cut_41
  · have q10 := hq
    refine lv_if_eq (tgt := 34) hx hb dX5_cut_16 (by decide) (fun _ => ?_) (fun h => absurd nI_0 h)
    refine lv_iconst (v := nI 0) hx hb dX5_cut_34 rfl ?_
    refine wx_ws (wx_V (As := [.int (nI 0)]) (rest := []) hAt.fix (m_X5_bad0 l A Dg dA ad n nb nr J D I) q901 q903 qs22 q904 wn_X5_bad ⟨Nat.le_of_ble_eq_true rfl, Nat.le_of_ble_eq_true rfl, Nat.le_of_ble_eq_true rfl, Nat.le_of_ble_eq_true rfl⟩ (w_recv hK hW kX5 rfl (show (0 : Nat) < 1 by decide)) (Pw.of hK hW) hl.1 (Nat.le_of_ble_eq_true rfl) dX5_cut_35) hS (fun r H locs hW hz hS => ?_)
    obtain ⟨rfl, hW⟩ := hW
    refine lv_if_eq (tgt := 42) hx hb dX5_cut_38 (by decide) (fun h => absurd h (by decide)) (fun _ => ?_)
    rw [hQ]
    exact rW_v hx hb hr hlk hS (Or.inr ⟨fun q => q10 q.1, ⟨ad, _, _, rfl, hW, hag, hht, hMA.th, rfl⟩⟩) dX5_cut_41
set_option maxHeartbeats 4000000 in
theorem m_M_stuck (l : Launch) (A : Nat → Prop) (Dg : va_G) (dA : Nat → ClassId) (x : Nat) (n : Nat) (nb : Nat) (nr : Nat) (J : Jt) (D0 : T64) (I0 : T32) (hI : Inv n nb nr J D0 I0) (k : Int32) (on : Int32) (hon : on = 0 ∨ on = 1) (th : Int32) : MX l yX5_stuck cX5_stuck 3 none [] (rmx 3 0 0) [.ref (x), .int (k), .int (on)] (Pw Dg dA (MS A Dg dA x n nb nr J D0 I0 th)) (qW (fun _ : Unit => none) (fun _ H => (okI k n ∧ MS A Dg dA x n nb nr J ((oSt D0 (ix k) on)) ((up2 I0 1 (ix k) on)) ((nI 0)) H) ∨ (¬ okI k n ∧ MS A Dg dA x n nb nr J D0 I0 ((nI 1)) H)) A) 0 0 A := by
  refine MX.start (Nat.le_of_ble_eq_true rfl) ?_
  intro p e s m args below meth c ls Q hAt hPc hl hQ
  have hl : lv_has ls 3 [(0, .ref (x)), (1, .int (k)), (2, .int (on))] := hl
  obtain ⟨hx, hb, hml, hr, hlk, hown, hnm, htab, hts⟩ := id hAt
  obtain ⟨hK, hW⟩ := hPc
  have Z := Cx.of hAt hK
  have hS : va_S A s.heap s.heap [] := va_S.rf
  obtain ⟨ad, D, I, rfl, hW, hag, hht, hMA, hth⟩ := hW
  have hB := hI.bd
  have hn10 := hB.n10
  have hM := hMA.1
  refine lv_aload_n hx hb dX5_stuck_0 rfl (lv_at hl 0 rfl) ?_
  refine lv_aload_n hx hb dX5_stuck_1 rfl (lv_at hl 0 rfl) ?_
  refine lv_iload_n hx hb dX5_stuck_2 rfl (lv_at hl 1 rfl) ?_
  refine wx_r (wx_V (As := [.int (k)]) (rest := [.ref (ad 30 0)]) hAt.fix (m_X5_isAtom l A Dg dA ad n nb nr J D I k hM.cn hn10) q916 q918 qs24 q919 wn_X5_isAtom ⟨Nat.le_of_ble_eq_true rfl, Nat.le_of_ble_eq_true rfl, Nat.le_of_ble_eq_true rfl, Nat.le_of_ble_eq_true rfl⟩ (w_recv hK hW kX5 rfl (show (0 : Nat) < 1 by decide)) (Pw.of hK hW) hl.1 (Nat.le_of_ble_eq_true rfl) dX5_stuck_3) (fun r hr => ?_)
  rcases hr with ⟨rfl, hq⟩ | ⟨rfl, hq⟩
  · have q1 := hq
    refine wx_ws (wx_V (As := [.int (nI 1)]) (rest := []) hAt.fix (m_X5_bad1 l A Dg dA ad n nb nr J D I) q901 q903 qs22 q904 wn_X5_bad ⟨Nat.le_of_ble_eq_true rfl, Nat.le_of_ble_eq_true rfl, Nat.le_of_ble_eq_true rfl, Nat.le_of_ble_eq_true rfl⟩ (w_recv hK hW kX5 rfl (show (0 : Nat) < 1 by decide)) (Pw.of hK hW) hl.1 (Nat.le_of_ble_eq_true rfl) dX5_stuck_6) hS (fun r H locs hW hz hS => ?_)
    obtain ⟨rfl, hW⟩ := hW
    obtain ⟨i, hi, rfl⟩ := id q1
    refine lv_if_eq (tgt := 13) hx hb dX5_stuck_9 (by decide) (fun _ => ?_) (fun h => absurd nI_0 h)
    refine lv_aload_n hx hb dX5_stuck_13 rfl (lv_at hl 0 rfl) ?_
    refine w_getR (v := .ref (ad 37 0)) Z hW kX5 rfl 10 (by decide) q750 (show (0 : Nat) < 1 by decide) rfl rfl dX5_stuck_14 ?_
    refine lv_iload_n hx hb dX5_stuck_17 rfl (lv_at hl 1 rfl) ?_
    refine lv_iload_n hx hb dX5_stuck_18 rfl (lv_at hl 2 rfl) ?_
    refine w_azs (j := i) (ix := i) Z hW hS rfl (show (0 : Nat) < 1 by decide) rfl (by omega) (by decide) (show (i : Nat) < 10 by omega) rfl rfl hon dX5_stuck_19 (fun H locs hW hS => ?_)
    refine lv_iload_n hx hb dX5_stuck_20 rfl (lv_at hl 2 rfl) ?_
    refine lv_if_ne (tgt := 25) hx hb dX5_stuck_21 (by decide) (fun c3 => ?_) (fun c3 => ?_)
    · refine lv_aload_n hx hb dX5_stuck_25 rfl (lv_at hl 0 rfl) ?_
      refine w_getR (v := .ref (ad 33 0)) Z hW kX5 rfl 6 (by decide) q746 (show (0 : Nat) < 1 by decide) rfl rfl dX5_stuck_26 ?_
      refine lv_iload_n hx hb dX5_stuck_29 rfl (lv_at hl 1 rfl) ?_
      refine lv_dconst0 hx hb dX5_stuck_30 ?_
      refine w_ads (j := i) (ix := i) Z hW hS rfl (show (0 : Nat) < 1 by decide) rfl (by omega) (by decide) (show (i : Nat) < 10 by omega) rfl rfl dX5_stuck_31 (fun H locs hW hS => ?_)
      refine lv_aload_n hx hb dX5_stuck_32 rfl (lv_at hl 0 rfl) ?_
      refine w_getR (v := .ref (ad 34 0)) Z hW kX5 rfl 7 (by decide) q747 (show (0 : Nat) < 1 by decide) rfl rfl dX5_stuck_33 ?_
      refine lv_iload_n hx hb dX5_stuck_36 rfl (lv_at hl 1 rfl) ?_
      refine lv_dconst0 hx hb dX5_stuck_37 ?_
      refine w_ads (j := i) (ix := i) Z hW hS rfl (show (0 : Nat) < 1 by decide) rfl (by omega) (by decide) (show (i : Nat) < 10 by omega) rfl rfl dX5_stuck_38 (fun H locs hW hS => ?_)
      rw [hQ]
      exact rW_v hx hb hr hlk hS (Or.inl (by rw [ix_nI (by omega), oSt_1 c3]; exact ⟨⟨i, hi, rfl⟩, ad, _, _, rfl, hW, (hag.put 2 i _).put 3 i _, hht, (hMA.th).put1 _ _, rfl⟩)) dX5_stuck_39
    · rw [hQ]
      exact rW_v hx hb hr hlk hS (Or.inl (by rw [ix_nI (by omega), oSt_0 c3]; exact ⟨⟨i, hi, rfl⟩, ad, _, _, rfl, hW, hag, hht, (hMA.th).put1 _ _, rfl⟩)) dX5_stuck_24
  · have q4 := hq
    refine wx_ws (wx_V (As := [.int (nI 0)]) (rest := []) hAt.fix (m_X5_bad0 l A Dg dA ad n nb nr J D I) q901 q903 qs22 q904 wn_X5_bad ⟨Nat.le_of_ble_eq_true rfl, Nat.le_of_ble_eq_true rfl, Nat.le_of_ble_eq_true rfl, Nat.le_of_ble_eq_true rfl⟩ (w_recv hK hW kX5 rfl (show (0 : Nat) < 1 by decide)) (Pw.of hK hW) hl.1 (Nat.le_of_ble_eq_true rfl) dX5_stuck_6) hS (fun r H locs hW hz hS => ?_)
    obtain ⟨rfl, hW⟩ := hW
    refine lv_if_eq (tgt := 13) hx hb dX5_stuck_9 (by decide) (fun h => absurd h (by decide)) (fun _ => ?_)
    rw [hQ]
    exact rW_v hx hb hr hlk hS (Or.inr ⟨q4, ⟨ad, _, _, rfl, hW, hag, hht, hMA.th, rfl⟩⟩) dX5_stuck_12
set_option maxHeartbeats 4000000 in
theorem m_M_thermostat (l : Launch) (A : Nat → Prop) (Dg : va_G) (dA : Nat → ClassId) (x : Nat) (n : Nat) (nb : Nat) (nr : Nat) (J : Jt) (D0 : T64) (I0 : T32) (hI : Inv n nb nr J D0 I0) (t : UInt64) (ft : Fn t) (th : Int32) : MX l yX5_thermostat cX5_thermostat 3 none [] (rmx 3 0 0) [.ref (x), .double (t)] (Pw Dg dA (MS A Dg dA x n nb nr J D0 I0 th)) (qW (fun _ : Unit => none) (fun _ H => (okTh t ∧ MS A Dg dA x n nb nr J ((oTh D0 t)) I0 ((nI 0)) H) ∨ (¬ okTh t ∧ MS A Dg dA x n nb nr J D0 I0 ((nI 1)) H)) A) 0 0 A := by
  refine MX.start (Nat.le_of_ble_eq_true rfl) ?_
  intro p e s m args below meth c ls Q hAt hPc hl hQ
  have hl : lv_has ls 3 [(0, .ref (x)), (1, .double (t))] := hl
  obtain ⟨hx, hb, hml, hr, hlk, hown, hnm, htab, hts⟩ := id hAt
  obtain ⟨hK, hW⟩ := hPc
  have Z := Cx.of hAt hK
  have hS : va_S A s.heap s.heap [] := va_S.rf
  obtain ⟨ad, D, I, rfl, hW, hag, hht, hMA, hth⟩ := hW
  have hB := hI.bd
  have hn10 := hB.n10
  have hM := hMA.1
  refine lv_aload_n hx hb dX5_thermostat_0 rfl (lv_at hl 0 rfl) ?_
  refine lv_dload_n hx hb dX5_thermostat_1 rfl (lv_at hl 1 rfl) ?_
  refine lv_ldc2d (v := 4652007308841189376) hx hb hown (hts _ (lw_car_all q895)) dX5_thermostat_2 ?_
  refine lv_dg_gt (tgt := 13) hx hb dX5_thermostat_5 dX5_thermostat_6 (by decide) (fun c1 => ?_) (fun c1 => ?_)
  · refine lv_iconst (v := nI 0) hx hb dX5_thermostat_13 rfl ?_
    refine wx_ws (wx_V (As := [.int (nI 0)]) (rest := []) hAt.fix (m_X5_bad0 l A Dg dA ad n nb nr J D I) q901 q903 qs22 q904 wn_X5_bad ⟨Nat.le_of_ble_eq_true rfl, Nat.le_of_ble_eq_true rfl, Nat.le_of_ble_eq_true rfl, Nat.le_of_ble_eq_true rfl⟩ (w_recv hK hW kX5 rfl (show (0 : Nat) < 1 by decide)) (Pw.of hK hW) hl.1 (Nat.le_of_ble_eq_true rfl) dX5_thermostat_14) hS (fun r H locs hW hz hS => ?_)
    obtain ⟨rfl, hW⟩ := hW
    refine lv_if_eq (tgt := 21) hx hb dX5_thermostat_17 (by decide) (fun h => absurd h (by decide)) (fun _ => ?_)
    rw [hQ]
    exact rW_v hx hb hr hlk hS (Or.inr ⟨c1, ⟨ad, _, _, rfl, hW, hag, hht, hMA.th, rfl⟩⟩) dX5_thermostat_20
  · refine lv_iconst (v := nI 1) hx hb dX5_thermostat_9 rfl ?_
    refine lv_goto (tgt := 14) hx hb dX5_thermostat_10 (by decide) ?_
    refine wx_ws (wx_V (As := [.int (nI 1)]) (rest := []) hAt.fix (m_X5_bad1 l A Dg dA ad n nb nr J D I) q901 q903 qs22 q904 wn_X5_bad ⟨Nat.le_of_ble_eq_true rfl, Nat.le_of_ble_eq_true rfl, Nat.le_of_ble_eq_true rfl, Nat.le_of_ble_eq_true rfl⟩ (w_recv hK hW kX5 rfl (show (0 : Nat) < 1 by decide)) (Pw.of hK hW) hl.1 (Nat.le_of_ble_eq_true rfl) dX5_thermostat_14) hS (fun r H locs hW hz hS => ?_)
    obtain ⟨rfl, hW⟩ := hW
    refine lv_if_eq (tgt := 21) hx hb dX5_thermostat_17 (by decide) (fun _ => ?_) (fun h => absurd nI_0 h)
    refine lv_aload_n hx hb dX5_thermostat_21 rfl (lv_at hl 0 rfl) ?_
    refine lv_dload_n hx hb dX5_thermostat_22 rfl (lv_at hl 1 rfl) ?_
    refine lv_dconst0 hx hb dX5_thermostat_23 ?_
    refine lv_dg_ge (tgt := 34) hx hb dX5_thermostat_24 dX5_thermostat_25 (by decide) (fun c4 => ?_) (fun c4 => ?_)
    · refine lv_dload_n hx hb dX5_thermostat_34 rfl (lv_at hl 1 rfl) ?_
      refine w_putD Z hW hS kX5 rfl 3 (by decide) (by decide) q743 rfl (show (0 : Nat) < 1 by decide) rfl rfl dX5_thermostat_35 (fun H locs hW hS => ?_)
      rw [hQ]
      exact rW_v hx hb hr hlk hS (Or.inl ⟨c1, ad, _, _, rfl, hW, (hag.up rfl).up0 rfl, (up2_same _ _ _ _).trans ((if_neg c4).symm.trans (up2_same _ _ _ _).symm), hMA.th, rfl⟩) dX5_thermostat_38
    · refine lv_ldc2d (v := 13830554455654793216) hx hb hown (hts _ (lw_car_all q738)) dX5_thermostat_28 ?_
      refine lv_goto (tgt := 35) hx hb dX5_thermostat_31 (by decide) ?_
      refine w_putD Z hW hS kX5 rfl 3 (by decide) (by decide) q743 rfl (show (0 : Nat) < 1 by decide) rfl rfl dX5_thermostat_35 (fun H locs hW hS => ?_)
      rw [hQ]
      exact rW_v hx hb hr hlk hS (Or.inl ⟨c1, ad, _, _, rfl, hW, (hag.up rfl).up0 rfl, (up2_same _ _ _ _).trans ((if_pos c4).symm.trans (up2_same _ _ _ _).symm), hMA.th, rfl⟩) dX5_thermostat_38
set_option maxHeartbeats 4000000 in
theorem m_M_told (l : Launch) (A : Nat → Prop) (Dg : va_G) (dA : Nat → ClassId) (x : Nat) (n : Nat) (nb : Nat) (nr : Nat) (J : Jt) (D0 : T64) (I0 : T32) (hI : Inv n nb nr J D0 I0) (k : Int32) (w : Int32) (th : Int32) : MX l yX5_told cX5_told 3 (some .double) [] (rmx 3 0 0) [.ref (x), .int (k), .int (w)] (Pw Dg dA (MS A Dg dA x n nb nr J D0 I0 th)) (qW (fun r : UInt64 => some (.double r)) (fun r H => (okTo k n w ∧ r = D0 (tlW (ix w)) (ix k) ∧ MS A Dg dA x n nb nr J D0 I0 ((nI 0)) H) ∨ (¬ okTo k n w ∧ r = FP.dconst0 ∧ MS A Dg dA x n nb nr J D0 I0 ((nI 1)) H)) A) 0 0 A := by
  refine MX.start (Nat.le_of_ble_eq_true rfl) ?_
  intro p e s m args below meth c ls Q hAt hPc hl hQ
  have hl : lv_has ls 3 [(0, .ref (x)), (1, .int (k)), (2, .int (w))] := hl
  obtain ⟨hx, hb, hml, hr, hlk, hown, hnm, htab, hts⟩ := id hAt
  obtain ⟨hK, hW⟩ := hPc
  have Z := Cx.of hAt hK
  have hS : va_S A s.heap s.heap [] := va_S.rf
  obtain ⟨ad, D, I, rfl, hW, hag, hht, hMA, hth⟩ := hW
  have hB := hI.bd
  have hn10 := hB.n10
  have hM := hMA.1
  refine lv_aload_n hx hb dX5_told_0 rfl (lv_at hl 0 rfl) ?_
  refine lv_aload_n hx hb dX5_told_1 rfl (lv_at hl 0 rfl) ?_
  refine lv_iload_n hx hb dX5_told_2 rfl (lv_at hl 1 rfl) ?_
  refine wx_r (wx_V (As := [.int (k)]) (rest := [.ref (ad 30 0)]) hAt.fix (m_X5_isAtom l A Dg dA ad n nb nr J D I k hM.cn hn10) q916 q918 qs24 q919 wn_X5_isAtom ⟨Nat.le_of_ble_eq_true rfl, Nat.le_of_ble_eq_true rfl, Nat.le_of_ble_eq_true rfl, Nat.le_of_ble_eq_true rfl⟩ (w_recv hK hW kX5 rfl (show (0 : Nat) < 1 by decide)) (Pw.of hK hW) hl.1 (Nat.le_of_ble_eq_true rfl) dX5_told_3) (fun r hr => ?_)
  rcases hr with ⟨rfl, hq⟩ | ⟨rfl, hq⟩
  · have q1 := hq
    refine lv_if_eq (tgt := 22) hx hb dX5_told_6 (by decide) (fun h => absurd h (by decide)) (fun _ => ?_)
    refine lv_iload_n hx hb dX5_told_9 rfl (lv_at hl 2 rfl) ?_
    refine lv_if_lt (tgt := 22) hx hb dX5_told_10 (by decide) (fun c3 => ?_) (fun c3 => ?_)
    · refine lv_iconst (v := nI 0) hx hb dX5_told_22 rfl ?_
      refine wx_ws (wx_V (As := [.int (nI 0)]) (rest := []) hAt.fix (m_X5_bad0 l A Dg dA ad n nb nr J D I) q901 q903 qs22 q904 wn_X5_bad ⟨Nat.le_of_ble_eq_true rfl, Nat.le_of_ble_eq_true rfl, Nat.le_of_ble_eq_true rfl, Nat.le_of_ble_eq_true rfl⟩ (w_recv hK hW kX5 rfl (show (0 : Nat) < 1 by decide)) (Pw.of hK hW) hl.1 (Nat.le_of_ble_eq_true rfl) dX5_told_23) hS (fun r H locs hW hz hS => ?_)
      obtain ⟨rfl, hW⟩ := hW
      refine lv_if_eq (tgt := 31) hx hb dX5_told_26 (by decide) (fun h => absurd h (by decide)) (fun _ => ?_)
      refine lv_dconst0 hx hb dX5_told_29 ?_
      rw [hQ]
      exact rW_d hx hb hr hlk hS (Or.inr ⟨fun q => q.2.1 c3, rfl, ⟨ad, _, _, rfl, hW, hag, hht, hMA.th, rfl⟩⟩) dX5_told_30
    · refine lv_iload_n hx hb dX5_told_13 rfl (lv_at hl 2 rfl) ?_
      refine lv_iconst (v := nI 5) hx hb dX5_told_14 rfl ?_
      refine lv_icmp_ge (tgt := 22) hx hb dX5_told_15 (by decide) (fun c5 => ?_) (fun c5 => ?_)
      · refine lv_iconst (v := nI 0) hx hb dX5_told_22 rfl ?_
        refine wx_ws (wx_V (As := [.int (nI 0)]) (rest := []) hAt.fix (m_X5_bad0 l A Dg dA ad n nb nr J D I) q901 q903 qs22 q904 wn_X5_bad ⟨Nat.le_of_ble_eq_true rfl, Nat.le_of_ble_eq_true rfl, Nat.le_of_ble_eq_true rfl, Nat.le_of_ble_eq_true rfl⟩ (w_recv hK hW kX5 rfl (show (0 : Nat) < 1 by decide)) (Pw.of hK hW) hl.1 (Nat.le_of_ble_eq_true rfl) dX5_told_23) hS (fun r H locs hW hz hS => ?_)
        obtain ⟨rfl, hW⟩ := hW
        refine lv_if_eq (tgt := 31) hx hb dX5_told_26 (by decide) (fun h => absurd h (by decide)) (fun _ => ?_)
        refine lv_dconst0 hx hb dX5_told_29 ?_
        rw [hQ]
        exact rW_d hx hb hr hlk hS (Or.inr ⟨fun q => q.2.2 c5, rfl, ⟨ad, _, _, rfl, hW, hag, hht, hMA.th, rfl⟩⟩) dX5_told_30
      · refine lv_iconst (v := nI 1) hx hb dX5_told_18 rfl ?_
        refine lv_goto (tgt := 23) hx hb dX5_told_19 (by decide) ?_
        refine wx_ws (wx_V (As := [.int (nI 1)]) (rest := []) hAt.fix (m_X5_bad1 l A Dg dA ad n nb nr J D I) q901 q903 qs22 q904 wn_X5_bad ⟨Nat.le_of_ble_eq_true rfl, Nat.le_of_ble_eq_true rfl, Nat.le_of_ble_eq_true rfl, Nat.le_of_ble_eq_true rfl⟩ (w_recv hK hW kX5 rfl (show (0 : Nat) < 1 by decide)) (Pw.of hK hW) hl.1 (Nat.le_of_ble_eq_true rfl) dX5_told_23) hS (fun r H locs hW hz hS => ?_)
        obtain ⟨rfl, hW⟩ := hW
        have hok : okTo k n w := ⟨q1, c3, c5⟩
        obtain ⟨i, hi, rfl⟩ := hok.1
        obtain ⟨q, hq, rfl⟩ := okN_of (n := 5) (by omega) hok.2.1 hok.2.2
        have hcs : q = 0 ∨ q = 1 ∨ q = 2 ∨ q = 3 ∨ q = 4 := by omega
        rcases hcs with rfl | rfl | rfl | rfl | rfl
        · refine lv_if_eq (tgt := 31) hx hb dX5_told_26 (by decide) (fun _ => ?_) (fun h => absurd nI_0 h)
          refine lv_iload_n hx hb dX5_told_31 rfl (lv_at hl 2 rfl) ?_
          refine lv_iconst (v := nI 2) hx hb dX5_told_32 rfl ?_
          refine lv_nge (tgt := 56) hx hb (by decide) (by decide) dX5_told_33 (by decide) (fun c => absurd c (by decide)) (fun c => ?_)
          refine lv_iload_n hx hb dX5_told_36 rfl (lv_at hl 2 rfl) ?_
          refine lv_if_ne (tgt := 49) hx hb dX5_told_37 (by decide) (fun h => absurd nI_0 h) (fun _ => ?_)
          refine lv_aload_n hx hb dX5_told_40 rfl (lv_at hl 0 rfl) ?_
          refine w_getR (v := .ref (ad 31 0)) Z hW kX5 rfl 4 (by decide) q744 (show (0 : Nat) < 1 by decide) rfl rfl dX5_told_41 ?_
          refine lv_iload_n hx hb dX5_told_44 rfl (lv_at hl 1 rfl) ?_
          refine a_D (j := i) (x := D0 0 i) (ix := i) Z hW rfl (show (0 : Nat) < 1 by decide) (by omega) (by decide) rfl rfl (hag 0 i rfl) dX5_told_45 ?_
          refine lv_goto (tgt := 55) hx hb dX5_told_46 (by decide) ?_
          rw [hQ]
          exact rW_d hx hb hr hlk hS (Or.inl (by rw [ix_nI (by omega), ix_nI (by omega)]; exact ⟨hok, rfl, ⟨ad, _, _, rfl, hW, hag, hht, hMA.th, rfl⟩⟩)) dX5_told_55
        · refine lv_if_eq (tgt := 31) hx hb dX5_told_26 (by decide) (fun _ => ?_) (fun h => absurd nI_0 h)
          refine lv_iload_n hx hb dX5_told_31 rfl (lv_at hl 2 rfl) ?_
          refine lv_iconst (v := nI 2) hx hb dX5_told_32 rfl ?_
          refine lv_nge (tgt := 56) hx hb (by decide) (by decide) dX5_told_33 (by decide) (fun c => absurd c (by decide)) (fun c => ?_)
          refine lv_iload_n hx hb dX5_told_36 rfl (lv_at hl 2 rfl) ?_
          refine lv_if_ne (tgt := 49) hx hb dX5_told_37 (by decide) (fun _ => ?_) (fun h => absurd h (by decide))
          refine lv_aload_n hx hb dX5_told_49 rfl (lv_at hl 0 rfl) ?_
          refine w_getR (v := .ref (ad 32 0)) Z hW kX5 rfl 5 (by decide) q745 (show (0 : Nat) < 1 by decide) rfl rfl dX5_told_50 ?_
          refine lv_iload_n hx hb dX5_told_53 rfl (lv_at hl 1 rfl) ?_
          refine a_D (j := i) (x := D0 1 i) (ix := i) Z hW rfl (show (0 : Nat) < 1 by decide) (by omega) (by decide) rfl rfl (hag 1 i rfl) dX5_told_54 ?_
          rw [hQ]
          exact rW_d hx hb hr hlk hS (Or.inl (by rw [ix_nI (by omega), ix_nI (by omega)]; exact ⟨hok, rfl, ⟨ad, _, _, rfl, hW, hag, hht, hMA.th, rfl⟩⟩)) dX5_told_55
        · refine lv_if_eq (tgt := 31) hx hb dX5_told_26 (by decide) (fun _ => ?_) (fun h => absurd nI_0 h)
          refine lv_iload_n hx hb dX5_told_31 rfl (lv_at hl 2 rfl) ?_
          refine lv_iconst (v := nI 2) hx hb dX5_told_32 rfl ?_
          refine lv_nge (tgt := 56) hx hb (by decide) (by decide) dX5_told_33 (by decide) (fun c => ?_) (fun c => absurd c (by decide))
          refine lv_iload_n hx hb dX5_told_56 rfl (lv_at hl 2 rfl) ?_
          refine lv_iconst (v := nI 2) hx hb dX5_told_57 rfl ?_
          refine lv_nne (tgt := 70) hx hb (by decide) (by decide) dX5_told_58 (by decide) (fun c => absurd c (by decide)) (fun c => ?_)
          refine lv_aload_n hx hb dX5_told_61 rfl (lv_at hl 0 rfl) ?_
          refine w_getR (v := .ref (ad 33 0)) Z hW kX5 rfl 6 (by decide) q746 (show (0 : Nat) < 1 by decide) rfl rfl dX5_told_62 ?_
          refine lv_iload_n hx hb dX5_told_65 rfl (lv_at hl 1 rfl) ?_
          refine a_D (j := i) (x := D0 2 i) (ix := i) Z hW rfl (show (0 : Nat) < 1 by decide) (by omega) (by decide) rfl rfl (hag 2 i rfl) dX5_told_66 ?_
          refine lv_goto (tgt := 90) hx hb dX5_told_67 (by decide) ?_
          rw [hQ]
          exact rW_d hx hb hr hlk hS (Or.inl (by rw [ix_nI (by omega), ix_nI (by omega)]; exact ⟨hok, rfl, ⟨ad, _, _, rfl, hW, hag, hht, hMA.th, rfl⟩⟩)) dX5_told_90
        · refine lv_if_eq (tgt := 31) hx hb dX5_told_26 (by decide) (fun _ => ?_) (fun h => absurd nI_0 h)
          refine lv_iload_n hx hb dX5_told_31 rfl (lv_at hl 2 rfl) ?_
          refine lv_iconst (v := nI 2) hx hb dX5_told_32 rfl ?_
          refine lv_nge (tgt := 56) hx hb (by decide) (by decide) dX5_told_33 (by decide) (fun c => ?_) (fun c => absurd c (by decide))
          refine lv_iload_n hx hb dX5_told_56 rfl (lv_at hl 2 rfl) ?_
          refine lv_iconst (v := nI 2) hx hb dX5_told_57 rfl ?_
          refine lv_nne (tgt := 70) hx hb (by decide) (by decide) dX5_told_58 (by decide) (fun c => ?_) (fun c => absurd c (by decide))
          refine lv_iload_n hx hb dX5_told_70 rfl (lv_at hl 2 rfl) ?_
          refine lv_iconst (v := nI 3) hx hb dX5_told_71 rfl ?_
          refine lv_nne (tgt := 84) hx hb (by decide) (by decide) dX5_told_72 (by decide) (fun c => absurd c (by decide)) (fun c => ?_)
          refine lv_aload_n hx hb dX5_told_75 rfl (lv_at hl 0 rfl) ?_
          refine w_getR (v := .ref (ad 34 0)) Z hW kX5 rfl 7 (by decide) q747 (show (0 : Nat) < 1 by decide) rfl rfl dX5_told_76 ?_
          refine lv_iload_n hx hb dX5_told_79 rfl (lv_at hl 1 rfl) ?_
          refine a_D (j := i) (x := D0 3 i) (ix := i) Z hW rfl (show (0 : Nat) < 1 by decide) (by omega) (by decide) rfl rfl (hag 3 i rfl) dX5_told_80 ?_
          refine lv_goto (tgt := 90) hx hb dX5_told_81 (by decide) ?_
          rw [hQ]
          exact rW_d hx hb hr hlk hS (Or.inl (by rw [ix_nI (by omega), ix_nI (by omega)]; exact ⟨hok, rfl, ⟨ad, _, _, rfl, hW, hag, hht, hMA.th, rfl⟩⟩)) dX5_told_90
        · refine lv_if_eq (tgt := 31) hx hb dX5_told_26 (by decide) (fun _ => ?_) (fun h => absurd nI_0 h)
          refine lv_iload_n hx hb dX5_told_31 rfl (lv_at hl 2 rfl) ?_
          refine lv_iconst (v := nI 2) hx hb dX5_told_32 rfl ?_
          refine lv_nge (tgt := 56) hx hb (by decide) (by decide) dX5_told_33 (by decide) (fun c => ?_) (fun c => absurd c (by decide))
          refine lv_iload_n hx hb dX5_told_56 rfl (lv_at hl 2 rfl) ?_
          refine lv_iconst (v := nI 2) hx hb dX5_told_57 rfl ?_
          refine lv_nne (tgt := 70) hx hb (by decide) (by decide) dX5_told_58 (by decide) (fun c => ?_) (fun c => absurd c (by decide))
          refine lv_iload_n hx hb dX5_told_70 rfl (lv_at hl 2 rfl) ?_
          refine lv_iconst (v := nI 3) hx hb dX5_told_71 rfl ?_
          refine lv_nne (tgt := 84) hx hb (by decide) (by decide) dX5_told_72 (by decide) (fun c => ?_) (fun c => absurd c (by decide))
          refine lv_aload_n hx hb dX5_told_84 rfl (lv_at hl 0 rfl) ?_
          refine w_getR (v := .ref (ad 35 0)) Z hW kX5 rfl 8 (by decide) q748 (show (0 : Nat) < 1 by decide) rfl rfl dX5_told_85 ?_
          refine lv_iload_n hx hb dX5_told_88 rfl (lv_at hl 1 rfl) ?_
          refine a_D (j := i) (x := D0 4 i) (ix := i) Z hW rfl (show (0 : Nat) < 1 by decide) (by omega) (by decide) rfl rfl (hag 4 i rfl) dX5_told_89 ?_
          rw [hQ]
          exact rW_d hx hb hr hlk hS (Or.inl (by rw [ix_nI (by omega), ix_nI (by omega)]; exact ⟨hok, rfl, ⟨ad, _, _, rfl, hW, hag, hht, hMA.th, rfl⟩⟩)) dX5_told_90
  · have q14 := hq
    refine lv_if_eq (tgt := 22) hx hb dX5_told_6 (by decide) (fun _ => ?_) (fun h => absurd nI_0 h)
    refine lv_iconst (v := nI 0) hx hb dX5_told_22 rfl ?_
    refine wx_ws (wx_V (As := [.int (nI 0)]) (rest := []) hAt.fix (m_X5_bad0 l A Dg dA ad n nb nr J D I) q901 q903 qs22 q904 wn_X5_bad ⟨Nat.le_of_ble_eq_true rfl, Nat.le_of_ble_eq_true rfl, Nat.le_of_ble_eq_true rfl, Nat.le_of_ble_eq_true rfl⟩ (w_recv hK hW kX5 rfl (show (0 : Nat) < 1 by decide)) (Pw.of hK hW) hl.1 (Nat.le_of_ble_eq_true rfl) dX5_told_23) hS (fun r H locs hW hz hS => ?_)
    obtain ⟨rfl, hW⟩ := hW
    refine lv_if_eq (tgt := 31) hx hb dX5_told_26 (by decide) (fun h => absurd h (by decide)) (fun _ => ?_)
    refine lv_dconst0 hx hb dX5_told_29 ?_
    rw [hQ]
    exact rW_d hx hb hr hlk hS (Or.inr ⟨fun q => q14 q.1, rfl, ⟨ad, _, _, rfl, hW, hag, hht, hMA.th, rfl⟩⟩) dX5_told_30
set_option maxHeartbeats 4000000 in
theorem m_M_temperature (l : Launch) (A : Nat → Prop) (Dg : va_G) (dA : Nat → ClassId) (x : Nat) (n : Nat) (nb : Nat) (nr : Nat) (J : Jt) (D0 : T64) (I0 : T32) (hI : Inv n nb nr J D0 I0) (th : Int32) : MX l yX5_temperature cX5_temperature 1 (some .double) [] (rmx 3 0 0) [.ref (x)] (Pw Dg dA (MS A Dg dA x n nb nr J D0 I0 th)) (qW (fun r : UInt64 => some (.double r)) (fun r H => r = tmpS D0 I0 n ∧ MS A Dg dA x n nb nr J D0 I0 ((nI 0)) H) A) 0 0 A := by
  refine MX.start (Nat.le_of_ble_eq_true rfl) ?_
  intro p e s m args below meth c ls Q hAt hPc hl hQ
  have hl : lv_has ls 1 [(0, .ref (x))] := hl
  obtain ⟨hx, hb, hml, hr, hlk, hown, hnm, htab, hts⟩ := id hAt
  obtain ⟨hK, hW⟩ := hPc
  have Z := Cx.of hAt hK
  have hS : va_S A s.heap s.heap [] := va_S.rf
  obtain ⟨ad, D, I, rfl, hW, hag, hht, hMA, hth⟩ := hW
  have hB := hI.bd
  have hn10 := hB.n10
  have hM := hMA.1
  refine lv_aload_n hx hb dX5_temperature_0 rfl (lv_at hl 0 rfl) ?_
  refine lv_iconst (v := nI 0) hx hb dX5_temperature_1 rfl ?_
  refine w_putI Z hW hS kX5 rfl 43 (by decide) (by decide) q783 rfl (show (0 : Nat) < 1 by decide) rfl rfl rfl dX5_temperature_2 (fun H locs hW hS => ?_)
  refine lv_aload_n hx hb dX5_temperature_5 rfl (lv_at hl 0 rfl) ?_
  have hS0 : sameS (up2 I 42 0 (nI 0)) I0 := fun j => hMA.2.1 1 j rfl (by decide)
  refine wx_r (wx_V (As := []) (rest := []) hAt.fix (m_X5_temperature l A Dg dA ad n nb nr J D ((up2 I 42 0 (nI 0))) ((hB.cg hag)) ((hI.bu.ag hag)) hM.cn) q1035 q1037 qs43 q1038 wn_X5_findTemperature ⟨Nat.le_of_ble_eq_true rfl, Nat.le_of_ble_eq_true rfl, Nat.le_of_ble_eq_true rfl, Nat.le_of_ble_eq_true rfl⟩ (w_recv hK hW kX5 rfl (show (0 : Nat) < 1 by decide)) (Pw.of hK hW) hl.1 (Nat.le_of_ble_eq_true rfl) dX5_temperature_6) (fun r hr => ?_)
  rw [tmpS_ag hag, tmpS_cg hS0] at hr
  subst hr
  rw [hQ]
  exact rW_d hx hb hr hlk hS (⟨rfl, ⟨ad, _, _, rfl, hW, hag, hht, hMA.th, rfl⟩⟩) dX5_temperature_9
set_option maxHeartbeats 4000000 in
theorem m_M_scale (l : Launch) (A : Nat → Prop) (Dg : va_G) (dA : Nat → ClassId) (x : Nat) (n : Nat) (nb : Nat) (nr : Nat) (J : Jt) (D0 : T64) (I0 : T32) (hI : Inv n nb nr J D0 I0) (t : UInt64) (h8 : E8 t) (th : Int32) : MX l yX5_scale cX5_scale 3 (some .double) [] (rmx 3 0 0) [.ref (x), .double (t)] (Pw Dg dA (MS A Dg dA x n nb nr J D0 I0 th)) (qW (fun r : UInt64 => some (.double r)) (fun r H => (okSc t ∧ r = tmpS D0 I0 n ∧ MS A Dg dA x n nb nr J ((rsc t n D0 I0)) I0 ((nI 0)) H) ∨ (¬ okSc t ∧ r = FP.dconst0 ∧ MS A Dg dA x n nb nr J D0 I0 ((nI 1)) H)) A) 0 0 A := by
  refine MX.start (Nat.le_of_ble_eq_true rfl) ?_
  intro p e s m args below meth c ls Q hAt hPc hl hQ
  have hl : lv_has ls 3 [(0, .ref (x)), (1, .double (t))] := hl
  obtain ⟨hx, hb, hml, hr, hlk, hown, hnm, htab, hts⟩ := id hAt
  obtain ⟨hK, hW⟩ := hPc
  have Z := Cx.of hAt hK
  have hS : va_S A s.heap s.heap [] := va_S.rf
  obtain ⟨ad, D, I, rfl, hW, hag, hht, hMA, hth⟩ := hW
  have hB := hI.bd
  have hn10 := hB.n10
  have hM := hMA.1
  refine lv_aload_n hx hb dX5_scale_0 rfl (lv_at hl 0 rfl) ?_
  refine lv_dload_n hx hb dX5_scale_1 rfl (lv_at hl 1 rfl) ?_
  refine lv_dconst0 hx hb dX5_scale_2 ?_
  refine lv_ldc2d (v := 4652007308841189376) hx hb hown (hts _ (lw_car_all q895)) dX5_scale_3 ?_
  refine wx_r (wx_S (As := [.double (t), .double (FP.dconst0), .double (4652007308841189376)]) (rest := [.ref (ad 30 0)]) hAt.fix (m_X5_within l t FP.dconst0 4652007308841189376) q896 q897 q50 q898 wn_X5_in ⟨Nat.le_of_ble_eq_true rfl, Nat.le_of_ble_eq_true rfl, Nat.le_of_ble_eq_true rfl, Nat.le_of_ble_eq_true rfl⟩ (fun _ _ _ => trivial) hl.1 (Nat.le_of_ble_eq_true rfl) dX5_scale_6) (fun r hr => ?_)
  rcases hr with ⟨rfl, hq⟩ | ⟨rfl, hq⟩
  · have q1 := hq
    refine wx_ws (wx_V (As := [.int (nI 1)]) (rest := []) hAt.fix (m_X5_bad1 l A Dg dA ad n nb nr J D I) q901 q903 qs22 q904 wn_X5_bad ⟨Nat.le_of_ble_eq_true rfl, Nat.le_of_ble_eq_true rfl, Nat.le_of_ble_eq_true rfl, Nat.le_of_ble_eq_true rfl⟩ (w_recv hK hW kX5 rfl (show (0 : Nat) < 1 by decide)) (Pw.of hK hW) hl.1 (Nat.le_of_ble_eq_true rfl) dX5_scale_9) hS (fun r H locs hW hz hS => ?_)
    obtain ⟨rfl, hW⟩ := hW
    refine lv_if_eq (tgt := 17) hx hb dX5_scale_12 (by decide) (fun _ => ?_) (fun h => absurd nI_0 h)
    refine lv_aload_n hx hb dX5_scale_17 rfl (lv_at hl 0 rfl) ?_
    refine lv_dload_n hx hb dX5_scale_18 rfl (lv_at hl 1 rfl) ?_
    have hS0 : sameS (up2 I 42 0 (nI 0)) I0 := fun j => hMA.2.1 1 j rfl (by decide)
    refine wx_ws (wx_V (As := [.double (t)]) (rest := []) hAt.fix (m_X5_warm l A Dg dA ad n nb nr J D ((up2 I 42 0 (nI 0))) ((hB.cg hag)) ((hI.bu.ag hag)) hM.cn t ((okT_of h8 q1))) q1031 q1033 qs42 q1034 wn_X5_warm ⟨Nat.le_of_ble_eq_true rfl, Nat.le_of_ble_eq_true rfl, Nat.le_of_ble_eq_true rfl, Nat.le_of_ble_eq_true rfl⟩ (w_recv hK hW kX5 rfl (show (0 : Nat) < 1 by decide)) (Pw.of hK hW) hl.1 (Nat.le_of_ble_eq_true rfl) dX5_scale_19) hS (fun r H locs hW hz hS => ?_)
    obtain ⟨hr, hW⟩ := hW
    rw [tmpS_ag hag, tmpS_cg hS0] at hr
    subst hr
    rw [hQ]
    exact rW_d hx hb hr hlk hS (Or.inl ⟨q1, rfl, ad, _, _, rfl, hW, rsc_ag hag hS0, (rsc_exc 23 0 rfl).trans (hht.trans (rsc_exc 23 0 rfl).symm), hMA.th, rfl⟩) dX5_scale_22
  · have q3 := hq
    refine wx_ws (wx_V (As := [.int (nI 0)]) (rest := []) hAt.fix (m_X5_bad0 l A Dg dA ad n nb nr J D I) q901 q903 qs22 q904 wn_X5_bad ⟨Nat.le_of_ble_eq_true rfl, Nat.le_of_ble_eq_true rfl, Nat.le_of_ble_eq_true rfl, Nat.le_of_ble_eq_true rfl⟩ (w_recv hK hW kX5 rfl (show (0 : Nat) < 1 by decide)) (Pw.of hK hW) hl.1 (Nat.le_of_ble_eq_true rfl) dX5_scale_9) hS (fun r H locs hW hz hS => ?_)
    obtain ⟨rfl, hW⟩ := hW
    refine lv_if_eq (tgt := 17) hx hb dX5_scale_12 (by decide) (fun h => absurd h (by decide)) (fun _ => ?_)
    refine lv_dconst0 hx hb dX5_scale_15 ?_
    rw [hQ]
    exact rW_d hx hb hr hlk hS (Or.inr ⟨q3, rfl, ⟨ad, _, _, rfl, hW, hag, hht, hMA.th, rfl⟩⟩) dX5_scale_16
set_option maxHeartbeats 4000000 in
theorem m_M_count (l : Launch) (A : Nat → Prop) (Dg : va_G) (dA : Nat → ClassId) (x : Nat) (n : Nat) (nb : Nat) (nr : Nat) (J : Jt) (D0 : T64) (I0 : T32) (hI : Inv n nb nr J D0 I0) (w : Int32) (th : Int32) : MX l yX5_count cX5_count 2 (some .int) [] (rmx 3 0 0) [.ref (x), .int (w)] (Pw Dg dA (MS A Dg dA x n nb nr J D0 I0 th)) (qW (fun r : Int32 => some (.int r)) (fun r H => r = cnW I0 w ∧ MS A Dg dA x n nb nr J D0 I0 ((nI 0)) H) A) 0 0 A := by
  refine MX.start (Nat.le_of_ble_eq_true rfl) ?_
  intro p e s m args below meth c ls Q hAt hPc hl hQ
  have hl : lv_has ls 2 [(0, .ref (x)), (1, .int (w))] := hl
  obtain ⟨hx, hb, hml, hr, hlk, hown, hnm, htab, hts⟩ := id hAt
  obtain ⟨hK, hW⟩ := hPc
  have Z := Cx.of hAt hK
  have hS : va_S A s.heap s.heap [] := va_S.rf
  obtain ⟨ad, D, I, rfl, hW, hag, hht, hMA, hth⟩ := hW
  have hB := hI.bd
  have hn10 := hB.n10
  have hM := hMA.1
  refine lv_aload_n hx hb dX5_count_0 rfl (lv_at hl 0 rfl) ?_
  refine lv_iconst (v := nI 0) hx hb dX5_count_1 rfl ?_
  refine w_putI Z hW hS kX5 rfl 43 (by decide) (by decide) q783 rfl (show (0 : Nat) < 1 by decide) rfl rfl rfl dX5_count_2 (fun H locs hW hS => ?_)
  refine lv_iload_n hx hb dX5_count_5 rfl (lv_at hl 1 rfl) ?_
  rcases pk_ix w (n := 10) (by omega) with hw | hw | ⟨q, hq, rfl⟩
  · refine lv_tableOut (tgt := 110) hx hb dX5_count_6 (sw_lo hw) (by decide) ?_
    refine lv_iconst (v := -1) hx hb dX5_count_110 (by decide) ?_
    rw [hQ]
    exact rW_i hx hb hr hlk hS (⟨(cnW_lo hw).symm, ⟨ad, _, _, rfl, hW, hag, hht, hMA.th, rfl⟩⟩) dX5_count_111
  · refine lv_tableOut (tgt := 110) hx hb dX5_count_6 (sw_hi hw) (by decide) ?_
    refine lv_iconst (v := -1) hx hb dX5_count_110 (by decide) ?_
    rw [hQ]
    exact rW_i hx hb hr hlk hS (⟨(cnW_hi hw).symm, ⟨ad, _, _, rfl, hW, hag, hht, hMA.th, rfl⟩⟩) dX5_count_111
  have hcs : q = 0 ∨ q = 1 ∨ q = 2 ∨ q = 3 ∨ q = 4 ∨ q = 5 ∨ q = 6 ∨ q = 7 ∨ q = 8 ∨ q = 9 := by omega
  rcases hcs with rfl | rfl | rfl | rfl | rfl | rfl | rfl | rfl | rfl | rfl
  · refine lv_tableIn (tgt := 60) hx hb dX5_count_6 (by decide) (by decide) rfl (by decide) ?_
    refine lv_aload_n hx hb dX5_count_60 rfl (lv_at hl 0 rfl) ?_
    refine g_I (x := I0 20 0) Z hW kX5 rfl 14 (by decide) q754 (show (0 : Nat) < 1 by decide) rfl (hMA.2.1 20 0 rfl (by decide)) dX5_count_61 ?_
    rw [hQ]
    exact rW_i hx hb hr hlk hS (⟨rfl, ⟨ad, _, _, rfl, hW, hag, hht, hMA.th, rfl⟩⟩) dX5_count_64
  · refine lv_tableIn (tgt := 65) hx hb dX5_count_6 (by decide) (by decide) rfl (by decide) ?_
    refine lv_aload_n hx hb dX5_count_65 rfl (lv_at hl 0 rfl) ?_
    refine g_I (x := I0 21 0) Z hW kX5 rfl 15 (by decide) q755 (show (0 : Nat) < 1 by decide) rfl (hMA.2.1 21 0 rfl (by decide)) dX5_count_66 ?_
    rw [hQ]
    exact rW_i hx hb hr hlk hS (⟨rfl, ⟨ad, _, _, rfl, hW, hag, hht, hMA.th, rfl⟩⟩) dX5_count_69
  · refine lv_tableIn (tgt := 70) hx hb dX5_count_6 (by decide) (by decide) rfl (by decide) ?_
    refine lv_aload_n hx hb dX5_count_70 rfl (lv_at hl 0 rfl) ?_
    refine g_I (x := I0 22 0) Z hW kX5 rfl 16 (by decide) q756 (show (0 : Nat) < 1 by decide) rfl (hMA.2.1 22 0 rfl (by decide)) dX5_count_71 ?_
    rw [hQ]
    exact rW_i hx hb hr hlk hS (⟨rfl, ⟨ad, _, _, rfl, hW, hag, hht, hMA.th, rfl⟩⟩) dX5_count_74
  · refine lv_tableIn (tgt := 75) hx hb dX5_count_6 (by decide) (by decide) rfl (by decide) ?_
    refine lv_aload_n hx hb dX5_count_75 rfl (lv_at hl 0 rfl) ?_
    refine g_I (x := I0 24 0) Z hW kX5 rfl 36 (by decide) q776 (show (0 : Nat) < 1 by decide) rfl (hMA.2.1 24 0 rfl (by decide)) dX5_count_76 ?_
    rw [hQ]
    exact rW_i hx hb hr hlk hS (⟨rfl, ⟨ad, _, _, rfl, hW, hag, hht, hMA.th, rfl⟩⟩) dX5_count_79
  · refine lv_tableIn (tgt := 80) hx hb dX5_count_6 (by decide) (by decide) rfl (by decide) ?_
    refine lv_aload_n hx hb dX5_count_80 rfl (lv_at hl 0 rfl) ?_
    refine g_I (x := I0 25 0) Z hW kX5 rfl 37 (by decide) q777 (show (0 : Nat) < 1 by decide) rfl (hMA.2.1 25 0 rfl (by decide)) dX5_count_81 ?_
    rw [hQ]
    exact rW_i hx hb hr hlk hS (⟨rfl, ⟨ad, _, _, rfl, hW, hag, hht, hMA.th, rfl⟩⟩) dX5_count_84
  · refine lv_tableIn (tgt := 85) hx hb dX5_count_6 (by decide) (by decide) rfl (by decide) ?_
    refine lv_aload_n hx hb dX5_count_85 rfl (lv_at hl 0 rfl) ?_
    refine g_I (x := I0 26 0) Z hW kX5 rfl 38 (by decide) q778 (show (0 : Nat) < 1 by decide) rfl (hMA.2.1 26 0 rfl (by decide)) dX5_count_86 ?_
    rw [hQ]
    exact rW_i hx hb hr hlk hS (⟨rfl, ⟨ad, _, _, rfl, hW, hag, hht, hMA.th, rfl⟩⟩) dX5_count_89
  · refine lv_tableIn (tgt := 90) hx hb dX5_count_6 (by decide) (by decide) rfl (by decide) ?_
    refine lv_aload_n hx hb dX5_count_90 rfl (lv_at hl 0 rfl) ?_
    refine g_I (x := I0 27 0) Z hW kX5 rfl 39 (by decide) q779 (show (0 : Nat) < 1 by decide) rfl (hMA.2.1 27 0 rfl (by decide)) dX5_count_91 ?_
    rw [hQ]
    exact rW_i hx hb hr hlk hS (⟨rfl, ⟨ad, _, _, rfl, hW, hag, hht, hMA.th, rfl⟩⟩) dX5_count_94
  · refine lv_tableIn (tgt := 95) hx hb dX5_count_6 (by decide) (by decide) rfl (by decide) ?_
    refine lv_aload_n hx hb dX5_count_95 rfl (lv_at hl 0 rfl) ?_
    refine g_I (x := I0 28 0) Z hW kX5 rfl 40 (by decide) q780 (show (0 : Nat) < 1 by decide) rfl hMA.2.2.1 dX5_count_96 ?_
    rw [hQ]
    exact rW_i hx hb hr hlk hS (⟨rfl, ⟨ad, _, _, rfl, hW, hag, hht, hMA.th, rfl⟩⟩) dX5_count_99
  · refine lv_tableIn (tgt := 100) hx hb dX5_count_6 (by decide) (by decide) rfl (by decide) ?_
    refine lv_aload_n hx hb dX5_count_100 rfl (lv_at hl 0 rfl) ?_
    refine g_I (x := I0 28 1) Z hW kX5 rfl 41 (by decide) q781 (show (0 : Nat) < 1 by decide) rfl hMA.2.2.2.1 dX5_count_101 ?_
    rw [hQ]
    exact rW_i hx hb hr hlk hS (⟨rfl, ⟨ad, _, _, rfl, hW, hag, hht, hMA.th, rfl⟩⟩) dX5_count_104
  · refine lv_tableIn (tgt := 105) hx hb dX5_count_6 (by decide) (by decide) rfl (by decide) ?_
    refine lv_aload_n hx hb dX5_count_105 rfl (lv_at hl 0 rfl) ?_
    refine g_I (x := I0 28 2) Z hW kX5 rfl 42 (by decide) q782 (show (0 : Nat) < 1 by decide) rfl hMA.2.2.2.2 dX5_count_106 ?_
    rw [hQ]
    exact rW_i hx hb hr hlk hS (⟨rfl, ⟨ad, _, _, rfl, hW, hag, hht, hMA.th, rfl⟩⟩) dX5_count_109
set_option maxHeartbeats 4000000 in
theorem m_X5_classOf (l : Launch) (a : Nat) (b : Nat) (ha : a < 3) (hb3 : b < 3) : MX l yX5_classOf cX5_classOf 2 (some .int) [] (rmx 1 0 0) [.int (nI a), .int (nI b)] (fun _ => True) (qR Value.int (fun r => r = nI (clN a b))) 0 0 (fun _ => False) := by
  refine MX.start (Nat.le_of_ble_eq_true rfl) ?_
  intro p e s m args below meth c ls Q hAt hPc hl hQ
  have hl : lv_has ls 2 [(0, .int (nI a)), (1, .int (nI b))] := hl
  obtain ⟨hx, hb, hml, hr, hlk, hown, hnm, htab, hts⟩ := id hAt
  refine lv_iload_n hx hb dX5_classOf_0 rfl (lv_at hl 0 rfl) ?_
  refine lv_iload_n hx hb dX5_classOf_1 rfl (lv_at hl 1 rfl) ?_
  refine lv_nge (tgt := 13) hx hb (by omega) (by omega) dX5_classOf_2 (by decide) (fun c1 => ?_) (fun c1 => ?_)
  · refine lv_iload_n hx hb dX5_classOf_13 rfl (lv_at hl 1 rfl) ?_
    refine lv_iconst (v := nI 3) hx hb dX5_classOf_14 rfl ?_
    refine lv_imul hx hb dX5_classOf_15 ?_
    rw [pk_mul]
    refine lv_iload_n hx hb dX5_classOf_16 rfl (lv_at hl 0 rfl) ?_
    refine lv_iadd hx hb dX5_classOf_17 ?_
    rw [nI_add]
    rw [hQ]
    exact rR_i hx hb hr hlk (clN_n c1) dX5_classOf_18
  · refine lv_iload_n hx hb dX5_classOf_5 rfl (lv_at hl 0 rfl) ?_
    refine lv_iconst (v := nI 3) hx hb dX5_classOf_6 rfl ?_
    refine lv_imul hx hb dX5_classOf_7 ?_
    rw [pk_mul]
    refine lv_iload_n hx hb dX5_classOf_8 rfl (lv_at hl 1 rfl) ?_
    refine lv_iadd hx hb dX5_classOf_9 ?_
    rw [nI_add]
    refine lv_goto (tgt := 18) hx hb dX5_classOf_10 (by decide) ?_
    rw [hQ]
    exact rR_i hx hb hr hlk (clN_m c1) dX5_classOf_18
set_option maxHeartbeats 4000000 in
theorem m_M_bin (l : Launch) (A : Nat → Prop) (Dg : va_G) (dA : Nat → ClassId) (x : Nat) (n : Nat) (nb : Nat) (nr : Nat) (J : Jt) (D0 : T64) (I0 : T32) (hI : Inv n nb nr J D0 I0) (a : Int32) (b : Int32) (k : Int32) (th : Int32) : MX l yX5_bin cX5_bin 4 (some .int) [] (rmx 3 0 0) [.ref (x), .int (a), .int (b), .int (k)] (Pw Dg dA (MS A Dg dA x n nb nr J D0 I0 th)) (qW (fun r : Int32 => some (.int r)) (fun r H => (okBi a b k ∧ r = I0 6 (ix k + 16 * clN (ix a) (ix b)) ∧ MS A Dg dA x n nb nr J D0 I0 ((nI 0)) H) ∨ (¬ okBi a b k ∧ r = nI 0 ∧ MS A Dg dA x n nb nr J D0 I0 ((nI 1)) H)) A) 0 0 A := by
  refine MX.start (Nat.le_of_ble_eq_true rfl) ?_
  intro p e s m args below meth c ls Q hAt hPc hl hQ
  have hl : lv_has ls 4 [(0, .ref (x)), (1, .int (a)), (2, .int (b)), (3, .int (k))] := hl
  obtain ⟨hx, hb, hml, hr, hlk, hown, hnm, htab, hts⟩ := id hAt
  obtain ⟨hK, hW⟩ := hPc
  have Z := Cx.of hAt hK
  have hS : va_S A s.heap s.heap [] := va_S.rf
  obtain ⟨ad, D, I, rfl, hW, hag, hht, hMA, hth⟩ := hW
  have hB := hI.bd
  have hn10 := hB.n10
  have hM := hMA.1
  refine lv_aload_n hx hb dX5_bin_0 rfl (lv_at hl 0 rfl) ?_
  refine lv_iload_n hx hb dX5_bin_1 rfl (lv_at hl 1 rfl) ?_
  refine lv_if_lt (tgt := 33) hx hb dX5_bin_2 (by decide) (fun c1 => ?_) (fun c1 => ?_)
  · refine lv_iconst (v := nI 0) hx hb dX5_bin_33 rfl ?_
    refine wx_ws (wx_V (As := [.int (nI 0)]) (rest := []) hAt.fix (m_X5_bad0 l A Dg dA ad n nb nr J D I) q901 q903 qs22 q904 wn_X5_bad ⟨Nat.le_of_ble_eq_true rfl, Nat.le_of_ble_eq_true rfl, Nat.le_of_ble_eq_true rfl, Nat.le_of_ble_eq_true rfl⟩ (w_recv hK hW kX5 rfl (show (0 : Nat) < 1 by decide)) (Pw.of hK hW) hl.1 (Nat.le_of_ble_eq_true rfl) dX5_bin_34) hS (fun r H locs hW hz hS => ?_)
    obtain ⟨rfl, hW⟩ := hW
    refine lv_if_eq (tgt := 42) hx hb dX5_bin_37 (by decide) (fun h => absurd h (by decide)) (fun _ => ?_)
    refine lv_iconst (v := nI 0) hx hb dX5_bin_40 rfl ?_
    rw [hQ]
    exact rW_i hx hb hr hlk hS (Or.inr ⟨fun q => q.1.1 c1, rfl, ⟨ad, _, _, rfl, hW, hag, hht, hMA.th, rfl⟩⟩) dX5_bin_41
  · refine lv_iload_n hx hb dX5_bin_5 rfl (lv_at hl 1 rfl) ?_
    refine lv_iconst (v := nI 3) hx hb dX5_bin_6 rfl ?_
    refine lv_icmp_ge (tgt := 33) hx hb dX5_bin_7 (by decide) (fun c3 => ?_) (fun c3 => ?_)
    · refine lv_iconst (v := nI 0) hx hb dX5_bin_33 rfl ?_
      refine wx_ws (wx_V (As := [.int (nI 0)]) (rest := []) hAt.fix (m_X5_bad0 l A Dg dA ad n nb nr J D I) q901 q903 qs22 q904 wn_X5_bad ⟨Nat.le_of_ble_eq_true rfl, Nat.le_of_ble_eq_true rfl, Nat.le_of_ble_eq_true rfl, Nat.le_of_ble_eq_true rfl⟩ (w_recv hK hW kX5 rfl (show (0 : Nat) < 1 by decide)) (Pw.of hK hW) hl.1 (Nat.le_of_ble_eq_true rfl) dX5_bin_34) hS (fun r H locs hW hz hS => ?_)
      obtain ⟨rfl, hW⟩ := hW
      refine lv_if_eq (tgt := 42) hx hb dX5_bin_37 (by decide) (fun h => absurd h (by decide)) (fun _ => ?_)
      refine lv_iconst (v := nI 0) hx hb dX5_bin_40 rfl ?_
      rw [hQ]
      exact rW_i hx hb hr hlk hS (Or.inr ⟨fun q => q.1.2 c3, rfl, ⟨ad, _, _, rfl, hW, hag, hht, hMA.th, rfl⟩⟩) dX5_bin_41
    · refine lv_iload_n hx hb dX5_bin_10 rfl (lv_at hl 2 rfl) ?_
      refine lv_if_lt (tgt := 33) hx hb dX5_bin_11 (by decide) (fun c5 => ?_) (fun c5 => ?_)
      · refine lv_iconst (v := nI 0) hx hb dX5_bin_33 rfl ?_
        refine wx_ws (wx_V (As := [.int (nI 0)]) (rest := []) hAt.fix (m_X5_bad0 l A Dg dA ad n nb nr J D I) q901 q903 qs22 q904 wn_X5_bad ⟨Nat.le_of_ble_eq_true rfl, Nat.le_of_ble_eq_true rfl, Nat.le_of_ble_eq_true rfl, Nat.le_of_ble_eq_true rfl⟩ (w_recv hK hW kX5 rfl (show (0 : Nat) < 1 by decide)) (Pw.of hK hW) hl.1 (Nat.le_of_ble_eq_true rfl) dX5_bin_34) hS (fun r H locs hW hz hS => ?_)
        obtain ⟨rfl, hW⟩ := hW
        refine lv_if_eq (tgt := 42) hx hb dX5_bin_37 (by decide) (fun h => absurd h (by decide)) (fun _ => ?_)
        refine lv_iconst (v := nI 0) hx hb dX5_bin_40 rfl ?_
        rw [hQ]
        exact rW_i hx hb hr hlk hS (Or.inr ⟨fun q => q.2.1.1 c5, rfl, ⟨ad, _, _, rfl, hW, hag, hht, hMA.th, rfl⟩⟩) dX5_bin_41
      · refine lv_iload_n hx hb dX5_bin_14 rfl (lv_at hl 2 rfl) ?_
        refine lv_iconst (v := nI 3) hx hb dX5_bin_15 rfl ?_
        refine lv_icmp_ge (tgt := 33) hx hb dX5_bin_16 (by decide) (fun c7 => ?_) (fun c7 => ?_)
        · refine lv_iconst (v := nI 0) hx hb dX5_bin_33 rfl ?_
          refine wx_ws (wx_V (As := [.int (nI 0)]) (rest := []) hAt.fix (m_X5_bad0 l A Dg dA ad n nb nr J D I) q901 q903 qs22 q904 wn_X5_bad ⟨Nat.le_of_ble_eq_true rfl, Nat.le_of_ble_eq_true rfl, Nat.le_of_ble_eq_true rfl, Nat.le_of_ble_eq_true rfl⟩ (w_recv hK hW kX5 rfl (show (0 : Nat) < 1 by decide)) (Pw.of hK hW) hl.1 (Nat.le_of_ble_eq_true rfl) dX5_bin_34) hS (fun r H locs hW hz hS => ?_)
          obtain ⟨rfl, hW⟩ := hW
          refine lv_if_eq (tgt := 42) hx hb dX5_bin_37 (by decide) (fun h => absurd h (by decide)) (fun _ => ?_)
          refine lv_iconst (v := nI 0) hx hb dX5_bin_40 rfl ?_
          rw [hQ]
          exact rW_i hx hb hr hlk hS (Or.inr ⟨fun q => q.2.1.2 c7, rfl, ⟨ad, _, _, rfl, hW, hag, hht, hMA.th, rfl⟩⟩) dX5_bin_41
        · refine lv_iload_n hx hb dX5_bin_19 rfl (lv_at hl 3 rfl) ?_
          refine lv_if_lt (tgt := 33) hx hb dX5_bin_20 (by decide) (fun c9 => ?_) (fun c9 => ?_)
          · refine lv_iconst (v := nI 0) hx hb dX5_bin_33 rfl ?_
            refine wx_ws (wx_V (As := [.int (nI 0)]) (rest := []) hAt.fix (m_X5_bad0 l A Dg dA ad n nb nr J D I) q901 q903 qs22 q904 wn_X5_bad ⟨Nat.le_of_ble_eq_true rfl, Nat.le_of_ble_eq_true rfl, Nat.le_of_ble_eq_true rfl, Nat.le_of_ble_eq_true rfl⟩ (w_recv hK hW kX5 rfl (show (0 : Nat) < 1 by decide)) (Pw.of hK hW) hl.1 (Nat.le_of_ble_eq_true rfl) dX5_bin_34) hS (fun r H locs hW hz hS => ?_)
            obtain ⟨rfl, hW⟩ := hW
            refine lv_if_eq (tgt := 42) hx hb dX5_bin_37 (by decide) (fun h => absurd h (by decide)) (fun _ => ?_)
            refine lv_iconst (v := nI 0) hx hb dX5_bin_40 rfl ?_
            rw [hQ]
            exact rW_i hx hb hr hlk hS (Or.inr ⟨fun q => q.2.2.1 c9, rfl, ⟨ad, _, _, rfl, hW, hag, hht, hMA.th, rfl⟩⟩) dX5_bin_41
          · refine lv_iload_n hx hb dX5_bin_23 rfl (lv_at hl 3 rfl) ?_
            refine lv_bipush (v := nI 16) hx hb dX5_bin_24 rfl ?_
            refine lv_icmp_ge (tgt := 33) hx hb dX5_bin_26 (by decide) (fun c11 => ?_) (fun c11 => ?_)
            · refine lv_iconst (v := nI 0) hx hb dX5_bin_33 rfl ?_
              refine wx_ws (wx_V (As := [.int (nI 0)]) (rest := []) hAt.fix (m_X5_bad0 l A Dg dA ad n nb nr J D I) q901 q903 qs22 q904 wn_X5_bad ⟨Nat.le_of_ble_eq_true rfl, Nat.le_of_ble_eq_true rfl, Nat.le_of_ble_eq_true rfl, Nat.le_of_ble_eq_true rfl⟩ (w_recv hK hW kX5 rfl (show (0 : Nat) < 1 by decide)) (Pw.of hK hW) hl.1 (Nat.le_of_ble_eq_true rfl) dX5_bin_34) hS (fun r H locs hW hz hS => ?_)
              obtain ⟨rfl, hW⟩ := hW
              refine lv_if_eq (tgt := 42) hx hb dX5_bin_37 (by decide) (fun h => absurd h (by decide)) (fun _ => ?_)
              refine lv_iconst (v := nI 0) hx hb dX5_bin_40 rfl ?_
              rw [hQ]
              exact rW_i hx hb hr hlk hS (Or.inr ⟨fun q => q.2.2.2 c11, rfl, ⟨ad, _, _, rfl, hW, hag, hht, hMA.th, rfl⟩⟩) dX5_bin_41
            · refine lv_iconst (v := nI 1) hx hb dX5_bin_29 rfl ?_
              refine lv_goto (tgt := 34) hx hb dX5_bin_30 (by decide) ?_
              refine wx_ws (wx_V (As := [.int (nI 1)]) (rest := []) hAt.fix (m_X5_bad1 l A Dg dA ad n nb nr J D I) q901 q903 qs22 q904 wn_X5_bad ⟨Nat.le_of_ble_eq_true rfl, Nat.le_of_ble_eq_true rfl, Nat.le_of_ble_eq_true rfl, Nat.le_of_ble_eq_true rfl⟩ (w_recv hK hW kX5 rfl (show (0 : Nat) < 1 by decide)) (Pw.of hK hW) hl.1 (Nat.le_of_ble_eq_true rfl) dX5_bin_34) hS (fun r H locs hW hz hS => ?_)
              obtain ⟨rfl, hW⟩ := hW
              have hok : okBi a b k := ⟨⟨c1, c3⟩, ⟨c5, c7⟩, c9, c11⟩
              obtain ⟨p1, hp1, rfl⟩ := ok3_of hok.1
              obtain ⟨p2, hp2, rfl⟩ := ok3_of hok.2.1
              obtain ⟨p3, hp3, rfl⟩ := okN_of (n := 16) (by omega) hok.2.2.1 hok.2.2.2
              have hcl := clN_lt hp1 hp2
              refine lv_if_eq (tgt := 42) hx hb dX5_bin_37 (by decide) (fun _ => ?_) (fun h => absurd nI_0 h)
              refine lv_aload_n hx hb dX5_bin_42 rfl (lv_at hl 0 rfl) ?_
              refine w_getR (v := .ref (ad 58 0)) Z hW kX5 rfl 35 (by decide) q775 (show (0 : Nat) < 1 by decide) rfl rfl dX5_bin_43 ?_
              refine lv_iload_n hx hb dX5_bin_46 rfl (lv_at hl 1 rfl) ?_
              refine lv_iload_n hx hb dX5_bin_47 rfl (lv_at hl 2 rfl) ?_
              refine wx_r (wx_S (As := [.int (nI p1), .int (nI p2)]) (rest := [.ref (ad 58 0)]) hAt.fix (m_X5_classOf l p1 p2 hp1 hp2) q1068 q1069 q50 q1070 wn_X5_classOf ⟨Nat.le_of_ble_eq_true rfl, Nat.le_of_ble_eq_true rfl, Nat.le_of_ble_eq_true rfl, Nat.le_of_ble_eq_true rfl⟩ (fun _ _ _ => trivial) hl.1 (Nat.le_of_ble_eq_true rfl) dX5_bin_48) (fun r hr => ?_)
              subst hr
              refine lv_bipush (v := nI 16) hx hb dX5_bin_51 rfl ?_
              refine lv_imul hx hb dX5_bin_53 ?_
              rw [pk_mul]
              refine lv_iload_n hx hb dX5_bin_54 rfl (lv_at hl 3 rfl) ?_
              refine lv_iadd hx hb dX5_bin_55 ?_
              rw [nI_add]
              refine a_I (j := (((clN p1 p2) * 16) + p3)) (x := I0 6 (((clN p1 p2) * 16) + p3)) (ix := ((clN p1 p2) * 16) + p3) Z hW rfl (show (0 : Nat) < 1 by decide) (by omega) (by decide) rfl rfl (hMA.2.1 6 _ rfl (by decide)) dX5_bin_56 ?_
              rw [hQ]
              exact rW_i hx hb hr hlk hS (Or.inl (by rw [ix_nI (by omega), ix_nI (by omega), ix_nI (by omega)]; exact ⟨hok, bix_c, ⟨ad, _, _, rfl, hW, hag, hht, hMA.th, rfl⟩⟩)) dX5_bin_57
