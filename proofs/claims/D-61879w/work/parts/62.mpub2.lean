set_option maxRecDepth 100000
/-! ===== the model: public calls 2 ===== -/
section MAt
variable {n nb nr i j : Nat} {J : Jt} {I I0 : T32}
theorem mA.atom (h : mA n nb nr J I I0) : mA (n + 1) nb nr (up2 J 0 n i) (up2 (up2 (up2 (up2 I 0 n (nI i)) 1 n (nI 0)) 23 0 (nI 0)) 20 0 (nI (n + 1))) (oAtI I0 n) := by
  refine ⟨⟨⟨rfl, h.1.cb, h.1.cr⟩, fun a ha => ?_, fun k hk => ?_, fun k hk => ?_⟩, fun f a hf h28 => ?_, h.2.2⟩
  · show up2 I 0 n (nI i) 0 a = nI (up2 J 0 n i 0 a)
    by_cases e : a = n
    · subst e; rw [up2_same, up2_same]
    · rw [up2_i _ _ _ _ e, up2_i _ _ _ _ e]; exact h.1.s (by omega)
  · exact ⟨h.1.bi hk, h.1.bj hk⟩
  · exact ⟨h.1.ri hk, h.1.rj hk⟩
  · unfold oAtI
    rw [up2_eq, up2_eq, up2_eq, up2_eq, up2_eq, up2_eq, up2_eq]
    by_cases q20 : f = 20 ∧ a = 0
    · rw [if_pos q20, if_neg (fun q => by omega), if_pos q20]
    · rw [if_neg q20]
      by_cases q23 : f = 23 ∧ a = 0
      · rw [if_pos q23, if_pos q23]
      · rw [if_neg q23, if_neg q23, if_neg q20]
        by_cases q1 : f = 1 ∧ a = n
        · rw [if_pos q1, if_pos q1]; rfl
        · rw [if_neg q1, if_neg q1, if_neg (fun q => by rw [q.1] at hf; cases hf)]
          exact h.2.1 f a hf h28
theorem mA.bond (h : mA n nb nr J I I0) : mA n (nb + 1) nr (up2 (up2 J 2 nb i) 3 nb j) (up2 (up2 (up2 I 2 nb (nI i)) 3 nb (nI j)) 21 0 (nI (nb + 1))) (up2 I0 21 0 (nI (nb + 1))) := by
  refine ⟨⟨⟨h.1.cn, rfl, h.1.cr⟩, fun a ha => h.1.s ha, fun k hk => ?_, fun k hk => ⟨h.1.ri hk, h.1.rj hk⟩⟩, fun f a hf h28 => ?_, h.2.2⟩
  · by_cases e : k = nb
    · subst e
      refine ⟨?_, ?_⟩
      · show up2 (up2 I 2 k (nI i)) 3 k (nI j) 2 k = nI (up2 (up2 J 2 k i) 3 k j 2 k)
        rw [up2_f _ _ _ _ (by decide), up2_same, up2_f _ _ _ _ (by decide), up2_same]
      · show up2 (up2 I 2 k (nI i)) 3 k (nI j) 3 k = nI (up2 (up2 J 2 k i) 3 k j 3 k)
        rw [up2_same, up2_same]
    · show up2 (up2 I 2 nb (nI i)) 3 nb (nI j) 2 k = nI (up2 (up2 J 2 nb i) 3 nb j 2 k) ∧ up2 (up2 I 2 nb (nI i)) 3 nb (nI j) 3 k = nI (up2 (up2 J 2 nb i) 3 nb j 3 k)
      rw [up2_i _ _ _ _ e, up2_i _ _ _ _ e, up2_i _ _ _ _ e, up2_i _ _ _ _ e, up2_i _ _ _ _ e, up2_i _ _ _ _ e, up2_i _ _ _ _ e, up2_i _ _ _ _ e]
      exact ⟨h.1.bi (by omega), h.1.bj (by omega)⟩
  · rw [up2_eq _ 21 0, up2_eq _ 21 0]
    split
    · rfl
    · rw [up2_f _ _ _ _ (fun q => by rw [q] at hf; cases hf), up2_f _ _ _ _ (fun q => by rw [q] at hf; cases hf)]
      exact h.2.1 f a hf h28
theorem mA.rod (h : mA n nb nr J I I0) : mA n nb (nr + 1) (up2 (up2 J 4 nr i) 5 nr j) (up2 (up2 (up2 I 4 nr (nI i)) 5 nr (nI j)) 22 0 (nI (nr + 1))) (up2 I0 22 0 (nI (nr + 1))) := by
  refine ⟨⟨⟨h.1.cn, h.1.cb, rfl⟩, fun a ha => h.1.s ha, fun k hk => ⟨h.1.bi hk, h.1.bj hk⟩, fun k hk => ?_⟩, fun f a hf h28 => ?_, h.2.2⟩
  · by_cases e : k = nr
    · subst e
      refine ⟨?_, ?_⟩
      · show up2 (up2 I 4 k (nI i)) 5 k (nI j) 4 k = nI (up2 (up2 J 4 k i) 5 k j 4 k)
        rw [up2_f _ _ _ _ (by decide), up2_same, up2_f _ _ _ _ (by decide), up2_same]
      · show up2 (up2 I 4 k (nI i)) 5 k (nI j) 5 k = nI (up2 (up2 J 4 k i) 5 k j 5 k)
        rw [up2_same, up2_same]
    · show up2 (up2 I 4 nr (nI i)) 5 nr (nI j) 4 k = nI (up2 (up2 J 4 nr i) 5 nr j 4 k) ∧ up2 (up2 I 4 nr (nI i)) 5 nr (nI j) 5 k = nI (up2 (up2 J 4 nr i) 5 nr j 5 k)
      rw [up2_i _ _ _ _ e, up2_i _ _ _ _ e, up2_i _ _ _ _ e, up2_i _ _ _ _ e, up2_i _ _ _ _ e, up2_i _ _ _ _ e, up2_i _ _ _ _ e, up2_i _ _ _ _ e]
      exact ⟨h.1.ri (by omega), h.1.rj (by omega)⟩
  · rw [up2_eq _ 22 0, up2_eq _ 22 0]
    split
    · rfl
    · rw [up2_f _ _ _ _ (fun q => by rw [q] at hf; cases hf), up2_f _ _ _ _ (fun q => by rw [q] at hf; cases hf)]
      exact h.2.1 f a hf h28
end MAt
theorem ax_of {ax : Int32} (h1 : ¬ ax < 0) (h2 : ¬ nI 2 ≤ ax) : ax = 0 ∨ ax = nI 1 := by
  obtain ⟨q, hq, rfl⟩ := okN_of (n := 2) (by omega) h1 h2
  have : q = 0 ∨ q = 1 := by omega
  rcases this with rfl | rfl
  · exact Or.inl rfl
  · exact Or.inr rfl
theorem ax_lo {ax : Int32} (h : ax = 0 ∨ ax = nI 1) (h1 : ax < 0) : False := by rcases h with rfl | rfl <;> exact absurd h1 (by decide)
theorem ax_hi {ax : Int32} (h : ax = 0 ∨ ax = nI 1) (h1 : nI 2 ≤ ax) : False := by rcases h with rfl | rfl <;> exact absurd h1 (by decide)
set_option maxHeartbeats 4000000 in
theorem m_M_force (l : Launch) (A : Nat → Prop) (Dg : va_G) (dA : Nat → ClassId) (x : Nat) (n : Nat) (nb : Nat) (nr : Nat) (J : Jt) (D0 : T64) (I0 : T32) (hI : Inv n nb nr J D0 I0) (k : Int32) (ax : Int32) (th : Int32) : MX l yX5_force cX5_force 3 (some .double) [] (rmx 7 0 0) [.ref (x), .int (k), .int (ax)] (Pw Dg dA (MS A Dg dA x n nb nr J D0 I0 th)) (qW (fun r : UInt64 => some (.double r)) (fun r H => (okFo k n ax ∧ ovl D0 n = false ∧ r = (if ax = 0 then (FX D0 J n nb (ix k)).1 else (FX D0 J n nb (ix k)).2) ∧ MS A Dg dA x n nb nr J D0 I0 ((nI 0)) H) ∨ (okFo k n ax ∧ ovl D0 n = true ∧ r = FP.dconst0 ∧ MS A Dg dA x n nb nr J D0 I0 ((nI 2)) H) ∨ (¬ okFo k n ax ∧ r = FP.dconst0 ∧ MS A Dg dA x n nb nr J D0 I0 ((nI 1)) H)) A) 0 0 A := by
  refine MX.start (Nat.le_of_ble_eq_true rfl) ?_
  intro p e s m args below meth c ls Q hAt hPc hl hQ
  have hl : lv_has ls 3 [(0, .ref (x)), (1, .int (k)), (2, .int (ax))] := hl
  obtain ⟨hx, hb, hml, hr, hlk, hown, hnm, htab, hts⟩ := id hAt
  obtain ⟨hK, hW⟩ := hPc
  have Z := Cx.of hAt hK
  have hS : va_S A s.heap s.heap [] := va_S.rf
  obtain ⟨ad, D, I, rfl, hW, hag, hht, hMA, hth⟩ := hW
  have hB := hI.bd
  have hn10 := hB.n10
  have hM := hMA.1
  refine lv_aload_n hx hb dX5_force_0 rfl (lv_at hl 0 rfl) ?_
  refine lv_aload_n hx hb dX5_force_1 rfl (lv_at hl 0 rfl) ?_
  refine lv_iload_n hx hb dX5_force_2 rfl (lv_at hl 1 rfl) ?_
  refine wx_r (wx_V (As := [.int (k)]) (rest := [.ref (ad 30 0)]) hAt.fix (m_X5_isAtom l A Dg dA ad n nb nr J D I k hM.cn hn10) q916 q918 qs24 q919 wn_X5_isAtom ⟨Nat.le_of_ble_eq_true rfl, Nat.le_of_ble_eq_true rfl, Nat.le_of_ble_eq_true rfl, Nat.le_of_ble_eq_true rfl⟩ (w_recv hK hW kX5 rfl (show (0 : Nat) < 1 by decide)) (Pw.of hK hW) hl.1 (Nat.le_of_ble_eq_true rfl) dX5_force_3) (fun r hr => ?_)
  rcases hr with ⟨rfl, hq⟩ | ⟨rfl, hq⟩
  · have q1 := hq
    refine lv_if_eq (tgt := 22) hx hb dX5_force_6 (by decide) (fun h => absurd h (by decide)) (fun _ => ?_)
    refine lv_iload_n hx hb dX5_force_9 rfl (lv_at hl 2 rfl) ?_
    refine lv_if_lt (tgt := 22) hx hb dX5_force_10 (by decide) (fun c3 => ?_) (fun c3 => ?_)
    · refine lv_iconst (v := nI 0) hx hb dX5_force_22 rfl ?_
      refine wx_ws (wx_V (As := [.int (nI 0)]) (rest := []) hAt.fix (m_X5_bad0 l A Dg dA ad n nb nr J D I) q901 q903 qs22 q904 wn_X5_bad ⟨Nat.le_of_ble_eq_true rfl, Nat.le_of_ble_eq_true rfl, Nat.le_of_ble_eq_true rfl, Nat.le_of_ble_eq_true rfl⟩ (w_recv hK hW kX5 rfl (show (0 : Nat) < 1 by decide)) (Pw.of hK hW) hl.1 (Nat.le_of_ble_eq_true rfl) dX5_force_23) hS (fun r H locs hW hz hS => ?_)
      obtain ⟨rfl, hW⟩ := hW
      refine lv_if_eq (tgt := 31) hx hb dX5_force_26 (by decide) (fun h => absurd h (by decide)) (fun _ => ?_)
      refine lv_dconst0 hx hb dX5_force_29 ?_
      rw [hQ]
      exact rW_d hx hb hr hlk hS (Or.inr (Or.inr ⟨fun q => ax_lo q.2 c3, rfl, ⟨ad, _, _, rfl, hW, hag, hht, hMA.th, rfl⟩⟩)) dX5_force_30
    · refine lv_iload_n hx hb dX5_force_13 rfl (lv_at hl 2 rfl) ?_
      refine lv_iconst (v := nI 2) hx hb dX5_force_14 rfl ?_
      refine lv_icmp_ge (tgt := 22) hx hb dX5_force_15 (by decide) (fun c5 => ?_) (fun c5 => ?_)
      · refine lv_iconst (v := nI 0) hx hb dX5_force_22 rfl ?_
        refine wx_ws (wx_V (As := [.int (nI 0)]) (rest := []) hAt.fix (m_X5_bad0 l A Dg dA ad n nb nr J D I) q901 q903 qs22 q904 wn_X5_bad ⟨Nat.le_of_ble_eq_true rfl, Nat.le_of_ble_eq_true rfl, Nat.le_of_ble_eq_true rfl, Nat.le_of_ble_eq_true rfl⟩ (w_recv hK hW kX5 rfl (show (0 : Nat) < 1 by decide)) (Pw.of hK hW) hl.1 (Nat.le_of_ble_eq_true rfl) dX5_force_23) hS (fun r H locs hW hz hS => ?_)
        obtain ⟨rfl, hW⟩ := hW
        refine lv_if_eq (tgt := 31) hx hb dX5_force_26 (by decide) (fun h => absurd h (by decide)) (fun _ => ?_)
        refine lv_dconst0 hx hb dX5_force_29 ?_
        rw [hQ]
        exact rW_d hx hb hr hlk hS (Or.inr (Or.inr ⟨fun q => ax_hi q.2 c5, rfl, ⟨ad, _, _, rfl, hW, hag, hht, hMA.th, rfl⟩⟩)) dX5_force_30
      · refine lv_iconst (v := nI 1) hx hb dX5_force_18 rfl ?_
        refine lv_goto (tgt := 23) hx hb dX5_force_19 (by decide) ?_
        refine wx_ws (wx_V (As := [.int (nI 1)]) (rest := []) hAt.fix (m_X5_bad1 l A Dg dA ad n nb nr J D I) q901 q903 qs22 q904 wn_X5_bad ⟨Nat.le_of_ble_eq_true rfl, Nat.le_of_ble_eq_true rfl, Nat.le_of_ble_eq_true rfl, Nat.le_of_ble_eq_true rfl⟩ (w_recv hK hW kX5 rfl (show (0 : Nat) < 1 by decide)) (Pw.of hK hW) hl.1 (Nat.le_of_ble_eq_true rfl) dX5_force_23) hS (fun r H locs hW hz hS => ?_)
        obtain ⟨rfl, hW⟩ := hW
        have hok : okFo k n ax := ⟨q1, ax_of c3 c5⟩
        obtain ⟨i, hi, rfl⟩ := hok.1
        refine lv_if_eq (tgt := 31) hx hb dX5_force_26 (by decide) (fun _ => ?_) (fun h => absurd nI_0 h)
        refine lv_aload_n hx hb dX5_force_31 rfl (lv_at hl 0 rfl) ?_
        refine wx_ws (wx_V (As := []) (rest := []) hAt.fix (m_X5_overlap l A Dg dA ad n nb nr J D ((up2 I 42 0 (nI 0))) D0 hag hB hM.cn) q976 q978 qs30 q979 wn_X5_overlap ⟨Nat.le_of_ble_eq_true rfl, Nat.le_of_ble_eq_true rfl, Nat.le_of_ble_eq_true rfl, Nat.le_of_ble_eq_true rfl⟩ (w_recv hK hW kX5 rfl (show (0 : Nat) < 1 by decide)) (Pw.of hK hW) hl.1 (Nat.le_of_ble_eq_true rfl) dX5_force_32) hS (fun r H locs hW hz hS => ?_)
        obtain ⟨hr1, D1, hex, hW⟩ := hW
        have hag1 := hag.S hex
        have hht1 : D1 23 0 = D0 23 0 := (hex 23 0 rfl).trans hht
        rcases hr1 with ⟨rfl, hq⟩ | ⟨rfl, hq⟩
        · have q8 := hq
          refine lv_if_eq (tgt := 45) hx hb dX5_force_35 (by decide) (fun h => absurd h (by decide)) (fun _ => ?_)
          refine lv_aload_n hx hb dX5_force_38 rfl (lv_at hl 0 rfl) ?_
          refine lv_iconst (v := nI 2) hx hb dX5_force_39 rfl ?_
          refine w_putI Z hW hS kX5 rfl 43 (by decide) (by decide) q783 rfl (show (0 : Nat) < 1 by decide) rfl rfl rfl dX5_force_40 (fun H locs hW hS => ?_)
          refine lv_dconst0 hx hb dX5_force_43 ?_
          rw [hQ]
          exact rW_d hx hb hr hlk hS (Or.inr (Or.inl ⟨hok, q8, rfl, ad, _, _, rfl, hW, hag1, hht1, (hMA.th).th, rfl⟩)) dX5_force_44
        · have q10 := hq
          refine lv_if_eq (tgt := 45) hx hb dX5_force_35 (by decide) (fun _ => ?_) (fun h => absurd nI_0 h)
          refine lv_aload_n hx hb dX5_force_45 rfl (lv_at hl 0 rfl) ?_
          refine lv_iload_n hx hb dX5_force_46 rfl (lv_at hl 1 rfl) ?_
          have ho := q10
          refine wx_wv (wx_V (As := [.int (nI i)]) (rest := []) hAt.fix (m_X5_findForce l A Dg dA ad n nb nr J D1 ((up2 I 42 0 (nI 0))) D0 hag1 hB hM i hi ho) q985 q987 qs32 q988 wn_X5_findForce ⟨Nat.le_of_ble_eq_true rfl, Nat.le_of_ble_eq_true rfl, Nat.le_of_ble_eq_true rfl, Nat.le_of_ble_eq_true rfl⟩ (w_recv hK hW kX5 rfl (show (0 : Nat) < 1 by decide)) (Pw.of hK hW) hl.1 (Nat.le_of_ble_eq_true rfl) dX5_force_47) hS (fun H locs hW hz hS => ?_)
          obtain ⟨D2, hex2, hW⟩ := hW
          have h30 : D2 30 i = (FX D0 J n nb i).1 := (hex2 30 i rfl).trans ((up2_f _ _ _ _ (by decide)).trans (up2_same _ _ _ _))
          have h31 : D2 31 i = (FX D0 J n nb i).2 := (hex2 31 i rfl).trans (up2_same _ _ _ _)
          have hag2 : agD D2 D0 := ((hag1.up rfl).up rfl).S hex2
          have hht2 : D2 23 0 = D0 23 0 := (hex2 23 0 rfl).trans ((up2_f _ _ _ _ (by decide)).trans ((up2_f _ _ _ _ (by decide)).trans hht1))
          refine lv_iload_n hx hb dX5_force_50 rfl (lv_at hl 2 rfl) ?_
          refine lv_if_ne (tgt := 63) hx hb dX5_force_51 (by decide) (fun c12 => ?_) (fun c12 => ?_)
          · refine lv_aload_n hx hb dX5_force_63 rfl (lv_at hl 0 rfl) ?_
            refine w_getR (v := .ref (ad 57 0)) Z hW kX5 rfl 34 (by decide) q774 (show (0 : Nat) < 1 by decide) rfl rfl dX5_force_64 ?_
            refine lv_iload_n hx hb dX5_force_67 rfl (lv_at hl 1 rfl) ?_
            refine a_D (j := i) (x := (FX D0 J n nb i).2) (ix := i) Z hW rfl (show (0 : Nat) < 1 by decide) (by omega) (by decide) rfl rfl h31 dX5_force_68 ?_
            rw [hQ]
            exact rW_d hx hb hr hlk hS (Or.inl ⟨hok, ho, by rw [ix_nI (by omega)]; exact (if_neg c12).symm, ad, _, _, rfl, hW, hag2, hht2, hMA.th, rfl⟩) dX5_force_69
          · refine lv_aload_n hx hb dX5_force_54 rfl (lv_at hl 0 rfl) ?_
            refine w_getR (v := .ref (ad 56 0)) Z hW kX5 rfl 33 (by decide) q773 (show (0 : Nat) < 1 by decide) rfl rfl dX5_force_55 ?_
            refine lv_iload_n hx hb dX5_force_58 rfl (lv_at hl 1 rfl) ?_
            refine a_D (j := i) (x := (FX D0 J n nb i).1) (ix := i) Z hW rfl (show (0 : Nat) < 1 by decide) (by omega) (by decide) rfl rfl h30 dX5_force_59 ?_
            refine lv_goto (tgt := 69) hx hb dX5_force_60 (by decide) ?_
            rw [hQ]
            exact rW_d hx hb hr hlk hS (Or.inl ⟨hok, ho, by rw [ix_nI (by omega)]; exact (if_pos c12).symm, ad, _, _, rfl, hW, hag2, hht2, hMA.th, rfl⟩) dX5_force_69
  · have q13 := hq
    refine lv_if_eq (tgt := 22) hx hb dX5_force_6 (by decide) (fun _ => ?_) (fun h => absurd nI_0 h)
    refine lv_iconst (v := nI 0) hx hb dX5_force_22 rfl ?_
    refine wx_ws (wx_V (As := [.int (nI 0)]) (rest := []) hAt.fix (m_X5_bad0 l A Dg dA ad n nb nr J D I) q901 q903 qs22 q904 wn_X5_bad ⟨Nat.le_of_ble_eq_true rfl, Nat.le_of_ble_eq_true rfl, Nat.le_of_ble_eq_true rfl, Nat.le_of_ble_eq_true rfl⟩ (w_recv hK hW kX5 rfl (show (0 : Nat) < 1 by decide)) (Pw.of hK hW) hl.1 (Nat.le_of_ble_eq_true rfl) dX5_force_23) hS (fun r H locs hW hz hS => ?_)
    obtain ⟨rfl, hW⟩ := hW
    refine lv_if_eq (tgt := 31) hx hb dX5_force_26 (by decide) (fun h => absurd h (by decide)) (fun _ => ?_)
    refine lv_dconst0 hx hb dX5_force_29 ?_
    rw [hQ]
    exact rW_d hx hb hr hlk hS (Or.inr (Or.inr ⟨fun q => q13 q.1, rfl, ⟨ad, _, _, rfl, hW, hag, hht, hMA.th, rfl⟩⟩)) dX5_force_30
set_option maxHeartbeats 4000000 in
theorem m_M_atom (l : Launch) (A : Nat → Prop) (Dg : va_G) (dA : Nat → ClassId) (x : Nat) (n : Nat) (nb : Nat) (nr : Nat) (J : Jt) (D0 : T64) (I0 : T32) (hI : Inv n nb nr J D0 I0) (px : UInt64) (py : UInt64) (pm : UInt64) (so : Int32) (fx : fb 28 px) (fy : fb 28 py) (th : Int32) : MX l yX5_atom cX5_atom 8 (some .int) [] (rmx 3 0 0) [.ref (x), .double (px), .double (py), .double (pm), .int (so)] (Pw Dg dA (MS A Dg dA x n nb nr J D0 I0 th)) (qW (fun r : Int32 => some (.int r)) (fun r H => (okAt px py pm so ∧ n < 10 ∧ r = nI n ∧ MS A Dg dA x ((n + 1)) nb nr ((up2 J 0 n (ix so))) ((oAt D0 n px py pm)) ((oAtI I0 n)) ((nI 0)) H) ∨ (okAt px py pm so ∧ n = 10 ∧ r = nI 0 ∧ MS A Dg dA x n nb nr J D0 I0 ((nI 2)) H) ∨ (¬ okAt px py pm so ∧ r = nI 0 ∧ MS A Dg dA x n nb nr J D0 I0 ((nI 1)) H)) A) 0 0 A := by
  refine MX.start (Nat.le_of_ble_eq_true rfl) ?_
  intro p e s m args below meth c ls Q hAt hPc hl hQ
  have hl : lv_has ls 8 [(0, .ref (x)), (1, .double (px)), (3, .double (py)), (5, .double (pm)), (7, .int (so))] := hl
  obtain ⟨hx, hb, hml, hr, hlk, hown, hnm, htab, hts⟩ := id hAt
  obtain ⟨hK, hW⟩ := hPc
  have Z := Cx.of hAt hK
  have hS : va_S A s.heap s.heap [] := va_S.rf
  obtain ⟨ad, D, I, rfl, hW, hag, hht, hMA, hth⟩ := hW
  have hB := hI.bd
  have hn10 := hB.n10
  have hM := hMA.1
  refine lv_aload_n hx hb dX5_atom_0 rfl (lv_at hl 0 rfl) ?_
  refine lv_dload_n hx hb dX5_atom_1 rfl (lv_at hl 1 rfl) ?_
  refine lv_ldc2d (v := 13875379345695965184) hx hb hown (hts _ (lw_car_all q894)) dX5_atom_2 ?_
  refine lv_ldc2d (v := 4652007308841189376) hx hb hown (hts _ (lw_car_all q895)) dX5_atom_5 ?_
  refine wx_r (wx_S (As := [.double (px), .double (13875379345695965184), .double (4652007308841189376)]) (rest := [.ref (ad 30 0)]) hAt.fix (m_X5_within l px 13875379345695965184 4652007308841189376) q896 q897 q50 q898 wn_X5_in ⟨Nat.le_of_ble_eq_true rfl, Nat.le_of_ble_eq_true rfl, Nat.le_of_ble_eq_true rfl, Nat.le_of_ble_eq_true rfl⟩ (fun _ _ _ => trivial) hl.1 (Nat.le_of_ble_eq_true rfl) dX5_atom_8) (fun r hr => ?_)
  rcases hr with ⟨rfl, hq⟩ | ⟨rfl, hq⟩
  · have q1 := hq
    refine lv_if_eq (tgt := 56) hx hb dX5_atom_11 (by decide) (fun h => absurd h (by decide)) (fun _ => ?_)
    refine lv_dload_n hx hb dX5_atom_14 rfl (lv_at hl 2 rfl) ?_
    refine lv_ldc2d (v := 13875379345695965184) hx hb hown (hts _ (lw_car_all q894)) dX5_atom_15 ?_
    refine lv_ldc2d (v := 4652007308841189376) hx hb hown (hts _ (lw_car_all q895)) dX5_atom_18 ?_
    refine wx_r (wx_S (As := [.double (py), .double (13875379345695965184), .double (4652007308841189376)]) (rest := [.ref (ad 30 0)]) hAt.fix (m_X5_within l py 13875379345695965184 4652007308841189376) q896 q897 q50 q898 wn_X5_in ⟨Nat.le_of_ble_eq_true rfl, Nat.le_of_ble_eq_true rfl, Nat.le_of_ble_eq_true rfl, Nat.le_of_ble_eq_true rfl⟩ (fun _ _ _ => trivial) hl.1 (Nat.le_of_ble_eq_true rfl) dX5_atom_21) (fun r hr => ?_)
    rcases hr with ⟨rfl, hq⟩ | ⟨rfl, hq⟩
    · have q3 := hq
      refine lv_if_eq (tgt := 56) hx hb dX5_atom_24 (by decide) (fun h => absurd h (by decide)) (fun _ => ?_)
      refine lv_dload hx hb dX5_atom_27 (lv_at hl 3 rfl) ?_
      refine lv_ldc2d (v := 4593671619917905920) hx hb hown (hts _ (lw_car_all q899)) dX5_atom_29 ?_
      refine lv_ldc2d (v := 4634204016564240384) hx hb hown (hts _ (lw_car_all q900)) dX5_atom_32 ?_
      refine wx_r (wx_S (As := [.double (pm), .double (4593671619917905920), .double (4634204016564240384)]) (rest := [.ref (ad 30 0)]) hAt.fix (m_X5_within l pm 4593671619917905920 4634204016564240384) q896 q897 q50 q898 wn_X5_in ⟨Nat.le_of_ble_eq_true rfl, Nat.le_of_ble_eq_true rfl, Nat.le_of_ble_eq_true rfl, Nat.le_of_ble_eq_true rfl⟩ (fun _ _ _ => trivial) hl.1 (Nat.le_of_ble_eq_true rfl) dX5_atom_35) (fun r hr => ?_)
      rcases hr with ⟨rfl, hq⟩ | ⟨rfl, hq⟩
      · have q5 := hq
        refine lv_if_eq (tgt := 56) hx hb dX5_atom_38 (by decide) (fun h => absurd h (by decide)) (fun _ => ?_)
        refine lv_iload hx hb dX5_atom_41 (lv_at hl 4 rfl) ?_
        refine lv_if_lt (tgt := 56) hx hb dX5_atom_43 (by decide) (fun c7 => ?_) (fun c7 => ?_)
        · refine lv_iconst (v := nI 0) hx hb dX5_atom_56 rfl ?_
          refine wx_ws (wx_V (As := [.int (nI 0)]) (rest := []) hAt.fix (m_X5_bad0 l A Dg dA ad n nb nr J D I) q901 q903 qs22 q904 wn_X5_bad ⟨Nat.le_of_ble_eq_true rfl, Nat.le_of_ble_eq_true rfl, Nat.le_of_ble_eq_true rfl, Nat.le_of_ble_eq_true rfl⟩ (w_recv hK hW kX5 rfl (show (0 : Nat) < 1 by decide)) (Pw.of hK hW) hl.1 (Nat.le_of_ble_eq_true rfl) dX5_atom_57) hS (fun r H locs hW hz hS => ?_)
          obtain ⟨rfl, hW⟩ := hW
          refine lv_if_eq (tgt := 65) hx hb dX5_atom_60 (by decide) (fun h => absurd h (by decide)) (fun _ => ?_)
          refine lv_iconst (v := nI 0) hx hb dX5_atom_63 rfl ?_
          rw [hQ]
          exact rW_i hx hb hr hlk hS (Or.inr (Or.inr ⟨fun q => q.2.2.2.1 c7, rfl, ⟨ad, _, _, rfl, hW, hag, hht, hMA.th, rfl⟩⟩)) dX5_atom_64
        · refine lv_iload hx hb dX5_atom_46 (lv_at hl 4 rfl) ?_
          refine lv_iconst (v := nI 3) hx hb dX5_atom_48 rfl ?_
          refine lv_icmp_ge (tgt := 56) hx hb dX5_atom_49 (by decide) (fun c9 => ?_) (fun c9 => ?_)
          · refine lv_iconst (v := nI 0) hx hb dX5_atom_56 rfl ?_
            refine wx_ws (wx_V (As := [.int (nI 0)]) (rest := []) hAt.fix (m_X5_bad0 l A Dg dA ad n nb nr J D I) q901 q903 qs22 q904 wn_X5_bad ⟨Nat.le_of_ble_eq_true rfl, Nat.le_of_ble_eq_true rfl, Nat.le_of_ble_eq_true rfl, Nat.le_of_ble_eq_true rfl⟩ (w_recv hK hW kX5 rfl (show (0 : Nat) < 1 by decide)) (Pw.of hK hW) hl.1 (Nat.le_of_ble_eq_true rfl) dX5_atom_57) hS (fun r H locs hW hz hS => ?_)
            obtain ⟨rfl, hW⟩ := hW
            refine lv_if_eq (tgt := 65) hx hb dX5_atom_60 (by decide) (fun h => absurd h (by decide)) (fun _ => ?_)
            refine lv_iconst (v := nI 0) hx hb dX5_atom_63 rfl ?_
            rw [hQ]
            exact rW_i hx hb hr hlk hS (Or.inr (Or.inr ⟨fun q => q.2.2.2.2 c9, rfl, ⟨ad, _, _, rfl, hW, hag, hht, hMA.th, rfl⟩⟩)) dX5_atom_64
          · refine lv_iconst (v := nI 1) hx hb dX5_atom_52 rfl ?_
            refine lv_goto (tgt := 57) hx hb dX5_atom_53 (by decide) ?_
            refine wx_ws (wx_V (As := [.int (nI 1)]) (rest := []) hAt.fix (m_X5_bad1 l A Dg dA ad n nb nr J D I) q901 q903 qs22 q904 wn_X5_bad ⟨Nat.le_of_ble_eq_true rfl, Nat.le_of_ble_eq_true rfl, Nat.le_of_ble_eq_true rfl, Nat.le_of_ble_eq_true rfl⟩ (w_recv hK hW kX5 rfl (show (0 : Nat) < 1 by decide)) (Pw.of hK hW) hl.1 (Nat.le_of_ble_eq_true rfl) dX5_atom_57) hS (fun r H locs hW hz hS => ?_)
            obtain ⟨rfl, hW⟩ := hW
            have hok : okAt px py pm so := ⟨q1, q3, q5, c7, c9⟩
            obtain ⟨i, hi, rfl⟩ := ok3_of hok.2.2.2
            refine lv_if_eq (tgt := 65) hx hb dX5_atom_60 (by decide) (fun _ => ?_) (fun h => absurd nI_0 h)
            refine lv_aload_n hx hb dX5_atom_65 rfl (lv_at hl 0 rfl) ?_
            refine g_I (x := nI n) Z hW kX5 rfl 14 (by decide) q754 (show (0 : Nat) < 1 by decide) rfl hM.cn dX5_atom_66 ?_
            refine lv_bipush (v := nI 10) hx hb dX5_atom_69 rfl ?_
            refine lv_nne (tgt := 81) hx hb (by omega) (by decide) dX5_atom_71 (by decide) (fun c12 => ?_) (fun c12 => ?_)
            · have hn9 : n < 10 := by omega
              refine lv_aload_n hx hb dX5_atom_81 rfl (lv_at hl 0 rfl) ?_
              refine w_getR (v := .ref (ad 31 0)) Z hW kX5 rfl 4 (by decide) q744 (show (0 : Nat) < 1 by decide) rfl rfl dX5_atom_82 ?_
              refine lv_aload_n hx hb dX5_atom_85 rfl (lv_at hl 0 rfl) ?_
              refine g_I (x := nI n) Z hW kX5 rfl 14 (by decide) q754 (show (0 : Nat) < 1 by decide) rfl hM.cn dX5_atom_86 ?_
              refine lv_aload_n hx hb dX5_atom_89 rfl (lv_at hl 0 rfl) ?_
              refine lv_dload_n hx hb dX5_atom_90 rfl (lv_at hl 1 rfl) ?_
              refine wx_r (wx_V (As := [.double (px)]) (rest := [.int (nI n), .ref (ad 31 0)]) hAt.fix (m_X5_wrapped l A Dg dA ad n nb nr J D ((up2 I 42 0 (nI 0))) (D0 20 0) px ((hag 20 0 rfl)) hB.side ((fx.mono (by decide)))) q905 q907 qs23 q908 wn_X5_wrapped ⟨Nat.le_of_ble_eq_true rfl, Nat.le_of_ble_eq_true rfl, Nat.le_of_ble_eq_true rfl, Nat.le_of_ble_eq_true rfl⟩ (w_recv hK hW kX5 rfl (show (0 : Nat) < 1 by decide)) (Pw.of hK hW) hl.1 (Nat.le_of_ble_eq_true rfl) dX5_atom_91) (fun r hr => ?_)
              subst hr
              refine w_ads (j := n) (ix := n) Z hW hS rfl (show (0 : Nat) < 1 by decide) rfl (by omega) (by decide) (show (n : Nat) < 10 by omega) rfl rfl dX5_atom_94 (fun H locs hW hS => ?_)
              refine lv_aload_n hx hb dX5_atom_95 rfl (lv_at hl 0 rfl) ?_
              refine w_getR (v := .ref (ad 32 0)) Z hW kX5 rfl 5 (by decide) q745 (show (0 : Nat) < 1 by decide) rfl rfl dX5_atom_96 ?_
              refine lv_aload_n hx hb dX5_atom_99 rfl (lv_at hl 0 rfl) ?_
              refine g_I (x := nI n) Z hW kX5 rfl 14 (by decide) q754 (show (0 : Nat) < 1 by decide) rfl hM.cn dX5_atom_100 ?_
              refine lv_aload_n hx hb dX5_atom_103 rfl (lv_at hl 0 rfl) ?_
              refine lv_dload_n hx hb dX5_atom_104 rfl (lv_at hl 2 rfl) ?_
              refine wx_r (wx_V (As := [.double (py)]) (rest := [.int (nI n), .ref (ad 32 0)]) hAt.fix (m_X5_wrapped l A Dg dA ad n nb nr J ((up2 D 0 n (sWrap (D0 20 0) px))) ((up2 I 42 0 (nI 0))) (D0 20 0) py (((up2_f _ _ _ _ (by decide)).trans (hag 20 0 rfl))) hB.side ((fy.mono (by decide)))) q905 q907 qs23 q908 wn_X5_wrapped ⟨Nat.le_of_ble_eq_true rfl, Nat.le_of_ble_eq_true rfl, Nat.le_of_ble_eq_true rfl, Nat.le_of_ble_eq_true rfl⟩ (w_recv hK hW kX5 rfl (show (0 : Nat) < 1 by decide)) (Pw.of hK hW) hl.1 (Nat.le_of_ble_eq_true rfl) dX5_atom_105) (fun r hr => ?_)
              subst hr
              refine w_ads (j := n) (ix := n) Z hW hS rfl (show (0 : Nat) < 1 by decide) rfl (by omega) (by decide) (show (n : Nat) < 10 by omega) rfl rfl dX5_atom_108 (fun H locs hW hS => ?_)
              refine lv_aload_n hx hb dX5_atom_109 rfl (lv_at hl 0 rfl) ?_
              refine w_getR (v := .ref (ad 33 0)) Z hW kX5 rfl 6 (by decide) q746 (show (0 : Nat) < 1 by decide) rfl rfl dX5_atom_110 ?_
              refine lv_aload_n hx hb dX5_atom_113 rfl (lv_at hl 0 rfl) ?_
              refine g_I (x := nI n) Z hW kX5 rfl 14 (by decide) q754 (show (0 : Nat) < 1 by decide) rfl hM.cn dX5_atom_114 ?_
              refine lv_dconst0 hx hb dX5_atom_117 ?_
              refine w_ads (j := n) (ix := n) Z hW hS rfl (show (0 : Nat) < 1 by decide) rfl (by omega) (by decide) (show (n : Nat) < 10 by omega) rfl rfl dX5_atom_118 (fun H locs hW hS => ?_)
              refine lv_aload_n hx hb dX5_atom_119 rfl (lv_at hl 0 rfl) ?_
              refine w_getR (v := .ref (ad 34 0)) Z hW kX5 rfl 7 (by decide) q747 (show (0 : Nat) < 1 by decide) rfl rfl dX5_atom_120 ?_
              refine lv_aload_n hx hb dX5_atom_123 rfl (lv_at hl 0 rfl) ?_
              refine g_I (x := nI n) Z hW kX5 rfl 14 (by decide) q754 (show (0 : Nat) < 1 by decide) rfl hM.cn dX5_atom_124 ?_
              refine lv_dconst0 hx hb dX5_atom_127 ?_
              refine w_ads (j := n) (ix := n) Z hW hS rfl (show (0 : Nat) < 1 by decide) rfl (by omega) (by decide) (show (n : Nat) < 10 by omega) rfl rfl dX5_atom_128 (fun H locs hW hS => ?_)
              refine lv_aload_n hx hb dX5_atom_129 rfl (lv_at hl 0 rfl) ?_
              refine w_getR (v := .ref (ad 35 0)) Z hW kX5 rfl 8 (by decide) q748 (show (0 : Nat) < 1 by decide) rfl rfl dX5_atom_130 ?_
              refine lv_aload_n hx hb dX5_atom_133 rfl (lv_at hl 0 rfl) ?_
              refine g_I (x := nI n) Z hW kX5 rfl 14 (by decide) q754 (show (0 : Nat) < 1 by decide) rfl hM.cn dX5_atom_134 ?_
              refine lv_dload hx hb dX5_atom_137 (lv_at hl 3 rfl) ?_
              refine w_ads (j := n) (ix := n) Z hW hS rfl (show (0 : Nat) < 1 by decide) rfl (by omega) (by decide) (show (n : Nat) < 10 by omega) rfl rfl dX5_atom_139 (fun H locs hW hS => ?_)
              refine lv_aload_n hx hb dX5_atom_140 rfl (lv_at hl 0 rfl) ?_
              refine w_getR (v := .ref (ad 36 0)) Z hW kX5 rfl 9 (by decide) q749 (show (0 : Nat) < 1 by decide) rfl rfl dX5_atom_141 ?_
              refine lv_aload_n hx hb dX5_atom_144 rfl (lv_at hl 0 rfl) ?_
              refine g_I (x := nI n) Z hW kX5 rfl 14 (by decide) q754 (show (0 : Nat) < 1 by decide) rfl hM.cn dX5_atom_145 ?_
              refine lv_iload hx hb dX5_atom_148 (lv_at hl 4 rfl) ?_
              refine w_ais (j := n) (ix := n) Z hW hS rfl (show (0 : Nat) < 1 by decide) rfl (by omega) (by decide) (show (n : Nat) < 10 by omega) rfl rfl dX5_atom_150 (fun H locs hW hS => ?_)
              refine lv_aload_n hx hb dX5_atom_151 rfl (lv_at hl 0 rfl) ?_
              refine w_getR (v := .ref (ad 37 0)) Z hW kX5 rfl 10 (by decide) q750 (show (0 : Nat) < 1 by decide) rfl rfl dX5_atom_152 ?_
              refine lv_aload_n hx hb dX5_atom_155 rfl (lv_at hl 0 rfl) ?_
              refine g_I (x := nI n) Z hW kX5 rfl 14 (by decide) q754 (show (0 : Nat) < 1 by decide) rfl hM.cn dX5_atom_156 ?_
              refine lv_iconst (v := nI 0) hx hb dX5_atom_159 rfl ?_
              refine w_azs (j := n) (ix := n) Z hW hS rfl (show (0 : Nat) < 1 by decide) rfl (by omega) (by decide) (show (n : Nat) < 10 by omega) rfl rfl (Or.inl rfl) dX5_atom_160 (fun H locs hW hS => ?_)
              refine lv_aload_n hx hb dX5_atom_161 rfl (lv_at hl 0 rfl) ?_
              refine lv_iconst (v := nI 0) hx hb dX5_atom_162 rfl ?_
              refine w_putI Z hW hS kX5 rfl 26 (by decide) (by decide) q766 rfl (show (0 : Nat) < 1 by decide) rfl rfl rfl dX5_atom_163 (fun H locs hW hS => ?_)
              refine lv_aload_n hx hb dX5_atom_166 rfl (lv_at hl 0 rfl) ?_
              refine lv_dup hx hb dX5_atom_167 rfl ?_
              refine g_I (x := nI n) Z hW kX5 rfl 14 (by decide) q754 (show (0 : Nat) < 1 by decide) rfl hM.cn dX5_atom_168 ?_
              refine lv_iconst (v := nI 1) hx hb dX5_atom_171 rfl ?_
              refine lv_iadd hx hb dX5_atom_172 ?_
              rw [nI_add]
              refine w_putI Z hW hS kX5 rfl 14 (by decide) (by decide) q754 rfl (show (0 : Nat) < 1 by decide) rfl rfl rfl dX5_atom_173 (fun H locs hW hS => ?_)
              refine lv_aload_n hx hb dX5_atom_176 rfl (lv_at hl 0 rfl) ?_
              refine g_I (x := nI (n + 1)) Z hW kX5 rfl 14 (by decide) q754 (show (0 : Nat) < 1 by decide) rfl rfl dX5_atom_177 ?_
              refine lv_iconst (v := nI 1) hx hb dX5_atom_180 rfl ?_
              refine lv_isub hx hb dX5_atom_181 ?_
              rw [nI_sub1]
              rw [hQ]
              exact rW_i hx hb hr hlk hS (Or.inl ⟨hok, hn9, rfl, ad, _, _, rfl, hW, ((((hag.put 0 n _).put 1 n _).put 2 n _).put 3 n _).put 4 n _, hht.trans at_23.symm, by rw [ix_nI (by omega)]; exact (hMA.th).atom, rfl⟩) dX5_atom_182
            · refine lv_aload_n hx hb dX5_atom_74 rfl (lv_at hl 0 rfl) ?_
              refine lv_iconst (v := nI 2) hx hb dX5_atom_75 rfl ?_
              refine w_putI Z hW hS kX5 rfl 43 (by decide) (by decide) q783 rfl (show (0 : Nat) < 1 by decide) rfl rfl rfl dX5_atom_76 (fun H locs hW hS => ?_)
              refine lv_iconst (v := nI 0) hx hb dX5_atom_79 rfl ?_
              rw [hQ]
              exact rW_i hx hb hr hlk hS (Or.inr (Or.inl ⟨hok, by omega, rfl, ad, _, _, rfl, hW, hag, hht, (hMA.th).th, rfl⟩)) dX5_atom_80
      · have q13 := hq
        refine lv_if_eq (tgt := 56) hx hb dX5_atom_38 (by decide) (fun _ => ?_) (fun h => absurd nI_0 h)
        refine lv_iconst (v := nI 0) hx hb dX5_atom_56 rfl ?_
        refine wx_ws (wx_V (As := [.int (nI 0)]) (rest := []) hAt.fix (m_X5_bad0 l A Dg dA ad n nb nr J D I) q901 q903 qs22 q904 wn_X5_bad ⟨Nat.le_of_ble_eq_true rfl, Nat.le_of_ble_eq_true rfl, Nat.le_of_ble_eq_true rfl, Nat.le_of_ble_eq_true rfl⟩ (w_recv hK hW kX5 rfl (show (0 : Nat) < 1 by decide)) (Pw.of hK hW) hl.1 (Nat.le_of_ble_eq_true rfl) dX5_atom_57) hS (fun r H locs hW hz hS => ?_)
        obtain ⟨rfl, hW⟩ := hW
        refine lv_if_eq (tgt := 65) hx hb dX5_atom_60 (by decide) (fun h => absurd h (by decide)) (fun _ => ?_)
        refine lv_iconst (v := nI 0) hx hb dX5_atom_63 rfl ?_
        rw [hQ]
        exact rW_i hx hb hr hlk hS (Or.inr (Or.inr ⟨fun q => q13 q.2.2.1, rfl, ⟨ad, _, _, rfl, hW, hag, hht, hMA.th, rfl⟩⟩)) dX5_atom_64
    · have q16 := hq
      refine lv_if_eq (tgt := 56) hx hb dX5_atom_24 (by decide) (fun _ => ?_) (fun h => absurd nI_0 h)
      refine lv_iconst (v := nI 0) hx hb dX5_atom_56 rfl ?_
      refine wx_ws (wx_V (As := [.int (nI 0)]) (rest := []) hAt.fix (m_X5_bad0 l A Dg dA ad n nb nr J D I) q901 q903 qs22 q904 wn_X5_bad ⟨Nat.le_of_ble_eq_true rfl, Nat.le_of_ble_eq_true rfl, Nat.le_of_ble_eq_true rfl, Nat.le_of_ble_eq_true rfl⟩ (w_recv hK hW kX5 rfl (show (0 : Nat) < 1 by decide)) (Pw.of hK hW) hl.1 (Nat.le_of_ble_eq_true rfl) dX5_atom_57) hS (fun r H locs hW hz hS => ?_)
      obtain ⟨rfl, hW⟩ := hW
      refine lv_if_eq (tgt := 65) hx hb dX5_atom_60 (by decide) (fun h => absurd h (by decide)) (fun _ => ?_)
      refine lv_iconst (v := nI 0) hx hb dX5_atom_63 rfl ?_
      rw [hQ]
      exact rW_i hx hb hr hlk hS (Or.inr (Or.inr ⟨fun q => q16 q.2.1, rfl, ⟨ad, _, _, rfl, hW, hag, hht, hMA.th, rfl⟩⟩)) dX5_atom_64
  · have q19 := hq
    refine lv_if_eq (tgt := 56) hx hb dX5_atom_11 (by decide) (fun _ => ?_) (fun h => absurd nI_0 h)
    refine lv_iconst (v := nI 0) hx hb dX5_atom_56 rfl ?_
    refine wx_ws (wx_V (As := [.int (nI 0)]) (rest := []) hAt.fix (m_X5_bad0 l A Dg dA ad n nb nr J D I) q901 q903 qs22 q904 wn_X5_bad ⟨Nat.le_of_ble_eq_true rfl, Nat.le_of_ble_eq_true rfl, Nat.le_of_ble_eq_true rfl, Nat.le_of_ble_eq_true rfl⟩ (w_recv hK hW kX5 rfl (show (0 : Nat) < 1 by decide)) (Pw.of hK hW) hl.1 (Nat.le_of_ble_eq_true rfl) dX5_atom_57) hS (fun r H locs hW hz hS => ?_)
    obtain ⟨rfl, hW⟩ := hW
    refine lv_if_eq (tgt := 65) hx hb dX5_atom_60 (by decide) (fun h => absurd h (by decide)) (fun _ => ?_)
    refine lv_iconst (v := nI 0) hx hb dX5_atom_63 rfl ?_
    rw [hQ]
    exact rW_i hx hb hr hlk hS (Or.inr (Or.inr ⟨fun q => q19 q.1, rfl, ⟨ad, _, _, rfl, hW, hag, hht, hMA.th, rfl⟩⟩)) dX5_atom_64
set_option maxHeartbeats 4000000 in
theorem m_M_bond (l : Launch) (A : Nat → Prop) (Dg : va_G) (dA : Nat → ClassId) (x : Nat) (n : Nat) (nb : Nat) (nr : Nat) (J : Jt) (D0 : T64) (I0 : T32) (hI : Inv n nb nr J D0 I0) (ki : Int32) (kj : Int32) (sk : UInt64) (le : UInt64) (th : Int32) : MX l yX5_bond cX5_bond 7 (some .int) [] (rmx 3 0 0) [.ref (x), .int (ki), .int (kj), .double (sk), .double (le)] (Pw Dg dA (MS A Dg dA x n nb nr J D0 I0 th)) (qW (fun r : Int32 => some (.int r)) (fun r H => (okBo ki kj n (D0 20 0) sk le ∧ nb < 8 ∧ r = nI (nb + 1) ∧ MS A Dg dA x n ((nb + 1)) nr ((up2 (up2 J 2 nb (ix ki)) 3 nb (ix kj))) ((up2 (up2 D0 10 nb sk) 11 nb le)) ((up2 I0 21 0 (nI (nb + 1)))) ((nI 0)) H) ∨ (okBo ki kj n (D0 20 0) sk le ∧ nb = 8 ∧ r = nI 0 ∧ MS A Dg dA x n nb nr J D0 I0 ((nI 2)) H) ∨ (¬ okBo ki kj n (D0 20 0) sk le ∧ r = nI 0 ∧ MS A Dg dA x n nb nr J D0 I0 ((nI 1)) H)) A) 0 0 A := by
  refine MX.start (Nat.le_of_ble_eq_true rfl) ?_
  intro p e s m args below meth c ls Q hAt hPc hl hQ
  have hl : lv_has ls 7 [(0, .ref (x)), (1, .int (ki)), (2, .int (kj)), (3, .double (sk)), (5, .double (le))] := hl
  obtain ⟨hx, hb, hml, hr, hlk, hown, hnm, htab, hts⟩ := id hAt
  obtain ⟨hK, hW⟩ := hPc
  have Z := Cx.of hAt hK
  have hS : va_S A s.heap s.heap [] := va_S.rf
  obtain ⟨ad, D, I, rfl, hW, hag, hht, hMA, hth⟩ := hW
  have hB := hI.bd
  have hn10 := hB.n10
  have hM := hMA.1
  have hmx := hB.nb8
  refine lv_aload_n hx hb dX5_bond_0 rfl (lv_at hl 0 rfl) ?_
  refine lv_aload_n hx hb dX5_bond_1 rfl (lv_at hl 0 rfl) ?_
  refine lv_iload_n hx hb dX5_bond_2 rfl (lv_at hl 1 rfl) ?_
  refine wx_r (wx_V (As := [.int (ki)]) (rest := [.ref (ad 30 0)]) hAt.fix (m_X5_isAtom l A Dg dA ad n nb nr J D I ki hM.cn hn10) q916 q918 qs24 q919 wn_X5_isAtom ⟨Nat.le_of_ble_eq_true rfl, Nat.le_of_ble_eq_true rfl, Nat.le_of_ble_eq_true rfl, Nat.le_of_ble_eq_true rfl⟩ (w_recv hK hW kX5 rfl (show (0 : Nat) < 1 by decide)) (Pw.of hK hW) hl.1 (Nat.le_of_ble_eq_true rfl) dX5_bond_3) (fun r hr => ?_)
  rcases hr with ⟨rfl, hq⟩ | ⟨rfl, hq⟩
  · have q1 := hq
    refine lv_if_eq (tgt := 56) hx hb dX5_bond_6 (by decide) (fun h => absurd h (by decide)) (fun _ => ?_)
    refine lv_aload_n hx hb dX5_bond_9 rfl (lv_at hl 0 rfl) ?_
    refine lv_iload_n hx hb dX5_bond_10 rfl (lv_at hl 2 rfl) ?_
    refine wx_r (wx_V (As := [.int (kj)]) (rest := [.ref (ad 30 0)]) hAt.fix (m_X5_isAtom l A Dg dA ad n nb nr J D I kj hM.cn hn10) q916 q918 qs24 q919 wn_X5_isAtom ⟨Nat.le_of_ble_eq_true rfl, Nat.le_of_ble_eq_true rfl, Nat.le_of_ble_eq_true rfl, Nat.le_of_ble_eq_true rfl⟩ (w_recv hK hW kX5 rfl (show (0 : Nat) < 1 by decide)) (Pw.of hK hW) hl.1 (Nat.le_of_ble_eq_true rfl) dX5_bond_11) (fun r hr => ?_)
    rcases hr with ⟨rfl, hq⟩ | ⟨rfl, hq⟩
    · have q3 := hq
      refine lv_if_eq (tgt := 56) hx hb dX5_bond_14 (by decide) (fun h => absurd h (by decide)) (fun _ => ?_)
      refine lv_iload_n hx hb dX5_bond_17 rfl (lv_at hl 1 rfl) ?_
      refine lv_iload_n hx hb dX5_bond_18 rfl (lv_at hl 2 rfl) ?_
      refine lv_icmp_eq (tgt := 56) hx hb dX5_bond_19 (by decide) (fun c5 => ?_) (fun c5 => ?_)
      · refine lv_iconst (v := nI 0) hx hb dX5_bond_56 rfl ?_
        refine wx_ws (wx_V (As := [.int (nI 0)]) (rest := []) hAt.fix (m_X5_bad0 l A Dg dA ad n nb nr J D I) q901 q903 qs22 q904 wn_X5_bad ⟨Nat.le_of_ble_eq_true rfl, Nat.le_of_ble_eq_true rfl, Nat.le_of_ble_eq_true rfl, Nat.le_of_ble_eq_true rfl⟩ (w_recv hK hW kX5 rfl (show (0 : Nat) < 1 by decide)) (Pw.of hK hW) hl.1 (Nat.le_of_ble_eq_true rfl) dX5_bond_57) hS (fun r H locs hW hz hS => ?_)
        obtain ⟨rfl, hW⟩ := hW
        refine lv_if_eq (tgt := 65) hx hb dX5_bond_60 (by decide) (fun h => absurd h (by decide)) (fun _ => ?_)
        refine lv_iconst (v := nI 0) hx hb dX5_bond_63 rfl ?_
        rw [hQ]
        exact rW_i hx hb hr hlk hS (Or.inr (Or.inr ⟨fun q => q.2.2.1 c5, rfl, ⟨ad, _, _, rfl, hW, hag, hht, hMA.th, rfl⟩⟩)) dX5_bond_64
      · refine lv_dload_n hx hb dX5_bond_22 rfl (lv_at hl 3 rfl) ?_
        refine lv_dconst0 hx hb dX5_bond_23 ?_
        refine lv_ldc2d (v := 4634204016564240384) hx hb hown (hts _ (lw_car_all q900)) dX5_bond_24 ?_
        refine wx_r (wx_S (As := [.double (sk), .double (FP.dconst0), .double (4634204016564240384)]) (rest := [.ref (ad 30 0)]) hAt.fix (m_X5_within l sk FP.dconst0 4634204016564240384) q896 q897 q50 q898 wn_X5_in ⟨Nat.le_of_ble_eq_true rfl, Nat.le_of_ble_eq_true rfl, Nat.le_of_ble_eq_true rfl, Nat.le_of_ble_eq_true rfl⟩ (fun _ _ _ => trivial) hl.1 (Nat.le_of_ble_eq_true rfl) dX5_bond_27) (fun r hr => ?_)
        rcases hr with ⟨rfl, hq⟩ | ⟨rfl, hq⟩
        · have q7 := hq
          refine lv_if_eq (tgt := 56) hx hb dX5_bond_30 (by decide) (fun h => absurd h (by decide)) (fun _ => ?_)
          refine lv_dload hx hb dX5_bond_33 (lv_at hl 4 rfl) ?_
          refine lv_ldc2d (v := 4593671619917905920) hx hb hown (hts _ (lw_car_all q899)) dX5_bond_35 ?_
          refine lv_aload_n hx hb dX5_bond_38 rfl (lv_at hl 0 rfl) ?_
          refine g_D (x := D0 20 0) Z hW kX5 rfl 0 (by decide) q740 (show (0 : Nat) < 1 by decide) rfl (hag 20 0 rfl) dX5_bond_39 ?_
          refine lv_ldc2d (v := 4602678819172646912) hx hb hown (hts _ (lw_car_all q737)) dX5_bond_42 ?_
          have f9 : fb (4) (FP.dmul (D0 20 0) 4602678819172646912) := fb.mul hB.side.fb fc_4602678819172646912 (by decide)
          refine lv_dmul hx hb dX5_bond_45 f9.n64 ?_
          refine wx_r (wx_S (As := [.double (le), .double (4593671619917905920), .double (FP.dmul (D0 20 0) 4602678819172646912)]) (rest := [.ref (ad 30 0)]) hAt.fix (m_X5_within l le 4593671619917905920 (FP.dmul (D0 20 0) 4602678819172646912)) q896 q897 q50 q898 wn_X5_in ⟨Nat.le_of_ble_eq_true rfl, Nat.le_of_ble_eq_true rfl, Nat.le_of_ble_eq_true rfl, Nat.le_of_ble_eq_true rfl⟩ (fun _ _ _ => trivial) hl.1 (Nat.le_of_ble_eq_true rfl) dX5_bond_46) (fun r hr => ?_)
          rcases hr with ⟨rfl, hq⟩ | ⟨rfl, hq⟩
          · have q10 := hq
            refine lv_if_eq (tgt := 56) hx hb dX5_bond_49 (by decide) (fun h => absurd h (by decide)) (fun _ => ?_)
            refine lv_iconst (v := nI 1) hx hb dX5_bond_52 rfl ?_
            refine lv_goto (tgt := 57) hx hb dX5_bond_53 (by decide) ?_
            refine wx_ws (wx_V (As := [.int (nI 1)]) (rest := []) hAt.fix (m_X5_bad1 l A Dg dA ad n nb nr J D I) q901 q903 qs22 q904 wn_X5_bad ⟨Nat.le_of_ble_eq_true rfl, Nat.le_of_ble_eq_true rfl, Nat.le_of_ble_eq_true rfl, Nat.le_of_ble_eq_true rfl⟩ (w_recv hK hW kX5 rfl (show (0 : Nat) < 1 by decide)) (Pw.of hK hW) hl.1 (Nat.le_of_ble_eq_true rfl) dX5_bond_57) hS (fun r H locs hW hz hS => ?_)
            obtain ⟨rfl, hW⟩ := hW
            have hok : okBo ki kj n (D0 20 0) sk le := ⟨q1, q3, c5, q7, q10⟩
            obtain ⟨⟨i, hi, rfl⟩, ⟨j, hj, rfl⟩, -⟩ := id hok
            refine lv_if_eq (tgt := 65) hx hb dX5_bond_60 (by decide) (fun _ => ?_) (fun h => absurd nI_0 h)
            refine lv_aload_n hx hb dX5_bond_65 rfl (lv_at hl 0 rfl) ?_
            refine g_I (x := nI nb) Z hW kX5 rfl 15 (by decide) q755 (show (0 : Nat) < 1 by decide) rfl hM.cb dX5_bond_66 ?_
            refine lv_bipush (v := nI 8) hx hb dX5_bond_69 rfl ?_
            refine lv_nne (tgt := 81) hx hb (by omega) (by decide) dX5_bond_71 (by decide) (fun c13 => ?_) (fun c13 => ?_)
            · have hlt : nb < 8 := by omega
              refine lv_aload_n hx hb dX5_bond_81 rfl (lv_at hl 0 rfl) ?_
              refine w_getR (v := .ref (ad 41 0)) Z hW kX5 rfl 17 (by decide) q757 (show (0 : Nat) < 1 by decide) rfl rfl dX5_bond_82 ?_
              refine lv_aload_n hx hb dX5_bond_85 rfl (lv_at hl 0 rfl) ?_
              refine g_I (x := nI nb) Z hW kX5 rfl 15 (by decide) q755 (show (0 : Nat) < 1 by decide) rfl hM.cb dX5_bond_86 ?_
              refine lv_iload_n hx hb dX5_bond_89 rfl (lv_at hl 1 rfl) ?_
              refine w_ais (j := nb) (ix := nb) Z hW hS rfl (show (0 : Nat) < 1 by decide) rfl (by omega) (by decide) (show (nb : Nat) < 8 by omega) rfl rfl dX5_bond_90 (fun H locs hW hS => ?_)
              refine lv_aload_n hx hb dX5_bond_91 rfl (lv_at hl 0 rfl) ?_
              refine w_getR (v := .ref (ad 42 0)) Z hW kX5 rfl 18 (by decide) q758 (show (0 : Nat) < 1 by decide) rfl rfl dX5_bond_92 ?_
              refine lv_aload_n hx hb dX5_bond_95 rfl (lv_at hl 0 rfl) ?_
              refine g_I (x := nI nb) Z hW kX5 rfl 15 (by decide) q755 (show (0 : Nat) < 1 by decide) rfl hM.cb dX5_bond_96 ?_
              refine lv_iload_n hx hb dX5_bond_99 rfl (lv_at hl 2 rfl) ?_
              refine w_ais (j := nb) (ix := nb) Z hW hS rfl (show (0 : Nat) < 1 by decide) rfl (by omega) (by decide) (show (nb : Nat) < 8 by omega) rfl rfl dX5_bond_100 (fun H locs hW hS => ?_)
              refine lv_aload_n hx hb dX5_bond_101 rfl (lv_at hl 0 rfl) ?_
              refine w_getR (v := .ref (ad 45 0)) Z hW kX5 rfl 21 (by decide) q761 (show (0 : Nat) < 1 by decide) rfl rfl dX5_bond_102 ?_
              refine lv_aload_n hx hb dX5_bond_105 rfl (lv_at hl 0 rfl) ?_
              refine g_I (x := nI nb) Z hW kX5 rfl 15 (by decide) q755 (show (0 : Nat) < 1 by decide) rfl hM.cb dX5_bond_106 ?_
              refine lv_dload_n hx hb dX5_bond_109 rfl (lv_at hl 3 rfl) ?_
              refine w_ads (j := nb) (ix := nb) Z hW hS rfl (show (0 : Nat) < 1 by decide) rfl (by omega) (by decide) (show (nb : Nat) < 8 by omega) rfl rfl dX5_bond_110 (fun H locs hW hS => ?_)
              refine lv_aload_n hx hb dX5_bond_111 rfl (lv_at hl 0 rfl) ?_
              refine w_getR (v := .ref (ad 46 0)) Z hW kX5 rfl 22 (by decide) q762 (show (0 : Nat) < 1 by decide) rfl rfl dX5_bond_112 ?_
              refine lv_aload_n hx hb dX5_bond_115 rfl (lv_at hl 0 rfl) ?_
              refine g_I (x := nI nb) Z hW kX5 rfl 15 (by decide) q755 (show (0 : Nat) < 1 by decide) rfl hM.cb dX5_bond_116 ?_
              refine lv_dload hx hb dX5_bond_119 (lv_at hl 4 rfl) ?_
              refine w_ads (j := nb) (ix := nb) Z hW hS rfl (show (0 : Nat) < 1 by decide) rfl (by omega) (by decide) (show (nb : Nat) < 8 by omega) rfl rfl dX5_bond_121 (fun H locs hW hS => ?_)
              refine lv_aload_n hx hb dX5_bond_122 rfl (lv_at hl 0 rfl) ?_
              refine lv_dup hx hb dX5_bond_123 rfl ?_
              refine g_I (x := nI nb) Z hW kX5 rfl 15 (by decide) q755 (show (0 : Nat) < 1 by decide) rfl hM.cb dX5_bond_124 ?_
              refine lv_iconst (v := nI 1) hx hb dX5_bond_127 rfl ?_
              refine lv_iadd hx hb dX5_bond_128 ?_
              rw [nI_add]
              refine w_putI Z hW hS kX5 rfl 15 (by decide) (by decide) q755 rfl (show (0 : Nat) < 1 by decide) rfl rfl rfl dX5_bond_129 (fun H locs hW hS => ?_)
              refine lv_aload_n hx hb dX5_bond_132 rfl (lv_at hl 0 rfl) ?_
              refine g_I (x := nI (nb + 1)) Z hW kX5 rfl 15 (by decide) q755 (show (0 : Nat) < 1 by decide) rfl rfl dX5_bond_133 ?_
              rw [hQ]
              exact rW_i hx hb hr hlk hS (Or.inl ⟨hok, hlt, rfl, ad, _, _, rfl, hW, (hag.put 10 nb _).put 11 nb _, hht, by rw [ix_nI (by omega), ix_nI (by omega)]; exact (hMA.th).bond, rfl⟩) dX5_bond_136
            · refine lv_aload_n hx hb dX5_bond_74 rfl (lv_at hl 0 rfl) ?_
              refine lv_iconst (v := nI 2) hx hb dX5_bond_75 rfl ?_
              refine w_putI Z hW hS kX5 rfl 43 (by decide) (by decide) q783 rfl (show (0 : Nat) < 1 by decide) rfl rfl rfl dX5_bond_76 (fun H locs hW hS => ?_)
              refine lv_iconst (v := nI 0) hx hb dX5_bond_79 rfl ?_
              rw [hQ]
              exact rW_i hx hb hr hlk hS (Or.inr (Or.inl ⟨hok, by omega, rfl, ad, _, _, rfl, hW, hag, hht, (hMA.th).th, rfl⟩)) dX5_bond_80
          · have q14 := hq
            refine lv_if_eq (tgt := 56) hx hb dX5_bond_49 (by decide) (fun _ => ?_) (fun h => absurd nI_0 h)
            refine lv_iconst (v := nI 0) hx hb dX5_bond_56 rfl ?_
            refine wx_ws (wx_V (As := [.int (nI 0)]) (rest := []) hAt.fix (m_X5_bad0 l A Dg dA ad n nb nr J D I) q901 q903 qs22 q904 wn_X5_bad ⟨Nat.le_of_ble_eq_true rfl, Nat.le_of_ble_eq_true rfl, Nat.le_of_ble_eq_true rfl, Nat.le_of_ble_eq_true rfl⟩ (w_recv hK hW kX5 rfl (show (0 : Nat) < 1 by decide)) (Pw.of hK hW) hl.1 (Nat.le_of_ble_eq_true rfl) dX5_bond_57) hS (fun r H locs hW hz hS => ?_)
            obtain ⟨rfl, hW⟩ := hW
            refine lv_if_eq (tgt := 65) hx hb dX5_bond_60 (by decide) (fun h => absurd h (by decide)) (fun _ => ?_)
            refine lv_iconst (v := nI 0) hx hb dX5_bond_63 rfl ?_
            rw [hQ]
            exact rW_i hx hb hr hlk hS (Or.inr (Or.inr ⟨fun q => q14 q.2.2.2.2, rfl, ⟨ad, _, _, rfl, hW, hag, hht, hMA.th, rfl⟩⟩)) dX5_bond_64
        · have q17 := hq
          refine lv_if_eq (tgt := 56) hx hb dX5_bond_30 (by decide) (fun _ => ?_) (fun h => absurd nI_0 h)
          refine lv_iconst (v := nI 0) hx hb dX5_bond_56 rfl ?_
          refine wx_ws (wx_V (As := [.int (nI 0)]) (rest := []) hAt.fix (m_X5_bad0 l A Dg dA ad n nb nr J D I) q901 q903 qs22 q904 wn_X5_bad ⟨Nat.le_of_ble_eq_true rfl, Nat.le_of_ble_eq_true rfl, Nat.le_of_ble_eq_true rfl, Nat.le_of_ble_eq_true rfl⟩ (w_recv hK hW kX5 rfl (show (0 : Nat) < 1 by decide)) (Pw.of hK hW) hl.1 (Nat.le_of_ble_eq_true rfl) dX5_bond_57) hS (fun r H locs hW hz hS => ?_)
          obtain ⟨rfl, hW⟩ := hW
          refine lv_if_eq (tgt := 65) hx hb dX5_bond_60 (by decide) (fun h => absurd h (by decide)) (fun _ => ?_)
          refine lv_iconst (v := nI 0) hx hb dX5_bond_63 rfl ?_
          rw [hQ]
          exact rW_i hx hb hr hlk hS (Or.inr (Or.inr ⟨fun q => q17 q.2.2.2.1, rfl, ⟨ad, _, _, rfl, hW, hag, hht, hMA.th, rfl⟩⟩)) dX5_bond_64
    · have q20 := hq
      refine lv_if_eq (tgt := 56) hx hb dX5_bond_14 (by decide) (fun _ => ?_) (fun h => absurd nI_0 h)
      refine lv_iconst (v := nI 0) hx hb dX5_bond_56 rfl ?_
      refine wx_ws (wx_V (As := [.int (nI 0)]) (rest := []) hAt.fix (m_X5_bad0 l A Dg dA ad n nb nr J D I) q901 q903 qs22 q904 wn_X5_bad ⟨Nat.le_of_ble_eq_true rfl, Nat.le_of_ble_eq_true rfl, Nat.le_of_ble_eq_true rfl, Nat.le_of_ble_eq_true rfl⟩ (w_recv hK hW kX5 rfl (show (0 : Nat) < 1 by decide)) (Pw.of hK hW) hl.1 (Nat.le_of_ble_eq_true rfl) dX5_bond_57) hS (fun r H locs hW hz hS => ?_)
      obtain ⟨rfl, hW⟩ := hW
      refine lv_if_eq (tgt := 65) hx hb dX5_bond_60 (by decide) (fun h => absurd h (by decide)) (fun _ => ?_)
      refine lv_iconst (v := nI 0) hx hb dX5_bond_63 rfl ?_
      rw [hQ]
      exact rW_i hx hb hr hlk hS (Or.inr (Or.inr ⟨fun q => q20 q.2.1, rfl, ⟨ad, _, _, rfl, hW, hag, hht, hMA.th, rfl⟩⟩)) dX5_bond_64
  · have q23 := hq
    refine lv_if_eq (tgt := 56) hx hb dX5_bond_6 (by decide) (fun _ => ?_) (fun h => absurd nI_0 h)
    refine lv_iconst (v := nI 0) hx hb dX5_bond_56 rfl ?_
    refine wx_ws (wx_V (As := [.int (nI 0)]) (rest := []) hAt.fix (m_X5_bad0 l A Dg dA ad n nb nr J D I) q901 q903 qs22 q904 wn_X5_bad ⟨Nat.le_of_ble_eq_true rfl, Nat.le_of_ble_eq_true rfl, Nat.le_of_ble_eq_true rfl, Nat.le_of_ble_eq_true rfl⟩ (w_recv hK hW kX5 rfl (show (0 : Nat) < 1 by decide)) (Pw.of hK hW) hl.1 (Nat.le_of_ble_eq_true rfl) dX5_bond_57) hS (fun r H locs hW hz hS => ?_)
    obtain ⟨rfl, hW⟩ := hW
    refine lv_if_eq (tgt := 65) hx hb dX5_bond_60 (by decide) (fun h => absurd h (by decide)) (fun _ => ?_)
    refine lv_iconst (v := nI 0) hx hb dX5_bond_63 rfl ?_
    rw [hQ]
    exact rW_i hx hb hr hlk hS (Or.inr (Or.inr ⟨fun q => q23 q.1, rfl, ⟨ad, _, _, rfl, hW, hag, hht, hMA.th, rfl⟩⟩)) dX5_bond_64
set_option maxHeartbeats 4000000 in
theorem m_M_rod (l : Launch) (A : Nat → Prop) (Dg : va_G) (dA : Nat → ClassId) (x : Nat) (n : Nat) (nb : Nat) (nr : Nat) (J : Jt) (D0 : T64) (I0 : T32) (hI : Inv n nb nr J D0 I0) (ki : Int32) (kj : Int32) (le : UInt64) (th : Int32) : MX l yX5_rod cX5_rod 5 (some .int) [] (rmx 3 0 0) [.ref (x), .int (ki), .int (kj), .double (le)] (Pw Dg dA (MS A Dg dA x n nb nr J D0 I0 th)) (qW (fun r : Int32 => some (.int r)) (fun r H => (okRo ki kj n (D0 20 0) le ∧ nr < 4 ∧ r = nI (nr + 1) ∧ MS A Dg dA x n nb ((nr + 1)) ((up2 (up2 J 4 nr (ix ki)) 5 nr (ix kj))) ((up2 D0 12 nr le)) ((up2 I0 22 0 (nI (nr + 1)))) ((nI 0)) H) ∨ (okRo ki kj n (D0 20 0) le ∧ nr = 4 ∧ r = nI 0 ∧ MS A Dg dA x n nb nr J D0 I0 ((nI 2)) H) ∨ (¬ okRo ki kj n (D0 20 0) le ∧ r = nI 0 ∧ MS A Dg dA x n nb nr J D0 I0 ((nI 1)) H)) A) 0 0 A := by
  refine MX.start (Nat.le_of_ble_eq_true rfl) ?_
  intro p e s m args below meth c ls Q hAt hPc hl hQ
  have hl : lv_has ls 5 [(0, .ref (x)), (1, .int (ki)), (2, .int (kj)), (3, .double (le))] := hl
  obtain ⟨hx, hb, hml, hr, hlk, hown, hnm, htab, hts⟩ := id hAt
  obtain ⟨hK, hW⟩ := hPc
  have Z := Cx.of hAt hK
  have hS : va_S A s.heap s.heap [] := va_S.rf
  obtain ⟨ad, D, I, rfl, hW, hag, hht, hMA, hth⟩ := hW
  have hB := hI.bd
  have hn10 := hB.n10
  have hM := hMA.1
  have hmx := hB.nr4
  refine lv_aload_n hx hb dX5_rod_0 rfl (lv_at hl 0 rfl) ?_
  refine lv_aload_n hx hb dX5_rod_1 rfl (lv_at hl 0 rfl) ?_
  refine lv_iload_n hx hb dX5_rod_2 rfl (lv_at hl 1 rfl) ?_
  refine wx_r (wx_V (As := [.int (ki)]) (rest := [.ref (ad 30 0)]) hAt.fix (m_X5_isAtom l A Dg dA ad n nb nr J D I ki hM.cn hn10) q916 q918 qs24 q919 wn_X5_isAtom ⟨Nat.le_of_ble_eq_true rfl, Nat.le_of_ble_eq_true rfl, Nat.le_of_ble_eq_true rfl, Nat.le_of_ble_eq_true rfl⟩ (w_recv hK hW kX5 rfl (show (0 : Nat) < 1 by decide)) (Pw.of hK hW) hl.1 (Nat.le_of_ble_eq_true rfl) dX5_rod_3) (fun r hr => ?_)
  rcases hr with ⟨rfl, hq⟩ | ⟨rfl, hq⟩
  · have q1 := hq
    refine lv_if_eq (tgt := 44) hx hb dX5_rod_6 (by decide) (fun h => absurd h (by decide)) (fun _ => ?_)
    refine lv_aload_n hx hb dX5_rod_9 rfl (lv_at hl 0 rfl) ?_
    refine lv_iload_n hx hb dX5_rod_10 rfl (lv_at hl 2 rfl) ?_
    refine wx_r (wx_V (As := [.int (kj)]) (rest := [.ref (ad 30 0)]) hAt.fix (m_X5_isAtom l A Dg dA ad n nb nr J D I kj hM.cn hn10) q916 q918 qs24 q919 wn_X5_isAtom ⟨Nat.le_of_ble_eq_true rfl, Nat.le_of_ble_eq_true rfl, Nat.le_of_ble_eq_true rfl, Nat.le_of_ble_eq_true rfl⟩ (w_recv hK hW kX5 rfl (show (0 : Nat) < 1 by decide)) (Pw.of hK hW) hl.1 (Nat.le_of_ble_eq_true rfl) dX5_rod_11) (fun r hr => ?_)
    rcases hr with ⟨rfl, hq⟩ | ⟨rfl, hq⟩
    · have q3 := hq
      refine lv_if_eq (tgt := 44) hx hb dX5_rod_14 (by decide) (fun h => absurd h (by decide)) (fun _ => ?_)
      refine lv_iload_n hx hb dX5_rod_17 rfl (lv_at hl 1 rfl) ?_
      refine lv_iload_n hx hb dX5_rod_18 rfl (lv_at hl 2 rfl) ?_
      refine lv_icmp_eq (tgt := 44) hx hb dX5_rod_19 (by decide) (fun c5 => ?_) (fun c5 => ?_)
      · refine lv_iconst (v := nI 0) hx hb dX5_rod_44 rfl ?_
        refine wx_ws (wx_V (As := [.int (nI 0)]) (rest := []) hAt.fix (m_X5_bad0 l A Dg dA ad n nb nr J D I) q901 q903 qs22 q904 wn_X5_bad ⟨Nat.le_of_ble_eq_true rfl, Nat.le_of_ble_eq_true rfl, Nat.le_of_ble_eq_true rfl, Nat.le_of_ble_eq_true rfl⟩ (w_recv hK hW kX5 rfl (show (0 : Nat) < 1 by decide)) (Pw.of hK hW) hl.1 (Nat.le_of_ble_eq_true rfl) dX5_rod_45) hS (fun r H locs hW hz hS => ?_)
        obtain ⟨rfl, hW⟩ := hW
        refine lv_if_eq (tgt := 53) hx hb dX5_rod_48 (by decide) (fun h => absurd h (by decide)) (fun _ => ?_)
        refine lv_iconst (v := nI 0) hx hb dX5_rod_51 rfl ?_
        rw [hQ]
        exact rW_i hx hb hr hlk hS (Or.inr (Or.inr ⟨fun q => q.2.2.1 c5, rfl, ⟨ad, _, _, rfl, hW, hag, hht, hMA.th, rfl⟩⟩)) dX5_rod_52
      · refine lv_dload_n hx hb dX5_rod_22 rfl (lv_at hl 3 rfl) ?_
        refine lv_ldc2d (v := 4593671619917905920) hx hb hown (hts _ (lw_car_all q899)) dX5_rod_23 ?_
        refine lv_aload_n hx hb dX5_rod_26 rfl (lv_at hl 0 rfl) ?_
        refine g_D (x := D0 20 0) Z hW kX5 rfl 0 (by decide) q740 (show (0 : Nat) < 1 by decide) rfl (hag 20 0 rfl) dX5_rod_27 ?_
        refine lv_ldc2d (v := 4602678819172646912) hx hb hown (hts _ (lw_car_all q737)) dX5_rod_30 ?_
        have f7 : fb (4) (FP.dmul (D0 20 0) 4602678819172646912) := fb.mul hB.side.fb fc_4602678819172646912 (by decide)
        refine lv_dmul hx hb dX5_rod_33 f7.n64 ?_
        refine wx_r (wx_S (As := [.double (le), .double (4593671619917905920), .double (FP.dmul (D0 20 0) 4602678819172646912)]) (rest := [.ref (ad 30 0)]) hAt.fix (m_X5_within l le 4593671619917905920 (FP.dmul (D0 20 0) 4602678819172646912)) q896 q897 q50 q898 wn_X5_in ⟨Nat.le_of_ble_eq_true rfl, Nat.le_of_ble_eq_true rfl, Nat.le_of_ble_eq_true rfl, Nat.le_of_ble_eq_true rfl⟩ (fun _ _ _ => trivial) hl.1 (Nat.le_of_ble_eq_true rfl) dX5_rod_34) (fun r hr => ?_)
        rcases hr with ⟨rfl, hq⟩ | ⟨rfl, hq⟩
        · have q8 := hq
          refine lv_if_eq (tgt := 44) hx hb dX5_rod_37 (by decide) (fun h => absurd h (by decide)) (fun _ => ?_)
          refine lv_iconst (v := nI 1) hx hb dX5_rod_40 rfl ?_
          refine lv_goto (tgt := 45) hx hb dX5_rod_41 (by decide) ?_
          refine wx_ws (wx_V (As := [.int (nI 1)]) (rest := []) hAt.fix (m_X5_bad1 l A Dg dA ad n nb nr J D I) q901 q903 qs22 q904 wn_X5_bad ⟨Nat.le_of_ble_eq_true rfl, Nat.le_of_ble_eq_true rfl, Nat.le_of_ble_eq_true rfl, Nat.le_of_ble_eq_true rfl⟩ (w_recv hK hW kX5 rfl (show (0 : Nat) < 1 by decide)) (Pw.of hK hW) hl.1 (Nat.le_of_ble_eq_true rfl) dX5_rod_45) hS (fun r H locs hW hz hS => ?_)
          obtain ⟨rfl, hW⟩ := hW
          have hok : okRo ki kj n (D0 20 0) le := ⟨q1, q3, c5, q8⟩
          obtain ⟨⟨i, hi, rfl⟩, ⟨j, hj, rfl⟩, -⟩ := id hok
          refine lv_if_eq (tgt := 53) hx hb dX5_rod_48 (by decide) (fun _ => ?_) (fun h => absurd nI_0 h)
          refine lv_aload_n hx hb dX5_rod_53 rfl (lv_at hl 0 rfl) ?_
          refine g_I (x := nI nr) Z hW kX5 rfl 16 (by decide) q756 (show (0 : Nat) < 1 by decide) rfl hM.cr dX5_rod_54 ?_
          refine lv_iconst (v := nI 4) hx hb dX5_rod_57 rfl ?_
          refine lv_nne (tgt := 68) hx hb (by omega) (by decide) dX5_rod_58 (by decide) (fun c11 => ?_) (fun c11 => ?_)
          · have hlt : nr < 4 := by omega
            refine lv_aload_n hx hb dX5_rod_68 rfl (lv_at hl 0 rfl) ?_
            refine w_getR (v := .ref (ad 43 0)) Z hW kX5 rfl 19 (by decide) q759 (show (0 : Nat) < 1 by decide) rfl rfl dX5_rod_69 ?_
            refine lv_aload_n hx hb dX5_rod_72 rfl (lv_at hl 0 rfl) ?_
            refine g_I (x := nI nr) Z hW kX5 rfl 16 (by decide) q756 (show (0 : Nat) < 1 by decide) rfl hM.cr dX5_rod_73 ?_
            refine lv_iload_n hx hb dX5_rod_76 rfl (lv_at hl 1 rfl) ?_
            refine w_ais (j := nr) (ix := nr) Z hW hS rfl (show (0 : Nat) < 1 by decide) rfl (by omega) (by decide) (show (nr : Nat) < 4 by omega) rfl rfl dX5_rod_77 (fun H locs hW hS => ?_)
            refine lv_aload_n hx hb dX5_rod_78 rfl (lv_at hl 0 rfl) ?_
            refine w_getR (v := .ref (ad 44 0)) Z hW kX5 rfl 20 (by decide) q760 (show (0 : Nat) < 1 by decide) rfl rfl dX5_rod_79 ?_
            refine lv_aload_n hx hb dX5_rod_82 rfl (lv_at hl 0 rfl) ?_
            refine g_I (x := nI nr) Z hW kX5 rfl 16 (by decide) q756 (show (0 : Nat) < 1 by decide) rfl hM.cr dX5_rod_83 ?_
            refine lv_iload_n hx hb dX5_rod_86 rfl (lv_at hl 2 rfl) ?_
            refine w_ais (j := nr) (ix := nr) Z hW hS rfl (show (0 : Nat) < 1 by decide) rfl (by omega) (by decide) (show (nr : Nat) < 4 by omega) rfl rfl dX5_rod_87 (fun H locs hW hS => ?_)
            refine lv_aload_n hx hb dX5_rod_88 rfl (lv_at hl 0 rfl) ?_
            refine w_getR (v := .ref (ad 47 0)) Z hW kX5 rfl 23 (by decide) q763 (show (0 : Nat) < 1 by decide) rfl rfl dX5_rod_89 ?_
            refine lv_aload_n hx hb dX5_rod_92 rfl (lv_at hl 0 rfl) ?_
            refine g_I (x := nI nr) Z hW kX5 rfl 16 (by decide) q756 (show (0 : Nat) < 1 by decide) rfl hM.cr dX5_rod_93 ?_
            refine lv_dload_n hx hb dX5_rod_96 rfl (lv_at hl 3 rfl) ?_
            refine w_ads (j := nr) (ix := nr) Z hW hS rfl (show (0 : Nat) < 1 by decide) rfl (by omega) (by decide) (show (nr : Nat) < 4 by omega) rfl rfl dX5_rod_97 (fun H locs hW hS => ?_)
            refine lv_aload_n hx hb dX5_rod_98 rfl (lv_at hl 0 rfl) ?_
            refine lv_dup hx hb dX5_rod_99 rfl ?_
            refine g_I (x := nI nr) Z hW kX5 rfl 16 (by decide) q756 (show (0 : Nat) < 1 by decide) rfl hM.cr dX5_rod_100 ?_
            refine lv_iconst (v := nI 1) hx hb dX5_rod_103 rfl ?_
            refine lv_iadd hx hb dX5_rod_104 ?_
            rw [nI_add]
            refine w_putI Z hW hS kX5 rfl 16 (by decide) (by decide) q756 rfl (show (0 : Nat) < 1 by decide) rfl rfl rfl dX5_rod_105 (fun H locs hW hS => ?_)
            refine lv_aload_n hx hb dX5_rod_108 rfl (lv_at hl 0 rfl) ?_
            refine g_I (x := nI (nr + 1)) Z hW kX5 rfl 16 (by decide) q756 (show (0 : Nat) < 1 by decide) rfl rfl dX5_rod_109 ?_
            rw [hQ]
            exact rW_i hx hb hr hlk hS (Or.inl ⟨hok, hlt, rfl, ad, _, _, rfl, hW, hag.put 12 nr _, hht, by rw [ix_nI (by omega), ix_nI (by omega)]; exact (hMA.th).rod, rfl⟩) dX5_rod_112
          · refine lv_aload_n hx hb dX5_rod_61 rfl (lv_at hl 0 rfl) ?_
            refine lv_iconst (v := nI 2) hx hb dX5_rod_62 rfl ?_
            refine w_putI Z hW hS kX5 rfl 43 (by decide) (by decide) q783 rfl (show (0 : Nat) < 1 by decide) rfl rfl rfl dX5_rod_63 (fun H locs hW hS => ?_)
            refine lv_iconst (v := nI 0) hx hb dX5_rod_66 rfl ?_
            rw [hQ]
            exact rW_i hx hb hr hlk hS (Or.inr (Or.inl ⟨hok, by omega, rfl, ad, _, _, rfl, hW, hag, hht, (hMA.th).th, rfl⟩)) dX5_rod_67
        · have q12 := hq
          refine lv_if_eq (tgt := 44) hx hb dX5_rod_37 (by decide) (fun _ => ?_) (fun h => absurd nI_0 h)
          refine lv_iconst (v := nI 0) hx hb dX5_rod_44 rfl ?_
          refine wx_ws (wx_V (As := [.int (nI 0)]) (rest := []) hAt.fix (m_X5_bad0 l A Dg dA ad n nb nr J D I) q901 q903 qs22 q904 wn_X5_bad ⟨Nat.le_of_ble_eq_true rfl, Nat.le_of_ble_eq_true rfl, Nat.le_of_ble_eq_true rfl, Nat.le_of_ble_eq_true rfl⟩ (w_recv hK hW kX5 rfl (show (0 : Nat) < 1 by decide)) (Pw.of hK hW) hl.1 (Nat.le_of_ble_eq_true rfl) dX5_rod_45) hS (fun r H locs hW hz hS => ?_)
          obtain ⟨rfl, hW⟩ := hW
          refine lv_if_eq (tgt := 53) hx hb dX5_rod_48 (by decide) (fun h => absurd h (by decide)) (fun _ => ?_)
          refine lv_iconst (v := nI 0) hx hb dX5_rod_51 rfl ?_
          rw [hQ]
          exact rW_i hx hb hr hlk hS (Or.inr (Or.inr ⟨fun q => q12 q.2.2.2, rfl, ⟨ad, _, _, rfl, hW, hag, hht, hMA.th, rfl⟩⟩)) dX5_rod_52
    · have q15 := hq
      refine lv_if_eq (tgt := 44) hx hb dX5_rod_14 (by decide) (fun _ => ?_) (fun h => absurd nI_0 h)
      refine lv_iconst (v := nI 0) hx hb dX5_rod_44 rfl ?_
      refine wx_ws (wx_V (As := [.int (nI 0)]) (rest := []) hAt.fix (m_X5_bad0 l A Dg dA ad n nb nr J D I) q901 q903 qs22 q904 wn_X5_bad ⟨Nat.le_of_ble_eq_true rfl, Nat.le_of_ble_eq_true rfl, Nat.le_of_ble_eq_true rfl, Nat.le_of_ble_eq_true rfl⟩ (w_recv hK hW kX5 rfl (show (0 : Nat) < 1 by decide)) (Pw.of hK hW) hl.1 (Nat.le_of_ble_eq_true rfl) dX5_rod_45) hS (fun r H locs hW hz hS => ?_)
      obtain ⟨rfl, hW⟩ := hW
      refine lv_if_eq (tgt := 53) hx hb dX5_rod_48 (by decide) (fun h => absurd h (by decide)) (fun _ => ?_)
      refine lv_iconst (v := nI 0) hx hb dX5_rod_51 rfl ?_
      rw [hQ]
      exact rW_i hx hb hr hlk hS (Or.inr (Or.inr ⟨fun q => q15 q.2.1, rfl, ⟨ad, _, _, rfl, hW, hag, hht, hMA.th, rfl⟩⟩)) dX5_rod_52
  · have q18 := hq
    refine lv_if_eq (tgt := 44) hx hb dX5_rod_6 (by decide) (fun _ => ?_) (fun h => absurd nI_0 h)
    refine lv_iconst (v := nI 0) hx hb dX5_rod_44 rfl ?_
    refine wx_ws (wx_V (As := [.int (nI 0)]) (rest := []) hAt.fix (m_X5_bad0 l A Dg dA ad n nb nr J D I) q901 q903 qs22 q904 wn_X5_bad ⟨Nat.le_of_ble_eq_true rfl, Nat.le_of_ble_eq_true rfl, Nat.le_of_ble_eq_true rfl, Nat.le_of_ble_eq_true rfl⟩ (w_recv hK hW kX5 rfl (show (0 : Nat) < 1 by decide)) (Pw.of hK hW) hl.1 (Nat.le_of_ble_eq_true rfl) dX5_rod_45) hS (fun r H locs hW hz hS => ?_)
    obtain ⟨rfl, hW⟩ := hW
    refine lv_if_eq (tgt := 53) hx hb dX5_rod_48 (by decide) (fun h => absurd h (by decide)) (fun _ => ?_)
    refine lv_iconst (v := nI 0) hx hb dX5_rod_51 rfl ?_
    rw [hQ]
    exact rW_i hx hb hr hlk hS (Or.inr (Or.inr ⟨fun q => q18 q.1, rfl, ⟨ad, _, _, rfl, hW, hag, hht, hMA.th, rfl⟩⟩)) dX5_rod_52
