set_option maxRecDepth 100000
/-! ===== the model: forces, temperature, warm, undo ===== -/
def sG : Nat → Bool := fun f => (Nat.beq f 30 || Nat.beq f 31) || (Nat.ble 50 f && Nat.ble f 52)
theorem sSG : ∀ f, sG f = false → sS f = false := by
  intro f h
  unfold sG at h
  rw [Bool.or_eq_false_iff] at h
  exact h.2
theorem djG : ∀ f, cD f = true → sG f = false := by
  intro f h
  cases hb : sG f with
  | false => rfl
  | true =>
    exfalso
    unfold sG at hb
    unfold cD at h
    simp only [Bool.or_eq_true, Bool.and_eq_true, Nat.beq_eq, ble_i] at h hb
    omega
/-- behind the list's making, in the model -/
def ML (D0 : T64) (li : Int32) (n : Nat) (D : T64) (I : T32) (D1 : T64) (I1 : T32) : Prop := (oldB D0 li n = false ∧ exc sG D1 D ∧ I1 = I) ∨ (oldB D0 li n = true ∧ exc sG D1 (lsT n D) ∧ I1 = up2 (up2 I 25 0 (I 25 0 + nI 1)) 23 0 (nI 1))
section MLs
variable {D0 D D1 D2 : T64} {li : Int32} {n nb nr : Nat} {I I1 : T32} {J : Jt}
theorem ML.of (h : (oldB D0 li n = false ∧ exc sS D1 D ∧ I1 = I) ∨ (oldB D0 li n = true ∧ exc sS D1 (lsT n D) ∧ I1 = up2 (up2 I 25 0 (I 25 0 + nI 1)) 23 0 (nI 1))) : ML D0 li n D I D1 I1 := by
  rcases h with ⟨h1, h2, h3⟩ | ⟨h1, h2, h3⟩
  · exact Or.inl ⟨h1, h2.mono sSG, h3⟩
  · exact Or.inr ⟨h1, h2.mono sSG, h3⟩
theorem ML.thenG (h : ML D0 li n D I D1 I1) (he : exc sG D2 D1) : ML D0 li n D I D2 I1 := by
  rcases h with ⟨h1, h2, h3⟩ | ⟨h1, h2, h3⟩
  · exact Or.inl ⟨h1, he.trans h2, h3⟩
  · exact Or.inr ⟨h1, he.trans h2, h3⟩
theorem ML.then (h : ML D0 li n D I D1 I1) (he : exc sS D2 D1) : ML D0 li n D I D2 I1 := h.thenG (he.mono sSG)
theorem ML.fxy (h : ML D0 li n D I D1 I1) {i : Nat} {a b : UInt64} (he : exc sS D2 (up2 (up2 D1 30 i a) 31 i b)) : ML D0 li n D I D2 I1 := h.thenG ((he.mono sSG).trans ((exc.rf.up rfl).up rfl))
theorem ML.ag (h : ML D0 li n D I D1 I1) (hag : agD D D0) : agD D1 (lsC D0 li n) := by
  unfold lsC
  rcases h with ⟨h1, h2, h3⟩ | ⟨h1, h2, h3⟩
  · rw [h1]; exact hag.of h2 djG
  · rw [h1]; exact (hag.ls n).of h2 djG
theorem ML.mi (h : ML D0 li n D I D1 I1) (hM : mI n nb nr J I) : mI n nb nr J I1 := by
  rcases h with ⟨h1, h2, h3⟩ | ⟨h1, h2, h3⟩
  · rw [h3]; exact hM
  · rw [h3]; exact hM
theorem ML.far (h : ML D0 li n D I D1 I1) {f i : Nat} (h1 : sG f = false) (h5 : f ≠ 5) (h6 : f ≠ 6) : D1 f i = D f i := by
  rcases h with ⟨-, h2, -⟩ | ⟨-, h2, -⟩
  · exact h2 f i h1
  · rw [h2 f i h1]; exact lsT_out h5 h6
theorem FX_step {D3 D4 : T64} {i : Nat} {F : Nat → UInt64 × UInt64} (h : ∀ a, a < i → D3 30 a = (F a).1 ∧ D3 31 a = (F a).2) (he : exc sS D4 (up2 (up2 D3 30 i (F i).1) 31 i (F i).2)) : ∀ a, a < i + 1 → D4 30 a = (F a).1 ∧ D4 31 a = (F a).2 := by
  refine lt_s (fun a ha => ?_) ?_
  · obtain ⟨w2, w3⟩ := h a ha
    exact ⟨(he 30 a rfl).trans ((up2_f _ _ _ _ (by decide)).trans ((up2_i _ _ _ _ (by omega)).trans w2)), (he 31 a rfl).trans ((up2_i _ _ _ _ (by omega)).trans ((up2_f _ _ _ _ (by decide)).trans w3))⟩
  · exact ⟨(he 30 i rfl).trans ((up2_f _ _ _ _ (by decide)).trans (up2_same _ _ _ _)), (he 31 i rfl).trans (up2_same _ _ _ _)⟩
end MLs
/-- given back, up to m -/
def UN (m : Nat) (D D1 : T64) : Prop := ∀ f i, D1 f i = if s4 0 1 2 3 f = true ∧ i < m then D (44 + f) i else D f i
theorem UN.z {D : T64} : UN 0 D D := fun f i => by rw [if_neg (fun q => absurd q.2 (Nat.not_lt_zero i))]
theorem UN.far {D D1 : T64} {m f i : Nat} (h : UN m D D1) (hf : s4 0 1 2 3 f = false) : D1 f i = D f i := by rw [h f i, if_neg (fun q => by rw [hf] at q; cases q.1)]
theorem UN.step {D D1 : T64} {i : Nat} (h : UN i D D1) : UN (i + 1) D (up2 (up2 (up2 (up2 D1 0 i (D 44 i)) 1 i (D 45 i)) 2 i (D 46 i)) 3 i (D 47 i)) := by
  intro f j
  by_cases hf : s4 0 1 2 3 f = true
  · by_cases hj : j = i
    · subst hj
      rw [if_pos ⟨hf, by omega⟩, up2_eq, up2_eq, up2_eq, up2_eq]
      rcases s4_or hf with rfl | rfl | rfl | rfl <;> simp
    · rw [up2_i _ _ _ _ hj, up2_i _ _ _ _ hj, up2_i _ _ _ _ hj, up2_i _ _ _ _ hj, h f j]
      by_cases h2 : j < i
      · rw [if_pos ⟨hf, h2⟩, if_pos ⟨hf, by omega⟩]
      · rw [if_neg (fun q => h2 q.2), if_neg (fun q => by have := q.2; omega)]
  · have hf : s4 0 1 2 3 f = false := by simpa using hf
    have hn : ∀ g, s4 0 1 2 3 g = true → f ≠ g := fun g hg q => by rw [q, hg] at hf; cases hf
    rw [up2_f _ _ _ _ (hn 3 rfl), up2_f _ _ _ _ (hn 2 rfl), up2_f _ _ _ _ (hn 1 rfl), up2_f _ _ _ _ (hn 0 rfl), h.far hf, if_neg (fun q => by rw [hf] at q; cases q.1)]
set_option maxHeartbeats 4000000 in
theorem m_X5_forces (l : Launch) (A : Nat → Prop) (Dg : va_G) (dA : Nat → ClassId) (ad : Nat → Nat → Nat) (n : Nat) (nb : Nat) (nr : Nat) (J : Nat → Nat → Nat) (D : T64) (I : T32) (D0 : T64) (hag : agD D D0) (hB : Bd n nb nr J D0) (hM : mI n nb nr J I) (li : Int32) (hli : I 23 0 = li) : MX l yX5_forces cX5_forces 2 (some .boolean) [] (rmx 7 0 0) [.ref (ad 30 0)] (Pw Dg dA (mW A Dg dA ad D I)) (qW (fun r : Int32 => some (.int r)) (fun r H => ∃ D1 I1, mW A Dg dA ad D1 I1 H ∧ ML D0 li n D I D1 I1 ∧ ((r = nI 0 ∧ ovl D0 n = true) ∨ (r = nI 1 ∧ ovl D0 n = false ∧ ∀ a, a < n → D1 30 a = (FX D0 J n nb a).1 ∧ D1 31 a = (FX D0 J n nb a).2))) A) 0 0 A := by
  refine MX.start (Nat.le_of_ble_eq_true rfl) ?_
  intro p e s m args below meth c ls Q hAt hPc hl hQ
  have hl : lv_has ls 2 [(0, .ref (ad 30 0))] := hl
  obtain ⟨hx, hb, hml, hr, hlk, hown, hnm, htab, hts⟩ := id hAt
  obtain ⟨hK, hW⟩ := hPc
  have Z := Cx.of hAt hK
  have hS : va_S A s.heap s.heap [] := va_S.rf
  have hn10 := hB.n10
  refine lv_aload_n hx hb dX5_forces_0 rfl (lv_at hl 0 rfl) ?_
  refine wx_wv (wx_V (As := []) (rest := []) hAt.fix (m_X5_neighbours l A Dg dA ad n nb nr J D I D0 hag hB hM.cn li hli) q964 q966 qs27 q967 wn_X5_neighbours ⟨Nat.le_of_ble_eq_true rfl, Nat.le_of_ble_eq_true rfl, Nat.le_of_ble_eq_true rfl, Nat.le_of_ble_eq_true rfl⟩ (w_recv hK hW kX5 rfl (show (0 : Nat) < 1 by decide)) (Pw.of hK hW) hl.1 (Nat.le_of_ble_eq_true rfl) dX5_forces_1) hS (fun H locs hW hz hS => ?_)
  obtain ⟨D1, I1, hW, hN⟩ := hW
  have hL : ML D0 li n D I D1 I1 := ML.of hN
  have hag1 : agD D1 (lsC D0 li n) := hL.ag hag
  have hM1 : mI n nb nr J I1 := hL.mi hM
  have hE : Bd n nb nr J (lsC D0 li n) := hB.lc
  have hovE : ovl (lsC D0 li n) n = ovl D0 n := ovl_cg lsC_exL
  refine lv_aload_n hx hb dX5_forces_4 rfl (lv_at hl 0 rfl) ?_
  refine wx_ws (wx_V (As := []) (rest := []) hAt.fix (m_X5_overlap l A Dg dA ad n nb nr J D1 I1 ((lsC D0 li n)) hag1 hE hM1.cn) q976 q978 qs30 q979 wn_X5_overlap ⟨Nat.le_of_ble_eq_true rfl, Nat.le_of_ble_eq_true rfl, Nat.le_of_ble_eq_true rfl, Nat.le_of_ble_eq_true rfl⟩ (w_recv hK hW kX5 rfl (show (0 : Nat) < 1 by decide)) (Pw.of hK hW) hl.1 (Nat.le_of_ble_eq_true rfl) dX5_forces_5) hS (fun r H locs hW hz hS => ?_)
  obtain ⟨hr1, D2, hex, hW⟩ := hW
  rw [hovE] at hr1
  have hL2 := hL.then hex
  rcases hr1 with ⟨rfl, hq⟩ | ⟨rfl, hq⟩
  · have q1 := hq
    refine lv_if_eq (tgt := 13) hx hb dX5_forces_8 (by decide) (fun h => absurd h (by decide)) (fun _ => ?_)
    refine lv_iconst (v := nI 0) hx hb dX5_forces_11 rfl ?_
    rw [hQ]
    exact rW_z hx hb hr hlk hS (Or.inl rfl) (⟨D2, I1, hW, hL2, Or.inl ⟨rfl, q1⟩⟩) dX5_forces_12
  · have q3 := hq
    refine lv_if_eq (tgt := 13) hx hb dX5_forces_8 (by decide) (fun _ => ?_) (fun h => absurd nI_0 h)
    refine lv_iconst (v := nI 0) hx hb dX5_forces_13 rfl ?_
    refine lv_istore_n (lv' := [(1, .int (nI 0)), (0, .ref (ad 30 0))]) hx hb dX5_forces_14 rfl hl (by decide) rfl (fun ls hl => ?_)
    have ho := q3
    refine wl_up n 0 (fun i H locs ls => ∃ D3, lv_has ls 2 [(1, .int (nI i)), (0, .ref (ad 30 0))] ∧ mW A Dg dA ad D3 I1 H ∧ va_S A s.heap H locs ∧ ML D0 li n D I D3 I1 ∧ ∀ a, a < i → D3 30 a = (FX D0 J n nb a).1 ∧ D3 31 a = (FX D0 J n nb a).2) (Nat.zero_le _) ⟨D2, lv_sub hl [0, 1] rfl, hW, hS, hL2, lt_0⟩ ?_ ?_
    · intro i H locs ls hi hP ih
      obtain ⟨D3, hl, hW, hS, hL3, hall⟩ := hP
      have hag3 := hL3.ag hag
      refine lv_iload_n hx hb dX5_forces_15 rfl (lv_at hl 0 rfl) ?_
      refine lv_aload_n hx hb dX5_forces_16 rfl (lv_at hl 1 rfl) ?_
      refine g_I (x := nI n) Z hW kX5 rfl 14 (by decide) q754 (show (0 : Nat) < 1 by decide) rfl hM1.cn dX5_forces_17 ?_
      refine lv_nge (tgt := 34) hx hb (by omega) (by omega) dX5_forces_20 (by decide) (fun c => absurd c (by omega)) (fun c => ?_)
      refine lv_aload_n hx hb dX5_forces_23 rfl (lv_at hl 1 rfl) ?_
      refine lv_iload_n hx hb dX5_forces_24 rfl (lv_at hl 0 rfl) ?_
      refine wx_wv (wx_V (As := [.int (nI i)]) (rest := []) hAt.fix (m_X5_findForce l A Dg dA ad n nb nr J D3 I1 ((lsC D0 li n)) hag3 hE hM1 i hi ((hovE.trans ho))) q985 q987 qs32 q988 wn_X5_findForce ⟨Nat.le_of_ble_eq_true rfl, Nat.le_of_ble_eq_true rfl, Nat.le_of_ble_eq_true rfl, Nat.le_of_ble_eq_true rfl⟩ (w_recv hK hW kX5 rfl (show (0 : Nat) < 1 by decide)) (Pw.of hK hW) hl.1 (Nat.le_of_ble_eq_true rfl) dX5_forces_25) hS (fun H locs hW hz hS => ?_)
      obtain ⟨D4, hex4, hW⟩ := hW
      rw [FX_cg lsC_exL] at hex4
      refine lv_iinc1 (lv' := [(1, .int (nI (i + 1))), (0, .ref (ad 30 0))]) hx hb dX5_forces_28 hl (k := 0) rfl (by decide) rfl (fun ls hl => ?_)
      refine lv_goto (tgt := 15) hx hb dX5_forces_31 (by decide) ?_
      exact ih _ _ _ ⟨D4, lv_sub hl [0, 1] rfl, hW, hS, hL3.fxy hex4, FX_step hall hex4⟩
    · intro H locs ls hP
      obtain ⟨D3, hl, hW, hS, hL3, hall⟩ := hP
      refine lv_iload_n hx hb dX5_forces_15 rfl (lv_at hl 0 rfl) ?_
      refine lv_aload_n hx hb dX5_forces_16 rfl (lv_at hl 1 rfl) ?_
      refine g_I (x := nI n) Z hW kX5 rfl 14 (by decide) q754 (show (0 : Nat) < 1 by decide) rfl hM1.cn dX5_forces_17 ?_
      refine lv_nge (tgt := 34) hx hb (by omega) (by omega) dX5_forces_20 (by decide) (fun c => ?_) (fun c => absurd c (by omega))
      refine lv_iconst (v := nI 1) hx hb dX5_forces_34 rfl ?_
      rw [hQ]
      exact rW_z hx hb hr hlk hS (Or.inr rfl) (⟨D3, I1, hW, hL3, Or.inr ⟨rfl, ho, hall⟩⟩) dX5_forces_35
set_option maxHeartbeats 4000000 in
theorem m_X5_temperature (l : Launch) (A : Nat → Prop) (Dg : va_G) (dA : Nat → ClassId) (ad : Nat → Nat → Nat) (n : Nat) (nb : Nat) (nr : Nat) (J : Nat → Nat → Nat) (D : T64) (I : T32) (hB : Bd n nb nr J D) (hu : Bu 20 n D) (hn : I 20 0 = nI n) : MX l yX5_findTemperature cX5_findTemperature 5 (some .double) [] (rmx 1 0 0) [.ref (ad 30 0)] (Pw Dg dA (mW A Dg dA ad D I)) (qR Value.double (fun r => r = tmpS D I n)) 0 0 (fun _ => False) := by
  refine MX.start (Nat.le_of_ble_eq_true rfl) ?_
  intro p e s m args below meth c ls Q hAt hPc hl hQ
  have hl : lv_has ls 5 [(0, .ref (ad 30 0))] := hl
  obtain ⟨hx, hb, hml, hr, hlk, hown, hnm, htab, hts⟩ := id hAt
  obtain ⟨hK, hW⟩ := hPc
  have Z := Cx.of hAt hK
  have hn10 := hB.n10
  refine lv_dconst0 hx hb dX5_findTemperature_0 ?_
  refine lv_dstore_n (lv' := [(1, .double (FP.dconst0)), (0, .ref (ad 30 0))]) hx hb dX5_findTemperature_1 rfl hl (by decide) rfl (fun ls hl => ?_)
  refine lv_iconst (v := nI 0) hx hb dX5_findTemperature_2 rfl ?_
  refine lv_istore_n (lv' := [(3, .int (nI 0)), (1, .double (FP.dconst0)), (0, .ref (ad 30 0))]) hx hb dX5_findTemperature_3 rfl hl (by decide) rfl (fun ls hl => ?_)
  refine lv_iconst (v := nI 0) hx hb dX5_findTemperature_4 rfl ?_
  refine lv_istore (lv' := [(4, .int (nI 0)), (3, .int (nI 0)), (1, .double (FP.dconst0)), (0, .ref (ad 30 0))]) hx hb dX5_findTemperature_5 hl (by decide) rfl (fun ls hl => ?_)
  refine wl_up n 0 (fun i H locs ls => H = s.heap ∧ locs = [] ∧ lv_has ls 5 [(1, .double (smT D i)), (3, .int (nI (frc I i))), (4, .int (nI i)), (0, .ref (ad 30 0))]) (Nat.zero_le _) ⟨rfl, rfl, lv_sub hl [2, 1, 0, 3] rfl⟩ ?_ ?_
  · intro i H locs ls hi hP ih
    obtain ⟨rfl, rfl, hl⟩ := hP
    have hfr := frc_le I i
    refine lv_iload hx hb dX5_findTemperature_7 (lv_at hl 2 rfl) ?_
    refine lv_aload_n hx hb dX5_findTemperature_9 rfl (lv_at hl 3 rfl) ?_
    refine g_I (x := nI n) Z hW kX5 rfl 14 (by decide) q754 (show (0 : Nat) < 1 by decide) rfl hn dX5_findTemperature_10 ?_
    refine lv_nge (tgt := 77) hx hb (by omega) (by omega) dX5_findTemperature_13 (by decide) (fun c => absurd c (by omega)) (fun c => ?_)
    refine lv_dload_n hx hb dX5_findTemperature_16 rfl (lv_at hl 0 rfl) ?_
    refine lv_aload_n hx hb dX5_findTemperature_17 rfl (lv_at hl 3 rfl) ?_
    refine w_getR (v := .ref (ad 35 0)) Z hW kX5 rfl 8 (by decide) q748 (show (0 : Nat) < 1 by decide) rfl rfl dX5_findTemperature_18 ?_
    refine lv_iload hx hb dX5_findTemperature_21 (lv_at hl 2 rfl) ?_
    refine a_D (j := i) (x := D 4 i) (ix := i) Z hW rfl (show (0 : Nat) < 1 by decide) (by omega) (by decide) rfl rfl rfl dX5_findTemperature_23 ?_
    refine lv_aload_n hx hb dX5_findTemperature_24 rfl (lv_at hl 3 rfl) ?_
    refine w_getR (v := .ref (ad 33 0)) Z hW kX5 rfl 6 (by decide) q746 (show (0 : Nat) < 1 by decide) rfl rfl dX5_findTemperature_25 ?_
    refine lv_iload hx hb dX5_findTemperature_28 (lv_at hl 2 rfl) ?_
    refine a_D (j := i) (x := D 2 i) (ix := i) Z hW rfl (show (0 : Nat) < 1 by decide) (by omega) (by decide) rfl rfl rfl dX5_findTemperature_30 ?_
    refine lv_aload_n hx hb dX5_findTemperature_31 rfl (lv_at hl 3 rfl) ?_
    refine w_getR (v := .ref (ad 33 0)) Z hW kX5 rfl 6 (by decide) q746 (show (0 : Nat) < 1 by decide) rfl rfl dX5_findTemperature_32 ?_
    refine lv_iload hx hb dX5_findTemperature_35 (lv_at hl 2 rfl) ?_
    refine a_D (j := i) (x := D 2 i) (ix := i) Z hW rfl (show (0 : Nat) < 1 by decide) (by omega) (by decide) rfl rfl rfl dX5_findTemperature_37 ?_
    have f1 : fb (40) (FP.dmul (D 2 i) (D 2 i)) := fb.mul (hu i hi).1 (hu i hi).1 (by decide)
    refine lv_dmul hx hb dX5_findTemperature_38 f1.n64 ?_
    refine lv_aload_n hx hb dX5_findTemperature_39 rfl (lv_at hl 3 rfl) ?_
    refine w_getR (v := .ref (ad 34 0)) Z hW kX5 rfl 7 (by decide) q747 (show (0 : Nat) < 1 by decide) rfl rfl dX5_findTemperature_40 ?_
    refine lv_iload hx hb dX5_findTemperature_43 (lv_at hl 2 rfl) ?_
    refine a_D (j := i) (x := D 3 i) (ix := i) Z hW rfl (show (0 : Nat) < 1 by decide) (by omega) (by decide) rfl rfl rfl dX5_findTemperature_45 ?_
    refine lv_aload_n hx hb dX5_findTemperature_46 rfl (lv_at hl 3 rfl) ?_
    refine w_getR (v := .ref (ad 34 0)) Z hW kX5 rfl 7 (by decide) q747 (show (0 : Nat) < 1 by decide) rfl rfl dX5_findTemperature_47 ?_
    refine lv_iload hx hb dX5_findTemperature_50 (lv_at hl 2 rfl) ?_
    refine a_D (j := i) (x := D 3 i) (ix := i) Z hW rfl (show (0 : Nat) < 1 by decide) (by omega) (by decide) rfl rfl rfl dX5_findTemperature_52 ?_
    have f2 : fb (40) (FP.dmul (D 3 i) (D 3 i)) := fb.mul (hu i hi).2 (hu i hi).2 (by decide)
    refine lv_dmul hx hb dX5_findTemperature_53 f2.n64 ?_
    have f3 : fb (41) (FP.dadd (FP.dmul (D 2 i) (D 2 i)) (FP.dmul (D 3 i) (D 3 i))) := fb.add f1 f2 (by decide)
    refine lv_dadd hx hb dX5_findTemperature_54 f3.n64 ?_
    have f4 : fb (47) (FP.dmul (D 4 i) (FP.dadd (FP.dmul (D 2 i) (D 2 i)) (FP.dmul (D 3 i) (D 3 i)))) := fb.mul (hB.m (show (i : Nat) < n by omega)) f3 (by decide)
    refine lv_dmul hx hb dX5_findTemperature_55 f4.n64 ?_
    have f5 : fb ((47 + (i : Int)) + 1) (FP.dadd (smT D i) (FP.dmul (D 4 i) (FP.dadd (FP.dmul (D 2 i) (D 2 i)) (FP.dmul (D 3 i) (D 3 i))))) := fb.add (smT_fb hB hu i (by omega)) (f4.mono (show (47 : Int) ≤ 47 + (i : Int) by omega)) (by omega)
    refine lv_dadd hx hb dX5_findTemperature_56 f5.n64 ?_
    refine lv_dstore_n (lv' := [(1, .double (FP.dadd (smT D i) (FP.dmul (D 4 i) (FP.dadd (FP.dmul (D 2 i) (D 2 i)) (FP.dmul (D 3 i) (D 3 i)))))), (3, .int (nI (frc I i))), (4, .int (nI i)), (0, .ref (ad 30 0))]) hx hb dX5_findTemperature_57 rfl hl (by decide) rfl (fun ls hl => ?_)
    refine lv_aload_n hx hb dX5_findTemperature_58 rfl (lv_at hl 3 rfl) ?_
    refine w_getR (v := .ref (ad 37 0)) Z hW kX5 rfl 10 (by decide) q750 (show (0 : Nat) < 1 by decide) rfl rfl dX5_findTemperature_59 ?_
    refine lv_iload hx hb dX5_findTemperature_62 (lv_at hl 2 rfl) ?_
    refine a_Z (j := i) (x := I 1 i) (ix := i) Z hW rfl (show (0 : Nat) < 1 by decide) (by omega) (by decide) rfl rfl rfl dX5_findTemperature_64 ?_
    refine lv_if_ne (tgt := 71) hx hb dX5_findTemperature_65 (by decide) (fun c6 => ?_) (fun c6 => ?_)
    · refine lv_iinc1 (lv' := [(4, .int (nI (i + 1))), (1, .double (FP.dadd (smT D i) (FP.dmul (D 4 i) (FP.dadd (FP.dmul (D 2 i) (D 2 i)) (FP.dmul (D 3 i) (D 3 i)))))), (3, .int (nI (frc I i))), (0, .ref (ad 30 0))]) hx hb dX5_findTemperature_71 hl (k := 2) rfl (by decide) rfl (fun ls hl => ?_)
      refine lv_goto (tgt := 7) hx hb dX5_findTemperature_74 (by decide) ?_
      have hl : lv_has ls 5 [(1, .double (smT D (i + 1))), (3, .int (nI (frc I (i + 1)))), (4, .int (nI (i + 1))), (0, .ref (ad 30 0))] := by rw [frc_f c6]; exact lv_sub hl [1, 2, 0, 3] rfl
      exact ih _ _ _ ⟨rfl, rfl, hl⟩
    · refine lv_iinc1 (lv' := [(3, .int (nI ((frc I i) + 1))), (1, .double (FP.dadd (smT D i) (FP.dmul (D 4 i) (FP.dadd (FP.dmul (D 2 i) (D 2 i)) (FP.dmul (D 3 i) (D 3 i)))))), (4, .int (nI i)), (0, .ref (ad 30 0))]) hx hb dX5_findTemperature_68 hl (k := 1) rfl (by decide) rfl (fun ls hl => ?_)
      refine lv_iinc1 (lv' := [(4, .int (nI (i + 1))), (3, .int (nI ((frc I i) + 1))), (1, .double (FP.dadd (smT D i) (FP.dmul (D 4 i) (FP.dadd (FP.dmul (D 2 i) (D 2 i)) (FP.dmul (D 3 i) (D 3 i)))))), (0, .ref (ad 30 0))]) hx hb dX5_findTemperature_71 hl (k := 2) rfl (by decide) rfl (fun ls hl => ?_)
      refine lv_goto (tgt := 7) hx hb dX5_findTemperature_74 (by decide) ?_
      have hl : lv_has ls 5 [(1, .double (smT D (i + 1))), (3, .int (nI (frc I (i + 1)))), (4, .int (nI (i + 1))), (0, .ref (ad 30 0))] := by rw [frc_t c6]; exact lv_sub hl [2, 1, 0, 3] rfl
      exact ih _ _ _ ⟨rfl, rfl, hl⟩
  · intro H locs ls hP
    obtain ⟨rfl, rfl, hl⟩ := hP
    have hfr := frc_le I n
    refine lv_iload hx hb dX5_findTemperature_7 (lv_at hl 2 rfl) ?_
    refine lv_aload_n hx hb dX5_findTemperature_9 rfl (lv_at hl 3 rfl) ?_
    refine g_I (x := nI n) Z hW kX5 rfl 14 (by decide) q754 (show (0 : Nat) < 1 by decide) rfl hn dX5_findTemperature_10 ?_
    refine lv_nge (tgt := 77) hx hb (by omega) (by omega) dX5_findTemperature_13 (by decide) (fun c => ?_) (fun c => absurd c (by omega))
    refine lv_iload_n hx hb dX5_findTemperature_77 rfl (lv_at hl 1 rfl) ?_
    refine lv_if_ne (tgt := 85) hx hb dX5_findTemperature_78 (by decide) (fun c7 => ?_) (fun c7 => ?_)
    · refine lv_dload_n hx hb dX5_findTemperature_85 rfl (lv_at hl 0 rfl) ?_
      refine lv_ldc2d (v := 4611686018427387904) hx hb hown (hts _ (lw_car_all q1006)) dX5_findTemperature_86 ?_
      refine lv_iload_n hx hb dX5_findTemperature_89 rfl (lv_at hl 1 rfl) ?_
      refine lv_i2d hx hb dX5_findTemperature_90 ?_
      have f8 : fb (5) (FP.dmul 4611686018427387904 (FP.i2d (nI (frc I n)))) := fb.mul fc_4611686018427387904 (i2d_b (by omega)) (by decide)
      refine lv_dmul hx hb dX5_findTemperature_91 f8.n64 ?_
      have f9 : fb (56) (FP.ddiv (smT D n) (FP.dmul 4611686018427387904 (FP.i2d (nI (frc I n))))) := fb.div ((smT_fb hB hu n (Nat.le_refl _)).mono (show (47 + n : Int) ≤ 57 by omega)) (lb.mul lc_4611686018427387904 (i2d_lb (by omega) (Nat.pos_of_ne_zero (nI_nz c7))) fc_4611686018427387904 (i2d_b (by omega)) (G := 1) (by decide)) (by decide)
      refine lv_ddiv hx hb dX5_findTemperature_92 f9.n64 ?_
      rw [hQ]
      exact rR_d hx hb hr hlk (if_neg (nI_nz c7)).symm dX5_findTemperature_93
    · refine lv_dconst0 hx hb dX5_findTemperature_81 ?_
      refine lv_goto (tgt := 93) hx hb dX5_findTemperature_82 (by decide) ?_
      rw [hQ]
      exact rR_d hx hb hr hlk (if_pos (nI_z (by omega) c7)).symm dX5_findTemperature_93
set_option maxHeartbeats 4000000 in
theorem m_X5_warm (l : Launch) (A : Nat → Prop) (Dg : va_G) (dA : Nat → ClassId) (ad : Nat → Nat → Nat) (n : Nat) (nb : Nat) (nr : Nat) (J : Nat → Nat → Nat) (D : T64) (I : T32) (hB : Bd n nb nr J D) (hu : Bu 20 n D) (hn : I 20 0 = nI n) (T : UInt64) (hT : okT T) : MX l yX5_warm cX5_warm 8 (some .double) [] (rmx 2 0 0) [.ref (ad 30 0), .double (T)] (Pw Dg dA (mW A Dg dA ad D I)) (qW (fun r : UInt64 => some (.double r)) (fun r H => r = tmpS D I n ∧ mW A Dg dA ad ((rsc T n D I)) I H) A) 0 0 A := by
  refine MX.start (Nat.le_of_ble_eq_true rfl) ?_
  intro p e s m args below meth c ls Q hAt hPc hl hQ
  have hl : lv_has ls 8 [(0, .ref (ad 30 0)), (1, .double (T))] := hl
  obtain ⟨hx, hb, hml, hr, hlk, hown, hnm, htab, hts⟩ := id hAt
  obtain ⟨hK, hW⟩ := hPc
  have Z := Cx.of hAt hK
  have hS : va_S A s.heap s.heap [] := va_S.rf
  have hn10 := hB.n10
  refine lv_aload_n hx hb dX5_warm_0 rfl (lv_at hl 0 rfl) ?_
  refine wx_r (wx_V (As := []) (rest := []) hAt.fix (m_X5_temperature l A Dg dA ad n nb nr J D I hB hu hn) q1035 q1037 qs43 q1038 wn_X5_findTemperature ⟨Nat.le_of_ble_eq_true rfl, Nat.le_of_ble_eq_true rfl, Nat.le_of_ble_eq_true rfl, Nat.le_of_ble_eq_true rfl⟩ (w_recv hK hW kX5 rfl (show (0 : Nat) < 1 by decide)) (Pw.of hK hW) hl.1 (Nat.le_of_ble_eq_true rfl) dX5_warm_1) (fun r hr => ?_)
  subst hr
  refine lv_dstore_n (lv' := [(3, .double (tmpS D I n)), (0, .ref (ad 30 0)), (1, .double (T))]) hx hb dX5_warm_4 rfl hl (by decide) rfl (fun ls hl => ?_)
  refine lv_dload_n hx hb dX5_warm_5 rfl (lv_at hl 0 rfl) ?_
  refine lv_ldc2d (v := 4517329193108106637) hx hb hown (hts _ (lw_car_all q1025)) dX5_warm_6 ?_
  refine lv_dg_ge (tgt := 15) hx hb dX5_warm_9 dX5_warm_10 (by decide) (fun c1 => ?_) (fun c1 => ?_)
  · obtain ⟨htl, hz⟩ := rtz hT (tmp_fb (I := I) hB hu) c1
    have fT : fb 10 T := ⟨hT.1, by have e10 : p2 10 = 1024 := (p2_nat 10).trans (by decide +kernel); rcases hT.2 with q | q <;> rw [e10] <;> grind, by have e10 : p2 10 = 1024 := (p2_nat 10).trans (by decide +kernel); rcases hT.2 with q | q <;> rw [e10] <;> grind⟩
    refine lv_dload_n hx hb dX5_warm_15 rfl (lv_at hl 2 rfl) ?_
    refine lv_dload_n hx hb dX5_warm_16 rfl (lv_at hl 0 rfl) ?_
    have f2 : fb (30) (FP.ddiv T (tmpS D I n)) := fb.div fT htl (by decide)
    refine lv_ddiv hx hb dX5_warm_17 f2.n64 ?_
    refine wx_r (wx_S (As := [.double (FP.ddiv T (tmpS D I n))]) (rest := []) hAt.fix (m_X5_root l (FP.ddiv T (tmpS D I n)) hz) q1039 q1040 q50 q1041 wn_X5_root ⟨Nat.le_of_ble_eq_true rfl, Nat.le_of_ble_eq_true rfl, Nat.le_of_ble_eq_true rfl, Nat.le_of_ble_eq_true rfl⟩ (fun _ _ _ => trivial) hl.1 (Nat.le_of_ble_eq_true rfl) dX5_warm_18) (fun r hr => ?_)
    subst hr
    refine lv_dstore (lv' := [(5, .double (sRoot (FP.ddiv T (tmpS D I n)))), (3, .double (tmpS D I n)), (0, .ref (ad 30 0)), (1, .double (T))]) hx hb dX5_warm_21 hl (by decide) rfl (fun ls hl => ?_)
    refine lv_iconst (v := nI 0) hx hb dX5_warm_23 rfl ?_
    refine lv_istore (lv' := [(7, .int (nI 0)), (5, .double (sRoot (FP.ddiv T (tmpS D I n)))), (3, .double (tmpS D I n)), (0, .ref (ad 30 0)), (1, .double (T))]) hx hb dX5_warm_24 hl (by decide) rfl (fun ls hl => ?_)
    refine wl_up n 0 (fun i H locs ls => lv_has ls 8 [(7, .int (nI i)), (5, .double (sRoot (FP.ddiv T (tmpS D I n)))), (3, .double (tmpS D I n)), (0, .ref (ad 30 0))] ∧ mW A Dg dA ad ((scD (sRoot (FP.ddiv T (tmpS D I n))) i D I)) I H ∧ va_S A s.heap H locs) (Nat.zero_le _) ⟨lv_sub hl [0, 1, 2, 3] rfl, by unfold scD; rw [tg_0]; exact hW, hS⟩ ?_ ?_
    · intro i H locs ls hi hP ih
      obtain ⟨hl, hW, hS⟩ := hP
      refine lv_iload hx hb dX5_warm_26 (lv_at hl 0 rfl) ?_
      refine lv_aload_n hx hb dX5_warm_28 rfl (lv_at hl 3 rfl) ?_
      refine g_I (x := nI n) Z hW kX5 rfl 14 (by decide) q754 (show (0 : Nat) < 1 by decide) rfl hn dX5_warm_29 ?_
      refine lv_nge (tgt := 88) hx hb (by omega) (by omega) dX5_warm_32 (by decide) (fun c => absurd c (by omega)) (fun c => ?_)
      refine lv_aload_n hx hb dX5_warm_35 rfl (lv_at hl 3 rfl) ?_
      refine w_getR (v := .ref (ad 37 0)) Z hW kX5 rfl 10 (by decide) q750 (show (0 : Nat) < 1 by decide) rfl rfl dX5_warm_36 ?_
      refine lv_iload hx hb dX5_warm_39 (lv_at hl 0 rfl) ?_
      refine a_Z (j := i) (x := I 1 i) (ix := i) Z hW rfl (show (0 : Nat) < 1 by decide) (by omega) (by decide) rfl rfl rfl dX5_warm_41 ?_
      refine lv_if_eq (tgt := 48) hx hb dX5_warm_42 (by decide) (fun c3 => ?_) (fun c3 => ?_)
      · refine lv_aload_n hx hb dX5_warm_48 rfl (lv_at hl 3 rfl) ?_
        refine w_getR (v := .ref (ad 33 0)) Z hW kX5 rfl 6 (by decide) q746 (show (0 : Nat) < 1 by decide) rfl rfl dX5_warm_49 ?_
        refine lv_iload hx hb dX5_warm_52 (lv_at hl 0 rfl) ?_
        refine lv_aload_n hx hb dX5_warm_54 rfl (lv_at hl 3 rfl) ?_
        refine w_getR (v := .ref (ad 33 0)) Z hW kX5 rfl 6 (by decide) q746 (show (0 : Nat) < 1 by decide) rfl rfl dX5_warm_55 ?_
        refine lv_iload hx hb dX5_warm_58 (lv_at hl 0 rfl) ?_
        refine a_D (j := i) (x := D 2 i) (ix := i) Z hW rfl (show (0 : Nat) < 1 by decide) (by omega) (by decide) rfl rfl (tg_hi (Nat.lt_irrefl i)) dX5_warm_60 ?_
        refine lv_dload hx hb dX5_warm_61 (lv_at hl 1 rfl) ?_
        have f4 : fb (52) (FP.dmul (D 2 i) (sRoot (FP.ddiv T (tmpS D I n)))) := fb.mul (hu i hi).1 (sroot_fb hz) (by decide)
        refine lv_dmul hx hb dX5_warm_63 f4.n64 ?_
        refine w_ads (j := i) (ix := i) Z hW hS rfl (show (0 : Nat) < 1 by decide) rfl (by omega) (by decide) (show (i : Nat) < 10 by omega) rfl rfl dX5_warm_64 (fun H locs hW hS => ?_)
        refine lv_aload_n hx hb dX5_warm_65 rfl (lv_at hl 3 rfl) ?_
        refine w_getR (v := .ref (ad 34 0)) Z hW kX5 rfl 7 (by decide) q747 (show (0 : Nat) < 1 by decide) rfl rfl dX5_warm_66 ?_
        refine lv_iload hx hb dX5_warm_69 (lv_at hl 0 rfl) ?_
        refine lv_aload_n hx hb dX5_warm_71 rfl (lv_at hl 3 rfl) ?_
        refine w_getR (v := .ref (ad 34 0)) Z hW kX5 rfl 7 (by decide) q747 (show (0 : Nat) < 1 by decide) rfl rfl dX5_warm_72 ?_
        refine lv_iload hx hb dX5_warm_75 (lv_at hl 0 rfl) ?_
        refine a_D (j := i) (x := D 3 i) (ix := i) Z hW rfl (show (0 : Nat) < 1 by decide) (by omega) (by decide) rfl rfl ((up2_f _ _ _ _ (by decide)).trans (tg_hi (Nat.lt_irrefl i))) dX5_warm_77 ?_
        refine lv_dload hx hb dX5_warm_78 (lv_at hl 1 rfl) ?_
        have f5 : fb (52) (FP.dmul (D 3 i) (sRoot (FP.ddiv T (tmpS D I n)))) := fb.mul (hu i hi).2 (sroot_fb hz) (by decide)
        refine lv_dmul hx hb dX5_warm_80 f5.n64 ?_
        refine w_ads (j := i) (ix := i) Z hW hS rfl (show (0 : Nat) < 1 by decide) rfl (by omega) (by decide) (show (i : Nat) < 10 by omega) rfl rfl dX5_warm_81 (fun H locs hW hS => ?_)
        refine lv_iinc1 (lv' := [(7, .int (nI (i + 1))), (5, .double (sRoot (FP.ddiv T (tmpS D I n)))), (3, .double (tmpS D I n)), (0, .ref (ad 30 0))]) hx hb dX5_warm_82 hl (k := 0) rfl (by decide) rfl (fun ls hl => ?_)
        refine lv_goto (tgt := 26) hx hb dX5_warm_85 (by decide) ?_
        exact ih _ _ _ ⟨lv_sub hl [0, 1, 2, 3] rfl, scD_t c3 ▸ hW, hS⟩
      · refine lv_goto (tgt := 82) hx hb dX5_warm_45 (by decide) ?_
        refine lv_iinc1 (lv' := [(7, .int (nI (i + 1))), (5, .double (sRoot (FP.ddiv T (tmpS D I n)))), (3, .double (tmpS D I n)), (0, .ref (ad 30 0))]) hx hb dX5_warm_82 hl (k := 0) rfl (by decide) rfl (fun ls hl => ?_)
        refine lv_goto (tgt := 26) hx hb dX5_warm_85 (by decide) ?_
        exact ih _ _ _ ⟨lv_sub hl [0, 1, 2, 3] rfl, (scD_f c3).symm ▸ hW, hS⟩
    · intro H locs ls hP
      obtain ⟨hl, hW, hS⟩ := hP
      refine lv_iload hx hb dX5_warm_26 (lv_at hl 0 rfl) ?_
      refine lv_aload_n hx hb dX5_warm_28 rfl (lv_at hl 3 rfl) ?_
      refine g_I (x := nI n) Z hW kX5 rfl 14 (by decide) q754 (show (0 : Nat) < 1 by decide) rfl hn dX5_warm_29 ?_
      refine lv_nge (tgt := 88) hx hb (by omega) (by omega) dX5_warm_32 (by decide) (fun c => ?_) (fun c => absurd c (by omega))
      refine lv_dload_n hx hb dX5_warm_88 rfl (lv_at hl 2 rfl) ?_
      rw [hQ]
      exact rW_d hx hb hr hlk hS (⟨rfl, by rw [rsc_f c1]; exact hW⟩) dX5_warm_89
  · refine lv_dload_n hx hb dX5_warm_13 rfl (lv_at hl 0 rfl) ?_
    rw [hQ]
    exact rW_d hx hb hr hlk hS (⟨rfl, by rw [rsc_t c1]; exact hW⟩) dX5_warm_14
set_option maxHeartbeats 4000000 in
theorem m_X5_undo (l : Launch) (A : Nat → Prop) (Dg : va_G) (dA : Nat → ClassId) (ad : Nat → Nat → Nat) (n : Nat) (nb : Nat) (nr : Nat) (J : Nat → Nat → Nat) (D : T64) (I : T32) (hn : I 20 0 = nI n) (hn10 : n ≤ 10) : MX l yX5_undo cX5_undo 2 none [] (rmx 1 0 0) [.ref (ad 30 0)] (Pw Dg dA (mW A Dg dA ad D I)) (qW (fun _ : Unit => none) (fun _ H => ∃ D1, UN n D D1 ∧ mW A Dg dA ad D1 ((up2 I 23 0 (nI 0))) H) A) 0 0 A := by
  refine MX.start (Nat.le_of_ble_eq_true rfl) ?_
  intro p e s m args below meth c ls Q hAt hPc hl hQ
  have hl : lv_has ls 2 [(0, .ref (ad 30 0))] := hl
  obtain ⟨hx, hb, hml, hr, hlk, hown, hnm, htab, hts⟩ := id hAt
  obtain ⟨hK, hW⟩ := hPc
  have Z := Cx.of hAt hK
  have hS : va_S A s.heap s.heap [] := va_S.rf
  refine lv_iconst (v := nI 0) hx hb dX5_undo_0 rfl ?_
  refine lv_istore_n (lv' := [(1, .int (nI 0)), (0, .ref (ad 30 0))]) hx hb dX5_undo_1 rfl hl (by decide) rfl (fun ls hl => ?_)
  refine wl_up n 0 (fun i H locs ls => ∃ D1, lv_has ls 2 [(1, .int (nI i)), (0, .ref (ad 30 0))] ∧ UN i D D1 ∧ mW A Dg dA ad D1 I H ∧ va_S A s.heap H locs) (Nat.zero_le _) ⟨D, lv_sub hl [0, 1] rfl, UN.z, hW, hS⟩ ?_ ?_
  · intro i H locs ls hi hP ih
    obtain ⟨D1, hl, hun, hW, hS⟩ := hP
    refine lv_iload_n hx hb dX5_undo_2 rfl (lv_at hl 0 rfl) ?_
    refine lv_aload_n hx hb dX5_undo_3 rfl (lv_at hl 1 rfl) ?_
    refine g_I (x := nI n) Z hW kX5 rfl 14 (by decide) q754 (show (0 : Nat) < 1 by decide) rfl hn dX5_undo_4 ?_
    refine lv_nge (tgt := 64) hx hb (by omega) (by omega) dX5_undo_7 (by decide) (fun c => absurd c (by omega)) (fun c => ?_)
    refine lv_aload_n hx hb dX5_undo_10 rfl (lv_at hl 1 rfl) ?_
    refine w_getR (v := .ref (ad 31 0)) Z hW kX5 rfl 4 (by decide) q744 (show (0 : Nat) < 1 by decide) rfl rfl dX5_undo_11 ?_
    refine lv_iload_n hx hb dX5_undo_14 rfl (lv_at hl 0 rfl) ?_
    refine lv_aload_n hx hb dX5_undo_15 rfl (lv_at hl 1 rfl) ?_
    refine w_getR (v := .ref (ad 50 0)) Z hW kX5 rfl 27 (by decide) q767 (show (0 : Nat) < 1 by decide) rfl rfl dX5_undo_16 ?_
    refine lv_iload_n hx hb dX5_undo_19 rfl (lv_at hl 0 rfl) ?_
    refine a_D (j := i) (x := D 44 i) (ix := i) Z hW rfl (show (0 : Nat) < 1 by decide) (by omega) (by decide) rfl rfl (hun.far rfl) dX5_undo_20 ?_
    refine w_ads (j := i) (ix := i) Z hW hS rfl (show (0 : Nat) < 1 by decide) rfl (by omega) (by decide) (show (i : Nat) < 10 by omega) rfl rfl dX5_undo_21 (fun H locs hW hS => ?_)
    refine lv_aload_n hx hb dX5_undo_22 rfl (lv_at hl 1 rfl) ?_
    refine w_getR (v := .ref (ad 32 0)) Z hW kX5 rfl 5 (by decide) q745 (show (0 : Nat) < 1 by decide) rfl rfl dX5_undo_23 ?_
    refine lv_iload_n hx hb dX5_undo_26 rfl (lv_at hl 0 rfl) ?_
    refine lv_aload_n hx hb dX5_undo_27 rfl (lv_at hl 1 rfl) ?_
    refine w_getR (v := .ref (ad 51 0)) Z hW kX5 rfl 28 (by decide) q768 (show (0 : Nat) < 1 by decide) rfl rfl dX5_undo_28 ?_
    refine lv_iload_n hx hb dX5_undo_31 rfl (lv_at hl 0 rfl) ?_
    refine a_D (j := i) (x := D 45 i) (ix := i) Z hW rfl (show (0 : Nat) < 1 by decide) (by omega) (by decide) rfl rfl ((up2_f _ _ _ _ (by decide)).trans (hun.far rfl)) dX5_undo_32 ?_
    refine w_ads (j := i) (ix := i) Z hW hS rfl (show (0 : Nat) < 1 by decide) rfl (by omega) (by decide) (show (i : Nat) < 10 by omega) rfl rfl dX5_undo_33 (fun H locs hW hS => ?_)
    refine lv_aload_n hx hb dX5_undo_34 rfl (lv_at hl 1 rfl) ?_
    refine w_getR (v := .ref (ad 33 0)) Z hW kX5 rfl 6 (by decide) q746 (show (0 : Nat) < 1 by decide) rfl rfl dX5_undo_35 ?_
    refine lv_iload_n hx hb dX5_undo_38 rfl (lv_at hl 0 rfl) ?_
    refine lv_aload_n hx hb dX5_undo_39 rfl (lv_at hl 1 rfl) ?_
    refine w_getR (v := .ref (ad 52 0)) Z hW kX5 rfl 29 (by decide) q769 (show (0 : Nat) < 1 by decide) rfl rfl dX5_undo_40 ?_
    refine lv_iload_n hx hb dX5_undo_43 rfl (lv_at hl 0 rfl) ?_
    refine a_D (j := i) (x := D 46 i) (ix := i) Z hW rfl (show (0 : Nat) < 1 by decide) (by omega) (by decide) rfl rfl ((up2_f _ _ _ _ (by decide)).trans ((up2_f _ _ _ _ (by decide)).trans (hun.far rfl))) dX5_undo_44 ?_
    refine w_ads (j := i) (ix := i) Z hW hS rfl (show (0 : Nat) < 1 by decide) rfl (by omega) (by decide) (show (i : Nat) < 10 by omega) rfl rfl dX5_undo_45 (fun H locs hW hS => ?_)
    refine lv_aload_n hx hb dX5_undo_46 rfl (lv_at hl 1 rfl) ?_
    refine w_getR (v := .ref (ad 34 0)) Z hW kX5 rfl 7 (by decide) q747 (show (0 : Nat) < 1 by decide) rfl rfl dX5_undo_47 ?_
    refine lv_iload_n hx hb dX5_undo_50 rfl (lv_at hl 0 rfl) ?_
    refine lv_aload_n hx hb dX5_undo_51 rfl (lv_at hl 1 rfl) ?_
    refine w_getR (v := .ref (ad 53 0)) Z hW kX5 rfl 30 (by decide) q770 (show (0 : Nat) < 1 by decide) rfl rfl dX5_undo_52 ?_
    refine lv_iload_n hx hb dX5_undo_55 rfl (lv_at hl 0 rfl) ?_
    refine a_D (j := i) (x := D 47 i) (ix := i) Z hW rfl (show (0 : Nat) < 1 by decide) (by omega) (by decide) rfl rfl ((up2_f _ _ _ _ (by decide)).trans ((up2_f _ _ _ _ (by decide)).trans ((up2_f _ _ _ _ (by decide)).trans (hun.far rfl)))) dX5_undo_56 ?_
    refine w_ads (j := i) (ix := i) Z hW hS rfl (show (0 : Nat) < 1 by decide) rfl (by omega) (by decide) (show (i : Nat) < 10 by omega) rfl rfl dX5_undo_57 (fun H locs hW hS => ?_)
    refine lv_iinc1 (lv' := [(1, .int (nI (i + 1))), (0, .ref (ad 30 0))]) hx hb dX5_undo_58 hl (k := 0) rfl (by decide) rfl (fun ls hl => ?_)
    refine lv_goto (tgt := 2) hx hb dX5_undo_61 (by decide) ?_
    exact ih _ _ _ ⟨_, lv_sub hl [0, 1] rfl, hun.step, hW, hS⟩
  · intro H locs ls hP
    obtain ⟨D1, hl, hun, hW, hS⟩ := hP
    refine lv_iload_n hx hb dX5_undo_2 rfl (lv_at hl 0 rfl) ?_
    refine lv_aload_n hx hb dX5_undo_3 rfl (lv_at hl 1 rfl) ?_
    refine g_I (x := nI n) Z hW kX5 rfl 14 (by decide) q754 (show (0 : Nat) < 1 by decide) rfl hn dX5_undo_4 ?_
    refine lv_nge (tgt := 64) hx hb (by omega) (by omega) dX5_undo_7 (by decide) (fun c => ?_) (fun c => absurd c (by omega))
    refine lv_aload_n hx hb dX5_undo_64 rfl (lv_at hl 1 rfl) ?_
    refine lv_iconst (v := nI 0) hx hb dX5_undo_65 rfl ?_
    refine w_putI Z hW hS kX5 rfl 26 (by decide) (by decide) q766 rfl (show (0 : Nat) < 1 by decide) rfl rfl rfl dX5_undo_66 (fun H locs hW hS => ?_)
    rw [hQ]
    exact rW_v hx hb hr hlk hS (⟨D1, hun, hW⟩) dX5_undo_69
