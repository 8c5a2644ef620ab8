set_option maxRecDepth 100000
/-! ===== the class: force ===== -/
def s32 : Nat → Bool := fun f => Nat.beq f 32
def z32 (I : T32) : T32 := fun f i => bif Nat.beq f 32 then 0 else I f i
theorem z32_ag {I : T32} : exc s32 (z32 I) I := fun f i hf => by
  unfold s32 at hf
  unfold z32
  rw [hf]
  rfl
theorem z32_live {n nb nr f i : Nat} {I : T32} (h : live (cN n nb nr 0) 1 f i) : I f i = z32 I f i := by
  unfold z32
  cases hb : Nat.beq f 32 with
  | false => rfl
  | true =>
    have := Nat.eq_of_beq_eq_true hb
    subst this
    have h2 : 0 < 0 := h.2 rfl
    omega
theorem s32_c : ∀ f i, cI f i = true → s32 f = false := by
  intro f i h
  cases hb : s32 f with
  | false => rfl
  | true => have := Nat.eq_of_beq_eq_true hb; subst this; cases h
theorem cN_22 {n nb nr k : Nat} (h : k ≠ 22) : cN n nb nr 1 k = cN n nb nr 0 k := by
  unfold cN
  split <;> first | rfl | omega
theorem cN_drop {n nb nr : Nat} (k : Nat) : cN n nb nr 0 k ≤ cN n nb nr 1 k := by
  unfold cN
  split <;> first | exact Nat.le_refl _ | omega
theorem cR_22 {ad ad' : Nat → Nat → Nat} {n nb nr : Nat} {J : Jt} {R : Nat → Value} (h : ∀ k b, k ≠ 22 → ad' k b = ad k b) : cR ad' n nb nr J R = cR ad n nb nr J R := by
  funext f i
  unfold cR
  split <;> simp only [h _ _ (by decide : (10 : Nat) ≠ 22), h _ _ (by decide : (11 : Nat) ≠ 22), h _ _ (by decide : (12 : Nat) ≠ 22), h _ _ (by decide : (13 : Nat) ≠ 22), h _ _ (by decide : (5 : Nat) ≠ 22), h _ _ (by decide : (6 : Nat) ≠ 22), h _ _ (by decide : (14 : Nat) ≠ 22), h _ _ (by decide : (16 : Nat) ≠ 22), h _ _ (by decide : (17 : Nat) ≠ 22), h _ _ (by decide : (19 : Nat) ≠ 22), h _ _ (by decide : (21 : Nat) ≠ 22), h _ _ (by decide : (1 : Nat) ≠ 22), h _ _ (by decide : (2 : Nat) ≠ 22), h _ _ (by decide : (3 : Nat) ≠ 22), h _ _ (by decide : (4 : Nat) ≠ 22), h _ _ (by decide : (15 : Nat) ≠ 22), h _ _ (by decide : (18 : Nat) ≠ 22), h _ _ (by decide : (20 : Nat) ≠ 22)]
/-- all others -/
def oth (i m : Nat) : List Nat := (List.range m).filter (fun j => decide (j ≠ i))
theorem oth_add {i m : Nat} (h : ¬ m = i) : oth i (m + 1) = oth i m ++ [m] := by unfold oth; rw [List.range_succ, List.filter_append]; simp [h]
theorem oth_no {i m : Nat} (h : m = i) : oth i (m + 1) = oth i m := by unfold oth; rw [List.range_succ, List.filter_append]; simp [h]
theorem oth_len {i j : Nat} : (oth i j).length ≤ j := by
  have := List.length_filter_le (fun j => decide (j ≠ i)) (List.range j)
  rw [List.length_range] at this
  exact this
theorem oth_in {i m q : Nat} (h : q < (oth i m).length) : (oth i m).getD q 0 < m ∧ (oth i m).getD q 0 ≠ i := by
  have := getD_mem h
  unfold oth at this ⊢
  obtain ⟨h1, h2⟩ := List.mem_filter.mp this
  exact ⟨List.mem_range.mp h1, of_decide_eq_true h2⟩
theorem oth_row {I : T32} {js : List Nat} {j : Nat} (h : ∀ q, q < js.length → I 32 q = nI (js.getD q 0)) : ∀ q, q < (js ++ [j]).length → up2 I 32 js.length (nI j) 32 q = nI ((js ++ [j]).getD q 0) := by
  intro q hq
  rw [List.length_append, List.length_singleton] at hq
  rw [getD_app, up2_eq]
  by_cases e : q = js.length
  · rw [if_pos ⟨rfl, e⟩, if_neg (by omega), if_pos e]
  · rw [if_neg (fun z => e z.2), if_pos (by omega)]
    exact h q (by omega)
theorem oth_fPl {D : T64} {J : Jt} {i : Nat} : ∀ m, fPl D J i (oth i m) (oth i m).length = fPa D J i m
  | 0 => rfl
  | m + 1 => by
    by_cases h : m = i
    · rw [oth_no h, oth_fPl m]
      show _ = if m = i then _ else _
      rw [if_pos h]
    · have e0 : fPa D J i (m + 1) = fst2 D J i m (fPa D J i m) := if_neg h
      rw [oth_add h, List.length_append, List.length_singleton, e0]
      show fst2 D J i ((oth i m ++ [m]).getD (oth i m).length 0) (fPl D J i (oth i m ++ [m]) (oth i m).length) = _
      rw [fPl_app _ (Nat.le_refl _), oth_fPl m, getD_app, if_neg (Nat.lt_irrefl _), if_pos rfl]
theorem oth_force {D : T64} {J : Jt} {n nb i : Nat} : fCx D J nb i (oth i n) = FX D J n nb i := by unfold fCx FX; rw [oth_fPl]
theorem ovl_all {n nb nr : Nat} {J : Jt} {D : T64} (h : Bd n nb nr J D) (ho : ovl D n = false) {i : Nat} (hi : i < n) : ∀ a, a < n → a ≠ i → ¬ flt (wR D i a) 4562146422526312448 := by
  intro a ha hne hf
  by_cases q : i < a
  · exact ovl_f.mp ho i a q ha hf
  · exact ovl_f.mp ho a i (by omega) hi (near_sym h hi ha hf)
set_option maxHeartbeats 4000000 in
theorem m_C_force (l : Launch) (hfl : l.flags = flags0) (A : Nat → Prop) (Dg : va_G) (dA : Nat → ClassId) (x : Nat) (n : Nat) (nb : Nat) (nr : Nat) (J : Jt) (D0 : T64) (I0 : T32) (hI : Inv n nb nr J D0 I0) (k : Int32) (ax : Int32) : MX l yX1_force cX1_force 7 (some .double) [] (rmx 9 2 16) [.ref (x), .int (k), .int (ax)] (Px A Dg dA (CS A Dg dA x n nb nr J D0 I0)) (qX (fun r : UInt64 => some (.double r)) (fun r H => okFo k n ax ∧ ovl D0 n = false ∧ r = (if ax = 0 then (FX D0 J n nb (ix k)).1 else (FX D0 J n nb (ix k)).2) ∧ CS A Dg dA x n nb nr J D0 I0 H) (fun C H => ((¬ okFo k n ax ∧ C = "java/lang/IllegalArgumentException") ∧ CS A Dg dA x n nb nr J D0 I0 H) ∨ ((okFo k n ax ∧ ovl D0 n = true ∧ C = "java/lang/ArithmeticException") ∧ CS A Dg dA x n nb nr J D0 I0 H)) A) 1 10 A := by
  refine MX.start (Nat.le_of_ble_eq_true rfl) ?_
  intro p e s m args below meth c ls Q hAt hPc hl hQ
  have hl : lv_has ls 7 [(0, .ref (x)), (1, .int (k)), (2, .int (ax))] := hl
  obtain ⟨hx, hb, hml, hr, hlk, hown, hnm, htab, hts⟩ := id hAt
  obtain ⟨hK, hst, hA, hW⟩ := hPc
  have Z := Cx.of hAt hK
  have hS : va_S A s.heap s.heap [] := va_S.rf
  obtain ⟨ad, D, I, R, rfl, hW, hag, hagI, hwo, hNL⟩ := hW
  have hB := hI.bd
  have hn10 := hB.n10
  have hn : I 20 0 = nI n := (hagI 20 0 rfl).trans hI.cn.1
  have hnb : I 21 0 = nI nb := (hagI 21 0 rfl).trans hI.cn.2.1
  refine lv_aload_n hx hb dX1_force_0 rfl (lv_at hl 0 rfl) ?_
  refine lv_iload_n hx hb dX1_force_1 rfl (lv_at hl 1 rfl) ?_
  refine wx_x (wx_V (As := [.int (k)]) (rest := []) hAt.fix (m_X1_at l hfl A Dg dA ad n nb nr 0 J R D I k hn hn10) q432 q434 qs5 q435 wn_X1_at ⟨Nat.le_of_ble_eq_true rfl, Nat.le_of_ble_eq_true rfl, Nat.le_of_ble_eq_true rfl, Nat.le_of_ble_eq_true rfl⟩ (w_recv hK hW kX1 rfl (show (0 : Nat) < 1 by decide)) (Px.of hK hst hA hS hW) hl.1 (Nat.le_of_ble_eq_true rfl) dX1_force_2) hS (fun r H locs hW hz hS => ?_) (fun x C H locs hp hE hz hS => ?_)
  rotate_left
  · rw [hQ]
    obtain ⟨⟨hno, rfl⟩, hW⟩ := hp
    exact rT_x hlk htab rfl hS hE (Or.inl ⟨⟨fun q => hno q.1, rfl⟩, ⟨ad, _, _, _, rfl, hW, hag, hagI, hwo, hNL⟩⟩)
  obtain ⟨⟨i, hi, rfl, rfl⟩, hW⟩ := hW
  refine lv_astore_n (lv' := [(3, .ref (ad 2 i)), (0, .ref (ad 0 0)), (1, .int (nI i)), (2, .int (ax))]) hx hb dX1_force_5 rfl hl (by decide) rfl (fun ls hl => ?_)
  refine lv_iload_n hx hb dX1_force_6 rfl (lv_at hl 3 rfl) ?_
  refine lv_if_eq (tgt := 15) hx hb dX1_force_7 (by decide) (fun c1 => ?_) (fun c1 => ?_)
  · refine lv_iconst (v := nI 1) hx hb dX1_force_15 rfl ?_
    refine lv_goto (tgt := 20) hx hb dX1_force_16 (by decide) ?_
    refine wx_x (wx_S (As := [.int (nI 1)]) (rest := []) hAt.fix (m_X1_check l hfl A Dg dA ((fun H => cW A Dg dA ad n nb nr 0 J R D I H)) gr_W (nI 1)) q271 q272 q45 q273 wn_X1_check ⟨Nat.le_of_ble_eq_true rfl, Nat.le_of_ble_eq_true rfl, Nat.le_of_ble_eq_true rfl, Nat.le_of_ble_eq_true rfl⟩ (Px.of hK hst hA hS hW) hl.1 (Nat.le_of_ble_eq_true rfl) dX1_force_20) hS (fun r H locs hW hz hS => ?_) (fun x C H locs hp hE hz hS => ?_)
    rotate_left
    · exact absurd hp.1.1 (by decide)
    replace hW := hW.2
    have hok : okFo (nI i) n ax := ⟨⟨i, hi, rfl⟩, Or.inl c1⟩
    refine lv_aload_n hx hb dX1_force_23 rfl (lv_at hl 1 rfl) ?_
    refine wx_x (wx_V (As := []) (rest := []) hAt.fix (m_X1_checkOverlap l hfl A Dg dA ad n nb nr 0 J R D I D0 hag hB hn) q685 q687 qs20 q688 wn_X1_checkOverlap ⟨Nat.le_of_ble_eq_true rfl, Nat.le_of_ble_eq_true rfl, Nat.le_of_ble_eq_true rfl, Nat.le_of_ble_eq_true rfl⟩ (w_recv hK hW kX1 rfl (show (0 : Nat) < 1 by decide)) (Px.of hK hst hA hS hW) hl.1 (Nat.le_of_ble_eq_true rfl) dX1_force_24) hS (fun r H locs hW hz hS => ?_) (fun x C H locs hp hE hz hS => ?_)
    rotate_left
    · rw [hQ]
      obtain ⟨⟨ho, rfl⟩, D1, hex, hW⟩ := hp
      exact rT_x hlk htab rfl hS hE (Or.inr ⟨⟨hok, ho, rfl⟩, ⟨ad, D1, _, _, rfl, hW, hag.F hex, hagI, hwo.cg (hex 43 0 rfl) rfl, hNL⟩⟩)
    obtain ⟨ho, D1, hex, hW⟩ := hW
    have hag1 := hag.F hex
    have hwo1 : wOK D1 D0 := hwo.cg (hex 43 0 rfl) rfl
    refine lv_bipush (v := nI 10) hx hb dX1_force_27 rfl ?_
    replace hW := World.tab (fun _ => cN_ks) hW (D' := D1) (Rf' := cR ad n nb nr J R) (I' := z32 I) (fun _ _ _ => rfl) (fun f j hl => z32_live hl) (fun _ _ _ => rfl)
    refine w_newA (N' := cN n nb nr 1) (k := 22) (atype := .int) Z hW hS hA rfl rfl rfl q217 (hK.2 5 _ rfl).2 (c_sup _ _ _ _) rfl (fun k hk => cN_22 hk) (fun j hj => by show Value.int 0 = _; rfl) (by decide) (by decide) (by decide) (by decide) dX1_force_29 (fun H ad hold hW hS => ?_)
    have e00 := hold 0 0 (Or.inl (by decide))
    have e2i := hold 2 i (Or.inl (by decide))
    rw [← e00, ← e2i] at hl
    rw [← e00] at hQ
    rw [← cR_22 (fun k b h => hold k b (Or.inl h))] at hW
    have hz32 := z32_ag (I := I)
    have hn1 := (hz32 20 0 rfl).trans hn
    have hnb1 := (hz32 21 0 rfl).trans hnb
    clear hold
    generalize z32 I = I1 at hW hz32 hn1 hnb1
    refine lv_astore (lv' := [(4, .ref (ad 22 0)), (3, .ref (ad 2 i)), (0, .ref (ad 0 0)), (1, .int (nI i)), (2, .int (ax))]) hx hb dX1_force_31 hl (by decide) rfl (fun ls hl => ?_)
    refine lv_iconst (v := nI 0) hx hb dX1_force_33 rfl ?_
    refine lv_istore (lv' := [(5, .int (nI 0)), (4, .ref (ad 22 0)), (3, .ref (ad 2 i)), (0, .ref (ad 0 0)), (1, .int (nI i)), (2, .int (ax))]) hx hb dX1_force_34 hl (by decide) rfl (fun ls hl => ?_)
    refine lv_iconst (v := nI 0) hx hb dX1_force_36 rfl ?_
    refine lv_istore (lv' := [(6, .int (nI 0)), (5, .int (nI 0)), (4, .ref (ad 22 0)), (3, .ref (ad 2 i)), (0, .ref (ad 0 0)), (1, .int (nI i)), (2, .int (ax))]) hx hb dX1_force_37 hl (by decide) rfl (fun ls hl => ?_)
    have hi0 := hi
    refine wl_up n 0 (fun j H locs ls => ∃ I2, lv_has ls 7 [(6, .int (nI j)), (5, .int (nI (oth i j).length)), (4, .ref (ad 22 0)), (3, .ref (ad 2 i)), (0, .ref (ad 0 0)), (1, .int (nI i)), (2, .int (ax))] ∧ cW A Dg dA ad n nb nr 1 J R D1 I2 H ∧ va_S A s.heap H locs ∧ exc s32 I2 I1 ∧ ∀ q, q < (oth i j).length → I2 32 q = nI ((oth i j).getD q 0)) (Nat.zero_le _) ⟨I1, lv_sub hl [0, 1, 2, 3, 4, 5, 6] rfl, hW, hS, exc.rf, fun q hq => absurd hq (Nat.not_lt_zero q)⟩ ?_ ?_
    · intro j H locs ls hi1 hP ih
      obtain ⟨I2, hl, hW, hS, hex2, hrow⟩ := hP
      have hj := hi1
      have hn2 := (hex2 20 0 rfl).trans hn1
      have hnb2 := (hex2 21 0 rfl).trans hnb1
      have hol := oth_len (i := i) (j := j)
      refine lv_iload hx hb dX1_force_39 (lv_at hl 0 rfl) ?_
      refine lv_aload_n hx hb dX1_force_41 rfl (lv_at hl 4 rfl) ?_
      refine g_I (x := nI n) Z hW kX1 rfl 8 (by decide) q149 (show (0 : Nat) < 1 by decide) rfl hn2 dX1_force_42 ?_
      refine lv_nge (tgt := 70) hx hb (by omega) (by omega) dX1_force_45 (by decide) (fun c => absurd c (by omega)) (fun c => ?_)
      refine lv_iload hx hb dX1_force_48 (lv_at hl 0 rfl) ?_
      refine lv_iload_n hx hb dX1_force_50 rfl (lv_at hl 5 rfl) ?_
      refine lv_neq (tgt := 64) hx hb (by omega) (by omega) dX1_force_51 (by decide) (fun c2 => ?_) (fun c2 => ?_)
      · refine lv_iinc1 (lv' := [(6, .int (nI (j + 1))), (5, .int (nI (oth i j).length)), (4, .ref (ad 22 0)), (3, .ref (ad 2 i)), (0, .ref (ad 0 0)), (1, .int (nI i)), (2, .int (ax))]) hx hb dX1_force_64 hl (k := 0) rfl (by decide) rfl (fun ls hl => ?_)
        refine lv_goto (tgt := 39) hx hb dX1_force_67 (by decide) ?_
        have hl : lv_has ls 7 [(6, .int (nI (j + 1))), (5, .int (nI (oth i (j + 1)).length)), (4, .ref (ad 22 0)), (3, .ref (ad 2 i)), (0, .ref (ad 0 0)), (1, .int (nI i)), (2, .int (ax))] := by rw [oth_no c2]; exact lv_sub hl [0, 1, 2, 3, 4, 5, 6] rfl
        exact ih _ _ _ ⟨_, hl, hW, hS, hex2, by rw [oth_no c2]; exact hrow⟩
      · refine lv_aload hx hb dX1_force_54 (lv_at hl 2 rfl) ?_
        refine lv_iload hx hb dX1_force_56 (lv_at hl 1 rfl) ?_
        refine lv_iinc1 (lv' := [(5, .int (nI ((oth i j).length + 1))), (6, .int (nI j)), (4, .ref (ad 22 0)), (3, .ref (ad 2 i)), (0, .ref (ad 0 0)), (1, .int (nI i)), (2, .int (ax))]) hx hb dX1_force_58 hl (k := 1) rfl (by decide) rfl (fun ls hl => ?_)
        refine lv_iload hx hb dX1_force_61 (lv_at hl 1 rfl) ?_
        refine w_ais (j := ((oth i j).length)) (ix := (oth i j).length) Z hW hS rfl (show (0 : Nat) < 1 by decide) rfl (by omega) (by decide) (show ((oth i j).length : Nat) < 10 by omega) rfl rfl dX1_force_63 (fun H locs hW hS => ?_)
        refine lv_iinc1 (lv' := [(6, .int (nI (j + 1))), (5, .int (nI ((oth i j).length + 1))), (4, .ref (ad 22 0)), (3, .ref (ad 2 i)), (0, .ref (ad 0 0)), (1, .int (nI i)), (2, .int (ax))]) hx hb dX1_force_64 hl (k := 1) rfl (by decide) rfl (fun ls hl => ?_)
        refine lv_goto (tgt := 39) hx hb dX1_force_67 (by decide) ?_
        have hl : lv_has ls 7 [(6, .int (nI (j + 1))), (5, .int (nI (oth i (j + 1)).length)), (4, .ref (ad 22 0)), (3, .ref (ad 2 i)), (0, .ref (ad 0 0)), (1, .int (nI i)), (2, .int (ax))] := by rw [oth_add c2, List.length_append]; exact lv_sub hl [0, 1, 2, 3, 4, 5, 6] rfl
        exact ih _ _ _ ⟨_, hl, hW, hS, hex2.up rfl, by rw [oth_add c2]; exact oth_row hrow⟩
    · intro H locs ls hP
      obtain ⟨I2, hl, hW, hS, hex2, hrow⟩ := hP
      have hn2 := (hex2 20 0 rfl).trans hn1
      have hnb2 := (hex2 21 0 rfl).trans hnb1
      have hol := oth_len (i := i) (j := n)
      refine lv_iload hx hb dX1_force_39 (lv_at hl 0 rfl) ?_
      refine lv_aload_n hx hb dX1_force_41 rfl (lv_at hl 4 rfl) ?_
      refine g_I (x := nI n) Z hW kX1 rfl 8 (by decide) q149 (show (0 : Nat) < 1 by decide) rfl hn2 dX1_force_42 ?_
      refine lv_nge (tgt := 70) hx hb (by omega) (by omega) dX1_force_45 (by decide) (fun c => ?_) (fun c => absurd c (by omega))
      refine lv_aload_n hx hb dX1_force_70 rfl (lv_at hl 4 rfl) ?_
      refine lv_aload_n hx hb dX1_force_71 rfl (lv_at hl 3 rfl) ?_
      refine lv_aload hx hb dX1_force_72 (lv_at hl 2 rfl) ?_
      refine lv_iload hx hb dX1_force_74 (lv_at hl 1 rfl) ?_
      have hno : ∀ a, a < n → a ≠ i → ¬ flt (wR D0 i a) 4562146422526312448 := ovl_all hB ho hi
      refine wx_x (wx_V (As := [.ref (ad 2 i), .ref (ad 22 0), .int (nI (oth i n).length)]) (rest := []) hAt.fix (m_X1_forceOn l hfl A Dg dA ad n nb nr 1 J R D1 I2 D0 hag1 hB hnb2 i hi 22 0 32 rfl ((fun _ => rfl)) ((show (0 : Nat) < 1 by decide)) ((oth i n)) ((by omega)) ((fun q hq => ⟨hrow q hq, (oth_in hq).1⟩))) q579 q581 qs10 q582 wn_X1_forceOn ⟨Nat.le_of_ble_eq_true rfl, Nat.le_of_ble_eq_true rfl, Nat.le_of_ble_eq_true rfl, Nat.le_of_ble_eq_true rfl⟩ (w_recv hK hW kX1 rfl (show (0 : Nat) < 1 by decide)) (Px.of hK hst hA hS hW) hl.1 (Nat.le_of_ble_eq_true rfl) dX1_force_76) hS (fun r H locs hW hz hS => ?_) (fun x C H locs hp hE hz hS => ?_)
      rotate_left
      · obtain ⟨⟨⟨q, hq, hf⟩, -⟩, -⟩ := hp
        exact absurd hf (hno _ (oth_in hq).1 (oth_in hq).2)
      obtain ⟨-, D2, R2, hex3, hW⟩ := hW
      have hfx : fCx D0 J nb i (oth i n) = FX D0 J n nb i := oth_force
      rw [hfx] at hex3
      have h30 : D2 30 i = (FX D0 J n nb i).1 := (hex3 30 i rfl).trans ((up2_f _ _ _ _ (by decide)).trans (up2_same _ _ _ _))
      have h31 : D2 31 i = (FX D0 J n nb i).2 := (hex3 31 i rfl).trans (up2_same _ _ _ _)
      have hag2 : agD D2 D0 := ((hag1.up rfl).up rfl).F hex3
      have hwo2 : wOK D2 D0 := hwo1.cg ((hex3 43 0 rfl).trans ((up2_f _ _ _ _ (by decide)).trans (up2_f _ _ _ _ (by decide)))) rfl
      refine lv_iload_n hx hb dX1_force_79 rfl (lv_at hl 6 rfl) ?_
      refine lv_if_ne (tgt := 90) hx hb dX1_force_80 (by decide) (fun c3 => ?_) (fun c3 => ?_)
      · refine lv_aload_n hx hb dX1_force_90 rfl (lv_at hl 3 rfl) ?_
        refine g_D (x := (FX D0 J n nb i).2) Z hW kX6 rfl 8 (by decide) q385 (show (i : Nat) < n by omega) rfl h31 dX1_force_91 ?_
        rw [hQ]
        exact rX (rW_d hx hb hr hlk hS (⟨hok, ho, by rw [ix_nI (by omega)]; exact (if_neg c3).symm, ad, _, _, _, rfl, World.drop hW (c_sup _ _ _ _) cN_drop, hag2, hagI.of ((hex2.trans hz32)) s32_c, hwo2, fun q => (hNL q).cgJ (hex2.trans hz32) rfl rfl⟩) dX1_force_94)
      · refine lv_aload_n hx hb dX1_force_83 rfl (lv_at hl 3 rfl) ?_
        refine g_D (x := (FX D0 J n nb i).1) Z hW kX6 rfl 7 (by decide) q383 (show (i : Nat) < n by omega) rfl h30 dX1_force_84 ?_
        refine lv_goto (tgt := 94) hx hb dX1_force_87 (by decide) ?_
        rw [hQ]
        exact rX (rW_d hx hb hr hlk hS (⟨hok, ho, by rw [ix_nI (by omega)]; exact (if_pos c3).symm, ad, _, _, _, rfl, World.drop hW (c_sup _ _ _ _) cN_drop, hag2, hagI.of ((hex2.trans hz32)) s32_c, hwo2, fun q => (hNL q).cgJ (hex2.trans hz32) rfl rfl⟩) dX1_force_94)
  · refine lv_iload_n hx hb dX1_force_10 rfl (lv_at hl 3 rfl) ?_
    refine lv_iconst (v := nI 1) hx hb dX1_force_11 rfl ?_
    refine lv_icmp_ne (tgt := 19) hx hb dX1_force_12 (by decide) (fun c4 => ?_) (fun c4 => ?_)
    · refine lv_iconst (v := nI 0) hx hb dX1_force_19 rfl ?_
      refine wx_x (wx_S (As := [.int (nI 0)]) (rest := []) hAt.fix (m_X1_check l hfl A Dg dA ((fun H => cW A Dg dA ad n nb nr 0 J R D I H)) gr_W (nI 0)) q271 q272 q45 q273 wn_X1_check ⟨Nat.le_of_ble_eq_true rfl, Nat.le_of_ble_eq_true rfl, Nat.le_of_ble_eq_true rfl, Nat.le_of_ble_eq_true rfl⟩ (Px.of hK hst hA hS hW) hl.1 (Nat.le_of_ble_eq_true rfl) dX1_force_20) hS (fun r H locs hW hz hS => ?_) (fun x C H locs hp hE hz hS => ?_)
      · exact absurd nI_0 hW.1
      · rw [hQ]
        obtain ⟨⟨-, rfl⟩, hW⟩ := hp
        exact rT_x hlk htab rfl hS hE (Or.inl ⟨⟨fun q => q.2.elim c1 c4, rfl⟩, ⟨ad, _, _, _, rfl, hW, hag, hagI, hwo, hNL⟩⟩)
    · refine lv_iconst (v := nI 1) hx hb dX1_force_15 rfl ?_
      refine lv_goto (tgt := 20) hx hb dX1_force_16 (by decide) ?_
      refine wx_x (wx_S (As := [.int (nI 1)]) (rest := []) hAt.fix (m_X1_check l hfl A Dg dA ((fun H => cW A Dg dA ad n nb nr 0 J R D I H)) gr_W (nI 1)) q271 q272 q45 q273 wn_X1_check ⟨Nat.le_of_ble_eq_true rfl, Nat.le_of_ble_eq_true rfl, Nat.le_of_ble_eq_true rfl, Nat.le_of_ble_eq_true rfl⟩ (Px.of hK hst hA hS hW) hl.1 (Nat.le_of_ble_eq_true rfl) dX1_force_20) hS (fun r H locs hW hz hS => ?_) (fun x C H locs hp hE hz hS => ?_)
      rotate_left
      · exact absurd hp.1.1 (by decide)
      replace hW := hW.2
      have hok : okFo (nI i) n ax := ⟨⟨i, hi, rfl⟩, Or.inr c4⟩
      refine lv_aload_n hx hb dX1_force_23 rfl (lv_at hl 1 rfl) ?_
      refine wx_x (wx_V (As := []) (rest := []) hAt.fix (m_X1_checkOverlap l hfl A Dg dA ad n nb nr 0 J R D I D0 hag hB hn) q685 q687 qs20 q688 wn_X1_checkOverlap ⟨Nat.le_of_ble_eq_true rfl, Nat.le_of_ble_eq_true rfl, Nat.le_of_ble_eq_true rfl, Nat.le_of_ble_eq_true rfl⟩ (w_recv hK hW kX1 rfl (show (0 : Nat) < 1 by decide)) (Px.of hK hst hA hS hW) hl.1 (Nat.le_of_ble_eq_true rfl) dX1_force_24) hS (fun r H locs hW hz hS => ?_) (fun x C H locs hp hE hz hS => ?_)
      rotate_left
      · rw [hQ]
        obtain ⟨⟨ho, rfl⟩, D1, hex, hW⟩ := hp
        exact rT_x hlk htab rfl hS hE (Or.inr ⟨⟨hok, ho, rfl⟩, ⟨ad, D1, _, _, rfl, hW, hag.F hex, hagI, hwo.cg (hex 43 0 rfl) rfl, hNL⟩⟩)
      obtain ⟨ho, D1, hex, hW⟩ := hW
      have hag1 := hag.F hex
      have hwo1 : wOK D1 D0 := hwo.cg (hex 43 0 rfl) rfl
      refine lv_bipush (v := nI 10) hx hb dX1_force_27 rfl ?_
      replace hW := World.tab (fun _ => cN_ks) hW (D' := D1) (Rf' := cR ad n nb nr J R) (I' := z32 I) (fun _ _ _ => rfl) (fun f j hl => z32_live hl) (fun _ _ _ => rfl)
      refine w_newA (N' := cN n nb nr 1) (k := 22) (atype := .int) Z hW hS hA rfl rfl rfl q217 (hK.2 5 _ rfl).2 (c_sup _ _ _ _) rfl (fun k hk => cN_22 hk) (fun j hj => by show Value.int 0 = _; rfl) (by decide) (by decide) (by decide) (by decide) dX1_force_29 (fun H ad hold hW hS => ?_)
      have e00 := hold 0 0 (Or.inl (by decide))
      have e2i := hold 2 i (Or.inl (by decide))
      rw [← e00, ← e2i] at hl
      rw [← e00] at hQ
      rw [← cR_22 (fun k b h => hold k b (Or.inl h))] at hW
      have hz32 := z32_ag (I := I)
      have hn1 := (hz32 20 0 rfl).trans hn
      have hnb1 := (hz32 21 0 rfl).trans hnb
      clear hold
      generalize z32 I = I1 at hW hz32 hn1 hnb1
      refine lv_astore (lv' := [(4, .ref (ad 22 0)), (3, .ref (ad 2 i)), (0, .ref (ad 0 0)), (1, .int (nI i)), (2, .int (ax))]) hx hb dX1_force_31 hl (by decide) rfl (fun ls hl => ?_)
      refine lv_iconst (v := nI 0) hx hb dX1_force_33 rfl ?_
      refine lv_istore (lv' := [(5, .int (nI 0)), (4, .ref (ad 22 0)), (3, .ref (ad 2 i)), (0, .ref (ad 0 0)), (1, .int (nI i)), (2, .int (ax))]) hx hb dX1_force_34 hl (by decide) rfl (fun ls hl => ?_)
      refine lv_iconst (v := nI 0) hx hb dX1_force_36 rfl ?_
      refine lv_istore (lv' := [(6, .int (nI 0)), (5, .int (nI 0)), (4, .ref (ad 22 0)), (3, .ref (ad 2 i)), (0, .ref (ad 0 0)), (1, .int (nI i)), (2, .int (ax))]) hx hb dX1_force_37 hl (by decide) rfl (fun ls hl => ?_)
      have hi0 := hi
      refine wl_up n 0 (fun j H locs ls => ∃ I2, lv_has ls 7 [(6, .int (nI j)), (5, .int (nI (oth i j).length)), (4, .ref (ad 22 0)), (3, .ref (ad 2 i)), (0, .ref (ad 0 0)), (1, .int (nI i)), (2, .int (ax))] ∧ cW A Dg dA ad n nb nr 1 J R D1 I2 H ∧ va_S A s.heap H locs ∧ exc s32 I2 I1 ∧ ∀ q, q < (oth i j).length → I2 32 q = nI ((oth i j).getD q 0)) (Nat.zero_le _) ⟨I1, lv_sub hl [0, 1, 2, 3, 4, 5, 6] rfl, hW, hS, exc.rf, fun q hq => absurd hq (Nat.not_lt_zero q)⟩ ?_ ?_
      · intro j H locs ls hi1 hP ih
        obtain ⟨I2, hl, hW, hS, hex2, hrow⟩ := hP
        have hj := hi1
        have hn2 := (hex2 20 0 rfl).trans hn1
        have hnb2 := (hex2 21 0 rfl).trans hnb1
        have hol := oth_len (i := i) (j := j)
        refine lv_iload hx hb dX1_force_39 (lv_at hl 0 rfl) ?_
        refine lv_aload_n hx hb dX1_force_41 rfl (lv_at hl 4 rfl) ?_
        refine g_I (x := nI n) Z hW kX1 rfl 8 (by decide) q149 (show (0 : Nat) < 1 by decide) rfl hn2 dX1_force_42 ?_
        refine lv_nge (tgt := 70) hx hb (by omega) (by omega) dX1_force_45 (by decide) (fun c => absurd c (by omega)) (fun c => ?_)
        refine lv_iload hx hb dX1_force_48 (lv_at hl 0 rfl) ?_
        refine lv_iload_n hx hb dX1_force_50 rfl (lv_at hl 5 rfl) ?_
        refine lv_neq (tgt := 64) hx hb (by omega) (by omega) dX1_force_51 (by decide) (fun c5 => ?_) (fun c5 => ?_)
        · refine lv_iinc1 (lv' := [(6, .int (nI (j + 1))), (5, .int (nI (oth i j).length)), (4, .ref (ad 22 0)), (3, .ref (ad 2 i)), (0, .ref (ad 0 0)), (1, .int (nI i)), (2, .int (ax))]) hx hb dX1_force_64 hl (k := 0) rfl (by decide) rfl (fun ls hl => ?_)
          refine lv_goto (tgt := 39) hx hb dX1_force_67 (by decide) ?_
          have hl : lv_has ls 7 [(6, .int (nI (j + 1))), (5, .int (nI (oth i (j + 1)).length)), (4, .ref (ad 22 0)), (3, .ref (ad 2 i)), (0, .ref (ad 0 0)), (1, .int (nI i)), (2, .int (ax))] := by rw [oth_no c5]; exact lv_sub hl [0, 1, 2, 3, 4, 5, 6] rfl
          exact ih _ _ _ ⟨_, hl, hW, hS, hex2, by rw [oth_no c5]; exact hrow⟩
        · refine lv_aload hx hb dX1_force_54 (lv_at hl 2 rfl) ?_
          refine lv_iload hx hb dX1_force_56 (lv_at hl 1 rfl) ?_
          refine lv_iinc1 (lv' := [(5, .int (nI ((oth i j).length + 1))), (6, .int (nI j)), (4, .ref (ad 22 0)), (3, .ref (ad 2 i)), (0, .ref (ad 0 0)), (1, .int (nI i)), (2, .int (ax))]) hx hb dX1_force_58 hl (k := 1) rfl (by decide) rfl (fun ls hl => ?_)
          refine lv_iload hx hb dX1_force_61 (lv_at hl 1 rfl) ?_
          refine w_ais (j := ((oth i j).length)) (ix := (oth i j).length) Z hW hS rfl (show (0 : Nat) < 1 by decide) rfl (by omega) (by decide) (show ((oth i j).length : Nat) < 10 by omega) rfl rfl dX1_force_63 (fun H locs hW hS => ?_)
          refine lv_iinc1 (lv' := [(6, .int (nI (j + 1))), (5, .int (nI ((oth i j).length + 1))), (4, .ref (ad 22 0)), (3, .ref (ad 2 i)), (0, .ref (ad 0 0)), (1, .int (nI i)), (2, .int (ax))]) hx hb dX1_force_64 hl (k := 1) rfl (by decide) rfl (fun ls hl => ?_)
          refine lv_goto (tgt := 39) hx hb dX1_force_67 (by decide) ?_
          have hl : lv_has ls 7 [(6, .int (nI (j + 1))), (5, .int (nI (oth i (j + 1)).length)), (4, .ref (ad 22 0)), (3, .ref (ad 2 i)), (0, .ref (ad 0 0)), (1, .int (nI i)), (2, .int (ax))] := by rw [oth_add c5, List.length_append]; exact lv_sub hl [0, 1, 2, 3, 4, 5, 6] rfl
          exact ih _ _ _ ⟨_, hl, hW, hS, hex2.up rfl, by rw [oth_add c5]; exact oth_row hrow⟩
      · intro H locs ls hP
        obtain ⟨I2, hl, hW, hS, hex2, hrow⟩ := hP
        have hn2 := (hex2 20 0 rfl).trans hn1
        have hnb2 := (hex2 21 0 rfl).trans hnb1
        have hol := oth_len (i := i) (j := n)
        refine lv_iload hx hb dX1_force_39 (lv_at hl 0 rfl) ?_
        refine lv_aload_n hx hb dX1_force_41 rfl (lv_at hl 4 rfl) ?_
        refine g_I (x := nI n) Z hW kX1 rfl 8 (by decide) q149 (show (0 : Nat) < 1 by decide) rfl hn2 dX1_force_42 ?_
        refine lv_nge (tgt := 70) hx hb (by omega) (by omega) dX1_force_45 (by decide) (fun c => ?_) (fun c => absurd c (by omega))
        refine lv_aload_n hx hb dX1_force_70 rfl (lv_at hl 4 rfl) ?_
        refine lv_aload_n hx hb dX1_force_71 rfl (lv_at hl 3 rfl) ?_
        refine lv_aload hx hb dX1_force_72 (lv_at hl 2 rfl) ?_
        refine lv_iload hx hb dX1_force_74 (lv_at hl 1 rfl) ?_
        have hno : ∀ a, a < n → a ≠ i → ¬ flt (wR D0 i a) 4562146422526312448 := ovl_all hB ho hi
        refine wx_x (wx_V (As := [.ref (ad 2 i), .ref (ad 22 0), .int (nI (oth i n).length)]) (rest := []) hAt.fix (m_X1_forceOn l hfl A Dg dA ad n nb nr 1 J R D1 I2 D0 hag1 hB hnb2 i hi 22 0 32 rfl ((fun _ => rfl)) ((show (0 : Nat) < 1 by decide)) ((oth i n)) ((by omega)) ((fun q hq => ⟨hrow q hq, (oth_in hq).1⟩))) q579 q581 qs10 q582 wn_X1_forceOn ⟨Nat.le_of_ble_eq_true rfl, Nat.le_of_ble_eq_true rfl, Nat.le_of_ble_eq_true rfl, Nat.le_of_ble_eq_true rfl⟩ (w_recv hK hW kX1 rfl (show (0 : Nat) < 1 by decide)) (Px.of hK hst hA hS hW) hl.1 (Nat.le_of_ble_eq_true rfl) dX1_force_76) hS (fun r H locs hW hz hS => ?_) (fun x C H locs hp hE hz hS => ?_)
        rotate_left
        · obtain ⟨⟨⟨q, hq, hf⟩, -⟩, -⟩ := hp
          exact absurd hf (hno _ (oth_in hq).1 (oth_in hq).2)
        obtain ⟨-, D2, R2, hex3, hW⟩ := hW
        have hfx : fCx D0 J nb i (oth i n) = FX D0 J n nb i := oth_force
        rw [hfx] at hex3
        have h30 : D2 30 i = (FX D0 J n nb i).1 := (hex3 30 i rfl).trans ((up2_f _ _ _ _ (by decide)).trans (up2_same _ _ _ _))
        have h31 : D2 31 i = (FX D0 J n nb i).2 := (hex3 31 i rfl).trans (up2_same _ _ _ _)
        have hag2 : agD D2 D0 := ((hag1.up rfl).up rfl).F hex3
        have hwo2 : wOK D2 D0 := hwo1.cg ((hex3 43 0 rfl).trans ((up2_f _ _ _ _ (by decide)).trans (up2_f _ _ _ _ (by decide)))) rfl
        refine lv_iload_n hx hb dX1_force_79 rfl (lv_at hl 6 rfl) ?_
        refine lv_if_ne (tgt := 90) hx hb dX1_force_80 (by decide) (fun c6 => ?_) (fun c6 => ?_)
        · refine lv_aload_n hx hb dX1_force_90 rfl (lv_at hl 3 rfl) ?_
          refine g_D (x := (FX D0 J n nb i).2) Z hW kX6 rfl 8 (by decide) q385 (show (i : Nat) < n by omega) rfl h31 dX1_force_91 ?_
          rw [hQ]
          exact rX (rW_d hx hb hr hlk hS (⟨hok, ho, by rw [ix_nI (by omega)]; exact (if_neg c6).symm, ad, _, _, _, rfl, World.drop hW (c_sup _ _ _ _) cN_drop, hag2, hagI.of ((hex2.trans hz32)) s32_c, hwo2, fun q => (hNL q).cgJ (hex2.trans hz32) rfl rfl⟩) dX1_force_94)
        · refine lv_aload_n hx hb dX1_force_83 rfl (lv_at hl 3 rfl) ?_
          refine g_D (x := (FX D0 J n nb i).1) Z hW kX6 rfl 7 (by decide) q383 (show (i : Nat) < n by omega) rfl h30 dX1_force_84 ?_
          refine lv_goto (tgt := 94) hx hb dX1_force_87 (by decide) ?_
          rw [hQ]
          exact rX (rW_d hx hb hr hlk hS (⟨hok, ho, by rw [ix_nI (by omega)]; exact (if_pos c6).symm, ad, _, _, _, rfl, World.drop hW (c_sup _ _ _ _) cN_drop, hag2, hagI.of ((hex2.trans hz32)) s32_c, hwo2, fun q => (hNL q).cgJ (hex2.trans hz32) rfl rfl⟩) dX1_force_94)
