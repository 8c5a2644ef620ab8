set_option maxRecDepth 100000
/-! ===== the class: step ===== -/
theorem s37_c : ∀ f, cD f = true → s37 f = false := by
  intro f h
  cases hb : s37 f with
  | false => rfl
  | true => have := Nat.eq_of_beq_eq_true hb; subst this; cases h
theorem NL.cgJ {S : Nat → Bool} {D : T64} {I I1 : T32} {n : Nat} (h : NL D I n) (hI : exc S I1 I) (h30 : S 30 = false) (h31 : S 31 = false) : NL D I1 n := fun i hi => (h i hi).cg hI h30 h31
theorem wrm_23 {w : UInt64} {n : Nat} {I : T32} {D : T64} {i : Nat} : wrm w n I D 23 i = D 23 i := by
  by_cases hf : fge w FP.dconst0
  · rw [wrm_t hf]; exact rsc_exc 23 i rfl
  · rw [wrm_f hf]
theorem agI_un {I1 Ik I3 : T32} {a b : Int32} (h : agI I1 Ik) (he : exc sI I3 I1) (hb : I3 25 0 = b) : agI (up2 (up2 I3 40 0 a) 23 0 (nI 0)) (up2 (up2 Ik 25 0 b) 23 0 (nI 0)) := by
  have h1 : agI I3 (up2 (up2 Ik 23 0 (I3 23 0)) 25 0 b) := h.ls he rfl hb
  have h2 : agI (up2 I3 40 0 a) (up2 (up2 Ik 23 0 (I3 23 0)) 25 0 b) := h1.up rfl
  have h3 := h2.put 23 0 (nI 0)
  intro f i hf
  rw [h3 f i hf, up2_eq, up2_eq, up2_eq, up2_eq, up2_eq]
  by_cases q : f = 23 ∧ i = 0
  · rw [if_pos q, if_pos q]
  · rw [if_neg q, if_neg q, if_neg q]
/-- given back up to m -/
def RS (D4 D1 D3 : T64) (m : Nat) : Prop := (∀ a, a < m → ∀ f, s4 0 1 2 3 f = true → D4 f a = D1 f a) ∧ exc (s4 0 1 2 3) D4 D3
theorem RS.z {D1 D3 : T64} : RS D3 D1 D3 0 := ⟨fun a ha => absurd ha (Nat.not_lt_zero a), exc.rf⟩
theorem s4_or {a b c d f : Nat} (h : s4 a b c d f = true) : f = a ∨ f = b ∨ f = c ∨ f = d := by
  unfold s4 at h
  rw [Bool.or_eq_true, Bool.or_eq_true, Bool.or_eq_true, Nat.beq_eq, Nat.beq_eq, Nat.beq_eq, Nat.beq_eq] at h
  exact h
theorem RS.step {D4 D1 D3 : T64} {i n : Nat} (h : RS D4 D1 D3 i) (hsv : SV D3 D1 n) (hi : i < n) : RS (rsD D4 i) D1 D3 (i + 1) := by
  rw [rs_step (D := D1) (E := D3) (fun a ha => hsv a (by omega)) (fun j => h.2 37 j rfl)]
  refine ⟨fun a ha f hf => ?_, (((h.2.up rfl).up rfl).up rfl).up rfl⟩
  rw [up2_eq, up2_eq, up2_eq, up2_eq]
  by_cases hq : a = i
  · subst hq
    rcases s4_or hf with rfl | rfl | rfl | rfl <;> simp
  · simp only [hq, and_false, if_false]
    exact h.1 a (by omega) f hf
/-- what no cell holds is free to choose -/
def hiT (n : Nat) (E D : T64) : T64 := fun f i => bif s4 0 1 2 3 f && Nat.ble n i then E f i else D f i
theorem src_hi : (w_ksC.all fun k => (List.range (w_len k)).all fun j => !(Nat.beq (w_src k j).1 0 && s4 0 1 2 3 (w_src k j).2.1) || (Nat.beq k 2 && Nat.beq (w_src k j).2.2 0)) = true := by decide +kernel
theorem cW_hi {A : Nat → Prop} {Dg : va_G} {dA : Nat → ClassId} {ad : Nat → Nat → Nat} {n nb nr no : Nat} {J : Jt} {R : Nat → Value} {D E : T64} {I : T32} {H : Heap} (h : cW A Dg dA ad n nb nr no J R D I H) : cW A Dg dA ad n nb nr no J R (hiT n E D) I H := by
  refine World.congr h (fun k b j hb hj => ?_)
  rcases hs : w_src k j with ⟨t, f, st⟩
  unfold wV
  rw [hs]
  match t, hs with
  | 0, hs =>
    show Value.double (D f (wix st b j)) = .double (hiT n E D f (wix st b j))
    unfold hiT
    cases h4 : s4 0 1 2 3 f with
    | false => rfl
    | true =>
      have hk : k ∈ w_ksC := by
        unfold cN at hb
        split at hb <;> first | decide | omega
      have h1 := List.all_eq_true.mp (List.all_eq_true.mp src_hi k hk) j (List.mem_range.mpr hj)
      rw [hs] at h1
      simp only [h4, Nat.beq_refl, Bool.and_self, Bool.not_true, Bool.false_or, Bool.and_eq_true, Nat.beq_eq] at h1
      obtain ⟨rfl, rfl⟩ := h1
      have hb : b < n := hb
      have : Nat.ble n (wix 0 b j) = false := by
        cases hq : Nat.ble n (wix 0 b j) with
        | false => rfl
        | true => rw [Nat.ble_eq] at hq; exact absurd hq (by show ¬ n ≤ b; omega)
      rw [this]
      rfl
  | 1, _ => rfl
  | t + 2, _ => rfl
theorem RS.ag {D4 D1 D3 Dk E : T64} {n : Nat} (h : RS D4 D1 D3 n) (hU : agU D3 E) (hag : agD D1 Dk) : agD (hiT n Dk D4) (undoT Dk E) := by
  intro f i hf
  unfold hiT undoT
  cases h4 : s4 0 1 2 3 f with
  | false => show D4 f i = E f i; exact (h.2 f i h4).trans (hU f i hf h4)
  | true =>
    show (bif Nat.ble n i then Dk f i else D4 f i) = Dk f i
    cases hb : Nat.ble n i with
    | true => rfl
    | false => exact (h.1 i (by rw [← Bool.not_eq_true, Nat.ble_eq] at hb; omega) f h4).trans (hag f i hf)
theorem ex_keep {H1 H : Heap} {s : State} {A : Nat → Prop} {x : Nat} {C : String} (h : ∃ cell, H[x]? = some cell ∧ cell.vm = .none ∧ s.vm.findClass C = some cell.cls) (hF : ∀ q, q < H.size → ¬ (A q ∧ q ≠ x) → H1[q]? = H[q]?) : ∃ cell, H1[x]? = some cell ∧ cell.vm = .none ∧ s.vm.findClass C = some cell.cls := by
  obtain ⟨cell, h1, h2, h3⟩ := h
  exact ⟨cell, (hF x (Array.getElem?_eq_some_iff.mp h1).1 (fun q => q.2 rfl)).trans h1, h2, h3⟩
theorem ex_put {H1 H : Heap} {s : State} {b x : Nat} {C : String} (h : ∃ cell, H[x]? = some cell ∧ cell.vm = .none ∧ s.vm.findClass C = some cell.cls) (hb : b ≠ x) (hF : ∀ q : Nat, q ≠ b → H1[q]? = H[q]?) : ∃ cell, H1[x]? = some cell ∧ cell.vm = .none ∧ s.vm.findClass C = some cell.cls := by
  obtain ⟨cell, h1, h2, h3⟩ := h
  exact ⟨cell, (hF x (Ne.symm hb)).trans h1, h2, h3⟩
set_option maxHeartbeats 4000000 in
theorem m_C_step (l : Launch) (hfl : l.flags = flags0) (A : Nat → Prop) (Dg : va_G) (dA : Nat → ClassId) (x : Nat) (n : Nat) (nb : Nat) (nr : Nat) (J : Jt) (D0 : T64) (I0 : T32) (hI : Inv n nb nr J D0 I0) (k : Int32) (d : Int32) : MX l yX1_step cX1_step 6 none [((88 : Nat), (117 : Nat), (120 : Nat), (224 : Nat))] (rmx 11 1 6) [.ref (x), .int (k), .int (d)] (Px A Dg dA (CS A Dg dA x n nb nr J D0 I0)) (qX (fun _ : Unit => none) (fun _ H => okSt k d ∧ ¬ n = 0 ∧ (stn (FP.ddiv (FP.i2d d) 4652218415073722368) n nb nr J (ix k) D0 I0).1 = true ∧ CS A Dg dA x n nb nr J ((stn (FP.ddiv (FP.i2d d) 4652218415073722368) n nb nr J (ix k) D0 I0).2.1) ((stn (FP.ddiv (FP.i2d d) 4652218415073722368) n nb nr J (ix k) D0 I0).2.2) H) (fun C H => ((¬ okSt k d ∧ C = "java/lang/IllegalArgumentException") ∧ CS A Dg dA x n nb nr J D0 I0 H) ∨ ((okSt k d ∧ n = 0 ∧ C = "java/lang/IllegalStateException") ∧ CS A Dg dA x n nb nr J D0 I0 H) ∨ ((okSt k d ∧ ¬ n = 0 ∧ (stn (FP.ddiv (FP.i2d d) 4652218415073722368) n nb nr J (ix k) D0 I0).1 = false ∧ C = "java/lang/ArithmeticException") ∧ CS A Dg dA x n nb nr J ((stn (FP.ddiv (FP.i2d d) 4652218415073722368) n nb nr J (ix k) D0 I0).2.1) ((stn (FP.ddiv (FP.i2d d) 4652218415073722368) n nb nr J (ix k) D0 I0).2.2) H)) A) 0 0 A := by
  refine MX.start (Nat.le_of_ble_eq_true rfl) ?_
  intro p e s m args below meth c ls Q hAt hPc hl hQ
  have hl : lv_has ls 6 [(0, .ref (x)), (1, .int (k)), (2, .int (d))] := hl
  obtain ⟨hx, hb, hml, hr, hlk, hown, hnm, htab, hts⟩ := id hAt
  obtain ⟨hK, hst, hA, hW⟩ := hPc
  have Z := Cx.of hAt hK
  have hS : va_S A s.heap s.heap [] := va_S.rf
  obtain ⟨ad, D, I, R, rfl, hW, hag, hagI, hwo, hNL⟩ := hW
  have hB := hI.bd
  have hn10 := hB.n10
  have hn : I 20 0 = nI n := (hagI 20 0 rfl).trans hI.cn.1
  refine lv_iload_n hx hb dX1_step_0 rfl (lv_at hl 1 rfl) ?_
  refine lv_iconst (v := nI 1) hx hb dX1_step_1 rfl ?_
  refine lv_icmp_lt (tgt := 27) hx hb dX1_step_2 (by decide) (fun c1 => ?_) (fun c1 => ?_)
  · refine lv_iconst (v := nI 0) hx hb dX1_step_27 rfl ?_
    refine wx_x (wx_S (As := [.int (nI 0)]) (rest := []) hAt.fix (m_X1_check l hfl A Dg dA ((fun H => cW A Dg dA ad n nb nr 0 J R D I H)) gr_W (nI 0)) q271 q272 q45 q273 wn_X1_check ⟨Nat.le_of_ble_eq_true rfl, Nat.le_of_ble_eq_true rfl, Nat.le_of_ble_eq_true rfl, Nat.le_of_ble_eq_true rfl⟩ (Px.of hK hst hA hS hW) hl.1 (Nat.le_of_ble_eq_true rfl) dX1_step_28) hS (fun r H locs hW hz hS => ?_) (fun x C H locs hp hE hz hS => ?_)
    · exact absurd nI_0 hW.1
    · rw [hQ]
      obtain ⟨⟨-, rfl⟩, hW⟩ := hp
      exact rT_x hlk htab rfl hS hE (Or.inl ⟨⟨fun q => q.1.1 c1, rfl⟩, ⟨ad, _, _, _, rfl, hW, hag, hagI, hwo, hNL⟩⟩)
  · refine lv_iload_n hx hb dX1_step_5 rfl (lv_at hl 1 rfl) ?_
    refine lv_bipush (v := nI 50) hx hb dX1_step_6 rfl ?_
    refine lv_icmp_gt (tgt := 27) hx hb dX1_step_8 (by decide) (fun c2 => ?_) (fun c2 => ?_)
    · refine lv_iconst (v := nI 0) hx hb dX1_step_27 rfl ?_
      refine wx_x (wx_S (As := [.int (nI 0)]) (rest := []) hAt.fix (m_X1_check l hfl A Dg dA ((fun H => cW A Dg dA ad n nb nr 0 J R D I H)) gr_W (nI 0)) q271 q272 q45 q273 wn_X1_check ⟨Nat.le_of_ble_eq_true rfl, Nat.le_of_ble_eq_true rfl, Nat.le_of_ble_eq_true rfl, Nat.le_of_ble_eq_true rfl⟩ (Px.of hK hst hA hS hW) hl.1 (Nat.le_of_ble_eq_true rfl) dX1_step_28) hS (fun r H locs hW hz hS => ?_) (fun x C H locs hp hE hz hS => ?_)
      · exact absurd nI_0 hW.1
      · rw [hQ]
        obtain ⟨⟨-, rfl⟩, hW⟩ := hp
        exact rT_x hlk htab rfl hS hE (Or.inl ⟨⟨fun q => q.1.2 c2, rfl⟩, ⟨ad, _, _, _, rfl, hW, hag, hagI, hwo, hNL⟩⟩)
    · refine lv_iload_n hx hb dX1_step_11 rfl (lv_at hl 2 rfl) ?_
      refine lv_iconst (v := nI 1) hx hb dX1_step_12 rfl ?_
      refine lv_icmp_lt (tgt := 27) hx hb dX1_step_13 (by decide) (fun c3 => ?_) (fun c3 => ?_)
      · refine lv_iconst (v := nI 0) hx hb dX1_step_27 rfl ?_
        refine wx_x (wx_S (As := [.int (nI 0)]) (rest := []) hAt.fix (m_X1_check l hfl A Dg dA ((fun H => cW A Dg dA ad n nb nr 0 J R D I H)) gr_W (nI 0)) q271 q272 q45 q273 wn_X1_check ⟨Nat.le_of_ble_eq_true rfl, Nat.le_of_ble_eq_true rfl, Nat.le_of_ble_eq_true rfl, Nat.le_of_ble_eq_true rfl⟩ (Px.of hK hst hA hS hW) hl.1 (Nat.le_of_ble_eq_true rfl) dX1_step_28) hS (fun r H locs hW hz hS => ?_) (fun x C H locs hp hE hz hS => ?_)
        · exact absurd nI_0 hW.1
        · rw [hQ]
          obtain ⟨⟨-, rfl⟩, hW⟩ := hp
          exact rT_x hlk htab rfl hS hE (Or.inl ⟨⟨fun q => q.2.1 c3, rfl⟩, ⟨ad, _, _, _, rfl, hW, hag, hagI, hwo, hNL⟩⟩)
      · refine lv_iload_n hx hb dX1_step_16 rfl (lv_at hl 2 rfl) ?_
        refine lv_sipush (v := nI 128) hx hb dX1_step_17 rfl ?_
        refine lv_icmp_gt (tgt := 27) hx hb dX1_step_20 (by decide) (fun c4 => ?_) (fun c4 => ?_)
        · refine lv_iconst (v := nI 0) hx hb dX1_step_27 rfl ?_
          refine wx_x (wx_S (As := [.int (nI 0)]) (rest := []) hAt.fix (m_X1_check l hfl A Dg dA ((fun H => cW A Dg dA ad n nb nr 0 J R D I H)) gr_W (nI 0)) q271 q272 q45 q273 wn_X1_check ⟨Nat.le_of_ble_eq_true rfl, Nat.le_of_ble_eq_true rfl, Nat.le_of_ble_eq_true rfl, Nat.le_of_ble_eq_true rfl⟩ (Px.of hK hst hA hS hW) hl.1 (Nat.le_of_ble_eq_true rfl) dX1_step_28) hS (fun r H locs hW hz hS => ?_) (fun x C H locs hp hE hz hS => ?_)
          · exact absurd nI_0 hW.1
          · rw [hQ]
            obtain ⟨⟨-, rfl⟩, hW⟩ := hp
            exact rT_x hlk htab rfl hS hE (Or.inl ⟨⟨fun q => q.2.2 c4, rfl⟩, ⟨ad, _, _, _, rfl, hW, hag, hagI, hwo, hNL⟩⟩)
        · refine lv_iconst (v := nI 1) hx hb dX1_step_23 rfl ?_
          refine lv_goto (tgt := 28) hx hb dX1_step_24 (by decide) ?_
          refine wx_x (wx_S (As := [.int (nI 1)]) (rest := []) hAt.fix (m_X1_check l hfl A Dg dA ((fun H => cW A Dg dA ad n nb nr 0 J R D I H)) gr_W (nI 1)) q271 q272 q45 q273 wn_X1_check ⟨Nat.le_of_ble_eq_true rfl, Nat.le_of_ble_eq_true rfl, Nat.le_of_ble_eq_true rfl, Nat.le_of_ble_eq_true rfl⟩ (Px.of hK hst hA hS hW) hl.1 (Nat.le_of_ble_eq_true rfl) dX1_step_28) hS (fun r H locs hW hz hS => ?_) (fun x C H locs hp hE hz hS => ?_)
          rotate_left
          · exact absurd hp.1.1 (by decide)
          replace hW := hW.2
          have hok : okSt k d := ⟨⟨c1, c2⟩, c3, c4⟩
          obtain ⟨⟨N, hN1, hN2, rfl⟩, b, hb1, hb2, rfl⟩ := okSt_of hok
          have hdt := dt_ok hb1 hb2
          have hix : ix (nI N) = N := ix_nI (by omega)
          rw [hix] at hQ
          refine lv_aload_n hx hb dX1_step_31 rfl (lv_at hl 0 rfl) ?_
          refine g_I (x := nI n) Z hW kX1 rfl 8 (by decide) q149 (show (0 : Nat) < 1 by decide) rfl hn dX1_step_32 ?_
          refine lv_if_ne (tgt := 46) hx hb dX1_step_35 (by decide) (fun c5 => ?_) (fun c5 => ?_)
          · refine lv_iconst (v := nI 0) hx hb dX1_step_46 rfl ?_
            refine lv_istore_n (lv' := [(3, .int (nI 0)), (0, .ref (ad 0 0)), (1, .int (nI N)), (2, .int (nI b))]) hx hb dX1_step_47 rfl hl (by decide) rfl (fun ls hl => ?_)
            have hn0 : ¬ n = 0 := nI_nz c5
            generalize hdte : (FP.ddiv (FP.i2d (nI b)) 4652218415073722368) = dt at hdt hQ
            refine wl_up N 0 (fun k H locs ls => ∃ Dk Ik D1 I1 R1, lv_has ls 6 [(3, .int (nI k)), (0, .ref (ad 0 0)), (1, .int (nI N)), (2, .int (nI b))] ∧ Inv n nb nr J Dk Ik ∧ stn dt n nb nr J (N - k) Dk Ik = stn dt n nb nr J N D0 I0 ∧ cW A Dg dA ad n nb nr 0 J R1 D1 I1 H ∧ agD D1 Dk ∧ agI I1 Ik ∧ wOK D1 Dk ∧ (¬ Ik 23 0 = 0 → NL Dk I1 n) ∧ va_S A s.heap H locs) (Nat.zero_le _) ⟨D0, I0, D, I, R, lv_sub hl [0, 1, 2, 3] rfl, hI, rfl, hW, hag, hagI, hwo, hNL, hS⟩ ?_ ?_
            · intro k H locs ls hi hP ih
              obtain ⟨Dk, Ik, D1, I1, R1, hl, hIk, hsn, hW, hag, hagI, hwo, hNL, hS⟩ := hP
              have hn1 : I1 20 0 = nI n := (hagI 20 0 rfl).trans hIk.cn.1
              have hBk := hIk.bd
              refine lv_iload_n hx hb dX1_step_48 rfl (lv_at hl 0 rfl) ?_
              refine lv_iload_n hx hb dX1_step_49 rfl (lv_at hl 2 rfl) ?_
              refine lv_nge (tgt := 184) hx hb (by omega) (by omega) dX1_step_50 (by decide) (fun c => absurd c (by omega)) (fun c => ?_)
              refine lv_iconst (v := nI 0) hx hb dX1_step_53 rfl ?_
              refine lv_istore (lv' := [(4, .int (nI 0)), (3, .int (nI k)), (0, .ref (ad 0 0)), (1, .int (nI N)), (2, .int (nI b))]) hx hb dX1_step_54 hl (by decide) rfl (fun ls hl => ?_)
              refine wl_up n 0 (fun i H locs ls => ∃ D2, lv_has ls 6 [(4, .int (nI i)), (3, .int (nI k)), (0, .ref (ad 0 0)), (1, .int (nI N)), (2, .int (nI b))] ∧ SV D2 D1 i ∧ exc s37 D2 D1 ∧ cW A Dg dA ad n nb nr 0 J R1 D2 I1 H ∧ va_S A s.heap H locs) (Nat.zero_le _) ⟨D1, lv_sub hl [0, 1, 2, 3, 4] rfl, lt_0, exc.rf, hW, hS⟩ ?_ ?_
              · intro i H locs ls hi hP ih2
                obtain ⟨D2, hl, hsv, hsx, hW, hS⟩ := hP
                refine lv_iload hx hb dX1_step_56 (lv_at hl 0 rfl) ?_
                refine lv_aload_n hx hb dX1_step_58 rfl (lv_at hl 2 rfl) ?_
                refine g_I (x := nI n) Z hW kX1 rfl 8 (by decide) q149 (show (0 : Nat) < 1 by decide) rfl hn1 dX1_step_59 ?_
                refine lv_nge (tgt := 88) hx hb (by omega) (by omega) dX1_step_62 (by decide) (fun c => absurd c (by omega)) (fun c => ?_)
                refine lv_aload_n hx hb dX1_step_65 rfl (lv_at hl 2 rfl) ?_
                refine w_getR (v := .ref (ad 11 0)) Z hW kX1 rfl 5 (by decide) q146 (show (0 : Nat) < 1 by decide) rfl rfl dX1_step_66 ?_
                refine lv_iload hx hb dX1_step_69 (lv_at hl 0 rfl) ?_
                refine a_R (j := i) (v := .ref (ad 2 i)) (ix := i) Z hW rfl (show (0 : Nat) < 1 by decide) (by omega) (by decide) rfl rfl rfl rfl (cR_atom (show (i : Nat) < n by omega)) dX1_step_71 ?_
                refine lv_aload_n hx hb dX1_step_72 rfl (lv_at hl 2 rfl) ?_
                refine w_getR (v := .ref (ad 17 0)) Z hW kX1 rfl 17 (by decide) q158 (show (0 : Nat) < 1 by decide) rfl rfl dX1_step_73 ?_
                refine lv_iload hx hb dX1_step_76 (lv_at hl 0 rfl) ?_
                refine a_R (j := i) (v := .ref (ad 18 i)) (ix := i) Z hW rfl (show (0 : Nat) < 1 by decide) (by omega) (by decide) rfl rfl rfl rfl rfl dX1_step_78 ?_
                refine wx_wv (wx_V (As := [.ref (ad 18 i)]) (rest := []) hAt.fix (m_X6_save l A Dg dA ad n nb nr 0 J R1 D2 I1 i hi hn10) q557 q558 q559 q560 wn_X6_save ⟨Nat.le_of_ble_eq_true rfl, Nat.le_of_ble_eq_true rfl, Nat.le_of_ble_eq_true rfl, Nat.le_of_ble_eq_true rfl⟩ (w_recv hK hW kX6 rfl (show (i : Nat) < n by omega)) (Pw.of hK hW) hl.1 (Nat.le_of_ble_eq_true rfl) dX1_step_79) hS (fun H locs hW hz hS => ?_)
                refine lv_iinc1 (lv' := [(4, .int (nI (i + 1))), (3, .int (nI k)), (0, .ref (ad 0 0)), (1, .int (nI N)), (2, .int (nI b))]) hx hb dX1_step_82 hl (k := 0) rfl (by decide) rfl (fun ls hl => ?_)
                refine lv_goto (tgt := 56) hx hb dX1_step_85 (by decide) ?_
                exact ih2 _ _ _ ⟨_, lv_sub hl [0, 1, 2, 3, 4] rfl, (hsv.step hsx).1, (hsv.step hsx).2, hW, hS⟩
              · intro H locs ls hP
                obtain ⟨D2, hl, hsv, hsx, hW, hS⟩ := hP
                have hag2 : agD D2 Dk := hag.of hsx s37_c
                have hwo2 : wOK D2 Dk := hwo.cg (hsx 43 0 rfl) rfl
                have hS1 : sameS I1 Ik := fun j => hagI 1 j rfl
                have e23 := hagI 23 0 rfl
                have e25 := hagI 25 0 rfl
                have e26 := hagI 26 0 rfl
                have e24 := hagI 24 0 rfl
                have hCn1 : Cn n nb nr I1 := ⟨hn1, (hagI 21 0 rfl).trans hIk.cn.2.1, (hagI 22 0 rfl).trans hIk.cn.2.2⟩
                have hwT : fge (D2 43 0) FP.dconst0 → okT (D2 43 0) := fun q => by rw [hwo2.1 q]; rw [hwo2.1 q] at q; exact hIk.wt q
                have hNk : N - k = (N - (k + 1)) + 1 := by omega
                rw [hNk] at hsn
                refine lv_iload hx hb dX1_step_56 (lv_at hl 0 rfl) ?_
                refine lv_aload_n hx hb dX1_step_58 rfl (lv_at hl 2 rfl) ?_
                refine g_I (x := nI n) Z hW kX1 rfl 8 (by decide) q149 (show (0 : Nat) < 1 by decide) rfl hn1 dX1_step_59 ?_
                refine lv_nge (tgt := 88) hx hb (by omega) (by omega) dX1_step_62 (by decide) (fun c => ?_) (fun c => absurd c (by omega))
                refine lv_aload_n hx hb dX1_step_88 rfl (lv_at hl 2 rfl) ?_
                refine lv_dup hx hb dX1_step_89 rfl ?_
                refine g_I (x := Ik 26 0) Z hW kX1 rfl 21 (by decide) q162 (show (0 : Nat) < 1 by decide) rfl e26 dX1_step_90 ?_
                refine lv_aload_n hx hb dX1_step_93 rfl (lv_at hl 2 rfl) ?_
                refine lv_iload_n hx hb dX1_step_94 rfl (lv_at hl 4 rfl) ?_
                refine lv_i2d hx hb dX1_step_95 ?_
                refine lv_ldc2d (v := 4652218415073722368) hx hb hown (hts _ (lw_car_all q561)) dX1_step_96 ?_
                refine lv_ddiv hx hb dX1_step_99 (hdte.symm ▸ hdt.1).n64 ?_
                rw [hdte]
                have ea : adv dt n nb nr J I1 Dk (Ik 23 0) (I1 25 0) = adv dt n nb nr J Ik Dk (Ik 23 0) (Ik 25 0) := by rw [e25]; exact adv_cg hS1
                refine wx_x (wx_V (As := [.double (dt)]) (rest := [.int (Ik 26 0), .ref (ad 0 0)]) hAt.fix (m_X1_advance l hfl A Dg dA ad n nb nr 0 J R1 D2 I1 Dk hag2 hBk hCn1 (Ik 23 0) e23 hIk.li hNL hIk.bu dt hdt (D2 43 0) rfl hwT) q562 q564 qs6 q565 wn_X1_advance ⟨Nat.le_of_ble_eq_true rfl, Nat.le_of_ble_eq_true rfl, Nat.le_of_ble_eq_true rfl, Nat.le_of_ble_eq_true rfl⟩ (w_recv hK hW kX1 rfl (show (0 : Nat) < 1 by decide)) (Px.of hK hst hA hS hW) hl.1 (Nat.le_of_ble_eq_true rfl) dX1_step_100) hS (fun r H locs hW hz hS => ?_) (fun x C H locs hp hE hz hS => ?_)
                rotate_left
                · rw [ea] at hp
                  obtain ⟨⟨ha0, rfl⟩, D3, I3, R3, hW, hagU, hls, hI3, h37, h43⟩ := hp
                  obtain ⟨hak, -, -, hkp, -⟩ := adv_keep (I := Ik) (li := Ik 23 0) (ls := Ik 25 0) hBk hIk.bu hdt
                  have es := st1_1 ha0
                  have hs1 : (st1 dt n nb nr J Dk Ik).1 = false := by rw [es]
                  rw [stn_f hs1, es] at hsn
                  generalize adv dt n nb nr J Ik Dk (Ik 23 0) (Ik 25 0) = av at ha0 hW hagU hls hak hkp hsn
                  obtain ⟨cell, hc1, hc2, hc3⟩ := id hE
                  obtain ⟨kX, hkX⟩ : ∃ k, s.vm.classes[cell.cls]? = some k := by obtain ⟨-, q1, kC, q2, -⟩ := hK.1 8 _ rfl; exact ⟨kC, by rw [Option.some.inj (hc3.symm.trans q1)]; exact q2⟩
                  obtain ⟨cl0, cl1, w1, w2, w3⟩ := Cond.castable_spec (hts _ (lw_car_tbl q541 rfl))
                  cases hc3.symm.trans w1
                  refine wt_catch (h := 120) hown htab hc1 hc2 ⟨kX, hkX⟩ ⟨⟨by decide, by decide⟩, by decide, "java/lang/ArithmeticException", cl1, hts _ (lw_car_all q552), w2, Or.inl ⟨w3, rfl⟩⟩ ?_
                  clear hc1 w1 w2 w3
                  have hn4 : up2 I3 40 0 (nI (av.1 - 1)) 20 0 = nI n := (up2_f _ _ _ _ (by decide)).trans ((hI3 20 0 rfl).trans hn1)
                  have e40 : up2 I3 40 0 (nI (av.1 - 1)) 40 0 = nI (av.1 - 1) := up2_same _ _ _ _
                  have e28 : up2 I3 40 0 (nI (av.1 - 1)) 28 (av.1 - 1) = Ik 28 (av.1 - 1) := (up2_f _ _ _ _ (by decide)).trans ((hI3 28 _ rfl).trans (hagI 28 _ rfl))
                  have hagI4 : agI (up2 (up2 I3 40 0 (nI (av.1 - 1))) 23 0 (nI 0)) (up2 (up2 Ik 25 0 av.2.2.1) 23 0 (nI 0)) := agI_un hagI hI3 hls
                  generalize up2 I3 40 0 (nI (av.1 - 1)) = I4 at hW hn4 e40 e28 hagI4
                  have hsv3 : SV D3 D1 n := fun a ha => by rw [h37, h37, h37, h37]; exact hsv a ha
                  have hD23 : undoT Dk av.2.1 23 0 = Dk 23 0 := hkp.at rfl (by decide) (by decide)
                  refine lv_astore (lv' := [(4, .ref (x)), (3, .int (nI k)), (0, .ref (ad 0 0)), (1, .int (nI N)), (2, .int (nI b))]) hx hb dX1_step_120 hl (by decide) rfl (fun ls hl => ?_)
                  refine lv_iconst (v := nI 0) hx hb dX1_step_122 rfl ?_
                  refine lv_istore (lv' := [(5, .int (nI 0)), (4, .ref (x)), (3, .int (nI k)), (0, .ref (ad 0 0)), (1, .int (nI N)), (2, .int (nI b))]) hx hb dX1_step_123 hl (by decide) rfl (fun ls hl => ?_)
                  refine wl_up n 0 (fun i H locs ls => ∃ D4, lv_has ls 6 [(5, .int (nI i)), (4, .ref (x)), (3, .int (nI k)), (0, .ref (ad 0 0)), (1, .int (nI N)), (2, .int (nI b))] ∧ RS D4 D1 D3 i ∧ cW A Dg dA ad n nb nr 0 J R3 D4 I4 H ∧ (∃ cell, H[x]? = some cell ∧ cell.vm = .none ∧ s.vm.findClass "java/lang/ArithmeticException" = some cell.cls) ∧ va_S A s.heap H locs) (Nat.zero_le _) ⟨D3, lv_sub hl [0, 1, 2, 3, 4, 5] rfl, RS.z, hW, hE, hS⟩ ?_ ?_
                  · intro i H locs ls hi hP ih2
                    obtain ⟨D4, hl, hrs, hW, hE, hS⟩ := hP
                    refine lv_iload hx hb dX1_step_125 (lv_at hl 0 rfl) ?_
                    refine lv_aload_n hx hb dX1_step_127 rfl (lv_at hl 3 rfl) ?_
                    refine g_I (x := nI n) Z hW kX1 rfl 8 (by decide) q149 (show (0 : Nat) < 1 by decide) rfl hn4 dX1_step_128 ?_
                    refine lv_nge (tgt := 157) hx hb (by omega) (by omega) dX1_step_131 (by decide) (fun c => absurd c (by omega)) (fun c => ?_)
                    refine lv_aload_n hx hb dX1_step_134 rfl (lv_at hl 3 rfl) ?_
                    refine w_getR (v := .ref (ad 11 0)) Z hW kX1 rfl 5 (by decide) q146 (show (0 : Nat) < 1 by decide) rfl rfl dX1_step_135 ?_
                    refine lv_iload hx hb dX1_step_138 (lv_at hl 0 rfl) ?_
                    refine a_R (j := i) (v := .ref (ad 2 i)) (ix := i) Z hW rfl (show (0 : Nat) < 1 by decide) (by omega) (by decide) rfl rfl rfl rfl (cR_atom (show (i : Nat) < n by omega)) dX1_step_140 ?_
                    refine lv_aload_n hx hb dX1_step_141 rfl (lv_at hl 3 rfl) ?_
                    refine w_getR (v := .ref (ad 17 0)) Z hW kX1 rfl 17 (by decide) q158 (show (0 : Nat) < 1 by decide) rfl rfl dX1_step_142 ?_
                    refine lv_iload hx hb dX1_step_145 (lv_at hl 0 rfl) ?_
                    refine a_R (j := i) (v := .ref (ad 18 i)) (ix := i) Z hW rfl (show (0 : Nat) < 1 by decide) (by omega) (by decide) rfl rfl rfl rfl rfl dX1_step_147 ?_
                    have hap := x_apart hK hW hE
                    have hW2 := hW.inA (A2 := fun q => A q ∧ q ≠ x) (fun k b hb => ⟨hW.2.2.1 k b hb, hap k b hb⟩)
                    refine wx_wvA (wx_V (As := [.ref (ad 18 i)]) (rest := []) hAt.fix (m_X6_restore l ((fun q => A q ∧ q ≠ x)) Dg dA ad n nb nr 0 J R3 D4 I4 i hi hn10) q667 q668 q669 q670 wn_X6_restore ⟨Nat.le_of_ble_eq_true rfl, Nat.le_of_ble_eq_true rfl, Nat.le_of_ble_eq_true rfl, Nat.le_of_ble_eq_true rfl⟩ (w_recv hK hW kX6 rfl (show (i : Nat) < n by omega)) (Pw.of hK hW2) hl.1 (Nat.le_of_ble_eq_true rfl) dX1_step_148) hS (fun q hq => hq.1) (fun H locs hW hz hS hF => ?_)
                    replace hW := World.inA (A2 := A) hW (fun k b hb => (hW.2.2.1 k b hb).1)
                    replace hE := ex_keep hE hF
                    refine lv_iinc1 (lv' := [(5, .int (nI (i + 1))), (4, .ref (x)), (3, .int (nI k)), (0, .ref (ad 0 0)), (1, .int (nI N)), (2, .int (nI b))]) hx hb dX1_step_151 hl (k := 0) rfl (by decide) rfl (fun ls hl => ?_)
                    refine lv_goto (tgt := 125) hx hb dX1_step_154 (by decide) ?_
                    exact ih2 _ _ _ ⟨_, lv_sub hl [0, 1, 2, 3, 4, 5] rfl, hrs.step hsv3 hi, hW, hE, hS⟩
                  · intro H locs ls hP
                    obtain ⟨D4, hl, hrs, hW, hE, hS⟩ := hP
                    refine lv_iload hx hb dX1_step_125 (lv_at hl 0 rfl) ?_
                    refine lv_aload_n hx hb dX1_step_127 rfl (lv_at hl 3 rfl) ?_
                    refine g_I (x := nI n) Z hW kX1 rfl 8 (by decide) q149 (show (0 : Nat) < 1 by decide) rfl hn4 dX1_step_128 ?_
                    refine lv_nge (tgt := 157) hx hb (by omega) (by omega) dX1_step_131 (by decide) (fun c => ?_) (fun c => absurd c (by omega))
                    refine lv_aload_n hx hb dX1_step_157 rfl (lv_at hl 3 rfl) ?_
                    refine lv_iconst (v := nI 0) hx hb dX1_step_158 rfl ?_
                    have hap := x_apart hK hW hE
                    refine w_putI_f Z hW hS kX1 rfl 16 (by decide) (by decide) q157 rfl (show (0 : Nat) < 1 by decide) rfl rfl rfl dX1_step_159 (fun H locs hW hS hF => ?_)
                    replace hE := ex_put hE (hap 0 0 (show 0 < 1 by decide)) hF
                    refine lv_aload_n hx hb dX1_step_162 rfl (lv_at hl 3 rfl) ?_
                    refine w_getR (v := .ref (ad 21 0)) Z hW kX1 rfl 23 (by decide) q164 (show (0 : Nat) < 1 by decide) rfl rfl dX1_step_163 ?_
                    refine lv_aload_n hx hb dX1_step_166 rfl (lv_at hl 3 rfl) ?_
                    refine g_I (x := nI (av.1 - 1)) Z hW kX1 rfl 24 (by decide) q165 (show (0 : Nat) < 1 by decide) rfl e40 dX1_step_167 ?_
                    refine lv_dup2_11 hx hb dX1_step_170 rfl rfl ?_
                    refine a_I (j := (av.1 - 1)) (x := Ik 28 (av.1 - 1)) (ix := av.1 - 1) Z hW rfl (show (0 : Nat) < 1 by decide) (by omega) (by decide) rfl rfl e28 dX1_step_171 ?_
                    refine lv_iconst (v := nI 1) hx hb dX1_step_172 rfl ?_
                    refine lv_iadd hx hb dX1_step_173 ?_
                    have hap := x_apart hK hW hE
                    refine w_ais_f (j := av.1 - 1) (ix := av.1 - 1) Z hW hS rfl (show (0 : Nat) < 1 by decide) rfl (by omega) (by decide) (show av.1 - 1 < 3 by omega) rfl rfl dX1_step_174 (fun H locs hW hS hF => ?_)
                    replace hE := ex_put hE (hap 21 0 (show 0 < 1 by decide)) hF
                    refine lv_aload hx hb dX1_step_175 (lv_at hl 1 rfl) ?_
                    refine lv_athrow hx hb dX1_step_177 ?_
                    rw [hQ, ← hsn]
                    exact rT_x hlk htab rfl hS hE (Or.inr (Or.inr ⟨⟨hok, hn0, rfl, rfl⟩, ad, _, _, _, rfl, cW_hi (E := Dk) hW, hrs.ag hagU hag, hagI4.put 28 _ _, hwo2.cg ((hrs.2 43 0 rfl).trans h43) hD23, NL_0 rfl⟩))
                rw [ea] at hW
                obtain ⟨ha0, rfl, D3, I3, R3, hW, hag3, hNL3, h23, hls, hI3, h37, h43⟩ := hW
                rw [wrm_cg hS1, hwo2.wrm] at hag3 hNL3
                have es := st1_0 ha0
                have hs1 : (st1 dt n nb nr J Dk Ik).1 = true := by rw [es]
                have hI1 := hIk.s1 hdt
                rw [stn_t hs1] at hsn
                rw [es] at hsn hI1
                have hwo3 : wOK D3 (wrm (Dk 23 0) n Ik (adv dt n nb nr J Ik Dk (Ik 23 0) (Ik 25 0)).2.1) := hwo2.cg h43 (wrm_23.trans ((adv_keep (I := Ik) (li := Ik 23 0) (ls := Ik 25 0) hBk hIk.bu hdt).2.2.2.1.at rfl (by decide) (by decide)))
                generalize adv dt n nb nr J Ik Dk (Ik 23 0) (Ik 25 0) = av at hW hag3 hNL3 hls hsn hI1 hwo3
                have e243 : I3 24 0 = Ik 24 0 := (hI3 24 0 rfl).trans e24
                refine lv_iadd hx hb dX1_step_103 ?_
                refine w_putI Z hW hS kX1 rfl 21 (by decide) (by decide) q162 rfl (show (0 : Nat) < 1 by decide) rfl rfl rfl dX1_step_104 (fun H locs hW hS => ?_)
                refine lv_aload_n hx hb dX1_step_107 rfl (lv_at hl 2 rfl) ?_
                refine lv_dup hx hb dX1_step_108 rfl ?_
                refine g_I (x := Ik 24 0) Z hW kX1 rfl 19 (by decide) q160 (show (0 : Nat) < 1 by decide) rfl e243 dX1_step_109 ?_
                refine lv_iconst (v := nI 1) hx hb dX1_step_112 rfl ?_
                refine lv_iadd hx hb dX1_step_113 ?_
                refine w_putI Z hW hS kX1 rfl 19 (by decide) (by decide) q160 rfl (show (0 : Nat) < 1 by decide) rfl rfl rfl dX1_step_114 (fun H locs hW hS => ?_)
                refine lv_goto (tgt := 178) hx hb dX1_step_117 (by decide) ?_
                refine lv_iinc1 (lv' := [(3, .int (nI (k + 1))), (4, .int (nI n)), (0, .ref (ad 0 0)), (1, .int (nI N)), (2, .int (nI b))]) hx hb dX1_step_178 hl (k := 1) rfl (by decide) rfl (fun ls hl => ?_)
                refine lv_goto (tgt := 48) hx hb dX1_step_181 (by decide) ?_
                exact ih _ _ _ ⟨_, _, _, _, _, lv_sub hl [0, 2, 3, 4] rfl, hI1, hsn, hW, hag3, ((hagI.ls hI3 h23 hls).put 26 0 _).put 24 0 _, hwo3, fun _ => hNL3.cgJ (S := s2 24 26) ((exc.rf.up rfl).up rfl) rfl rfl, hS⟩
            · intro H locs ls hP
              obtain ⟨Dk, Ik, D1, I1, R1, hl, hIk, hsn, hW, hag, hagI, hwo, hNL, hS⟩ := hP
              rw [Nat.sub_self] at hsn
              refine lv_iload_n hx hb dX1_step_48 rfl (lv_at hl 0 rfl) ?_
              refine lv_iload_n hx hb dX1_step_49 rfl (lv_at hl 2 rfl) ?_
              refine lv_nge (tgt := 184) hx hb (by omega) (by omega) dX1_step_50 (by decide) (fun c => ?_) (fun c => absurd c (by omega))
              rw [hQ]
              exact rX (rW_v hx hb hr hlk hS (by rw [← hsn]; exact ⟨hok, hn0, rfl, ad, _, _, _, rfl, hW, hag, hagI, hwo, hNL⟩) dX1_step_184)
          · refine w_exc0 hAt.fix hfl exS q338 q339 q55 (by decide +kernel) (by decide +kernel) hst hA hS hl.1 dX1_step_38 dX1_step_41 dX1_step_42 (Nat.le_of_ble_eq_true rfl) (Nat.le_of_ble_eq_true rfl) (Nat.le_of_ble_eq_true rfl) (Nat.le_of_ble_eq_true rfl) (fun x H locs hE hk hS => ?_)
            have hW := hW.grown hk
            refine lv_athrow hx hb dX1_step_45 ?_
            rw [hQ]
            exact rT_x hlk htab rfl hS hE (Or.inr (Or.inl ⟨⟨hok, nI_z (by omega) c5, rfl⟩, ⟨ad, _, _, _, rfl, hW, hag, hagI, hwo, hNL⟩⟩))
