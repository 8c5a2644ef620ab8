set_option maxRecDepth 100000
/-! ===== doubles: what turns its sign; the shortest way to a hair ===== -/
theorem rr_sign {s : Bool} {num den : Nat} {e : Int} {c : Nat} {q : Int} (h : FP.Core.roundRatio FP.Core.b64 s num den e = .fin s c q) (t : Bool) : FP.Core.roundRatio FP.Core.b64 t num den e = .fin t c q := by
  unfold FP.Core.roundRatio at h ⊢
  split at h
  · rw [if_pos (by assumption)]
    obtain ⟨-, h1, h2⟩ := FP.Core.Datum.fin.inj h
    rw [h1, h2]
  · rw [if_neg (by assumption)]
    unfold FP.Core.roundAt FP.Core.settle FP.Core.bound at h ⊢
    split at h
    · rw [if_pos (by assumption)]
      split at h
      · rw [if_pos (by assumption)]
        obtain ⟨-, h1, h2⟩ := FP.Core.Datum.fin.inj h
        rw [h1, h2]
      · cases h
    · rw [if_neg (by assumption)]
      split at h
      · rw [if_pos (by assumption)]
        obtain ⟨-, h1, h2⟩ := FP.Core.Datum.fin.inj h
        rw [h1, h2]
      · cases h
/-- of one size, of the other sign -/
def opp (x y : UInt64) : Prop := ∃ (s t : Bool) (c : Nat) (q : Int), fv x = .fin s c q ∧ fv y = .fin t c q ∧ (t = !s ∨ c = 0)
theorem opp.val {x y : UInt64} (h : opp x y) : rv y = -rv x := by
  obtain ⟨s, t, c, q, h1, h2, h3⟩ := h
  rw [rv_fin h1, rv_fin h2]
  rcases h3 with rfl | rfl
  · cases s <;> simp [sg] <;> grind
  · simp
theorem opp.fn {x y : UInt64} (h : opp x y) : Fn x ∧ Fn y := by
  obtain ⟨s, t, c, q, h1, h2, h3⟩ := h
  exact ⟨⟨_, _, _, h1⟩, ⟨_, _, _, h2⟩⟩
theorem opp_of_val {x y : UInt64} (hx : Fn x) (hy : Fn y) (h : rv y = -rv x) : opp x y := by
  obtain ⟨s, c, q, h1⟩ := hx
  obtain ⟨t, d, r, h2⟩ := hy
  have k1 := fv_ok h1
  have k2 := fv_ok h2
  by_cases hc : c = 0
  · subst hc
    have e1 : rv x = 0 := by rw [rv_fin h1]; simp
    rw [e1] at h
    have hd : d = 0 := by
      apply Decidable.byContradiction
      intro hd
      rw [rv_fin h2] at h
      have hp := p2_pos r
      have hd' : (0 : Rat) < (d : Rat) := by exact_mod_cast Nat.pos_of_ne_zero hd
      have := Rat.mul_pos hd' hp
      cases t <;> simp only [sg, if_true, Bool.false_eq_true, if_false] at h <;> grind
    subst hd
    have q1 : q = -1074 := by rcases k1.2.2.2 with w | w; exact w; omega
    have q2 : r = -1074 := by rcases k2.2.2.2 with w | w; exact w; omega
    subst q1; subst q2
    exact ⟨s, t, 0, -1074, h1, h2, Or.inr rfl⟩
  · have e : dval (.fin (!s) c q) = dval (.fin t d r) := by
      have : dval (.fin t d r) = rv y := by unfold rv; rw [h2]
      rw [this, h, rv_fin h1, dval_fin]
      cases s <;> simp [sg] <;> grind
    have e2 := fin_inj (s := !s) k1 k2 hc e
    obtain ⟨w1, w2, w3⟩ := FP.Core.Datum.fin.inj e2
    subst w1; subst w2; subst w3
    exact ⟨s, !s, c, q, h1, h2, Or.inl rfl⟩
theorem sgn_neg {s t : Bool} {c : Nat} (h : t = !s ∨ c = 0) : FP.Core.signed t c = -FP.Core.signed s c := by
  rcases h with rfl | rfl
  · cases s <;> simp [FP.Core.signed]
  · cases s <;> cases t <;> simp [FP.Core.signed]
/-- a sum, and the sum with both signs turned -/
theorem sum_opp {s1 s2 t1 t2 : Bool} {c d : Nat} {q r : Int} (h1 : t1 = !s1 ∨ c = 0) (h2 : t2 = !s2 ∨ d = 0) {s' : Bool} {c' : Nat} {q' : Int} (h : FP.Core.round FP.Core.b64 (FP.Core.exactSum (.fin s1 c q) (.fin s2 d r)) = .fin s' c' q') : ∃ t', FP.Core.round FP.Core.b64 (FP.Core.exactSum (.fin t1 c q) (.fin t2 d r)) = .fin t' c' q' ∧ (t' = !s' ∨ c' = 0) := by
  have e : FP.Core.sumUnits t1 c q t2 d r (min q r) = -FP.Core.sumUnits s1 c q s2 d r (min q r) := by
    unfold FP.Core.sumUnits
    have a1 : FP.Core.signed t1 (FP.Core.inUnits c q (min q r)) = -FP.Core.signed s1 (FP.Core.inUnits c q (min q r)) := sgn_neg (by rcases h1 with w | w; exact Or.inl w; right; subst w; simp [FP.Core.inUnits])
    have a2 : FP.Core.signed t2 (FP.Core.inUnits d r (min q r)) = -FP.Core.signed s2 (FP.Core.inUnits d r (min q r)) := sgn_neg (by rcases h2 with w | w; exact Or.inl w; right; subst w; simp [FP.Core.inUnits])
    omega
  have h' : FP.Core.roundRatio FP.Core.b64 (FP.Core.sumSign s1 s2 (FP.Core.sumUnits s1 c q s2 d r (min q r))) (FP.Core.sumUnits s1 c q s2 d r (min q r)).natAbs 1 (min q r) = .fin s' c' q' := h
  show ∃ t', FP.Core.roundRatio FP.Core.b64 (FP.Core.sumSign t1 t2 (FP.Core.sumUnits t1 c q t2 d r (min q r))) (FP.Core.sumUnits t1 c q t2 d r (min q r)).natAbs 1 (min q r) = .fin t' c' q' ∧ _
  rw [e, Int.natAbs_neg]
  generalize FP.Core.sumUnits s1 c q s2 d r (min q r) = v at h' ⊢
  by_cases hv : v = 0
  · subst hv
    unfold FP.Core.roundRatio at h' ⊢
    rw [if_pos (by rfl)] at h' ⊢
    obtain ⟨-, w1, w2⟩ := FP.Core.Datum.fin.inj h'
    exact ⟨_, by rw [w2, w1], Or.inr w1.symm⟩
  · have hs : s' = decide (v < 0) := by
      have hh := h'
      unfold FP.Core.roundRatio FP.Core.roundAt FP.Core.settle FP.Core.bound FP.Core.sumSign at hh
      rw [if_neg hv, if_neg (by omega)] at hh
      split at hh
      · split at hh
        · exact (FP.Core.Datum.fin.inj hh).1.symm
        · cases hh
      · split at hh
        · exact (FP.Core.Datum.fin.inj hh).1.symm
        · cases hh
    have e3 : FP.Core.sumSign s1 s2 v = s' := by unfold FP.Core.sumSign; rw [if_neg hv, hs]
    rw [e3] at h'
    refine ⟨FP.Core.sumSign t1 t2 (-v), rr_sign h' _, Or.inl ?_⟩
    unfold FP.Core.sumSign
    rw [if_neg (by omega), hs]
    by_cases h0 : v < 0
    · simp [h0]; omega
    · simp [h0]; omega
theorem opp.sub {x y z w : UInt64} (h1 : opp x y) (h2 : opp z w) (hb : rv x - rv z ≤ p2 1000) (hb2 : rv z - rv x ≤ p2 1000) : opp (FP.dsub x z) (FP.dsub y w) := by
  obtain ⟨s1, t1, c, q, a1, a2, a3⟩ := h1
  obtain ⟨s2, t2, d, r, b1, b2, b3⟩ := h2
  have hz' : FP.Core.negate (fv z) = .fin (!s2) d r := by rw [b1]; rfl
  have hw' : FP.Core.negate (fv w) = .fin (!t2) d r := by rw [b2]; rfl
  have hx : dval (fv x) + dval (FP.Core.negate (fv z)) = rv x - rv z := by rw [dval_negate]; unfold rv; grind
  obtain ⟨s', c', q', e1, e2, e3⟩ := sum_rd a1 hz' (by rw [hx]; exact hb) (by rw [hx]; grind)
  have e1' := e1
  rw [a1, hz'] at e1'
  obtain ⟨t', f1, f2⟩ := sum_opp (t1 := t1) (t2 := !t2) a3 (by rcases b3 with u | u; left; rw [u]; exact Or.inr u) e1'
  have k1 : fv (FP.dsub x z) = .fin s' c' q' := op_fin rfl (by unfold FP.Core.sub; rw [show FP.Core.decode FP.Core.b64 x.toNat = fv x from rfl, show FP.Core.decode FP.Core.b64 z.toNat = fv z from rfl, e1]) e2
  have k2 : fv (FP.dsub y w) = .fin t' c' q' := op_fin rfl (by unfold FP.Core.sub; rw [show FP.Core.decode FP.Core.b64 y.toNat = fv y from rfl, show FP.Core.decode FP.Core.b64 w.toNat = fv w from rfl, hw', a2, f1]) (show okD t' c' q' from e2)
  exact ⟨s', t', c', q', k1, k2, f2⟩
theorem opp_swap {a b : UInt64} (ha : Fn a) (hb : Fn b) (h1 : rv a - rv b ≤ p2 1000) (h2 : rv b - rv a ≤ p2 1000) : opp (FP.dsub a b) (FP.dsub b a) := by
  obtain ⟨s1, c, q, a1⟩ := ha
  obtain ⟨s2, d, r, b1⟩ := hb
  have hz' : FP.Core.negate (fv b) = .fin (!s2) d r := by rw [b1]; rfl
  have hw' : FP.Core.negate (fv a) = .fin (!s1) c q := by rw [a1]; rfl
  have hx : dval (fv a) + dval (FP.Core.negate (fv b)) = rv a - rv b := by rw [dval_negate]; unfold rv; grind
  obtain ⟨s', c', q', e1, e2, e3⟩ := sum_rd a1 hz' (by rw [hx]; exact h1) (by rw [hx]; grind)
  have e1' := e1
  rw [a1, hz'] at e1'
  obtain ⟨t', f1, f2⟩ := sum_opp (t1 := !s1) (t2 := s2) (Or.inl rfl) (Or.inl (by simp)) e1'
  have hcomm : FP.Core.exactSum (.fin s2 d r) (.fin (!s1) c q) = FP.Core.exactSum (.fin (!s1) c q) (.fin s2 d r) := by
    show FP.Core.Datum.fin _ _ _ = FP.Core.Datum.fin _ _ _
    have : FP.Core.sumUnits s2 d r (!s1) c q (min r q) = FP.Core.sumUnits (!s1) c q s2 d r (min q r) := by
      unfold FP.Core.sumUnits
      rw [Int.min_comm r q, Int.add_comm]
    rw [this, Int.min_comm r q]
    congr 1
    unfold FP.Core.sumSign
    rw [Bool.and_comm]
  have k1 : fv (FP.dsub a b) = .fin s' c' q' := op_fin rfl (by unfold FP.Core.sub; rw [show FP.Core.decode FP.Core.b64 a.toNat = fv a from rfl, show FP.Core.decode FP.Core.b64 b.toNat = fv b from rfl, e1]) e2
  have k2 : fv (FP.dsub b a) = .fin t' c' q' := op_fin rfl (by unfold FP.Core.sub; rw [show FP.Core.decode FP.Core.b64 b.toNat = fv b from rfl, show FP.Core.decode FP.Core.b64 a.toNat = fv a from rfl, hw', b1, hcomm, f1]) (show okD t' c' q' from e2)
  exact ⟨s', t', c', q', k1, k2, f2⟩
theorem rr_fin' {s : Bool} {num den : Nat} {e : Int} (hd : 0 < den) (hx : rx num den e ≤ p2 1000) (t : Bool) : ∃ c q, FP.Core.roundRatio FP.Core.b64 s num den e = .fin s c q ∧ FP.Core.roundRatio FP.Core.b64 t num den e = .fin t c q ∧ okD s c q ∧ (num = 0 → c = 0) := by
  obtain ⟨c, q, e1, e2, e3⟩ := rr_fin s num hd e hx
  refine ⟨c, q, e1, rr_sign e1 t, e2, fun h0 => ?_⟩
  subst h0
  unfold FP.Core.roundRatio at e1
  rw [if_pos rfl] at e1
  exact (FP.Core.Datum.fin.inj e1).2.1.symm
theorem opp.div {x y z : UInt64} (h : opp x y) {E F : Int} (hx : fb E x) (hz : lb F z) (hE : E - F ≤ 1000) : opp (FP.ddiv x z) (FP.ddiv y z) := by
  obtain ⟨s, t, c, q, a1, a2, a3⟩ := h
  obtain ⟨⟨u, d, r, b1⟩, hzl⟩ := hz
  have hd0 : d ≠ 0 := rv_ne_zero b1 (show rv z ≠ 0 from (show lb F z from ⟨⟨u, d, r, b1⟩, hzl⟩).ne0)
  have hd : 0 < d := Nat.pos_of_ne_zero hd0
  have hxx : rx c d (q - r) ≤ p2 1000 := by
    obtain ⟨m1, m2⟩ := rat_div_bd hx.2.1 hx.2.2 hzl
    rw [← p2_add, show E + -F = E - F by omega] at m1 m2
    have hm := p2_mono hE
    have e1 := rv_fin a1
    have e2 := rv_fin b1
    have hcd : rx c d (q - r) = (c : Rat) * p2 q / ((d : Rat) * p2 r) := by
      unfold rx
      have hdp : (0 : Rat) < (d : Rat) := by exact_mod_cast hd
      have hr := p2_pos r
      have h3 : (d : Rat) * p2 r ≠ 0 := by have := Rat.mul_pos hdp hr; grind
      have e3 : (c : Rat) / d * d = c := Rat.div_mul_cancel (by grind)
      have e4 : p2 (q - r) * p2 r = p2 q := by rw [← p2_add]; congr 1; omega
      have e5 : (c : Rat) * p2 q / ((d : Rat) * p2 r) * ((d : Rat) * p2 r) = (c : Rat) * p2 q := Rat.div_mul_cancel h3
      have e6 : (c : Rat) / d * p2 (q - r) * ((d : Rat) * p2 r) = (c : Rat) * p2 q := by
        calc (c : Rat) / d * p2 (q - r) * ((d : Rat) * p2 r) = ((c : Rat) / d * d) * (p2 (q - r) * p2 r) := by grind
          _ = (c : Rat) * p2 q := by rw [e3, e4]
      have hpos := Rat.mul_pos hdp hr
      have k1 := Rat.le_of_mul_le_mul_right (a := (c : Rat) / d * p2 (q - r)) (b := (c : Rat) * p2 q / ((d : Rat) * p2 r)) (c := (d : Rat) * p2 r) (by rw [e5, e6]; grind) hpos
      have k2 := Rat.le_of_mul_le_mul_right (b := (c : Rat) / d * p2 (q - r)) (a := (c : Rat) * p2 q / ((d : Rat) * p2 r)) (c := (d : Rat) * p2 r) (by rw [e5, e6]; grind) hpos
      grind
    rw [hcd]
    rw [e1, e2] at m1 m2
    cases s <;> cases u <;> simp only [sg, if_true, Bool.false_eq_true, if_false, Rat.one_mul] at m1 m2
    · grind
    · have : (c : Rat) * p2 q / (-1 * ((d : Rat) * p2 r)) = -((c : Rat) * p2 q / ((d : Rat) * p2 r)) := by grind
      rw [this] at m1 m2; grind
    · have : -1 * ((c : Rat) * p2 q) / ((d : Rat) * p2 r) = -((c : Rat) * p2 q / ((d : Rat) * p2 r)) := by rw [Rat.div_def, Rat.div_def, Rat.neg_mul, Rat.one_mul, Rat.neg_mul]
      rw [this] at m1 m2; grind
    · have : -1 * ((c : Rat) * p2 q) / (-1 * ((d : Rat) * p2 r)) = (c : Rat) * p2 q / ((d : Rat) * p2 r) := by grind
      rw [this] at m1 m2; grind
  obtain ⟨c', q', e1, e2, e3, e4⟩ := rr_fin' (s := s != u) hd hxx (t != u)
  have k1 : fv (FP.ddiv x z) = .fin (s != u) c' q' := op_fin rfl (by unfold FP.Core.div; rw [show FP.Core.decode FP.Core.b64 x.toNat = fv x from rfl, show FP.Core.decode FP.Core.b64 z.toNat = fv z from rfl, a1, b1]; show FP.Core.encode _ (if d = 0 then _ else _) = _; rw [if_neg hd0, e1]) e3
  have k2 : fv (FP.ddiv y z) = .fin (t != u) c' q' := op_fin rfl (by unfold FP.Core.div; rw [show FP.Core.decode FP.Core.b64 y.toNat = fv y from rfl, show FP.Core.decode FP.Core.b64 z.toNat = fv z from rfl, a2, b1]; show FP.Core.encode _ (if d = 0 then _ else _) = _; rw [if_neg hd0, e2]) (show okD _ c' q' from e3)
  refine ⟨_, _, c', q', k1, k2, ?_⟩
  rcases a3 with rfl | h0
  · left; cases s <;> cases u <;> rfl
  · exact Or.inr (e4 h0)
theorem opp.mul {x y z : UInt64} (h : opp x y) {E F : Int} (hx : fb E x) (hz : fb F z) (hE : E + F ≤ 1000) : opp (FP.dmul z x) (FP.dmul z y) := by
  obtain ⟨s, t, c, q, a1, a2, a3⟩ := h
  obtain ⟨⟨u, d, r, b1⟩, hz2, hz3⟩ := hz
  have hxx : rx (d * c) 1 (r + q) ≤ p2 1000 := by
    obtain ⟨m1, m2⟩ := rat_mul_bd hz2 hz3 hx.2.1 hx.2.2
    rw [← p2_add] at m1 m2
    have hm := p2_mono (show F + E ≤ 1000 by omega)
    rw [rx_one, p2_add]
    have e1 := rv_fin a1
    have e2 := rv_fin b1
    rw [e1, e2] at m1 m2
    push_cast
    cases s <;> cases u <;> simp only [sg, if_true, Bool.false_eq_true, if_false, Rat.one_mul] at m1 m2 <;> grind
  obtain ⟨c', q', e1, e2, e3, e4⟩ := rr_fin' (s := u != s) (den := 1) (by decide) hxx (u != t)
  have k1 : fv (FP.dmul z x) = .fin (u != s) c' q' := op_fin rfl (by unfold FP.Core.mul; rw [show FP.Core.decode FP.Core.b64 x.toNat = fv x from rfl, show FP.Core.decode FP.Core.b64 z.toNat = fv z from rfl, a1, b1]; show FP.Core.encode _ (FP.Core.roundRatio _ _ _ _ _) = _; rw [e1]) e3
  have k2 : fv (FP.dmul z y) = .fin (u != t) c' q' := op_fin rfl (by unfold FP.Core.mul; rw [show FP.Core.decode FP.Core.b64 y.toNat = fv y from rfl, show FP.Core.decode FP.Core.b64 z.toNat = fv z from rfl, a2, b1]; show FP.Core.encode _ (FP.Core.roundRatio _ _ _ _ _) = _; rw [e2]) (show okD _ c' q' from e3)
  refine ⟨_, _, c', q', k1, k2, ?_⟩
  rcases a3 with rfl | h0
  · left; cases s <;> cases u <;> rfl
  · exact Or.inr (e4 (by rw [h0]; simp))
theorem opp.sqr {x y : UInt64} (h : opp x y) : FP.dmul x x = FP.dmul y y := by
  obtain ⟨s, t, c, q, a1, a2, a3⟩ := h
  show UInt64.ofNat (FP.Core.encode _ (FP.Core.round _ (FP.Core.exactProduct (fv x) (fv x)))) = UInt64.ofNat (FP.Core.encode _ (FP.Core.round _ (FP.Core.exactProduct (fv y) (fv y))))
  rw [a1, a2]
  show UInt64.ofNat (FP.Core.encode _ (FP.Core.round _ (.fin (s != s) (c * c) (q + q)))) = UInt64.ofNat (FP.Core.encode _ (FP.Core.round _ (.fin (t != t) (c * c) (q + q))))
  rw [bne_self_eq_false, bne_self_eq_false]
/-! the shortest way to a hair -/
def hair : Rat := p2 (-40)
theorem short_val {sd d : UInt64} (hs : Sd sd) (hd : fb 7 d) : ∃ m : Int, rv (sFloor (FP.dadd (FP.ddiv d sd) 4602678819172646912)) = (m : Rat) ∧ (rv d - rv sd * m ≤ rv sd / 2 + hair ∧ -(rv d - rv sd * m) ≤ rv sd / 2 + hair) ∧ (rv (sShort sd d) - (rv d - rv sd * m) ≤ hair ∧ (rv d - rv sd * m) - rv (sShort sd d) ≤ hair) := by
  obtain ⟨s1, s2, s3⟩ := hs.b
  have hd2 := hd.2.1
  have hd3 := hd.2.2
  have hq := fb.div hd hs.lb (G := 5) (by decide)
  have ht := fb.add hq fc_4602678819172646912 (G := 6) (by decide)
  obtain ⟨m1, m2⟩ := rat_div_bd (F := 2) hd2 hd3 (Or.inl (by rw [e2_2]; exact s2))
  rw [← p2_add] at m1 m2
  have big := p2_mono (show (7 + -2 : Int) ≤ 1000 by decide)
  obtain ⟨q1, q2⟩ := div_rd hd.1 s1 hs.lb.ne0 (by grind) (by grind)
  obtain ⟨a1, a2⟩ := q2.1 5 (by decide) m1 m2
  have eX : rv d / rv sd * rv sd = rv d := Rat.div_mul_cancel hs.lb.ne0
  generalize rv d / rv sd = X at eX a1 a2 m1 m2
  have big2 := p2_mono (show (6 : Int) ≤ 1000 by decide)
  have hq2 := hq.2.1
  have hq3 := hq.2.2
  rw [e2_5] at hq2 hq3
  rw [e2_6] at big2
  obtain ⟨t1, t2⟩ := add_rd hq.1 fc_4602678819172646912.1 (by rw [rv_half]; grind) (by rw [rv_half]; grind)
  rw [rv_half] at t2
  obtain ⟨c1, c2⟩ := t2.1 6 (by decide) (by rw [e2_6]; grind) (by rw [e2_6]; grind)
  obtain ⟨k, k1, k2, k3, k4⟩ := floor_val (ht.mono (by decide))
  have hfl := fb_floor ht (by decide)
  have e48 : p2 (5 - 53) = hair * (1 / 256) := by
    unfold hair
    have : p2 (-8) = 1 / 256 := by have h := p2_sub 8; rw [show p2 8 = 256 from (p2_nat 8).trans (by decide +kernel)] at h; grind
    rw [← this, ← p2_add]; rfl
  have e47 : p2 (6 - 53) = hair * (1 / 128) := by
    unfold hair
    rw [← e2_m7, ← p2_add]; rfl
  have hh : 0 < hair := p2_pos _
  rw [e48] at a1 a2
  rw [e47] at c1 c2
  have hk1 : (k : Rat) - X ≤ 1 / 2 + hair * (1 / 64) := by grind
  have hk2 : -((k : Rat) - X) ≤ 1 / 2 + hair * (1 / 64) := by grind
  have e1 : rv sd * ((k : Rat) - X) = rv sd * k - rv d := by rw [← eX]; grind
  have d1 := Rat.mul_le_mul_of_nonneg_left hk1 (show 0 ≤ rv sd by grind)
  have d2 := Rat.mul_le_mul_of_nonneg_left hk2 (show 0 ≤ rv sd by grind)
  have e2 : rv sd * -((k : Rat) - X) = rv d - rv sd * k := by rw [← eX]; grind
  rw [e1] at d1
  rw [e2] at d2
  have hsh : rv sd * (hair * (1 / 64)) ≤ hair := by
    have := Rat.mul_le_mul_of_nonneg_right s3 (show 0 ≤ hair * (1 / 64) by grind)
    grind
  have b1 : rv d - rv sd * k ≤ rv sd / 2 + hair := by grind
  have b2 : -(rv d - rv sd * k) ≤ rv sd / 2 + hair := by grind
  have hone : hair ≤ 1 := by have := p2_mono (show (-40 : Int) ≤ 0 by decide); rw [p2_0] at this; exact this
  have e7 : p2 8 = 256 := (p2_nat 8).trans (by decide +kernel)
  rw [e2_7] at hd2 hd3
  have big3 := p2_mono (show (8 : Int) ≤ 1000 by decide)
  rw [e7] at big3
  obtain ⟨r1, r2⟩ := mul_rd s1 hfl.1 (by rw [k1]; grind) (by rw [k1]; grind)
  rw [k1] at r2
  obtain ⟨f1, f2⟩ := r2.1 8 (by decide) (by rw [e7]; grind) (by rw [e7]; grind)
  have e45 : p2 (8 - 53) = hair * (1 / 32) := by
    unfold hair
    rw [← e2_m5, ← p2_add]; rfl
  rw [e45] at f1 f2
  obtain ⟨z1, z2⟩ := sub_rd hd.1 r1 (by grind) (by grind)
  obtain ⟨g1, g2⟩ := z2.1 6 (by decide) (by rw [e2_6]; grind) (by rw [e2_6]; grind)
  rw [e47] at g1 g2
  refine ⟨k, k1, ⟨b1, b2⟩, ?_, ?_⟩
  · show rv (sShort sd d) - _ ≤ _
    unfold sShort
    grind
  · show _ - rv (sShort sd d) ≤ _
    unfold sShort
    grind
