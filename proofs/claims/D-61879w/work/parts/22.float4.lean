set_option maxRecDepth 100000
/-! ===== doubles: whole numbers in and out, floor, negation, exact results ===== -/
theorem rep_int {i : Int} (h : i.natAbs ≤ 9007199254740992) : Rep (i : Rat) := by
  refine ⟨decide (i < 0), i.natAbs, 0, h, by decide, ?_⟩
  rw [p2_0, Rat.mul_one]
  congr 1
  unfold FP.Core.signed
  by_cases h0 : i < 0
  · simp [h0]; omega
  · simp [h0]; omega
theorem Rd.exact {X v : Rat} (h : Rd X v) (hX : Rep X) : v = X := by
  have h1 := h.2.1 X hX (by grind)
  have h2 := h.2.2 X hX (by grind)
  grind
theorem int_rd {i : Int} (h : i.natAbs ≤ 2 ^ 64) : Fn (UInt64.ofNat (FP.Core.fromInt FP.Core.b64 i)) ∧ Rd (i : Rat) (rv (UInt64.ofNat (FP.Core.fromInt FP.Core.b64 i))) := by
  have hb : rx i.natAbs 1 0 ≤ p2 1000 := by
    rw [rx_one, p2_0, Rat.mul_one]
    have h1 : ((i.natAbs : Nat) : Rat) ≤ ((2 ^ 64 : Nat) : Rat) := by exact_mod_cast h
    have h2 := p2_mono (show (64 : Int) ≤ 1000 by decide)
    rw [show (64 : Int) = ((64 : Nat) : Int) from rfl, p2_nat] at h2
    grind
  obtain ⟨c', q', e1, e2, e3⟩ := rr_fin (decide (i < 0)) i.natAbs (den := 1) (by decide) 0 hb
  have hx : sg (decide (i < 0)) * rx i.natAbs 1 0 = (i : Rat) := by
    have := natAbs_val false false i
    unfold FP.Core.sumSign at this
    rw [rx_one, p2_0, Rat.mul_one]
    by_cases h0 : i = 0
    · subst h0; simp
    · rw [if_neg h0] at this; exact this
  rw [hx] at e3
  have hf : fv (UInt64.ofNat (FP.Core.fromInt FP.Core.b64 i)) = .fin (decide (i < 0)) c' q' := op_fin rfl (by unfold FP.Core.fromInt; exact congrArg _ e1) e2
  exact ⟨⟨_, _, _, hf⟩, by rw [show rv (UInt64.ofNat (FP.Core.fromInt FP.Core.b64 i)) = dval (fv (UInt64.ofNat (FP.Core.fromInt FP.Core.b64 i))) from rfl, hf]; exact e3⟩
theorem l2d_rd (a : Int64) : Fn (FP.l2d a) ∧ Rd (a.toInt : Rat) (rv (FP.l2d a)) := int_rd (by have h1 := a.toInt_lt; have h2 := a.le_toInt; omega)
theorem i2d_rd (a : Int32) : Fn (FP.i2d a) ∧ rv (FP.i2d a) = (a.toInt : Rat) := by
  have h1 := a.toInt_lt
  have h2 := a.le_toInt
  obtain ⟨h3, h4⟩ := int_rd (i := a.toInt) (by omega)
  exact ⟨h3, h4.exact (rep_int (by omega))⟩
theorem l2d_exact {a : Int64} (h : a.toInt.natAbs ≤ 9007199254740992) : rv (FP.l2d a) = (a.toInt : Rat) := (l2d_rd a).2.exact (rep_int h)
/-- toward zero -/
theorem trunc_nn (c : Nat) (q : Int) : ((c * 2 ^ q.toNat / 2 ^ (-q).toNat : Nat) : Rat) ≤ (c : Rat) * p2 q ∧ (c : Rat) * p2 q < ((c * 2 ^ q.toNat / 2 ^ (-q).toNat : Nat) : Rat) + 1 := by
  have hs := p2_split q
  have hpos := Nat.two_pow_pos (-q).toNat
  generalize hk : c * 2 ^ q.toNat / 2 ^ (-q).toNat = k
  have h1 : k * 2 ^ (-q).toNat ≤ c * 2 ^ q.toNat := by rw [← hk]; exact Nat.div_mul_le_self _ _
  have h2 : c * 2 ^ q.toNat < (k + 1) * 2 ^ (-q).toNat := by rw [← hk]; exact Nat.lt_mul_of_div_lt (Nat.lt_succ_self _) hpos
  have hp : (0 : Rat) < ((2 ^ (-q).toNat : Nat) : Rat) := by exact_mod_cast hpos
  have h1' : (k : Rat) * ((2 ^ (-q).toNat : Nat) : Rat) ≤ (c : Rat) * ((2 ^ q.toNat : Nat) : Rat) := by exact_mod_cast h1
  have h2' : (c : Rat) * ((2 ^ q.toNat : Nat) : Rat) < ((k : Rat) + 1) * ((2 ^ (-q).toNat : Nat) : Rat) := by exact_mod_cast h2
  rw [← hs] at h1' h2'
  constructor
  · refine Rat.le_of_mul_le_mul_right ?_ hp
    grind
  · refine Rat.lt_of_mul_lt_mul_right (c := ((2 ^ (-q).toNat : Nat) : Rat)) ?_ (Rat.le_of_lt hp)
    grind
theorem d2l_val {z : UInt64} (h : fb 62 z) : ((0 ≤ rv z → 0 ≤ (FP.d2l z).toInt ∧ ((FP.d2l z).toInt : Rat) ≤ rv z ∧ rv z < ((FP.d2l z).toInt : Rat) + 1) ∧ (rv z ≤ 0 → (FP.d2l z).toInt ≤ 0 ∧ rv z ≤ ((FP.d2l z).toInt : Rat) ∧ ((FP.d2l z).toInt : Rat) < rv z + 1)) := by
  obtain ⟨⟨s, c, q, hz⟩, h1, h2⟩ := h
  have hv := rv_fin hz
  obtain ⟨t1, t2⟩ := trunc_nn c q
  generalize hk : c * 2 ^ q.toNat / 2 ^ (-q).toNat = k at t1 t2
  have hm : (c : Rat) * p2 q ≤ p2 62 := by
    have h3 : (0 : Rat) ≤ (c : Rat) * p2 q := Rat.mul_nonneg (by exact_mod_cast Nat.zero_le _) (p2_nn q)
    rw [hv] at h1 h2
    cases s <;> simp only [sg, if_true, Bool.false_eq_true, if_false] at h1 h2 <;> grind
  have hk62 : k ≤ 2 ^ 62 := by
    have h4 : (k : Rat) ≤ p2 62 := by grind
    rw [show (62 : Int) = ((62 : Nat) : Int) from rfl, p2_nat] at h4
    exact_mod_cast h4
  have hL : (FP.d2l z).toInt = FP.Core.signed s k := by
    show (FP.Core.toL (fv z)).toInt = _
    rw [hz]
    show (Int64.ofInt (max (-2 ^ 63) (min (2 ^ 63 - 1) (FP.Core.signed s (c * 2 ^ q.toNat / 2 ^ (-q).toNat))))).toInt = _
    rw [hk]
    have e1 : max (-2 ^ 63) (min (2 ^ 63 - 1) (FP.Core.signed s k)) = FP.Core.signed s k := by
      cases s <;> simp only [FP.Core.signed, if_true, Bool.false_eq_true, if_false] <;> omega
    rw [e1]
    refine Int64.toInt_ofInt_of_le ?_ ?_
    · cases s <;> simp only [FP.Core.signed, if_true, Bool.false_eq_true, if_false] <;> omega
    · cases s <;> simp only [FP.Core.signed, if_true, Bool.false_eq_true, if_false] <;> omega
  rw [hL, hv]
  have hck : (0 : Rat) ≤ (c : Rat) * p2 q := Rat.mul_nonneg (by exact_mod_cast Nat.zero_le _) (p2_nn q)
  have hk0 : (0 : Rat) ≤ (k : Rat) := by exact_mod_cast Nat.zero_le _
  cases s with
  | false =>
    simp only [FP.Core.signed, sg, if_true, Bool.false_eq_true, if_false]
    push_cast
    refine ⟨fun _ => ⟨by omega, by grind, by grind⟩, fun h0 => ?_⟩
    have hk1 : k = 0 := by
      have : (k : Rat) < 1 := by grind
      have : k < 1 := by exact_mod_cast this
      omega
    subst hk1
    refine ⟨by decide, ?_, ?_⟩
    · push_cast; grind
    · push_cast; grind
  | true =>
    simp only [FP.Core.signed, sg, if_true, Bool.false_eq_true, if_false]
    push_cast
    refine ⟨fun h0 => ?_, fun _ => ⟨by omega, by grind, by grind⟩⟩
    have hk1 : k = 0 := by
      have : (k : Rat) < 1 := by grind
      have : k < 1 := by exact_mod_cast this
      omega
    subst hk1
    refine ⟨by decide, ?_, ?_⟩
    · push_cast; grind
    · push_cast; grind
theorem fb_trunc {E : Int} {z : UInt64} (h : fb E z) (hE : 0 ≤ E ∧ E ≤ 62) : fb E (FP.l2d (FP.d2l z)) := by
  obtain ⟨h1, h2⟩ := d2l_val (h.mono hE.2)
  obtain ⟨a1, a2⟩ := l2d_rd (FP.d2l z)
  have hz := h.2.1
  have hz2 := h.2.2
  have hp := p2_pos E
  have key : ((FP.d2l z).toInt : Rat) ≤ p2 E ∧ -((FP.d2l z).toInt : Rat) ≤ p2 E := by
    rcases Rat.le_total (a := 0) (b := rv z) with q | q
    · obtain ⟨b1, b2, b3⟩ := h1 q
      have b1' : (0 : Rat) ≤ ((FP.d2l z).toInt : Rat) := by exact_mod_cast b1
      constructor <;> grind
    · obtain ⟨b1, b2, b3⟩ := h2 q
      have b1' : ((FP.d2l z).toInt : Rat) ≤ 0 := by exact_mod_cast b1
      constructor <;> grind
  exact fb_of (by omega) a1 a2 key.1 key.2
/-- the greatest whole number not above -/
def sFloor (z : UInt64) : UInt64 := if FP.dcmp (FP.l2d (FP.d2l z)) z = some .gt then FP.dsub (FP.l2d (FP.d2l z)) FP.dconst1 else FP.l2d (FP.d2l z)
theorem rv_1 : rv FP.dconst1 = 1 := by
  rw [rv_fin vc_1]
  simp only [sg, Bool.false_eq_true, if_false, Rat.one_mul]
  have : p2 (-52) * p2 52 = 1 := by rw [← p2_add]; exact p2_0
  have e : p2 52 = ((4503599627370496 : Nat) : Rat) := (p2_nat 52).trans (by decide +kernel)
  rw [e] at this
  grind
theorem rv_0 : rv FP.dconst0 = 0 := by rw [rv_fin vc_0]; simp
theorem fb_floor {E : Int} {z : UInt64} (h : fb E z) (hE : 0 ≤ E ∧ E ≤ 62) : fb (E + 1) (sFloor z) := by
  have ht := fb_trunc h hE
  unfold sFloor
  split
  · exact fb.sub ht (fc_1.mono (show (0 : Int) ≤ E by omega)) (by omega)
  · exact ht.mono (by omega)
theorem int_le_of_rat {a : Int} {N : Nat} (h : (a : Rat) ≤ ((N : Nat) : Rat)) : a ≤ (N : Int) := by exact_mod_cast h
theorem int_nle_of_rat {a : Int} {N : Nat} (h : -(a : Rat) ≤ ((N : Nat) : Rat)) : -a ≤ (N : Int) := by exact_mod_cast h
theorem rat_le_of_int {a : Int} {N : Nat} (h : a ≤ (N : Int)) : (a : Rat) ≤ ((N : Nat) : Rat) := by exact_mod_cast h
theorem rat_nle_of_int {a : Int} {N : Nat} (h : -a ≤ (N : Int)) : -(a : Rat) ≤ ((N : Nat) : Rat) := by exact_mod_cast h
theorem floor_val {z : UInt64} (h : fb 50 z) : ∃ k : Int, rv (sFloor z) = (k : Rat) ∧ (k : Rat) ≤ rv z ∧ rv z < (k : Rat) + 1 ∧ k.natAbs ≤ 2 ^ 51 := by
  have hz := h.2.1
  have hz2 := h.2.2
  obtain ⟨h1, h2⟩ := d2l_val (h.mono (by decide))
  have ht := fb_trunc h (by decide)
  have e50 : p2 50 = ((1125899906842624 : Nat) : Rat) := (p2_nat 50).trans (by decide +kernel)
  rw [e50] at hz hz2
  generalize hd : FP.d2l z = a at h1 h2 ht
  have hsmall : a.toInt.natAbs ≤ 2 ^ 50 := by
    rcases Rat.le_total (a := 0) (b := rv z) with q | q
    · obtain ⟨b1, b2, b3⟩ := h1 q
      have : ((a.toInt : Int) : Rat) ≤ ((1125899906842624 : Nat) : Rat) := by grind
      have := int_le_of_rat this
      omega
    · obtain ⟨b1, b2, b3⟩ := h2 q
      have : -((a.toInt : Int) : Rat) ≤ ((1125899906842624 : Nat) : Rat) := by grind
      have := int_nle_of_rat this
      omega
  have hw : rv (FP.l2d a) = (a.toInt : Rat) := l2d_exact (by omega)
  obtain ⟨c1, c2, c3, c4⟩ := cmp_val (l2d_rd a).1 h.1
  unfold sFloor
  rw [hd]
  by_cases hg : FP.dcmp (FP.l2d a) z = some .gt
  · rw [if_pos hg]
    have h5 := c3.mp hg
    rw [hw] at h5
    have hsub : rv (FP.dsub (FP.l2d a) FP.dconst1) = ((a.toInt - 1 : Int) : Rat) := by
      have hb := p2_mono (show (51 : Int) ≤ 1000 by decide)
      have e51 : p2 51 = 2 * p2 50 := p2_succ 50
      have b1 : ((a.toInt : Int) : Rat) ≤ ((1125899906842624 : Nat) : Rat) := by
        exact rat_le_of_int (by omega)
      have b2 : -((a.toInt : Int) : Rat) ≤ ((1125899906842624 : Nat) : Rat) := by
        exact rat_nle_of_int (by omega)
      have h50 : (1 : Rat) ≤ ((1125899906842624 : Nat) : Rat) := by
        have : (1 : Nat) ≤ 1125899906842624 := by decide
        exact_mod_cast this
      rw [e51, e50] at hb
      obtain ⟨q1, q2⟩ := sub_rd (l2d_rd a).1 fc_1.1 (by rw [hw, rv_1]; grind) (by rw [hw, rv_1]; grind)
      rw [hw, rv_1] at q2
      have e3 : (a.toInt : Rat) - 1 = ((a.toInt - 1 : Int) : Rat) := by push_cast; rfl
      rw [e3] at q2
      exact q2.exact (rep_int (by omega))
    refine ⟨a.toInt - 1, hsub, ?_, ?_, by omega⟩
    · push_cast
      rcases Rat.le_total (a := 0) (b := rv z) with q | q
      · obtain ⟨b1, b2, b3⟩ := h1 q; grind
      · obtain ⟨b1, b2, b3⟩ := h2 q; grind
    · push_cast; grind
  · rw [if_neg hg]
    have h5 : ¬ rv z < (a.toInt : Rat) := by rw [← hw]; exact fun q => hg (c3.mpr q)
    refine ⟨a.toInt, hw, by grind, ?_, by omega⟩
    rcases Rat.le_total (a := 0) (b := rv z) with q | q
    · obtain ⟨b1, b2, b3⟩ := h1 q; grind
    · obtain ⟨b1, b2, b3⟩ := h2 q; grind
