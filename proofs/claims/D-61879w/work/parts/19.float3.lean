set_option maxRecDepth 100000
/-! ===== doubles: the four operations, comparison, by values ===== -/
def sg (s : Bool) : Rat := if s then -1 else 1
theorem dval_fin (s : Bool) (c : Nat) (q : Int) : dval (.fin s c q) = sg s * ((c : Rat) * p2 q) := by
  cases s <;> simp only [dval, FP.Core.signed, sg, if_true, Bool.false_eq_true, if_false] <;> push_cast <;> grind
theorem rr_fin (s : Bool) (num : Nat) {den : Nat} (hd : 0 < den) (e : Int) (hx : rx num den e ≤ p2 1000) : ∃ c q, FP.Core.roundRatio FP.Core.b64 s num den e = .fin s c q ∧ okD s c q ∧ Rd (sg s * rx num den e) (dval (.fin s c q)) := by
  unfold FP.Core.roundRatio
  by_cases h0 : num = 0
  · subst h0
    refine ⟨0, -1074, by simp [qmin64], by unfold okD; decide, ?_⟩
    have e1 : rx 0 den e = 0 := by
      unfold rx
      rw [Rat.div_def]
      simp
    have e2 : dval (.fin s 0 (-1074)) = 0 := by rw [dval_fin]; simp
    rw [e1, e2, Rat.mul_zero]
    exact Rd.zero
  · rw [if_neg h0]
    have hn : 0 < num := by omega
    have hl : FP.Core.leading num den + e ≤ 1000 := p2_le_iff.mp (by have := (rx_lead hn hd e).1; grind)
    have hq : rq num den e ≤ 948 := by rw [rq_eq]; omega
    have hq0 := rq_min num den e
    have h53 := rn_53 hn hd e
    have hrd := rr_rd hn hd e
    have key : ∀ v : Rat, v = (rn num den e : Rat) * p2 (rq num den e) → Rd (sg s * rx num den e) (sg s * v) := by
      intro v hv
      rw [hv]
      cases s
      · simp only [sg, Bool.false_eq_true, if_false, Rat.one_mul]; exact hrd
      · simp only [sg, if_true]
        have := hrd.neg
        rw [show (-1 : Rat) * rx num den e = -rx num den e by grind, show (-1 : Rat) * ((rn num den e : Rat) * p2 (rq num den e)) = -((rn num den e : Rat) * p2 (rq num den e)) by grind]
        exact this
    unfold FP.Core.roundAt FP.Core.settle FP.Core.bound
    rw [qmax64]
    show ∃ c q, (if rn num den e < 2 ^ 53 then (if rq num den e ≤ 971 then FP.Core.Datum.fin s (rn num den e) (rq num den e) else .inf s) else (if rq num den e + 1 ≤ 971 then FP.Core.Datum.fin s FP.Core.b64.tails (rq num den e + 1) else .inf s)) = .fin s c q ∧ okD s c q ∧ _
    by_cases hc : rn num den e < 2 ^ 53
    · rw [if_pos hc, if_pos (by omega)]
      refine ⟨_, _, rfl, ⟨by simpa using hc, hq0, by omega, ?_⟩, ?_⟩
      · by_cases h : rq num den e = -1074
        · exact Or.inl h
        · exact Or.inr (by simpa using rn_52 hn hd e (by omega))
      · rw [dval_fin]
        exact key _ rfl
    · rw [if_neg hc, if_pos (by omega), tails64]
      refine ⟨_, _, rfl, ⟨by decide, by omega, by omega, Or.inr (Nat.le_refl _)⟩, ?_⟩
      rw [dval_fin]
      refine key _ ?_
      have e1 : rn num den e = 2 ^ 53 := by omega
      rw [p2_succ, e1]
      push_cast
      grind
theorem op_fin {r : UInt64} {n : Nat} {s : Bool} {c : Nat} {q : Int} (hr : r = UInt64.ofNat n) (hn : n = FP.Core.encode FP.Core.b64 (.fin s c q)) (hok : okD s c q) : fv r = .fin s c q := by
  subst hr; subst hn
  exact dec_enc hok
theorem iu_val (c : Nat) {q e : Int} (h : e ≤ q) : (FP.Core.inUnits c q e : Rat) * p2 e = (c : Rat) * p2 q := by
  unfold FP.Core.inUnits
  have : p2 q = p2 ((q - e).toNat : Int) * p2 e := by rw [← p2_add]; congr 1; omega
  rw [this, p2_nat]; push_cast; grind
theorem signed_val (s : Bool) (c : Nat) : ((FP.Core.signed s c : Int) : Rat) = sg s * (c : Rat) := by
  cases s <;> simp only [FP.Core.signed, sg, if_true, Bool.false_eq_true, if_false] <;> push_cast <;> grind
theorem rx_one (c : Nat) (q : Int) : rx c 1 q = (c : Rat) * p2 q := by
  unfold rx
  have : (c : Rat) / ((1 : Nat) : Rat) = c := by
    have h := Rat.div_mul_cancel (a := (c : Rat)) (b := ((1 : Nat) : Rat)) (by decide)
    simpa using h
  rw [this]
theorem natAbs_val (s t : Bool) (v : Int) : sg (FP.Core.sumSign s t v) * ((v.natAbs : Nat) : Rat) = (v : Rat) := by
  unfold FP.Core.sumSign
  by_cases h : v = 0
  · subst h; simp
  · rw [if_neg h]
    by_cases h2 : v < 0
    · have e1 : ((v.natAbs : Nat) : Rat) = -(v : Rat) := by
        have : ((v.natAbs : Nat) : Int) = -v := by omega
        have h3 : (((v.natAbs : Nat) : Int) : Rat) = ((-v : Int) : Rat) := by rw [this]
        push_cast at h3
        exact h3
      rw [e1]
      simp only [sg, h2, decide_true, if_true]
      grind
    · have e1 : ((v.natAbs : Nat) : Rat) = (v : Rat) := by
        have : ((v.natAbs : Nat) : Int) = v := by omega
        have h3 : (((v.natAbs : Nat) : Int) : Rat) = (v : Rat) := by rw [this]
        push_cast at h3
        exact h3
      rw [e1]
      simp only [sg, h2, decide_false, Bool.false_eq_true, if_false]
      grind
theorem nn_of_abs {x y : Rat} (s : Bool) (h : sg s * x = y) : x = sg s * y := by
  cases s <;> simp [sg] at h ⊢ <;> grind
theorem sum_rd {da db : FP.Core.Datum} {s t : Bool} {c d : Nat} {q r : Int} (ha : da = .fin s c q) (hb : db = .fin t d r) (h1 : dval da + dval db ≤ p2 1000) (h2 : -(dval da + dval db) ≤ p2 1000) :
    ∃ s' c' q', FP.Core.round FP.Core.b64 (FP.Core.exactSum da db) = .fin s' c' q' ∧ okD s' c' q' ∧ Rd (dval da + dval db) (dval (.fin s' c' q')) := by
  subst ha; subst hb
  have hs : dval (.fin s c q) + dval (.fin t d r) = ((FP.Core.sumUnits s c q t d r (min q r) : Int) : Rat) * p2 (min q r) := by
    unfold FP.Core.sumUnits
    push_cast
    rw [signed_val, signed_val, dval_fin, dval_fin, ← iu_val c (show min q r ≤ q by omega), ← iu_val d (show min q r ≤ r by omega)]
    grind
  show ∃ s' c' q', FP.Core.roundRatio FP.Core.b64 (FP.Core.sumSign s t (FP.Core.sumUnits s c q t d r (min q r))) (FP.Core.sumUnits s c q t d r (min q r)).natAbs 1 (min q r) = .fin s' c' q' ∧ _
  generalize FP.Core.sumUnits s c q t d r (min q r) = v at hs ⊢
  have hv := natAbs_val s t v
  have hx : sg (FP.Core.sumSign s t v) * rx v.natAbs 1 (min q r) = dval (.fin s c q) + dval (.fin t d r) := by
    rw [rx_one, hs, ← hv]; grind
  have hb : rx v.natAbs 1 (min q r) ≤ p2 1000 := by
    have := nn_of_abs _ hx
    rw [this]
    generalize FP.Core.sumSign s t v = b
    cases b <;> simp [sg] <;> grind
  obtain ⟨c', q', e1, e2, e3⟩ := rr_fin (FP.Core.sumSign s t v) v.natAbs (den := 1) (by decide) (min q r) hb
  rw [hx] at e3
  exact ⟨_, c', q', e1, e2, e3⟩
theorem add_rd {a b : UInt64} (ha : Fn a) (hb : Fn b) (h1 : rv a + rv b ≤ p2 1000) (h2 : -(rv a + rv b) ≤ p2 1000) : Fn (FP.dadd a b) ∧ Rd (rv a + rv b) (rv (FP.dadd a b)) := by
  obtain ⟨s, c, q, ha⟩ := ha
  obtain ⟨t, d, r, hb⟩ := hb
  obtain ⟨s', c', q', e1, e2, e3⟩ := sum_rd ha hb h1 h2
  have hf : fv (FP.dadd a b) = .fin s' c' q' := op_fin rfl (by unfold FP.Core.add; rw [show FP.Core.decode FP.Core.b64 a.toNat = fv a from rfl, show FP.Core.decode FP.Core.b64 b.toNat = fv b from rfl, e1]) e2
  exact ⟨⟨_, _, _, hf⟩, by rw [show rv (FP.dadd a b) = dval (fv (FP.dadd a b)) from rfl, hf]; exact e3⟩
theorem dval_negate (d : FP.Core.Datum) : dval (FP.Core.negate d) = -dval d := by
  cases d with
  | nan => simp [FP.Core.negate, dval]
  | inf s => simp [FP.Core.negate, dval]
  | fin s c q => show dval (.fin (!s) c q) = _; rw [dval_fin, dval_fin]; cases s <;> simp [sg] <;> grind
theorem sub_rd {a b : UInt64} (ha : Fn a) (hb : Fn b) (h1 : rv a - rv b ≤ p2 1000) (h2 : rv b - rv a ≤ p2 1000) : Fn (FP.dsub a b) ∧ Rd (rv a - rv b) (rv (FP.dsub a b)) := by
  obtain ⟨s, c, q, ha⟩ := ha
  obtain ⟨t, d, r, hb⟩ := hb
  have hb' : FP.Core.negate (fv b) = .fin (!t) d r := by rw [hb]; rfl
  have hx : dval (fv a) + dval (FP.Core.negate (fv b)) = rv a - rv b := by rw [dval_negate]; unfold rv; grind
  obtain ⟨s', c', q', e1, e2, e3⟩ := sum_rd ha hb' (by rw [hx]; exact h1) (by rw [hx]; grind)
  have hf : fv (FP.dsub a b) = .fin s' c' q' := op_fin rfl (by unfold FP.Core.sub; rw [show FP.Core.decode FP.Core.b64 a.toNat = fv a from rfl, show FP.Core.decode FP.Core.b64 b.toNat = fv b from rfl, e1]) e2
  rw [hx] at e3
  exact ⟨⟨_, _, _, hf⟩, by rw [show rv (FP.dsub a b) = dval (fv (FP.dsub a b)) from rfl, hf]; exact e3⟩
theorem sg_mul (s t : Bool) : sg (s != t) = sg s * sg t := by cases s <;> cases t <;> simp [sg] <;> grind
theorem mul_rd {a b : UInt64} (ha : Fn a) (hb : Fn b) (h1 : rv a * rv b ≤ p2 1000) (h2 : -(rv a * rv b) ≤ p2 1000) : Fn (FP.dmul a b) ∧ Rd (rv a * rv b) (rv (FP.dmul a b)) := by
  obtain ⟨s, c, q, ha⟩ := ha
  obtain ⟨t, d, r, hb⟩ := hb
  have hx : sg (s != t) * rx (c * d) 1 (q + r) = rv a * rv b := by
    unfold rv
    rw [ha, hb, dval_fin, dval_fin, rx_one, sg_mul, p2_add]; push_cast; grind
  have hbd : rx (c * d) 1 (q + r) ≤ p2 1000 := by
    have := nn_of_abs _ hx
    rw [this]
    generalize (s != t) = b'
    cases b' <;> simp [sg] <;> grind
  obtain ⟨c', q', e1, e2, e3⟩ := rr_fin (s != t) (c * d) (den := 1) (by decide) (q + r) hbd
  have hf : fv (FP.dmul a b) = .fin (s != t) c' q' := op_fin rfl (by
    unfold FP.Core.mul
    rw [show FP.Core.decode FP.Core.b64 a.toNat = fv a from rfl, show FP.Core.decode FP.Core.b64 b.toNat = fv b from rfl, ha, hb]
    exact congrArg _ e1) e2
  rw [hx] at e3
  exact ⟨⟨_, _, _, hf⟩, by rw [show rv (FP.dmul a b) = dval (fv (FP.dmul a b)) from rfl, hf]; exact e3⟩
theorem rv_ne_zero {b : UInt64} {t : Bool} {d : Nat} {r : Int} (hb : fv b = .fin t d r) (h : rv b ≠ 0) : d ≠ 0 := by
  intro h0
  subst h0
  apply h
  unfold rv
  rw [hb, dval_fin]
  simp
theorem div_rd {a b : UInt64} (ha : Fn a) (hb : Fn b) (h0 : rv b ≠ 0) (h1 : rv a / rv b ≤ p2 1000) (h2 : -(rv a / rv b) ≤ p2 1000) : Fn (FP.ddiv a b) ∧ Rd (rv a / rv b) (rv (FP.ddiv a b)) := by
  obtain ⟨s, c, q, ha⟩ := ha
  obtain ⟨t, d, r, hb⟩ := hb
  have hd := rv_ne_zero hb h0
  have hd' : (d : Rat) ≠ 0 := by
    intro h; exact hd (by exact_mod_cast h)
  have hp := p2_pos r
  have hx : sg (s != t) * rx c d (q - r) = rv a / rv b := by
    have e0 : rv b = sg t * ((d : Rat) * p2 r) := by unfold rv; rw [hb, dval_fin]
    have e1 : rv a = sg s * ((c : Rat) * p2 q) := by unfold rv; rw [ha, dval_fin]
    have e2 : (sg (s != t) * rx c d (q - r)) * rv b = rv a := by
      unfold rx
      rw [e0, e1, sg_mul]
      have e3 : p2 q = p2 (q - r) * p2 r := by rw [← p2_add]; congr 1; omega
      have e4 : (c : Rat) / d * d = c := Rat.div_mul_cancel hd'
      have e5 : sg t * sg t = 1 := by cases t <;> simp only [sg, if_true, Bool.false_eq_true, if_false] <;> grind
      rw [e3]
      grind
    have e3 : rv a / rv b * rv b = rv a := Rat.div_mul_cancel h0
    have e4 : (sg (s != t) * rx c d (q - r) - rv a / rv b) * rv b = 0 := by grind
    rcases Rat.mul_eq_zero.mp e4 with h | h
    · grind
    · exact absurd h h0
  have hbd : rx c d (q - r) ≤ p2 1000 := by
    have := nn_of_abs _ hx
    rw [this]
    generalize (s != t) = b'
    cases b' <;> simp [sg] <;> grind
  obtain ⟨c', q', e1, e2, e3⟩ := rr_fin (s != t) c (den := d) (by omega) (q - r) hbd
  have hf : fv (FP.ddiv a b) = .fin (s != t) c' q' := op_fin rfl (by
    unfold FP.Core.div
    rw [show FP.Core.decode FP.Core.b64 a.toNat = fv a from rfl, show FP.Core.decode FP.Core.b64 b.toNat = fv b from rfl, ha, hb]
    unfold FP.Core.quotient
    simp only
    rw [if_neg hd]
    exact congrArg _ e1) e2
  rw [hx] at e3
  exact ⟨⟨_, _, _, hf⟩, by rw [show rv (FP.ddiv a b) = dval (fv (FP.ddiv a b)) from rfl, hf]; exact e3⟩
/-! comparison -/
theorem cmp_val {a b : UInt64} (ha : Fn a) (hb : Fn b) : (FP.dcmp a b = some .lt ↔ rv a < rv b) ∧ (FP.dcmp a b = some .eq ↔ rv a = rv b) ∧ (FP.dcmp a b = some .gt ↔ rv b < rv a) ∧ FP.dcmp a b ≠ none := by
  obtain ⟨s, c, q, ha⟩ := ha
  obtain ⟨t, d, r, hb⟩ := hb
  have hc : FP.dcmp a b = some (compare (FP.Core.signed s (FP.Core.inUnits c q (min q r))) (FP.Core.signed t (FP.Core.inUnits d r (min q r)))) := by
    show FP.Core.order (fv a) (fv b) = _
    rw [ha, hb]; rfl
  have e1 : ((FP.Core.signed s (FP.Core.inUnits c q (min q r)) : Int) : Rat) * p2 (min q r) = rv a := by
    unfold rv; rw [ha, signed_val, dval_fin, ← iu_val c (show min q r ≤ q by omega)]; grind
  have e2 : ((FP.Core.signed t (FP.Core.inUnits d r (min q r)) : Int) : Rat) * p2 (min q r) = rv b := by
    unfold rv; rw [hb, signed_val, dval_fin, ← iu_val d (show min q r ≤ r by omega)]; grind
  rw [hc, ← e1, ← e2]
  generalize FP.Core.signed s (FP.Core.inUnits c q (min q r)) = x
  generalize FP.Core.signed t (FP.Core.inUnits d r (min q r)) = y
  have hp := p2_pos (min q r)
  have l1 : (x : Rat) * p2 (min q r) < (y : Rat) * p2 (min q r) ↔ x < y := by
    rw [Rat.mul_lt_mul_right hp]; exact Rat.intCast_lt_intCast
  have l2 : (y : Rat) * p2 (min q r) < (x : Rat) * p2 (min q r) ↔ y < x := by
    rw [Rat.mul_lt_mul_right hp]; exact Rat.intCast_lt_intCast
  have l3 : (x : Rat) * p2 (min q r) = (y : Rat) * p2 (min q r) ↔ x = y := by
    constructor
    · intro h
      rcases Int.lt_trichotomy x y with h1 | h1 | h1
      · have := l1.mpr h1; grind
      · exact h1
      · have := l2.mpr h1; grind
    · intro h; rw [h]
  rw [l1, l2, l3]
  refine ⟨?_, ?_, ?_, by simp⟩
  · rw [Option.some.injEq]; exact Int.compare_eq_lt
  · rw [Option.some.injEq]; exact Int.compare_eq_eq
  · rw [Option.some.injEq]; exact Int.compare_eq_gt
