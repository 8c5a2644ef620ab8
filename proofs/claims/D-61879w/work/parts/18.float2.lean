set_option maxRecDepth 100000
/-! ===== doubles: data, rounding by values, the operations ===== -/
def dval : FP.Core.Datum → Rat
  | .fin s c q => (FP.Core.signed s c : Int) * p2 q
  | _ => 0
def fv (a : UInt64) : FP.Core.Datum := FP.Core.decode FP.Core.b64 a.toNat
def rv (a : UInt64) : Rat := dval (fv a)
/-- a datum of the format -/
def okD (s : Bool) (c : Nat) (q : Int) : Prop := c < 9007199254740992 ∧ -1074 ≤ q ∧ q ≤ 971 ∧ (q = -1074 ∨ 4503599627370496 ≤ c)
def Fn (a : UInt64) : Prop := ∃ s c q, fv a = .fin s c q
theorem tails64 : FP.Core.b64.tails = 4503599627370496 := by decide
theorem exps64 : FP.Core.b64.exps = 2048 := by decide
theorem qmin64 : FP.Core.b64.qmin = -1074 := by decide
theorem qmax64 : FP.Core.b64.qmax = 971 := by decide
theorem dec_ok {n : Nat} {s : Bool} {c : Nat} {q : Int} (h : FP.Core.decode FP.Core.b64 n = .fin s c q) : okD s c q := by
  unfold FP.Core.decode at h
  have hT : FP.Core.fieldT FP.Core.b64 n < 4503599627370496 := by unfold FP.Core.fieldT; rw [tails64]; exact Nat.mod_lt _ (by decide)
  have hE : FP.Core.fieldE FP.Core.b64 n < 2048 := by unfold FP.Core.fieldE; rw [exps64]; exact Nat.mod_lt _ (by decide)
  rw [exps64, tails64, qmin64] at h
  split at h
  · split at h <;> cases h
  · split at h
    · obtain ⟨-, h1, h2⟩ := FP.Core.Datum.fin.inj h
      unfold okD
      omega
    · obtain ⟨-, h1, h2⟩ := FP.Core.Datum.fin.inj h
      unfold okD
      omega
theorem asm_lt {s : Bool} {E t : Nat} (hE : E < 2048) (ht : t < 4503599627370496) : FP.Core.assemble FP.Core.b64 s E t < 18446744073709551616 ∧ FP.Core.fieldT FP.Core.b64 (FP.Core.assemble FP.Core.b64 s E t) = t ∧ FP.Core.fieldE FP.Core.b64 (FP.Core.assemble FP.Core.b64 s E t) = E ∧ FP.Core.fieldS FP.Core.b64 (FP.Core.assemble FP.Core.b64 s E t) = s := by
  unfold FP.Core.assemble FP.Core.fieldT FP.Core.fieldE FP.Core.fieldS
  rw [exps64, tails64]
  cases s
  · refine ⟨by simp; omega, by simp; omega, by simp; omega, ?_⟩
    have : (0 * 2048 + E) * 4503599627370496 + t = E * 4503599627370496 + t := by omega
    simp only [Bool.toNat_false, this]
    have h2 : (E * 4503599627370496 + t) / 4503599627370496 / 2048 % 2 = 0 := by omega
    rw [h2]; rfl
  · refine ⟨by simp; omega, by simp; omega, by simp; omega, ?_⟩
    simp only [Bool.toNat_true]
    have h2 : ((1 * 2048 + E) * 4503599627370496 + t) / 4503599627370496 / 2048 % 2 = 1 := by omega
    rw [h2]; rfl
theorem dec_enc {s : Bool} {c : Nat} {q : Int} (h : okD s c q) : fv (UInt64.ofNat (FP.Core.encode FP.Core.b64 (.fin s c q))) = .fin s c q := by
  obtain ⟨h1, h2, h3, h4⟩ := h
  unfold fv FP.Core.encode
  simp only
  rw [tails64, qmin64]
  by_cases hc : c < 4503599627370496
  · rw [if_pos hc]
    obtain ⟨a1, a2, a3, a4⟩ := asm_lt (s := s) (E := 0) (by decide) hc
    rw [UInt64.toNat_ofNat_of_lt' (by exact a1)]
    unfold FP.Core.decode
    rw [a2, a3, a4, exps64, qmin64]
    simp
    omega
  · rw [if_neg hc]
    obtain ⟨a1, a2, a3, a4⟩ := asm_lt (s := s) (E := (q - -1074).toNat + 1) (t := c - 4503599627370496) (by omega) (by omega)
    rw [UInt64.toNat_ofNat_of_lt' (by exact a1)]
    unfold FP.Core.decode
    rw [a2, a3, a4, exps64, qmin64, tails64]
    rw [if_neg (by omega), if_neg (by omega)]
    have e1 : 4503599627370496 + (c - 4503599627370496) = c := by omega
    have e2 : -1074 + ((((q - -1074).toNat + 1 : Nat) : Int) - 1) = q := by omega
    rw [e1, e2]
theorem fv_ok {a : UInt64} {s : Bool} {c : Nat} {q : Int} (h : fv a = .fin s c q) : okD s c q := dec_ok h
theorem fn_n64 {a : UInt64} (h : Fn a) : vf_n64 a := by
  obtain ⟨s, c, q, h⟩ := h
  unfold vf_n64
  rw [UInt64.le_iff_toNat_le, UInt64.toNat_and]
  have e1 : (0x7fffffffffffffff : UInt64).toNat = 2 ^ 63 - 1 := by decide
  rw [e1, Nat.and_two_pow_sub_one_eq_mod]
  show a.toNat % 2 ^ 63 ≤ 9218868437227405312
  unfold fv FP.Core.decode at h
  rw [exps64] at h
  have hE : FP.Core.fieldE FP.Core.b64 a.toNat = a.toNat / 4503599627370496 % 2048 := by unfold FP.Core.fieldE; rw [tails64, exps64]
  split at h
  · split at h <;> cases h
  · rename_i h2
    rw [hE] at h2
    omega
/-! a representable value -/
def Rep (w : Rat) : Prop := ∃ (s : Bool) (c : Nat) (q : Int), c ≤ 9007199254740992 ∧ -1074 ≤ q ∧ w = (FP.Core.signed s c : Int) * p2 q
theorem Rep.neg {w : Rat} (h : Rep w) : Rep (-w) := by
  obtain ⟨s, c, q, h1, h2, rfl⟩ := h
  refine ⟨!s, c, q, h1, h2, ?_⟩
  cases s <;> simp [FP.Core.signed] <;> grind
theorem rep_rv (a : UInt64) : Rep (rv a) := by
  unfold rv
  cases h : fv a with
  | fin s c q =>
    obtain ⟨h1, h2, -, -⟩ := fv_ok h
    exact ⟨s, c, q, by omega, h2, rfl⟩
  | nan => exact ⟨false, 0, 0, by decide, by decide, by simp [dval, FP.Core.signed]⟩
  | inf s => exact ⟨false, 0, 0, by decide, by decide, by simp [dval, FP.Core.signed]⟩
theorem rep_p2 {k : Int} (h : -1074 ≤ k) : Rep (p2 k) := ⟨false, 1, k, by decide, h, by simp [FP.Core.signed]⟩
/-- v is X rounded -/
def Rd (X v : Rat) : Prop := (∀ E : Int, -1000 ≤ E → X ≤ p2 E → -X ≤ p2 E → v - X ≤ p2 (E - 53) ∧ X - v ≤ p2 (E - 53)) ∧ (∀ w, Rep w → w ≤ X → w ≤ v) ∧ (∀ w, Rep w → X ≤ w → v ≤ w)
theorem Rd.neg {X v : Rat} (h : Rd X v) : Rd (-X) (-v) := by
  refine ⟨fun E h1 h2 h3 => ?_, fun w hw h1 => ?_, fun w hw h1 => ?_⟩
  · have h3' : X ≤ p2 E := by grind
    obtain ⟨a, b⟩ := h.1 E h1 h3' h2
    constructor <;> grind
  · have := h.2.2 (-w) hw.neg (by grind)
    grind
  · have := h.2.1 (-w) hw.neg (by grind)
    grind
theorem Rd.zero : Rd 0 0 := by
  refine ⟨fun E _ _ _ => ?_, fun w _ h => h, fun w _ h => h⟩
  have := p2_pos (E - 53)
  constructor <;> grind
/-- the magnitude -/
theorem rr_rd {num den : Nat} (hn : 0 < num) (hd : 0 < den) (e : Int) : Rd (rx num den e) ((rn num den e : Rat) * p2 (rq num den e)) := by
  have hx := rx_pos hn hd e
  obtain ⟨e1, e2⟩ := rr_err num hd e
  refine ⟨fun E hE h1 _ => ?_, fun w hw h1 => ?_, fun w hw h1 => ?_⟩
  · have hl : FP.Core.leading num den + e ≤ E := p2_le_iff.mp (by have := (rx_lead hn hd e).1; grind)
    have hq : rq num den e ≤ E - 52 := by rw [rq_eq]; omega
    have h2 := p2_mono hq
    have h3 : p2 (E - 52) = 2 * p2 (E - 53) := by rw [← p2_succ]; congr 1; omega
    constructor <;> grind
  · obtain ⟨s, c, q', hc, hq', rfl⟩ := hw
    have hnn : (0 : Rat) ≤ (rn num den e : Rat) * p2 (rq num den e) := Rat.mul_nonneg (by exact_mod_cast Nat.zero_le _) (p2_nn _)
    cases s with
    | true =>
      have : ((FP.Core.signed true c : Int) : Rat) * p2 q' ≤ 0 := by
        have h3 : (0 : Rat) ≤ (c : Rat) * p2 q' := Rat.mul_nonneg (by exact_mod_cast Nat.zero_le _) (p2_nn _)
        simp only [FP.Core.signed, if_true]
        push_cast
        grind
      grind
    | false =>
      simp only [FP.Core.signed, Bool.false_eq_true, if_false] at h1 ⊢
      push_cast at h1 ⊢
      rcases Int.le_total (rq num den e) q' with hqq | hqq
      · have ee : (c : Rat) * p2 q' = ((c * 2 ^ (q' - rq num den e).toNat : Nat) : Rat) * p2 (rq num den e) := by
          have : p2 q' = p2 ((q' - rq num den e).toNat : Int) * p2 (rq num den e) := by rw [← p2_add]; congr 1; omega
          rw [this, p2_nat]; push_cast; grind
        rw [ee] at h1 ⊢
        have := rn_ge num hd e h1
        refine Rat.mul_le_mul_of_nonneg_right ?_ (p2_nn _)
        exact_mod_cast this
      · by_cases hq2 : q' = rq num den e
        · rw [hq2] at h1 ⊢
          have := rn_ge num hd e h1
          refine Rat.mul_le_mul_of_nonneg_right ?_ (p2_nn _)
          exact_mod_cast this
        · have h5 := rn_52 hn hd e (by omega)
          have h6 : p2 q' ≤ p2 (rq num den e - 1) := p2_mono (by omega)
          have h7 : p2 (rq num den e) = 2 * p2 (rq num den e - 1) := by rw [← p2_succ]; congr 1; omega
          have h8 : (c : Rat) ≤ 9007199254740992 := by exact_mod_cast hc
          have h9 : (4503599627370496 : Rat) ≤ (rn num den e : Rat) := by
            have : 4503599627370496 ≤ rn num den e := by simpa using h5
            exact_mod_cast this
          have a1 := Rat.mul_le_mul_of_nonneg_right h8 (p2_nn q')
          have a2 := Rat.mul_le_mul_of_nonneg_right h9 (p2_nn (rq num den e))
          grind
  · obtain ⟨s, c, q', hc, hq', rfl⟩ := hw
    cases s with
    | true =>
      have : ((FP.Core.signed true c : Int) : Rat) * p2 q' ≤ 0 := by
        have h3 : (0 : Rat) ≤ (c : Rat) * p2 q' := Rat.mul_nonneg (by exact_mod_cast Nat.zero_le _) (p2_nn _)
        simp only [FP.Core.signed, if_true]
        push_cast
        grind
      grind
    | false =>
      simp only [FP.Core.signed, Bool.false_eq_true, if_false] at h1 ⊢
      push_cast at h1 ⊢
      rcases Int.le_total (rq num den e) q' with hqq | hqq
      · have ee : (c : Rat) * p2 q' = ((c * 2 ^ (q' - rq num den e).toNat : Nat) : Rat) * p2 (rq num den e) := by
          have : p2 q' = p2 ((q' - rq num den e).toNat : Int) * p2 (rq num den e) := by rw [← p2_add]; congr 1; omega
          rw [this, p2_nat]; push_cast; grind
        rw [ee] at h1 ⊢
        have := rn_le num hd e h1
        refine Rat.mul_le_mul_of_nonneg_right ?_ (p2_nn _)
        exact_mod_cast this
      · by_cases hq2 : q' = rq num den e
        · rw [hq2] at h1 ⊢
          have := rn_le num hd e h1
          refine Rat.mul_le_mul_of_nonneg_right ?_ (p2_nn _)
          exact_mod_cast this
        · have h5 := rx_lo hn hd e (by omega)
          have h6 : p2 q' ≤ p2 (rq num den e - 1) := p2_mono (by omega)
          have h7 : p2 (rq num den e) = 2 * p2 (rq num den e - 1) := by rw [← p2_succ]; congr 1; omega
          have h8 : (c : Rat) ≤ 9007199254740992 := by exact_mod_cast hc
          have a1 := Rat.mul_le_mul_of_nonneg_right h8 (p2_nn q')
          have h10 : p2 (rq num den e + 52) = 4503599627370496 * p2 (rq num den e) := by
            rw [Int.add_comm, p2_add, show (52 : Int) = ((52 : Nat) : Int) from rfl, p2_nat]; rfl
          have h11 : rn num den e ≤ 4503599627370496 := by
            refine rn_le num hd e ?_
            push_cast
            grind
          have h12 : (rn num den e : Rat) ≤ 4503599627370496 := by exact_mod_cast h11
          have a2 := Rat.mul_le_mul_of_nonneg_right h12 (p2_nn (rq num den e))
          grind
