set_option maxRecDepth 100000
/-! ===== doubles: their values as rationals, rounding ===== -/
def p2 (k : Int) : Rat := (2 : Rat) ^ k
theorem p2_pos (k : Int) : 0 < p2 k := Rat.zpow_pos (by decide)
theorem p2_nn (k : Int) : 0 ≤ p2 k := Rat.le_of_lt (p2_pos k)
theorem p2_add (a b : Int) : p2 (a + b) = p2 a * p2 b := Rat.zpow_add (by decide) a b
theorem p2_0 : p2 0 = 1 := Rat.zpow_zero 2
theorem p2_1 : p2 1 = 2 := Rat.zpow_one 2
theorem p2_succ (k : Int) : p2 (k + 1) = 2 * p2 k := by rw [p2_add, p2_1, Rat.mul_comm]
theorem p2_nat (n : Nat) : p2 n = ((2 ^ n : Nat) : Rat) := by
  induction n with
  | zero => exact p2_0
  | succ k ih =>
    rw [show ((k + 1 : Nat) : Int) = (k : Int) + 1 from rfl, p2_succ, ih, Nat.pow_succ]
    push_cast
    grind
theorem p2_ge1 (n : Nat) : 1 ≤ p2 n := by
  rw [p2_nat]
  have : (1 : Nat) ≤ 2 ^ n := Nat.one_le_two_pow
  exact_mod_cast this
theorem p2_mono {a b : Int} (h : a ≤ b) : p2 a ≤ p2 b := by
  have e : b = a + ((b - a).toNat : Int) := by omega
  rw [e, p2_add]
  have h1 := p2_ge1 (b - a).toNat
  have h2 := Rat.mul_le_mul_of_nonneg_left h1 (p2_nn a)
  grind
theorem p2_lt {a b : Int} (h : a < b) : p2 a < p2 b := by
  have h1 := p2_mono (show a + 1 ≤ b by omega)
  rw [p2_succ] at h1
  have := p2_pos a
  grind
theorem p2_le_iff {a b : Int} : p2 a ≤ p2 b ↔ a ≤ b := by
  constructor
  · intro h
    rcases Int.lt_or_le b a with q | q
    · have := p2_lt q; grind
    · exact q
  · exact p2_mono
/-- a power as a quotient of naturals -/
theorem p2_split (k : Int) : p2 k * ((2 ^ (-k).toNat : Nat) : Rat) = ((2 ^ k.toNat : Nat) : Rat) := by
  rw [← p2_nat, ← p2_nat, ← p2_add]
  congr 1
  omega
/-! nearest -/
theorem near_spec (U V : Nat) (hV : 0 < V) : 2 * (FP.Core.nearest U V * V) ≤ 2 * U + V ∧ 2 * U ≤ 2 * (FP.Core.nearest U V * V) + V := by
  have h1 := Nat.div_add_mod U V
  have h2 := Nat.mod_lt U hV
  unfold FP.Core.nearest
  generalize U / V = k at h1
  generalize U % V = r at h1 h2
  have hk : k * V = V * k := Nat.mul_comm _ _
  split
  · omega
  · split
    · rw [Nat.add_mul]; omega
    · rw [Nat.add_mul]
      rcases (show k % 2 = 0 ∨ k % 2 = 1 by omega) with q | q <;> rw [q] <;> omega
theorem near_ge {U V M : Nat} (hV : 0 < V) (h : M * V ≤ U) : M ≤ FP.Core.nearest U V := by
  rcases Nat.lt_or_ge (FP.Core.nearest U V) M with q | q
  · have h1 := (near_spec U V hV).2
    have h2 := Nat.mul_le_mul_right V (show FP.Core.nearest U V + 1 ≤ M from q)
    rw [Nat.add_mul] at h2
    omega
  · exact q
theorem near_le {U V M : Nat} (hV : 0 < V) (h : U ≤ M * V) : FP.Core.nearest U V ≤ M := by
  rcases Nat.lt_or_ge M (FP.Core.nearest U V) with q | q
  · have h1 := (near_spec U V hV).1
    have h2 := Nat.mul_le_mul_right V (show M + 1 ≤ FP.Core.nearest U V from q)
    rw [Nat.add_mul] at h2
    omega
  · exact q
/-! the leading digit -/
theorem rat_div_le {A B : Nat} {y : Rat} (hB : 0 < B) : y ≤ (A : Rat) / B ↔ y * B ≤ A := by
  have hB' : (0 : Rat) < B := by exact_mod_cast hB
  constructor
  · intro h
    have h1 := Rat.mul_le_mul_of_nonneg_right h (Rat.le_of_lt hB')
    rwa [Rat.div_mul_cancel (Rat.ne_of_gt hB')] at h1
  · intro h
    refine Rat.le_of_mul_le_mul_right ?_ hB'
    rwa [Rat.div_mul_cancel (Rat.ne_of_gt hB')]
theorem rat_div_lt {A B : Nat} {y : Rat} (hB : 0 < B) : (A : Rat) / B < y ↔ (A : Rat) < y * B := Rat.div_lt_iff (by exact_mod_cast hB)
theorem lead_cond (A B : Nat) (hB : 0 < B) (k : Int) : B * 2 ^ k.toNat ≤ A * 2 ^ (-k).toNat ↔ p2 k ≤ (A : Rat) / B := by
  rw [rat_div_le hB]
  have hs := p2_split k
  have hp : (0 : Rat) < ((2 ^ (-k).toNat : Nat) : Rat) := by exact_mod_cast Nat.two_pow_pos _
  have hc : (B * 2 ^ k.toNat ≤ A * 2 ^ (-k).toNat) ↔ ((B : Rat) * ((2 ^ k.toNat : Nat) : Rat) ≤ (A : Rat) * ((2 ^ (-k).toNat : Nat) : Rat)) := by
    constructor
    · intro h; exact_mod_cast h
    · intro h; exact_mod_cast h
  rw [hc, ← hs]
  constructor
  · intro h
    refine Rat.le_of_mul_le_mul_right (c := ((2 ^ (-k).toNat : Nat) : Rat)) ?_ hp
    grind
  · intro h
    have := Rat.mul_le_mul_of_nonneg_right h (Rat.le_of_lt hp)
    grind
theorem lead_spec {A B : Nat} (hA : 0 < A) (hB : 0 < B) : p2 (FP.Core.leading A B) ≤ (A : Rat) / B ∧ (A : Rat) / B < p2 (FP.Core.leading A B + 1) := by
  have a1 : 2 ^ A.log2 ≤ A := Nat.log2_self_le (by omega)
  have a2 : A < 2 ^ (A.log2 + 1) := Nat.lt_log2_self
  have b1 : 2 ^ B.log2 ≤ B := Nat.log2_self_le (by omega)
  have b2 : B < 2 ^ (B.log2 + 1) := Nat.lt_log2_self
  have hB' : (0 : Rat) < B := by exact_mod_cast hB
  have a1' : p2 A.log2 ≤ (A : Rat) := by rw [p2_nat]; exact_mod_cast a1
  have a2' : (A : Rat) < p2 (A.log2 + 1) := by rw [show (A.log2 : Int) + 1 = ((A.log2 + 1 : Nat) : Int) from rfl, p2_nat]; exact_mod_cast a2
  have b1' : p2 B.log2 ≤ (B : Rat) := by rw [p2_nat]; exact_mod_cast b1
  have b2' : (B : Rat) < p2 (B.log2 + 1) := by rw [show (B.log2 : Int) + 1 = ((B.log2 + 1 : Nat) : Int) from rfl, p2_nat]; exact_mod_cast b2
  have hup : (A : Rat) / B < p2 ((A.log2 : Int) - B.log2 + 1) := by
    rw [rat_div_lt hB]
    have e : p2 ((A.log2 : Int) + 1) = p2 ((A.log2 : Int) - B.log2 + 1) * p2 B.log2 := by rw [← p2_add]; congr 1; omega
    have := Rat.mul_le_mul_of_nonneg_left b1' (p2_nn ((A.log2 : Int) - B.log2 + 1))
    grind
  have hlo : p2 ((A.log2 : Int) - B.log2 - 1) ≤ (A : Rat) / B := by
    rw [rat_div_le hB]
    have e : p2 A.log2 = p2 ((A.log2 : Int) - B.log2 - 1) * p2 (B.log2 + 1) := by rw [← p2_add]; congr 1; omega
    have := Rat.mul_le_mul_of_nonneg_left (Rat.le_of_lt b2') (p2_nn ((A.log2 : Int) - B.log2 - 1))
    grind
  unfold FP.Core.leading
  simp only
  split
  · rename_i h
    exact ⟨(lead_cond A B hB _).mp h, hup⟩
  · rename_i h
    have h' := mt (lead_cond A B hB _).mpr h
    rw [Rat.not_le] at h'
    exact ⟨hlo, by rw [show (A.log2 : Int) - B.log2 - 1 + 1 = (A.log2 : Int) - B.log2 by omega]; exact h'⟩
/-! rounding a magnitude num / den * 2^e -/
def rx (num den : Nat) (e : Int) : Rat := (num : Rat) / den * p2 e
theorem rx_pos {num den : Nat} (hn : 0 < num) (hd : 0 < den) (e : Int) : 0 < rx num den e := by
  have h1 : (0 : Rat) < num := by exact_mod_cast hn
  have h2 : (0 : Rat) < den := by exact_mod_cast hd
  have h3 : (0 : Rat) < (num : Rat) / den := by rw [Rat.lt_div_iff h2]; grind
  exact Rat.mul_pos h3 (p2_pos e)
theorem units_eq (num : Nat) {den : Nat} (hd : 0 < den) (e q : Int) : (FP.Core.unitsNum num e q : Rat) * p2 q = rx num den e * (FP.Core.unitsDen den e q : Rat) := by
  unfold FP.Core.unitsNum FP.Core.unitsDen rx
  have h2 : (den : Rat) ≠ 0 := by
    have : (0 : Rat) < den := by exact_mod_cast hd
    grind
  have hs := p2_split (e - q)
  rw [show -(e - q) = q - e by omega] at hs
  have he : p2 e = p2 (e - q) * p2 q := by rw [← p2_add]; congr 1; omega
  push_cast at hs ⊢
  rw [← hs, he]
  have hc : (num : Rat) / den * den = num := Rat.div_mul_cancel h2
  grind
theorem unitsDen_pos {den : Nat} (hd : 0 < den) (e q : Int) : 0 < FP.Core.unitsDen den e q := Nat.mul_pos hd (Nat.two_pow_pos _)
abbrev rq (num den : Nat) (e : Int) : Int := FP.Core.quantum FP.Core.b64 num den e
abbrev rn (num den : Nat) (e : Int) : Nat := FP.Core.nearest (FP.Core.unitsNum num e (rq num den e)) (FP.Core.unitsDen den e (rq num den e))
theorem rr_err (num : Nat) {den : Nat} (hd : 0 < den) (e : Int) : 2 * ((rn num den e : Rat) * p2 (rq num den e)) ≤ 2 * rx num den e + p2 (rq num den e) ∧ 2 * rx num den e ≤ 2 * ((rn num den e : Rat) * p2 (rq num den e)) + p2 (rq num den e) := by
  have hV := unitsDen_pos hd e (rq num den e)
  obtain ⟨h1, h2⟩ := near_spec (FP.Core.unitsNum num e (rq num den e)) _ hV
  have hu := units_eq num hd e (rq num den e)
  have hV' : (0 : Rat) < (FP.Core.unitsDen den e (rq num den e) : Rat) := by exact_mod_cast hV
  have h1' : 2 * ((rn num den e : Rat) * (FP.Core.unitsDen den e (rq num den e) : Rat)) ≤ 2 * (FP.Core.unitsNum num e (rq num den e) : Rat) + (FP.Core.unitsDen den e (rq num den e) : Rat) := by exact_mod_cast h1
  have h2' : 2 * (FP.Core.unitsNum num e (rq num den e) : Rat) ≤ 2 * ((rn num den e : Rat) * (FP.Core.unitsDen den e (rq num den e) : Rat)) + (FP.Core.unitsDen den e (rq num den e) : Rat) := by exact_mod_cast h2
  have h1'' := Rat.mul_le_mul_of_nonneg_right h1' (p2_nn (rq num den e))
  have h2'' := Rat.mul_le_mul_of_nonneg_right h2' (p2_nn (rq num den e))
  constructor
  · refine Rat.le_of_mul_le_mul_right ?_ hV'
    grind
  · refine Rat.le_of_mul_le_mul_right ?_ hV'
    grind
theorem rq_min (num den : Nat) (e : Int) : -1074 ≤ rq num den e := by
  show -1074 ≤ max (-1074) _
  omega
theorem rq_eq (num den : Nat) (e : Int) : rq num den e = max (-1074) (FP.Core.leading num den + e - 52) := rfl
theorem rx_lead {num den : Nat} (hn : 0 < num) (hd : 0 < den) (e : Int) : p2 (FP.Core.leading num den + e) ≤ rx num den e ∧ rx num den e < p2 (FP.Core.leading num den + e + 1) := by
  obtain ⟨h1, h2⟩ := lead_spec hn hd
  constructor
  · rw [p2_add]
    exact Rat.mul_le_mul_of_nonneg_right h1 (p2_nn e)
  · rw [show FP.Core.leading num den + e + 1 = FP.Core.leading num den + 1 + e by omega, p2_add]
    exact Rat.mul_lt_mul_of_pos_right h2 (p2_pos e)
theorem rx_hi {num den : Nat} (hn : 0 < num) (hd : 0 < den) (e : Int) : rx num den e < p2 (rq num den e + 53) := by
  have h := (rx_lead hn hd e).2
  have := p2_mono (show FP.Core.leading num den + e + 1 ≤ rq num den e + 53 by rw [rq_eq]; omega)
  grind
theorem rx_lo {num den : Nat} (hn : 0 < num) (hd : 0 < den) (e : Int) (hq : -1074 < rq num den e) : p2 (rq num den e + 52) ≤ rx num den e := by
  have h := (rx_lead hn hd e).1
  have := p2_mono (show rq num den e + 52 ≤ FP.Core.leading num den + e by rw [rq_eq] at hq ⊢; omega)
  grind
/-- the rounded value is on the right side of every whole number of units -/
theorem rn_ge (num : Nat) {den : Nat} (hd : 0 < den) (e : Int) {M : Nat} (h : (M : Rat) * p2 (rq num den e) ≤ rx num den e) : M ≤ rn num den e := by
  have hV := unitsDen_pos hd e (rq num den e)
  have hu := units_eq num hd e (rq num den e)
  have hV' : (0 : Rat) < (FP.Core.unitsDen den e (rq num den e) : Rat) := by exact_mod_cast hV
  refine near_ge hV ?_
  have h1 := Rat.mul_le_mul_of_nonneg_right h (Rat.le_of_lt hV')
  rw [← hu] at h1
  have h2 : (M : Rat) * (FP.Core.unitsDen den e (rq num den e) : Rat) ≤ (FP.Core.unitsNum num e (rq num den e) : Rat) := by
    refine Rat.le_of_mul_le_mul_right (c := p2 (rq num den e)) ?_ (p2_pos _)
    grind
  exact_mod_cast h2
theorem rn_le (num : Nat) {den : Nat} (hd : 0 < den) (e : Int) {M : Nat} (h : rx num den e ≤ (M : Rat) * p2 (rq num den e)) : rn num den e ≤ M := by
  have hV := unitsDen_pos hd e (rq num den e)
  have hu := units_eq num hd e (rq num den e)
  have hV' : (0 : Rat) < (FP.Core.unitsDen den e (rq num den e) : Rat) := by exact_mod_cast hV
  refine near_le hV ?_
  have h1 := Rat.mul_le_mul_of_nonneg_right h (Rat.le_of_lt hV')
  rw [← hu] at h1
  have h2 : (FP.Core.unitsNum num e (rq num den e) : Rat) ≤ (M : Rat) * (FP.Core.unitsDen den e (rq num den e) : Rat) := by
    refine Rat.le_of_mul_le_mul_right (c := p2 (rq num den e)) ?_ (p2_pos _)
    grind
  exact_mod_cast h2
theorem rn_53 {num den : Nat} (hn : 0 < num) (hd : 0 < den) (e : Int) : rn num den e ≤ 2 ^ 53 := by
  refine rn_le num hd e ?_
  have h := rx_hi hn hd e
  have e1 : p2 (rq num den e + 53) = ((2 ^ 53 : Nat) : Rat) * p2 (rq num den e) := by rw [← p2_nat, ← p2_add]; congr 1; omega
  grind
theorem rn_52 {num den : Nat} (hn : 0 < num) (hd : 0 < den) (e : Int) (hq : -1074 < rq num den e) : 2 ^ 52 ≤ rn num den e := by
  refine rn_ge num hd e ?_
  have h := rx_lo hn hd e hq
  have e1 : p2 (rq num den e + 52) = ((2 ^ 52 : Nat) : Rat) * p2 (rq num den e) := by rw [← p2_nat, ← p2_add]; congr 1; omega
  grind
