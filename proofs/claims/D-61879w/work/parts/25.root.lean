set_option maxRecDepth 100000
/-! ===== the root by forty halvings: its bounds ===== -/
def rtS (z r : UInt64) : UInt64 := FP.dmul (FP.dadd r (FP.ddiv z r)) 4602678819172646912
def rtN (z : UInt64) : Nat → UInt64
  | 0 => FP.dmul (FP.dadd z FP.dconst1) 4602678819172646912
  | k + 1 => rtS z (rtN z k)
def sRoot (z : UInt64) : UInt64 := if FP.dcmp z FP.dconst0 = some .eq then FP.dconst0 else rtN z 40
theorem rep_2 {a b : Int} (ha : -1074 ≤ a) (hb : -1074 ≤ b) (h : a - b ≤ 52 ∧ b - a ≤ 52) : Rep (p2 a + p2 b) := by
  have key : ∀ {a b : Int}, -1074 ≤ b → b ≤ a → a - b ≤ 52 → Rep (p2 a + p2 b) := by
    intro a b hb hba h
    have e1 : p2 a = ((2 ^ (a - b).toNat : Nat) : Rat) * p2 b := by rw [← p2_nat, ← p2_add]; congr 1; omega
    refine ⟨false, 2 ^ (a - b).toNat + 1, b, ?_, hb, ?_⟩
    · have := Nat.pow_le_pow_right (n := 2) (by decide) (show (a - b).toNat ≤ 52 by omega)
      omega
    · rw [e1]
      simp only [FP.Core.signed, Bool.false_eq_true, if_false]
      push_cast
      grind
  by_cases hle : b ≤ a
  · exact key hb hle h.1
  · have := key (a := b) (b := a) ha (by omega) h.2
    rw [Rat.add_comm]; exact this
/-- the binade of a positive number -/
theorem binade {z : UInt64} (hz : Fn z) (hx : 0 < rv z) : ∃ e : Int, p2 e ≤ rv z ∧ rv z < p2 (e + 1) := by
  obtain ⟨s, c, q, h⟩ := hz
  have hv := rv_fin h
  have hcq : (0 : Rat) ≤ (c : Rat) * p2 q := Rat.mul_nonneg (by exact_mod_cast Nat.zero_le _) (p2_nn q)
  have hs : s = false := by
    cases s
    · rfl
    · exfalso; rw [hv] at hx; simp only [sg, if_true] at hx; grind
  subst hs
  simp only [sg, Bool.false_eq_true, if_false, Rat.one_mul] at hv
  have hc : 0 < c := by
    rcases Nat.eq_zero_or_pos c with q0 | q0
    · exfalso; subst q0; rw [hv] at hx; simp at hx
    · exact q0
  have h3 := rx_lead (num := c) (den := 1) hc (by decide) q
  rw [rx_one, ← hv] at h3
  exact ⟨_, h3⟩
/-- what z must be -/
def RtZ (z : UInt64) : Prop := Fn z ∧ p2 (-60) ≤ rv z ∧ rv z ≤ p2 30
theorem root_inv {z : UInt64} (hz : RtZ z) {e j E0 : Int} (he1 : p2 e ≤ rv z) (he2 : rv z < p2 (e + 1)) (hj : 2 * j - 2 ≤ e ∧ e + 1 ≤ 2 * j) (hE : 0 ≤ E0 ∧ e + 1 ≤ E0 ∧ E0 ≤ 31) (hE2 : E0 = 0 ∨ E0 = e + 1) (hb : -61 ≤ e ∧ e ≤ 30) :
    ∀ k : Nat, k ≤ 40 → Fn (rtN z k) ∧ p2 (j - 2) ≤ rv (rtN z k) ∧ rv (rtN z k) ≤ p2 (E0 - k) + p2 (j + 3) := by
  obtain ⟨z0, z1, z2⟩ := hz
  have big : ∀ E : Int, E ≤ 100 → p2 E ≤ p2 100 := fun E h => p2_mono h
  have hbig : p2 100 * 8 ≤ p2 1000 := by
    rw [← e2_3, ← p2_add]; exact p2_mono (by decide)
  have zpos : 0 < rv z := by have := p2_pos e; grind
  intro k
  induction k with
  | zero =>
    intro _
    have b30 := big 30 (by decide)
    have b0 := big 0 (by decide)
    rw [p2_0] at b0
    obtain ⟨q1, q2⟩ := add_rd z0 fc_1.1 (by rw [rv_1]; grind) (by rw [rv_1]; grind)
    rw [rv_1] at q2
    have hE1 : p2 (e + 1) ≤ p2 E0 := p2_mono hE.2.1
    have h0E : p2 0 ≤ p2 E0 := p2_mono hE.1
    rw [p2_0] at h0E
    have u1 : rv (FP.dadd z FP.dconst1) ≤ p2 (E0 + 1) := q2.2.2 _ (rep_p2 (by omega)) (by rw [p2_succ]; grind)
    have l1 : 1 ≤ rv (FP.dadd z FP.dconst1) := by
      have := q2.2.1 _ (rep_p2 (k := 0) (by decide)) (by rw [p2_0]; grind)
      rw [p2_0] at this; exact this
    have l2 : rv z ≤ rv (FP.dadd z FP.dconst1) := q2.2.1 _ (rep_rv z) (by grind)
    have bE := big (E0 + 1) (by omega)
    obtain ⟨r1, r2⟩ := mul_rd q1 fc_4602678819172646912.1 (by rw [rv_half]; grind) (by rw [rv_half]; grind)
    rw [rv_half] at r2
    refine ⟨r1, ?_, ?_⟩
    · refine r2.2.1 _ (rep_p2 (by omega)) ?_
      rcases hE2 with h | h
      · have : p2 (j - 2) ≤ p2 (-1) := p2_mono (by omega)
        rw [e2_m1] at this
        grind
      · by_cases h0 : e + 1 = 0
        · have : p2 (j - 2) ≤ p2 (-1) := p2_mono (by omega)
          rw [e2_m1] at this
          grind
        · have : p2 (j - 2) ≤ p2 (e - 1) := p2_mono (by omega)
          have h5 := p2_succ (e - 1)
          rw [show e - 1 + 1 = e by omega] at h5
          grind
    · have : rv (rtN z 0) ≤ p2 E0 := r2.2.2 _ (rep_p2 (by omega)) (by rw [p2_succ] at u1; grind)
      have := p2_pos (j + 3)
      rw [show E0 - ((0 : Nat) : Int) = E0 by simp]
      grind
  | succ k ih =>
    intro hk
    obtain ⟨r0, r1, r2⟩ := ih (by omega)
    show Fn (rtS z (rtN z k)) ∧ p2 (j - 2) ≤ rv (rtS z (rtN z k)) ∧ rv (rtS z (rtN z k)) ≤ p2 (E0 - ((k + 1 : Nat) : Int)) + p2 (j + 3)
    generalize rtN z k = r at r0 r1 r2
    have pj := p2_pos (j - 2)
    have rpos : 0 < rv r := by grind
    have rlb : lb (j - 2) r := ⟨r0, Or.inl r1⟩
    have zb : rv z ≤ p2 (2 * j) := by have := p2_mono hj.2; grind
    obtain ⟨m1, m2⟩ := rat_div_bd (x := rv z) (X := p2 (2 * j)) (F := j - 2) zb (by have := p2_pos (2 * j); grind) rlb.2
    rw [← p2_add, show 2 * j + -(j - 2) = j + 2 by omega] at m1 m2
    have bj := big (j + 2) (by omega)
    have zfin := p2_mono (show (2 * j : Int) ≤ 100 by omega)
    obtain ⟨q1, q2⟩ := div_rd z0 r0 rlb.ne0 (by grind) (by grind)
    have eX : rv z / rv r * rv r = rv z := Rat.div_mul_cancel rlb.ne0
    have u1 : rv (FP.ddiv z r) ≤ p2 (j + 2) := q2.2.2 _ (rep_p2 (by omega)) m1
    have dpos : 0 ≤ rv z / rv r := by
      refine Rat.le_of_mul_le_mul_right (c := rv r) ?_ rpos
      rw [eX, Rat.zero_mul]
      exact Rat.le_of_lt zpos
    have u0 : 0 ≤ rv (FP.ddiv z r) := q2.nn dpos
    have bk := big (E0 - k) (by omega)
    have bj3 := big (j + 3) (by omega)
    obtain ⟨a1, a2⟩ := add_rd r0 q1 (by grind) (by grind)
    have s4 := p2_succ (j + 3)
    have s3 := p2_succ (j + 2)
    rw [show j + 2 + 1 = j + 3 by omega] at s3
    rw [show j + 3 + 1 = j + 4 by omega] at s4
    have u2 : rv (FP.dadd r (FP.ddiv z r)) ≤ p2 (E0 - k) + p2 (j + 4) := a2.2.2 _ (rep_2 (by omega) (by omega) (by omega)) (by grind)
    have l2 : rv r ≤ rv (FP.dadd r (FP.ddiv z r)) := a2.2.1 _ (rep_rv r) (by grind)
    have l3 : rv (FP.ddiv z r) ≤ rv (FP.dadd r (FP.ddiv z r)) := a2.2.1 _ (rep_rv _) (by grind)
    have bj4 := big (j + 4) (by omega)
    obtain ⟨c1, c2⟩ := mul_rd a1 fc_4602678819172646912.1 (by rw [rv_half]; grind) (by rw [rv_half]; grind)
    rw [rv_half] at c2
    have sj := p2_succ (j - 2)
    rw [show j - 2 + 1 = j - 1 by omega] at sj
    refine ⟨c1, ?_, ?_⟩
    · refine c2.2.1 _ (rep_p2 (by omega)) ?_
      by_cases hc : p2 (j - 1) ≤ rv r
      · grind
      · have hr : rv r ≤ p2 (j - 1) := by grind
        have : p2 (j - 1) ≤ rv z / rv r := by
          refine Rat.le_of_mul_le_mul_right (c := rv r) ?_ rpos
          rw [eX]
          have h1 := Rat.mul_le_mul_of_nonneg_left hr (p2_nn (j - 1))
          rw [← p2_add] at h1
          have h2 := p2_mono (show j - 1 + (j - 1) ≤ e by omega)
          grind
        have := q2.2.1 _ (rep_p2 (k := j - 1) (by omega)) this
        grind
    · have sk := p2_succ (E0 - ((k + 1 : Nat) : Int))
      rw [show E0 - ((k + 1 : Nat) : Int) + 1 = E0 - k by push_cast; omega] at sk
      refine c2.2.2 _ (rep_2 (by push_cast; omega) (by omega) (by push_cast; omega)) ?_
      grind
/-- every round of it -/
theorem root_b {z : UInt64} (hz : RtZ z) (k : Nat) (hk : k ≤ 40) : fb 32 (rtN z k) ∧ lb (-33) (rtN z k) := by
  have zpos : 0 < rv z := by have := p2_pos (-60); have := hz.2.1; grind
  obtain ⟨e, h1, h2⟩ := binade hz.1 zpos
  have b1 : -61 ≤ e := by
    have : p2 (-60) < p2 (e + 1) := by have := hz.2.1; grind
    by_cases hc : e + 1 ≤ -60
    · have := p2_mono hc; grind
    · omega
  have b2 : e ≤ 30 := by
    have : p2 e ≤ p2 30 := by have := hz.2.2; grind
    exact p2_le_iff.mp this
  obtain ⟨c1, c2, c3⟩ := root_inv hz (j := (e + 2) / 2) (E0 := max 0 (e + 1)) h1 h2 (by omega) (by omega) (by omega) ⟨b1, b2⟩ k hk
  refine ⟨⟨c1, ?_, ?_⟩, ⟨c1, Or.inl ?_⟩⟩
  · have g1 := p2_mono (show max 0 (e + 1) - (k : Int) ≤ 31 by omega)
    have g2 := p2_mono (show (e + 2) / 2 + 3 ≤ 31 by omega)
    have g3 := p2_succ 31
    show _ ≤ p2 (31 + 1)
    grind
  · have g1 := p2_pos ((e + 2) / 2 - 2)
    have g2 := p2_pos 32
    grind
  · have g1 := p2_mono (show (-33 : Int) ≤ (e + 2) / 2 - 2 by omega)
    grind
/-- the last one: times a number whose square times z is at most 2^20, or that is at most 1 -/
theorem root_sc {z : UInt64} (hz : RtZ z) {u : Rat} (h0 : 0 ≤ u) (hu : u ≤ p2 20) (hsq : u ≤ 1 ∨ rv z * (u * u) ≤ p2 20) : u * rv (rtN z 40) ≤ p2 20 := by
  have zpos : 0 < rv z := by have := p2_pos (-60); have := hz.2.1; grind
  obtain ⟨e, h1, h2⟩ := binade hz.1 zpos
  have b1 : -61 ≤ e := by
    have : p2 (-60) < p2 (e + 1) := by have := hz.2.1; grind
    by_cases hc : e + 1 ≤ -60
    · have := p2_mono hc; grind
    · omega
  have b2 : e ≤ 30 := by
    have : p2 e ≤ p2 30 := by have := hz.2.2; grind
    exact p2_le_iff.mp this
  obtain ⟨c1, c2, c3⟩ := root_inv hz (j := (e + 2) / 2) (E0 := max 0 (e + 1)) h1 h2 (by omega) (by omega) (by omega) ⟨b1, b2⟩ 40 (by decide)
  have hr : u * rv (rtN z 40) ≤ u * (p2 (max 0 (e + 1) - ((40 : Nat) : Int)) + p2 ((e + 2) / 2 + 3)) := Rat.mul_le_mul_of_nonneg_left c3 h0
  have g1 := p2_mono (show max 0 (e + 1) - ((40 : Nat) : Int) ≤ -9 by omega)
  have t1 : u * p2 (max 0 (e + 1) - ((40 : Nat) : Int)) ≤ p2 20 * p2 (-9) := by
    have q1 := Rat.mul_le_mul_of_nonneg_left g1 h0
    have q2 := Rat.mul_le_mul_of_nonneg_right hu (p2_nn (-9))
    grind
  rw [← p2_add] at t1
  have g3 := p2_mono (show (20 + -9 : Int) ≤ 19 by decide)
  have g4 := p2_succ 19
  have t2 : u * p2 ((e + 2) / 2 + 3) ≤ p2 19 := by
    rcases hsq with hs | hs
    · have q1 := Rat.mul_le_mul_of_nonneg_right hs (p2_nn ((e + 2) / 2 + 3))
      have q2 := p2_mono (show (e + 2) / 2 + 3 ≤ 19 by omega)
      grind
    · by_cases hc : u * p2 ((e + 2) / 2 + 3) ≤ p2 19
      · exact hc
      · exfalso
        have hgt : p2 19 < u * p2 ((e + 2) / 2 + 3) := by grind
        have w := Rat.mul_lt_mul_of_pos_left hgt (p2_pos 19)
        have w2 := Rat.mul_le_mul_of_nonneg_right (Rat.le_of_lt hgt) (show 0 ≤ u * p2 ((e + 2) / 2 + 3) from Rat.mul_nonneg h0 (p2_nn _))
        have e1 : u * p2 ((e + 2) / 2 + 3) * (u * p2 ((e + 2) / 2 + 3)) = u * u * p2 (2 * ((e + 2) / 2) + 6) := by
          have e0 : p2 (2 * ((e + 2) / 2) + 6) = p2 ((e + 2) / 2 + 3) * p2 ((e + 2) / 2 + 3) := by rw [← p2_add]; congr 1; omega
          rw [e0]
          generalize p2 ((e + 2) / 2 + 3) = P
          clear e0
          grind
        rw [e1] at w2
        have q1 := p2_mono (show 2 * ((e + 2) / 2) + 6 ≤ e + 8 by omega)
        have q2 := Rat.mul_le_mul_of_nonneg_left q1 (Rat.mul_nonneg h0 h0)
        have e8 : p2 (e + 8) = p2 e * p2 8 := p2_add e 8
        rw [e8] at q2
        have q3 := Rat.mul_le_mul_of_nonneg_left h1 (Rat.mul_nonneg h0 h0)
        have q4 := Rat.mul_le_mul_of_nonneg_right q3 (p2_nn 8)
        have q5 := Rat.mul_le_mul_of_nonneg_right hs (p2_nn 8)
        rw [← p2_add] at q5 w
        have q6 := p2_lt (show (20 + 8 : Int) < 19 + 19 by decide)
        grind
  have g5 : p2 20 = 2 * p2 19 := g4
  grind
