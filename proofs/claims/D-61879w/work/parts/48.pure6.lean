set_option maxRecDepth 100000
/-! ===== looking, in plain words: energies, the histogram ===== -/
def cq (D : T64) : UInt64 := FP.dmul (D 21 0) (D 21 0)
section EN
variable (D : T64) (J : Jt)
/-- the pairs of i up to j -/
def eR (i : Nat) (a : UInt64) : Nat → UInt64
  | 0 => a
  | j + 1 => if i < j ∧ FP.dcmp (wR D i j) (cq D) = some .lt then FP.dadd (eR i a j) (pN D J i j (wR D i j)) else eR i a j
def eS (n : Nat) : Nat → UInt64
  | 0 => FP.dconst0
  | i + 1 => eR D J i (eS n i) n
def eB : Nat → UInt64
  | 0 => FP.dconst0
  | k + 1 => FP.dadd (eB k) (bN D k (wR D (J 2 k) (J 3 k)))
def eK : Nat → UInt64
  | 0 => FP.dconst0
  | i + 1 => FP.dadd (eK i) (FP.dmul (FP.dmul 4602678819172646912 (D 4 i)) (FP.dadd (FP.dmul (D 2 i) (D 2 i)) (FP.dmul (D 3 i) (D 3 i))))
def enW (n nb : Nat) (k : Int32) : UInt64 := if k = 0 then eS D J n n else if k = nI 1 then eB D J nb else eK D n
end EN
section EL
variable {D : T64} {J : Jt} {n nb nr : Nat}
theorem eR_lo {i : Nat} {a : UInt64} : ∀ j, j ≤ i + 1 → eR D J i a j = a
  | 0, _ => rfl
  | j + 1, h => by
    unfold eR
    rw [if_neg (fun q => by omega)]
    exact eR_lo j (by omega)
theorem eR_t {i j : Nat} {a : UInt64} (h : i < j) (hf : flt (wR D i j) (cq D)) : eR D J i a (j + 1) = FP.dadd (eR D J i a j) (pN D J i j (wR D i j)) := if_pos ⟨h, hf⟩
theorem eR_f {i j : Nat} {a : UInt64} (hf : ¬ flt (wR D i j) (cq D)) : eR D J i a (j + 1) = eR D J i a j := if_neg (fun q => hf q.2)
theorem eR_fb (h : Bd n nb nr J D) {i : Nat} (hi : i < n) (ho : ovl D n = false) {a : UInt64} {E : Int} (hE : 100 ≤ E ∧ E ≤ 300) (ha : fb E a) : ∀ j : Nat, j ≤ n → fb (E + j) (eR D J i a j)
  | 0, _ => ha.mono (by omega)
  | j + 1, hj => by
    have ih := eR_fb h hi ho hE ha j (by omega)
    have h10 := h.n10
    unfold eR
    split
    · rename_i q
      have hl := lc_near (wR_fb h hi (show j < n by omega)) (ovl_f.mp ho i j q.1 (by omega))
      exact fb.add ih ((pN_fb h hi (show j < n by omega) hl).mono (show (100 : Int) ≤ E + j by omega)) (by omega)
    · exact ih.mono (by omega)
theorem eS_fb (h : Bd n nb nr J D) (ho : ovl D n = false) : ∀ i : Nat, i ≤ n → fb (100 + 10 * i) (eS D J n i)
  | 0, _ => fc_0.mono (by omega)
  | i + 1, hi => by
    have ih := eS_fb h ho i (by omega)
    have h10 := h.n10
    exact (eR_fb h (show i < n by omega) ho (show 100 ≤ (100 + 10 * (i : Int)) ∧ (100 + 10 * (i : Int)) ≤ 300 by omega) ih n (Nat.le_refl _)).mono (by omega)
theorem eB_fb (h : Bd n nb nr J D) : ∀ k : Nat, k ≤ nb → fb (100 + k) (eB D J k)
  | 0, _ => fc_0.mono (by omega)
  | k + 1, hk => by
    have ih := eB_fb h k (by omega)
    have h8 := h.nb8
    exact fb.add ih ((bN_fb h (show k < nb by omega) (wR_fb h (h.j2 (by omega)) (h.j3 (by omega)))).mono (show (100 : Int) ≤ 100 + k by omega)) (by omega)
theorem eK_fb (h : Bd n nb nr J D) (hu : Bu 20 n D) : ∀ i : Nat, i ≤ n → fb (100 + i) (eK D i)
  | 0, _ => fc_0.mono (by omega)
  | i + 1, hi => by
    have ih := eK_fb h hu i (by omega)
    have h10 := h.n10
    have u1 := hu i (by omega)
    exact fb.add ih ((fb.mul (fb.mul fc_4602678819172646912 (h.m (show i < n by omega)) (G := 6) (by decide)) (fb.add (fb.mul u1.1 u1.1 (G := 40) (by decide)) (fb.mul u1.2 u1.2 (G := 40) (by decide)) (G := 41) (by decide)) (G := 50) (by decide)).mono (show (50 : Int) ≤ 100 + i by omega)) (by omega)
end EL
/-! the histogram -/
theorem d2i_val {z : UInt64} (h : fb 30 z) (h0 : 0 ≤ rv z) : 0 ≤ (FP.d2i z).toInt ∧ ((FP.d2i z).toInt : Rat) ≤ rv z ∧ rv z < ((FP.d2i z).toInt : Rat) + 1 := by
  obtain ⟨⟨s, c, q, hz⟩, h1, h2⟩ := h
  have hv := rv_fin hz
  obtain ⟨t1, t2⟩ := trunc_nn c q
  generalize hk : c * 2 ^ q.toNat / 2 ^ (-q).toNat = k at t1 t2
  have hm : (c : Rat) * p2 q ≤ p2 30 := by
    have h3 : (0 : Rat) ≤ (c : Rat) * p2 q := Rat.mul_nonneg (by exact_mod_cast Nat.zero_le _) (p2_nn q)
    rw [hv] at h1 h2
    cases s <;> simp only [sg, if_true, Bool.false_eq_true, if_false] at h1 h2 <;> grind
  have hk30 : k ≤ 2 ^ 30 := by
    have h4 : (k : Rat) ≤ p2 30 := by grind
    rw [show (30 : Int) = ((30 : Nat) : Int) from rfl, p2_nat] at h4
    exact_mod_cast h4
  have hL : (FP.d2i z).toInt = FP.Core.signed s k := by
    show (FP.Core.toI (fv z)).toInt = _
    rw [hz]
    show (Int32.ofInt (max (-2 ^ 31) (min (2 ^ 31 - 1) (FP.Core.signed s (c * 2 ^ q.toNat / 2 ^ (-q).toNat))))).toInt = _
    rw [hk]
    have e1 : max (-2 ^ 31) (min (2 ^ 31 - 1) (FP.Core.signed s k)) = FP.Core.signed s k := by
      cases s <;> simp only [FP.Core.signed, if_true, Bool.false_eq_true, if_false] <;> omega
    rw [e1]
    refine Int32.toInt_ofInt_of_le ?_ ?_
    · cases s <;> simp only [FP.Core.signed, if_true, Bool.false_eq_true, if_false] <;> omega
    · cases s <;> simp only [FP.Core.signed, if_true, Bool.false_eq_true, if_false] <;> omega
  rw [hL]
  rw [hv] at h0 ⊢
  have hck : (0 : Rat) ≤ (c : Rat) * p2 q := Rat.mul_nonneg (by exact_mod_cast Nat.zero_le _) (p2_nn q)
  cases s with
  | false =>
    simp only [FP.Core.signed, sg, if_true, Bool.false_eq_true, if_false]
    push_cast
    exact ⟨by omega, by grind, by grind⟩
  | true =>
    simp only [FP.Core.signed, sg, if_true, Bool.false_eq_true, if_false] at h0 ⊢
    have hk1 : k = 0 := by
      have : (k : Rat) < 1 := by grind
      have : k < 1 := by exact_mod_cast this
      omega
    subst hk1
    push_cast
    refine ⟨by decide, ?_, ?_⟩ <;> grind
def bnk (z : UInt64) : Nat := if 15 < (FP.d2i z).toInt then 15 else (FP.d2i z).toInt.toNat
theorem bnk_le {z : UInt64} : bnk z ≤ 15 := by unfold bnk; split <;> omega
theorem i32_ext {x : Int32} {k : Nat} (h : x.toInt = (k : Int)) (hk : k < 1000) : x = nI k := Int32.toInt_inj.mp (h.trans (nI_toInt (by omega)).symm)
/-- the class's way to the place -/
theorem bnk_c {z : UInt64} (h : fb 30 z) (h0 : 0 ≤ rv z) : (if nI 15 < FP.d2i z then nI 15 else FP.d2i z) = nI (bnk z) := by
  obtain ⟨a, -, -⟩ := d2i_val h h0
  have e : (nI 15).toInt = 15 := nI_toInt (by omega)
  unfold bnk
  by_cases q : nI 15 < FP.d2i z
  · have q' := q
    rw [Int32.lt_iff_toInt_lt, e] at q'
    rw [if_pos q, if_pos q']
  · have q' := q
    rw [Int32.lt_iff_toInt_lt, e] at q'
    rw [if_neg q, if_neg q']
    exact i32_ext (by omega) (by omega)
theorem rv_15 : rv 4624633867356078080 = 15 := by
  rw [rv_fin vc_4624633867356078080]
  simp only [sg, Bool.false_eq_true, if_false, Rat.one_mul]
  have : p2 (-49) * p2 49 = 1 := p2_sub 49
  have e : p2 49 = ((562949953421312 : Nat) : Rat) := (p2_nat 49).trans (by decide +kernel)
  rw [e] at this
  have e2 : ((8444249301319680 : Nat) : Rat) = ((562949953421312 : Nat) : Rat) * 15 := by norm_cast
  rw [e2]
  grind
/-- the model's way to the place -/
theorem bnk_m {z : UInt64} (h : fb 20 z) (h0 : 0 ≤ rv z) : (fgt (sFloor z) 4624633867356078080 → bnk z = 15) ∧ (¬ fgt (sFloor z) 4624633867356078080 → FP.d2i (sFloor z) = nI (bnk z)) := by
  obtain ⟨k, k1, k2, k3, -⟩ := floor_val (h.mono (by decide))
  have hf := fb_floor h (by decide)
  obtain ⟨a1, a2, a3⟩ := d2i_val (h.mono (by decide)) h0
  have hc := (cmp_val hf.1 fc_4624633867356078080.1).2.2.1
  rw [rv_15, k1] at hc
  have hk0 : 0 ≤ k := by
    have : ((-1 : Int) : Rat) < (k : Rat) := by have e : ((-1 : Int) : Rat) = -1 := rfl; rw [e]; grind
    have : (-1 : Int) < k := by exact_mod_cast this
    omega
  have key : ∀ {a b : Int} {r : Rat}, (a : Rat) ≤ r → r < (a : Rat) + 1 → (b : Rat) ≤ r → r < (b : Rat) + 1 → a = b := by
    intro a b r q1 q2 q3 q4
    have w1 : (a : Rat) < ((b + 1 : Int) : Rat) := by push_cast; grind
    have w2 : (b : Rat) < ((a + 1 : Int) : Rat) := by push_cast; grind
    have w1 : a < b + 1 := by exact_mod_cast w1
    have w2 : b < a + 1 := by exact_mod_cast w2
    omega
  have ek : (FP.d2i z).toInt = k := key a2 a3 k2 k3
  have h15 : (15 : Rat) < (k : Rat) ↔ 15 < k := by
    have e : ((15 : Int) : Rat) = 15 := rfl
    rw [← e]
    exact_mod_cast Iff.rfl
  have hr0 : 0 ≤ rv (sFloor z) := by rw [k1]; exact_mod_cast hk0
  obtain ⟨b1, b2, b3⟩ := d2i_val (hf.mono (by decide)) hr0
  rw [k1] at b2 b3
  have ek2 : (FP.d2i (sFloor z)).toInt = k := key b2 b3 Rat.le_refl (by grind)
  unfold bnk
  rw [ek]
  constructor
  · intro q
    rw [if_pos (h15.mp (hc.mp q))]
  · intro q
    have hk : ¬ 15 < k := fun w => q (hc.mpr (h15.mpr w))
    rw [if_neg hk]
    exact i32_ext (by omega) (by omega)
def zq (D : T64) (i j : Nat) : UInt64 := FP.ddiv (wR D i j) (FP.ddiv (cq D) 4625196817309499392)
def clN (a b : Nat) : Nat := (if a < b then a else b) * 3 + (if a < b then b else a)
theorem clN_lt {a b : Nat} (ha : a < 3) (hb : b < 3) : clN a b < 9 := by unfold clN; split <;> omega
section SM
variable (D : T64) (J : Jt)
def smI (i : Nat) (c : T32 × Nat) : Nat → T32 × Nat
  | 0 => c
  | j + 1 => if i < j ∧ FP.dcmp (wR D i j) (cq D) = some .lt then (up2 (smI i c j).1 6 (bnk (zq D i j) + 16 * clN (J 0 i) (J 0 j)) ((smI i c j).1 6 (bnk (zq D i j) + 16 * clN (J 0 i) (J 0 j)) + nI 1), (smI i c j).2 + 1) else smI i c j
def smS (n : Nat) (I : T32) : Nat → T32 × Nat
  | 0 => (I, 0)
  | i + 1 => smI D J i (smS n I i) n
end SM
section SL
variable {D : T64} {J : Jt} {n nb nr : Nat}
theorem smI_lo {i : Nat} {c : T32 × Nat} : ∀ j, j ≤ i + 1 → smI D J i c j = c
  | 0, _ => rfl
  | j + 1, h => by
    unfold smI
    rw [if_neg (fun q => by omega)]
    exact smI_lo j (by omega)
theorem smI_t {i j : Nat} {c : T32 × Nat} (h : i < j) (hf : flt (wR D i j) (cq D)) : smI D J i c (j + 1) = (up2 (smI D J i c j).1 6 (bnk (zq D i j) + 16 * clN (J 0 i) (J 0 j)) ((smI D J i c j).1 6 (bnk (zq D i j) + 16 * clN (J 0 i) (J 0 j)) + nI 1), (smI D J i c j).2 + 1) := if_pos ⟨h, hf⟩
theorem smI_f {i j : Nat} {c : T32 × Nat} (hf : ¬ flt (wR D i j) (cq D)) : smI D J i c (j + 1) = smI D J i c j := if_neg (fun q => hf q.2)
theorem smI_le {i : Nat} {c : T32 × Nat} : ∀ j, (smI D J i c j).2 ≤ c.2 + j
  | 0 => Nat.le_refl _
  | j + 1 => by
    have := smI_le (i := i) (c := c) j
    unfold smI
    split
    · show (smI D J i c j).2 + 1 ≤ _; omega
    · omega
theorem smS_le {I : T32} : ∀ i, (smS D J n I i).2 ≤ i * n
  | 0 => Nat.zero_le _
  | i + 1 => by
    have h1 := smS_le (I := I) i
    have h2 := smI_le (D := D) (J := J) (i := i) (c := smS D J n I i) n
    have e : (i + 1) * n = i * n + n := Nat.succ_mul _ _
    unfold smS
    omega
theorem smI_ex {i : Nat} {c : T32 × Nat} : ∀ j, exc (fun f => Nat.beq f 6) (smI D J i c j).1 c.1
  | 0 => exc.rf
  | j + 1 => by
    have := smI_ex (i := i) (c := c) j
    unfold smI
    split
    · exact this.up rfl
    · exact this
theorem smS_ex {I : T32} : ∀ i, exc (fun f => Nat.beq f 6) (smS D J n I i).1 I
  | 0 => exc.rf
  | i + 1 => (smI_ex n).trans (smS_ex i)
theorem smI_ag {i : Nat} {c c0 : T32 × Nat} (h : agI c.1 c0.1) (h2 : c.2 = c0.2) : ∀ j, agI (smI D J i c j).1 (smI D J i c0 j).1 ∧ (smI D J i c j).2 = (smI D J i c0 j).2
  | 0 => ⟨h, h2⟩
  | j + 1 => by
    obtain ⟨a, b⟩ := smI_ag (i := i) h h2 j
    unfold smI
    split
    · refine ⟨?_, by show (smI D J i c j).2 + 1 = (smI D J i c0 j).2 + 1; rw [b]⟩
      show agI (up2 (smI D J i c j).1 6 _ ((smI D J i c j).1 6 _ + nI 1)) (up2 (smI D J i c0 j).1 6 _ ((smI D J i c0 j).1 6 _ + nI 1))
      rw [a 6 _ rfl]
      exact a.put 6 _ _
    · exact ⟨a, b⟩
theorem smS_ag {I I0 : T32} (h : agI I I0) : ∀ i, agI (smS D J n I i).1 (smS D J n I0 i).1 ∧ (smS D J n I i).2 = (smS D J n I0 i).2
  | 0 => ⟨h, rfl⟩
  | i + 1 => by
    obtain ⟨a, b⟩ := smS_ag h i
    exact smI_ag a b n
/-- the divisor -/
theorem c16_b (h : Bd n nb nr J D) : fb 4 (FP.ddiv (cq D) 4625196817309499392) ∧ lb (-6) (FP.ddiv (cq D) 4625196817309499392) ∧ 0 < rv (FP.ddiv (cq D) 4625196817309499392) := by
  have f8 : fb 8 (cq D) := fb.mul h.cut h.cut (by decide)
  have l2 : lb (-2) (cq D) := lb.mul h.cutl h.cutl h.cut h.cut (by decide)
  obtain ⟨-, -, c3⟩ := cut2_v h
  have hp : 0 < rv (cq D) := by have := p2_pos (-10); unfold cq; grind
  have ev : rv 4625196817309499392 = 16 := by
    rw [rv_fin vc_4625196817309499392]
    simp only [sg, Bool.false_eq_true, if_false, Rat.one_mul]
    have e42 : p2 52 = ((4503599627370496 : Nat) : Rat) := (p2_nat 52).trans (by decide +kernel)
    have e10 : p2 4 = 16 := (p2_nat 4).trans (by decide +kernel)
    rw [← e42, ← p2_add, ← e10]; rfl
  obtain ⟨m1, m2⟩ := rat_div_bd f8.2.1 f8.2.2 lc_4625196817309499392.2
  rw [← p2_add] at m1 m2
  have big := p2_mono (show (8 + -4 : Int) ≤ 1000 by decide)
  obtain ⟨q1, q2⟩ := div_rd f8.1 fc_4625196817309499392.1 lc_4625196817309499392.ne0 (by grind) (by grind)
  have hlo : p2 (-6) ≤ rv (cq D) / rv 4625196817309499392 := by
    have h1 := lb_pos l2 hp
    have e4 : p2 4 = 16 := (p2_nat 4).trans (by decide +kernel)
    have e6 : p2 (-6) * 16 = p2 (-2) := by rw [← e4, ← p2_add]; rfl
    rw [ev]
    refine Rat.le_of_mul_le_mul_right (c := 16) ?_ (by decide)
    rw [Rat.div_mul_cancel (by decide), e6]
    exact h1
  have hl := lb_of (G := -6) (by decide) q1 q2 (Or.inl hlo)
  refine ⟨fb.div f8 lc_4625196817309499392 (by decide), hl, ?_⟩
  have := q2.2.1 (p2 (-6)) (rep_p2 (by decide)) hlo
  have := p2_pos (-6)
  grind
theorem zq_b (h : Bd n nb nr J D) {i j : Nat} (hi : i < n) (hj : j < n) : fb 20 (zq D i j) ∧ 0 ≤ rv (zq D i j) := by
  obtain ⟨a1, a2, a3⟩ := c16_b h
  have hw := wR_fb h hi hj
  have hw0 : 0 ≤ rv (wR D i j) := by
    obtain ⟨-, w1, w2, w3, -⟩ := sq_val (wA_fb h hi hj) (wB_fb h hi hj)
    show 0 ≤ rv (sq (wA D i j) (wB D i j))
    grind
  refine ⟨(fb.div hw a2 (G := 17) (by decide)).mono (by decide), ?_⟩
  obtain ⟨m1, m2⟩ := rat_div_bd hw.2.1 hw.2.2 a2.2
  rw [← p2_add] at m1 m2
  have big := p2_mono (show (11 + 6 : Int) ≤ 1000 by decide)
  obtain ⟨q1, q2⟩ := div_rd hw.1 a1.1 a2.ne0 (by grind) (by grind)
  refine q2.nn ?_
  refine Rat.le_of_mul_le_mul_right (c := rv (FP.ddiv (cq D) 4625196817309499392)) ?_ a3
  rw [Rat.div_mul_cancel (by grind), Rat.zero_mul]
  exact hw0
end SL
