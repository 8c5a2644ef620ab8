set_option maxRecDepth 100000
/-! ===== what is computed, in plain words; bounds ===== -/
def sq (a b : UInt64) : UInt64 := FP.dadd (FP.dmul a a) (FP.dmul b b)
/-- the way from atom i to atom j -/
def wA (D : T64) (i j : Nat) : UInt64 := sShort (D 20 0) (FP.dsub (D 0 j) (D 0 i))
def wB (D : T64) (i j : Nat) : UInt64 := sShort (D 20 0) (FP.dsub (D 1 j) (D 1 i))
def wR (D : T64) (i j : Nat) : UInt64 := sq (wA D i j) (wB D i j)
/-- the way of an atom since the list was made -/
def vA (D : T64) (i : Nat) : UInt64 := sShort (D 20 0) (FP.dsub (D 0 i) (D 5 i))
def vB (D : T64) (i : Nat) : UInt64 := sShort (D 20 0) (FP.dsub (D 1 i) (D 6 i))
def vR (D : T64) (i : Nat) : UInt64 := sq (vA D i) (vB D i)
def inn (v lo hi : UInt64) : Prop := fge v lo ∧ fle v hi
/-- pairs: r is the square of their distance -/
def pS (D : T64) (J : Nat → Nat → Nat) (i j : Nat) : UInt64 := FP.dmul (FP.dadd (D 7 (J 0 i)) (D 7 (J 0 j))) 4602678819172646912
def pQ (D : T64) (J : Nat → Nat → Nat) (i j : Nat) (r : UInt64) : UInt64 := FP.ddiv (FP.dmul (pS D J i j) (pS D J i j)) r
def pP (D : T64) (J : Nat → Nat → Nat) (i j : Nat) (r : UInt64) : UInt64 := FP.dmul (FP.dmul (pQ D J i j r) (pQ D J i j r)) (pQ D J i j r)
def pE (D : T64) (J : Nat → Nat → Nat) (i j : Nat) : UInt64 := FP.dmul (FP.dadd (D 8 (J 0 i)) (D 8 (J 0 j))) 4602678819172646912
def pC (D : T64) (J : Nat → Nat → Nat) (i j : Nat) : UInt64 := FP.dmul (D 9 (J 0 i)) (D 9 (J 0 j))
/-- the factor of the way, the energy -/
def pF (D : T64) (J : Nat → Nat → Nat) (i j : Nat) (r : UInt64) : UInt64 := FP.dsub (FP.ddiv (FP.dmul (FP.dmul 4627448617123184640 (pE D J i j)) (FP.dsub (pP D J i j r) (FP.dmul (FP.dmul 4611686018427387904 (pP D J i j r)) (pP D J i j r)))) r) (FP.ddiv (FP.dmul 4611686018427387904 (pC D J i j)) (FP.dmul r r))
def pN (D : T64) (J : Nat → Nat → Nat) (i j : Nat) (r : UInt64) : UInt64 := FP.dadd (FP.dmul (FP.dmul 4616189618054758400 (pE D J i j)) (FP.dsub (FP.dmul (pP D J i j r) (pP D J i j r)) (pP D J i j r))) (FP.dmul (pC D J i j) (FP.dsub (FP.ddiv FP.dconst1 r) (FP.ddiv FP.dconst1 (FP.dmul (D 21 0) (D 21 0)))))
/-- bonds -/
def bO (D : T64) (k : Nat) (r : UInt64) : UInt64 := FP.dsub r (FP.dmul (D 11 k) (D 11 k))
def bF (D : T64) (k : Nat) (r : UInt64) : UInt64 := FP.dmul (D 10 k) (bO D k r)
def bN (D : T64) (k : Nat) (r : UInt64) : UInt64 := FP.dmul (FP.dmul (FP.dmul 4598175219545276416 (D 10 k)) (bO D k r)) (bO D k r)
/-- bounds that hold between all calls -/
def Bd (n nb nr : Nat) (J : Nat → Nat → Nat) (D : T64) : Prop :=
  Sd (D 20 0) ∧ (n ≤ 10 ∧ nb ≤ 8 ∧ nr ≤ 4) ∧
  (∀ i, i < n → fb 5 (D 0 i) ∧ fb 5 (D 1 i) ∧ fb 6 (D 4 i) ∧ lb (-3) (D 4 i) ∧ 0 < rv (D 4 i)) ∧
  (∀ i, i < n → fb 5 (D 5 i) ∧ fb 5 (D 6 i)) ∧
  (∀ s, s < 3 → fb 2 (D 7 s) ∧ fb 6 (D 8 s) ∧ fb 3 (D 9 s)) ∧
  (∀ k, k < nb → fb 6 (D 10 k) ∧ fb 4 (D 11 k)) ∧ (∀ k, k < nr → fb 4 (D 12 k)) ∧
  (Fn (D 21 0) ∧ 1 / 2 ≤ rv (D 21 0) ∧ rv (D 21 0) ≤ 16) ∧ (Fn (D 22 0) ∧ 0 ≤ rv (D 22 0) ∧ rv (D 22 0) ≤ 4) ∧
  (∀ i, i < n → J 0 i < 3) ∧ (∀ k, k < nb → J 2 k < n ∧ J 3 k < n ∧ J 2 k ≠ J 3 k) ∧ (∀ k, k < nr → J 4 k < n ∧ J 5 k < n ∧ J 4 k ≠ J 5 k)
section BD
variable {n nb nr : Nat} {J : Nat → Nat → Nat} {D : T64}
theorem Bd.side (h : Bd n nb nr J D) : Sd (D 20 0) := h.1
theorem Bd.n10 (h : Bd n nb nr J D) : n ≤ 10 := h.2.1.1
theorem Bd.nb8 (h : Bd n nb nr J D) : nb ≤ 8 := h.2.1.2.1
theorem Bd.nr4 (h : Bd n nb nr J D) : nr ≤ 4 := h.2.1.2.2
theorem Bd.x (h : Bd n nb nr J D) {i : Nat} (hi : i < n) : fb 5 (D 0 i) := (h.2.2.1 i hi).1
theorem Bd.y (h : Bd n nb nr J D) {i : Nat} (hi : i < n) : fb 5 (D 1 i) := (h.2.2.1 i hi).2.1
theorem Bd.m (h : Bd n nb nr J D) {i : Nat} (hi : i < n) : fb 6 (D 4 i) := (h.2.2.1 i hi).2.2.1
theorem Bd.ml (h : Bd n nb nr J D) {i : Nat} (hi : i < n) : lb (-3) (D 4 i) := (h.2.2.1 i hi).2.2.2.1
theorem Bd.m0 (h : Bd n nb nr J D) {i : Nat} (hi : i < n) : 0 < rv (D 4 i) := (h.2.2.1 i hi).2.2.2.2
theorem Bd.lx (h : Bd n nb nr J D) {i : Nat} (hi : i < n) : fb 5 (D 5 i) := (h.2.2.2.1 i hi).1
theorem Bd.ly (h : Bd n nb nr J D) {i : Nat} (hi : i < n) : fb 5 (D 6 i) := (h.2.2.2.1 i hi).2
theorem Bd.w (h : Bd n nb nr J D) {i : Nat} (hi : i < 3) : fb 2 (D 7 i) := (h.2.2.2.2.1 i hi).1
theorem Bd.d (h : Bd n nb nr J D) {i : Nat} (hi : i < 3) : fb 6 (D 8 i) := (h.2.2.2.2.1 i hi).2.1
theorem Bd.c (h : Bd n nb nr J D) {i : Nat} (hi : i < 3) : fb 3 (D 9 i) := (h.2.2.2.2.1 i hi).2.2
theorem Bd.bk (h : Bd n nb nr J D) {i : Nat} (hi : i < nb) : fb 6 (D 10 i) := (h.2.2.2.2.2.1 i hi).1
theorem Bd.bl (h : Bd n nb nr J D) {i : Nat} (hi : i < nb) : fb 4 (D 11 i) := (h.2.2.2.2.2.1 i hi).2
theorem Bd.rl (h : Bd n nb nr J D) {i : Nat} (hi : i < nr) : fb 4 (D 12 i) := h.2.2.2.2.2.2.1 i hi
theorem Bd.cutV (h : Bd n nb nr J D) : Fn (D 21 0) ∧ 1 / 2 ≤ rv (D 21 0) ∧ rv (D 21 0) ≤ 16 := h.2.2.2.2.2.2.2.1
theorem Bd.skinV (h : Bd n nb nr J D) : Fn (D 22 0) ∧ 0 ≤ rv (D 22 0) ∧ rv (D 22 0) ≤ 4 := h.2.2.2.2.2.2.2.2.1
theorem Bd.j0 (h : Bd n nb nr J D) {i : Nat} (hi : i < n) : J 0 i < 3 := h.2.2.2.2.2.2.2.2.2.1 i hi
theorem Bd.j2 (h : Bd n nb nr J D) {k : Nat} (hk : k < nb) : J 2 k < n := (h.2.2.2.2.2.2.2.2.2.2.1 k hk).1
theorem Bd.j3 (h : Bd n nb nr J D) {k : Nat} (hk : k < nb) : J 3 k < n := (h.2.2.2.2.2.2.2.2.2.2.1 k hk).2.1
theorem Bd.j23 (h : Bd n nb nr J D) {k : Nat} (hk : k < nb) : J 2 k ≠ J 3 k := (h.2.2.2.2.2.2.2.2.2.2.1 k hk).2.2
theorem Bd.j4 (h : Bd n nb nr J D) {k : Nat} (hk : k < nr) : J 4 k < n := (h.2.2.2.2.2.2.2.2.2.2.2 k hk).1
theorem Bd.j5 (h : Bd n nb nr J D) {k : Nat} (hk : k < nr) : J 5 k < n := (h.2.2.2.2.2.2.2.2.2.2.2 k hk).2.1
theorem Bd.j45 (h : Bd n nb nr J D) {k : Nat} (hk : k < nr) : J 4 k ≠ J 5 k := (h.2.2.2.2.2.2.2.2.2.2.2 k hk).2.2
theorem Bd.cut (h : Bd n nb nr J D) : fb 4 (D 21 0) := by
  obtain ⟨h1, h2, h3⟩ := h.cutV
  exact ⟨h1, by rw [e2_4]; exact h3, by rw [e2_4]; grind⟩
theorem Bd.cutl (h : Bd n nb nr J D) : lb (-1) (D 21 0) := by
  obtain ⟨h1, h2, h3⟩ := h.cutV
  exact ⟨h1, Or.inl (by rw [e2_m1]; exact h2)⟩
theorem Bd.skin (h : Bd n nb nr J D) : fb 2 (D 22 0) := by
  obtain ⟨h1, h2, h3⟩ := h.skinV
  exact ⟨h1, by rw [e2_2]; exact h3, by rw [e2_2]; grind⟩
theorem wA_fb (h : Bd n nb nr J D) {i j : Nat} (hi : i < n) (hj : j < n) : fb 5 (wA D i j) := short_fb h.side ((fb.sub (h.x hj) (h.x hi) (G := 6) (by decide)).mono (by decide))
theorem wB_fb (h : Bd n nb nr J D) {i j : Nat} (hi : i < n) (hj : j < n) : fb 5 (wB D i j) := short_fb h.side ((fb.sub (h.y hj) (h.y hi) (G := 6) (by decide)).mono (by decide))
theorem sq_fb {a b : UInt64} {E : Int} (ha : fb E a) (hb : fb E b) (hE : 0 ≤ E ∧ E ≤ 400) : fb (2 * E + 1) (sq a b) := fb.add (fb.mul ha ha (G := 2 * E) (by omega)) (fb.mul hb hb (G := 2 * E) (by omega)) (by omega)
theorem wR_fb (h : Bd n nb nr J D) {i j : Nat} (hi : i < n) (hj : j < n) : fb 11 (wR D i j) := sq_fb (wA_fb h hi hj) (wB_fb h hi hj) (by decide)
theorem vA_fb (h : Bd n nb nr J D) {i : Nat} (hi : i < n) : fb 5 (vA D i) := short_fb h.side ((fb.sub (h.x hi) (h.lx hi) (G := 6) (by decide)).mono (by decide))
theorem vB_fb (h : Bd n nb nr J D) {i : Nat} (hi : i < n) : fb 5 (vB D i) := short_fb h.side ((fb.sub (h.y hi) (h.ly hi) (G := 6) (by decide)).mono (by decide))
theorem vR_fb (h : Bd n nb nr J D) {i : Nat} (hi : i < n) : fb 11 (vR D i) := sq_fb (vA_fb h hi) (vB_fb h hi) (by decide)
theorem pS_fb (h : Bd n nb nr J D) {i j : Nat} (hi : i < n) (hj : j < n) : fb 2 (pS D J i j) := fb.mul (fb.add (h.w (h.j0 hi)) (h.w (h.j0 hj)) (G := 3) (by decide)) fc_4602678819172646912 (by decide)
theorem pE_fb (h : Bd n nb nr J D) {i j : Nat} (hi : i < n) (hj : j < n) : fb 6 (pE D J i j) := fb.mul (fb.add (h.d (h.j0 hi)) (h.d (h.j0 hj)) (G := 7) (by decide)) fc_4602678819172646912 (by decide)
theorem pC_fb (h : Bd n nb nr J D) {i j : Nat} (hi : i < n) (hj : j < n) : fb 6 (pC D J i j) := fb.mul (h.c (h.j0 hi)) (h.c (h.j0 hj)) (by decide)
theorem pQ_fb (h : Bd n nb nr J D) {i j : Nat} (hi : i < n) (hj : j < n) {r : UInt64} (hr : lb (-10) r) : fb 14 (pQ D J i j r) := fb.div (fb.mul (pS_fb h hi hj) (pS_fb h hi hj) (G := 4) (by decide)) hr (by decide)
theorem pP_fb (h : Bd n nb nr J D) {i j : Nat} (hi : i < n) (hj : j < n) {r : UInt64} (hr : lb (-10) r) : fb 42 (pP D J i j r) := fb.mul (fb.mul (pQ_fb h hi hj hr) (pQ_fb h hi hj hr) (G := 28) (by decide)) (pQ_fb h hi hj hr) (by decide)
theorem pF_fb (h : Bd n nb nr J D) {i j : Nat} (hi : i < n) (hj : j < n) {r : UInt64} (hr : lb (-10) r) (hr2 : fb 11 r) : fb 110 (pF D J i j r) := by
  have hp := pP_fb h hi hj hr
  have a1 := fb.sub hp (fb.mul (fb.mul fc_4611686018427387904 hp (G := 43) (by decide)) hp (G := 85) (by decide)) (G := 86) (by decide)
  have a2 := fb.div (fb.mul (fb.mul fc_4627448617123184640 (pE_fb h hi hj) (G := 11) (by decide)) a1 (G := 97) (by decide)) hr (G := 107) (by decide)
  have a3 := fb.div (fb.mul fc_4611686018427387904 (pC_fb h hi hj) (G := 7) (by decide)) (lb.mul hr hr hr2 hr2 (G := -20) (by decide)) (G := 27) (by decide)
  exact fb.sub a2 a3 (by decide)
theorem pN_fb (h : Bd n nb nr J D) {i j : Nat} (hi : i < n) (hj : j < n) {r : UInt64} (hr : lb (-10) r) : fb 100 (pN D J i j r) := by
  have hp := pP_fb h hi hj hr
  have a1 := fb.mul (fb.mul fc_4616189618054758400 (pE_fb h hi hj) (G := 8) (by decide)) (fb.sub (fb.mul hp hp (G := 84) (by decide)) hp (G := 85) (by decide)) (G := 93) (by decide)
  have a2 := fb.mul (pC_fb h hi hj) (fb.sub (fb.div fc_1 hr (G := 10) (by decide)) (fb.div fc_1 (lb.mul h.cutl h.cutl h.cut h.cut (G := -2) (by decide)) (G := 2) (by decide)) (G := 11) (by decide)) (G := 17) (by decide)
  exact fb.add a1 a2 (by decide)
theorem bO_fb (h : Bd n nb nr J D) {k : Nat} (hk : k < nb) {r : UInt64} (hr : fb 11 r) : fb 12 (bO D k r) := fb.sub hr (fb.mul (h.bl hk) (h.bl hk) (G := 8) (by decide)) (by decide)
theorem bF_fb (h : Bd n nb nr J D) {k : Nat} (hk : k < nb) {r : UInt64} (hr : fb 11 r) : fb 110 (bF D k r) := (fb.mul (h.bk hk) (bO_fb h hk hr) (G := 18) (by decide)).mono (by decide)
theorem bN_fb (h : Bd n nb nr J D) {k : Nat} (hk : k < nb) {r : UInt64} (hr : fb 11 r) : fb 100 (bN D k r) := (fb.mul (fb.mul (fb.mul fc_4598175219545276416 (h.bk hk) (G := 6) (by decide)) (bO_fb h hk hr) (G := 18) (by decide)) (bO_fb h hk hr) (G := 30) (by decide)).mono (by decide)
/-- bounds rest on the shared numbers -/
theorem Bd.cg {D0 : T64} (h : Bd n nb nr J D0) (ha : agD D D0) : Bd n nb nr J D := by
  have e : ∀ f i, cD f = true → D f i = D0 f i := ha
  unfold Bd at h ⊢
  rw [e 20 0 rfl, e 21 0 rfl, e 22 0 rfl]
  refine ⟨h.1, h.2.1, fun i hi => ?_, fun i hi => ?_, fun i hi => ?_, fun i hi => ?_, fun i hi => ?_, h.2.2.2.2.2.2.2⟩
  · rw [e 0 i rfl, e 1 i rfl, e 4 i rfl]; exact h.2.2.1 i hi
  · rw [e 5 i rfl, e 6 i rfl]; exact h.2.2.2.1 i hi
  · rw [e 7 i rfl, e 8 i rfl, e 9 i rfl]; exact h.2.2.2.2.1 i hi
  · rw [e 10 i rfl, e 11 i rfl]; exact h.2.2.2.2.2.1 i hi
  · rw [e 12 i rfl]; exact h.2.2.2.2.2.2.1 i hi
end BD
theorem lc_near {E : Int} {a : UInt64} (ha : fb E a) (h : ¬ flt a 4562146422526312448) : lb (-10) a := by
  refine lb_nlt ha fc_4562146422526312448.1 ?_ h
  rcases lc_4562146422526312448.2 with q | q
  · exact q
  · exfalso
    have h1 := rv_fin vc_4562146422526312448
    simp only [sg, Bool.false_eq_true, if_false, Rat.one_mul] at h1
    have h2 : (0 : Rat) ≤ ((4503599627370496 : Nat) : Rat) * p2 (-62) := Rat.mul_nonneg (by exact_mod_cast Nat.zero_le _) (p2_nn _)
    have h3 := p2_pos (-10)
    rw [h1] at q
    grind
/-- speeds -/
def Bu (E : Int) (n : Nat) (D : T64) : Prop := ∀ i, i < n → fb E (D 2 i) ∧ fb E (D 3 i)
/-- the counts in the table -/
def Cn (n nb nr : Nat) (I : T32) : Prop := I 20 0 = nI n ∧ I 21 0 = nI nb ∧ I 22 0 = nI nr
