set_option maxRecDepth 100000
/-! ===== the list of neighbours is complete; overlaps are seen from both sides ===== -/
theorem hair_pos : 0 < hair := p2_pos _
theorem near_v : rv 4562146422526312448 = p2 (-10) := by
  have h1 := rv_fin vc_4562146422526312448
  simp only [sg, Bool.false_eq_true, if_false, Rat.one_mul] at h1
  have e : p2 (-10) = ((4503599627370496 : Nat) : Rat) * p2 (-62) := by
    have : p2 52 = ((4503599627370496 : Nat) : Rat) := (p2_nat 52).trans (by decide +kernel)
    rw [← this, ← p2_add]; rfl
  rw [h1, e]
theorem sq_val {a b : UInt64} (ha : fb 5 a) (hb : fb 5 b) : (rv (sq a b) - (rv a * rv a + rv b * rv b) ≤ hair ∧ (rv a * rv a + rv b * rv b) - rv (sq a b) ≤ hair) ∧ 0 ≤ rv (FP.dmul a a) ∧ 0 ≤ rv (FP.dmul b b) ∧ rv (FP.dmul a a) ≤ rv (sq a b) ∧ rv (FP.dmul b b) ≤ rv (sq a b) ∧ Rd (rv a * rv a) (rv (FP.dmul a a)) ∧ Rd (rv b * rv b) (rv (FP.dmul b b)) := by
  obtain ⟨m1, m2⟩ := rat_mul_bd ha.2.1 ha.2.2 ha.2.1 ha.2.2
  obtain ⟨m3, m4⟩ := rat_mul_bd hb.2.1 hb.2.2 hb.2.1 hb.2.2
  rw [← p2_add] at m1 m2 m3 m4
  have big := p2_mono (show (5 + 5 : Int) ≤ 1000 by decide)
  obtain ⟨a1, a2⟩ := mul_rd ha.1 ha.1 (by grind) (by grind)
  obtain ⟨b1, b2⟩ := mul_rd hb.1 hb.1 (by grind) (by grind)
  have na : 0 ≤ rv a * rv a := by
    rcases Rat.le_total (a := 0) (b := rv a) with q | q
    · exact Rat.mul_nonneg q q
    · have := Rat.mul_nonneg (show 0 ≤ -rv a by grind) (show 0 ≤ -rv a by grind); grind
  have nb : 0 ≤ rv b * rv b := by
    rcases Rat.le_total (a := 0) (b := rv b) with q | q
    · exact Rat.mul_nonneg q q
    · have := Rat.mul_nonneg (show 0 ≤ -rv b by grind) (show 0 ≤ -rv b by grind); grind
  have pa := a2.nn na
  have pb := b2.nn nb
  obtain ⟨u1, u2⟩ := a2.1 10 (by decide) m1 m2
  obtain ⟨u3, u4⟩ := b2.1 10 (by decide) m3 m4
  have A10 := fb.mul ha ha (G := 10) (by decide)
  have B10 := fb.mul hb hb (G := 10) (by decide)
  have w1 := A10.2.1
  have w2 := B10.2.1
  have s10 := p2_succ 10
  have big2 := p2_mono (show (10 + 1 : Int) ≤ 1000 by decide)
  obtain ⟨c1, c2⟩ := add_rd a1 b1 (by grind) (by grind)
  obtain ⟨u5, u6⟩ := c2.1 11 (by decide) (by show _ ≤ p2 (10 + 1); grind) (by have := p2_pos 11; grind)
  have e43 : p2 (10 - 53) = hair * (1 / 8) := by unfold hair; rw [← e2_m3, ← p2_add]; rfl
  have e42 : p2 (11 - 53) = hair * (1 / 4) := by unfold hair; rw [← e2_m2, ← p2_add]; rfl
  rw [e43] at u1 u2 u3 u4
  rw [e42] at u5 u6
  have hh := hair_pos
  have l1 : rv (FP.dmul a a) ≤ rv (sq a b) := c2.2.1 _ (rep_rv _) (by grind)
  have l2 : rv (FP.dmul b b) ≤ rv (sq a b) := c2.2.1 _ (rep_rv _) (by grind)
  refine ⟨⟨?_, ?_⟩, pa, pb, l1, l2, a2, b2⟩
  · show rv (sq a b) - _ ≤ _
    unfold sq; grind
  · show _ - rv (sq a b) ≤ _
    unfold sq; grind
theorem sml {x : Rat} {v : Rat} (h : Rd (x * x) v) (hv : v < p2 (-8)) : x ≤ 1 / 16 ∧ -x ≤ 1 / 16 := by
  have e8 : p2 (-8) = 1 / 256 := by have h := p2_sub 8; rw [show p2 8 = 256 from (p2_nat 8).trans (by decide +kernel)] at h; grind
  have key : ∀ y : Rat, y * y = x * x → y ≤ 1 / 16 := by
    intro y hy
    apply Decidable.byContradiction
    intro hn
    have h1 : 1 / 16 < y := by grind
    have h2 := Rat.mul_le_mul_of_nonneg_left (Rat.le_of_lt h1) (show (0 : Rat) ≤ 1 / 16 by grind)
    have h3 := Rat.mul_le_mul_of_nonneg_right (Rat.le_of_lt h1) (show (0 : Rat) ≤ y by grind)
    have h4 : p2 (-8) ≤ x * x := by rw [e8, ← hy]; grind
    have := h.2.1 _ (rep_p2 (k := -8) (by decide)) h4
    grind
  exact ⟨key x rfl, key (-x) (by grind)⟩
theorem near_small {a b : UInt64} (ha : fb 5 a) (hb : fb 5 b) (h : flt (sq a b) 4562146422526312448) : (rv a ≤ 1 / 16 ∧ -rv a ≤ 1 / 16) ∧ (rv b ≤ 1 / 16 ∧ -rv b ≤ 1 / 16) := by
  obtain ⟨-, h1, h2, h3, h4, h5, h6⟩ := sq_val ha hb
  have hS := sq_fb ha hb (by decide)
  have := (cmp_val hS.1 fc_4562146422526312448.1).1.mp h
  rw [near_v] at this
  have e := p2_mono (show (-10 : Int) ≤ -8 by decide)
  exact ⟨sml h5 (by grind), sml h6 (by grind)⟩
theorem int_zero {z : Int} {s : Rat} (hs : 0 < s) (h1 : s * z < s) (h2 : -(s * z) < s) : z = 0 := by
  have key : ∀ w : Int, s * (w : Rat) < s → w ≤ 0 := by
    intro w hw
    apply Decidable.byContradiction
    intro hn
    have h3 : (1 : Int) ≤ w := by omega
    have h4 : ((1 : Int) : Rat) ≤ ((w : Int) : Rat) := by exact_mod_cast h3
    have h5 := Rat.mul_le_mul_of_nonneg_left h4 (Rat.le_of_lt hs)
    have e1 : ((1 : Int) : Rat) = 1 := rfl
    rw [e1, Rat.mul_one] at h5
    grind
  have a1 := key z h1
  have a2 := key (-z) (by push_cast; grind)
  omega
theorem short_opp {sd d d' : UInt64} (hs : Sd sd) (hd : fb 7 d) (ho : opp d d') (h1 : rv (sShort sd d) ≤ 1 / 16) (h2 : -rv (sShort sd d) ≤ 1 / 16) : opp (sShort sd d) (sShort sd d') := by
  have hv := ho.val
  have hd' : fb 7 d' := ⟨ho.fn.2, by rw [hv]; exact hd.2.2, by rw [hv]; have := hd.2.1; grind⟩
  obtain ⟨s1, s2, s3⟩ := hs.b
  obtain ⟨m, a1, ⟨a2, a3⟩, a4, a5⟩ := short_val hs hd
  obtain ⟨m', b1, ⟨b2, b3⟩, b4, b5⟩ := short_val hs hd'
  rw [hv] at b2 b3
  have hh := hair_pos
  have hsm : hair ≤ 1 / 16 := by unfold hair; rw [← e2_m4]; exact p2_mono (by decide)
  have hz : m + m' = 0 := by
    refine int_zero (s := rv sd) (by grind) ?_ ?_
    · push_cast; grind
    · push_cast; grind
  have hm : m' = -m := by omega
  subst hm
  have hq := fb.div hd hs.lb (G := 5) (by decide)
  have ht := fb.add hq fc_4602678819172646912 (G := 6) (by decide)
  have hfl := fb_floor ht (by decide)
  have hq' := fb.div hd' hs.lb (G := 5) (by decide)
  have ht' := fb.add hq' fc_4602678819172646912 (G := 6) (by decide)
  have hfl' := fb_floor ht' (by decide)
  have o1 : opp (sFloor (FP.dadd (FP.ddiv d sd) 4602678819172646912)) (sFloor (FP.dadd (FP.ddiv d' sd) 4602678819172646912)) := by
    refine opp_of_val hfl.1 hfl'.1 ?_
    rw [a1, b1]
    push_cast
    rfl
  have o2 := o1.mul hfl hs.fb (by decide)
  have hm2 := fb.mul hs.fb hfl (G := 12) (by decide)
  have g1 := hd.2.1
  have g2 := hd.2.2
  have g3 := hm2.2.1
  have g4 := hm2.2.2
  have g5 := p2_mono (show (7 : Int) ≤ 12 by decide)
  have g6 := p2_succ 12
  have g7 := p2_mono (show (12 + 1 : Int) ≤ 1000 by decide)
  exact ho.sub o2 (by grind) (by grind)
section NR
variable {n nb nr : Nat} {J : Jt} {D : T64}
theorem wR_sym (h : Bd n nb nr J D) {i j : Nat} (hi : i < n) (hj : j < n) (hn : flt (wR D i j) 4562146422526312448) : wR D j i = wR D i j := by
  obtain ⟨⟨h1, h2⟩, h3, h4⟩ := near_small (wA_fb h hi hj) (wB_fb h hi hj) hn
  have key : ∀ f, fb 5 (D f j) → fb 5 (D f i) → rv (sShort (D 20 0) (FP.dsub (D f j) (D f i))) ≤ 1 / 16 → -rv (sShort (D 20 0) (FP.dsub (D f j) (D f i))) ≤ 1 / 16 → opp (sShort (D 20 0) (FP.dsub (D f j) (D f i))) (sShort (D 20 0) (FP.dsub (D f i) (D f j))) := by
    intro f f1 f2 q1 q2
    have d7 := (fb.sub f1 f2 (G := 6) (by decide)).mono (show (6 : Int) ≤ 7 by decide)
    have a1 := f1.2.1
    have a2 := f1.2.2
    have a3 := f2.2.1
    have a4 := f2.2.2
    have big := p2_mono (show (5 + 1 : Int) ≤ 1000 by decide)
    rw [p2_succ] at big
    exact short_opp h.side d7 (opp_swap f1.1 f2.1 (by grind) (by grind)) q1 q2
  have oA := key 0 (h.x hj) (h.x hi) h1 h2
  have oB := key 1 (h.y hj) (h.y hi) h3 h4
  unfold wR sq
  have e1 : FP.dmul (wA D j i) (wA D j i) = FP.dmul (wA D i j) (wA D i j) := oA.sqr.symm
  have e2 : FP.dmul (wB D j i) (wB D j i) = FP.dmul (wB D i j) (wB D i j) := oB.sqr.symm
  rw [e1, e2]
theorem near_sym (h : Bd n nb nr J D) {i j : Nat} (hi : i < n) (hj : j < n) (hn : flt (wR D i j) 4562146422526312448) : flt (wR D j i) 4562146422526312448 := by rw [wR_sym h hi hj hn]; exact hn
end NR
/-! triangles -/
theorem sq_nn (x : Rat) : 0 ≤ x * x := by
  rcases Rat.le_total (a := 0) (b := x) with q | q
  · exact Rat.mul_nonneg q q
  · have := Rat.mul_nonneg (show 0 ≤ -x by grind) (show 0 ≤ -x by grind); grind
theorem tri2 {p1 p2 q1 q2 A B : Rat} (hA : 0 ≤ A) (hB : 0 ≤ B) (hp : p1 * p1 + p2 * p2 ≤ A * A) (hq : q1 * q1 + q2 * q2 ≤ B * B) : (p1 + q1) * (p1 + q1) + (p2 + q2) * (p2 + q2) ≤ (A + B) * (A + B) := by
  have hAB := Rat.mul_nonneg hA hB
  have key : p1 * q1 + p2 * q2 ≤ A * B := by
    apply Decidable.byContradiction
    intro hn
    have h1 : A * B < p1 * q1 + p2 * q2 := by grind
    have h2 := Rat.mul_lt_mul_of_pos_left h1 (show 0 < p1 * q1 + p2 * q2 by grind)
    have h3 := Rat.mul_le_mul_of_nonneg_right (Rat.le_of_lt h1) hAB
    have lag : (p1 * q1 + p2 * q2) * (p1 * q1 + p2 * q2) + (p1 * q2 - p2 * q1) * (p1 * q2 - p2 * q1) = (p1 * p1 + p2 * p2) * (q1 * q1 + q2 * q2) := by grind
    have h4 := sq_nn (p1 * q2 - p2 * q1)
    have h5 := Rat.mul_le_mul_of_nonneg_right hp (show 0 ≤ q1 * q1 + q2 * q2 by have := sq_nn q1; have := sq_nn q2; grind)
    have h6 := Rat.mul_le_mul_of_nonneg_left hq (sq_nn A)
    have e1 : A * A * (B * B) = (A * B) * (A * B) := by grind
    rw [e1] at h6
    generalize hX : p1 * q1 + p2 * q2 = X at *
    generalize hY : A * B = Y at *
    generalize (p1 * p1 + p2 * p2) * (q1 * q1 + q2 * q2) = Z at *
    generalize (p1 * q2 - p2 * q1) * (p1 * q2 - p2 * q1) = V at *
    generalize A * A * (q1 * q1 + q2 * q2) = U at *
    clear hp hq hX hY
    grind
  grind
def ab (x : Rat) : Rat := if 0 ≤ x then x else -x
theorem ab_nn (x : Rat) : 0 ≤ ab x := by unfold ab; split <;> grind
theorem ab_le (x : Rat) : x ≤ ab x ∧ -x ≤ ab x := by unfold ab; split <;> grind
theorem ab_sq (x : Rat) : ab x * ab x = x * x := by unfold ab; split <;> grind
theorem sq_le {x y : Rat} (h1 : x ≤ y) (h2 : -x ≤ y) : x * x ≤ y * y := by
  have := Rat.mul_nonneg (show 0 ≤ y - x by grind) (show 0 ≤ y + x by grind)
  grind
/-- any other image is no nearer -/
theorem short_min {sd d : UInt64} (hs : Sd sd) (hd : fb 7 d) (m' : Int) {y : Rat} (h1 : rv d - rv sd * m' ≤ y) (h2 : -(rv d - rv sd * m') ≤ y) : rv (sShort sd d) ≤ y + 3 * hair ∧ -rv (sShort sd d) ≤ y + 3 * hair := by
  obtain ⟨s1, s2, s3⟩ := hs.b
  obtain ⟨m, a1, ⟨a2, a3⟩, a4, a5⟩ := short_val hs hd
  have hh := hair_pos
  by_cases he : m' = m
  · subst he; grind
  · have key : rv sd ≤ rv sd * ((m - m' : Int) : Rat) ∨ rv sd ≤ -(rv sd * ((m - m' : Int) : Rat)) := by
      have hp : 0 ≤ rv sd := by grind
      rcases Int.lt_or_gt_of_ne he with q | q
      · left
        have h3 : (1 : Int) ≤ m - m' := by omega
        have h4 : ((1 : Int) : Rat) ≤ ((m - m' : Int) : Rat) := by exact_mod_cast h3
        have := Rat.mul_le_mul_of_nonneg_left h4 hp
        have e1 : ((1 : Int) : Rat) = 1 := rfl
        rw [e1, Rat.mul_one] at this
        exact this
      · right
        have h3 : (1 : Int) ≤ -(m - m') := by omega
        have h4 : ((1 : Int) : Rat) ≤ ((-(m - m') : Int) : Rat) := by exact_mod_cast h3
        have := Rat.mul_le_mul_of_nonneg_left h4 hp
        have e1 : ((1 : Int) : Rat) = 1 := rfl
        rw [e1, Rat.mul_one] at this
        have e2 : ((-(m - m') : Int) : Rat) = -((m - m' : Int) : Rat) := by push_cast; grind
        rw [e2] at this
        grind
    have e3 : ((m - m' : Int) : Rat) = (m : Rat) - (m' : Rat) := by push_cast; grind
    rw [e3] at key
    rcases key with q | q <;> constructor <;> grind
/-- one coordinate of the triangle -/
theorem tor1 {sd xi xj li lj : UInt64} (hs : Sd sd) (h1 : fb 5 xi) (h2 : fb 5 xj) (h3 : fb 5 li) (h4 : fb 5 lj) : rv (sShort sd (FP.dsub lj li)) ≤ ab (rv (sShort sd (FP.dsub xj xi)) - rv (sShort sd (FP.dsub xj lj)) + rv (sShort sd (FP.dsub xi li))) + 10 * hair ∧ -rv (sShort sd (FP.dsub lj li)) ≤ ab (rv (sShort sd (FP.dsub xj xi)) - rv (sShort sd (FP.dsub xj lj)) + rv (sShort sd (FP.dsub xi li))) + 10 * hair := by
  have hsub : ∀ {a b : UInt64}, fb 5 a → fb 5 b → fb 7 (FP.dsub a b) ∧ rv (FP.dsub a b) - (rv a - rv b) ≤ hair ∧ (rv a - rv b) - rv (FP.dsub a b) ≤ hair := by
    intro a b ha hb
    have a1 := ha.2.1
    have a2 := ha.2.2
    have b1 := hb.2.1
    have b2 := hb.2.2
    have s5 := p2_succ 5
    have big := p2_mono (show (5 + 1 : Int) ≤ 1000 by decide)
    obtain ⟨q1, q2⟩ := sub_rd ha.1 hb.1 (by grind) (by grind)
    obtain ⟨u1, u2⟩ := q2.1 6 (by decide) (by show _ ≤ p2 (5 + 1); grind) (by show _ ≤ p2 (5 + 1); grind)
    have e : p2 (6 - 53) ≤ hair := p2_mono (by decide)
    exact ⟨(fb.sub ha hb (G := 6) (by decide)).mono (by decide), by grind, by grind⟩
  obtain ⟨a0, a1, a2⟩ := hsub h2 h1
  obtain ⟨b0, b1, b2⟩ := hsub h2 h4
  obtain ⟨c0, c1, c2⟩ := hsub h1 h3
  obtain ⟨d0, d1, d2⟩ := hsub h4 h3
  obtain ⟨m1, -, -, a3, a4⟩ := short_val hs a0
  obtain ⟨m2, -, -, b3, b4⟩ := short_val hs b0
  obtain ⟨m3, -, -, c3, c4⟩ := short_val hs c0
  generalize rv (sShort sd (FP.dsub xj xi)) = W at *
  generalize rv (sShort sd (FP.dsub xj lj)) = V at *
  generalize rv (sShort sd (FP.dsub xi li)) = U at *
  obtain ⟨k1, k2⟩ := ab_le (W - V + U)
  have e : ((m1 - m2 + m3 : Int) : Rat) = (m1 : Rat) - m2 + m3 := by push_cast; grind
  obtain ⟨r1, r2⟩ := short_min hs d0 (m1 - m2 + m3) (y := ab (W - V + U) + 7 * hair) (by rw [e]; grind) (by rw [e]; grind)
  constructor <;> grind
section CP
variable {n nb nr : Nat} {J : Jt} {D : T64}
theorem rch_lo (h : Bd n nb nr J D) : rv (D 21 0) + rv (D 22 0) + p2 (-10) - hair ≤ rv (rch D) ∧ rv (rch D) ≤ 32 := by
  obtain ⟨c1, c2, c3⟩ := h.cutV
  obtain ⟨k1, k2, k3⟩ := h.skinV
  have big : p2 5 ≤ p2 1000 := p2_mono (by decide)
  rw [e2_5] at big
  obtain ⟨a1, a2⟩ := add_rd c1 k1 (by grind) (by grind)
  obtain ⟨u1, u2⟩ := a2.1 5 (by decide) (by rw [e2_5]; grind) (by rw [e2_5]; grind)
  have e48 : p2 (5 - 53) ≤ hair * (1 / 4) := by unfold hair; rw [← e2_m2, ← p2_add]; exact p2_mono (by decide)
  have hc := fc_4562254508917369340
  have hcl : p2 (-10) ≤ rv 4562254508917369340 := by
    have h1 := rv_fin vc_4562254508917369340
    simp only [sg, Bool.false_eq_true, if_false, Rat.one_mul] at h1
    rcases lc_4562254508917369340.2 with q | q
    · exact q
    · exfalso
      have h2 : (0 : Rat) ≤ rv 4562254508917369340 := by rw [h1]; exact Rat.mul_nonneg (by exact_mod_cast Nat.zero_le _) (p2_nn _)
      have := p2_pos (-10)
      grind
  have hcu := hc.2.1
  have e9 : p2 (-9) ≤ 1 := by have := p2_mono (show (-9 : Int) ≤ 0 by decide); rw [p2_0] at this; exact this
  have hh := hair_pos
  have hh1 : hair ≤ 1 := by have := p2_mono (show (-40 : Int) ≤ 0 by decide); rw [p2_0] at this; exact this
  have hp := p2_pos (-10)
  obtain ⟨b1, b2⟩ := add_rd a1 hc.1 (by grind) (by grind)
  obtain ⟨u3, u4⟩ := b2.1 5 (by decide) (by rw [e2_5]; grind) (by rw [e2_5]; grind)
  have hr := rch_fb h
  constructor
  · show _ ≤ rv (FP.dadd (FP.dadd (D 21 0) (D 22 0)) 4562254508917369340)
    grind
  · show rv (FP.dadd (FP.dadd (D 21 0) (D 22 0)) 4562254508917369340) ≤ 32
    have : Rep (32 : Rat) := by have := rep_p2 (k := 5) (by decide); rw [e2_5] at this; exact this
    exact b2.2.2 _ this (by grind)
/-- less than a hair below the reach's square -/
theorem rch_in (h : Bd n nb nr J D) {r : UInt64} {E : Int} (hr : fb E r) {u : Rat} (hu0 : 0 ≤ u) (hu : u ≤ rv (D 21 0) + rv (D 22 0) + 3 * p2 (-13) + 20 * hair) (hv : rv r ≤ u * u + 3 * hair) : flt r (rch2 D) := by
  obtain ⟨l1, l2⟩ := rch_lo h
  obtain ⟨c1, c2, c3⟩ := h.cutV
  obtain ⟨k1, k2, k3⟩ := h.skinV
  have hrf := rch_fb h
  have hh := hair_pos
  have e10 : p2 (-10) = 8 * p2 (-13) := by rw [← e2_3, ← p2_add]; rfl
  have h13 : hair * 1048576 ≤ p2 (-13) := by
    unfold hair
    have : p2 20 = 1048576 := (p2_nat 20).trans (by decide +kernel)
    rw [← this, ← p2_add]; exact p2_mono (by decide)
  have hp := p2_pos (-13)
  have hle13 : p2 (-13) ≤ 1 / 128 := by rw [← e2_m7]; exact p2_mono (by decide)
  rw [e10] at l1
  generalize p2 (-13) = η at *
  generalize hv' : rv (D 21 0) + rv (D 22 0) = M at *
  have hM : 1 / 2 ≤ M := by grind
  -- the reach
  have e5 : p2 10 = 1024 := (p2_nat 10).trans (by decide +kernel)
  have nnr : 0 ≤ rv (rch D) := by grind
  have s1 := Rat.mul_le_mul_of_nonneg_left l2 nnr
  have s2 := Rat.mul_le_mul_of_nonneg_right l2 (show (0 : Rat) ≤ 32 by grind)
  have s0 := Rat.mul_nonneg nnr nnr
  have big : p2 10 ≤ p2 1000 := p2_mono (by decide)
  obtain ⟨q1, q2⟩ := mul_rd hrf.1 hrf.1 (by grind) (by grind)
  obtain ⟨u1, u2⟩ := q2.1 10 (by decide) (by rw [e5]; grind) (by rw [e5]; grind)
  have e43 : p2 (10 - 53) ≤ hair := p2_mono (by decide)
  have low : (M + 8 * η - hair) * (M + 8 * η - hair) - hair ≤ rv (rch2 D) := by
    have t1 := Rat.mul_le_mul_of_nonneg_left l1 (show 0 ≤ M + 8 * η - hair by grind)
    have t2 := Rat.mul_le_mul_of_nonneg_right l1 nnr
    show _ ≤ rv (FP.dmul (rch D) (rch D))
    grind
  have up : u * u ≤ (M + 3 * η + 20 * hair) * (M + 3 * η + 20 * hair) := by
    have t1 := Rat.mul_le_mul_of_nonneg_left hu hu0
    have t2 := Rat.mul_le_mul_of_nonneg_right hu (show 0 ≤ M + 3 * η + 20 * hair by grind)
    grind
  refine (cmp_val hr.1 q1).1.mpr ?_
  show rv r < rv (rch2 D)
  have hgap : (M + 3 * η + 20 * hair) * (M + 3 * η + 20 * hair) + 5 * hair < (M + 8 * η - hair) * (M + 8 * η - hair) := by
    have f1 : 0 < 5 * η - 21 * hair := by grind
    have f2 : 1 ≤ 2 * M + 11 * η + 19 * hair := by grind
    have f3 := Rat.mul_le_mul_of_nonneg_left f2 (Rat.le_of_lt f1)
    have e : (M + 8 * η - hair) * (M + 8 * η - hair) - (M + 3 * η + 20 * hair) * (M + 3 * η + 20 * hair) = (5 * η - 21 * hair) * (2 * M + 11 * η + 19 * hair) := by grind
    grind
  grind
theorem cut2_v (h : Bd n nb nr J D) : rv (FP.dmul (D 21 0) (D 21 0)) ≤ rv (D 21 0) * rv (D 21 0) + hair ∧ Fn (FP.dmul (D 21 0) (D 21 0)) ∧ p2 (-10) < rv (FP.dmul (D 21 0) (D 21 0)) := by
  obtain ⟨c1, c2, c3⟩ := h.cutV
  have e8 : p2 8 = 256 := (p2_nat 8).trans (by decide +kernel)
  have n0 : 0 ≤ rv (D 21 0) := by grind
  have s1 := Rat.mul_le_mul_of_nonneg_left c3 n0
  have s2 := Rat.mul_le_mul_of_nonneg_right c3 (show (0 : Rat) ≤ 16 by grind)
  have s0 := Rat.mul_nonneg n0 n0
  have s3 := Rat.mul_le_mul_of_nonneg_left c2 n0
  have big : p2 8 ≤ p2 1000 := p2_mono (by decide)
  obtain ⟨q1, q2⟩ := mul_rd c1 c1 (by grind) (by grind)
  obtain ⟨u1, u2⟩ := q2.1 8 (by decide) (by rw [e8]; grind) (by rw [e8]; grind)
  have e43 : p2 (8 - 53) ≤ hair := p2_mono (by decide)
  refine ⟨by grind, q1, ?_⟩
  have h1 : p2 (-2) ≤ rv (D 21 0) * rv (D 21 0) := by rw [e2_m2]; grind
  have h2 := q2.2.1 _ (rep_p2 (k := -2) (by decide)) h1
  have h3 := p2_lt (show (-10 : Int) < -2 by decide)
  grind
/-- near is within the cut -/
theorem near_cut (h : Bd n nb nr J D) {r : UInt64} {E : Int} (hr : fb E r) (hn : flt r 4562146422526312448) : flt r (FP.dmul (D 21 0) (D 21 0)) := by
  obtain ⟨-, h2, h3⟩ := cut2_v h
  have h4 := (cmp_val hr.1 fc_4562146422526312448.1).1.mp hn
  rw [near_v] at h4
  exact (cmp_val hr.1 h2).1.mpr (by grind)
theorem most_v (h : Bd n nb nr J D) {r : UInt64} {E : Int} (hr : fb E r) (hm : ¬ fgt r (most D)) : rv r ≤ (rv (D 22 0) / 2) * (rv (D 22 0) / 2) + 2 * hair := by
  obtain ⟨k1, k2, k3⟩ := h.skinV
  have hmf := most_fb h
  have h1 := (cmp_val hr.1 hmf.1).2.2.1
  have h2 : rv r ≤ rv (most D) := by
    have : ¬ rv (most D) < rv r := fun q => hm (h1.mpr q)
    grind
  have big : p2 1 ≤ p2 1000 := p2_mono (by decide)
  rw [p2_1] at big
  obtain ⟨q1, q2⟩ := mul_rd k1 fc_4602678819172646912.1 (by rw [rv_half]; grind) (by rw [rv_half]; grind)
  rw [rv_half] at q2
  obtain ⟨u1, u2⟩ := q2.1 1 (by decide) (by rw [p2_1]; grind) (by rw [p2_1]; grind)
  have e52 : p2 (1 - 53) ≤ hair * (1 / 16) := by unfold hair; rw [← e2_m4, ← p2_add]; exact p2_mono (by decide)
  have hh := hair_pos
  have hh1 : hair ≤ 1 / 128 := by unfold hair; rw [← e2_m7]; exact p2_mono (by decide)
  have n1 := q2.nn (by grind)
  have le2 : rv (FP.dmul (D 22 0) 4602678819172646912) ≤ rv (D 22 0) / 2 + hair * (1 / 16) := by grind
  have le3 : rv (FP.dmul (D 22 0) 4602678819172646912) ≤ 3 := by grind
  have t0 := Rat.mul_le_mul_of_nonneg_left le3 n1
  have t00 := Rat.mul_nonneg n1 n1
  have big4 : p2 4 ≤ p2 1000 := p2_mono (by decide)
  rw [e2_4] at big4
  obtain ⟨z1, z2⟩ := mul_rd q1 q1 (by grind) (by grind)
  obtain ⟨w1, w2⟩ := z2.1 4 (by decide) (by rw [e2_4]; grind) (by rw [e2_4]; grind)
  have e49 : p2 (4 - 53) ≤ hair * (1 / 16) := by unfold hair; rw [← e2_m4, ← p2_add]; exact p2_mono (by decide)
  have t1 := Rat.mul_le_mul_of_nonneg_left le2 n1
  have t2 := Rat.mul_le_mul_of_nonneg_right le2 (show 0 ≤ rv (D 22 0) / 2 + hair * (1 / 16) by grind)
  have t3 := Rat.mul_le_mul_of_nonneg_right k3 (show 0 ≤ hair by grind)
  have t4 := Rat.mul_le_mul_of_nonneg_right hh1 (show 0 ≤ hair by grind)
  have e : (rv (D 22 0) / 2 + hair * (1 / 16)) * (rv (D 22 0) / 2 + hair * (1 / 16)) = rv (D 22 0) / 2 * (rv (D 22 0) / 2) + rv (D 22 0) * hair * (1 / 16) + hair * hair * (1 / 256) := by grind
  have h3 : rv (most D) ≤ rv (D 22 0) / 2 * (rv (D 22 0) / 2) + 2 * hair := by
    show rv (FP.dmul (FP.dmul (D 22 0) 4602678819172646912) (FP.dmul (D 22 0) 4602678819172646912)) ≤ _
    grind
  grind
theorem lst_fb (h : Bd n nb nr J D) {i j : Nat} (hi : i < n) (hj : j < n) : fb 5 (wA (atL D) i j) ∧ fb 5 (wB (atL D) i j) :=
  ⟨short_fb h.side ((fb.sub (h.lx hj) (h.lx hi) (G := 6) (by decide)).mono (by decide)), short_fb h.side ((fb.sub (h.ly hj) (h.ly hi) (G := 6) (by decide)).mono (by decide))⟩
/-- what is within the cut now was within the reach when the list was made -/
theorem drift (h : Bd n nb nr J D) {i j : Nat} (hi : i < n) (hj : j < n) (hv : ∀ a, a < n → ¬ fgt (vR D a) (most D)) (hp : flt (wR D i j) (FP.dmul (D 21 0) (D 21 0))) : flt (wR (atL D) i j) (rch2 D) := by
  obtain ⟨c1, c2, c3⟩ := h.cutV
  obtain ⟨k1, k2, k3⟩ := h.skinV
  have hh := hair_pos
  have h13 : hair * 1024 ≤ p2 (-13) * p2 (-13) := by
    unfold hair
    have : p2 10 = 1024 := (p2_nat 10).trans (by decide +kernel)
    rw [← this, ← p2_add, ← p2_add]; exact p2_mono (by decide)
  have hη := p2_pos (-13)
  have hη1 : p2 (-13) ≤ 1 := by have := p2_mono (show (-13 : Int) ≤ 0 by decide); rw [p2_0] at this; exact this
  obtain ⟨u1, u2, u3⟩ := cut2_v h
  have w1 := (cmp_val (wR_fb h hi hj).1 u2).1.mp hp
  obtain ⟨⟨-, w2⟩, -⟩ := sq_val (wA_fb h hi hj) (wB_fb h hi hj)
  have w2' : rv (wA D i j) * rv (wA D i j) + rv (wB D i j) * rv (wB D i j) - rv (wR D i j) ≤ hair := w2
  have hA : rv (wA D i j) * rv (wA D i j) + rv (wB D i j) * rv (wB D i j) ≤ (rv (D 21 0) + p2 (-13)) * (rv (D 21 0) + p2 (-13)) := by
    have t1 := Rat.mul_le_mul_of_nonneg_right c2 (Rat.le_of_lt hη)
    have e : (rv (D 21 0) + p2 (-13)) * (rv (D 21 0) + p2 (-13)) = rv (D 21 0) * rv (D 21 0) + 2 * (rv (D 21 0) * p2 (-13)) + p2 (-13) * p2 (-13) := by grind
    rw [e]
    grind
  have hB : ∀ a, a < n → rv (vA D a) * rv (vA D a) + rv (vB D a) * rv (vB D a) ≤ (rv (D 22 0) / 2 + p2 (-13)) * (rv (D 22 0) / 2 + p2 (-13)) := by
    intro a ha
    have m1 := most_v h (vR_fb h ha) (hv a ha)
    obtain ⟨⟨-, w3⟩, -⟩ := sq_val (vA_fb h ha) (vB_fb h ha)
    have w3' : rv (vA D a) * rv (vA D a) + rv (vB D a) * rv (vB D a) - rv (vR D a) ≤ hair := w3
    have t1 := Rat.mul_nonneg k2 (Rat.le_of_lt hη)
    have e : (rv (D 22 0) / 2 + p2 (-13)) * (rv (D 22 0) / 2 + p2 (-13)) = rv (D 22 0) / 2 * (rv (D 22 0) / 2) + rv (D 22 0) * p2 (-13) + p2 (-13) * p2 (-13) := by grind
    rw [e]
    grind
  have tA := tor1 h.side (h.x hi) (h.x hj) (h.lx hi) (h.lx hj)
  have tB := tor1 h.side (h.y hi) (h.y hj) (h.ly hi) (h.ly hj)
  obtain ⟨⟨w4, -⟩, -⟩ := sq_val (lst_fb h hi hj).1 (lst_fb h hi hj).2
  have w4' : rv (wR (atL D) i j) - (rv (wA (atL D) i j) * rv (wA (atL D) i j) + rv (wB (atL D) i j) * rv (wB (atL D) i j)) ≤ hair := w4
  have tA' : rv (wA (atL D) i j) ≤ ab (rv (wA D i j) - rv (vA D j) + rv (vA D i)) + 10 * hair ∧ -rv (wA (atL D) i j) ≤ ab (rv (wA D i j) - rv (vA D j) + rv (vA D i)) + 10 * hair := tA
  have tB' : rv (wB (atL D) i j) ≤ ab (rv (wB D i j) - rv (vB D j) + rv (vB D i)) + 10 * hair ∧ -rv (wB (atL D) i j) ≤ ab (rv (wB D i j) - rv (vB D j) + rv (vB D i)) + 10 * hair := tB
  have hBj := hB j hj
  have hBi := hB i hi
  have hCf : fb 11 (wR (atL D) i j) := sq_fb (lst_fb h hi hj).1 (lst_fb h hi hj).2 (by decide)
  have nA : 0 ≤ rv (D 21 0) + p2 (-13) := by grind
  have nB : 0 ≤ rv (D 22 0) / 2 + p2 (-13) := by grind
  have x1 := tri2 (q1 := -rv (vA D j)) (q2 := -rv (vB D j)) nA nB hA (by grind)
  have x2 := tri2 (q1 := rv (vA D i)) (q2 := rv (vB D i)) (show 0 ≤ rv (D 21 0) + p2 (-13) + (rv (D 22 0) / 2 + p2 (-13)) by grind) nB x1 hBi
  have y1 := ab_sq (rv (wA D i j) - rv (vA D j) + rv (vA D i))
  have y2 := ab_sq (rv (wB D i j) - rv (vB D j) + rv (vB D i))
  have e1 : rv (wA D i j) + -rv (vA D j) + rv (vA D i) = rv (wA D i j) - rv (vA D j) + rv (vA D i) := by grind
  have e2 : rv (wB D i j) + -rv (vB D j) + rv (vB D i) = rv (wB D i j) - rv (vB D j) + rv (vB D i) := by grind
  rw [e1, e2, ← y1, ← y2] at x2
  have hsm : 10 * hair * (10 * hair) + 10 * hair * (10 * hair) ≤ 20 * hair * (20 * hair) := by have := Rat.mul_nonneg (Rat.le_of_lt hh) (Rat.le_of_lt hh); grind
  have x3 := tri2 (show 0 ≤ rv (D 21 0) + p2 (-13) + (rv (D 22 0) / 2 + p2 (-13)) + (rv (D 22 0) / 2 + p2 (-13)) by grind) (show 0 ≤ 20 * hair by grind) x2 hsm
  have z1 := sq_le tA'.1 tA'.2
  have z2 := sq_le tB'.1 tB'.2
  refine rch_in h hCf (u := rv (D 21 0) + p2 (-13) + (rv (D 22 0) / 2 + p2 (-13)) + (rv (D 22 0) / 2 + p2 (-13)) + 20 * hair) (by grind) (by grind) ?_
  grind
theorem in_reach (h : Bd n nb nr J D) {r : UInt64} {E : Int} (hr : fb E r) (hp : flt r (FP.dmul (D 21 0) (D 21 0))) : flt r (rch2 D) := by
  obtain ⟨c1, c2, c3⟩ := h.cutV
  obtain ⟨k1, k2, k3⟩ := h.skinV
  obtain ⟨u1, u2, u3⟩ := cut2_v h
  have w1 := (cmp_val hr.1 u2).1.mp hp
  have hh := hair_pos
  have hη := p2_pos (-13)
  exact rch_in h hr (u := rv (D 21 0)) (by grind) (by grind) (by grind)
/-- the class's list holds every pair within the cut -/
theorem near_list (h : Bd n nb nr J D) {li : Int32} {i j : Nat} (hi : i < n) (hj : j < n) (hij : j ≠ i) (hp : flt (wR D i j) (FP.dmul (D 21 0) (D 21 0))) : j ∈ jsC D li n i := by
  unfold jsC
  cases ho : oldB D li n with
  | true =>
    have hr := in_reach h (wR_fb h hi hj) hp
    unfold flt at hr
    show j ∈ nbs D i n
    unfold nbs
    refine List.mem_filter.mpr ⟨List.mem_range.mpr hj, ?_⟩
    simp [hij, hr]
  | false =>
    have hr := drift h hi hj (oldB_f.mp ho).2 hp
    unfold flt at hr
    show j ∈ nbs (atL D) i n
    unfold nbs
    refine List.mem_filter.mpr ⟨List.mem_range.mpr hj, ?_⟩
    have hr' : FP.dcmp (wR (atL D) i j) (rch2 (atL D)) = some .lt := hr
    simp [hij, hr']
theorem mem_getD {js : List Nat} {j : Nat} (h : j ∈ js) : ∃ k, k < js.length ∧ js.getD k 0 = j := by
  obtain ⟨k, hk, e⟩ := List.getElem_of_mem h
  exact ⟨k, hk, by rw [List.getD_eq_getElem?_getD, List.getElem?_eq_getElem hk]; exact e⟩
theorem jsC_ne {li : Int32} {i j : Nat} (h : j ∈ jsC D li n i) : j ≠ i ∧ j < n := by
  have key : ∀ E : T64, j ∈ nbs E i n → j ≠ i ∧ j < n := by
    intro E h
    unfold nbs at h
    obtain ⟨h1, h2⟩ := List.mem_filter.mp h
    rw [Bool.and_eq_true] at h2
    exact ⟨of_decide_eq_true h2.1, List.mem_range.mp h1⟩
  unfold jsC at h
  cases ho : oldB D li n with
  | true => rw [ho] at h; exact key D h
  | false => rw [ho] at h; exact key (atL D) h
theorem list_ovl (h : Bd n nb nr J D) {li : Int32} : (∃ a, a < n ∧ ∃ k, k < (jsC D li n a).length ∧ flt (wR D a ((jsC D li n a).getD k 0)) 4562146422526312448) ↔ ovl D n = true := by
  rw [ovl_t]
  constructor
  · rintro ⟨a, ha, k, hk, hf⟩
    obtain ⟨hne, hlt⟩ := jsC_ne (getD_mem hk)
    generalize (jsC D li n a).getD k 0 = b at *
    rcases Nat.lt_or_gt_of_ne hne with q | q
    · exact ⟨b, a, q, ha, near_sym h ha hlt hf⟩
    · exact ⟨a, b, q, hlt, hf⟩
  · rintro ⟨i, j, hij, hj, hf⟩
    have hi : i < n := by omega
    obtain ⟨k, hk, e⟩ := mem_getD (near_list h (li := li) hi hj (by omega) (near_cut h (wR_fb h hi hj) hf))
    exact ⟨i, hi, k, hk, by rw [e]; exact hf⟩
theorem fPl_app {i m : Nat} {js : List Nat} : ∀ k, k ≤ js.length → fPl D J i (js ++ [m]) k = fPl D J i js k
  | 0, _ => rfl
  | k + 1, hk => by
    unfold fPl
    rw [fPl_app k (by omega), getD_app, if_pos (by omega)]
theorem fPl_fPa {E : T64} {i : Nat} : ∀ m, (∀ j, j < m → j ≠ i → flt (wR D i j) (FP.dmul (D 21 0) (D 21 0)) → flt (wR E i j) (rch2 E)) → fPl D J i (nbs E i m) (nbs E i m).length = fPa D J i m
  | 0, _ => rfl
  | m + 1, hc => by
    have ih := fPl_fPa m (fun j hj => hc j (by omega))
    by_cases hm : m = i
    · rw [nbs_no (Or.inl hm), ih]
      show _ = if m = i then _ else _
      rw [if_pos hm]
    · have e0 : fPa D J i (m + 1) = fst2 D J i m (fPa D J i m) := if_neg hm
      by_cases hf : flt (wR E i m) (rch2 E)
      · rw [nbs_add hm hf, List.length_append, List.length_singleton, e0]
        show fst2 D J i ((nbs E i m ++ [m]).getD (nbs E i m).length 0) (fPl D J i (nbs E i m ++ [m]) (nbs E i m).length) = _
        rw [fPl_app _ (Nat.le_refl _), ih, getD_app, if_neg (Nat.lt_irrefl _), if_pos rfl]
      · rw [nbs_no (Or.inr hf), ih, e0]
        have : ¬ flt (wR D i m) (FP.dmul (D 21 0) (D 21 0)) := fun q => hf (hc m (by omega) hm q)
        exact (if_neg this).symm
/-- the force on i, by all atoms -/
def FX (D : T64) (J : Jt) (n nb i : Nat) : UInt64 × UInt64 := fBo D J i (fPa D J i n) nb
theorem list_force (h : Bd n nb nr J D) {li : Int32} {i : Nat} (hi : i < n) : fCx D J nb i (jsC D li n i) = FX D J n nb i := by
  unfold fCx FX
  congr 1
  unfold jsC
  cases ho : oldB D li n with
  | true => exact fPl_fPa n (fun j hj hne hp => in_reach h (wR_fb h hi hj) hp)
  | false => exact fPl_fPa (E := atL D) n (fun j hj hne hp => drift h hi hj (oldB_f.mp ho).2 hp)
theorem FX_fb (h : Bd n nb nr J D) {i : Nat} (hi : i < n) (ho : ovl D n = false) : fb 160 (FX D J n nb i).1 ∧ fb 160 (FX D J n nb i).2 := by
  have h10 := h.n10
  have h8 := h.nb8
  have hq : ∀ q, q < n → q ≠ i → ¬ flt (wR D i q) 4562146422526312448 := by
    intro q hq hne hf
    rcases Nat.lt_or_gt_of_ne hne with w | w
    · exact ovl_f.mp ho q i w hi (near_sym h hi hq hf)
    · exact ovl_f.mp ho i q w hq hf
  have a := fPa_fb h hi n (by omega) (Nat.le_refl _) hq
  have b := fBo_fb h hi (a := fPa D J i n) ⟨a.1.mono (by omega), a.2.mono (by omega)⟩ nb (Nat.le_refl _)
  exact ⟨b.1.mono (by omega), b.2.mono (by omega)⟩
theorem FX_cg {D' : T64} {i : Nat} (h : exL D' D) : FX D' J n nb i = FX D J n nb i := by unfold FX; rw [fPa_cg h, fBo_cg h]
theorem ovl_cg {D' : T64} (h : exL D' D) : ovl D' n = ovl D n := by
  cases ho : ovl D n with
  | true =>
    obtain ⟨i, j, h1, h2, h3⟩ := ovl_t.mp ho
    exact ovl_t.mpr ⟨i, j, h1, h2, by rw [wR_cg h]; exact h3⟩
  | false => exact ovl_f.mpr (fun i j h1 h2 h3 => ovl_f.mp ho i j h1 h2 (by rw [← wR_cg h]; exact h3))
end CP
