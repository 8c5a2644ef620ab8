set_option maxRecDepth 100000
/-! ===== scaling keeps the speeds small ===== -/
theorem lb_pos {F : Int} {x : UInt64} (h : lb F x) (hp : 0 < rv x) : p2 F ≤ rv x := by
  rcases h.2 with q | q
  · exact q
  · have := p2_pos F; grind
theorem binade_ab {u : UInt64} (hu : Fn u) (h1 : 1 < ab (rv u)) : ∃ a : Int, 0 ≤ a ∧ p2 a ≤ ab (rv u) ∧ ab (rv u) < p2 (a + 1) := by
  have key : ∀ x : UInt64, Fn x → 1 < rv x → ∃ a : Int, 0 ≤ a ∧ p2 a ≤ rv x ∧ rv x < p2 (a + 1) := by
    intro x hx h1
    obtain ⟨e, e1, e2⟩ := binade hx (by grind)
    refine ⟨e, ?_, e1, e2⟩
    apply Decidable.byContradiction
    intro hn
    have := p2_mono (show e + 1 ≤ 0 by omega)
    rw [p2_0] at this
    grind
  unfold ab at h1 ⊢
  split at h1
  · rw [if_pos (by assumption)]; exact key u hu h1
  · rw [if_neg (by assumption)]
    obtain ⟨n1, n2⟩ := neg_val hu
    rw [← n2] at h1 ⊢
    exact key _ n1 h1
section SC
variable {n nb nr : Nat} {J : Jt} {D : T64} {I : T32} {T : UInt64}
theorem tmp_lo (h : Bd n nb nr J D) (hu : Bu 20 n D) {i : Nat} (hi : i < n) (h0 : frc I n ≠ 0) {a : Int} (ha : 0 ≤ a ∧ a ≤ 20) (hx : p2 (2 * a) ≤ rv (FP.dmul (D 2 i) (D 2 i)) ∨ p2 (2 * a) ≤ rv (FP.dmul (D 3 i) (D 3 i))) : p2 (2 * a - 8) ≤ rv (tmpS D I n) := by
  have h10 := h.n10
  have hf := frc_le I n
  obtain ⟨s1, s2⟩ := smT_mono h hu n (Nat.le_refl _)
  have s3 := s2 i hi
  have nn : ∀ x : UInt64, fb 20 x → fb 40 (FP.dmul x x) ∧ 0 ≤ rv (FP.dmul x x) := by
    intro x hx
    obtain ⟨m1, m2⟩ := rat_mul_bd hx.2.1 hx.2.2 hx.2.1 hx.2.2
    rw [← p2_add] at m1 m2
    have big := p2_mono (show (20 + 20 : Int) ≤ 1000 by decide)
    obtain ⟨a1, a2⟩ := mul_rd hx.1 hx.1 (by grind) (by grind)
    exact ⟨fb.mul hx hx (by decide), a2.nn (sq_nn _)⟩
  obtain ⟨a1, a2⟩ := nn _ (hu i hi).1
  obtain ⟨b1, b2⟩ := nn _ (hu i hi).2
  have w1 := a1.2.1
  have w2 := b1.2.1
  have sc := p2_succ 40
  have big := p2_mono (show (40 + 1 : Int) ≤ 1000 by decide)
  obtain ⟨q1, q2⟩ := add_rd a1.1 b1.1 (by grind) (by grind)
  have c1 : p2 (2 * a) ≤ rv (FP.dadd (FP.dmul (D 2 i) (D 2 i)) (FP.dmul (D 3 i) (D 3 i))) := q2.2.1 _ (rep_p2 (by omega)) (by rcases hx with q | q <;> grind)
  have cf := fb.add a1 b1 (G := 41) (by decide)
  have hm := lb_pos (h.ml hi) (h.m0 hi)
  obtain ⟨m1, m2⟩ := rat_mul_bd (h.m hi).2.1 (h.m hi).2.2 cf.2.1 cf.2.2
  rw [← p2_add] at m1 m2
  have big2 := p2_mono (show (6 + 41 : Int) ≤ 1000 by decide)
  obtain ⟨r1, r2⟩ := mul_rd (h.m hi).1 cf.1 (by grind) (by grind)
  have d1 : p2 (2 * a - 3) ≤ rv (FP.dmul (D 4 i) (FP.dadd (FP.dmul (D 2 i) (D 2 i)) (FP.dmul (D 3 i) (D 3 i)))) := by
    refine r2.2.1 _ (rep_p2 (by omega)) ?_
    have t1 := Rat.mul_le_mul_of_nonneg_left c1 (p2_nn (-3))
    have t2 := Rat.mul_le_mul_of_nonneg_right hm (show 0 ≤ rv (FP.dadd (FP.dmul (D 2 i) (D 2 i)) (FP.dmul (D 3 i) (D 3 i))) by have := p2_pos (2 * a); grind)
    rw [← p2_add, show -3 + 2 * a = 2 * a - 3 by omega] at t1
    grind
  have e1 := i2d_b (k := frc I n) (by omega)
  have e2 := i2d_lb (k := frc I n) (by omega) (by omega)
  have f1 := fb.mul fc_4611686018427387904 e1 (G := 5) (by decide)
  have f2 := lb.mul lc_4611686018427387904 e2 fc_4611686018427387904 e1 (G := 1) (by decide)
  have sf := (smT_fb h hu n (Nat.le_refl _)).mono (show (47 + n : Int) ≤ 57 by omega)
  have fpos : 0 < rv (FP.dmul 4611686018427387904 (FP.i2d (nI (frc I n)))) := by
    obtain ⟨i1, i2⟩ := i2d_rd (nI (frc I n))
    rw [nI_toInt (by omega)] at i2
    have g1 : (0 : Rat) ≤ rv (FP.i2d (nI (frc I n))) := by rw [i2]; exact_mod_cast Nat.zero_le _
    have g2 : (0 : Rat) ≤ rv 4611686018427387904 := by
      rw [rv_fin vc_4611686018427387904]
      simp only [sg, Bool.false_eq_true, if_false, Rat.one_mul]
      exact Rat.mul_nonneg (by exact_mod_cast Nat.zero_le _) (p2_nn _)
    obtain ⟨m1, m2⟩ := rat_mul_bd fc_4611686018427387904.2.1 fc_4611686018427387904.2.2 e1.2.1 e1.2.2
    rw [← p2_add] at m1 m2
    have big3 := p2_mono (show (1 + 4 : Int) ≤ 1000 by decide)
    obtain ⟨z1, z2⟩ := mul_rd fc_4611686018427387904.1 e1.1 (by grind) (by grind)
    have z3 := z2.nn (Rat.mul_nonneg g2 g1)
    rcases f2.2 with q | q
    · have := p2_pos 1; grind
    · have := p2_pos 1; grind
  show p2 (2 * a - 8) ≤ rv (tmpS D I n)
  unfold tmpS
  rw [if_neg h0]
  obtain ⟨m3, m4⟩ := rat_div_bd sf.2.1 sf.2.2 f2.2
  rw [← p2_add] at m3 m4
  have big4 := p2_mono (show (57 + -1 : Int) ≤ 1000 by decide)
  obtain ⟨y1, y2⟩ := div_rd sf.1 f1.1 f2.ne0 (by grind) (by grind)
  refine y2.2.1 _ (rep_p2 (by omega)) ?_
  have ex : rv (smT D n) / rv (FP.dmul 4611686018427387904 (FP.i2d (nI (frc I n)))) * rv (FP.dmul 4611686018427387904 (FP.i2d (nI (frc I n)))) = rv (smT D n) := Rat.div_mul_cancel f2.ne0
  refine Rat.le_of_mul_le_mul_right (c := rv (FP.dmul 4611686018427387904 (FP.i2d (nI (frc I n))))) ?_ fpos
  rw [ex]
  have t1 := Rat.mul_le_mul_of_nonneg_left f1.2.1 (p2_nn (2 * a - 8))
  rw [← p2_add, show 2 * a - 8 + 5 = 2 * a - 3 by omega] at t1
  grind
theorem sc_one (h : Bd n nb nr J D) (hu : Bu 20 n D) (hT : okT T) (hc : ¬ flt (tmpS D I n) 4517329193108106637) {i : Nat} (hi : i < n) {u : UInt64} (hf : u = D 2 i ∨ u = D 3 i) : fb 20 (FP.dmul u (sRoot (FP.ddiv T (tmpS D I n)))) := by
  obtain ⟨htl, hz⟩ := rtz hT (tmp_fb (I := I) h hu) hc
  have fu : fb 20 u := by rcases hf with rfl | rfl; exact (hu i hi).1; exact (hu i hi).2
  unfold sRoot
  split
  · have := fb.mul fu (fc_0.mono (show (-1074 : Int) ≤ 0 by decide)) (G := 20) (by decide)
    exact this
  · rename_i hne
    have hz : RtZ (FP.ddiv T (tmpS D I n)) := hz.resolve_left hne
    obtain ⟨rb, rl⟩ := root_b hz 40 (Nat.le_refl _)
    have rpos : 0 ≤ rv (rtN (FP.ddiv T (tmpS D I n)) 40) := by
      have zpos : 0 < rv (FP.ddiv T (tmpS D I n)) := by have := p2_pos (-60); have := hz.2.1; grind
      obtain ⟨e, h1, h2⟩ := binade hz.1 zpos
      have b1 : -61 ≤ e := by
        have : p2 (-60) < p2 (e + 1) := by have := hz.2.1; grind
        by_cases hc : e + 1 ≤ -60
        · have := p2_mono hc; grind
        · omega
      have b2 : e ≤ 30 := p2_le_iff.mp (by have := hz.2.2; grind)
      obtain ⟨c1, c2, c3⟩ := root_inv hz (j := (e + 2) / 2) (E0 := max 0 (e + 1)) h1 h2 (by omega) (by omega) (by omega) ⟨b1, b2⟩ 40 (by decide)
      have := p2_pos ((e + 2) / 2 - 2)
      grind
    have hab : ab (rv u) ≤ p2 20 := by have h1 := fu.2.1; have h2 := fu.2.2; unfold ab; split <;> grind
    have hsc : ab (rv u) * rv (rtN (FP.ddiv T (tmpS D I n)) 40) ≤ p2 20 := by
      refine root_sc hz (ab_nn _) hab ?_
      by_cases h1 : ab (rv u) ≤ 1
      · exact Or.inl h1
      · right
        obtain ⟨a, a0, a1, a2⟩ := binade_ab fu.1 (by grind)
        have a20 : a ≤ 20 := p2_le_iff.mp (by grind)
        have h0 : frc I n ≠ 0 := by
          intro q
          apply hc
          have : tmpS D I n = FP.dconst0 := if_pos q
          rw [this]
          refine (cmp_val fc_0.1 fc_4517329193108106637.1).1.mpr ?_
          rw [rv_0]
          have := close_v
          have := p2_pos (-20)
          grind
        have husq : p2 (2 * a) ≤ rv (FP.dmul u u) := by
          obtain ⟨m1, m2⟩ := rat_mul_bd fu.2.1 fu.2.2 fu.2.1 fu.2.2
          rw [← p2_add] at m1 m2
          have big := p2_mono (show (20 + 20 : Int) ≤ 1000 by decide)
          obtain ⟨q1, q2⟩ := mul_rd fu.1 fu.1 (by grind) (by grind)
          refine q2.2.1 _ (rep_p2 (by omega)) ?_
          have t1 := Rat.mul_le_mul_of_nonneg_left a1 (p2_nn a)
          have t2 := Rat.mul_le_mul_of_nonneg_right a1 (ab_nn (rv u))
          rw [← p2_add, show a + a = 2 * a by omega] at t1
          have := ab_sq (rv u)
          grind
        have hlo := tmp_lo (I := I) h hu hi h0 ⟨a0, a20⟩ (by rcases hf with rfl | rfl; exact Or.inl husq; exact Or.inr husq)
        have e10 : p2 10 = 1024 := (p2_nat 10).trans (by decide +kernel)
        have fT : fb 10 T := ⟨hT.1, by rcases hT.2 with q | q <;> rw [e10] <;> grind, by rcases hT.2 with q | q <;> rw [e10] <;> grind⟩
        have hzle : rv (FP.ddiv T (tmpS D I n)) ≤ p2 (18 - 2 * a) := by
          have hl2 : lb (2 * a - 8) (tmpS D I n) := ⟨htl.1, Or.inl hlo⟩
          have := (fb.div fT hl2 (G := 18 - 2 * a) (by omega)).2.1
          exact this
        have t1 := Rat.mul_le_mul_of_nonneg_left (Rat.le_of_lt a2) (ab_nn (rv u))
        have t2 := Rat.mul_le_mul_of_nonneg_right (Rat.le_of_lt a2) (p2_nn (a + 1))
        rw [← p2_add, show a + 1 + (a + 1) = 2 * a + 2 by omega] at t2
        have t3 : ab (rv u) * ab (rv u) ≤ p2 (2 * a + 2) := by grind
        have t4 := Rat.mul_le_mul_of_nonneg_right hzle (show 0 ≤ ab (rv u) * ab (rv u) by rw [ab_sq]; exact sq_nn _)
        have t5 := Rat.mul_le_mul_of_nonneg_left t3 (p2_nn (18 - 2 * a))
        rw [← p2_add, show 18 - 2 * a + (2 * a + 2) = 20 by omega] at t5
        grind
    have big := p2_mono (show (20 : Int) ≤ 1000 by decide)
    have l1 := (ab_le (rv u)).1
    have l2 := (ab_le (rv u)).2
    have k1 := Rat.mul_le_mul_of_nonneg_right l1 rpos
    have k2 := Rat.mul_le_mul_of_nonneg_right l2 rpos
    obtain ⟨q1, q2⟩ := mul_rd fu.1 rb.1 (by grind) (by grind)
    exact fb_of (by decide) q1 q2 (by grind) (by grind)
theorem Bu.rsc (h : Bd n nb nr J D) (hu : Bu 20 n D) (hT : okT T) : Bu 20 n (rsc T n D I) := by
  by_cases hc : flt (tmpS D I n) 4517329193108106637
  · rw [rsc_t hc]; exact hu
  · rw [rsc_f hc]
    intro i hi
    have e2 : scD (sRoot (FP.ddiv T (tmpS D I n))) n D I 2 i = if I 1 i = 0 then FP.dmul (D 2 i) (sRoot (FP.ddiv T (tmpS D I n))) else D 2 i := tg_in rfl hi
    have e3 : scD (sRoot (FP.ddiv T (tmpS D I n))) n D I 3 i = if I 1 i = 0 then FP.dmul (D 3 i) (sRoot (FP.ddiv T (tmpS D I n))) else D 3 i := tg_in rfl hi
    rw [e2, e3]
    split
    · exact ⟨sc_one h hu hT hc hi (Or.inl rfl), sc_one h hu hT hc hi (Or.inr rfl)⟩
    · exact hu i hi
theorem rsc_exc : exc (s2 2 3) (rsc T n D I) D := by
  by_cases hc : flt (tmpS D I n) 4517329193108106637
  · rw [rsc_t hc]; exact exc.rf
  · rw [rsc_f hc]; exact tg_exc
end SC
