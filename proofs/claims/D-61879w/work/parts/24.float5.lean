set_option maxRecDepth 100000
/-! ===== doubles: the side, the shortest way, the place within the box, the root; their bounds ===== -/
theorem p2_sub (a : Int) : p2 (-a) * p2 a = 1 := by rw [← p2_add, show -a + a = 0 by omega, p2_0]
theorem e2_5 : p2 5 = 32 := (p2_nat 5).trans (by decide +kernel)
theorem e2_6 : p2 6 = 64 := (p2_nat 6).trans (by decide +kernel)
theorem e2_7 : p2 7 = 128 := (p2_nat 7).trans (by decide +kernel)
theorem e2_4 : p2 4 = 16 := (p2_nat 4).trans (by decide +kernel)
theorem e2_3 : p2 3 = 8 := (p2_nat 3).trans (by decide +kernel)
theorem e2_2 : p2 2 = 4 := (p2_nat 2).trans (by decide +kernel)
theorem e2_m1 : p2 (-1) = 1 / 2 := by have h := p2_sub 1; rw [p2_1] at h; grind
theorem e2_m2 : p2 (-2) = 1 / 4 := by have h := p2_sub 2; rw [e2_2] at h; grind
theorem e2_m3 : p2 (-3) = 1 / 8 := by have h := p2_sub 3; rw [e2_3] at h; grind
theorem e2_m4 : p2 (-4) = 1 / 16 := by have h := p2_sub 4; rw [e2_4] at h; grind
theorem e2_m5 : p2 (-5) = 1 / 32 := by have h := p2_sub 5; rw [e2_5] at h; grind
theorem e2_m6 : p2 (-6) = 1 / 64 := by have h := p2_sub 6; rw [e2_6] at h; grind
theorem e2_m7 : p2 (-7) = 1 / 128 := by have h := p2_sub 7; rw [e2_7] at h; grind
theorem rv_half : rv 4602678819172646912 = 1 / 2 := by
  rw [rv_fin vc_4602678819172646912]
  simp only [sg, Bool.false_eq_true, if_false, Rat.one_mul]
  have : p2 (-53) * p2 53 = 1 := p2_sub 53
  have e : p2 53 = ((9007199254740992 : Nat) : Rat) := (p2_nat 53).trans (by decide +kernel)
  rw [e] at this
  grind
/-- the side: a half of a whole number from 8 to 64 -/
def Sd (sd : UInt64) : Prop := ∃ k : Nat, 8 ≤ k ∧ k ≤ 64 ∧ Fn sd ∧ rv sd * 2 = (k : Rat)
theorem Sd.b {sd : UInt64} (h : Sd sd) : Fn sd ∧ 4 ≤ rv sd ∧ rv sd ≤ 32 := by
  obtain ⟨k, h1, h2, h3, h4⟩ := h
  have h1' : ((8 : Nat) : Rat) ≤ (k : Rat) := by exact_mod_cast h1
  have h2' : (k : Rat) ≤ ((64 : Nat) : Rat) := by exact_mod_cast h2
  have e8 : ((8 : Nat) : Rat) = 8 := rfl
  have e64 : ((64 : Nat) : Rat) = 64 := rfl
  rw [e8] at h1'
  rw [e64] at h2'
  exact ⟨h3, by grind, by grind⟩
theorem Sd.fb {sd : UInt64} (h : Sd sd) : fb 5 sd := by
  obtain ⟨h1, h2, h3⟩ := h.b
  exact ⟨h1, by rw [e2_5]; exact h3, by rw [e2_5]; grind⟩
theorem Sd.lb {sd : UInt64} (h : Sd sd) : lb 2 sd := by
  obtain ⟨h1, h2, h3⟩ := h.b
  exact ⟨h1, Or.inl (by rw [e2_2]; exact h2)⟩
def sShort (sd d : UInt64) : UInt64 := FP.dsub d (FP.dmul sd (sFloor (FP.dadd (FP.ddiv d sd) 4602678819172646912)))
def sWrapX (sd x : UInt64) : UInt64 := FP.dsub x (FP.dmul sd (sFloor (FP.ddiv x sd)))
def sWrap (sd x : UInt64) : UInt64 := if FP.dcmp (sWrapX sd x) sd = some .lt then sWrapX sd x else FP.dconst0
theorem rat_abs_mul {x y X Y : Rat} (h1 : x ≤ X) (h2 : -x ≤ X) (h3 : y ≤ Y) (h4 : -y ≤ Y) : x * y ≤ X * Y ∧ -(x * y) ≤ X * Y := rat_mul_bd h1 h2 h3 h4
theorem short_fb {sd d : UInt64} (hs : Sd sd) (hd : fb 49 d) : fb 5 (sShort sd d) := by
  obtain ⟨s1, s2, s3⟩ := hs.b
  have hd2 := hd.2.1
  have hd3 := hd.2.2
  have hq := fb.div hd hs.lb (G := 47) (by decide)
  have ht := fb.add hq fc_4602678819172646912 (G := 48) (by decide)
  obtain ⟨m1, m2⟩ := rat_div_bd (F := 2) hd2 hd3 (Or.inl (by rw [e2_2]; exact s2))
  rw [← p2_add] at m1 m2
  have big := p2_mono (show (49 + -2 : Int) ≤ 1000 by decide)
  obtain ⟨q1, q2⟩ := div_rd hd.1 s1 hs.lb.ne0 (by grind) (by grind)
  obtain ⟨a1, a2⟩ := q2.1 47 (by decide) m1 m2
  have eX : rv d / rv sd * rv sd = rv d := Rat.div_mul_cancel hs.lb.ne0
  generalize rv d / rv sd = X at eX a1 a2 m1 m2
  have big2 := p2_mono (show (48 : Int) ≤ 1000 by decide)
  have b47 := p2_succ 47
  have p47 := p2_mono (show (0 : Int) ≤ 47 by decide)
  rw [p2_0] at p47
  have hq2 := hq.2.1
  have hq3 := hq.2.2
  obtain ⟨t1, t2⟩ := add_rd hq.1 fc_4602678819172646912.1 (by rw [rv_half]; grind) (by rw [rv_half]; grind)
  rw [rv_half] at t2
  obtain ⟨c1, c2⟩ := t2.1 48 (by decide) (by grind) (by grind)
  obtain ⟨k, k1, k2, k3, k4⟩ := floor_val (ht.mono (by decide))
  have hfl := fb_floor ht (by decide)
  rw [show (47 : Int) - 53 = -6 by decide, e2_m6] at a1 a2
  rw [show (48 : Int) - 53 = -5 by decide, e2_m5] at c1 c2
  have hk1 : (k : Rat) - X ≤ 35 / 64 := by grind
  have hk2 : -((k : Rat) - X) ≤ 35 / 64 := by grind
  obtain ⟨d1, d2⟩ := rat_mul_bd (x := rv sd) (X := 32) s3 (by grind) hk1 hk2
  have e1 : rv sd * ((k : Rat) - X) = rv sd * k - rv d := by rw [← eX]; grind
  rw [e1] at d1 d2
  have p49 := p2_mono (show (5 : Int) ≤ 49 by decide)
  rw [e2_5] at p49
  have b49 := p2_succ 49
  have big3 := p2_mono (show (50 : Int) ≤ 1000 by decide)
  have w1 : rv sd * k ≤ p2 50 := by show _ ≤ p2 (49 + 1); rw [b49]; grind
  have w2 : -(rv sd * k) ≤ p2 50 := by show _ ≤ p2 (49 + 1); rw [b49]; grind
  obtain ⟨r1, r2⟩ := mul_rd s1 hfl.1 (by rw [k1]; grind) (by rw [k1]; grind)
  rw [k1] at r2
  obtain ⟨f1, f2⟩ := r2.1 50 (by decide) w1 w2
  rw [show (50 : Int) - 53 = -3 by decide, e2_m3] at f1 f2
  have p5 := p2_mono (show (5 : Int) ≤ 1000 by decide)
  rw [e2_5] at p5
  obtain ⟨z1, z2⟩ := sub_rd hd.1 r1 (by grind) (by grind)
  exact fb_of (by decide) z1 z2 (by rw [e2_5]; grind) (by rw [e2_5]; grind)
theorem wrapX_b {sd x : UInt64} (hs : Sd sd) (hx : fb 48 x) : Fn (sWrapX sd x) ∧ -1 ≤ rv (sWrapX sd x) ∧ rv (sWrapX sd x) ≤ 64 := by
  obtain ⟨s1, s2, s3⟩ := hs.b
  have hx2 := hx.2.1
  have hx3 := hx.2.2
  have hq := fb.div hx hs.lb (G := 46) (by decide)
  obtain ⟨m1, m2⟩ := rat_div_bd (F := 2) hx2 hx3 (Or.inl (by rw [e2_2]; exact s2))
  rw [← p2_add] at m1 m2
  have big := p2_mono (show (48 + -2 : Int) ≤ 1000 by decide)
  obtain ⟨q1, q2⟩ := div_rd hx.1 s1 hs.lb.ne0 (by grind) (by grind)
  obtain ⟨a1, a2⟩ := q2.1 46 (by decide) m1 m2
  have eX : rv x / rv sd * rv sd = rv x := Rat.div_mul_cancel hs.lb.ne0
  generalize rv x / rv sd = X at eX a1 a2 m1 m2
  obtain ⟨k, k1, k2, k3, k4⟩ := floor_val (hq.mono (by decide))
  have hfl := fb_floor hq (by decide)
  rw [show (46 : Int) - 53 = -7 by decide, e2_m7] at a1 a2
  have hk1 : X - (k : Rat) ≤ 129 / 128 := by grind
  have hk2 : -(1 / 128) ≤ X - (k : Rat) := by grind
  have d1 := Rat.mul_nonneg (show 0 ≤ rv sd by grind) (show 0 ≤ 129 / 128 - (X - (k : Rat)) by grind)
  have d2 := Rat.mul_nonneg (show 0 ≤ rv sd by grind) (show 0 ≤ (X - (k : Rat)) + 1 / 128 by grind)
  have e1 : rv sd * (X - (k : Rat)) = rv x - rv sd * k := by rw [← eX]; grind
  have g1 : rv x - rv sd * k ≤ 32 * (129 / 128) := by grind
  have g2 : -(32 / 128) ≤ rv x - rv sd * k := by grind
  have p48 := p2_mono (show (6 : Int) ≤ 48 by decide)
  rw [e2_6] at p48
  have b48 := p2_succ 48
  have big3 := p2_mono (show (49 : Int) ≤ 1000 by decide)
  have w1 : rv sd * k ≤ p2 49 := by show _ ≤ p2 (48 + 1); rw [b48]; grind
  have w2 : -(rv sd * k) ≤ p2 49 := by show _ ≤ p2 (48 + 1); rw [b48]; grind
  obtain ⟨r1, r2⟩ := mul_rd s1 hfl.1 (by rw [k1]; grind) (by rw [k1]; grind)
  rw [k1] at r2
  obtain ⟨f1, f2⟩ := r2.1 49 (by decide) w1 w2
  rw [show (49 : Int) - 53 = -4 by decide, e2_m4] at f1 f2
  have p6 := p2_mono (show (6 : Int) ≤ 1000 by decide)
  rw [e2_6] at p6
  obtain ⟨z1, z2⟩ := sub_rd hx.1 r1 (by grind) (by grind)
  refine ⟨z1, ?_, ?_⟩
  · have h0 : Rep (-1 : Rat) := by have := (rep_p2 (k := 0) (by decide)).neg; rw [p2_0] at this; exact this
    exact z2.2.1 _ h0 (by grind)
  · have h0 : Rep (64 : Rat) := by have := rep_p2 (k := 6) (by decide); rw [e2_6] at this; exact this
    exact z2.2.2 _ h0 (by grind)
theorem wrap_fb {sd x : UInt64} (hs : Sd sd) (hx : fb 48 x) : fb 5 (sWrap sd x) := by
  obtain ⟨h1, h2, h3⟩ := wrapX_b hs hx
  obtain ⟨s1, s2, s3⟩ := hs.b
  unfold sWrap
  split
  · rename_i h
    have := (cmp_val h1 s1).1.mp h
    exact ⟨h1, by rw [e2_5]; grind, by rw [e2_5]; grind⟩
  · exact fc_0.mono (by decide)
/-! lower bounds -/
theorem lb.mono {E F : Int} {a : UInt64} (h : lb E a) (hEF : F ≤ E) : lb F a := by
  have := p2_mono hEF
  refine ⟨h.1, ?_⟩
  rcases h.2 with q | q
  · left; grind
  · right; grind
theorem lb_of {X : Rat} {a : UInt64} {G : Int} (hG : -1074 ≤ G) (ha : Fn a) (h : Rd X (rv a)) (h1 : p2 G ≤ X ∨ p2 G ≤ -X) : lb G a := by
  refine ⟨ha, ?_⟩
  rcases h1 with q | q
  · left; exact h.2.1 _ (rep_p2 hG) q
  · right
    have := h.2.2 _ (rep_p2 hG).neg (by grind)
    grind
theorem rat_mul_lb {x y a b : Rat} (ha : 0 < a) (hb : 0 < b) (h1 : a ≤ x ∨ a ≤ -x) (h2 : b ≤ y ∨ b ≤ -y) : a * b ≤ x * y ∨ a * b ≤ -(x * y) := by
  have key : ∀ u v : Rat, a ≤ u → b ≤ v → a * b ≤ u * v := by
    intro u v hu hv
    have q1 := Rat.mul_nonneg (show 0 ≤ u - a by grind) (show 0 ≤ v by grind)
    have q2 := Rat.mul_nonneg (show 0 ≤ a by grind) (show 0 ≤ v - b by grind)
    grind
  rcases h1 with h1 | h1 <;> rcases h2 with h2 | h2
  · left; exact key _ _ h1 h2
  · right; have := key _ _ h1 h2; grind
  · right; have := key _ _ h1 h2; grind
  · left; have := key _ _ h1 h2; grind
theorem lb.mul {E E' F F' G : Int} {a b : UInt64} (ha : lb F a) (hb : lb F' b) (ha' : fb E a) (hb' : fb E' b) (h : G ≤ F + F' ∧ -1074 ≤ G ∧ E + E' ≤ 1000) : lb G (FP.dmul a b) := by
  have hs := p2_mono h.2.2
  rw [p2_add] at hs
  obtain ⟨m1, m2⟩ := rat_mul_bd ha'.2.1 ha'.2.2 hb'.2.1 hb'.2.2
  obtain ⟨q1, q2⟩ := mul_rd ha.1 hb.1 (by grind) (by grind)
  refine (lb_of (G := G) h.2.1 q1 q2 ?_)
  have := p2_mono h.1
  rw [p2_add] at this
  rcases rat_mul_lb (p2_pos F) (p2_pos F') ha.2 hb.2 with q | q
  · left; grind
  · right; grind
/-- what isn't less than a constant is at least that -/
theorem lb_nlt {E F : Int} {a b : UInt64} (ha : fb E a) (hb : Fn b) (hF : p2 F ≤ rv b) (h : ¬ flt a b) : lb F a := by
  refine ⟨ha.1, Or.inl ?_⟩
  have := (cmp_val ha.1 hb).1
  have : ¬ rv a < rv b := fun q => h (this.mpr q)
  grind
theorem fb.neg {E : Int} {a : UInt64} (h : fb E a) (hn : Fn (FP.dneg a) ∧ rv (FP.dneg a) = -rv a) : fb E (FP.dneg a) := by
  refine ⟨hn.1, ?_, ?_⟩ <;> rw [hn.2]
  · exact h.2.2
  · have := h.2.1; grind
/-! squares and sums that aren't negative -/
theorem rep_0 : Rep (0 : Rat) := ⟨false, 0, 0, by decide, by decide, by simp [FP.Core.signed]⟩
theorem Rd.nn {X v : Rat} (h : Rd X v) (hX : 0 ≤ X) : 0 ≤ v := h.2.1 _ rep_0 hX
/-! equal values, equal bits (but for zeros) -/
theorem fin_inj {s t : Bool} {c d : Nat} {q r : Int} (h1 : okD s c q) (h2 : okD t d r) (h0 : c ≠ 0) (h : dval (.fin s c q) = dval (.fin t d r)) : FP.Core.Datum.fin s c q = .fin t d r := by
  rw [dval_fin, dval_fin] at h
  have hc : (0 : Rat) < (c : Rat) := by exact_mod_cast Nat.pos_of_ne_zero h0
  have hq := p2_pos q
  have hr := p2_pos r
  have hcq := Rat.mul_pos hc hq
  have hdr : (0 : Rat) ≤ (d : Rat) * p2 r := Rat.mul_nonneg (by exact_mod_cast Nat.zero_le _) (Rat.le_of_lt hr)
  have hst : s = t := by
    cases s <;> cases t <;> simp only [sg, if_true, Bool.false_eq_true, if_false] at h <;> first | rfl | (exfalso; grind)
  subst hst
  have hv : (c : Rat) * p2 q = (d : Rat) * p2 r := by
    cases s <;> simp only [sg, if_true, Bool.false_eq_true, if_false] at h <;> grind
  have key : ∀ {c d : Nat} {q r : Int}, okD s c q → okD s d r → c ≠ 0 → (c : Rat) * p2 q = (d : Rat) * p2 r → q ≤ r → q = r := by
    intro c d q r h1 h2 h0 hv hqr
    obtain ⟨a1, a2, a3, a4⟩ := h1
    obtain ⟨b1, b2, b3, b4⟩ := h2
    have e1 : p2 r = ((2 ^ (r - q).toNat : Nat) : Rat) * p2 q := by rw [← p2_nat, ← p2_add]; congr 1; omega
    rw [e1, ← Rat.mul_assoc] at hv
    have e2 : (c : Rat) = (d : Rat) * ((2 ^ (r - q).toNat : Nat) : Rat) := by
      have hp := p2_pos q
      have := Rat.le_of_mul_le_mul_right (a := (c : Rat)) (b := (d : Rat) * ((2 ^ (r - q).toNat : Nat) : Rat)) (c := p2 q) (by grind) hp
      have := Rat.le_of_mul_le_mul_right (b := (c : Rat)) (a := (d : Rat) * ((2 ^ (r - q).toNat : Nat) : Rat)) (c := p2 q) (by grind) hp
      grind
    have e3 : c = d * 2 ^ (r - q).toNat := by exact_mod_cast e2
    by_cases hne : q = r
    · exact hne
    · exfalso
      have hd : 4503599627370496 ≤ d := by
        rcases b4 with b4 | b4
        · omega
        · exact b4
      have h2 : 2 ≤ 2 ^ (r - q).toNat := by
        have : (r - q).toNat = (r - q).toNat - 1 + 1 := by omega
        rw [this, Nat.pow_succ]
        have := Nat.two_pow_pos ((r - q).toNat - 1)
        omega
      have := Nat.mul_le_mul hd h2
      omega
  have hqr : q = r := by
    by_cases hle : q ≤ r
    · exact key h1 h2 h0 hv hle
    · have hd0 : d ≠ 0 := by
        intro hd
        subst hd
        have : (c : Rat) * p2 q = 0 := by rw [hv]; simp
        grind
      exact (key h2 h1 hd0 hv.symm (by omega)).symm
  subst hqr
  have e2 : (c : Rat) = (d : Rat) := by
    have := Rat.le_of_mul_le_mul_right (a := (c : Rat)) (b := (d : Rat)) (c := p2 q) (by grind) hq
    have := Rat.le_of_mul_le_mul_right (b := (c : Rat)) (a := (d : Rat)) (c := p2 q) (by grind) hq
    grind
  have e3 : c = d := by exact_mod_cast e2
  rw [e3]
theorem dec_inj {n m : Nat} (hn : n < 2 ^ 64) (hm : m < 2 ^ 64) {s : Bool} {c : Nat} {q : Int} (h1 : FP.Core.decode FP.Core.b64 n = .fin s c q) (h2 : FP.Core.decode FP.Core.b64 m = .fin s c q) : n = m := by
  have key : ∀ k : Nat, FP.Core.decode FP.Core.b64 k = .fin s c q → (k / 4503599627370496 / 2048 % 2 = s.toNat) ∧ ((k / 4503599627370496 % 2048 = 0 ∧ k % 4503599627370496 = c ∧ q = -1074) ∨ (k / 4503599627370496 % 2048 ≠ 0 ∧ 4503599627370496 + k % 4503599627370496 = c ∧ q = -1074 + (((k / 4503599627370496 % 2048 : Nat) : Int) - 1))) := by
    intro k h
    unfold FP.Core.decode FP.Core.fieldT FP.Core.fieldE FP.Core.fieldS at h
    rw [exps64, tails64, qmin64] at h
    have hs : ∀ b : Bool, (k / 4503599627370496 / 2048 % 2 == 1) = b → k / 4503599627370496 / 2048 % 2 = b.toNat := by
      intro b hb
      cases b
      · simp at hb; simp; omega
      · simp at hb; simp; omega
    split at h
    · split at h <;> cases h
    · split at h
      · obtain ⟨h0, h1, h2⟩ := FP.Core.Datum.fin.inj h
        exact ⟨hs _ h0, Or.inl ⟨by assumption, h1, h2.symm⟩⟩
      · obtain ⟨h0, h1, h2⟩ := FP.Core.Datum.fin.inj h
        exact ⟨hs _ h0, Or.inr ⟨by assumption, h1, h2.symm⟩⟩
  obtain ⟨a1, a2⟩ := key n h1
  obtain ⟨b1, b2⟩ := key m h2
  have hn' : n < 18446744073709551616 := hn
  have hm' : m < 18446744073709551616 := hm
  rcases a2 with ⟨x1, x2, x3⟩ | ⟨x1, x2, x3⟩ <;> rcases b2 with ⟨y1, y2, y3⟩ | ⟨y1, y2, y3⟩ <;> omega
theorem rv_inj {a b : UInt64} (ha : Fn a) (hb : Fn b) (h0 : rv a ≠ 0) (h : rv a = rv b) : a = b := by
  obtain ⟨s, c, q, h1⟩ := ha
  obtain ⟨t, d, r, h2⟩ := hb
  have hc : c ≠ 0 := by
    intro hc
    subst hc
    apply h0
    rw [rv_fin h1]; simp
  have e := fin_inj (fv_ok h1) (fv_ok h2) hc (by unfold rv at h; rw [h1, h2] at h; exact h)
  rw [← e] at h2
  exact UInt64.toNat_inj.mp (dec_inj a.toNat_lt b.toNat_lt h1 h2)
/-- the model's floor: it goes by whole numbers -/
theorem floor_long {z : UInt64} (h : fb 50 z) (hg : fgt (FP.l2d (FP.d2l z)) z) : FP.l2d (FP.d2l z - 1) = FP.dsub (FP.l2d (FP.d2l z)) FP.dconst1 := by
  obtain ⟨h1, h2⟩ := d2l_val (h.mono (by decide))
  have e50 : p2 50 = ((1125899906842624 : Nat) : Rat) := (p2_nat 50).trans (by decide +kernel)
  have hz := h.2.1
  have hz2 := h.2.2
  rw [e50] at hz hz2
  generalize hd : FP.d2l z = a at h1 h2 hg
  have hsmall : a.toInt.natAbs ≤ 2 ^ 50 := by
    rcases Rat.le_total (a := 0) (b := rv z) with q | q
    · obtain ⟨b1, b2, b3⟩ := h1 q
      have : ((a.toInt : Int) : Rat) ≤ ((1125899906842624 : Nat) : Rat) := by grind
      have := int_le_of_rat this
      omega
    · obtain ⟨b1, b2, b3⟩ := h2 q
      have : -((a.toInt : Int) : Rat) ≤ ((1125899906842624 : Nat) : Rat) := by grind
      have := int_nle_of_rat this
      omega
  have hw : rv (FP.l2d a) = (a.toInt : Rat) := l2d_exact (by omega)
  have h5 := (cmp_val (l2d_rd a).1 h.1).2.2.1.mp hg
  rw [hw] at h5
  have ha0 : a.toInt ≤ 0 := by
    rcases Rat.le_total (a := 0) (b := rv z) with q | q
    · obtain ⟨b1, b2, b3⟩ := h1 q
      exfalso; grind
    · exact (h2 q).1
  have e1 : (a - 1).toInt = a.toInt - 1 := by
    rw [Int64.toInt_sub]
    exact Int.bmod_eq_of_le (by show -(18446744073709551616 / 2 : Int) ≤ a.toInt - 1; omega) (by show a.toInt - 1 < ((18446744073709551616 + 1) / 2 : Int); omega)
  have hv1 : rv (FP.l2d (a - 1)) = ((a.toInt - 1 : Int) : Rat) := by rw [← e1]; exact l2d_exact (by omega)
  have b1 : ((a.toInt : Int) : Rat) ≤ 0 := by exact_mod_cast ha0
  have b2 : -((a.toInt : Int) : Rat) ≤ ((1125899906842624 : Nat) : Rat) := by
    exact rat_nle_of_int (by omega)
  have hb := p2_mono (show (51 : Int) ≤ 1000 by decide)
  have e51 : p2 51 = 2 * p2 50 := p2_succ 50
  have h50 : (1 : Rat) ≤ ((1125899906842624 : Nat) : Rat) := by
    have : (1 : Nat) ≤ 1125899906842624 := by decide
    exact_mod_cast this
  rw [e51, e50] at hb
  obtain ⟨q1, q2⟩ := sub_rd (l2d_rd a).1 fc_1.1 (by rw [hw, rv_1]; grind) (by rw [hw, rv_1]; grind)
  rw [hw, rv_1] at q2
  have e3 : (a.toInt : Rat) - 1 = ((a.toInt - 1 : Int) : Rat) := by push_cast; rfl
  rw [e3] at q2
  have hv2 := q2.exact (rep_int (by omega))
  refine rv_inj (l2d_rd _).1 q1 ?_ (hv1.trans hv2.symm)
  rw [hv1]
  have : ((a.toInt - 1 : Int) : Rat) < 0 := by push_cast; grind
  grind
