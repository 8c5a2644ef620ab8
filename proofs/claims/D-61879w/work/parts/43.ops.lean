set_option maxRecDepth 100000
/-! ===== the public calls in plain words: when they are taken, what they do ===== -/
abbrev cM1000 : UInt64 := 13875379345695965184
abbrev c1000 : UInt64 := 4652007308841189376
def ix (k : Int32) : Nat := k.toNatClampNeg
theorem ix_nI {i : Nat} (h : i < 1000) : ix (nI i) = i := nI_clamp (by omega)
def okXY (k : Int32) (n : Nat) (x y : UInt64) : Prop := okI k n ∧ inn x 13875379345695965184 4652007308841189376 ∧ inn y 13875379345695965184 4652007308841189376
def oPl (D : T64) (i : Nat) (x y : UInt64) : T64 := up2 (up2 D 0 i (sWrap (D 20 0) x)) 1 i (sWrap (D 20 0) y)
def oUl (I : T32) : T32 := up2 I 23 0 (nI 0)
def oSp (D : T64) (i : Nat) (u v : UInt64) : T64 := up2 (up2 D 2 i u) 3 i v
def ok3 (k : Int32) : Prop := ¬ k < 0 ∧ ¬ nI 3 ≤ k
def okSo (k : Int32) (w d c : UInt64) : Prop := ok3 k ∧ inn w 4593671619917905920 4616189618054758400 ∧ inn d FP.dconst0 4634204016564240384 ∧ inn c 13844065254536904704 4620693217682128896
def oSo (D : T64) (k : Nat) (w d c : UInt64) : T64 := up2 (up2 (up2 D 7 k w) 8 k d) 9 k c
def okCu (sd c k : UInt64) : Prop := inn c 4602678819172646912 (FP.dmul sd 4602678819172646912) ∧ inn k FP.dconst0 4616189618054758400
def oCu (D : T64) (c k : UInt64) : T64 := up2 (up2 D 21 0 c) 22 0 k
def oSt (D : T64) (i : Nat) (on : Int32) : T64 := if on = 0 then D else up2 (up2 D 2 i FP.dconst0) 3 i FP.dconst0
def okTh (t : UInt64) : Prop := fle t 4652007308841189376
def oTh (D : T64) (t : UInt64) : T64 := up2 D 23 0 (if FP.dcmp t FP.dconst0 = some .lt then 13830554455654793216 else t)
def okSt (k d : Int32) : Prop := (¬ k < nI 1 ∧ ¬ nI 50 < k) ∧ ¬ d < nI 1 ∧ ¬ nI 128 < d
def okSc (t : UInt64) : Prop := inn t FP.dconst0 4652007308841189376
def okFo (k : Int32) (n : Nat) (ax : Int32) : Prop := okI k n ∧ (ax = 0 ∨ ax = nI 1)
def okTo (k : Int32) (n : Nat) (w : Int32) : Prop := okI k n ∧ ¬ w < 0 ∧ ¬ nI 5 ≤ w
def okBi (a b c : Int32) : Prop := ok3 a ∧ ok3 b ∧ ¬ c < 0 ∧ ¬ nI 16 ≤ c
def okAt (x y m : UInt64) (s : Int32) : Prop := inn x 13875379345695965184 4652007308841189376 ∧ inn y 13875379345695965184 4652007308841189376 ∧ inn m 4593671619917905920 4634204016564240384 ∧ ok3 s
def okBo (i j : Int32) (n : Nat) (sd st le : UInt64) : Prop := okI i n ∧ okI j n ∧ i ≠ j ∧ inn st FP.dconst0 4634204016564240384 ∧ inn le 4593671619917905920 (FP.dmul sd 4602678819172646912)
def okRo (i j : Int32) (n : Nat) (sd le : UInt64) : Prop := okI i n ∧ okI j n ∧ i ≠ j ∧ inn le 4593671619917905920 (FP.dmul sd 4602678819172646912)
theorem ok3_of {k : Int32} (h : ok3 k) : ∃ i, i < 3 ∧ k = nI i := by
  rcases pk_ix k (n := 3) (by omega) with q | q | q
  · exact absurd q h.1
  · exact absurd q h.2
  · exact q
theorem okSt_of {k d : Int32} (h : okSt k d) : (∃ a, 1 ≤ a ∧ a ≤ 50 ∧ k = nI a) ∧ ∃ b, 1 ≤ b ∧ b ≤ 128 ∧ d = nI b := by
  have key : ∀ (x : Int32) (m : Nat), m < 1000 → ¬ x < nI 1 → ¬ nI m < x → ∃ a, 1 ≤ a ∧ a ≤ m ∧ x = nI a := by
    intro x m hm h1 h2
    have e1 : (nI 1).toInt = 1 := nI_toInt (by omega)
    have em : (nI m).toInt = (m : Int) := nI_toInt (by omega)
    rw [Int32.lt_iff_toInt_lt, e1] at h1
    rw [Int32.lt_iff_toInt_lt, em] at h2
    rcases pk_ix x (n := m + 1) (by omega) with q | q | ⟨j, hj, rfl⟩
    · rw [Int32.lt_iff_toInt_lt] at q
      have : (0 : Int32).toInt = 0 := rfl
      omega
    · rw [Int32.le_iff_toInt_le, nI_toInt (by omega)] at q
      push_cast at q
      omega
    · rw [nI_toInt (by omega)] at h1
      exact ⟨j, by omega, by omega, rfl⟩
  exact ⟨key k 50 (by omega) h.1.1 h.1.2, key d 128 (by omega) h.2.1 h.2.2⟩
/-- a step's length -/
theorem dt_ok {b : Nat} (h1 : 1 ≤ b) (h2 : b ≤ 128) : dtOK (FP.ddiv (FP.i2d (nI b)) 4652218415073722368) := by
  obtain ⟨i1, i2⟩ := i2d_rd (nI b)
  rw [nI_toInt (by omega)] at i2
  have e : ((b : Int) : Rat) = ((b : Nat) : Rat) := by norm_cast
  rw [e] at i2
  have a1 : ((1 : Nat) : Rat) ≤ ((b : Nat) : Rat) := by exact_mod_cast h1
  have a2 : ((b : Nat) : Rat) ≤ ((128 : Nat) : Rat) := by exact_mod_cast h2
  have e1 : ((1 : Nat) : Rat) = 1 := rfl
  have e128 : ((128 : Nat) : Rat) = 128 := rfl
  rw [e1] at a1
  rw [e128] at a2
  have f7 : fb 7 (FP.i2d (nI b)) := ⟨i1, by rw [i2, e2_7]; exact a2, by rw [i2, e2_7]; grind⟩
  have hd := fb.div f7 lc_4652218415073722368 (G := -3) (by decide)
  have ev : rv 4652218415073722368 = 1024 := by
    rw [rv_fin vc_4652218415073722368]
    simp only [sg, Bool.false_eq_true, if_false, Rat.one_mul]
    have : p2 (-42) * p2 42 = 1 := p2_sub 42
    have e42 : p2 52 = ((4503599627370496 : Nat) : Rat) := (p2_nat 52).trans (by decide +kernel)
    have e10 : p2 10 = 1024 := (p2_nat 10).trans (by decide +kernel)
    rw [← e42, ← p2_add, ← e10]; rfl
  refine ⟨hd, ?_⟩
  obtain ⟨m1, m2⟩ := rat_div_bd f7.2.1 f7.2.2 lc_4652218415073722368.2
  rw [← p2_add] at m1 m2
  have big := p2_mono (show (7 + -10 : Int) ≤ 1000 by decide)
  obtain ⟨q1, q2⟩ := div_rd i1 fc_4652218415073722368.1 lc_4652218415073722368.ne0 (by grind) (by grind)
  refine lb_of (by decide) q1 q2 (Or.inl ?_)
  have e10 : p2 (-10) = 1 / 1024 := by have h := p2_sub 10; rw [show p2 10 = 1024 from (p2_nat 10).trans (by decide +kernel)] at h; grind
  rw [i2, ev, e10]
  refine Rat.le_of_mul_le_mul_right (c := 1024) ?_ (by decide)
  rw [Rat.div_mul_cancel (by decide)]
  grind
/-! steps -/
def undoT (D E : T64) : T64 := fun f i => bif s4 0 1 2 3 f then D f i else E f i
/-- one step: whether it is done, the shared numbers, the ints -/
def st1 (dt : UInt64) (n nb nr : Nat) (J : Jt) (D : T64) (I : T32) : Bool × T64 × T32 :=
  let a := adv dt n nb nr J I D (I 23 0) (I 25 0)
  if a.1 = 0 then (true, wrm (D 23 0) n I a.2.1, up2 (up2 (up2 (up2 I 23 0 (nI 1)) 25 0 a.2.2.1) 26 0 (I 26 0 + nI a.2.2.2)) 24 0 (I 24 0 + nI 1))
  else (false, undoT D a.2.1, up2 (up2 (up2 I 25 0 a.2.2.1) 23 0 (nI 0)) 28 (a.1 - 1) (I 28 (a.1 - 1) + nI 1))
def stn (dt : UInt64) (n nb nr : Nat) (J : Jt) : Nat → T64 → T32 → Bool × T64 × T32
  | 0, D, I => (true, D, I)
  | k + 1, D, I => if (st1 dt n nb nr J D I).1 = true then stn dt n nb nr J k (st1 dt n nb nr J D I).2.1 (st1 dt n nb nr J D I).2.2 else st1 dt n nb nr J D I
/-! what holds between calls -/
def Inv (n nb nr : Nat) (J : Jt) (D : T64) (I : T32) : Prop := Bd n nb nr J D ∧ Bu 20 n D ∧ Cn n nb nr I ∧ (I 23 0 = nI 0 ∨ I 23 0 = nI 1) ∧ (fge (D 23 0) FP.dconst0 → okT (D 23 0)) ∧ ∀ i, n ≤ i → D 5 i = FP.dconst0 ∧ D 6 i = FP.dconst0
theorem Inv.bd {n nb nr : Nat} {J : Jt} {D : T64} {I : T32} (h : Inv n nb nr J D I) : Bd n nb nr J D := h.1
theorem Inv.bu {n nb nr : Nat} {J : Jt} {D : T64} {I : T32} (h : Inv n nb nr J D I) : Bu 20 n D := h.2.1
theorem Inv.cn {n nb nr : Nat} {J : Jt} {D : T64} {I : T32} (h : Inv n nb nr J D I) : Cn n nb nr I := h.2.2.1
theorem Inv.li {n nb nr : Nat} {J : Jt} {D : T64} {I : T32} (h : Inv n nb nr J D I) : I 23 0 = nI 0 ∨ I 23 0 = nI 1 := h.2.2.2.1
theorem Inv.wt {n nb nr : Nat} {J : Jt} {D : T64} {I : T32} (h : Inv n nb nr J D I) : fge (D 23 0) FP.dconst0 → okT (D 23 0) := h.2.2.2.2.1
theorem Inv.fresh {n nb nr : Nat} {J : Jt} {D : T64} {I : T32} (h : Inv n nb nr J D I) {i : Nat} (hi : n ≤ i) : D 5 i = FP.dconst0 ∧ D 6 i = FP.dconst0 := h.2.2.2.2.2 i hi
/-- the class's warmth against the model's heat -/
def wOK (D D0 : T64) : Prop := (fge (D 43 0) FP.dconst0 → D 43 0 = D0 23 0) ∧ (¬ fge (D 43 0) FP.dconst0 → ¬ fge (D0 23 0) FP.dconst0)
theorem wOK.wrm {D D0 : T64} (h : wOK D D0) {n : Nat} {I : T32} {E : T64} : wrm (D 43 0) n I E = wrm (D0 23 0) n I E := by
  by_cases hf : fge (D 43 0) FP.dconst0
  · rw [h.1 hf]
  · rw [wrm_f hf, wrm_f (h.2 hf)]
theorem wOK.cg {D D0 D1 E : T64} (h : wOK D D0) (h1 : D1 43 0 = D 43 0) (h2 : E 23 0 = D0 23 0) : wOK D1 E := by
  unfold wOK
  rw [h1, h2]
  exact h
/-- the class, seen from outside: at x -/
def CS (A : Nat → Prop) (Dg : va_G) (dA : Nat → ClassId) (x n nb nr : Nat) (J : Jt) (D0 : T64) (I0 : T32) (H : Heap) : Prop := ∃ ad D I R, ad 0 0 = x ∧ cW A Dg dA ad n nb nr 0 J R D I H ∧ agD D D0 ∧ agI I I0 ∧ wOK D D0 ∧ (¬ I0 23 0 = 0 → NL D0 I n)
theorem NL_0 {I0 : T32} {P : Prop} (h : I0 23 0 = nI 0) : ¬ I0 23 0 = 0 → P := fun q => absurd (by rw [h]; rfl) q
/-- int tables behind a list's making: what a step does to them -/
theorem agI.ls {I I1 I0 : T32} {a b : Int32} (h : agI I I0) (he : exc sI I1 I) (h1 : I1 23 0 = a) (h2 : I1 25 0 = b) : agI I1 (up2 (up2 I0 23 0 a) 25 0 b) := by
  intro f i hf
  rw [up2_eq, up2_eq]
  by_cases e25 : f = 25 ∧ i = 0
  · rw [if_pos e25, e25.1, e25.2]; exact h2
  · rw [if_neg e25]
    by_cases e23 : f = 23 ∧ i = 0
    · rw [if_pos e23, e23.1, e23.2]; exact h1
    · rw [if_neg e23]
      have hs : sI f = false := by
        cases hb : sI f with
        | false => rfl
        | true =>
          exfalso
          unfold sI s4 at hb
          unfold cI at hf
          simp only [Bool.or_eq_true, Bool.and_eq_true, Nat.beq_eq, ble_i] at hb hf
          omega
      rw [he f i hs]
      exact h f i hf
