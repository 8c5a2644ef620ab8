set_option maxRecDepth 100000
/-! ===== a step, in plain words ===== -/
def fastB (D : T64) (n : Nat) : Bool := (List.range n).any (fun i => decide (FP.dcmp (D 2 i) 4696837146684686336 = some .gt) || (decide (FP.dcmp (D 2 i) 13920209183539462144 = some .lt) || (decide (FP.dcmp (D 3 i) 4696837146684686336 = some .gt) || decide (FP.dcmp (D 3 i) 13920209183539462144 = some .lt))))
theorem fastB_t {D : T64} {n : Nat} : fastB D n = true ↔ ∃ i, i < n ∧ fast (D 2 i) (D 3 i) := by
  unfold fastB fast fgt flt
  simp only [List.any_eq_true, List.mem_range, Bool.or_eq_true, decide_eq_true_eq]
theorem fastB_f {D : T64} {n : Nat} : fastB D n = false ↔ ∀ i, i < n → ¬ fast (D 2 i) (D 3 i) := by
  rw [← Bool.not_eq_true, fastB_t]
  constructor
  · exact fun h i h1 h2 => h ⟨i, h1, h2⟩
  · rintro h ⟨i, h1, h2⟩
    exact h i h1 h2
theorem nfast_fb {u v : UInt64} (hu : Fn u) (hv : Fn v) (h : ¬ fast u v) : fb 20 u ∧ fb 20 v := by
  have c1 := fc_4696837146684686336
  have c2 := fc_13920209183539462144
  have key : ∀ x : UInt64, Fn x → ¬ fgt x 4696837146684686336 → ¬ flt x 13920209183539462144 → fb 20 x := by
    intro x hx h1 h2
    have a1 := (cmp_val hx c1.1).2.2.1
    have a2 := (cmp_val hx c2.1).1
    have b1 : ¬ rv 4696837146684686336 < rv x := fun q => h1 (a1.mpr q)
    have b2 : ¬ rv x < rv 13920209183539462144 := fun q => h2 (a2.mpr q)
    have d1 := c1.2.1
    have d2 := c2.2.2
    exact ⟨hx, by grind, by grind⟩
  unfold fast at h
  exact ⟨key u hu (fun q => h (Or.inl q)) (fun q => h (Or.inr (Or.inl q))), key v hv (fun q => h (Or.inr (Or.inr (Or.inl q)))) (fun q => h (Or.inr (Or.inr (Or.inr q))))⟩
/-- kicked by all forces -/
def pshG (half : UInt64) (n nb : Nat) (J : Jt) (I : T32) (D : T64) : T64 := g2 2 (fun j => if I 1 j = 0 then pu half (D 2 j) (FX D J n nb j).1 (D 4 j) else D 2 j) (fun j => if I 1 j = 0 then pu half (D 3 j) (FX D J n nb j).2 (D 4 j) else D 3 j)
def pshC (half : UInt64) (n nb : Nat) (J : Jt) (I : T32) (D : T64) : T64 := tg n (s2 2 3) (pshG half n nb J I D) D
/-- the places in the making -/
def nxt (dt : UInt64) (I : T32) (D : T64) : T64 := g2 32 (fun j => if I 1 j = 0 then FP.dadd (D 0 j) (FP.dmul dt (D 2 j)) else D 0 j) (fun j => if I 1 j = 0 then FP.dadd (D 1 j) (FP.dmul dt (D 3 j)) else D 1 j)
/-- speeds out of the places -/
def velG (dt : UInt64) (nr : Nat) (I : T32) (D T : T64) : T64 := g2 2 (fun j => if 0 < nr ∧ I 1 j = 0 then FP.ddiv (FP.dsub (T 32 j) (D 0 j)) dt else D 2 j) (fun j => if 0 < nr ∧ I 1 j = 0 then FP.ddiv (FP.dsub (T 33 j) (D 1 j)) dt else D 3 j)
def vel (dt : UInt64) (n nr : Nat) (I : T32) (D T : T64) : T64 := tg n (s2 2 3) (velG dt nr I D T) D
/-- moved -/
def movG (D T : T64) : T64 := g2 0 (fun j => sWrap (D 20 0) (T 32 j)) (fun j => sWrap (D 20 0) (T 33 j))
def mov (n : Nat) (D T : T64) : T64 := tg n (s2 0 1) (movG D T) D
def lsN (D : T64) (li : Int32) (n : Nat) (ls : Int32) : Int32 := bif oldB D li n then ls + 1 else ls
/-- how a step ends: 0 done, 1 overlap, 2 stiff, 3 blown; the shared numbers; how many lists; how many rounds -/
abbrev Aout : Type := Nat × T64 × Int32 × Nat
section AD
variable (dt : UInt64) (n nb nr : Nat) (J : Jt) (I : T32)
def advE (D : T64) (ls : Int32) (q : Nat) : Aout := if fastB (pshC (FP.dmul 4602678819172646912 dt) n nb J I D) n = true then (3, D, ls, 0) else (0, pshC (FP.dmul 4602678819172646912 dt) n nb J I D, ls, q)
def advD (D : T64) (ls : Int32) (q : Nat) : Aout := if ovl D n = true then (1, lsC D (nI 1) n, lsN D (nI 1) n ls, 0) else advE dt n nb J I (lsC D (nI 1) n) (lsN D (nI 1) n ls) q
def advC (D T : T64) (ls : Int32) (q : Nat) : Aout := if fastB (vel dt n nr I D T) n = true then (3, D, ls, 0) else advD dt n nb J I (mov n (vel dt n nr I D T) T) ls q
def advB (D : T64) (ls : Int32) : Aout := match rds D I J nr 40 0 (nxt dt I D) with
  | none => (2, D, ls, 0)
  | some (q, T) => advC dt n nb nr J I D T ls q
def advA (D : T64) (ls : Int32) : Aout := if fastB (pshC (FP.dmul 4602678819172646912 dt) n nb J I D) n = true then (3, D, ls, 0) else advB dt n nb nr J I (pshC (FP.dmul 4602678819172646912 dt) n nb J I D) ls
def adv (D : T64) (li ls : Int32) : Aout := if ovl D n = true then (1, lsC D li n, lsN D li n ls, 0) else advA dt n nb nr J I (lsC D li n) (lsN D li n ls)
end AD
/-! bounds on the way -/
def dtOK (dt : UInt64) : Prop := fb (-3) dt ∧ lb (-10) dt
theorem dt_half {dt : UInt64} (h : dtOK dt) : fb 0 (FP.dmul 4602678819172646912 dt) := fb.mul fc_4602678819172646912 h.1 (by decide)
section AB
variable {n nb nr : Nat} {J : Jt} {D D' T : T64} {I : T32} {dt : UInt64}
theorem Bd.uv (h : Bd n nb nr J D) (he : exc (s2 2 3) D' D) : Bd n nb nr J D' := by
  refine ⟨by rw [he 20 0 rfl]; exact h.1, h.2.1, fun i hi => ?_, fun i hi => ?_, fun i hi => ?_, fun i hi => ?_, fun i hi => ?_, by rw [he 21 0 rfl]; exact h.cutV, by rw [he 22 0 rfl]; exact h.skinV, h.2.2.2.2.2.2.2.2.2⟩
  · rw [he 0 i rfl, he 1 i rfl, he 4 i rfl]; exact h.2.2.1 i hi
  · rw [he 5 i rfl, he 6 i rfl]; exact h.2.2.2.1 i hi
  · rw [he 7 i rfl, he 8 i rfl, he 9 i rfl]; exact h.2.2.2.2.1 i hi
  · rw [he 10 i rfl, he 11 i rfl]; exact h.2.2.2.2.2.1 i hi
  · rw [he 12 i rfl]; exact h.2.2.2.2.2.2.1 i hi
theorem Bd.psh {half : UInt64} (h : Bd n nb nr J D) : Bd n nb nr J (pshC half n nb J I D) := h.uv tg_exc
theorem Bd.vl (h : Bd n nb nr J D) : Bd n nb nr J (vel dt n nr I D T) := h.uv tg_exc
theorem Bd.mv (h : Bd n nb nr J D) {c : Nat} (hT : BT c n T) (hc : c ≤ 256) : Bd n nb nr J (mov n D T) := by
  have he : exc (s2 0 1) (mov n D T) D := tg_exc
  refine ⟨by rw [he 20 0 rfl]; exact h.1, h.2.1, fun i hi => ?_, fun i hi => ?_, fun i hi => ?_, fun i hi => ?_, fun i hi => ?_, by rw [he 21 0 rfl]; exact h.cutV, by rw [he 22 0 rfl]; exact h.skinV, h.2.2.2.2.2.2.2.2.2⟩
  · have e0 : mov n D T 0 i = sWrap (D 20 0) (T 32 i) := tg_in rfl hi
    have e1 : mov n D T 1 i = sWrap (D 20 0) (T 33 i) := tg_in rfl hi
    rw [e0, e1, he 4 i rfl]
    exact ⟨wrap_fb h.side ((hT i hi).1.bnd hc), wrap_fb h.side ((hT i hi).2.bnd hc), h.m hi, h.ml hi, h.m0 hi⟩
  · rw [he 5 i rfl, he 6 i rfl]; exact h.2.2.2.1 i hi
  · rw [he 7 i rfl, he 8 i rfl, he 9 i rfl]; exact h.2.2.2.2.1 i hi
  · rw [he 10 i rfl, he 11 i rfl]; exact h.2.2.2.2.2.1 i hi
  · rw [he 12 i rfl]; exact h.2.2.2.2.2.2.1 i hi
theorem pu_fb {half u f m : UInt64} (h1 : fb 0 half) (h2 : fb 20 u) (h3 : fb 160 f) (h4 : lb (-3) m) : fb 164 (pu half u f m) :=
  fb.add (h2.mono (show (20 : Int) ≤ 163 by decide)) (fb.mul h1 (fb.div h3 h4 (G := 163) (by decide)) (G := 163) (by decide)) (by decide)
theorem Bu.psh {half : UInt64} (h : Bd n nb nr J D) (hu : Bu 20 n D) (h1 : fb 0 half) (ho : ovl D n = false) : Bu 164 n (pshC half n nb J I D) := by
  intro i hi
  obtain ⟨f1, f2⟩ := FX_fb h hi ho
  have e2 : pshC half n nb J I D 2 i = if I 1 i = 0 then pu half (D 2 i) (FX D J n nb i).1 (D 4 i) else D 2 i := tg_in rfl hi
  have e3 : pshC half n nb J I D 3 i = if I 1 i = 0 then pu half (D 3 i) (FX D J n nb i).2 (D 4 i) else D 3 i := tg_in rfl hi
  rw [e2, e3]
  split
  · exact ⟨pu_fb h1 (hu i hi).1 f1 (h.ml hi), pu_fb h1 (hu i hi).2 f2 (h.ml hi)⟩
  · exact ⟨(hu i hi).1.mono (by decide), (hu i hi).2.mono (by decide)⟩
theorem Bu.slow {E : Int} (hu : Bu E n D) (h : fastB D n = false) : Bu 20 n D := fun i hi => nfast_fb (hu i hi).1.1 (hu i hi).2.1 (fastB_f.mp h i hi)
theorem nxt_BT (h : Bd n nb nr J D) (hu : Bu 20 n D) (hd : dtOK dt) : BT 1 n (nxt dt I D) := by
  have key : ∀ x : UInt64, fb 18 x → fR 1 x := by
    intro x hx
    have h1 := hx.2.1
    have h2 := hx.2.2
    have h3 := p2_mono (show (18 : Int) ≤ 40 by decide)
    have e : ((1 : Nat) : Rat) = 1 := rfl
    exact ⟨hx.1, by rw [e, Rat.one_mul]; grind, by rw [e, Rat.one_mul]; grind⟩
  intro i hi
  have e2 : nxt dt I D 32 i = if I 1 i = 0 then FP.dadd (D 0 i) (FP.dmul dt (D 2 i)) else D 0 i := rfl
  have e3 : nxt dt I D 33 i = if I 1 i = 0 then FP.dadd (D 1 i) (FP.dmul dt (D 3 i)) else D 1 i := rfl
  rw [e2, e3]
  split
  · exact ⟨key _ (fb.add ((h.x hi).mono (show (5 : Int) ≤ 17 by decide)) (fb.mul hd.1 (hu i hi).1 (G := 17) (by decide)) (by decide)), key _ (fb.add ((h.y hi).mono (show (5 : Int) ≤ 17 by decide)) (fb.mul hd.1 (hu i hi).2 (G := 17) (by decide)) (by decide))⟩
  · exact ⟨key _ ((h.x hi).mono (by decide)), key _ ((h.y hi).mono (by decide))⟩
theorem Bu.vl (h : Bd n nb nr J D) (hu : Bu 20 n D) (hd : dtOK dt) (hT : BT 200 n T) : Bu 59 n (vel dt n nr I D T) := by
  intro i hi
  have e2 : vel dt n nr I D T 2 i = if 0 < nr ∧ I 1 i = 0 then FP.ddiv (FP.dsub (T 32 i) (D 0 i)) dt else D 2 i := tg_in rfl hi
  have e3 : vel dt n nr I D T 3 i = if 0 < nr ∧ I 1 i = 0 then FP.ddiv (FP.dsub (T 33 i) (D 1 i)) dt else D 3 i := tg_in rfl hi
  rw [e2, e3]
  split
  · exact ⟨fb.div (fb.sub ((hT i hi).1.bnd (by decide)) (h.x hi) (G := 49) (by decide)) hd.2 (by decide), fb.div (fb.sub ((hT i hi).2.bnd (by decide)) (h.y hi) (G := 49) (by decide)) hd.2 (by decide)⟩
  · exact ⟨(hu i hi).1.mono (by decide), (hu i hi).2.mono (by decide)⟩
theorem Bu.cg {E : Int} (hu : Bu E n D) {S : Nat → Bool} (h : exc S D' D) (h2 : S 2 = false) (h3 : S 3 = false) : Bu E n D' := fun i hi => by rw [h 2 i h2, h 3 i h3]; exact hu i hi
end AB
/-! scaling keeps the speeds small -/
theorem smT_mono {n nb nr : Nat} {J : Jt} {D : T64} (h : Bd n nb nr J D) (hu : Bu 20 n D) : ∀ k : Nat, k ≤ n → 0 ≤ rv (smT D k) ∧ ∀ i, i < k → rv (FP.dmul (D 4 i) (FP.dadd (FP.dmul (D 2 i) (D 2 i)) (FP.dmul (D 3 i) (D 3 i)))) ≤ rv (smT D k)
  | 0, _ => ⟨by rw [show smT D 0 = FP.dconst0 from rfl, rv_0]; exact Rat.le_refl, fun i hi => absurd hi (Nat.not_lt_zero i)⟩
  | k + 1, hk => by
    obtain ⟨ih1, ih2⟩ := smT_mono h hu k (by omega)
    have h10 := h.n10
    have hs := smT_fb h hu k (by omega)
    have u1 := hu k (by omega)
    have nn : ∀ x : UInt64, fb 20 x → fb 40 (FP.dmul x x) ∧ 0 ≤ rv (FP.dmul x x) := by
      intro x hx
      obtain ⟨m1, m2⟩ := rat_mul_bd hx.2.1 hx.2.2 hx.2.1 hx.2.2
      rw [← p2_add] at m1 m2
      have big := p2_mono (show (20 + 20 : Int) ≤ 1000 by decide)
      obtain ⟨a1, a2⟩ := mul_rd hx.1 hx.1 (by grind) (by grind)
      exact ⟨fb.mul hx hx (by decide), a2.nn (sq_nn _)⟩
    obtain ⟨a1, a2⟩ := nn _ u1.1
    obtain ⟨b1, b2⟩ := nn _ u1.2
    have c1 := fb.add a1 b1 (G := 41) (by decide)
    have c2 : 0 ≤ rv (FP.dadd (FP.dmul (D 2 k) (D 2 k)) (FP.dmul (D 3 k) (D 3 k))) := by
      have w1 := a1.2.1
      have w2 := b1.2.1
      have s := p2_succ 40
      have big := p2_mono (show (40 + 1 : Int) ≤ 1000 by decide)
      obtain ⟨q1, q2⟩ := add_rd a1.1 b1.1 (by grind) (by grind)
      exact q2.nn (by grind)
    have d1 := fb.mul (h.m (show k < n by omega)) c1 (G := 47) (by decide)
    have d2 : 0 ≤ rv (FP.dmul (D 4 k) (FP.dadd (FP.dmul (D 2 k) (D 2 k)) (FP.dmul (D 3 k) (D 3 k)))) := by
      obtain ⟨m1, m2⟩ := rat_mul_bd (h.m (show k < n by omega)).2.1 (h.m (show k < n by omega)).2.2 c1.2.1 c1.2.2
      rw [← p2_add] at m1 m2
      have big := p2_mono (show (6 + 41 : Int) ≤ 1000 by decide)
      obtain ⟨q1, q2⟩ := mul_rd (h.m (show k < n by omega)).1 c1.1 (by grind) (by grind)
      exact q2.nn (Rat.mul_nonneg (Rat.le_of_lt (h.m0 (by omega))) c2)
    have w1 := hs.2.1
    have w2 := d1.2.1
    have w3 := p2_mono (show (47 + (k : Int)) ≤ 60 by omega)
    have w4 := p2_mono (show (47 : Int) ≤ 60 by decide)
    have s := p2_succ 60
    have big := p2_mono (show (60 + 1 : Int) ≤ 1000 by decide)
    obtain ⟨q1, q2⟩ := add_rd hs.1 d1.1 (by grind) (by grind)
    have e1 : rv (smT D k) ≤ rv (smT D (k + 1)) := q2.2.1 _ (rep_rv _) (by grind)
    have e2 : rv (FP.dmul (D 4 k) (FP.dadd (FP.dmul (D 2 k) (D 2 k)) (FP.dmul (D 3 k) (D 3 k)))) ≤ rv (smT D (k + 1)) := q2.2.1 _ (rep_rv _) (by grind)
    refine ⟨by grind, fun i hi => ?_⟩
    by_cases hik : i = k
    · subst hik; exact e2
    · have := ih2 i (by omega); grind
