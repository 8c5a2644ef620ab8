set_option maxRecDepth 100000
/-! ===== plain words for the loops: lists, forces, rods, temperature ===== -/
abbrev Jt : Type := Nat → Nat → Nat
/-- whether the list is too old -/
def most (D : T64) : UInt64 := FP.dmul (FP.dmul (D 22 0) 4602678819172646912) (FP.dmul (D 22 0) 4602678819172646912)
def oldB (D : T64) (li : Int32) (n : Nat) : Bool := decide (li = 0) || (List.range n).any (fun i => decide (FP.dcmp (vR D i) (most D) = some .gt))
theorem oldB_t {D : T64} {li : Int32} {n : Nat} : oldB D li n = true ↔ (li = 0 ∨ ∃ i, i < n ∧ fgt (vR D i) (most D)) := by
  unfold oldB fgt
  simp [List.any_eq_true]
theorem oldB_f {D : T64} {li : Int32} {n : Nat} : oldB D li n = false ↔ (¬ li = 0 ∧ ∀ i, i < n → ¬ fgt (vR D i) (most D)) := by
  rw [← Bool.not_eq_true, oldB_t]
  constructor
  · intro h
    exact ⟨fun q => h (Or.inl q), fun i hi q => h (Or.inr ⟨i, hi, q⟩)⟩
  · rintro ⟨h1, h2⟩ (q | ⟨i, hi, q⟩)
    · exact h1 q
    · exact h2 i hi q
theorem most_fb {n nb nr : Nat} {J : Jt} {D : T64} (h : Bd n nb nr J D) : fb 2 (most D) := by
  have h1 := fb.mul h.skin fc_4602678819172646912 (G := 1) (by decide)
  exact fb.mul h1 h1 (by decide)
/-- neighbours of i among the first m atoms -/
def rch (D : T64) : UInt64 := FP.dadd (FP.dadd (D 21 0) (D 22 0)) 4562254508917369340
def rch2 (D : T64) : UInt64 := FP.dmul (rch D) (rch D)
theorem rch_fb {n nb nr : Nat} {J : Jt} {D : T64} (h : Bd n nb nr J D) : fb 6 (rch D) := fb.add (fb.add h.cut h.skin (G := 5) (by decide)) fc_4562254508917369340 (by decide)
def nbs (D : T64) (i m : Nat) : List Nat := (List.range m).filter (fun j => decide (j ≠ i) && decide (FP.dcmp (wR D i j) (rch2 D) = some .lt))
theorem nbs_0 {D : T64} {i : Nat} : nbs D i 0 = [] := rfl
theorem nbs_add {D : T64} {i m : Nat} (h1 : m ≠ i) (h2 : flt (wR D i m) (rch2 D)) : nbs D i (m + 1) = nbs D i m ++ [m] := by
  unfold nbs
  rw [List.range_succ, List.filter_append]
  congr 1
  unfold flt at h2
  simp [h1, h2]
theorem nbs_no {D : T64} {i m : Nat} (h : m = i ∨ ¬ flt (wR D i m) (rch2 D)) : nbs D i (m + 1) = nbs D i m := by
  unfold nbs
  rw [List.range_succ, List.filter_append]
  unfold flt at h
  rcases h with h | h <;> simp [h]
theorem nbs_len {D : T64} {i m : Nat} : (nbs D i m).length ≤ m := by
  unfold nbs
  exact Nat.le_trans (List.length_filter_le _ _) (by simp)
theorem nbs_lt {D : T64} {i m j : Nat} (h : j ∈ nbs D i m) : j < m := by
  unfold nbs at h
  exact List.mem_range.mp (List.mem_filter.mp h).1
/-- a row of the class's neighbours -/
def RowOK (I : T32) (i : Nat) (js : List Nat) : Prop := I 31 i = nI js.length ∧ ∀ k, k < js.length → I 30 (k + 16 * i) = nI (js.getD k 0)
/-- by the places where the list was made -/
def atL (D : T64) : T64 := fun f i => bif Nat.beq f 0 then D 5 i else bif Nat.beq f 1 then D 6 i else D f i
def NL (D : T64) (I : T32) (n : Nat) : Prop := ∀ i, i < n → RowOK I i (nbs (atL D) i n)
/-! forces -/
def fst2 (D : T64) (J : Jt) (i j : Nat) (a : UInt64 × UInt64) : UInt64 × UInt64 :=
  if FP.dcmp (wR D i j) (FP.dmul (D 21 0) (D 21 0)) = some .lt then (FP.dadd a.1 (FP.dmul (pF D J i j (wR D i j)) (wA D i j)), FP.dadd a.2 (FP.dmul (pF D J i j (wR D i j)) (wB D i j))) else a
def fbo (D : T64) (J : Jt) (i k : Nat) (a : UInt64 × UInt64) : UInt64 × UInt64 :=
  if J 2 k = i then (FP.dadd a.1 (FP.dmul (bF D k (wR D i (J 3 k))) (wA D i (J 3 k))), FP.dadd a.2 (FP.dmul (bF D k (wR D i (J 3 k))) (wB D i (J 3 k))))
  else if J 3 k = i then (FP.dadd a.1 (FP.dmul (bF D k (wR D i (J 2 k))) (wA D i (J 2 k))), FP.dadd a.2 (FP.dmul (bF D k (wR D i (J 2 k))) (wB D i (J 2 k)))) else a
/-- the pairs of a list, its first k -/
def fPl (D : T64) (J : Jt) (i : Nat) (js : List Nat) : Nat → UInt64 × UInt64
  | 0 => (FP.dconst0, FP.dconst0)
  | k + 1 => fst2 D J i (js.getD k 0) (fPl D J i js k)
/-- all pairs -/
def fPa (D : T64) (J : Jt) (i : Nat) : Nat → UInt64 × UInt64
  | 0 => (FP.dconst0, FP.dconst0)
  | k + 1 => if k = i then fPa D J i k else fst2 D J i k (fPa D J i k)
/-- bonds on top -/
def fBo (D : T64) (J : Jt) (i : Nat) (a : UInt64 × UInt64) : Nat → UInt64 × UInt64
  | 0 => a
  | k + 1 => fbo D J i k (fBo D J i a k)
section FB
variable {n nb nr : Nat} {J : Jt} {D : T64}
theorem dadd_fb {E : Int} {a x y : UInt64} {F : Int} (ha : fb E a) (hx : fb 110 x) (hy : fb 5 y) (hE : 120 ≤ E ∧ E + 1 ≤ F ∧ F ≤ 900) : fb F (FP.dadd a (FP.dmul x y)) :=
  fb.add ha ((fb.mul hx hy (G := 115) (by decide)).mono (show (115 : Int) ≤ E by omega)) (by omega)
theorem fst2_fb (h : Bd n nb nr J D) {i j : Nat} (hi : i < n) (hj : j < n) (hr : ¬ flt (wR D i j) 4562146422526312448) {a : UInt64 × UInt64} {E F : Int} (ha : fb E a.1 ∧ fb E a.2) (hE : 120 ≤ E ∧ E + 1 ≤ F ∧ F ≤ 900) : fb F (fst2 D J i j a).1 ∧ fb F (fst2 D J i j a).2 := by
  have hp := pF_fb h hi hj (lc_near (wR_fb h hi hj) hr) (wR_fb h hi hj)
  unfold fst2
  split
  · exact ⟨dadd_fb ha.1 hp (wA_fb h hi hj) hE, dadd_fb ha.2 hp (wB_fb h hi hj) hE⟩
  · exact ⟨ha.1.mono (by omega), ha.2.mono (by omega)⟩
theorem fbo_fb (h : Bd n nb nr J D) {i k : Nat} (hi : i < n) (hk : k < nb) {a : UInt64 × UInt64} {E F : Int} (ha : fb E a.1 ∧ fb E a.2) (hE : 120 ≤ E ∧ E + 1 ≤ F ∧ F ≤ 900) : fb F (fbo D J i k a).1 ∧ fb F (fbo D J i k a).2 := by
  have h2 := h.j2 hk
  have h3 := h.j3 hk
  unfold fbo
  split
  · have hp := bF_fb h hk (wR_fb h hi h3)
    exact ⟨dadd_fb ha.1 hp (wA_fb h hi h3) hE, dadd_fb ha.2 hp (wB_fb h hi h3) hE⟩
  · split
    · have hp := bF_fb h hk (wR_fb h hi h2)
      exact ⟨dadd_fb ha.1 hp (wA_fb h hi h2) hE, dadd_fb ha.2 hp (wB_fb h hi h2) hE⟩
    · exact ⟨ha.1.mono (by omega), ha.2.mono (by omega)⟩
theorem fPl_fb (h : Bd n nb nr J D) {i : Nat} (hi : i < n) {js : List Nat} : ∀ k : Nat, k ≤ 20 → (∀ q, q < k → js.getD q 0 < n ∧ ¬ flt (wR D i (js.getD q 0)) 4562146422526312448) → fb (120 + k) (fPl D J i js k).1 ∧ fb (120 + k) (fPl D J i js k).2
  | 0, _, _ => ⟨fc_0.mono (by decide), fc_0.mono (by decide)⟩
  | k + 1, hk, hq => fst2_fb h hi (hq k (by omega)).1 (hq k (by omega)).2 (fPl_fb h hi k (by omega) (fun q hq' => hq q (by omega))) (by omega)
theorem fPa_fb (h : Bd n nb nr J D) {i : Nat} (hi : i < n) : ∀ k : Nat, k ≤ 20 → k ≤ n → (∀ q, q < k → q ≠ i → ¬ flt (wR D i q) 4562146422526312448) → fb (120 + k) (fPa D J i k).1 ∧ fb (120 + k) (fPa D J i k).2
  | 0, _, _, _ => ⟨fc_0.mono (by decide), fc_0.mono (by decide)⟩
  | k + 1, hk, hn, hq => by
    have ih := fPa_fb h hi k (by omega) (by omega) (fun q hq' => hq q (by omega))
    unfold fPa
    split
    · exact ⟨ih.1.mono (by omega), ih.2.mono (by omega)⟩
    · rename_i hne
      exact fst2_fb h hi (by omega) (hq k (by omega) hne) ih (by omega)
theorem fBo_fb (h : Bd n nb nr J D) {i : Nat} (hi : i < n) {a : UInt64 × UInt64} (ha : fb 140 a.1 ∧ fb 140 a.2) : ∀ k : Nat, k ≤ nb → fb (140 + k) (fBo D J i a k).1 ∧ fb (140 + k) (fBo D J i a k).2
  | 0, _ => ⟨ha.1.mono (by omega), ha.2.mono (by omega)⟩
  | k + 1, hk => fbo_fb h hi (by omega) (fBo_fb h hi ha k (by omega)) (by have := h.nb8; omega)
end FB
/-- overlap -/
def ovl (D : T64) (n : Nat) : Bool := (List.range n).any (fun i => (List.range n).any (fun j => decide (i < j) && decide (FP.dcmp (wR D i j) 4562146422526312448 = some .lt)))
theorem ovl_t {D : T64} {n : Nat} : ovl D n = true ↔ ∃ i j, i < j ∧ j < n ∧ flt (wR D i j) 4562146422526312448 := by
  unfold ovl flt
  simp only [List.any_eq_true, List.mem_range, Bool.and_eq_true, decide_eq_true_eq]
  constructor
  · rintro ⟨i, h1, j, h2, h3, h4⟩
    exact ⟨i, j, h3, h2, h4⟩
  · rintro ⟨i, j, h3, h2, h4⟩
    exact ⟨i, by omega, j, h2, h3, h4⟩
theorem ovl_f {D : T64} {n : Nat} : ovl D n = false ↔ ∀ i j, i < j → j < n → ¬ flt (wR D i j) 4562146422526312448 := by
  rw [← Bool.not_eq_true, ovl_t]
  constructor
  · exact fun h i j h1 h2 h3 => h ⟨i, j, h1, h2, h3⟩
  · rintro h ⟨i, j, h1, h2, h3⟩
    exact h i j h1 h2 h3
/-! temperature -/
def smT (D : T64) : Nat → UInt64
  | 0 => FP.dconst0
  | k + 1 => FP.dadd (smT D k) (FP.dmul (D 4 k) (FP.dadd (FP.dmul (D 2 k) (D 2 k)) (FP.dmul (D 3 k) (D 3 k))))
def frc (I : T32) : Nat → Nat
  | 0 => 0
  | k + 1 => if I 1 k = 0 then frc I k + 1 else frc I k
theorem frc_t {I : T32} {k : Nat} (h : I 1 k = 0) : frc I (k + 1) = frc I k + 1 := if_pos h
theorem frc_f {I : T32} {k : Nat} (h : ¬ I 1 k = 0) : frc I (k + 1) = frc I k := if_neg h
theorem frc_le (I : T32) : ∀ k : Nat, frc I k ≤ k
  | 0 => Nat.le_refl _
  | k + 1 => by
    have := frc_le I k
    unfold frc
    split <;> omega
def tmpS (D : T64) (I : T32) (n : Nat) : UInt64 := if frc I n = 0 then FP.dconst0 else FP.ddiv (smT D n) (FP.dmul 4611686018427387904 (FP.i2d (nI (frc I n))))
theorem smT_fb {n nb nr : Nat} {J : Jt} {D : T64} (h : Bd n nb nr J D) (hu : Bu 20 n D) : ∀ k : Nat, k ≤ n → fb (47 + k) (smT D k)
  | 0, _ => fc_0.mono (by decide)
  | k + 1, hk => by
    have ih := smT_fb h hu k (by omega)
    have a1 := fb.mul (hu k (by omega)).1 (hu k (by omega)).1 (G := 40) (by decide)
    have a2 := fb.mul (hu k (by omega)).2 (hu k (by omega)).2 (G := 40) (by decide)
    have a3 := fb.mul (h.m (show k < n by omega)) (fb.add a1 a2 (G := 41) (by decide)) (G := 47) (by decide)
    have := h.n10
    exact fb.add ih (a3.mono (show (47 : Int) ≤ 47 + k by omega)) (by omega)
theorem i2d_b {k : Nat} (hk : k ≤ 16) : fb 4 (FP.i2d (nI k)) := by
  obtain ⟨h1, h2⟩ := i2d_rd (nI k)
  rw [nI_toInt (by omega)] at h2
  have h3 : ((k : Nat) : Rat) ≤ ((16 : Nat) : Rat) := by exact_mod_cast hk
  have h4 : (0 : Rat) ≤ ((k : Nat) : Rat) := by exact_mod_cast Nat.zero_le _
  have e : ((k : Int) : Rat) = ((k : Nat) : Rat) := by norm_cast
  have e16 : ((16 : Nat) : Rat) = 16 := rfl
  rw [e] at h2
  rw [e16] at h3
  exact ⟨h1, by rw [h2, e2_4]; exact h3, by rw [h2, e2_4]; grind⟩
theorem i2d_lb {k : Nat} (hk : k ≤ 16) (h0 : 1 ≤ k) : lb 0 (FP.i2d (nI k)) := by
  obtain ⟨h1, h2⟩ := i2d_rd (nI k)
  rw [nI_toInt (by omega)] at h2
  have h3 : ((1 : Nat) : Rat) ≤ ((k : Nat) : Rat) := by exact_mod_cast h0
  have e : ((k : Int) : Rat) = ((k : Nat) : Rat) := by norm_cast
  have e1 : ((1 : Nat) : Rat) = 1 := rfl
  rw [e] at h2
  rw [e1] at h3
  exact ⟨h1, Or.inl (by rw [h2, p2_0]; exact h3)⟩
/-! rods: the table T holds the places in the making -/
def xA (D T : T64) (i j : Nat) : UInt64 := sShort (D 20 0) (FP.dsub (T 32 j) (T 32 i))
def xB (D T : T64) (i j : Nat) : UInt64 := sShort (D 20 0) (FP.dsub (T 33 j) (T 33 i))
def rO (D T : T64) (l : UInt64) (i j : Nat) : UInt64 := FP.dsub (sq (xA D T i j) (xB D T i j)) (FP.dmul l l)
def rAb (o : UInt64) : UInt64 := if FP.dcmp o FP.dconst0 = some .lt then FP.dneg o else o
def rTol (l : UInt64) : UInt64 := FP.dmul (FP.dmul 4517329193108106637 l) l
def rH (D T : T64) (I : T32) (i j : Nat) : UInt64 := FP.dmul (FP.dmul 4611686018427387904 (FP.dadd (FP.dmul (xA D T i j) (wA D i j)) (FP.dmul (xB D T i j) (wB D i j)))) (FP.dadd (sEase D (I 1 i) i) (sEase D (I 1 j) j))
def rG (D T : T64) (I : T32) (l : UInt64) (i j : Nat) : UInt64 := FP.ddiv (rO D T l i j) (rH D T I i j)
def rT1 (D T : T64) (I : T32) (l : UInt64) (i j : Nat) : T64 :=
  up2 (up2 (up2 (up2 T 32 i (FP.dadd (T 32 i) (FP.dmul (FP.dmul (rG D T I l i j) (sEase D (I 1 i) i)) (wA D i j)))) 33 i (FP.dadd (T 33 i) (FP.dmul (FP.dmul (rG D T I l i j) (sEase D (I 1 i) i)) (wB D i j))))
    32 j (FP.dsub (T 32 j) (FP.dmul (FP.dmul (rG D T I l i j) (sEase D (I 1 j) j)) (wA D i j)))) 33 j (FP.dsub (T 33 j) (FP.dmul (FP.dmul (rG D T I l i j) (sEase D (I 1 j) j)) (wB D i j)))
def stf (h : UInt64) : Prop := fgt h 13740701229962882445 ∧ flt h 4517329193108106637
/-- a rod's turn: 0 nothing, 1 something changed, 2 stiff -/
def rcd (D T : T64) (I : T32) (l : UInt64) (i j : Nat) : Nat :=
  if FP.dcmp (rAb (rO D T l i j)) (rTol l) = some .lt ∨ FP.dcmp (rAb (rO D T l i j)) (rTol l) = some .eq then 0
  else if FP.dcmp (rH D T I i j) 13740701229962882445 = some .gt ∧ FP.dcmp (rH D T I i j) 4517329193108106637 = some .lt then 2 else 1
theorem rcd_0 {D T : T64} {I : T32} {l : UInt64} {i j : Nat} (h : fle (rAb (rO D T l i j)) (rTol l)) : rcd D T I l i j = 0 := if_pos h
theorem rcd_2 {D T : T64} {I : T32} {l : UInt64} {i j : Nat} (h : ¬ fle (rAb (rO D T l i j)) (rTol l)) (h2 : stf (rH D T I i j)) : rcd D T I l i j = 2 := (if_neg h).trans (if_pos h2)
theorem rcd_1 {D T : T64} {I : T32} {l : UInt64} {i j : Nat} (h : ¬ fle (rAb (rO D T l i j)) (rTol l)) (h2 : ¬ stf (rH D T I i j)) : rcd D T I l i j = 1 := (if_neg h).trans (if_neg h2)
def rTn (D T : T64) (I : T32) (l : UInt64) (i j : Nat) : T64 := if rcd D T I l i j = 1 then rT1 D T I l i j else T
/-- a round: the table, whether something changed, whether one was stiff -/
def rnd (D : T64) (I : T32) (J : Jt) (T : T64) : Nat → T64 × Bool × Bool
  | 0 => (T, false, false)
  | k + 1 => let s := rnd D I J T k
    if s.2.2 = true then s else (rTn D s.1 I (D 12 k) (J 4 k) (J 5 k), s.2.1 || decide (rcd D s.1 I (D 12 k) (J 4 k) (J 5 k) = 1), decide (rcd D s.1 I (D 12 k) (J 4 k) (J 5 k) = 2))
/-- rounds: how many, and the table, if all goes well -/
def rds (D : T64) (I : T32) (J : Jt) (nr : Nat) : Nat → Nat → T64 → Option (Nat × T64)
  | 0, _, _ => none
  | f + 1, r, T => let s := rnd D I J T nr
    if s.2.2 = true then none else if s.2.1 = true then rds D I J nr f (r + 1) s.1 else some (r, s.1)
/-- what the table's bounds are -/
def fR (c : Nat) (x : UInt64) : Prop := Fn x ∧ rv x ≤ (c : Rat) * p2 40 ∧ -rv x ≤ (c : Rat) * p2 40
def BT (c n : Nat) (T : T64) : Prop := ∀ i, i < n → fR c (T 32 i) ∧ fR c (T 33 i)
theorem fR.bnd {c : Nat} {x : UInt64} (h : fR c x) (hc : c ≤ 256) : fb 48 x := by
  have h1 : ((c : Nat) : Rat) ≤ ((256 : Nat) : Rat) := by exact_mod_cast hc
  have h2 := Rat.mul_le_mul_of_nonneg_right h1 (p2_nn 40)
  have e : p2 48 = ((256 : Nat) : Rat) * p2 40 := by
    have : p2 8 = ((256 : Nat) : Rat) := (p2_nat 8).trans (by decide +kernel)
    rw [← this, ← p2_add]; rfl
  rw [← e] at h2
  exact ⟨h.1, by have := h.2.1; grind, by have := h.2.2; grind⟩
theorem rep_c40 {c : Nat} (h : c ≤ 1000) : Rep ((c : Rat) * p2 40) := ⟨false, c, 40, by omega, by decide, by simp only [FP.Core.signed, Bool.false_eq_true, if_false]; norm_cast⟩
theorem fR.add {c : Nat} {x y : UInt64} (h : fR c x) (hy : fb 40 y) (hc : c ≤ 250) : fR (c + 1) (FP.dadd x y) := by
  have hf := h.bnd (by omega)
  have e : ((c + 1 : Nat) : Rat) * p2 40 = (c : Rat) * p2 40 + p2 40 := by push_cast; grind
  have h1 := h.2.1
  have h2 := h.2.2
  have h3 := hy.2.1
  have h4 := hy.2.2
  have b1 := hf.2.1
  have b2 := hf.2.2
  have b3 := p2_mono (show (40 : Int) ≤ 48 by decide)
  have b4 := p2_succ 48
  have b5 := p2_mono (show (48 + 1 : Int) ≤ 1000 by decide)
  obtain ⟨q1, q2⟩ := add_rd h.1 hy.1 (by grind) (by grind)
  have hr := rep_c40 (c := c + 1) (by omega)
  refine ⟨q1, q2.2.2 _ hr (by rw [e]; grind), ?_⟩
  have := q2.2.1 _ hr.neg (by rw [e]; grind)
  grind
theorem fR.sub {c : Nat} {x y : UInt64} (h : fR c x) (hy : fb 40 y) (hc : c ≤ 250) : fR (c + 1) (FP.dsub x y) := by
  have hf := h.bnd (by omega)
  have e : ((c + 1 : Nat) : Rat) * p2 40 = (c : Rat) * p2 40 + p2 40 := by push_cast; grind
  have h1 := h.2.1
  have h2 := h.2.2
  have h3 := hy.2.1
  have h4 := hy.2.2
  have b1 := hf.2.1
  have b2 := hf.2.2
  have b3 := p2_mono (show (40 : Int) ≤ 48 by decide)
  have b4 := p2_succ 48
  have b5 := p2_mono (show (48 + 1 : Int) ≤ 1000 by decide)
  obtain ⟨q1, q2⟩ := sub_rd h.1 hy.1 (by grind) (by grind)
  have hr := rep_c40 (c := c + 1) (by omega)
  refine ⟨q1, q2.2.2 _ hr (by rw [e]; grind), ?_⟩
  have := q2.2.1 _ hr.neg (by rw [e]; grind)
  grind
theorem fR.mono {c d : Nat} {x : UInt64} (h : fR c x) (hc : c ≤ d) : fR d x := by
  have h1 : ((c : Nat) : Rat) ≤ ((d : Nat) : Rat) := by exact_mod_cast hc
  have h2 := Rat.mul_le_mul_of_nonneg_right h1 (p2_nn 40)
  exact ⟨h.1, by have := h.2.1; grind, by have := h.2.2; grind⟩
theorem BT.mono {c d n : Nat} {T : T64} (h : BT c n T) (hc : c ≤ d) : BT d n T := fun i hi => ⟨(h i hi).1.mono hc, (h i hi).2.mono hc⟩
section RB
variable {n nb nr c : Nat} {J : Jt} {D T : T64} {I : T32}
theorem ease_fb (h : Bd n nb nr J D) {i : Nat} (hi : i < n) (sk : Int32) : fb 3 (sEase D sk i) := by
  unfold sEase
  split
  · exact fb.div fc_1 (h.ml hi) (by decide)
  · exact fc_0.mono (by decide)
theorem xA_fb (h : Bd n nb nr J D) (hT : BT c n T) (hc : c ≤ 256) {i j : Nat} (hi : i < n) (hj : j < n) : fb 5 (xA D T i j) := short_fb h.side (fb.sub ((hT j hj).1.bnd hc) ((hT i hi).1.bnd hc) (G := 49) (by decide))
theorem xB_fb (h : Bd n nb nr J D) (hT : BT c n T) (hc : c ≤ 256) {i j : Nat} (hi : i < n) (hj : j < n) : fb 5 (xB D T i j) := short_fb h.side (fb.sub ((hT j hj).2.bnd hc) ((hT i hi).2.bnd hc) (G := 49) (by decide))
theorem rO_fb (h : Bd n nb nr J D) (hT : BT c n T) (hc : c ≤ 256) {i j : Nat} (hi : i < n) (hj : j < n) {l : UInt64} (hl : fb 4 l) : fb 12 (rO D T l i j) := fb.sub (sq_fb (xA_fb h hT hc hi hj) (xB_fb h hT hc hi hj) (by decide)) (fb.mul hl hl (G := 8) (by decide)) (by decide)
theorem rH_fb (h : Bd n nb nr J D) (hT : BT c n T) (hc : c ≤ 256) {i j : Nat} (hi : i < n) (hj : j < n) : fb 16 (rH D T I i j) := by
  have a1 := fb.mul (xA_fb h hT hc hi hj) (wA_fb h hi hj) (G := 10) (by decide)
  have a2 := fb.mul (xB_fb h hT hc hi hj) (wB_fb h hi hj) (G := 10) (by decide)
  exact fb.mul (fb.mul fc_4611686018427387904 (fb.add a1 a2 (G := 11) (by decide)) (G := 12) (by decide)) (fb.add (ease_fb h hi _) (ease_fb h hj _) (G := 4) (by decide)) (by decide)
theorem stf_lb {x : UInt64} {E : Int} (hx : fb E x) (h : ¬ stf x) : lb (-20) x := by
  have h1 := (cmp_val hx.1 fc_13740701229962882445.1).2.2.1
  have h2 := (cmp_val hx.1 fc_4517329193108106637.1).1
  refine ⟨hx.1, ?_⟩
  have e1 := rv_fin vc_4517329193108106637
  have e2 := rv_fin vc_13740701229962882445
  simp only [sg, Bool.false_eq_true, if_false, if_true, Rat.one_mul] at e1 e2
  have hc : p2 (-20) ≤ ((4722366482869645 : Nat) : Rat) * p2 (-72) := by
    have e3 : p2 (-20) = ((4503599627370496 : Nat) : Rat) * p2 (-72) := by
      have : p2 52 = ((4503599627370496 : Nat) : Rat) := (p2_nat 52).trans (by decide +kernel)
      rw [← this, ← p2_add]; rfl
    rw [e3]
    exact Rat.mul_le_mul_of_nonneg_right (by exact_mod_cast (show (4503599627370496 : Nat) ≤ 4722366482869645 by decide)) (p2_nn _)
  by_cases hp : rv x < rv 4517329193108106637
  · by_cases hq : rv 13740701229962882445 < rv x
    · exact absurd ⟨h1.mpr hq, h2.mpr hp⟩ h
    · right; grind
  · left; grind
theorem rG_fb (h : Bd n nb nr J D) (hT : BT c n T) (hc : c ≤ 256) {i j : Nat} (hi : i < n) (hj : j < n) {l : UInt64} (hl : fb 4 l) (hs : ¬ stf (rH D T I i j)) : fb 32 (rG D T I l i j) :=
  fb.div (rO_fb h hT hc hi hj hl) (stf_lb (rH_fb h hT hc hi hj) hs) (by decide)
theorem rT1_BT (h : Bd n nb nr J D) (hT : BT c n T) (hc : c ≤ 250) {i j : Nat} (hi : i < n) (hj : j < n) (hij : i ≠ j) {l : UInt64} (hl : fb 4 l) (hs : ¬ stf (rH D T I i j)) : BT (c + 1) n (rT1 D T I l i j) := by
  have hg := rG_fb h hT (by omega) hi hj hl hs
  have hm := fb.mul hg (ease_fb h hi (I 1 i)) (G := 35) (by decide)
  have hn := fb.mul hg (ease_fb h hj (I 1 j)) (G := 35) (by decide)
  have a1 := fb.mul hm (wA_fb h hi hj) (G := 40) (by decide)
  have a2 := fb.mul hm (wB_fb h hi hj) (G := 40) (by decide)
  have a3 := fb.mul hn (wA_fb h hi hj) (G := 40) (by decide)
  have a4 := fb.mul hn (wB_fb h hi hj) (G := 40) (by decide)
  intro q hq
  unfold rT1
  constructor
  · rw [up2_f _ _ _ _ (by decide)]
    by_cases h1 : q = j
    · subst h1; rw [up2_same]; exact (hT q hq).1.sub a3 hc
    · rw [up2_i _ _ _ _ h1, up2_f _ _ _ _ (by decide)]
      by_cases h2 : q = i
      · subst h2; rw [up2_same]; exact (hT q hq).1.add a1 hc
      · rw [up2_i _ _ _ _ h2]; exact (hT q hq).1.mono (by omega)
  · by_cases h1 : q = j
    · subst h1; rw [up2_same]; exact (hT q hq).2.sub a4 hc
    · rw [up2_i _ _ _ _ h1, up2_f _ _ _ _ (by decide)]
      by_cases h2 : q = i
      · subst h2; rw [up2_same]; exact (hT q hq).2.add a2 hc
      · rw [up2_i _ _ _ _ h2, up2_f _ _ _ _ (by decide)]; exact (hT q hq).2.mono (by omega)
theorem rTn_BT (h : Bd n nb nr J D) (hT : BT c n T) (hc : c ≤ 250) {i j : Nat} (hi : i < n) (hj : j < n) (hij : i ≠ j) {l : UInt64} (hl : fb 4 l) : BT (c + 1) n (rTn D T I l i j) := by
  unfold rTn
  split
  · rename_i h1
    refine rT1_BT h hT hc hi hj hij hl (fun hs => ?_)
    by_cases h0 : fle (rAb (rO D T l i j)) (rTol l)
    · rw [rcd_0 h0] at h1; cases h1
    · rw [rcd_2 h0 hs] at h1; cases h1
  · exact hT.mono (by omega)
theorem rnd_BT (h : Bd n nb nr J D) (hT : BT c n T) (hc : c ≤ 240) : ∀ k : Nat, k ≤ nr → BT (c + k) n (rnd D I J T k).1
  | 0, _ => hT
  | k + 1, hk => by
    have ih := rnd_BT h hT hc k (by omega)
    have h4 := h.nr4
    unfold rnd
    simp only
    split
    · exact ih.mono (by omega)
    · exact rTn_BT h ih (by omega) (h.j4 (by omega)) (h.j5 (by omega)) (h.j45 (by omega)) (h.rl (by omega))
end RB
/-! scratch numbers -/
def sF : Nat → Bool := fun f => Nat.ble 34 f && Nat.ble f 36
def sM : Nat → Bool := fun f => Nat.ble 32 f && Nat.ble f 36
def sN : Nat → Bool := fun f => Nat.ble 30 f && Nat.ble f 36
theorem ble_i {a b : Nat} : Nat.ble a b = true ↔ a ≤ b := by rw [Nat.ble_eq]
theorem djF : ∀ f, cD f = true → sF f = false := by
  intro f h
  simp only [cD, sF, Bool.or_eq_true, ble_i, Nat.beq_eq] at h ⊢
  cases hb : (Nat.ble 34 f && Nat.ble f 36) with
  | false => rfl
  | true => rw [Bool.and_eq_true, ble_i, ble_i] at hb; omega
theorem djM : ∀ f, cD f = true → sM f = false := by
  intro f h
  simp only [cD, sM, Bool.or_eq_true, ble_i, Nat.beq_eq] at h ⊢
  cases hb : (Nat.ble 32 f && Nat.ble f 36) with
  | false => rfl
  | true => rw [Bool.and_eq_true, ble_i, ble_i] at hb; omega
theorem djN : ∀ f, cD f = true → sN f = false := by
  intro f h
  simp only [cD, sN, Bool.or_eq_true, ble_i, Nat.beq_eq] at h ⊢
  cases hb : (Nat.ble 30 f && Nat.ble f 36) with
  | false => rfl
  | true => rw [Bool.and_eq_true, ble_i, ble_i] at hb; omega
theorem sFM : ∀ f, sM f = false → sF f = false := by
  intro f h
  cases hb : sF f with
  | false => rfl
  | true =>
    exfalso
    unfold sF at hb; unfold sM at h
    rw [Bool.and_eq_true, ble_i, ble_i] at hb
    rw [← Bool.not_eq_true, Bool.and_eq_true, ble_i, ble_i] at h
    omega
theorem sMN : ∀ f, sN f = false → sM f = false := by
  intro f h
  cases hb : sM f with
  | false => rfl
  | true =>
    exfalso
    unfold sM at hb; unfold sN at h
    rw [Bool.and_eq_true, ble_i, ble_i] at hb
    rw [← Bool.not_eq_true, Bool.and_eq_true, ble_i, ble_i] at h
    omega
theorem sFN : ∀ f, sN f = false → sF f = false := fun f h => sFM f (sMN f h)
theorem agD.F {D D1 D0 : T64} (h : agD D D0) (h1 : exc sF D1 D) : agD D1 D0 := h.of h1 djF
theorem agD.M {D D1 D0 : T64} (h : agD D D0) (h1 : exc sM D1 D) : agD D1 D0 := h.of h1 djM
theorem agD.N {D D1 D0 : T64} (h : agD D D0) (h1 : exc sN D1 D) : agD D1 D0 := h.of h1 djN
/-- the places in the making -/
def agN (n : Nat) (D T : T64) : Prop := ∀ i, i < n → D 32 i = T 32 i ∧ D 33 i = T 33 i
theorem agN.F {n : Nat} {D D1 T : T64} (h : agN n D T) (h1 : exc sF D1 D) : agN n D1 T := fun i hi => ⟨(h1 32 i rfl).trans (h i hi).1, (h1 33 i rfl).trans (h i hi).2⟩
theorem agN.up {n : Nat} {D T : T64} (h : agN n D T) {f i : Nat} {x : UInt64} (h1 : f ≠ 32) (h2 : f ≠ 33) : agN n (up2 D f i x) T := fun j hj => ⟨(up2_f _ _ _ _ (Ne.symm h1)).trans (h j hj).1, (up2_f _ _ _ _ (Ne.symm h2)).trans (h j hj).2⟩
theorem agN.put {n : Nat} {D T : T64} (h : agN n D T) (f i : Nat) (x : UInt64) : agN n (up2 D f i x) (up2 T f i x) := by
  intro j hj
  rw [up2_eq, up2_eq, up2_eq, up2_eq, (h j hj).1, (h j hj).2]
  exact ⟨rfl, rfl⟩
/-! kicks and scalings -/
def psG (half : UInt64) (D : T64) (I : T32) : T64 := g2 2 (fun j => if I 1 j = 0 then pu half (D 2 j) (D 30 j) (D 4 j) else D 2 j) (fun j => if I 1 j = 0 then pu half (D 3 j) (D 31 j) (D 4 j) else D 3 j)
def psD (half : UInt64) (n : Nat) (D : T64) (I : T32) : T64 := tg n (s2 2 3) (psG half D I) D
theorem s2_or {a b f : Nat} (h : s2 a b f = true) : f = a ∨ f = b := by
  unfold s2 at h
  rw [Bool.or_eq_true, Nat.beq_eq, Nat.beq_eq] at h
  exact h
theorem psD_step {half : UInt64} {i : Nat} {D : T64} {I : T32} : (if I 1 i = 0 then up2 (up2 (psD half i D I) 2 i (pu half (D 2 i) (D 30 i) (D 4 i))) 3 i (pu half (D 3 i) (D 31 i) (D 4 i)) else psD half i D I) = psD half (i + 1) D I := by
  unfold psD
  split
  · rename_i h
    exact tg_s2 (by decide) (if_pos h).symm (if_pos h).symm
  · rename_i h
    refine (tg_same (fun f hf => ?_)).symm
    rcases s2_or hf with rfl | rfl
    · exact (if_neg h).symm
    · exact (if_neg h).symm
def scG (q : UInt64) (D : T64) (I : T32) : T64 := g2 2 (fun j => if I 1 j = 0 then FP.dmul (D 2 j) q else D 2 j) (fun j => if I 1 j = 0 then FP.dmul (D 3 j) q else D 3 j)
def scD (q : UInt64) (n : Nat) (D : T64) (I : T32) : T64 := tg n (s2 2 3) (scG q D I) D
theorem scD_t {q : UInt64} {i : Nat} {D : T64} {I : T32} (h : I 1 i = 0) : up2 (up2 (scD q i D I) 2 i (FP.dmul (D 2 i) q)) 3 i (FP.dmul (D 3 i) q) = scD q (i + 1) D I := tg_s2 (by decide) (if_pos h).symm (if_pos h).symm
theorem scD_f {q : UInt64} {i : Nat} {D : T64} {I : T32} (h : ¬ I 1 i = 0) : scD q (i + 1) D I = scD q i D I := by
  refine tg_same (fun f hf => ?_)
  rcases s2_or hf with rfl | rfl
  · exact (if_neg h).symm
  · exact (if_neg h).symm
def rsc (T : UInt64) (n : Nat) (D : T64) (I : T32) : T64 := if FP.dcmp (tmpS D I n) 4517329193108106637 = some .lt then D else scD (sRoot (FP.ddiv T (tmpS D I n))) n D I
/-- a wanted temperature -/
def okT (T : UInt64) : Prop := Fn T ∧ (rv T = 0 ∨ (1 / 8 ≤ rv T ∧ rv T ≤ 1000))
theorem tmp_fb {n nb nr : Nat} {J : Jt} {D : T64} {I : T32} (h : Bd n nb nr J D) (hu : Bu 20 n D) : fb 56 (tmpS D I n) := by
  have h10 := h.n10
  unfold tmpS
  split
  · exact fc_0.mono (by decide)
  · rename_i h0
    have hf := frc_le I n
    have a1 := i2d_b (k := frc I n) (by omega)
    have a2 := i2d_lb (k := frc I n) (by omega) (by omega)
    exact fb.div ((smT_fb h hu n (Nat.le_refl _)).mono (show (47 + n : Int) ≤ 57 by omega)) (lb.mul lc_4611686018427387904 a2 fc_4611686018427387904 a1 (G := 1) (by decide)) (by decide)
theorem close_v : p2 (-20) ≤ rv 4517329193108106637 := by
  have e1 := rv_fin vc_4517329193108106637
  simp only [sg, Bool.false_eq_true, if_false, Rat.one_mul] at e1
  have e3 : p2 (-20) = ((4503599627370496 : Nat) : Rat) * p2 (-72) := by
    have : p2 52 = ((4503599627370496 : Nat) : Rat) := (p2_nat 52).trans (by decide +kernel)
    rw [← this, ← p2_add]; rfl
  rw [e1, e3]
  exact Rat.mul_le_mul_of_nonneg_right (by exact_mod_cast (show (4503599627370496 : Nat) ≤ 4722366482869645 by decide)) (p2_nn _)
theorem rtz {T t : UInt64} (hT : okT T) (ht : fb 56 t) (hc : ¬ flt t 4517329193108106637) : lb (-20) t ∧ (feq (FP.ddiv T t) FP.dconst0 ∨ RtZ (FP.ddiv T t)) := by
  have hl : lb (-20) t := lb_nlt ht fc_4517329193108106637.1 close_v hc
  have tpos : p2 (-20) ≤ rv t := by
    have := (cmp_val ht.1 fc_4517329193108106637.1).1
    have h1 : ¬ rv t < rv 4517329193108106637 := fun q => hc (this.mpr q)
    have := close_v
    grind
  have hp := p2_pos (-20)
  refine ⟨hl, ?_⟩
  obtain ⟨h1, h2⟩ := hT
  rcases h2 with h2 | ⟨h2, h3⟩
  · left
    have e0 : rv T / rv t = 0 := by rw [h2, Rat.div_def, Rat.zero_mul]
    have hb := p2_pos 1000
    obtain ⟨q1, q2⟩ := div_rd h1 ht.1 hl.ne0 (by rw [e0]; grind) (by rw [e0]; grind)
    have hv := q2.exact (by rw [e0]; exact rep_0)
    refine (cmp_val q1 fc_0.1).2.1.mpr ?_
    rw [hv, e0, rv_0]
  · right
    have e10 : p2 10 = 1024 := (p2_nat 10).trans (by decide +kernel)
    have fT : fb 10 T := ⟨h1, by rw [e10]; grind, by rw [e10]; grind⟩
    have hd := fb.div fT hl (G := 30) (by decide)
    have hb := p2_mono (show (30 : Int) ≤ 1000 by decide)
    obtain ⟨m1, m2⟩ := rat_div_bd fT.2.1 fT.2.2 hl.2
    rw [← p2_add] at m1 m2
    obtain ⟨q1, q2⟩ := div_rd h1 ht.1 hl.ne0 (by have : p2 (10 + -(-20)) = p2 30 := rfl; grind) (by have : p2 (10 + -(-20)) = p2 30 := rfl; grind)
    refine ⟨hd.1, ?_, hd.2.1⟩
    have e1 : rv T / rv t * rv t = rv T := Rat.div_mul_cancel hl.ne0
    have hle : p2 (-59) ≤ rv T / rv t := by
      refine Rat.le_of_mul_le_mul_right (c := rv t) ?_ (by grind)
      rw [e1]
      have w := Rat.mul_le_mul_of_nonneg_left ht.2.1 (p2_nn (-59))
      rw [← p2_add] at w
      have : p2 (-59 + 56) = p2 (-3) := rfl
      rw [this, e2_m3] at w
      grind
    have := q2.2.1 _ (rep_p2 (k := -59) (by decide)) hle
    have := p2_mono (show (-60 : Int) ≤ -59 by decide)
    grind
theorem nI_z {a : Nat} (ha : a < 1000) (h : nI a = 0) : a = 0 := (nI_eq (b := 0) (by omega) (by omega)).mp h
theorem nI_nz {a : Nat} (h : ¬ nI a = 0) : ¬ a = 0 := fun q => h (by rw [q]; rfl)
