set_option maxRecDepth 100000
/-! ===== plain words: what rests on which numbers; rods' rounds ===== -/
section CG
variable {D D' : T64} {J : Jt} {nb i j k : Nat} {r : UInt64}
/-- alike but for the places of the list -/
abbrev exL (D' D : T64) : Prop := exc (s2 5 6) D' D
theorem wA_cg (h : exL D' D) : wA D' i j = wA D i j := by unfold wA; rw [h 20 0 rfl, h 0 j rfl, h 0 i rfl]
theorem wB_cg (h : exL D' D) : wB D' i j = wB D i j := by unfold wB; rw [h 20 0 rfl, h 1 j rfl, h 1 i rfl]
theorem wR_cg (h : exL D' D) : wR D' i j = wR D i j := by unfold wR; rw [wA_cg h, wB_cg h]
theorem pF_cg (h : exL D' D) : pF D' J i j r = pF D J i j r := by
  unfold pF pE pC pP pQ pS
  rw [h 7 _ rfl, h 7 _ rfl, h 8 _ rfl, h 8 _ rfl, h 9 _ rfl, h 9 _ rfl]
theorem pN_cg (h : exL D' D) : pN D' J i j r = pN D J i j r := by
  unfold pN pE pC pP pQ pS
  rw [h 7 _ rfl, h 7 _ rfl, h 8 _ rfl, h 8 _ rfl, h 9 _ rfl, h 9 _ rfl, h 21 _ rfl]
theorem bF_cg (h : exL D' D) : bF D' k r = bF D k r := by unfold bF bO; rw [h 10 k rfl, h 11 k rfl]
theorem fst2_cg (h : exL D' D) (a : UInt64 × UInt64) : fst2 D' J i j a = fst2 D J i j a := by unfold fst2; rw [wR_cg h, wA_cg h, wB_cg h, pF_cg h, h 21 0 rfl]
theorem fbo_cg (h : exL D' D) (a : UInt64 × UInt64) : fbo D' J i k a = fbo D J i k a := by
  unfold fbo
  rw [wR_cg h, wA_cg h, wB_cg h, bF_cg h, wR_cg h, wA_cg h, wB_cg h, bF_cg h]
theorem fPl_cg (h : exL D' D) {js : List Nat} : ∀ k, fPl D' J i js k = fPl D J i js k
  | 0 => rfl
  | k + 1 => by unfold fPl; rw [fst2_cg h, fPl_cg h k]
theorem fPa_cg (h : exL D' D) : ∀ k, fPa D' J i k = fPa D J i k
  | 0 => rfl
  | k + 1 => by unfold fPa; rw [fst2_cg h, fPa_cg h k]
theorem fBo_cg (h : exL D' D) {a : UInt64 × UInt64} : ∀ k, fBo D' J i a k = fBo D J i a k
  | 0 => rfl
  | k + 1 => by unfold fBo; rw [fbo_cg h, fBo_cg h k]
theorem fCx_cg (h : exL D' D) {js : List Nat} : fCx D' J nb i js = fCx D J nb i js := by unfold fCx; rw [fPl_cg h, fBo_cg h]
end CG
/-- the shared numbers behind a list's making -/
def lsC (D : T64) (li : Int32) (n : Nat) : T64 := bif oldB D li n then lsT n D else D
theorem lsC_exL {D : T64} {li : Int32} {n : Nat} : exL (lsC D li n) D := by
  unfold lsC
  cases oldB D li n with
  | true => exact tg_exc
  | false => exact exc.rf
theorem Bd.lc {n nb nr : Nat} {J : Jt} {D : T64} {li : Int32} (h : Bd n nb nr J D) : Bd n nb nr J (lsC D li n) := by
  unfold lsC
  cases oldB D li n with
  | true => exact h.ls
  | false => exact h
/-- what making the list did to the class's tables -/
def Lst (D0 : T64) (li : Int32) (n : Nat) (D : T64) (I : T32) (D1 : T64) (I1 : T32) : Prop :=
  (oldB D0 li n = false ∧ exc sN D1 D ∧ I1 = I) ∨ (oldB D0 li n = true ∧ exc sN D1 (lsT n D) ∧ exc sI I1 I ∧ I1 23 0 = nI 1 ∧ I1 25 0 = I 25 0 + 1 ∧ ∀ i, i < n → RowOK I1 i (nbs D0 i n))
theorem Lst.ag {D0 D D1 : T64} {li : Int32} {n : Nat} {I I1 : T32} (h : Lst D0 li n D I D1 I1) (hag : agD D D0) : agD D1 (lsC D0 li n) := by
  unfold lsC
  rcases h with ⟨h1, h2, -⟩ | ⟨h1, h2, -⟩
  · rw [h1]; exact hag.N h2
  · rw [h1]; exact (hag.ls n).N h2
theorem Lst.int {D0 D D1 : T64} {li : Int32} {n : Nat} {I I1 : T32} (h : Lst D0 li n D I D1 I1) : exc sI I1 I := by
  rcases h with ⟨h1, h2, rfl⟩ | ⟨h1, h2, h3, -⟩
  · exact exc.rf
  · exact h3
theorem Lst.rows {D0 D D1 : T64} {li : Int32} {n : Nat} {I I1 : T32} (h : Lst D0 li n D I D1 I1) (hNL : ¬ li = 0 → NL D0 I n) : ∀ i, i < n → RowOK I1 i (jsC D0 li n i) := by
  intro i hi
  unfold jsC
  rcases h with ⟨h1, h2, rfl⟩ | ⟨h1, h2, h3, h4, h5, h6⟩
  · rw [h1]; exact hNL (oldB_f.mp h1).1 i hi
  · rw [h1]; exact h6 i hi
theorem Lst.then {D0 D D1 D2 : T64} {li : Int32} {n : Nat} {I I1 : T32} (h : Lst D0 li n D I D1 I1) (h2 : exc sN D2 D1) : Lst D0 li n D I D2 I1 := by
  rcases h with ⟨h1, h3, h4⟩ | ⟨h1, h3, h4⟩
  · exact Or.inl ⟨h1, h2.trans h3, h4⟩
  · exact Or.inr ⟨h1, h2.trans h3, h4⟩
/-! rods -/
theorem rTn_ne {D T : T64} {I : T32} {l : UInt64} {i j : Nat} (h : rcd D T I l i j ≠ 1) : rTn D T I l i j = T := if_neg h
theorem rTn_1 {D T : T64} {I : T32} {l : UInt64} {i j : Nat} (h : rcd D T I l i j = 1) : rTn D T I l i j = rT1 D T I l i j := if_pos h
def bO1 (b : Bool) : Nat := bif b then 1 else 0
theorem bO1_le (b : Bool) : bO1 b ≤ 1 := by cases b <;> decide
theorem bO1_or0 (b : Bool) : nI (bO1 b) ||| nI 0 = nI (bO1 b) := by cases b <;> decide
theorem bO1_or1 (b : Bool) : nI (bO1 b) ||| nI 1 = nI 1 := by cases b <;> decide
theorem bO1_z {b : Bool} (h : nI (bO1 b) = 0) : b = false := by
  cases b
  · rfl
  · exact absurd h (by decide)
theorem bO1_nz {b : Bool} (h : ¬ nI (bO1 b) = 0) : b = true := by
  cases b
  · exact absurd (by decide) h
  · rfl
section RD
variable {D T : T64} {I : T32} {J : Jt} {k nr f r : Nat}
theorem rnd_s (h : (rnd D I J T k).2.2 = false) : rnd D I J T (k + 1) = (rTn D (rnd D I J T k).1 I (D 12 k) (J 4 k) (J 5 k), (rnd D I J T k).2.1 || decide (rcd D (rnd D I J T k).1 I (D 12 k) (J 4 k) (J 5 k) = 1), decide (rcd D (rnd D I J T k).1 I (D 12 k) (J 4 k) (J 5 k) = 2)) := by
  show (if (rnd D I J T k).2.2 = true then _ else _) = _
  rw [h, if_neg (by decide)]
theorem rnd_st (h : (rnd D I J T k).2.2 = true) : rnd D I J T (k + 1) = rnd D I J T k := by
  show (if (rnd D I J T k).2.2 = true then _ else _) = _
  rw [if_pos h]
theorem rnd_stiff (h : (rnd D I J T k).2.2 = true) : ∀ m, k ≤ m → (rnd D I J T m).2.2 = true := by
  intro m
  induction m with
  | zero => intro hm; have : k = 0 := by omega
            subst this; exact h
  | succ m ih =>
    intro hm
    by_cases hk : k = m + 1
    · subst hk; exact h
    · rw [rnd_st (ih (by omega))]; exact ih (by omega)
theorem rds_next (h1 : (rnd D I J T nr).2.2 = false) (h2 : (rnd D I J T nr).2.1 = true) : rds D I J nr (f + 1) r T = rds D I J nr f (r + 1) (rnd D I J T nr).1 := by
  show (if (rnd D I J T nr).2.2 = true then _ else _) = _
  rw [h1, if_neg (by decide), h2, if_pos rfl]
theorem rds_done (h1 : (rnd D I J T nr).2.2 = false) (h2 : (rnd D I J T nr).2.1 = false) : rds D I J nr (f + 1) r T = some (r, (rnd D I J T nr).1) := by
  show (if (rnd D I J T nr).2.2 = true then _ else _) = _
  rw [h1, if_neg (by decide), h2, if_neg (by decide)]
theorem rds_stiff (h1 : (rnd D I J T nr).2.2 = true) : rds D I J nr (f + 1) r T = none := by
  show (if (rnd D I J T nr).2.2 = true then _ else _) = _
  rw [if_pos h1]
end RD
