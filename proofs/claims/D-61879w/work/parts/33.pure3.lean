set_option maxRecDepth 100000
/-! ===== plain words: rows of neighbours, the list's making, tables put alike ===== -/
theorem exc.put {α : Type} {S : Nat → Bool} {D D0 : Nat → Nat → α} (h : exc S D D0) (f i : Nat) (x : α) : exc S (up2 D f i x) (up2 D0 f i x) := by
  intro g j hg
  rw [up2_eq, up2_eq]
  split
  · rfl
  · exact h g j hg
theorem up2_col {α : Type} {D : Nat → Nat → α} {f g i : Nat} {a b x y : α} (hfg : f ≠ g) : up2 (up2 (up2 (up2 D f i a) g i b) f i x) g i y = up2 (up2 D f i x) g i y := by
  funext h j
  simp only [up2_eq]
  by_cases h1 : h = g ∧ j = i <;> by_cases h2 : h = f ∧ j = i <;> simp only [h1, h2, if_true, if_false, true_and, and_true] <;> (repeat split) <;> first | rfl | (exfalso; omega) | skip
theorem exc_fxy {S : Nat → Bool} {D D1 : T64} {i : Nat} {a b x y : UInt64} (h : exc S D1 (up2 (up2 D 30 i a) 31 i b)) : exc S (up2 (up2 D1 30 i x) 31 i y) (up2 (up2 D 30 i x) 31 i y) := by
  have := (h.put 30 i x).put 31 i y
  rw [up2_col (by decide)] at this
  exact this
theorem cW_inj {A : Nat → Prop} {Dg : va_G} {dA : Nat → ClassId} {ad : Nat → Nat → Nat} {n nb nr no : Nat} {J : Jt} {R : Nat → Value} {D : T64} {I : T32} {H : Heap} (hW : cW A Dg dA ad n nb nr no J R D I H) {a b : Nat} (ha : a < n) (hb : b < n) (h : ad 2 a = ad 2 b) : a = b := (hW.2.1 2 a 2 b ha hb h).2
/-! rows -/
theorem getD_app {js : List Nat} {j k : Nat} : (js ++ [j]).getD k 0 = if k < js.length then js.getD k 0 else if k = js.length then j else 0 := by
  by_cases h1 : k < js.length
  · rw [if_pos h1, List.getD_eq_getElem?_getD, List.getD_eq_getElem?_getD, List.getElem?_append_left h1]
  · rw [if_neg h1, List.getD_eq_getElem?_getD, List.getElem?_append_right (by omega)]
    by_cases h2 : k = js.length
    · subst h2; simp
    · rw [if_neg h2]
      have : ¬ (k - js.length = 0) := by omega
      simp [List.getElem?_singleton, this]
theorem RowOK.push {I : T32} {i j : Nat} {js : List Nat} (h : RowOK I i js) : RowOK (up2 (up2 I 31 i (nI (js.length + 1))) 30 (js.length + 16 * i) (nI j)) i (js ++ [j]) := by
  refine ⟨?_, fun k hk => ?_⟩
  · rw [up2_f _ _ _ _ (by decide), up2_same]
    simp
  · rw [List.length_append, List.length_singleton] at hk
    rw [getD_app]
    by_cases h1 : k < js.length
    · rw [if_pos h1, up2_i _ _ _ _ (by omega), up2_f _ _ _ _ (by decide)]
      exact h.2 k h1
    · have h2 : k = js.length := by omega
      subst h2
      rw [if_neg h1, if_pos rfl, up2_same]
theorem RowOK.keep {I : T32} {i a m : Nat} {js : List Nat} {x y : Int32} (h : RowOK I a js) (hai : a ≠ i) (hm : m < 16) (hl : js.length ≤ 16) : RowOK (up2 (up2 I 31 i x) 30 (m + 16 * i) y) a js := by
  refine ⟨?_, fun k hk => ?_⟩
  · rw [up2_f _ _ _ _ (by decide), up2_i _ _ _ _ hai]; exact h.1
  · rw [up2_i _ _ _ _ (by omega), up2_f _ _ _ _ (by decide)]; exact h.2 k hk
theorem RowOK.zero {I : T32} {i : Nat} : RowOK (up2 I 31 i (nI 0)) i [] := ⟨up2_same _ _ _ _, fun k hk => absurd hk (Nat.not_lt_zero k)⟩
theorem RowOK.keep0 {I : T32} {i a : Nat} {js : List Nat} {x : Int32} (h : RowOK I a js) (hai : a ≠ i) : RowOK (up2 I 31 i x) a js := by
  refine ⟨?_, fun k hk => ?_⟩
  · rw [up2_i _ _ _ _ hai]; exact h.1
  · rw [up2_f _ _ _ _ (by decide)]; exact h.2 k hk
theorem RowOK.cg {I I1 : T32} {S : Nat → Bool} {i : Nat} {js : List Nat} (h : RowOK I i js) (h1 : exc S I1 I) (h30 : S 30 = false) (h31 : S 31 = false) : RowOK I1 i js := ⟨(h1 31 i h31).trans h.1, fun k hk => (h1 30 _ h30).trans (h.2 k hk)⟩
/-! the list's making -/
def lsT (k : Nat) (D : T64) : T64 := tg k (s2 5 6) (g2 5 (fun j => D 0 j) (fun j => D 1 j)) D
theorem lsT_0 {D : T64} : lsT 0 D = D := tg_0
theorem lsT_step {k : Nat} {D : T64} : up2 (up2 (lsT k D) 5 k (D 0 k)) 6 k (D 1 k) = lsT (k + 1) D := tg_s2 (by decide) rfl rfl
theorem lsT_out {k f i : Nat} {D : T64} (h5 : f ≠ 5) (h6 : f ≠ 6) : lsT k D f i = D f i := tg_out (by simp [s2, beq_f h5, beq_f h6])
theorem agD.ls {D D0 : T64} (h : agD D D0) (k : Nat) : agD (lsT k D) (lsT k D0) := by
  intro f i hf
  cases hs : s2 5 6 f with
  | false => unfold lsT; rw [tg_out hs, tg_out hs]; exact h f i hf
  | true =>
    by_cases hk : i < k
    · unfold lsT
      rw [tg_in hs hk, tg_in hs hk]
      rcases s2_or hs with rfl | rfl
      · exact h 0 i rfl
      · exact h 1 i rfl
    · unfold lsT; rw [tg_hi hk, tg_hi hk]; exact h f i hf
theorem Bd.ls {n nb nr k : Nat} {J : Jt} {D : T64} (h : Bd n nb nr J D) : Bd n nb nr J (lsT k D) := by
  refine ⟨h.1, h.2.1, h.2.2.1, fun i hi => ?_, h.2.2.2.2⟩
  by_cases hk : i < k
  · unfold lsT
    rw [tg_in rfl hk, tg_in rfl hk]
    exact ⟨h.x hi, h.y hi⟩
  · unfold lsT
    rw [tg_hi hk, tg_hi hk]
    exact h.2.2.2.1 i hi
/-- int numbers of the list -/
def sR : Nat → Bool := s2 30 31
def sI : Nat → Bool := s4 23 25 30 31
theorem sRI : ∀ f, sI f = false → sR f = false := by
  intro f h
  cases hb : sR f with
  | false => rfl
  | true =>
    rcases s2_or hb with rfl | rfl
    · exact absurd h (by decide)
    · exact absurd h (by decide)
/-- the class's rows: by now, or by the time when the list was made -/
def jsC (D : T64) (li : Int32) (n i : Nat) : List Nat := bif oldB D li n then nbs D i n else nbs (atL D) i n
theorem jsC_len {D : T64} {li : Int32} {n i : Nat} : (jsC D li n i).length ≤ n := by
  unfold jsC
  cases oldB D li n with
  | true => exact nbs_len
  | false => exact nbs_len
theorem getD_mem {js : List Nat} {k : Nat} (h : k < js.length) : js.getD k 0 ∈ js := by
  rw [List.getD_eq_getElem?_getD, List.getElem?_eq_getElem h]
  exact List.getElem_mem h
theorem jsC_lt {D : T64} {li : Int32} {n i k : Nat} (h : k < (jsC D li n i).length) : (jsC D li n i).getD k 0 < n := by
  have h1 := getD_mem h
  revert h1
  generalize (jsC D li n i).getD k 0 = q
  unfold jsC
  cases oldB D li n with
  | true => exact nbs_lt
  | false => exact nbs_lt
/-- the force on i -/
def fCx (D : T64) (J : Jt) (nb i : Nat) (js : List Nat) : UInt64 × UInt64 := fBo D J i (fPl D J i js js.length) nb
