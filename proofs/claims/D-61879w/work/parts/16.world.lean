set_option maxRecDepth 100000
/-! ===== the world: the cells of the class (kinds 0 .. 21) and of the model (30 .. 58), by tables: which slot holds which of the doubles D, the ints I, the references Rf ===== -/
abbrev vCl : List vw_C := [(RX1, TX1, 25), (RX2, TX2, 3), (RX6, TX6, 14), (RX7, TX7, 4), (RX8, TX8, 3), (RX3, TX3, 3), (RX4, TX4, 2), (RX5, TX5, 48), (RJ6, TJ6, 6)]
abbrev vTys (dA : Nat → ClassId) : List (ClassId × FieldType) := [(dA 0, .object "ParticleBox$Sort"), (dA 1, .object "ParticleBox$Atom"), (dA 2, .object "ParticleBox$Bond"), (dA 3, .object "ParticleBox$Rod"), (dA 4, .array .int), (dA 5, .int), (dA 6, .array .double), (dA 7, .double), (dA 8, .boolean), (dA 9, .long)]
def w_sh : Nat → Nat ⊕ (Nat × Nat)
  | 0 => .inl 0
  | 1 => .inl 1
  | 2 => .inl 2
  | 3 => .inl 3
  | 4 => .inl 4
  | 5 => .inl 5
  | 6 => .inl 6
  | 10 => .inr (0, 3)
  | 11 => .inr (1, 10)
  | 12 => .inr (2, 8)
  | 13 => .inr (3, 4)
  | 14 => .inr (4, 10)
  | 15 => .inr (5, 10)
  | 16 => .inr (5, 10)
  | 17 => .inr (6, 10)
  | 18 => .inr (7, 4)
  | 19 => .inr (4, 9)
  | 20 => .inr (5, 16)
  | 21 => .inr (5, 3)
  | 22 => .inr (5, 10)
  | 30 => .inl 7
  | 31 => .inr (7, 10)
  | 32 => .inr (7, 10)
  | 33 => .inr (7, 10)
  | 34 => .inr (7, 10)
  | 35 => .inr (7, 10)
  | 36 => .inr (5, 10)
  | 37 => .inr (8, 10)
  | 38 => .inr (7, 3)
  | 39 => .inr (7, 3)
  | 40 => .inr (7, 3)
  | 41 => .inr (5, 8)
  | 42 => .inr (5, 8)
  | 43 => .inr (5, 4)
  | 44 => .inr (5, 4)
  | 45 => .inr (7, 8)
  | 46 => .inr (7, 8)
  | 47 => .inr (7, 4)
  | 48 => .inr (7, 10)
  | 49 => .inr (7, 10)
  | 50 => .inr (7, 10)
  | 51 => .inr (7, 10)
  | 52 => .inr (7, 10)
  | 53 => .inr (7, 10)
  | 54 => .inr (7, 10)
  | 55 => .inr (7, 10)
  | 56 => .inr (7, 10)
  | 57 => .inr (7, 10)
  | 58 => .inr (5, 144)
  | _ => .inr (5, 0)
def w_len : Nat → Nat
  | 0 => 25
  | 1 => 3
  | 2 => 14
  | 3 => 4
  | 4 => 3
  | 5 => 3
  | 6 => 2
  | 10 => 3
  | 11 => 10
  | 12 => 8
  | 13 => 4
  | 14 => 10
  | 15 => 10
  | 16 => 10
  | 17 => 10
  | 18 => 4
  | 19 => 9
  | 20 => 16
  | 21 => 3
  | 22 => 10
  | 30 => 48
  | 31 => 10
  | 32 => 10
  | 33 => 10
  | 34 => 10
  | 35 => 10
  | 36 => 10
  | 37 => 10
  | 38 => 3
  | 39 => 3
  | 40 => 3
  | 41 => 8
  | 42 => 8
  | 43 => 4
  | 44 => 4
  | 45 => 8
  | 46 => 8
  | 47 => 4
  | 48 => 10
  | 49 => 10
  | 50 => 10
  | 51 => 10
  | 52 => 10
  | 53 => 10
  | 54 => 10
  | 55 => 10
  | 56 => 10
  | 57 => 10
  | 58 => 144
  | _ => 0
/-- kind, place: tag (0 double, 1 int, else reference), number, stride (0: an object) -/
def w_src : Nat → Nat → Nat × Nat × Nat
  | 0, j => ([(0, 20, 0), (0, 21, 0), (0, 22, 0), (0, 43, 0), (2, 0, 0), (2, 1, 0), (2, 2, 0), (2, 3, 0), (1, 20, 0), (1, 21, 0), (1, 22, 0), (2, 4, 0), (2, 5, 0), (2, 6, 0), (2, 7, 0), (2, 8, 0), (1, 23, 0), (2, 9, 0), (2, 10, 0), (1, 24, 0), (1, 25, 0), (1, 26, 0), (1, 27, 0), (2, 11, 0), (1, 40, 0)] : List (Nat × Nat × Nat)).getD j (9, 0, 0)
  | 1, j => ([(0, 7, 0), (0, 8, 0), (0, 9, 0)] : List (Nat × Nat × Nat)).getD j (9, 0, 0)
  | 2, j => ([(0, 4, 0), (2, 19, 0), (2, 26, 0), (0, 0, 0), (0, 1, 0), (0, 2, 0), (0, 3, 0), (0, 30, 0), (0, 31, 0), (1, 1, 0), (0, 32, 0), (0, 33, 0), (0, 5, 0), (0, 6, 0)] : List (Nat × Nat × Nat)).getD j (9, 0, 0)
  | 3, j => ([(2, 20, 0), (2, 21, 0), (0, 10, 0), (0, 11, 0)] : List (Nat × Nat × Nat)).getD j (9, 0, 0)
  | 4, j => ([(2, 22, 0), (2, 23, 0), (0, 12, 0)] : List (Nat × Nat × Nat)).getD j (9, 0, 0)
  | 5, j => ([(0, 36, 0), (2, 24, 0), (2, 25, 0)] : List (Nat × Nat × Nat)).getD j (9, 0, 0)
  | 6, j => ([(0, 34, 0), (0, 35, 0)] : List (Nat × Nat × Nat)).getD j (9, 0, 0)
  | 10, _ => (2, 12, 16)
  | 11, _ => (2, 13, 16)
  | 12, _ => (2, 14, 16)
  | 13, _ => (2, 15, 16)
  | 14, _ => (2, 16, 16)
  | 15, _ => (1, 30, 16)
  | 16, _ => (1, 31, 16)
  | 17, _ => (2, 17, 16)
  | 18, _ => (0, 37, 4)
  | 19, _ => (2, 18, 16)
  | 20, _ => (1, 6, 16)
  | 21, _ => (1, 28, 16)
  | 22, _ => (1, 32, 16)
  | 30, j => ([(0, 20, 0), (0, 21, 0), (0, 22, 0), (0, 23, 0), (2, 64, 0), (2, 65, 0), (2, 66, 0), (2, 67, 0), (2, 68, 0), (2, 69, 0), (2, 70, 0), (2, 71, 0), (2, 72, 0), (2, 73, 0), (1, 20, 0), (1, 21, 0), (1, 22, 0), (2, 77, 0), (2, 78, 0), (2, 79, 0), (2, 80, 0), (2, 81, 0), (2, 82, 0), (2, 83, 0), (2, 84, 0), (2, 85, 0), (1, 23, 0), (2, 87, 0), (2, 88, 0), (2, 89, 0), (2, 90, 0), (2, 91, 0), (2, 92, 0), (2, 93, 0), (2, 94, 0), (2, 95, 0), (1, 24, 0), (1, 25, 0), (1, 26, 0), (1, 27, 0), (1, 50, 0), (1, 51, 0), (1, 52, 0), (1, 42, 0), (1, 43, 0), (0, 50, 0), (0, 51, 0), (0, 52, 0)] : List (Nat × Nat × Nat)).getD j (9, 0, 0)
  | 31, _ => (0, 0, 16)
  | 32, _ => (0, 1, 16)
  | 33, _ => (0, 2, 16)
  | 34, _ => (0, 3, 16)
  | 35, _ => (0, 4, 16)
  | 36, _ => (1, 0, 16)
  | 37, _ => (1, 1, 16)
  | 38, _ => (0, 7, 16)
  | 39, _ => (0, 8, 16)
  | 40, _ => (0, 9, 16)
  | 41, _ => (1, 2, 16)
  | 42, _ => (1, 3, 16)
  | 43, _ => (1, 4, 16)
  | 44, _ => (1, 5, 16)
  | 45, _ => (0, 10, 16)
  | 46, _ => (0, 11, 16)
  | 47, _ => (0, 12, 16)
  | 48, _ => (0, 5, 16)
  | 49, _ => (0, 6, 16)
  | 50, _ => (0, 44, 16)
  | 51, _ => (0, 45, 16)
  | 52, _ => (0, 46, 16)
  | 53, _ => (0, 47, 16)
  | 54, _ => (0, 32, 16)
  | 55, _ => (0, 33, 16)
  | 56, _ => (0, 30, 16)
  | 57, _ => (0, 31, 16)
  | 58, _ => (1, 6, 144)
  | _, _ => (9, 0, 0)
abbrev w_ksC : List Nat := [0, 1, 2, 3, 4, 5, 6, 10, 11, 12, 13, 14, 15, 16, 17, 18, 19, 20, 21, 22]
abbrev w_ksM : List Nat := [30, 31, 32, 33, 34, 35, 36, 37, 38, 39, 40, 41, 42, 43, 44, 45, 46, 47, 48, 49, 50, 51, 52, 53, 54, 55, 56, 57, 58]
def cN (n nb nr no : Nat) : Nat → Nat
  | 0 => 1
  | 1 => 3
  | 2 => n
  | 3 => nb
  | 4 => nr
  | 5 => 1
  | 6 => 2
  | 10 => 1
  | 11 => 1
  | 12 => 1
  | 13 => 1
  | 14 => 1
  | 15 => 10
  | 16 => 1
  | 17 => 1
  | 18 => 10
  | 19 => 1
  | 20 => 9
  | 21 => 1
  | 22 => no
  | _ => 0
def mN : Nat → Nat
  | 30 => 1
  | 31 => 1
  | 32 => 1
  | 33 => 1
  | 34 => 1
  | 35 => 1
  | 36 => 1
  | 37 => 1
  | 38 => 1
  | 39 => 1
  | 40 => 1
  | 41 => 1
  | 42 => 1
  | 43 => 1
  | 44 => 1
  | 45 => 1
  | 46 => 1
  | 47 => 1
  | 48 => 1
  | 49 => 1
  | 50 => 1
  | 51 => 1
  | 52 => 1
  | 53 => 1
  | 54 => 1
  | 55 => 1
  | 56 => 1
  | 57 => 1
  | 58 => 1
  | _ => 0
def cR (ad : Nat → Nat → Nat) (n nb nr : Nat) (J : Nat → Nat → Nat) (R : Nat → Value) : Nat → Nat → Value
  | 0, _ => .ref (ad 10 0)
  | 1, _ => .ref (ad 11 0)
  | 2, _ => .ref (ad 12 0)
  | 3, _ => .ref (ad 13 0)
  | 4, _ => .ref (ad 5 0)
  | 5, _ => .ref (ad 6 0)
  | 6, _ => .ref (ad 6 1)
  | 7, _ => .ref (ad 14 0)
  | 8, _ => .ref (ad 16 0)
  | 9, _ => .ref (ad 17 0)
  | 10, _ => .ref (ad 19 0)
  | 11, _ => .ref (ad 21 0)
  | 12, i => .ref (ad 1 i)
  | 13, i => if i < n then .ref (ad 2 i) else .null
  | 14, i => if i < nb then .ref (ad 3 i) else .null
  | 15, i => if i < nr then .ref (ad 4 i) else .null
  | 16, i => .ref (ad 15 i)
  | 17, i => .ref (ad 18 i)
  | 18, i => .ref (ad 20 i)
  | 19, i => .ref (ad 1 (J 0 i))
  | 20, i => .ref (ad 2 (J 2 i))
  | 21, i => .ref (ad 2 (J 3 i))
  | 22, i => .ref (ad 2 (J 4 i))
  | 23, i => .ref (ad 2 (J 5 i))
  | 24, _ => R 0
  | 25, _ => R 1
  | _, i => .int (nI i)
def mR (ad : Nat → Nat → Nat) : Nat → Nat → Value
  | 64, _ => .ref (ad 31 0)
  | 65, _ => .ref (ad 32 0)
  | 66, _ => .ref (ad 33 0)
  | 67, _ => .ref (ad 34 0)
  | 68, _ => .ref (ad 35 0)
  | 69, _ => .ref (ad 36 0)
  | 70, _ => .ref (ad 37 0)
  | 71, _ => .ref (ad 38 0)
  | 72, _ => .ref (ad 39 0)
  | 73, _ => .ref (ad 40 0)
  | 77, _ => .ref (ad 41 0)
  | 78, _ => .ref (ad 42 0)
  | 79, _ => .ref (ad 43 0)
  | 80, _ => .ref (ad 44 0)
  | 81, _ => .ref (ad 45 0)
  | 82, _ => .ref (ad 46 0)
  | 83, _ => .ref (ad 47 0)
  | 84, _ => .ref (ad 48 0)
  | 85, _ => .ref (ad 49 0)
  | 87, _ => .ref (ad 50 0)
  | 88, _ => .ref (ad 51 0)
  | 89, _ => .ref (ad 52 0)
  | 90, _ => .ref (ad 53 0)
  | 91, _ => .ref (ad 54 0)
  | 92, _ => .ref (ad 55 0)
  | 93, _ => .ref (ad 56 0)
  | 94, _ => .ref (ad 57 0)
  | 95, _ => .ref (ad 58 0)
  | _, _ => .null
/-- a function of two numbers, changed at one place -/
def up2 {α : Type} (D : Nat → Nat → α) (f i : Nat) (x : α) : Nat → Nat → α := fun g j => bif (Nat.beq g f && Nat.beq j i) then x else D g j
theorem up2_same {α : Type} (D : Nat → Nat → α) (f i : Nat) (x : α) : up2 D f i x f i = x := by simp [up2]
theorem up2_f {α : Type} (D : Nat → Nat → α) {f g : Nat} (i : Nat) (x : α) (j : Nat) (h : g ≠ f) : up2 D f i x g j = D g j := by
  have : Nat.beq g f = false := by
    cases hb : Nat.beq g f with
    | false => rfl
    | true => exact absurd (Nat.eq_of_beq_eq_true hb) h
  simp [up2, this]
theorem up2_i {α : Type} (D : Nat → Nat → α) (f : Nat) {i j : Nat} (x : α) (g : Nat) (h : j ≠ i) : up2 D f i x g j = D g j := by
  have : Nat.beq j i = false := by
    cases hb : Nat.beq j i with
    | false => rfl
    | true => exact absurd (Nat.eq_of_beq_eq_true hb) h
  simp [up2, this]
theorem up2_eq {α : Type} (D : Nat → Nat → α) (f i : Nat) (x : α) (g j : Nat) : up2 D f i x g j = if g = f ∧ j = i then x else D g j := by
  by_cases h : g = f
  · by_cases h2 : j = i
    · subst h; subst h2; simp [up2_same]
    · rw [up2_i _ _ _ _ h2]; simp [h2]
  · rw [up2_f _ _ _ _ h]; simp [h]
def wix : Nat → Nat → Nat → Nat
  | 0, b, _ => b
  | st + 1, b, j => j + (st + 1) * b
def wV (Rf : Nat → Nat → Value) (D : Nat → Nat → UInt64) (I : Nat → Nat → Int32) (k b j : Nat) : Value :=
  match w_src k j with
  | (0, f, st) => .double (D f (wix st b j))
  | (1, f, st) => .int (I f (wix st b j))
  | (_, f, st) => Rf f (wix st b j)
theorem wV_D {Rf : Nat → Nat → Value} {D : Nat → Nat → UInt64} {I : Nat → Nat → Int32} {k b j f st : Nat} (h : w_src k j = (0, f, st)) : wV Rf D I k b j = .double (D f (wix st b j)) := by unfold wV; rw [h]; rfl
theorem wV_I {Rf : Nat → Nat → Value} {D : Nat → Nat → UInt64} {I : Nat → Nat → Int32} {k b j f st : Nat} (h : w_src k j = (1, f, st)) : wV Rf D I k b j = .int (I f (wix st b j)) := by unfold wV; rw [h]; rfl
theorem wV_R {Rf : Nat → Nat → Value} {D : Nat → Nat → UInt64} {I : Nat → Nat → Int32} {k b j f st : Nat} (h : w_src k j = (2, f, st)) : wV Rf D I k b j = Rf f (wix st b j) := by unfold wV; rw [h]; rfl
/-- the tables' numbers are apart within a list of kinds -/
def w_ok (ks : List Nat) : Bool := ks.all fun k => (List.range (w_len k)).all fun j => ks.all fun k' => (List.range (w_len k')).all fun j' =>
  !(decide ((w_src k j).1 = (w_src k' j').1) && decide ((w_src k j).2.1 = (w_src k' j').2.1)) || (decide (k = k') && (decide ((w_src k j).2.2 = (w_src k' j').2.2) && (decide (j = j') || (decide ((w_src k j).2.2 ≠ 0) && decide (w_len k ≤ (w_src k j).2.2)))))
def w_sup (N : Nat → Nat) : Prop := ∃ ks, w_ok ks = true ∧ ∀ k, 0 < N k → k ∈ ks
theorem w_inj {N : Nat → Nat} (h : w_sup N) {k j k' j' : Nat} (hk : 0 < N k) (hk' : 0 < N k') (hj : j < w_len k) (hj' : j' < w_len k') (h1 : (w_src k j).1 = (w_src k' j').1) (h2 : (w_src k j).2.1 = (w_src k' j').2.1) : k = k' ∧ (w_src k j).2.2 = (w_src k' j').2.2 ∧ (j = j' ∨ ((w_src k j).2.2 ≠ 0 ∧ w_len k ≤ (w_src k j).2.2)) := by
  obtain ⟨ks, hok, hin⟩ := h
  have a1 := List.all_eq_true.mp hok k (hin k hk)
  have a2 := List.all_eq_true.mp a1 j (List.mem_range.mpr hj)
  have a3 := List.all_eq_true.mp a2 k' (hin k' hk')
  have a4 := List.all_eq_true.mp a3 j' (List.mem_range.mpr hj')
  simp only [h1, h2, decide_true, Bool.and_self, Bool.not_true, Bool.false_or, Bool.and_eq_true, Bool.or_eq_true, decide_eq_true_eq] at a4
  exact a4
theorem c_ok : w_ok w_ksC = true := by decide +kernel
theorem m_ok : w_ok w_ksM = true := by decide +kernel
def wd_cell (Dg : va_G) (dA : Nat → ClassId) (k a : Nat) (v : Nat → Value) (H : Heap) : Prop := match w_sh k with
  | .inl ci => ∃ r : vw_C, vCl[ci]? = some r ∧ r.2.2 = w_len k ∧ t_OB a (Dg.1 ci) r.2.2 (Dg.2 ci) H v
  | .inr q => q.2 = w_len k ∧ H[a]? = some (arrV (dA q.1) q.2 v)
/-- the cells of the kinds and numbers that N has, at ad, hold V; they lie in A -/
def World (A : Nat → Prop) (Dg : va_G) (dA : Nat → ClassId) (N : Nat → Nat) (ad : Nat → Nat → Nat) (V : Nat → Nat → Nat → Value) (H : Heap) : Prop :=
  w_sup N ∧ (∀ k b k' b', b < N k → b' < N k' → ad k b = ad k' b' → k = k' ∧ b = b') ∧ (∀ k b, b < N k → A (ad k b)) ∧ ∀ k b, b < N k → wd_cell Dg dA k (ad k b) (V k b) H
theorem arrV_congr {cA : ClassId} {n : Nat} {v v' : Nat → Value} (h : ∀ j, j < n → v j = v' j) : arrV cA n v = arrV cA n v' := by
  unfold arrV
  congr 1
  apply Array.ext
  · simp
  · intro j h1 h2
    simp only [Array.getElem_ofFn]
    exact h j (by simpa using h1)
theorem wd_cell.to {Dg : va_G} {dA : Nat → ClassId} {k a : Nat} {v v' : Nat → Value} {H : Heap} (h : wd_cell Dg dA k a v H) (hv : ∀ j, j < w_len k → v j = v' j) : wd_cell Dg dA k a v' H := by
  unfold wd_cell at h ⊢
  split at h
  · obtain ⟨r, h1, h2, h3⟩ := h
    exact ⟨r, h1, h2, h3.to (fun j hj => hv j (by rw [← h2]; exact hj))⟩
  · exact ⟨h.1, by rw [h.2, arrV_congr (fun j hj => hv j (by rw [← h.1]; exact hj))]⟩
theorem wd_cell.kept {Dg : va_G} {dA : Nat → ClassId} {k a : Nat} {v : Nat → Value} {H H1 : Heap} (h : wd_cell Dg dA k a v H) (hq : H1[a]? = H[a]?) : wd_cell Dg dA k a v H1 := by
  unfold wd_cell at h ⊢
  split at h
  · obtain ⟨r, h1, h2, h3⟩ := h
    exact ⟨r, h1, h2, h3.kept hq⟩
  · exact ⟨h.1, by rw [hq]; exact h.2⟩
theorem wd_cell.lt {Dg : va_G} {dA : Nat → ClassId} {k a : Nat} {v : Nat → Value} {H : Heap} (h : wd_cell Dg dA k a v H) : a < H.size := by
  unfold wd_cell at h
  split at h
  · obtain ⟨r, h1, h2, cell, h3, -⟩ := h
    exact (Array.getElem?_eq_some_iff.mp h3).1
  · exact (Array.getElem?_eq_some_iff.mp h.2).1
theorem World.congr {A : Nat → Prop} {Dg : va_G} {dA : Nat → ClassId} {N : Nat → Nat} {ad : Nat → Nat → Nat} {V V' : Nat → Nat → Nat → Value} {H : Heap} (h : World A Dg dA N ad V H) (hv : ∀ k b j, b < N k → j < w_len k → V k b j = V' k b j) : World A Dg dA N ad V' H :=
  ⟨h.1, h.2.1, h.2.2.1, fun k b hb => (h.2.2.2 k b hb).to (fun j hj => hv k b j hb hj)⟩
theorem World.kept {A : Nat → Prop} {Dg : va_G} {dA : Nat → ClassId} {N : Nat → Nat} {ad : Nat → Nat → Nat} {V : Nat → Nat → Nat → Value} {H H1 : Heap} (h : World A Dg dA N ad V H) (hk : ∀ k b, b < N k → H1[ad k b]? = H[ad k b]?) : World A Dg dA N ad V H1 :=
  ⟨h.1, h.2.1, h.2.2.1, fun k b hb => (h.2.2.2 k b hb).kept (hk k b hb)⟩
def wd_up (V : Nat → Nat → Nat → Value) (k b j : Nat) (v : Value) : Nat → Nat → Nat → Value := fun k' b' j' => if k' = k ∧ b' = b ∧ j' = j then v else V k' b' j'
theorem World.set {A : Nat → Prop} {Dg : va_G} {dA : Nat → ClassId} {N : Nat → Nat} {ad : Nat → Nat → Nat} {V : Nat → Nat → Nat → Value} {H H1 : Heap} (h : World A Dg dA N ad V H) {k b j : Nat} {v : Value} (hb : b < N k) (hc : wd_cell Dg dA k (ad k b) (updV (V k b) j v) H1) (oq : ∀ q : Nat, q ≠ ad k b → H1[q]? = H[q]?) : World A Dg dA N ad (wd_up V k b j v) H1 := by
  refine ⟨h.1, h.2.1, h.2.2.1, fun k' b' hb' => ?_⟩
  by_cases hkb : k' = k ∧ b' = b
  · obtain ⟨rfl, rfl⟩ := hkb
    refine hc.to (fun j' _ => ?_)
    simp [updV, wd_up]
  · refine ((h.2.2.2 k' b' hb').kept (oq _ (fun e => hkb (h.2.1 k' b' k b hb' hb e)))).to (fun j' _ => ?_)
    have : ¬ (k' = k ∧ b' = b ∧ j' = j) := fun q => hkb ⟨q.1, q.2.1⟩
    simp [wd_up, this]
theorem wix_inj {st len b j b' j' : Nat} (hst : st ≠ 0) (hl : len ≤ st) (hj : j < len) (hj' : j' < len) (h : wix st b j = wix st b' j') : b = b' ∧ j = j' := by
  obtain ⟨st, rfl⟩ := Nat.exists_eq_succ_of_ne_zero hst
  have h1 : j + (st + 1) * b = j' + (st + 1) * b' := h
  have hj1 : j < st + 1 := by omega
  have hj2 : j' < st + 1 := by omega
  have e1 : (j + (st + 1) * b) / (st + 1) = b := by rw [Nat.add_mul_div_left _ _ (by omega), Nat.div_eq_of_lt hj1, Nat.zero_add]
  have e2 : (j' + (st + 1) * b') / (st + 1) = b' := by rw [Nat.add_mul_div_left _ _ (by omega), Nat.div_eq_of_lt hj2, Nat.zero_add]
  have hb : b = b' := by rw [← e1, ← e2, h1]
  subst hb
  exact ⟨rfl, by omega⟩
theorem World.apart {A : Nat → Prop} {Dg : va_G} {dA : Nat → ClassId} {N : Nat → Nat} {ad : Nat → Nat → Nat} {V : Nat → Nat → Nat → Value} {H : Heap} (h : World A Dg dA N ad V H) {k b j k' b' j' f st f' st' t : Nat} (hb : b < N k) (hb' : b' < N k') (hj : j < w_len k) (hj' : j' < w_len k') (hs : w_src k j = (t, f, st)) (hs' : w_src k' j' = (t, f', st')) (hne : ¬ (k' = k ∧ b' = b ∧ j' = j)) : ¬ (f' = f ∧ wix st' b' j' = wix st b j) := by
  intro ⟨e1, e2⟩
  obtain ⟨rfl, h1, h2⟩ := w_inj h.1 (Nat.lt_of_le_of_lt (Nat.zero_le _) hb') (Nat.lt_of_le_of_lt (Nat.zero_le _) hb) hj' hj (by rw [hs, hs']) (by rw [hs, hs']; exact e1)
  rw [hs, hs'] at h1
  have h1 : st' = st := h1
  subst h1
  rcases h2 with rfl | ⟨h2, h3⟩
  · cases st' with
    | zero => exact hne ⟨rfl, e2, rfl⟩
    | succ st1 =>
      have e3 : j' + (st1 + 1) * b' = j' + (st1 + 1) * b := e2
      have e4 : (st1 + 1) * b' = (st1 + 1) * b := by omega
      exact hne ⟨rfl, Nat.eq_of_mul_eq_mul_left (by omega) e4, rfl⟩
  · rw [hs'] at h2 h3
    obtain ⟨rfl, rfl⟩ := wix_inj h2 h3 hj' hj e2
    exact hne ⟨rfl, rfl, rfl⟩
theorem World.putD {A : Nat → Prop} {Dg : va_G} {dA : Nat → ClassId} {N : Nat → Nat} {ad : Nat → Nat → Nat} {Rf : Nat → Nat → Value} {D : Nat → Nat → UInt64} {I : Nat → Nat → Int32} {H : Heap} {k b j f st : Nat} {x : UInt64} (h : World A Dg dA N ad (wd_up (wV Rf D I) k b j (.double x)) H) (hb : b < N k) (hj : j < w_len k) (hs : w_src k j = (0, f, st)) : World A Dg dA N ad (wV Rf (up2 D f (wix st b j) x) I) H := by
  refine h.congr (fun k' b' j' hb' hj' => ?_)
  by_cases hq : k' = k ∧ b' = b ∧ j' = j
  · obtain ⟨rfl, rfl, rfl⟩ := hq
    simp [wd_up, wV_D hs, up2_same]
  · simp only [wd_up, if_neg hq]
    rcases hs' : w_src k' j' with ⟨t', f', st'⟩
    unfold wV
    rw [hs']
    match t', hs' with
    | 0, hs' =>
      show Value.double (D f' (wix st' b' j')) = .double (up2 D f (wix st b j) x f' (wix st' b' j'))
      rw [up2_eq, if_neg (h.apart hb hb' hj hj' hs hs' hq)]
    | 1, _ => rfl
    | t' + 2, _ => rfl
theorem World.putI {A : Nat → Prop} {Dg : va_G} {dA : Nat → ClassId} {N : Nat → Nat} {ad : Nat → Nat → Nat} {Rf : Nat → Nat → Value} {D : Nat → Nat → UInt64} {I : Nat → Nat → Int32} {H : Heap} {k b j f st : Nat} {x : Int32} (h : World A Dg dA N ad (wd_up (wV Rf D I) k b j (.int x)) H) (hb : b < N k) (hj : j < w_len k) (hs : w_src k j = (1, f, st)) : World A Dg dA N ad (wV Rf D (up2 I f (wix st b j) x)) H := by
  refine h.congr (fun k' b' j' hb' hj' => ?_)
  by_cases hq : k' = k ∧ b' = b ∧ j' = j
  · obtain ⟨rfl, rfl, rfl⟩ := hq
    simp [wd_up, wV_I hs, up2_same]
  · simp only [wd_up, if_neg hq]
    rcases hs' : w_src k' j' with ⟨t', f', st'⟩
    unfold wV
    rw [hs']
    match t', hs' with
    | 0, _ => rfl
    | 1, hs' =>
      show Value.int (I f' (wix st' b' j')) = .int (up2 I f (wix st b j) x f' (wix st' b' j'))
      rw [up2_eq, if_neg (h.apart hb hb' hj hj' hs hs' hq)]
    | t' + 2, _ => rfl
theorem c_sup (n nb nr no : Nat) : w_sup (cN n nb nr no) := by
  refine ⟨w_ksC, c_ok, fun k hk => ?_⟩
  unfold cN at hk
  split at hk <;> first | decide | omega
theorem m_sup : w_sup mN := by
  refine ⟨w_ksM, m_ok, fun k hk => ?_⟩
  unfold mN at hk
  split at hk <;> first | decide | omega
section WROWS
variable {p : Program} {l : Launch} {e : Env} {R : Room} {s : State} {m : MethodId} {args : Array Value} {below : List Frame} {meth : Method} {c : Code} {H : Heap} {locs : List Loc} {cells slots : Nat} {Q : State → Prop}
variable {cc : ByteArray} {pc : Nat} {ls : Array Slot} {rest : List Value} {A : Nat → Prop} {Dg : va_G} {dA : Nat → ClassId} {N : Nat → Nat} {ad : Nat → Nat → Nat} {Rf : Nat → Nat → Value} {D : Nat → Nat → UInt64} {I : Nat → Nat → Int32} {own : String}
/-- what every row asks -/
def Cx (p : Program) (s : State) (m : MethodId) (args : Array Value) (c : Code) (cc : ByteArray) (own : String) (Dg : va_G) (dA : Nat → ClassId) : Prop := p.tables.exec = Jvm.exec ∧ c.code = cc ∧ s.vm.findClass own = some m.cls ∧ (∀ w ∈ lw_car, w.before args s = true) ∧ va_K Dg vCl (vTys dA) s
/-- a class's rows: its number, its table, its words -/
def w_cls (ci : Nat) (C : String) (T : u_T) (Nf : Nat) (ty : Nat → FieldType) : Prop := vCl[ci]? = some (C, T, Nf) ∧ (∀ w ∈ u_ws C T Nf, w ∈ lw_all) ∧ (∀ k, k < Nf → parseFieldDescriptor (T k).2.2.1 = some (ty k)) ∧ ∀ a, a < Nf → ∀ b, b < Nf → a ≠ b → (T a).2.1 ≠ (T b).2.1
theorem w_get {V : Nat → Nat → Nat → Value} (Z : Cx p s m args c cc own Dg dA) (hW : World A Dg dA N ad V H) {k b ci : Nat} {C : String} {T : u_T} {Nf : Nat} {ty : Nat → FieldType} (hC : w_cls ci C T Nf ty) (hsh : w_sh k = .inl ci) (j : Nat) (hj : j < Nf) {index : Nat} (hlink : Cond.fieldLink own index (T j).1 (T j).2.1 (T j).2.2.1 ∈ lw_all) (hbN : b < N k) {v : Value} (hv : V k b j = v) (hdg : decode cc pc = .ok (.getfield index, 3))
    (kk : W p l e R s m args below meth c H locs cells slots Q (F0 m (pc + 3) ls (v :: rest))) : W p l e R s m args below meth c H locs cells slots Q (F0 m pc ls (.ref (ad k b) :: rest)) := by
  obtain ⟨hx, hb, hown, hts, hK⟩ := Z
  obtain ⟨hc, hin, hty, hnm⟩ := hC
  have h0 := hW.2.2.2 k b hbN
  unfold wd_cell at h0
  rw [hsh] at h0
  obtain ⟨r, h1, h2, cell, q1, q2, q3, q4⟩ := h0
  have hr : r = (C, T, Nf) := Option.some.inj (h1.symm.trans hc)
  subst hr
  obtain ⟨hS, hfc, kC, hkC, hkind⟩ := hK.1 ci _ hc
  obtain ⟨cf, kf, fi, f, hi, hsl⟩ := hS j hj
  refine W.getf hx hb hown (hts _ (lw_car_all hlink)) hi (u_facts hfc hkC (u_lays (fun w h => hts w (lw_car_all h)) hin hj) hi).1 q1 (by rw [q3]; exact fun h => by cases h) (v := v) ?_ rfl rfl hdg kk
  rw [hsl, q4 j hj, hv]
theorem w_put {V : Nat → Nat → Nat → Value} (Z : Cx p s m args c cc own Dg dA) (hW : World A Dg dA N ad V H) (hS0 : va_S A s.heap H locs) {k b ci : Nat} {C : String} {T : u_T} {Nf : Nat} {ty : Nat → FieldType} (hC : w_cls ci C T Nf ty) (hsh : w_sh k = .inl ci) (j : Nat) (hj : j < Nf) {index : Nat} (hlink : Cond.fieldLink own index (T j).1 (T j).2.1 (T j).2.2.1 ∈ lw_all) (hfin : (T j).2.2.2 = false) (hbN : b < N k) {v : Value} (hn : narrow (ty j) v = v) (hfit : fits (ty j) v = true) (hdg : decode cc pc = .ok (.putfield index, 3))
    (kk : ∀ (H1 : Heap) (locs1 : List Loc), World A Dg dA N ad (wd_up V k b j v) H1 → va_S A s.heap H1 locs1 → H1.size = H.size → W p l e R s m args below meth c H1 locs1 cells slots Q (F0 m (pc + 3) ls rest)) : W p l e R s m args below meth c H locs cells slots Q (F0 m pc ls (v :: .ref (ad k b) :: rest)) := by
  obtain ⟨hx, hb, hown, hts, hK⟩ := Z
  obtain ⟨hc, hin, hty, hnm⟩ := hC
  have hts' : ∀ w ∈ lw_all, w.before args s = true := fun w h => hts w (lw_car_all h)
  have hap := va_apart (own := own) hts' hin ty hty hnm hK hc
  have h0 := hW.2.2.2 k b hbN
  unfold wd_cell at h0
  rw [hsh] at h0
  obtain ⟨r, h1, h2, cell, q1, q2, q3, q4⟩ := h0
  have hr : r = (C, T, Nf) := Option.some.inj (h1.symm.trans hc)
  subst hr
  obtain ⟨hS, hfc, kC, hkC, hkind⟩ := hK.1 ci _ hc
  obtain ⟨cf, kf, fi, f, hi, hsl⟩ := hS j hj
  have hlay := hts' _ (hin _ (u_in_lay hj))
  unfold u_lay at hlay
  rw [if_neg (by rw [hfin]; decide)] at hlay
  have hst := (u_facts hfc hkC (u_lays hts' hin hj) hi).1
  have h6 := u_store hfc hkC hkind hlay hi (hty j hj) hn hfit
  refine W.putK hx hb (f := f) ⟨hown, hts' _ hlink, ⟨_, _, _, hi⟩, hst⟩ (by rw [q2]; exact h6) q1 q3 (by rw [hsl]; exact k2_hasslot (q4 j hj)) rfl rfl hdg fun H' e1 e2 e3 => ?_
  rw [hsl] at e1 ⊢
  refine kk H' _ (hW.set hbN ?_ e3) (hS0.put e2 e3 (hW.2.2.1 k b hbN)) e2
  unfold wd_cell
  rw [hsh]
  exact ⟨_, hc, h2, _, e1, q2, q3, t_set q4 hap hj v⟩
theorem w_getD (Z : Cx p s m args c cc own Dg dA) (hW : World A Dg dA N ad (wV Rf D I) H) {k b ci : Nat} {C : String} {T : u_T} {Nf : Nat} {ty : Nat → FieldType} (hC : w_cls ci C T Nf ty) (hsh : w_sh k = .inl ci) (j : Nat) (hj : j < Nf) {index : Nat} (hlink : Cond.fieldLink own index (T j).1 (T j).2.1 (T j).2.2.1 ∈ lw_all) (hbN : b < N k) {f : Nat} (hs : w_src k j = (0, f, 0)) (hdg : decode cc pc = .ok (.getfield index, 3))
    (kk : W p l e R s m args below meth c H locs cells slots Q (F0 m (pc + 3) ls (.double (D f b) :: rest))) : W p l e R s m args below meth c H locs cells slots Q (F0 m pc ls (.ref (ad k b) :: rest)) :=
  w_get Z hW hC hsh j hj hlink hbN (wV_D hs) hdg kk
theorem w_getI (Z : Cx p s m args c cc own Dg dA) (hW : World A Dg dA N ad (wV Rf D I) H) {k b ci : Nat} {C : String} {T : u_T} {Nf : Nat} {ty : Nat → FieldType} (hC : w_cls ci C T Nf ty) (hsh : w_sh k = .inl ci) (j : Nat) (hj : j < Nf) {index : Nat} (hlink : Cond.fieldLink own index (T j).1 (T j).2.1 (T j).2.2.1 ∈ lw_all) (hbN : b < N k) {f : Nat} (hs : w_src k j = (1, f, 0)) (hdg : decode cc pc = .ok (.getfield index, 3))
    (kk : W p l e R s m args below meth c H locs cells slots Q (F0 m (pc + 3) ls (.int (I f b) :: rest))) : W p l e R s m args below meth c H locs cells slots Q (F0 m pc ls (.ref (ad k b) :: rest)) :=
  w_get Z hW hC hsh j hj hlink hbN (wV_I hs) hdg kk
theorem w_getR (Z : Cx p s m args c cc own Dg dA) (hW : World A Dg dA N ad (wV Rf D I) H) {k b ci : Nat} {C : String} {T : u_T} {Nf : Nat} {ty : Nat → FieldType} (hC : w_cls ci C T Nf ty) (hsh : w_sh k = .inl ci) (j : Nat) (hj : j < Nf) {index : Nat} (hlink : Cond.fieldLink own index (T j).1 (T j).2.1 (T j).2.2.1 ∈ lw_all) (hbN : b < N k) {f : Nat} (hs : w_src k j = (2, f, 0)) {v : Value} (hv : Rf f b = v) (hdg : decode cc pc = .ok (.getfield index, 3))
    (kk : W p l e R s m args below meth c H locs cells slots Q (F0 m (pc + 3) ls (v :: rest))) : W p l e R s m args below meth c H locs cells slots Q (F0 m pc ls (.ref (ad k b) :: rest)) :=
  w_get Z hW hC hsh j hj hlink hbN ((wV_R hs).trans hv) hdg kk
theorem w_putD (Z : Cx p s m args c cc own Dg dA) (hW : World A Dg dA N ad (wV Rf D I) H) (hS0 : va_S A s.heap H locs) {k b ci : Nat} {C : String} {T : u_T} {Nf : Nat} {ty : Nat → FieldType} (hC : w_cls ci C T Nf ty) (hsh : w_sh k = .inl ci) (j : Nat) (hj : j < Nf) (hjl : j < w_len k) {index : Nat} (hlink : Cond.fieldLink own index (T j).1 (T j).2.1 (T j).2.2.1 ∈ lw_all) (hfin : (T j).2.2.2 = false) (hbN : b < N k) {f : Nat} (hs : w_src k j = (0, f, 0)) (hty : ty j = .double) {x : UInt64} (hdg : decode cc pc = .ok (.putfield index, 3))
    (kk : ∀ (H1 : Heap) (locs1 : List Loc), World A Dg dA N ad (wV Rf (up2 D f b x) I) H1 → va_S A s.heap H1 locs1 → W p l e R s m args below meth c H1 locs1 cells slots Q (F0 m (pc + 3) ls rest)) : W p l e R s m args below meth c H locs cells slots Q (F0 m pc ls (.double x :: .ref (ad k b) :: rest)) :=
  w_put Z hW hS0 hC hsh j hj hlink hfin hbN (by rw [hty]; rfl) (by rw [hty]; rfl) hdg (fun H1 locs1 h1 h2 _ => kk H1 locs1 (h1.putD hbN hjl hs) h2)
theorem w_putI (Z : Cx p s m args c cc own Dg dA) (hW : World A Dg dA N ad (wV Rf D I) H) (hS0 : va_S A s.heap H locs) {k b ci : Nat} {C : String} {T : u_T} {Nf : Nat} {ty : Nat → FieldType} (hC : w_cls ci C T Nf ty) (hsh : w_sh k = .inl ci) (j : Nat) (hj : j < Nf) (hjl : j < w_len k) {index : Nat} (hlink : Cond.fieldLink own index (T j).1 (T j).2.1 (T j).2.2.1 ∈ lw_all) (hfin : (T j).2.2.2 = false) (hbN : b < N k) {f : Nat} (hs : w_src k j = (1, f, 0)) {x : Int32} (hn : narrow (ty j) (.int x) = .int x) (hfit : fits (ty j) (.int x) = true) (hdg : decode cc pc = .ok (.putfield index, 3))
    (kk : ∀ (H1 : Heap) (locs1 : List Loc), World A Dg dA N ad (wV Rf D (up2 I f b x)) H1 → va_S A s.heap H1 locs1 → W p l e R s m args below meth c H1 locs1 cells slots Q (F0 m (pc + 3) ls rest)) : W p l e R s m args below meth c H locs cells slots Q (F0 m pc ls (.int x :: .ref (ad k b) :: rest)) :=
  w_put Z hW hS0 hC hsh j hj hlink hfin hbN hn hfit hdg (fun H1 locs1 h1 h2 _ => kk H1 locs1 (h1.putI hbN hjl hs) h2)
/-! arrays -/
theorem w_arr {V : Nat → Nat → Nat → Value} (hW : World A Dg dA N ad V H) {k b t n : Nat} (hsh : w_sh k = .inr (t, n)) (hbN : b < N k) : H[ad k b]? = some (arrV (dA t) n (V k b)) := by
  have h0 := hW.2.2.2 k b hbN
  unfold wd_cell at h0
  rw [hsh] at h0
  exact h0.2
theorem w_setA {V : Nat → Nat → Nat → Value} (hW : World A Dg dA N ad V H) {k b t n j : Nat} {v : Value} {H1 : Heap} (hsh : w_sh k = .inr (t, n)) (hbN : b < N k) (e1 : H1[ad k b]? = some ((arrV (dA t) n (V k b)).setSlot j v)) (e3 : ∀ q : Nat, q ≠ ad k b → H1[q]? = H[q]?) : World A Dg dA N ad (wd_up V k b j v) H1 := by
  refine hW.set hbN ?_ e3
  have h0 := hW.2.2.2 k b hbN
  unfold wd_cell at h0 ⊢
  rw [hsh] at h0 ⊢
  refine ⟨h0.1, ?_⟩
  rw [e1, arrV_store]
theorem w_ald (Z : Cx p s m args c cc own Dg dA) (hW : World A Dg dA N ad (wV Rf D I) H) {k b n j : Nat} {i : Int32} (hsh : w_sh k = .inr (7, n)) (hbN : b < N k) (hi : i = nI j) (hj : j < n) (hn : n < 1000) {f st ix : Nat} (hs : w_src k j = (0, f, st)) (hix : wix st b j = ix) (hdg : decode cc pc = .ok (.daload, 1))
    (kk : W p l e R s m args below meth c H locs cells slots Q (F0 m (pc + 1) ls (.double (D f ix) :: rest))) : W p l e R s m args below meth c H locs cells slots Q (F0 m pc ls (.int i :: .ref (ad k b) :: rest)) := by
  obtain ⟨hx, hb, hown, hts, hK⟩ := Z
  subst hi
  subst hix
  refine W.dald hx hb (w_arr hW hsh hbN) ((hK.2 7 _ rfl).1 n _) (fun q => by cases q) (by rw [arrV_size]; exact nI_in hj (by omega)) (v := .double (D f (wix st b j))) (by rw [nI_clamp (by omega), arrV_read _ _ hj, wV_D hs]) rfl rfl hdg kk
theorem w_ail (Z : Cx p s m args c cc own Dg dA) (hW : World A Dg dA N ad (wV Rf D I) H) {k b n j : Nat} {i : Int32} (hsh : w_sh k = .inr (5, n)) (hbN : b < N k) (hi : i = nI j) (hj : j < n) (hn : n < 1000) {f st ix : Nat} (hs : w_src k j = (1, f, st)) (hix : wix st b j = ix) (hdg : decode cc pc = .ok (.iaload, 1))
    (kk : W p l e R s m args below meth c H locs cells slots Q (F0 m (pc + 1) ls (.int (I f ix) :: rest))) : W p l e R s m args below meth c H locs cells slots Q (F0 m pc ls (.int i :: .ref (ad k b) :: rest)) := by
  obtain ⟨hx, hb, hown, hts, hK⟩ := Z
  subst hi
  subst hix
  refine W.iald hx hb (w_arr hW hsh hbN) ((hK.2 5 _ rfl).1 n _) (fun q => by cases q) (by rw [arrV_size]; exact nI_in hj (by omega)) (v := .int (I f (wix st b j))) (by rw [nI_clamp (by omega), arrV_read _ _ hj, wV_I hs]) rfl rfl hdg kk
theorem w_azl (Z : Cx p s m args c cc own Dg dA) (hW : World A Dg dA N ad (wV Rf D I) H) {k b n j : Nat} {i : Int32} (hsh : w_sh k = .inr (8, n)) (hbN : b < N k) (hi : i = nI j) (hj : j < n) (hn : n < 1000) {f st ix : Nat} (hs : w_src k j = (1, f, st)) (hix : wix st b j = ix) (hdg : decode cc pc = .ok (.baload, 1))
    (kk : W p l e R s m args below meth c H locs cells slots Q (F0 m (pc + 1) ls (.int (I f ix) :: rest))) : W p l e R s m args below meth c H locs cells slots Q (F0 m pc ls (.int i :: .ref (ad k b) :: rest)) := by
  obtain ⟨hx, hb, hown, hts, hK⟩ := Z
  subst hi
  subst hix
  refine W.zald hx hb (w_arr hW hsh hbN) ((hK.2 8 _ rfl).1 n _) (fun q => by cases q) (by rw [arrV_size]; exact nI_in hj (by omega)) (v := .int (I f (wix st b j))) (by rw [nI_clamp (by omega), arrV_read _ _ hj, wV_I hs]) rfl rfl hdg kk
theorem w_aal (Z : Cx p s m args c cc own Dg dA) (hW : World A Dg dA N ad (wV Rf D I) H) {k b t n j : Nat} {i : Int32} {ty : FieldType} (hsh : w_sh k = .inr (t, n)) (hbN : b < N k) (hi : i = nI j) (hj : j < n) (hn : n < 1000) (hty : (vTys dA)[t]? = some (dA t, ty)) (hr : ty.isReference = true) {f st ix : Nat} (hs : w_src k j = (2, f, st)) (hix : wix st b j = ix) {v : Value} (hv : Rf f ix = v) (hdg : decode cc pc = .ok (.aaload, 1))
    (kk : W p l e R s m args below meth c H locs cells slots Q (F0 m (pc + 1) ls (v :: rest))) : W p l e R s m args below meth c H locs cells slots Q (F0 m pc ls (.int i :: .ref (ad k b) :: rest)) := by
  obtain ⟨hx, hb, hown, hts, hK⟩ := Z
  subst hi
  subst hix
  refine W.aald hx hb (w_arr hW hsh hbN) ((hK.2 t _ hty).1 n _) hr (fun q => by cases q) (by rw [arrV_size]; exact nI_in hj (by omega)) (v := v) (by rw [nI_clamp (by omega), arrV_read _ _ hj, wV_R hs, hv]) rfl rfl hdg kk
theorem w_ads (Z : Cx p s m args c cc own Dg dA) (hW : World A Dg dA N ad (wV Rf D I) H) (hS0 : va_S A s.heap H locs) {k b n j : Nat} {i : Int32} {x : UInt64} (hsh : w_sh k = .inr (7, n)) (hbN : b < N k) (hi : i = nI j) (hj : j < n) (hn : n < 1000) (hjl : j < w_len k) {f st ix : Nat} (hs : w_src k j = (0, f, st)) (hix : wix st b j = ix) (hdg : decode cc pc = .ok (.dastore, 1))
    (kk : ∀ (H1 : Heap) (locs1 : List Loc), World A Dg dA N ad (wV Rf (up2 D f ix x) I) H1 → va_S A s.heap H1 locs1 → W p l e R s m args below meth c H1 locs1 cells slots Q (F0 m (pc + 1) ls rest)) : W p l e R s m args below meth c H locs cells slots Q (F0 m pc ls (.double x :: .int i :: .ref (ad k b) :: rest)) := by
  obtain ⟨hx, hb, hown, hts, hK⟩ := Z
  subst hi
  subst hix
  refine W.dast hx hb (w_arr hW hsh hbN) ((hK.2 7 _ rfl).1 n _) (fun q => by cases q) (by rw [arrV_size]; exact nI_in hj (by omega)) rfl rfl hdg fun H1 e1 e2 e3 => ?_
  rw [nI_clamp (by omega)] at e1 ⊢
  exact kk H1 _ ((w_setA hW hsh hbN e1 e3).putD hbN hjl hs) (hS0.put e2 e3 (hW.2.2.1 k b hbN))
theorem w_ais (Z : Cx p s m args c cc own Dg dA) (hW : World A Dg dA N ad (wV Rf D I) H) (hS0 : va_S A s.heap H locs) {k b n j : Nat} {i x : Int32} (hsh : w_sh k = .inr (5, n)) (hbN : b < N k) (hi : i = nI j) (hj : j < n) (hn : n < 1000) (hjl : j < w_len k) {f st ix : Nat} (hs : w_src k j = (1, f, st)) (hix : wix st b j = ix) (hdg : decode cc pc = .ok (.iastore, 1))
    (kk : ∀ (H1 : Heap) (locs1 : List Loc), World A Dg dA N ad (wV Rf D (up2 I f ix x)) H1 → va_S A s.heap H1 locs1 → W p l e R s m args below meth c H1 locs1 cells slots Q (F0 m (pc + 1) ls rest)) : W p l e R s m args below meth c H locs cells slots Q (F0 m pc ls (.int x :: .int i :: .ref (ad k b) :: rest)) := by
  obtain ⟨hx, hb, hown, hts, hK⟩ := Z
  subst hi
  subst hix
  refine W.iast hx hb (w_arr hW hsh hbN) ((hK.2 5 _ rfl).1 n _) (fun q => by cases q) (by rw [arrV_size]; exact nI_in hj (by omega)) rfl rfl hdg fun H1 e1 e2 e3 => ?_
  rw [nI_clamp (by omega)] at e1 ⊢
  exact kk H1 _ ((w_setA hW hsh hbN e1 e3).putI hbN hjl hs) (hS0.put e2 e3 (hW.2.2.1 k b hbN))
theorem w_azs (Z : Cx p s m args c cc own Dg dA) (hW : World A Dg dA N ad (wV Rf D I) H) (hS0 : va_S A s.heap H locs) {k b n j : Nat} {i x : Int32} (hsh : w_sh k = .inr (8, n)) (hbN : b < N k) (hi : i = nI j) (hj : j < n) (hn : n < 1000) (hjl : j < w_len k) {f st ix : Nat} (hs : w_src k j = (1, f, st)) (hix : wix st b j = ix) (hx01 : x = 0 ∨ x = 1) (hdg : decode cc pc = .ok (.bastore, 1))
    (kk : ∀ (H1 : Heap) (locs1 : List Loc), World A Dg dA N ad (wV Rf D (up2 I f ix x)) H1 → va_S A s.heap H1 locs1 → W p l e R s m args below meth c H1 locs1 cells slots Q (F0 m (pc + 1) ls rest)) : W p l e R s m args below meth c H locs cells slots Q (F0 m pc ls (.int x :: .int i :: .ref (ad k b) :: rest)) := by
  obtain ⟨hx, hb, hown, hts, hK⟩ := Z
  subst hi
  subst hix
  refine W.zast hx hb (w_arr hW hsh hbN) ((hK.2 8 _ rfl).1 n _) (fun q => by cases q) (by rw [arrV_size]; exact nI_in hj (by omega)) rfl rfl hdg fun H1 e1 e2 e3 => ?_
  rw [nI_clamp (by omega)] at e1 ⊢
  have hnar : narrow .boolean (.int x) = .int x := by rcases hx01 with rfl | rfl <;> rfl
  rw [hnar] at e1
  exact kk H1 _ ((w_setA hW hsh hbN e1 e3).putI hbN hjl hs) (hS0.put e2 e3 (hW.2.2.1 k b hbN))
end WROWS
theorem kX1 : w_cls 0 RX1 TX1 25 tyX1 := ⟨rfl, in_X1, tyX1_ok, nmX1⟩
theorem kX2 : w_cls 1 RX2 TX2 3 tyX2 := ⟨rfl, in_X2, tyX2_ok, nmX2⟩
theorem kX6 : w_cls 2 RX6 TX6 14 tyX6 := ⟨rfl, in_X6, tyX6_ok, nmX6⟩
theorem kX7 : w_cls 3 RX7 TX7 4 tyX7 := ⟨rfl, in_X7, tyX7_ok, nmX7⟩
theorem kX8 : w_cls 4 RX8 TX8 3 tyX8 := ⟨rfl, in_X8, tyX8_ok, nmX8⟩
theorem kX3 : w_cls 5 RX3 TX3 3 tyX3 := ⟨rfl, in_X3, tyX3_ok, nmX3⟩
theorem kX4 : w_cls 6 RX4 TX4 2 tyX4 := ⟨rfl, in_X4, tyX4_ok, nmX4⟩
theorem kX5 : w_cls 7 RX5 TX5 48 tyX5 := ⟨rfl, in_X5, tyX5_ok, nmX5⟩
