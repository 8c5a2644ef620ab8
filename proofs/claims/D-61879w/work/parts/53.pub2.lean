set_option maxRecDepth 100000
/-! ===== the class: atom, bond, rod ===== -/
def Py (A : Nat → Prop) (Dg : va_G) (dA : Nat → ClassId) (qs : Nat) (B : Heap → Prop) (U : State) : Prop := Px A Dg dA B U ∧ vk_R "ParticleBox" 143 "no room" qs U
def oAt (D : T64) (n : Nat) (x y m : UInt64) : T64 := up2 (up2 (up2 (up2 (up2 D 0 n (sWrap (D 20 0) x)) 1 n (sWrap (D 20 0) y)) 2 n FP.dconst0) 3 n FP.dconst0) 4 n m
def oAtI (I : T32) (n : Nat) : T32 := up2 (up2 (up2 I 1 n 0) 20 0 (nI (n + 1))) 23 0 (nI 0)
theorem nI_sub1 {n : Nat} : nI (n + 1) - nI 1 = nI n := by
  have h : nI n + nI 1 = nI (n + 1) := nI_add n 1
  rw [← h, Int32.add_sub_cancel]
/-- a new atom's places: nothing yet -/
def zA (n : Nat) (D : T64) : T64 := fun f i => bif Nat.beq i n && (Nat.ble f 6 || (Nat.ble 30 f && Nat.ble f 33)) then 0 else D f i
theorem zA_n {n f : Nat} {D : T64} (h : (Nat.ble f 6 || (Nat.ble 30 f && Nat.ble f 33)) = true) : zA n D f n = 0 := by unfold zA; rw [h, Nat.beq_refl]; rfl
theorem zA_i {n f i : Nat} {D : T64} (h : i ≠ n) : zA n D f i = D f i := by unfold zA; rw [beq_f h]; rfl
theorem zA_f {n f i : Nat} {D : T64} (h : (Nat.ble f 6 || (Nat.ble 30 f && Nat.ble f 33)) = false) : zA n D f i = D f i := by unfold zA; rw [h, Bool.and_false]; rfl
theorem zA_live {n nb nr no f i : Nat} {D : T64} (h : live (cN n nb nr no) 0 f i) : D f i = zA n D f i := by
  cases hf : (Nat.ble f 6 || (Nat.ble 30 f && Nat.ble f 33)) with
  | false => rw [zA_f hf]
  | true =>
    have e : lk 0 f = 2 := by unfold lk; simp only [hf, cond_true]
    have h1 := h.1
    rw [e] at h1
    have h2 : i < n := h1 (by decide)
    rw [zA_i (by omega)]
theorem I1_live {n nb nr no f i : Nat} {I : T32} {x : Int32} (h : live (cN n nb nr no) 1 f i) : I f i = up2 I 1 n x f i := by
  rw [up2_eq]
  split
  · rename_i q
    rw [q.1, q.2] at h
    have h2 : n < n := h.1 (by decide)
    omega
  · rfl
theorem R2_live {n nb nr no f i : Nat} {Rf : Nat → Nat → Value} {a b : Value} (h : live (cN n nb nr no) 2 f i) : Rf f i = up2 (up2 Rf 19 n a) 26 n b f i := by
  rw [up2_eq, up2_eq]
  split
  · rename_i q
    rw [q.1, q.2] at h
    have h2 : n < n := h.1 (by decide)
    omega
  · split
    · rename_i q
      rw [q.1, q.2] at h
      have h2 : n < n := h.1 (by decide)
      omega
    · rfl
theorem R2_back {n nb nr no f i : Nat} {Rf : Nat → Nat → Value} {a b a' b' : Value} (h : live (cN n nb nr no) 2 f i) : Rf f i = up2 (up2 (up2 (up2 Rf 19 n a) 26 n b) 26 n a') 19 n b' f i := by
  have h1 : f = 19 ∨ f = 26 → i < n := by
    rintro (rfl | rfl)
    · exact h.1 (by decide)
    · exact h.1 (by decide)
  rw [up2_eq, if_neg (fun q => by have := h1 (Or.inl q.1); omega), up2_eq, if_neg (fun q => by have := h1 (Or.inr q.1); omega)]
  exact R2_live h
theorem R3_live {n nb nr no f i : Nat} {Rf : Nat → Nat → Value} {a b : Value} (h : live (cN n nb nr no) 2 f i) : Rf f i = up2 (up2 Rf 20 nb a) 21 nb b f i := by
  have h1 : f = 20 ∨ f = 21 → i < nb := by
    rintro (rfl | rfl)
    · exact h.1 (by decide)
    · exact h.1 (by decide)
  rw [up2_eq, if_neg (fun q => by have := h1 (Or.inr q.1); omega), up2_eq, if_neg (fun q => by have := h1 (Or.inl q.1); omega)]
theorem R4_live {n nb nr no f i : Nat} {Rf : Nat → Nat → Value} {a b : Value} (h : live (cN n nb nr no) 2 f i) : Rf f i = up2 (up2 Rf 22 nr a) 23 nr b f i := by
  have h1 : f = 22 ∨ f = 23 → i < nr := by
    rintro (rfl | rfl)
    · exact h.1 (by decide)
    · exact h.1 (by decide)
  rw [up2_eq, if_neg (fun q => by have := h1 (Or.inr q.1); omega), up2_eq, if_neg (fun q => by have := h1 (Or.inl q.1); omega)]
theorem D3_live {n nb nr no f i : Nat} {D : T64} {a b : UInt64} (h : live (cN n nb nr no) 0 f i) : D f i = up2 (up2 D 10 nb a) 11 nb b f i := by
  have h1 : f = 10 ∨ f = 11 → i < nb := by
    rintro (rfl | rfl)
    · exact h.1 (by decide)
    · exact h.1 (by decide)
  rw [up2_eq, if_neg (fun q => by have := h1 (Or.inr q.1); omega), up2_eq, if_neg (fun q => by have := h1 (Or.inl q.1); omega)]
theorem D4_live {n nb nr no f i : Nat} {D : T64} {a : UInt64} (h : live (cN n nb nr no) 0 f i) : D f i = up2 D 12 nr a f i := by
  have h1 : f = 12 → i < nr := by
    rintro rfl
    exact h.1 (by decide)
  rw [up2_eq, if_neg (fun q => by have := h1 q.1; omega)]
theorem cN_2 {n nb nr no k : Nat} (h : k ≠ 2) : cN (n + 1) nb nr no k = cN n nb nr no k := by
  unfold cN
  split <;> first | rfl | omega
theorem cN_3 {n nb nr no k : Nat} (h : k ≠ 3) : cN n (nb + 1) nr no k = cN n nb nr no k := by
  unfold cN
  split <;> first | rfl | omega
theorem cN_4 {n nb nr no k : Nat} (h : k ≠ 4) : cN n nb (nr + 1) no k = cN n nb nr no k := by
  unfold cN
  split <;> first | rfl | omega
theorem cN_le2 {n nb nr no : Nat} (k : Nat) : cN n nb nr no k ≤ cN (n + 1) nb nr no k := by
  unfold cN
  split <;> first | exact Nat.le_refl _ | omega
theorem cN_cm {n nb nr no : Nat} : ∀ k, 0 < cN n nb nr no k → k ∈ w_ksC ++ w_ksM := fun _ h => List.mem_append_left _ (cN_ks h)
/-- the references, where the addresses are the same at the cells there are -/
theorem cR_ad {ad ad' : Nat → Nat → Nat} {n nb nr : Nat} {J : Jt} {R : Nat → Value} {D : T64} (hB : Bd n nb nr J D) {k0 b0 : Nat} (hk0 : (k0 = 2 ∧ b0 = n) ∨ (k0 = 3 ∧ b0 = nb) ∨ (k0 = 4 ∧ b0 = nr)) (hold : ∀ k b, (k ≠ k0 ∨ b ≠ b0) → ad' k b = ad k b) {f i : Nat} (h20 : f = 20 ∨ f = 21 → i < nb) (h22 : f = 22 ∨ f = 23 → i < nr) : cR ad n nb nr J R f i = cR ad' n nb nr J R f i := by
  have o : ∀ k b, k ≠ 2 → k ≠ 3 → k ≠ 4 → ad' k b = ad k b := fun k b h2 h3 h4 => hold k b (Or.inl (by rcases hk0 with q | q | q <;> omega))
  have o2 : ∀ b, b < n → ad' 2 b = ad 2 b := fun b hb => hold 2 b (by rcases hk0 with q | q | q <;> omega)
  have o3 : ∀ b, b < nb → ad' 3 b = ad 3 b := fun b hb => hold 3 b (by rcases hk0 with q | q | q <;> omega)
  have o4 : ∀ b, b < nr → ad' 4 b = ad 4 b := fun b hb => hold 4 b (by rcases hk0 with q | q | q <;> omega)
  unfold cR
  split
  · rw [o _ _ (by decide) (by decide) (by decide)]
  · rw [o _ _ (by decide) (by decide) (by decide)]
  · rw [o _ _ (by decide) (by decide) (by decide)]
  · rw [o _ _ (by decide) (by decide) (by decide)]
  · rw [o _ _ (by decide) (by decide) (by decide)]
  · rw [o _ _ (by decide) (by decide) (by decide)]
  · rw [o _ _ (by decide) (by decide) (by decide)]
  · rw [o _ _ (by decide) (by decide) (by decide)]
  · rw [o _ _ (by decide) (by decide) (by decide)]
  · rw [o _ _ (by decide) (by decide) (by decide)]
  · rw [o _ _ (by decide) (by decide) (by decide)]
  · rw [o _ _ (by decide) (by decide) (by decide)]
  · rw [o _ _ (by decide) (by decide) (by decide)]
  · split
    · rename_i q; rw [o2 _ q]
    · rfl
  · split
    · rename_i q; rw [o3 _ q]
    · rfl
  · split
    · rename_i q; rw [o4 _ q]
    · rfl
  · rw [o _ _ (by decide) (by decide) (by decide)]
  · rw [o _ _ (by decide) (by decide) (by decide)]
  · rw [o _ _ (by decide) (by decide) (by decide)]
  · rw [o _ _ (by decide) (by decide) (by decide)]
  · rw [o2 _ (hB.j2 (h20 (Or.inl rfl)))]
  · rw [o2 _ (hB.j3 (h20 (Or.inr rfl)))]
  · rw [o2 _ (hB.j4 (h22 (Or.inl rfl)))]
  · rw [o2 _ (hB.j5 (h22 (Or.inr rfl)))]
  · rfl
  · rfl
  · rfl
theorem lv20 {n nb nr no f i : Nat} (h : live (cN n nb nr no) 2 f i) : f = 20 ∨ f = 21 → i < nb := by
  rintro (rfl | rfl)
  · exact h.1 (by decide)
  · exact h.1 (by decide)
theorem lv22 {n nb nr no f i : Nat} (h : live (cN n nb nr no) 2 f i) : f = 22 ∨ f = 23 → i < nr := by
  rintro (rfl | rfl)
  · exact h.1 (by decide)
  · exact h.1 (by decide)
section HOLD
variable {ad ad' : Nat → Nat → Nat} {n nb nr : Nat} {J : Jt} {R : Nat → Value} {D : T64} {f i : Nat} {a b : Value}
theorem R2_hold (hB : Bd n nb nr J D) (hold : ∀ k b, (k ≠ 2 ∨ b ≠ cN n nb nr 0 2) → ad' k b = ad k b) (h : live (cN (n + 1) nb nr 0) 2 f i) : up2 (up2 (cR ad n nb nr J R) 19 n a) 26 n b f i = up2 (up2 (cR ad' n nb nr J R) 19 n a) 26 n b f i := by
  rw [up2_eq, up2_eq, up2_eq, up2_eq, cR_ad hB (Or.inl ⟨rfl, rfl⟩) hold (lv20 h) (lv22 h)]
theorem R3_hold (hB : Bd n nb nr J D) (hold : ∀ k b, (k ≠ 3 ∨ b ≠ cN n nb nr 0 3) → ad' k b = ad k b) (h : live (cN n (nb + 1) nr 0) 2 f i) : up2 (up2 (cR ad n nb nr J R) 20 nb a) 21 nb b f i = up2 (up2 (cR ad' n nb nr J R) 20 nb a) 21 nb b f i := by
  rw [up2_eq, up2_eq, up2_eq, up2_eq]
  by_cases q : f = 21 ∧ i = nb
  · rw [if_pos q, if_pos q]
  · rw [if_neg q, if_neg q]
    by_cases q2 : f = 20 ∧ i = nb
    · rw [if_pos q2, if_pos q2]
    · rw [if_neg q2, if_neg q2]
      exact cR_ad hB (Or.inr (Or.inl ⟨rfl, rfl⟩)) hold (fun w => by have := lv20 h w; omega) (lv22 h)
theorem R4_hold (hB : Bd n nb nr J D) (hold : ∀ k b, (k ≠ 4 ∨ b ≠ cN n nb nr 0 4) → ad' k b = ad k b) (h : live (cN n nb (nr + 1) 0) 2 f i) : up2 (up2 (cR ad n nb nr J R) 22 nr a) 23 nr b f i = up2 (up2 (cR ad' n nb nr J R) 22 nr a) 23 nr b f i := by
  rw [up2_eq, up2_eq, up2_eq, up2_eq]
  by_cases q : f = 23 ∧ i = nr
  · rw [if_pos q, if_pos q]
  · rw [if_neg q, if_neg q]
    by_cases q2 : f = 22 ∧ i = nr
    · rw [if_pos q2, if_pos q2]
    · rw [if_neg q2, if_neg q2]
      exact cR_ad hB (Or.inr (Or.inr ⟨rfl, rfl⟩)) hold (lv20 h) (fun w => by have := lv22 h w; omega)
end HOLD
theorem def6 {Rf : Nat → Nat → Value} {D : T64} {I : T32} {n : Nat} : ∀ j, j < 14 → defaultValue (tyX6 j) = wV (up2 (up2 Rf 19 n .null) 26 n (.int 0)) (zA n D) (up2 I 1 n 0) 2 n j := by
  have hD : ∀ f, (Nat.ble f 6 || (Nat.ble 30 f && Nat.ble f 33)) = true → Value.double 0 = Value.double (zA n D f n) := fun f h => by rw [zA_n h]
  intro j hj
  match j, hj with
  | 0, _ => exact hD 4 rfl
  | 1, _ => exact ((up2_f _ _ _ _ (by decide)).trans (up2_same Rf 19 n .null)).symm
  | 2, _ => exact (up2_same _ 26 n (Value.int 0)).symm
  | 3, _ => exact hD 0 rfl
  | 4, _ => exact hD 1 rfl
  | 5, _ => exact hD 2 rfl
  | 6, _ => exact hD 3 rfl
  | 7, _ => exact hD 30 rfl
  | 8, _ => exact hD 31 rfl
  | 9, _ => show Value.int 0 = Value.int (up2 I 1 n 0 1 n); rw [up2_same]
  | 10, _ => exact hD 32 rfl
  | 11, _ => exact hD 33 rfl
  | 12, _ => exact hD 5 rfl
  | 13, _ => exact hD 6 rfl
  | j + 14, hj => omega
theorem def7 {Rf : Nat → Nat → Value} {D : T64} {I : T32} {n : Nat} : ∀ j, j < 4 → defaultValue (tyX7 j) = wV (up2 (up2 Rf 20 n .null) 21 n .null) (up2 (up2 D 10 n 0) 11 n 0) I 3 n j := by
  intro j hj
  match j, hj with
  | 0, _ => exact ((up2_f _ _ _ _ (by decide)).trans (up2_same Rf 20 n .null)).symm
  | 1, _ => exact (up2_same _ 21 n Value.null).symm
  | 2, _ => show Value.double 0 = Value.double (up2 (up2 D 10 n 0) 11 n 0 10 n); rw [up2_f _ _ _ _ (by decide), up2_same]
  | 3, _ => show Value.double 0 = Value.double (up2 (up2 D 10 n 0) 11 n 0 11 n); rw [up2_same]
  | j + 4, hj => omega
theorem def8 {Rf : Nat → Nat → Value} {D : T64} {I : T32} {n : Nat} : ∀ j, j < 3 → defaultValue (tyX8 j) = wV (up2 (up2 Rf 22 n .null) 23 n .null) (up2 D 12 n 0) I 4 n j := by
  intro j hj
  match j, hj with
  | 0, _ => exact ((up2_f _ _ _ _ (by decide)).trans (up2_same Rf 22 n .null)).symm
  | 1, _ => exact (up2_same _ 23 n Value.null).symm
  | 2, _ => show Value.double 0 = Value.double (up2 D 12 n 0 12 n); rw [up2_same]
  | j + 3, hj => omega
theorem up2_twice {α : Type} {D : Nat → Nat → α} {f i : Nat} {x y : α} : up2 (up2 D f i x) f i y = up2 D f i y := by
  funext g j
  rw [up2_eq, up2_eq, up2_eq]
  split <;> rfl
/-- the references at the end -/
theorem at_R {ad : Nat → Nat → Nat} {n nb nr so : Nat} {J : Jt} {R : Nat → Value} {a b : Value} {f i : Nat} : up2 (up2 (up2 (up2 (up2 (cR ad n nb nr J R) 19 n a) 26 n b) 26 n (.int (nI n))) 19 n (.ref (ad 1 so))) 13 n (.ref (ad 2 n)) f i = cR ad (n + 1) nb nr (up2 J 0 n so) R f i := by
  rw [up2_eq, up2_eq, up2_eq, up2_eq, up2_eq]
  have J0 : ∀ q k, q ≠ 0 → up2 J 0 n so q k = J q k := fun q k h => up2_f _ _ _ _ h
  by_cases h13 : f = 13
  · subst h13
    rw [show cR ad (n + 1) nb nr (up2 J 0 n so) R 13 i = if i < n + 1 then .ref (ad 2 i) else .null from rfl]
    by_cases hi : i = n
    · rw [if_pos ⟨rfl, hi⟩, if_pos (by omega), hi]
    · rw [if_neg (fun q => hi q.2), if_neg (fun q => absurd q.1 (by decide)), if_neg (fun q => absurd q.1 (by decide)), if_neg (fun q => absurd q.1 (by decide)), if_neg (fun q => absurd q.1 (by decide))]
      show (if i < n then _ else _) = _
      by_cases h2 : i < n
      · rw [if_pos h2, if_pos (by omega)]
      · rw [if_neg h2, if_neg (by omega)]
  · rw [if_neg (fun q => h13 q.1)]
    by_cases h19 : f = 19
    · subst h19
      rw [show cR ad (n + 1) nb nr (up2 J 0 n so) R 19 i = .ref (ad 1 (up2 J 0 n so 0 i)) from rfl]
      by_cases hi : i = n
      · rw [if_pos ⟨rfl, hi⟩, hi, up2_same]
      · rw [if_neg (fun q => hi q.2), if_neg (fun q => absurd q.1 (by decide)), if_neg (fun q => absurd q.1 (by decide)), if_neg (fun q => hi q.2), up2_i _ _ _ _ hi]
        rfl
    · rw [if_neg (fun q => h19 q.1)]
      by_cases h26 : f = 26
      · subst h26
        by_cases hi : i = n
        · rw [if_pos ⟨rfl, hi⟩, hi]; rfl
        · rw [if_neg (fun q => hi q.2), if_neg (fun q => hi q.2), if_neg (fun q => hi q.2)]; rfl
      · rw [if_neg (fun q => h26 q.1), if_neg (fun q => h26 q.1), if_neg (fun q => h19 q.1)]
        unfold cR
        split <;> first | rfl | (exfalso; omega) | (rw [J0 _ _ (by decide)])
theorem bo_R {ad : Nat → Nat → Nat} {n nb nr u v : Nat} {J : Jt} {R : Nat → Value} {a b : Value} {f i : Nat} : up2 (up2 (up2 (up2 (up2 (cR ad n nb nr J R) 20 nb a) 21 nb b) 20 nb (.ref (ad 2 u))) 21 nb (.ref (ad 2 v))) 14 nb (.ref (ad 3 nb)) f i = cR ad n (nb + 1) nr (up2 (up2 J 2 nb u) 3 nb v) R f i := by
  rw [up2_col (by decide), up2_eq, up2_eq, up2_eq]
  by_cases h13 : f = 14
  · subst h13
    rw [show cR ad n (nb + 1) nr (up2 (up2 J 2 nb u) 3 nb v) R 14 i = if i < nb + 1 then .ref (ad 3 i) else .null from rfl]
    by_cases hi : i = nb
    · rw [if_pos ⟨rfl, hi⟩, if_pos (by omega), hi]
    · rw [if_neg (fun q => hi q.2), if_neg (fun q => absurd q.1 (by decide)), if_neg (fun q => absurd q.1 (by decide))]
      show (if i < nb then _ else _) = _
      by_cases h2 : i < nb
      · rw [if_pos h2, if_pos (by omega)]
      · rw [if_neg h2, if_neg (by omega)]
  · rw [if_neg (fun q => h13 q.1)]
    by_cases h21 : f = 21
    · subst h21
      rw [show cR ad n (nb + 1) nr (up2 (up2 J 2 nb u) 3 nb v) R 21 i = .ref (ad 2 (up2 (up2 J 2 nb u) 3 nb v 3 i)) from rfl]
      by_cases hi : i = nb
      · rw [if_pos ⟨rfl, hi⟩, hi, up2_same]
      · rw [if_neg (fun q => hi q.2), if_neg (fun q => absurd q.1 (by decide)), up2_i _ _ _ _ hi, up2_f _ _ _ _ (by decide)]
        rfl
    · rw [if_neg (fun q => h21 q.1)]
      by_cases h20 : f = 20
      · subst h20
        rw [show cR ad n (nb + 1) nr (up2 (up2 J 2 nb u) 3 nb v) R 20 i = .ref (ad 2 (up2 (up2 J 2 nb u) 3 nb v 2 i)) from rfl, up2_f _ _ _ _ (by decide)]
        by_cases hi : i = nb
        · rw [if_pos ⟨rfl, hi⟩, hi, up2_same]
        · rw [if_neg (fun q => hi q.2), up2_i _ _ _ _ hi]
          rfl
      · rw [if_neg (fun q => h20 q.1)]
        unfold cR
        split <;> first | rfl | (exfalso; omega) | (rw [up2_f _ _ _ _ (by decide), up2_f _ _ _ _ (by decide)])
theorem ro_R {ad : Nat → Nat → Nat} {n nb nr u v : Nat} {J : Jt} {R : Nat → Value} {a b : Value} {f i : Nat} : up2 (up2 (up2 (up2 (up2 (cR ad n nb nr J R) 22 nr a) 23 nr b) 22 nr (.ref (ad 2 u))) 23 nr (.ref (ad 2 v))) 15 nr (.ref (ad 4 nr)) f i = cR ad n nb (nr + 1) (up2 (up2 J 4 nr u) 5 nr v) R f i := by
  rw [up2_col (by decide), up2_eq, up2_eq, up2_eq]
  by_cases h13 : f = 15
  · subst h13
    rw [show cR ad n nb (nr + 1) (up2 (up2 J 4 nr u) 5 nr v) R 15 i = if i < nr + 1 then .ref (ad 4 i) else .null from rfl]
    by_cases hi : i = nr
    · rw [if_pos ⟨rfl, hi⟩, if_pos (by omega), hi]
    · rw [if_neg (fun q => hi q.2), if_neg (fun q => absurd q.1 (by decide)), if_neg (fun q => absurd q.1 (by decide))]
      show (if i < nr then _ else _) = _
      by_cases h2 : i < nr
      · rw [if_pos h2, if_pos (by omega)]
      · rw [if_neg h2, if_neg (by omega)]
  · rw [if_neg (fun q => h13 q.1)]
    by_cases h21 : f = 23
    · subst h21
      rw [show cR ad n nb (nr + 1) (up2 (up2 J 4 nr u) 5 nr v) R 23 i = .ref (ad 2 (up2 (up2 J 4 nr u) 5 nr v 5 i)) from rfl]
      by_cases hi : i = nr
      · rw [if_pos ⟨rfl, hi⟩, hi, up2_same]
      · rw [if_neg (fun q => hi q.2), if_neg (fun q => absurd q.1 (by decide)), up2_i _ _ _ _ hi, up2_f _ _ _ _ (by decide)]
        rfl
    · rw [if_neg (fun q => h21 q.1)]
      by_cases h20 : f = 22
      · subst h20
        rw [show cR ad n nb (nr + 1) (up2 (up2 J 4 nr u) 5 nr v) R 22 i = .ref (ad 2 (up2 (up2 J 4 nr u) 5 nr v 4 i)) from rfl, up2_f _ _ _ _ (by decide)]
        by_cases hi : i = nr
        · rw [if_pos ⟨rfl, hi⟩, hi, up2_same]
        · rw [if_neg (fun q => hi q.2), up2_i _ _ _ _ hi]
          rfl
      · rw [if_neg (fun q => h20 q.1)]
        unfold cR
        split <;> first | rfl | (exfalso; omega) | (rw [up2_f _ _ _ _ (by decide), up2_f _ _ _ _ (by decide)])
theorem at_ag {D D0 : T64} {n nb nr : Nat} {J : Jt} {I0 : T32} {x y m : UInt64} (hag : agD D D0) (hI : Inv n nb nr J D0 I0) : agD (up2 (up2 (up2 (zA n D) 4 n m) 0 n (sWrap (D0 20 0) x)) 1 n (sWrap (D0 20 0) y)) (oAt D0 n x y m) := by
  intro f i hf
  unfold oAt
  by_cases hi : i = n
  · subst hi
    obtain ⟨f5, f6⟩ := hI.fresh (Nat.le_refl i)
    have hz := @zA_n i
    by_cases h0 : f = 0
    · subst h0; simp only [up2_eq]; simp
    · by_cases h1 : f = 1
      · subst h1; simp only [up2_eq]; simp
      · by_cases h4 : f = 4
        · subst h4; simp only [up2_eq]; simp
        · by_cases h2 : f = 2
          · subst h2; simp only [up2_eq]; simp; rw [hz rfl]; rfl
          · by_cases h3 : f = 3
            · subst h3; simp only [up2_eq]; simp; rw [hz rfl]; rfl
            · rw [up2_f _ _ _ _ h1, up2_f _ _ _ _ h0, up2_f _ _ _ _ h4, up2_f _ _ _ _ h4, up2_f _ _ _ _ h3, up2_f _ _ _ _ h2, up2_f _ _ _ _ h1, up2_f _ _ _ _ h0]
              by_cases h5 : f = 5
              · subst h5; rw [hz rfl, f5]; rfl
              · by_cases h6 : f = 6
                · subst h6; rw [hz rfl, f6]; rfl
                · rw [zA_f, hag f i hf]
                  unfold cD at hf
                  cases hq : (Nat.ble f 6 || (Nat.ble 30 f && Nat.ble f 33)) with
                  | false => rfl
                  | true =>
                    exfalso
                    simp only [Bool.or_eq_true, Bool.and_eq_true, Nat.beq_eq, ble_i] at hf hq
                    omega
  · rw [up2_i _ _ _ _ hi, up2_i _ _ _ _ hi, up2_i _ _ _ _ hi, up2_i _ _ _ _ hi, up2_i _ _ _ _ hi, up2_i _ _ _ _ hi, up2_i _ _ _ _ hi, up2_i _ _ _ _ hi, zA_i hi]
    exact hag f i hf
theorem at_43 {D : T64} {n i : Nat} {a b c : UInt64} : up2 (up2 (up2 (zA n D) 4 n a) 0 n b) 1 n c 43 i = D 43 i := (up2_f _ _ _ _ (by decide)).trans ((up2_f _ _ _ _ (by decide)).trans ((up2_f _ _ _ _ (by decide)).trans (zA_f rfl)))
theorem at_23 {D : T64} {n i : Nat} {a b c : UInt64} : oAt D n a b c 23 i = D 23 i := by unfold oAt; rw [up2_f _ _ _ _ (by decide), up2_f _ _ _ _ (by decide), up2_f _ _ _ _ (by decide), up2_f _ _ _ _ (by decide), up2_f _ _ _ _ (by decide)]
set_option maxHeartbeats 4000000 in
theorem m_C_atom (l : Launch) (hfl : l.flags = flags0) (A : Nat → Prop) (Dg : va_G) (dA : Nat → ClassId) (qs : Nat) (x : Nat) (n : Nat) (nb : Nat) (nr : Nat) (J : Jt) (D0 : T64) (I0 : T32) (hI : Inv n nb nr J D0 I0) (px : UInt64) (py : UInt64) (pm : UInt64) (so : Int32) (fx : fb 28 px) (fy : fb 28 py) : MX l yX1_atom cX1_atom 9 (some .int) [] (rmx 9 2 20) [.ref (x), .double (px), .double (py), .double (pm), .int (so)] (Py A Dg dA qs (CS A Dg dA x n nb nr J D0 I0)) (qX (fun r : Int32 => some (.int r)) (fun r H => okAt px py pm so ∧ n < 10 ∧ r = nI n ∧ CS A Dg dA x ((n + 1)) nb nr ((up2 J 0 n (ix so))) ((oAt D0 n px py pm)) ((oAtI I0 n)) H) (fun C H => ((¬ okAt px py pm so ∧ C = "java/lang/IllegalArgumentException") ∧ CS A Dg dA x n nb nr J D0 I0 H) ∨ ((okAt px py pm so ∧ n = 10 ∧ C = "java/lang/IllegalStateException") ∧ CS A Dg dA x n nb nr J D0 I0 H)) A) 1 14 A := by
  refine MX.start (Nat.le_of_ble_eq_true rfl) ?_
  intro p e s m args below meth c ls Q hAt hPc hl hQ
  have hl : lv_has ls 9 [(0, .ref (x)), (1, .double (px)), (3, .double (py)), (5, .double (pm)), (7, .int (so))] := hl
  obtain ⟨hx, hb, hml, hr, hlk, hown, hnm, htab, hts⟩ := id hAt
  obtain ⟨⟨hK, hst, hA, hW⟩, hstr⟩ := hPc
  have Z := Cx.of hAt hK
  have hS : va_S A s.heap s.heap [] := va_S.rf
  obtain ⟨ad, D, I, R, rfl, hW, hag, hagI, hwo, hNL⟩ := hW
  have hB := hI.bd
  have hn10 := hB.n10
  have hn : I 20 0 = nI n := (hagI 20 0 rfl).trans hI.cn.1
  refine lv_dload_n hx hb dX1_atom_0 rfl (lv_at hl 1 rfl) ?_
  refine lv_ldc2d (v := 13875379345695965184) hx hb hown (hts _ (lw_car_all q264)) dX1_atom_1 ?_
  refine lv_ldc2d (v := 4652007308841189376) hx hb hown (hts _ (lw_car_all q265)) dX1_atom_4 ?_
  refine wx_r (wx_S (As := [.double (px), .double (13875379345695965184), .double (4652007308841189376)]) (rest := []) hAt.fix (m_X1_within l px 13875379345695965184 4652007308841189376) q266 q267 q45 q268 wn_X1_within ⟨Nat.le_of_ble_eq_true rfl, Nat.le_of_ble_eq_true rfl, Nat.le_of_ble_eq_true rfl, Nat.le_of_ble_eq_true rfl⟩ (fun _ _ _ => trivial) hl.1 (Nat.le_of_ble_eq_true rfl) dX1_atom_7) (fun r hr => ?_)
  rcases hr with ⟨rfl, hq⟩ | ⟨rfl, hq⟩
  · have q1 := hq
    refine lv_if_eq (tgt := 55) hx hb dX1_atom_10 (by decide) (fun h => absurd h (by decide)) (fun _ => ?_)
    refine lv_dload_n hx hb dX1_atom_13 rfl (lv_at hl 2 rfl) ?_
    refine lv_ldc2d (v := 13875379345695965184) hx hb hown (hts _ (lw_car_all q264)) dX1_atom_14 ?_
    refine lv_ldc2d (v := 4652007308841189376) hx hb hown (hts _ (lw_car_all q265)) dX1_atom_17 ?_
    refine wx_r (wx_S (As := [.double (py), .double (13875379345695965184), .double (4652007308841189376)]) (rest := []) hAt.fix (m_X1_within l py 13875379345695965184 4652007308841189376) q266 q267 q45 q268 wn_X1_within ⟨Nat.le_of_ble_eq_true rfl, Nat.le_of_ble_eq_true rfl, Nat.le_of_ble_eq_true rfl, Nat.le_of_ble_eq_true rfl⟩ (fun _ _ _ => trivial) hl.1 (Nat.le_of_ble_eq_true rfl) dX1_atom_20) (fun r hr => ?_)
    rcases hr with ⟨rfl, hq⟩ | ⟨rfl, hq⟩
    · have q3 := hq
      refine lv_if_eq (tgt := 55) hx hb dX1_atom_23 (by decide) (fun h => absurd h (by decide)) (fun _ => ?_)
      refine lv_dload hx hb dX1_atom_26 (lv_at hl 3 rfl) ?_
      refine lv_ldc2d (v := 4593671619917905920) hx hb hown (hts _ (lw_car_all q269)) dX1_atom_28 ?_
      refine lv_ldc2d (v := 4634204016564240384) hx hb hown (hts _ (lw_car_all q270)) dX1_atom_31 ?_
      refine wx_r (wx_S (As := [.double (pm), .double (4593671619917905920), .double (4634204016564240384)]) (rest := []) hAt.fix (m_X1_within l pm 4593671619917905920 4634204016564240384) q266 q267 q45 q268 wn_X1_within ⟨Nat.le_of_ble_eq_true rfl, Nat.le_of_ble_eq_true rfl, Nat.le_of_ble_eq_true rfl, Nat.le_of_ble_eq_true rfl⟩ (fun _ _ _ => trivial) hl.1 (Nat.le_of_ble_eq_true rfl) dX1_atom_34) (fun r hr => ?_)
      rcases hr with ⟨rfl, hq⟩ | ⟨rfl, hq⟩
      · have q5 := hq
        refine lv_if_eq (tgt := 55) hx hb dX1_atom_37 (by decide) (fun h => absurd h (by decide)) (fun _ => ?_)
        refine lv_iload hx hb dX1_atom_40 (lv_at hl 4 rfl) ?_
        refine lv_if_lt (tgt := 55) hx hb dX1_atom_42 (by decide) (fun c7 => ?_) (fun c7 => ?_)
        · refine lv_iconst (v := nI 0) hx hb dX1_atom_55 rfl ?_
          refine wx_x (wx_S (As := [.int (nI 0)]) (rest := []) hAt.fix (m_X1_check l hfl A Dg dA ((fun H => cW A Dg dA ad n nb nr 0 J R D I H)) gr_W (nI 0)) q271 q272 q45 q273 wn_X1_check ⟨Nat.le_of_ble_eq_true rfl, Nat.le_of_ble_eq_true rfl, Nat.le_of_ble_eq_true rfl, Nat.le_of_ble_eq_true rfl⟩ (Px.of hK hst hA hS hW) hl.1 (Nat.le_of_ble_eq_true rfl) dX1_atom_56) hS (fun r H locs hW hz hS => ?_) (fun x C H locs hp hE hz hS => ?_)
          · exact absurd nI_0 hW.1
          · rw [hQ]
            obtain ⟨⟨-, rfl⟩, hW⟩ := hp
            exact rT_x hlk htab rfl hS hE (Or.inl ⟨⟨fun q => q.2.2.2.1 c7, rfl⟩, ⟨ad, _, _, _, rfl, hW, hag, hagI, hwo, hNL⟩⟩)
        · refine lv_iload hx hb dX1_atom_45 (lv_at hl 4 rfl) ?_
          refine lv_iconst (v := nI 3) hx hb dX1_atom_47 rfl ?_
          refine lv_icmp_ge (tgt := 55) hx hb dX1_atom_48 (by decide) (fun c8 => ?_) (fun c8 => ?_)
          · refine lv_iconst (v := nI 0) hx hb dX1_atom_55 rfl ?_
            refine wx_x (wx_S (As := [.int (nI 0)]) (rest := []) hAt.fix (m_X1_check l hfl A Dg dA ((fun H => cW A Dg dA ad n nb nr 0 J R D I H)) gr_W (nI 0)) q271 q272 q45 q273 wn_X1_check ⟨Nat.le_of_ble_eq_true rfl, Nat.le_of_ble_eq_true rfl, Nat.le_of_ble_eq_true rfl, Nat.le_of_ble_eq_true rfl⟩ (Px.of hK hst hA hS hW) hl.1 (Nat.le_of_ble_eq_true rfl) dX1_atom_56) hS (fun r H locs hW hz hS => ?_) (fun x C H locs hp hE hz hS => ?_)
            · exact absurd nI_0 hW.1
            · rw [hQ]
              obtain ⟨⟨-, rfl⟩, hW⟩ := hp
              exact rT_x hlk htab rfl hS hE (Or.inl ⟨⟨fun q => q.2.2.2.2 c8, rfl⟩, ⟨ad, _, _, _, rfl, hW, hag, hagI, hwo, hNL⟩⟩)
          · refine lv_iconst (v := nI 1) hx hb dX1_atom_51 rfl ?_
            refine lv_goto (tgt := 56) hx hb dX1_atom_52 (by decide) ?_
            refine wx_x (wx_S (As := [.int (nI 1)]) (rest := []) hAt.fix (m_X1_check l hfl A Dg dA ((fun H => cW A Dg dA ad n nb nr 0 J R D I H)) gr_W (nI 1)) q271 q272 q45 q273 wn_X1_check ⟨Nat.le_of_ble_eq_true rfl, Nat.le_of_ble_eq_true rfl, Nat.le_of_ble_eq_true rfl, Nat.le_of_ble_eq_true rfl⟩ (Px.of hK hst hA hS hW) hl.1 (Nat.le_of_ble_eq_true rfl) dX1_atom_56) hS (fun r H locs hW hz hS => ?_) (fun x C H locs hp hE hz hS => ?_)
            rotate_left
            · exact absurd hp.1.1 (by decide)
            replace hW := hW.2
            have hok : okAt px py pm so := ⟨q1, q3, q5, c7, c8⟩
            obtain ⟨i, hi, rfl⟩ := ok3_of hok.2.2.2
            refine lv_aload_n hx hb dX1_atom_59 rfl (lv_at hl 0 rfl) ?_
            refine g_I (x := nI n) Z hW kX1 rfl 8 (by decide) q149 (show (0 : Nat) < 1 by decide) rfl hn dX1_atom_60 ?_
            refine lv_bipush (v := nI 10) hx hb dX1_atom_63 rfl ?_
            refine lv_nne (tgt := 78) hx hb (by omega) (by decide) dX1_atom_65 (by decide) (fun c9 => ?_) (fun c9 => ?_)
            · have hn9 : n < 10 := by omega
              replace hW := World.tab (fun _ => cN_ks) hW (D' := zA n D) (Rf' := up2 (up2 (cR ad n nb nr J R) 19 n .null) 26 n (.int 0)) (I' := up2 I 1 n 0) (fun f j h => zA_live h) (fun f j h => I1_live h) (fun f j h => R2_live h)
              refine w_newO (N' := cN (n + 1) nb nr 0) (k := 2) Z hW hS hA kX6 rfl rfl q93 q363 q56 (c_sup _ _ _ _) rfl (fun k hk => cN_2 hk) (def6) (by decide) (by decide) dX1_atom_78 (fun H ad hold hW hS => ?_)
              have e00 := hold 0 0 (Or.inl (by decide))
              rw [← e00] at hl hQ
              replace hW := World.tab (fun _ => cN_ks) hW (D' := zA n D) (Rf' := up2 (up2 (cR ad n nb nr J R) 19 n .null) 26 n (.int 0)) (I' := up2 I 1 n 0) (fun _ _ _ => rfl) (fun _ _ _ => rfl) (fun f j h => R2_hold hB hold h)
              clear hold
              refine lv_dup hx hb dX1_atom_81 rfl ?_
              refine lv_aload_n hx hb dX1_atom_82 rfl (lv_at hl 0 rfl) ?_
              refine g_I (x := nI n) Z hW kX1 rfl 8 (by decide) q149 (show (0 : Nat) < 1 by decide) rfl hn dX1_atom_83 ?_
              refine lv_dload hx hb dX1_atom_86 (lv_at hl 3 rfl) ?_
              refine lv_aload_n hx hb dX1_atom_88 rfl (lv_at hl 0 rfl) ?_
              refine w_getR (v := .ref (ad 10 0)) Z hW kX1 rfl 4 (by decide) q145 (show (0 : Nat) < 1 by decide) rfl rfl dX1_atom_89 ?_
              refine lv_iload hx hb dX1_atom_92 (lv_at hl 4 rfl) ?_
              refine a_R (j := i) (v := .ref (ad 1 i)) (ix := i) Z hW rfl (show (0 : Nat) < 1 by decide) (by omega) (by decide) rfl rfl rfl rfl rfl dX1_atom_94 ?_
              refine wx_wv (wx_I (As := [.int (nI n), .double (pm), .ref (ad 1 i)]) (rest := [.ref (ad 2 n)]) hAt.fix (m_X6_init l A Dg dA ((cN (n + 1) nb nr 0)) ad ((up2 (up2 (cR ad n nb nr J R) 19 n .null) 26 n (.int 0))) ((zA n D)) ((up2 I 1 n 0)) cN_cm n ((Nat.lt_succ_self n)) ((nI n)) pm ((ad 1 i))) q364 q365 q366 rfl wn_X6_init ⟨Nat.le_of_ble_eq_true rfl, Nat.le_of_ble_eq_true rfl, Nat.le_of_ble_eq_true rfl, Nat.le_of_ble_eq_true rfl⟩ (Pw.of hK hW) hl.1 (Nat.le_of_ble_eq_true rfl) dX1_atom_95) hS (fun H locs hW hz hS => ?_)
              refine lv_astore (lv' := [(8, .ref (ad 2 n)), (0, .ref (ad 0 0)), (1, .double (px)), (3, .double (py)), (5, .double (pm)), (7, .int (nI i))]) hx hb dX1_atom_98 hl (by decide) rfl (fun ls hl => ?_)
              refine lv_aload hx hb dX1_atom_100 (lv_at hl 0 rfl) ?_
              refine lv_aload_n hx hb dX1_atom_102 rfl (lv_at hl 1 rfl) ?_
              refine lv_dload_n hx hb dX1_atom_103 rfl (lv_at hl 2 rfl) ?_
              have hWc : cW A Dg dA ad n nb nr 0 J R ((up2 (zA n D) 4 n (pm))) ((up2 I 1 n 0)) _ := World.tab (fun _ => cN_ks) (World.drop hW (c_sup _ _ _ _) cN_le2) (fun _ _ _ => rfl) (fun _ _ _ => rfl) (fun f j h => (R2_back h).symm)
              refine wx_r (wx_V (As := [.double (px)]) (rest := [.ref (ad 2 n)]) hAt.fix (m_X1_wrapped l A Dg dA ad n nb nr 0 J R ((up2 (zA n D) 4 n (pm))) ((up2 I 1 n 0)) (D0 20 0) px (((up2_f _ _ _ _ (by decide)).trans ((zA_f rfl).trans (hag 20 0 rfl)))) hB.side ((fx.mono (by decide)))) q421 q423 qs4 q424 wn_X1_wrapped ⟨Nat.le_of_ble_eq_true rfl, Nat.le_of_ble_eq_true rfl, Nat.le_of_ble_eq_true rfl, Nat.le_of_ble_eq_true rfl⟩ (w_recv hK hW kX1 rfl (show (0 : Nat) < 1 by decide)) (Pw.of hK hWc) hl.1 (Nat.le_of_ble_eq_true rfl) dX1_atom_104) (fun r hr => ?_)
              subst hr
              refine w_putD Z hW hS kX6 rfl 3 (by decide) (by decide) q375 rfl (show (n : Nat) < (n + 1) by omega) rfl rfl dX1_atom_107 (fun H locs hW hS => ?_)
              refine lv_aload hx hb dX1_atom_110 (lv_at hl 0 rfl) ?_
              refine lv_aload_n hx hb dX1_atom_112 rfl (lv_at hl 1 rfl) ?_
              refine lv_dload_n hx hb dX1_atom_113 rfl (lv_at hl 3 rfl) ?_
              have hWc : cW A Dg dA ad n nb nr 0 J R ((up2 (up2 (zA n D) 4 n (pm)) 0 n (sWrap (D0 20 0) px))) ((up2 I 1 n 0)) _ := World.tab (fun _ => cN_ks) (World.drop hW (c_sup _ _ _ _) cN_le2) (fun _ _ _ => rfl) (fun _ _ _ => rfl) (fun f j h => (R2_back h).symm)
              refine wx_r (wx_V (As := [.double (py)]) (rest := [.ref (ad 2 n)]) hAt.fix (m_X1_wrapped l A Dg dA ad n nb nr 0 J R ((up2 (up2 (zA n D) 4 n (pm)) 0 n (sWrap (D0 20 0) px))) ((up2 I 1 n 0)) (D0 20 0) py (((up2_f _ _ _ _ (by decide)).trans ((up2_f _ _ _ _ (by decide)).trans ((zA_f rfl).trans (hag 20 0 rfl))))) hB.side ((fy.mono (by decide)))) q421 q423 qs4 q424 wn_X1_wrapped ⟨Nat.le_of_ble_eq_true rfl, Nat.le_of_ble_eq_true rfl, Nat.le_of_ble_eq_true rfl, Nat.le_of_ble_eq_true rfl⟩ (w_recv hK hW kX1 rfl (show (0 : Nat) < 1 by decide)) (Pw.of hK hWc) hl.1 (Nat.le_of_ble_eq_true rfl) dX1_atom_114) (fun r hr => ?_)
              subst hr
              refine w_putD Z hW hS kX6 rfl 4 (by decide) (by decide) q377 rfl (show (n : Nat) < (n + 1) by omega) rfl rfl dX1_atom_117 (fun H locs hW hS => ?_)
              refine lv_aload_n hx hb dX1_atom_120 rfl (lv_at hl 1 rfl) ?_
              refine w_getR (v := .ref (ad 11 0)) Z hW kX1 rfl 5 (by decide) q146 (show (0 : Nat) < 1 by decide) rfl rfl dX1_atom_121 ?_
              refine lv_aload_n hx hb dX1_atom_124 rfl (lv_at hl 1 rfl) ?_
              refine g_I (x := nI n) Z hW kX1 rfl 8 (by decide) q149 (show (0 : Nat) < 1 by decide) rfl hn dX1_atom_125 ?_
              refine lv_aload hx hb dX1_atom_128 (lv_at hl 0 rfl) ?_
              refine w_aas (j := n) (ix := n) (kv := 2) (bv := n) (ci := 2) Z hW hS (k := 11) (b := 0) rfl (show 0 < 1 by decide) rfl (show n < 10 by omega) (by decide) (show n < 10 by omega) rfl rfl rfl (Nat.lt_succ_self n) rfl rfl cN_cm dX1_atom_130 (fun H locs hW hS => ?_)
              refine lv_aload_n hx hb dX1_atom_131 rfl (lv_at hl 1 rfl) ?_
              refine lv_dup hx hb dX1_atom_132 rfl ?_
              refine g_I (x := nI n) Z hW kX1 rfl 8 (by decide) q149 (show (0 : Nat) < 1 by decide) rfl hn dX1_atom_133 ?_
              refine lv_iconst (v := nI 1) hx hb dX1_atom_136 rfl ?_
              refine lv_iadd hx hb dX1_atom_137 ?_
              rw [nI_add]
              refine w_putI Z hW hS kX1 rfl 8 (by decide) (by decide) q149 rfl (show (0 : Nat) < 1 by decide) rfl rfl rfl dX1_atom_138 (fun H locs hW hS => ?_)
              refine lv_aload_n hx hb dX1_atom_141 rfl (lv_at hl 1 rfl) ?_
              refine lv_iconst (v := nI 0) hx hb dX1_atom_142 rfl ?_
              refine w_putI Z hW hS kX1 rfl 16 (by decide) (by decide) q157 rfl (show (0 : Nat) < 1 by decide) rfl rfl rfl dX1_atom_143 (fun H locs hW hS => ?_)
              refine lv_aload_n hx hb dX1_atom_146 rfl (lv_at hl 1 rfl) ?_
              refine g_I (x := nI (n + 1)) Z hW kX1 rfl 8 (by decide) q149 (show (0 : Nat) < 1 by decide) rfl rfl dX1_atom_147 ?_
              refine lv_iconst (v := nI 1) hx hb dX1_atom_150 rfl ?_
              refine lv_isub hx hb dX1_atom_151 ?_
              rw [nI_sub1]
              rw [hQ]
              exact rX (rW_i hx hb hr hlk hS (⟨hok, hn9, rfl, ad, _, _, R, rfl, World.tab (fun _ => cN_ks) hW (fun _ _ _ => rfl) (fun _ _ _ => rfl) (fun f j _ => by rw [ix_nI (by omega)]; exact at_R), at_ag hag hI, ((hagI.put 1 n _).put 20 0 _).put 23 0 _, hwo.cg (at_43) (at_23), NL_0 rfl⟩) dX1_atom_152)
            · refine w_excM hAt.fix hfl hstr exM q338 q339 q55 (by decide +kernel) (by decide +kernel) hst hA hS hl.1 dX1_atom_68 dX1_atom_71 dX1_atom_72 dX1_atom_74 (Nat.le_of_ble_eq_true rfl) (Nat.le_of_ble_eq_true rfl) (Nat.le_of_ble_eq_true rfl) (Nat.le_of_ble_eq_true rfl) (fun x H locs hE hk hS => ?_)
              have hW := hW.grown hk
              refine lv_athrow hx hb dX1_atom_77 ?_
              rw [hQ]
              exact rT_x hlk htab rfl hS hE (Or.inr ⟨⟨hok, by omega, rfl⟩, ⟨ad, _, _, _, rfl, hW, hag, hagI, hwo, hNL⟩⟩)
      · have q10 := hq
        refine lv_if_eq (tgt := 55) hx hb dX1_atom_37 (by decide) (fun _ => ?_) (fun h => absurd nI_0 h)
        refine lv_iconst (v := nI 0) hx hb dX1_atom_55 rfl ?_
        refine wx_x (wx_S (As := [.int (nI 0)]) (rest := []) hAt.fix (m_X1_check l hfl A Dg dA ((fun H => cW A Dg dA ad n nb nr 0 J R D I H)) gr_W (nI 0)) q271 q272 q45 q273 wn_X1_check ⟨Nat.le_of_ble_eq_true rfl, Nat.le_of_ble_eq_true rfl, Nat.le_of_ble_eq_true rfl, Nat.le_of_ble_eq_true rfl⟩ (Px.of hK hst hA hS hW) hl.1 (Nat.le_of_ble_eq_true rfl) dX1_atom_56) hS (fun r H locs hW hz hS => ?_) (fun x C H locs hp hE hz hS => ?_)
        · exact absurd nI_0 hW.1
        · rw [hQ]
          obtain ⟨⟨-, rfl⟩, hW⟩ := hp
          exact rT_x hlk htab rfl hS hE (Or.inl ⟨⟨fun q => q10 q.2.2.1, rfl⟩, ⟨ad, _, _, _, rfl, hW, hag, hagI, hwo, hNL⟩⟩)
    · have q12 := hq
      refine lv_if_eq (tgt := 55) hx hb dX1_atom_23 (by decide) (fun _ => ?_) (fun h => absurd nI_0 h)
      refine lv_iconst (v := nI 0) hx hb dX1_atom_55 rfl ?_
      refine wx_x (wx_S (As := [.int (nI 0)]) (rest := []) hAt.fix (m_X1_check l hfl A Dg dA ((fun H => cW A Dg dA ad n nb nr 0 J R D I H)) gr_W (nI 0)) q271 q272 q45 q273 wn_X1_check ⟨Nat.le_of_ble_eq_true rfl, Nat.le_of_ble_eq_true rfl, Nat.le_of_ble_eq_true rfl, Nat.le_of_ble_eq_true rfl⟩ (Px.of hK hst hA hS hW) hl.1 (Nat.le_of_ble_eq_true rfl) dX1_atom_56) hS (fun r H locs hW hz hS => ?_) (fun x C H locs hp hE hz hS => ?_)
      · exact absurd nI_0 hW.1
      · rw [hQ]
        obtain ⟨⟨-, rfl⟩, hW⟩ := hp
        exact rT_x hlk htab rfl hS hE (Or.inl ⟨⟨fun q => q12 q.2.1, rfl⟩, ⟨ad, _, _, _, rfl, hW, hag, hagI, hwo, hNL⟩⟩)
  · have q14 := hq
    refine lv_if_eq (tgt := 55) hx hb dX1_atom_10 (by decide) (fun _ => ?_) (fun h => absurd nI_0 h)
    refine lv_iconst (v := nI 0) hx hb dX1_atom_55 rfl ?_
    refine wx_x (wx_S (As := [.int (nI 0)]) (rest := []) hAt.fix (m_X1_check l hfl A Dg dA ((fun H => cW A Dg dA ad n nb nr 0 J R D I H)) gr_W (nI 0)) q271 q272 q45 q273 wn_X1_check ⟨Nat.le_of_ble_eq_true rfl, Nat.le_of_ble_eq_true rfl, Nat.le_of_ble_eq_true rfl, Nat.le_of_ble_eq_true rfl⟩ (Px.of hK hst hA hS hW) hl.1 (Nat.le_of_ble_eq_true rfl) dX1_atom_56) hS (fun r H locs hW hz hS => ?_) (fun x C H locs hp hE hz hS => ?_)
    · exact absurd nI_0 hW.1
    · rw [hQ]
      obtain ⟨⟨-, rfl⟩, hW⟩ := hp
      exact rT_x hlk htab rfl hS hE (Or.inl ⟨⟨fun q => q14 q.1, rfl⟩, ⟨ad, _, _, _, rfl, hW, hag, hagI, hwo, hNL⟩⟩)
set_option maxHeartbeats 4000000 in
theorem m_C_bond (l : Launch) (hfl : l.flags = flags0) (A : Nat → Prop) (Dg : va_G) (dA : Nat → ClassId) (qs : Nat) (x : Nat) (n : Nat) (nb : Nat) (nr : Nat) (J : Jt) (D0 : T64) (I0 : T32) (hI : Inv n nb nr J D0 I0) (ki : Int32) (kj : Int32) (sk : UInt64) (le : UInt64) : MX l yX1_bond cX1_bond 9 (some .int) [] (rmx 9 2 10) [.ref (x), .int (ki), .int (kj), .double (sk), .double (le)] (Py A Dg dA qs (CS A Dg dA x n nb nr J D0 I0)) (qX (fun r : Int32 => some (.int r)) (fun r H => okBo ki kj n (D0 20 0) sk le ∧ nb < 8 ∧ r = nI (nb + 1) ∧ CS A Dg dA x n ((nb + 1)) nr ((up2 (up2 J 2 nb (ix ki)) 3 nb (ix kj))) ((up2 (up2 D0 10 nb sk) 11 nb le)) ((up2 I0 21 0 (nI (nb + 1)))) H) (fun C H => ((¬ okBo ki kj n (D0 20 0) sk le ∧ C = "java/lang/IllegalArgumentException") ∧ CS A Dg dA x n nb nr J D0 I0 H) ∨ ((okBo ki kj n (D0 20 0) sk le ∧ nb = 8 ∧ C = "java/lang/IllegalStateException") ∧ CS A Dg dA x n nb nr J D0 I0 H)) A) 1 4 A := by
  refine MX.start (Nat.le_of_ble_eq_true rfl) ?_
  intro p e s m args below meth c ls Q hAt hPc hl hQ
  have hl : lv_has ls 9 [(0, .ref (x)), (1, .int (ki)), (2, .int (kj)), (3, .double (sk)), (5, .double (le))] := hl
  obtain ⟨hx, hb, hml, hr, hlk, hown, hnm, htab, hts⟩ := id hAt
  obtain ⟨⟨hK, hst, hA, hW⟩, hstr⟩ := hPc
  have Z := Cx.of hAt hK
  have hS : va_S A s.heap s.heap [] := va_S.rf
  obtain ⟨ad, D, I, R, rfl, hW, hag, hagI, hwo, hNL⟩ := hW
  have hB := hI.bd
  have hn10 := hB.n10
  have hn : I 20 0 = nI n := (hagI 20 0 rfl).trans hI.cn.1
  have hcnt : I 21 0 = nI nb := (hagI 21 0 rfl).trans hI.cn.2.1
  have hmx := hB.nb8
  refine lv_aload_n hx hb dX1_bond_0 rfl (lv_at hl 0 rfl) ?_
  refine lv_iload_n hx hb dX1_bond_1 rfl (lv_at hl 1 rfl) ?_
  refine wx_x (wx_V (As := [.int (ki)]) (rest := []) hAt.fix (m_X1_at l hfl A Dg dA ad n nb nr 0 J R D I ki hn hn10) q432 q434 qs5 q435 wn_X1_at ⟨Nat.le_of_ble_eq_true rfl, Nat.le_of_ble_eq_true rfl, Nat.le_of_ble_eq_true rfl, Nat.le_of_ble_eq_true rfl⟩ (w_recv hK hW kX1 rfl (show (0 : Nat) < 1 by decide)) (Px.of hK hst hA hS hW) hl.1 (Nat.le_of_ble_eq_true rfl) dX1_bond_2) hS (fun r H locs hW hz hS => ?_) (fun x C H locs hp hE hz hS => ?_)
  rotate_left
  · rw [hQ]
    obtain ⟨⟨hno, rfl⟩, hW⟩ := hp
    exact rT_x hlk htab rfl hS hE (Or.inl ⟨⟨fun q => hno q.1, rfl⟩, ⟨ad, _, _, _, rfl, hW, hag, hagI, hwo, hNL⟩⟩)
  obtain ⟨⟨i, hi, rfl, rfl⟩, hW⟩ := hW
  refine lv_astore (lv' := [(7, .ref (ad 2 i)), (0, .ref (ad 0 0)), (1, .int (nI i)), (2, .int (kj)), (3, .double (sk)), (5, .double (le))]) hx hb dX1_bond_5 hl (by decide) rfl (fun ls hl => ?_)
  refine lv_aload_n hx hb dX1_bond_7 rfl (lv_at hl 1 rfl) ?_
  refine lv_iload_n hx hb dX1_bond_8 rfl (lv_at hl 3 rfl) ?_
  refine wx_x (wx_V (As := [.int (kj)]) (rest := []) hAt.fix (m_X1_at l hfl A Dg dA ad n nb nr 0 J R D I kj hn hn10) q432 q434 qs5 q435 wn_X1_at ⟨Nat.le_of_ble_eq_true rfl, Nat.le_of_ble_eq_true rfl, Nat.le_of_ble_eq_true rfl, Nat.le_of_ble_eq_true rfl⟩ (w_recv hK hW kX1 rfl (show (0 : Nat) < 1 by decide)) (Px.of hK hst hA hS hW) hl.1 (Nat.le_of_ble_eq_true rfl) dX1_bond_9) hS (fun r H locs hW hz hS => ?_) (fun x C H locs hp hE hz hS => ?_)
  rotate_left
  · rw [hQ]
    obtain ⟨⟨hno, rfl⟩, hW⟩ := hp
    exact rT_x hlk htab rfl hS hE (Or.inl ⟨⟨fun q => hno q.2.1, rfl⟩, ⟨ad, _, _, _, rfl, hW, hag, hagI, hwo, hNL⟩⟩)
  obtain ⟨⟨j, hj, rfl, rfl⟩, hW⟩ := hW
  refine lv_astore (lv' := [(8, .ref (ad 2 j)), (7, .ref (ad 2 i)), (0, .ref (ad 0 0)), (1, .int (nI i)), (2, .int (nI j)), (3, .double (sk)), (5, .double (le))]) hx hb dX1_bond_12 hl (by decide) rfl (fun ls hl => ?_)
  refine lv_aload hx hb dX1_bond_14 (lv_at hl 1 rfl) ?_
  refine lv_aload hx hb dX1_bond_16 (lv_at hl 0 rfl) ?_
  refine lv_aeq (tgt := 55) hx hb dX1_bond_18 (by decide) (fun c1 => ?_) (fun c1 => ?_)
  · refine lv_iconst (v := nI 0) hx hb dX1_bond_55 rfl ?_
    refine wx_x (wx_S (As := [.int (nI 0)]) (rest := []) hAt.fix (m_X1_check l hfl A Dg dA ((fun H => cW A Dg dA ad n nb nr 0 J R D I H)) gr_W (nI 0)) q271 q272 q45 q273 wn_X1_check ⟨Nat.le_of_ble_eq_true rfl, Nat.le_of_ble_eq_true rfl, Nat.le_of_ble_eq_true rfl, Nat.le_of_ble_eq_true rfl⟩ (Px.of hK hst hA hS hW) hl.1 (Nat.le_of_ble_eq_true rfl) dX1_bond_56) hS (fun r H locs hW hz hS => ?_) (fun x C H locs hp hE hz hS => ?_)
    · exact absurd nI_0 hW.1
    · rw [hQ]
      obtain ⟨⟨-, rfl⟩, hW⟩ := hp
      exact rT_x hlk htab rfl hS hE (Or.inl ⟨⟨fun q => q.2.2.1 (by rw [cW_inj hW hi hj c1]), rfl⟩, ⟨ad, _, _, _, rfl, hW, hag, hagI, hwo, hNL⟩⟩)
  · refine lv_dload_n hx hb dX1_bond_21 rfl (lv_at hl 5 rfl) ?_
    refine lv_dconst0 hx hb dX1_bond_22 ?_
    refine lv_ldc2d (v := 4634204016564240384) hx hb hown (hts _ (lw_car_all q270)) dX1_bond_23 ?_
    refine wx_r (wx_S (As := [.double (sk), .double (FP.dconst0), .double (4634204016564240384)]) (rest := []) hAt.fix (m_X1_within l sk FP.dconst0 4634204016564240384) q266 q267 q45 q268 wn_X1_within ⟨Nat.le_of_ble_eq_true rfl, Nat.le_of_ble_eq_true rfl, Nat.le_of_ble_eq_true rfl, Nat.le_of_ble_eq_true rfl⟩ (fun _ _ _ => trivial) hl.1 (Nat.le_of_ble_eq_true rfl) dX1_bond_26) (fun r hr => ?_)
    rcases hr with ⟨rfl, hq⟩ | ⟨rfl, hq⟩
    · have q2 := hq
      refine lv_if_eq (tgt := 55) hx hb dX1_bond_29 (by decide) (fun h => absurd h (by decide)) (fun _ => ?_)
      refine lv_dload hx hb dX1_bond_32 (lv_at hl 6 rfl) ?_
      refine lv_ldc2d (v := 4593671619917905920) hx hb hown (hts _ (lw_car_all q269)) dX1_bond_34 ?_
      refine lv_aload_n hx hb dX1_bond_37 rfl (lv_at hl 2 rfl) ?_
      refine g_D (x := D0 20 0) Z hW kX1 rfl 0 (by decide) q141 (show (0 : Nat) < 1 by decide) rfl (hag 20 0 rfl) dX1_bond_38 ?_
      refine lv_ldc2d (v := 4602678819172646912) hx hb hown (hts _ (lw_car_all q69)) dX1_bond_41 ?_
      have f4 : fb (4) (FP.dmul (D0 20 0) 4602678819172646912) := fb.mul hB.side.fb fc_4602678819172646912 (by decide)
      refine lv_dmul hx hb dX1_bond_44 f4.n64 ?_
      refine wx_r (wx_S (As := [.double (le), .double (4593671619917905920), .double (FP.dmul (D0 20 0) 4602678819172646912)]) (rest := []) hAt.fix (m_X1_within l le 4593671619917905920 (FP.dmul (D0 20 0) 4602678819172646912)) q266 q267 q45 q268 wn_X1_within ⟨Nat.le_of_ble_eq_true rfl, Nat.le_of_ble_eq_true rfl, Nat.le_of_ble_eq_true rfl, Nat.le_of_ble_eq_true rfl⟩ (fun _ _ _ => trivial) hl.1 (Nat.le_of_ble_eq_true rfl) dX1_bond_45) (fun r hr => ?_)
      rcases hr with ⟨rfl, hq⟩ | ⟨rfl, hq⟩
      · have q5 := hq
        refine lv_if_eq (tgt := 55) hx hb dX1_bond_48 (by decide) (fun h => absurd h (by decide)) (fun _ => ?_)
        refine lv_iconst (v := nI 1) hx hb dX1_bond_51 rfl ?_
        refine lv_goto (tgt := 56) hx hb dX1_bond_52 (by decide) ?_
        refine wx_x (wx_S (As := [.int (nI 1)]) (rest := []) hAt.fix (m_X1_check l hfl A Dg dA ((fun H => cW A Dg dA ad n nb nr 0 J R D I H)) gr_W (nI 1)) q271 q272 q45 q273 wn_X1_check ⟨Nat.le_of_ble_eq_true rfl, Nat.le_of_ble_eq_true rfl, Nat.le_of_ble_eq_true rfl, Nat.le_of_ble_eq_true rfl⟩ (Px.of hK hst hA hS hW) hl.1 (Nat.le_of_ble_eq_true rfl) dX1_bond_56) hS (fun r H locs hW hz hS => ?_) (fun x C H locs hp hE hz hS => ?_)
        rotate_left
        · exact absurd hp.1.1 (by decide)
        replace hW := hW.2
        have hij : i ≠ j := fun q => c1 (by rw [q])
        have hok : okBo (nI i) (nI j) n (D0 20 0) sk le := ⟨⟨i, hi, rfl⟩, ⟨j, hj, rfl⟩, fun q => hij ((nI_eq (by omega) (by omega)).mp q), q2, q5⟩
        refine lv_aload_n hx hb dX1_bond_59 rfl (lv_at hl 2 rfl) ?_
        refine g_I (x := nI nb) Z hW kX1 rfl 9 (by decide) q150 (show (0 : Nat) < 1 by decide) rfl hcnt dX1_bond_60 ?_
        refine lv_bipush (v := nI 8) hx hb dX1_bond_63 rfl ?_
        refine lv_nne (tgt := 78) hx hb (by omega) (by decide) dX1_bond_65 (by decide) (fun c7 => ?_) (fun c7 => ?_)
        · refine lv_aload_n hx hb dX1_bond_78 rfl (lv_at hl 2 rfl) ?_
          refine w_getR (v := .ref (ad 12 0)) Z hW kX1 rfl 6 (by decide) q147 (show (0 : Nat) < 1 by decide) rfl rfl dX1_bond_79 ?_
          refine lv_aload_n hx hb dX1_bond_82 rfl (lv_at hl 2 rfl) ?_
          refine g_I (x := nI nb) Z hW kX1 rfl 9 (by decide) q150 (show (0 : Nat) < 1 by decide) rfl hcnt dX1_bond_83 ?_
          have hlt : nb < 8 := by omega
          replace hW := World.tab (fun _ => cN_ks) hW (D' := (up2 (up2 D 10 nb 0) 11 nb 0)) (Rf' := (up2 (up2 (cR ad n nb nr J R) 20 nb .null) 21 nb .null)) (I' := I) (fun f j h => D3_live h) (fun _ _ _ => rfl) (fun f j h => R3_live h)
          refine w_newO (N' := (cN n (nb + 1) nr 0)) (k := 3) Z hW hS hA kX7 rfl rfl q95 q467 q57 (c_sup _ _ _ _) rfl (fun k hk => cN_3 hk) def7 (by decide) (by decide) dX1_bond_86 (fun H ad hold hW hS => ?_)
          have e00 := hold 0 0 (Or.inl (by decide))
          have e2i := hold 2 i (Or.inl (by decide))
          have e2j := hold 2 j (Or.inl (by decide))
          have ear := hold 12 0 (Or.inl (by decide))
          rw [← e00, ← e2i, ← e2j] at hl
          rw [← e00] at hQ
          rw [← ear]
          replace hW := World.tab (fun _ => cN_ks) hW (D' := (up2 (up2 D 10 nb 0) 11 nb 0)) (Rf' := (up2 (up2 (cR ad n nb nr J R) 20 nb .null) 21 nb .null)) (I' := I) (fun _ _ _ => rfl) (fun _ _ _ => rfl) (fun f j h => R3_hold hB hold h)
          clear hold
          refine lv_dup hx hb dX1_bond_89 rfl ?_
          refine lv_aload hx hb dX1_bond_90 (lv_at hl 1 rfl) ?_
          refine lv_aload hx hb dX1_bond_92 (lv_at hl 0 rfl) ?_
          refine lv_dload_n hx hb dX1_bond_94 rfl (lv_at hl 5 rfl) ?_
          refine lv_dload hx hb dX1_bond_95 (lv_at hl 6 rfl) ?_
          refine wx_wv (wx_I (As := [.ref (ad 2 i), .ref (ad 2 j), .double (sk), .double (le)]) (rest := [.ref (ad 3 nb), .int (nI nb), .ref (ad 12 0)]) hAt.fix (m_X7_init l A Dg dA ((cN n (nb + 1) nr 0)) ad ((up2 (up2 (cR ad n nb nr J R) 20 nb .null) 21 nb .null)) ((up2 (up2 D 10 nb 0) 11 nb 0)) I cN_cm nb ((Nat.lt_succ_self nb)) ((ad 2 i)) ((ad 2 j)) sk le) q468 q469 q470 rfl wn_X7_init ⟨Nat.le_of_ble_eq_true rfl, Nat.le_of_ble_eq_true rfl, Nat.le_of_ble_eq_true rfl, Nat.le_of_ble_eq_true rfl⟩ (Pw.of hK hW) hl.1 (Nat.le_of_ble_eq_true rfl) dX1_bond_97) hS (fun H locs hW hz hS => ?_)
          refine w_aas (j := nb) (ix := nb) (kv := 3) (bv := nb) (ci := 3) Z hW hS (k := 12) (b := 0) rfl (show 0 < 1 by decide) rfl hlt (by decide) hlt rfl rfl rfl (Nat.lt_succ_self nb) rfl rfl cN_cm dX1_bond_100 (fun H locs hW hS => ?_)
          refine lv_aload_n hx hb dX1_bond_101 rfl (lv_at hl 2 rfl) ?_
          refine lv_dup hx hb dX1_bond_102 rfl ?_
          refine g_I (x := nI nb) Z hW kX1 rfl 9 (by decide) q150 (show (0 : Nat) < 1 by decide) rfl hcnt dX1_bond_103 ?_
          refine lv_iconst (v := nI 1) hx hb dX1_bond_106 rfl ?_
          refine lv_iadd hx hb dX1_bond_107 ?_
          rw [nI_add]
          refine w_putI Z hW hS kX1 rfl 9 (by decide) (by decide) q150 rfl (show (0 : Nat) < 1 by decide) rfl rfl rfl dX1_bond_108 (fun H locs hW hS => ?_)
          refine lv_aload_n hx hb dX1_bond_111 rfl (lv_at hl 2 rfl) ?_
          refine g_I (x := nI (nb + 1)) Z hW kX1 rfl 9 (by decide) q150 (show (0 : Nat) < 1 by decide) rfl rfl dX1_bond_112 ?_
          rw [hQ]
          exact rX (rW_i hx hb hr hlk hS (⟨hok, hlt, rfl, ad, _, _, R, rfl, World.tab (fun _ => cN_ks) hW (fun _ _ _ => rfl) (fun _ _ _ => rfl) (fun f q _ => by rw [ix_nI (by omega), ix_nI (by omega)]; exact bo_R), by rw [up2_col (by decide)]; exact (hag.put 10 nb _).put 11 nb _, hagI.put 21 0 _, hwo.cg rfl rfl, fun q => (hNL q).cg ((exc.rf.up rfl).up rfl) (exc.rf)|>.cgJ (S := fun f => Nat.beq f 21) (exc.rf.up rfl) rfl rfl⟩) dX1_bond_115)
        · refine w_excM hAt.fix hfl hstr exM q338 q339 q55 (by decide +kernel) (by decide +kernel) hst hA hS hl.1 dX1_bond_68 dX1_bond_71 dX1_bond_72 dX1_bond_74 (Nat.le_of_ble_eq_true rfl) (Nat.le_of_ble_eq_true rfl) (Nat.le_of_ble_eq_true rfl) (Nat.le_of_ble_eq_true rfl) (fun x H locs hE hk hS => ?_)
          have hW := hW.grown hk
          refine lv_athrow hx hb dX1_bond_77 ?_
          rw [hQ]
          exact rT_x hlk htab rfl hS hE (Or.inr ⟨⟨hok, by omega, rfl⟩, ⟨ad, _, _, _, rfl, hW, hag, hagI, hwo, hNL⟩⟩)
      · have q8 := hq
        refine lv_if_eq (tgt := 55) hx hb dX1_bond_48 (by decide) (fun _ => ?_) (fun h => absurd nI_0 h)
        refine lv_iconst (v := nI 0) hx hb dX1_bond_55 rfl ?_
        refine wx_x (wx_S (As := [.int (nI 0)]) (rest := []) hAt.fix (m_X1_check l hfl A Dg dA ((fun H => cW A Dg dA ad n nb nr 0 J R D I H)) gr_W (nI 0)) q271 q272 q45 q273 wn_X1_check ⟨Nat.le_of_ble_eq_true rfl, Nat.le_of_ble_eq_true rfl, Nat.le_of_ble_eq_true rfl, Nat.le_of_ble_eq_true rfl⟩ (Px.of hK hst hA hS hW) hl.1 (Nat.le_of_ble_eq_true rfl) dX1_bond_56) hS (fun r H locs hW hz hS => ?_) (fun x C H locs hp hE hz hS => ?_)
        · exact absurd nI_0 hW.1
        · rw [hQ]
          obtain ⟨⟨-, rfl⟩, hW⟩ := hp
          exact rT_x hlk htab rfl hS hE (Or.inl ⟨⟨fun q => q8 q.2.2.2.2, rfl⟩, ⟨ad, _, _, _, rfl, hW, hag, hagI, hwo, hNL⟩⟩)
    · have q10 := hq
      refine lv_if_eq (tgt := 55) hx hb dX1_bond_29 (by decide) (fun _ => ?_) (fun h => absurd nI_0 h)
      refine lv_iconst (v := nI 0) hx hb dX1_bond_55 rfl ?_
      refine wx_x (wx_S (As := [.int (nI 0)]) (rest := []) hAt.fix (m_X1_check l hfl A Dg dA ((fun H => cW A Dg dA ad n nb nr 0 J R D I H)) gr_W (nI 0)) q271 q272 q45 q273 wn_X1_check ⟨Nat.le_of_ble_eq_true rfl, Nat.le_of_ble_eq_true rfl, Nat.le_of_ble_eq_true rfl, Nat.le_of_ble_eq_true rfl⟩ (Px.of hK hst hA hS hW) hl.1 (Nat.le_of_ble_eq_true rfl) dX1_bond_56) hS (fun r H locs hW hz hS => ?_) (fun x C H locs hp hE hz hS => ?_)
      · exact absurd nI_0 hW.1
      · rw [hQ]
        obtain ⟨⟨-, rfl⟩, hW⟩ := hp
        exact rT_x hlk htab rfl hS hE (Or.inl ⟨⟨fun q => q10 q.2.2.2.1, rfl⟩, ⟨ad, _, _, _, rfl, hW, hag, hagI, hwo, hNL⟩⟩)
set_option maxHeartbeats 4000000 in
theorem m_C_rod (l : Launch) (hfl : l.flags = flags0) (A : Nat → Prop) (Dg : va_G) (dA : Nat → ClassId) (qs : Nat) (x : Nat) (n : Nat) (nb : Nat) (nr : Nat) (J : Jt) (D0 : T64) (I0 : T32) (hI : Inv n nb nr J D0 I0) (ki : Int32) (kj : Int32) (le : UInt64) : MX l yX1_rod cX1_rod 7 (some .int) [] (rmx 9 2 9) [.ref (x), .int (ki), .int (kj), .double (le)] (Py A Dg dA qs (CS A Dg dA x n nb nr J D0 I0)) (qX (fun r : Int32 => some (.int r)) (fun r H => okRo ki kj n (D0 20 0) le ∧ nr < 4 ∧ r = nI (nr + 1) ∧ CS A Dg dA x n nb ((nr + 1)) ((up2 (up2 J 4 nr (ix ki)) 5 nr (ix kj))) ((up2 D0 12 nr le)) ((up2 I0 22 0 (nI (nr + 1)))) H) (fun C H => ((¬ okRo ki kj n (D0 20 0) le ∧ C = "java/lang/IllegalArgumentException") ∧ CS A Dg dA x n nb nr J D0 I0 H) ∨ ((okRo ki kj n (D0 20 0) le ∧ nr = 4 ∧ C = "java/lang/IllegalStateException") ∧ CS A Dg dA x n nb nr J D0 I0 H)) A) 1 3 A := by
  refine MX.start (Nat.le_of_ble_eq_true rfl) ?_
  intro p e s m args below meth c ls Q hAt hPc hl hQ
  have hl : lv_has ls 7 [(0, .ref (x)), (1, .int (ki)), (2, .int (kj)), (3, .double (le))] := hl
  obtain ⟨hx, hb, hml, hr, hlk, hown, hnm, htab, hts⟩ := id hAt
  obtain ⟨⟨hK, hst, hA, hW⟩, hstr⟩ := hPc
  have Z := Cx.of hAt hK
  have hS : va_S A s.heap s.heap [] := va_S.rf
  obtain ⟨ad, D, I, R, rfl, hW, hag, hagI, hwo, hNL⟩ := hW
  have hB := hI.bd
  have hn10 := hB.n10
  have hn : I 20 0 = nI n := (hagI 20 0 rfl).trans hI.cn.1
  have hcnt : I 22 0 = nI nr := (hagI 22 0 rfl).trans hI.cn.2.2
  have hmx := hB.nr4
  refine lv_aload_n hx hb dX1_rod_0 rfl (lv_at hl 0 rfl) ?_
  refine lv_iload_n hx hb dX1_rod_1 rfl (lv_at hl 1 rfl) ?_
  refine wx_x (wx_V (As := [.int (ki)]) (rest := []) hAt.fix (m_X1_at l hfl A Dg dA ad n nb nr 0 J R D I ki hn hn10) q432 q434 qs5 q435 wn_X1_at ⟨Nat.le_of_ble_eq_true rfl, Nat.le_of_ble_eq_true rfl, Nat.le_of_ble_eq_true rfl, Nat.le_of_ble_eq_true rfl⟩ (w_recv hK hW kX1 rfl (show (0 : Nat) < 1 by decide)) (Px.of hK hst hA hS hW) hl.1 (Nat.le_of_ble_eq_true rfl) dX1_rod_2) hS (fun r H locs hW hz hS => ?_) (fun x C H locs hp hE hz hS => ?_)
  rotate_left
  · rw [hQ]
    obtain ⟨⟨hno, rfl⟩, hW⟩ := hp
    exact rT_x hlk htab rfl hS hE (Or.inl ⟨⟨fun q => hno q.1, rfl⟩, ⟨ad, _, _, _, rfl, hW, hag, hagI, hwo, hNL⟩⟩)
  obtain ⟨⟨i, hi, rfl, rfl⟩, hW⟩ := hW
  refine lv_astore (lv' := [(5, .ref (ad 2 i)), (0, .ref (ad 0 0)), (1, .int (nI i)), (2, .int (kj)), (3, .double (le))]) hx hb dX1_rod_5 hl (by decide) rfl (fun ls hl => ?_)
  refine lv_aload_n hx hb dX1_rod_7 rfl (lv_at hl 1 rfl) ?_
  refine lv_iload_n hx hb dX1_rod_8 rfl (lv_at hl 3 rfl) ?_
  refine wx_x (wx_V (As := [.int (kj)]) (rest := []) hAt.fix (m_X1_at l hfl A Dg dA ad n nb nr 0 J R D I kj hn hn10) q432 q434 qs5 q435 wn_X1_at ⟨Nat.le_of_ble_eq_true rfl, Nat.le_of_ble_eq_true rfl, Nat.le_of_ble_eq_true rfl, Nat.le_of_ble_eq_true rfl⟩ (w_recv hK hW kX1 rfl (show (0 : Nat) < 1 by decide)) (Px.of hK hst hA hS hW) hl.1 (Nat.le_of_ble_eq_true rfl) dX1_rod_9) hS (fun r H locs hW hz hS => ?_) (fun x C H locs hp hE hz hS => ?_)
  rotate_left
  · rw [hQ]
    obtain ⟨⟨hno, rfl⟩, hW⟩ := hp
    exact rT_x hlk htab rfl hS hE (Or.inl ⟨⟨fun q => hno q.2.1, rfl⟩, ⟨ad, _, _, _, rfl, hW, hag, hagI, hwo, hNL⟩⟩)
  obtain ⟨⟨j, hj, rfl, rfl⟩, hW⟩ := hW
  refine lv_astore (lv' := [(6, .ref (ad 2 j)), (5, .ref (ad 2 i)), (0, .ref (ad 0 0)), (1, .int (nI i)), (2, .int (nI j)), (3, .double (le))]) hx hb dX1_rod_12 hl (by decide) rfl (fun ls hl => ?_)
  refine lv_aload hx hb dX1_rod_14 (lv_at hl 1 rfl) ?_
  refine lv_aload hx hb dX1_rod_16 (lv_at hl 0 rfl) ?_
  refine lv_aeq (tgt := 43) hx hb dX1_rod_18 (by decide) (fun c1 => ?_) (fun c1 => ?_)
  · refine lv_iconst (v := nI 0) hx hb dX1_rod_43 rfl ?_
    refine wx_x (wx_S (As := [.int (nI 0)]) (rest := []) hAt.fix (m_X1_check l hfl A Dg dA ((fun H => cW A Dg dA ad n nb nr 0 J R D I H)) gr_W (nI 0)) q271 q272 q45 q273 wn_X1_check ⟨Nat.le_of_ble_eq_true rfl, Nat.le_of_ble_eq_true rfl, Nat.le_of_ble_eq_true rfl, Nat.le_of_ble_eq_true rfl⟩ (Px.of hK hst hA hS hW) hl.1 (Nat.le_of_ble_eq_true rfl) dX1_rod_44) hS (fun r H locs hW hz hS => ?_) (fun x C H locs hp hE hz hS => ?_)
    · exact absurd nI_0 hW.1
    · rw [hQ]
      obtain ⟨⟨-, rfl⟩, hW⟩ := hp
      exact rT_x hlk htab rfl hS hE (Or.inl ⟨⟨fun q => q.2.2.1 (by rw [cW_inj hW hi hj c1]), rfl⟩, ⟨ad, _, _, _, rfl, hW, hag, hagI, hwo, hNL⟩⟩)
  · refine lv_dload_n hx hb dX1_rod_21 rfl (lv_at hl 5 rfl) ?_
    refine lv_ldc2d (v := 4593671619917905920) hx hb hown (hts _ (lw_car_all q269)) dX1_rod_22 ?_
    refine lv_aload_n hx hb dX1_rod_25 rfl (lv_at hl 2 rfl) ?_
    refine g_D (x := D0 20 0) Z hW kX1 rfl 0 (by decide) q141 (show (0 : Nat) < 1 by decide) rfl (hag 20 0 rfl) dX1_rod_26 ?_
    refine lv_ldc2d (v := 4602678819172646912) hx hb hown (hts _ (lw_car_all q69)) dX1_rod_29 ?_
    have f2 : fb (4) (FP.dmul (D0 20 0) 4602678819172646912) := fb.mul hB.side.fb fc_4602678819172646912 (by decide)
    refine lv_dmul hx hb dX1_rod_32 f2.n64 ?_
    refine wx_r (wx_S (As := [.double (le), .double (4593671619917905920), .double (FP.dmul (D0 20 0) 4602678819172646912)]) (rest := []) hAt.fix (m_X1_within l le 4593671619917905920 (FP.dmul (D0 20 0) 4602678819172646912)) q266 q267 q45 q268 wn_X1_within ⟨Nat.le_of_ble_eq_true rfl, Nat.le_of_ble_eq_true rfl, Nat.le_of_ble_eq_true rfl, Nat.le_of_ble_eq_true rfl⟩ (fun _ _ _ => trivial) hl.1 (Nat.le_of_ble_eq_true rfl) dX1_rod_33) (fun r hr => ?_)
    rcases hr with ⟨rfl, hq⟩ | ⟨rfl, hq⟩
    · have q3 := hq
      refine lv_if_eq (tgt := 43) hx hb dX1_rod_36 (by decide) (fun h => absurd h (by decide)) (fun _ => ?_)
      refine lv_iconst (v := nI 1) hx hb dX1_rod_39 rfl ?_
      refine lv_goto (tgt := 44) hx hb dX1_rod_40 (by decide) ?_
      refine wx_x (wx_S (As := [.int (nI 1)]) (rest := []) hAt.fix (m_X1_check l hfl A Dg dA ((fun H => cW A Dg dA ad n nb nr 0 J R D I H)) gr_W (nI 1)) q271 q272 q45 q273 wn_X1_check ⟨Nat.le_of_ble_eq_true rfl, Nat.le_of_ble_eq_true rfl, Nat.le_of_ble_eq_true rfl, Nat.le_of_ble_eq_true rfl⟩ (Px.of hK hst hA hS hW) hl.1 (Nat.le_of_ble_eq_true rfl) dX1_rod_44) hS (fun r H locs hW hz hS => ?_) (fun x C H locs hp hE hz hS => ?_)
      rotate_left
      · exact absurd hp.1.1 (by decide)
      replace hW := hW.2
      have hij : i ≠ j := fun q => c1 (by rw [q])
      have hok : okRo (nI i) (nI j) n (D0 20 0) le := ⟨⟨i, hi, rfl⟩, ⟨j, hj, rfl⟩, fun q => hij ((nI_eq (by omega) (by omega)).mp q), q3⟩
      refine lv_aload_n hx hb dX1_rod_47 rfl (lv_at hl 2 rfl) ?_
      refine g_I (x := nI nr) Z hW kX1 rfl 10 (by decide) q151 (show (0 : Nat) < 1 by decide) rfl hcnt dX1_rod_48 ?_
      refine lv_iconst (v := nI 4) hx hb dX1_rod_51 rfl ?_
      refine lv_nne (tgt := 65) hx hb (by omega) (by decide) dX1_rod_52 (by decide) (fun c5 => ?_) (fun c5 => ?_)
      · refine lv_aload_n hx hb dX1_rod_65 rfl (lv_at hl 2 rfl) ?_
        refine w_getR (v := .ref (ad 13 0)) Z hW kX1 rfl 7 (by decide) q148 (show (0 : Nat) < 1 by decide) rfl rfl dX1_rod_66 ?_
        refine lv_aload_n hx hb dX1_rod_69 rfl (lv_at hl 2 rfl) ?_
        refine g_I (x := nI nr) Z hW kX1 rfl 10 (by decide) q151 (show (0 : Nat) < 1 by decide) rfl hcnt dX1_rod_70 ?_
        have hlt : nr < 4 := by omega
        replace hW := World.tab (fun _ => cN_ks) hW (D' := (up2 D 12 nr 0)) (Rf' := (up2 (up2 (cR ad n nb nr J R) 22 nr .null) 23 nr .null)) (I' := I) (fun f j h => D4_live h) (fun _ _ _ => rfl) (fun f j h => R4_live h)
        refine w_newO (N' := (cN n nb (nr + 1) 0)) (k := 4) Z hW hS hA kX8 rfl rfl q97 q494 q58 (c_sup _ _ _ _) rfl (fun k hk => cN_4 hk) def8 (by decide) (by decide) dX1_rod_73 (fun H ad hold hW hS => ?_)
        have e00 := hold 0 0 (Or.inl (by decide))
        have e2i := hold 2 i (Or.inl (by decide))
        have e2j := hold 2 j (Or.inl (by decide))
        have ear := hold 13 0 (Or.inl (by decide))
        rw [← e00, ← e2i, ← e2j] at hl
        rw [← e00] at hQ
        rw [← ear]
        replace hW := World.tab (fun _ => cN_ks) hW (D' := (up2 D 12 nr 0)) (Rf' := (up2 (up2 (cR ad n nb nr J R) 22 nr .null) 23 nr .null)) (I' := I) (fun _ _ _ => rfl) (fun _ _ _ => rfl) (fun f j h => R4_hold hB hold h)
        clear hold
        refine lv_dup hx hb dX1_rod_76 rfl ?_
        refine lv_aload hx hb dX1_rod_77 (lv_at hl 1 rfl) ?_
        refine lv_aload hx hb dX1_rod_79 (lv_at hl 0 rfl) ?_
        refine lv_dload_n hx hb dX1_rod_81 rfl (lv_at hl 5 rfl) ?_
        refine wx_wv (wx_I (As := [.ref (ad 2 i), .ref (ad 2 j), .double (le)]) (rest := [.ref (ad 4 nr), .int (nI nr), .ref (ad 13 0)]) hAt.fix (m_X8_init l A Dg dA ((cN n nb (nr + 1) 0)) ad ((up2 (up2 (cR ad n nb nr J R) 22 nr .null) 23 nr .null)) ((up2 D 12 nr 0)) I cN_cm nr ((Nat.lt_succ_self nr)) ((ad 2 i)) ((ad 2 j)) le) q495 q496 q497 rfl wn_X8_init ⟨Nat.le_of_ble_eq_true rfl, Nat.le_of_ble_eq_true rfl, Nat.le_of_ble_eq_true rfl, Nat.le_of_ble_eq_true rfl⟩ (Pw.of hK hW) hl.1 (Nat.le_of_ble_eq_true rfl) dX1_rod_82) hS (fun H locs hW hz hS => ?_)
        refine w_aas (j := nr) (ix := nr) (kv := 4) (bv := nr) (ci := 4) Z hW hS (k := 13) (b := 0) rfl (show 0 < 1 by decide) rfl hlt (by decide) hlt rfl rfl rfl (Nat.lt_succ_self nr) rfl rfl cN_cm dX1_rod_85 (fun H locs hW hS => ?_)
        refine lv_aload_n hx hb dX1_rod_86 rfl (lv_at hl 2 rfl) ?_
        refine lv_dup hx hb dX1_rod_87 rfl ?_
        refine g_I (x := nI nr) Z hW kX1 rfl 10 (by decide) q151 (show (0 : Nat) < 1 by decide) rfl hcnt dX1_rod_88 ?_
        refine lv_iconst (v := nI 1) hx hb dX1_rod_91 rfl ?_
        refine lv_iadd hx hb dX1_rod_92 ?_
        rw [nI_add]
        refine w_putI Z hW hS kX1 rfl 10 (by decide) (by decide) q151 rfl (show (0 : Nat) < 1 by decide) rfl rfl rfl dX1_rod_93 (fun H locs hW hS => ?_)
        refine lv_aload_n hx hb dX1_rod_96 rfl (lv_at hl 2 rfl) ?_
        refine g_I (x := nI (nr + 1)) Z hW kX1 rfl 10 (by decide) q151 (show (0 : Nat) < 1 by decide) rfl rfl dX1_rod_97 ?_
        rw [hQ]
        exact rX (rW_i hx hb hr hlk hS (⟨hok, hlt, rfl, ad, _, _, R, rfl, World.tab (fun _ => cN_ks) hW (fun _ _ _ => rfl) (fun _ _ _ => rfl) (fun f q _ => by rw [ix_nI (by omega), ix_nI (by omega)]; exact ro_R), by rw [up2_twice]; exact hag.put 12 nr _, hagI.put 22 0 _, hwo.cg rfl rfl, fun q => (hNL q).cg (exc.rf.up rfl) (exc.rf)|>.cgJ (S := fun f => Nat.beq f 22) (exc.rf.up rfl) rfl rfl⟩) dX1_rod_100)
      · refine w_excM hAt.fix hfl hstr exM q338 q339 q55 (by decide +kernel) (by decide +kernel) hst hA hS hl.1 dX1_rod_55 dX1_rod_58 dX1_rod_59 dX1_rod_61 (Nat.le_of_ble_eq_true rfl) (Nat.le_of_ble_eq_true rfl) (Nat.le_of_ble_eq_true rfl) (Nat.le_of_ble_eq_true rfl) (fun x H locs hE hk hS => ?_)
        have hW := hW.grown hk
        refine lv_athrow hx hb dX1_rod_64 ?_
        rw [hQ]
        exact rT_x hlk htab rfl hS hE (Or.inr ⟨⟨hok, by omega, rfl⟩, ⟨ad, _, _, _, rfl, hW, hag, hagI, hwo, hNL⟩⟩)
    · have q6 := hq
      refine lv_if_eq (tgt := 43) hx hb dX1_rod_36 (by decide) (fun _ => ?_) (fun h => absurd nI_0 h)
      refine lv_iconst (v := nI 0) hx hb dX1_rod_43 rfl ?_
      refine wx_x (wx_S (As := [.int (nI 0)]) (rest := []) hAt.fix (m_X1_check l hfl A Dg dA ((fun H => cW A Dg dA ad n nb nr 0 J R D I H)) gr_W (nI 0)) q271 q272 q45 q273 wn_X1_check ⟨Nat.le_of_ble_eq_true rfl, Nat.le_of_ble_eq_true rfl, Nat.le_of_ble_eq_true rfl, Nat.le_of_ble_eq_true rfl⟩ (Px.of hK hst hA hS hW) hl.1 (Nat.le_of_ble_eq_true rfl) dX1_rod_44) hS (fun r H locs hW hz hS => ?_) (fun x C H locs hp hE hz hS => ?_)
      · exact absurd nI_0 hW.1
      · rw [hQ]
        obtain ⟨⟨-, rfl⟩, hW⟩ := hp
        exact rT_x hlk htab rfl hS hE (Or.inl ⟨⟨fun q => q6 q.2.2.2, rfl⟩, ⟨ad, _, _, _, rfl, hW, hag, hagI, hwo, hNL⟩⟩)
