set_option maxRecDepth 100000
/-! ===== plain words: what a step's stages rest on ===== -/
section SK
variable {D T : T64} {I I1 : T32} {J : Jt} {l : UInt64} {i j : Nat}
/-- the same atoms are stuck -/
abbrev sameS (I1 I : T32) : Prop := ∀ j, I1 1 j = I 1 j
theorem rH_cg (h : sameS I1 I) : rH D T I1 i j = rH D T I i j := by unfold rH; rw [h i, h j]
theorem rG_cg (h : sameS I1 I) : rG D T I1 l i j = rG D T I l i j := by unfold rG; rw [rH_cg h]
theorem rcd_cg (h : sameS I1 I) : rcd D T I1 l i j = rcd D T I l i j := by unfold rcd; rw [rH_cg h]
theorem rTn_cg (h : sameS I1 I) : rTn D T I1 l i j = rTn D T I l i j := by unfold rTn rT1; rw [rcd_cg h, rG_cg h, h i, h j]
theorem rnd_cg (h : sameS I1 I) : ∀ k, rnd D I1 J T k = rnd D I J T k
  | 0 => rfl
  | k + 1 => by
    unfold rnd
    rw [rnd_cg h k]
    simp only
    rw [rTn_cg h, rcd_cg h]
theorem rds_cg (h : sameS I1 I) {nr : Nat} : ∀ (f r : Nat) (T : T64), rds D I1 J nr f r T = rds D I J nr f r T
  | 0, _, _ => rfl
  | f + 1, r, T => by
    unfold rds
    rw [rnd_cg h]
    simp only
    rw [rds_cg h f]
theorem frc_cg (h : sameS I1 I) : ∀ k, frc I1 k = frc I k
  | 0 => rfl
  | k + 1 => by unfold frc; rw [h k, frc_cg h k]
theorem tmpS_cg (h : sameS I1 I) {n : Nat} : tmpS D I1 n = tmpS D I n := by unfold tmpS; rw [frc_cg h]
theorem scD_cg (h : sameS I1 I) {q : UInt64} {n : Nat} : scD q n D I1 = scD q n D I := by
  have e : scG q D I1 = scG q D I := by
    funext f k
    unfold scG g2
    simp only [h k]
  unfold scD
  rw [e]
theorem rsc_cg (h : sameS I1 I) {t : UInt64} {n : Nat} : rsc t n D I1 = rsc t n D I := by unfold rsc; rw [tmpS_cg h, scD_cg h]
end SK
theorem agD.tg {D D0 G G0 : T64} (h : agD D D0) {n : Nat} {S : Nat → Bool} (hG : ∀ f j, S f = true → cD f = true → j < n → G f j = G0 f j) : agD (tg n S G D) (tg n S G0 D0) := by
  intro f j hf
  cases hs : S f with
  | false => rw [tg_out hs, tg_out hs]; exact h f j hf
  | true =>
    by_cases hj : j < n
    · rw [tg_in hs hj, tg_in hs hj]; exact hG f j hs hf hj
    · rw [tg_hi hj, tg_hi hj]; exact h f j hf
/-- kicked alike -/
theorem psh_ag {D1 E : T64} {I1 I : T32} {n nb : Nat} {J : Jt} {half : UInt64} (h : agD D1 E) (hI : sameS I1 I) (hF : ∀ a, a < n → D1 30 a = (FX E J n nb a).1 ∧ D1 31 a = (FX E J n nb a).2) : agD (psD half n D1 I1) (pshC half n nb J I E) := by
  refine h.tg (fun f j hs _ hj => ?_)
  obtain ⟨h1, h2⟩ := hF j hj
  rcases s2_or hs with rfl | rfl
  · show (if I1 1 j = 0 then pu half (D1 2 j) (D1 30 j) (D1 4 j) else D1 2 j) = (if I 1 j = 0 then pu half (E 2 j) (FX E J n nb j).1 (E 4 j) else E 2 j)
    rw [hI j, h1, h 2 j rfl, h 4 j rfl]
  · show (if I1 1 j = 0 then pu half (D1 3 j) (D1 31 j) (D1 4 j) else D1 3 j) = (if I 1 j = 0 then pu half (E 3 j) (FX E J n nb j).2 (E 4 j) else E 3 j)
    rw [hI j, h2, h 3 j rfl, h 4 j rfl]
theorem smT_cg {D1 E : T64} (h : agD D1 E) : ∀ k, smT D1 k = smT E k
  | 0 => rfl
  | k + 1 => by unfold smT; rw [smT_cg h k, h 4 k rfl, h 2 k rfl, h 3 k rfl]
theorem tmpS_ag {D1 E : T64} {I : T32} {n : Nat} (h : agD D1 E) : tmpS D1 I n = tmpS E I n := by unfold tmpS; rw [smT_cg h]
/-- scaled alike -/
theorem rsc_ag {D1 E : T64} {I1 I : T32} {n : Nat} {t : UInt64} (h : agD D1 E) (hI : sameS I1 I) : agD (rsc t n D1 I1) (rsc t n E I) := by
  rw [rsc_cg hI]
  unfold rsc
  rw [tmpS_ag h]
  split
  · exact h
  · refine h.tg (fun f j hs _ hj => ?_)
    rcases s2_or hs with rfl | rfl
    · show (if I 1 j = 0 then FP.dmul (D1 2 j) _ else D1 2 j) = (if I 1 j = 0 then FP.dmul (E 2 j) _ else E 2 j)
      rw [h 2 j rfl]
    · show (if I 1 j = 0 then FP.dmul (D1 3 j) _ else D1 3 j) = (if I 1 j = 0 then FP.dmul (E 3 j) _ else E 3 j)
      rw [h 3 j rfl]
theorem fastB_ag {D1 E : T64} {n : Nat} (h : agD D1 E) : fastB D1 n = fastB E n := by
  unfold fastB
  congr 1
  funext i
  rw [h 2 i rfl, h 3 i rfl]
theorem Bu.ag {E : Int} {n : Nat} {D D0 : T64} (h : Bu E n D0) (ha : agD D D0) : Bu E n D := fun i hi => by rw [ha 2 i rfl, ha 3 i rfl]; exact h i hi
/-! the list -/
theorem nbs_cg {D E : T64} {i : Nat} : ∀ m, (∀ j, j < m → wR D i j = wR E i j) → rch2 D = rch2 E → nbs D i m = nbs E i m
  | 0, _, _ => rfl
  | m + 1, h, hr => by
    have ih := nbs_cg m (fun j hj => h j (by omega)) hr
    by_cases hm : m = i
    · rw [nbs_no (Or.inl hm), nbs_no (Or.inl hm), ih]
    · by_cases hf : flt (wR E i m) (rch2 E)
      · rw [nbs_add hm (by rw [h m (by omega), hr]; exact hf), nbs_add hm hf, ih]
      · rw [nbs_no (Or.inr (by rw [h m (by omega), hr]; exact hf)), nbs_no (Or.inr hf), ih]
/-- the numbers that a list rests on -/
def sL : Nat → Bool := fun f => !(Nat.beq f 5 || (Nat.beq f 6 || (Nat.beq f 20 || (Nat.beq f 21 || Nat.beq f 22))))
theorem NL.cg {D E : T64} {I I1 : T32} {n : Nat} (h : NL E I n) (he : exc sL D E) (hI : exc (s2 23 25) I1 I) : NL D I1 n := by
  intro i hi
  have e : nbs (atL D) i n = nbs (atL E) i n := by
    refine nbs_cg n (fun j _ => ?_) ?_
    · show sq (sShort (D 20 0) (FP.dsub (D 5 j) (D 5 i))) (sShort (D 20 0) (FP.dsub (D 6 j) (D 6 i))) = sq (sShort (E 20 0) (FP.dsub (E 5 j) (E 5 i))) (sShort (E 20 0) (FP.dsub (E 6 j) (E 6 i)))
      rw [he 20 0 rfl, he 5 j rfl, he 5 i rfl, he 6 j rfl, he 6 i rfl]
    · show FP.dmul (FP.dadd (FP.dadd (D 21 0) (D 22 0)) _) _ = FP.dmul (FP.dadd (FP.dadd (E 21 0) (E 22 0)) _) _
      show FP.dmul (FP.dadd (FP.dadd (D 21 0) (D 22 0)) _) (FP.dadd (FP.dadd (D 21 0) (D 22 0)) _) = FP.dmul (FP.dadd (FP.dadd (E 21 0) (E 22 0)) _) (FP.dadd (FP.dadd (E 21 0) (E 22 0)) _)
      rw [he 21 0 rfl, he 22 0 rfl]
  rw [e]
  exact (h i hi).cg hI rfl rfl
theorem Lst.nl {D0 D D1 : T64} {li : Int32} {n : Nat} {I I1 : T32} (h : Lst D0 li n D I D1 I1) (hNL : ¬ li = 0 → NL D0 I n) : NL (lsC D0 li n) I1 n := by
  intro i hi
  have hr := h.rows hNL i hi
  unfold lsC
  unfold jsC at hr
  cases ho : oldB D0 li n with
  | true =>
    rw [ho] at hr
    have e : nbs (atL (lsT n D0)) i n = nbs D0 i n := by
      refine nbs_cg n (fun j hj => ?_) rfl
      have f5 : ∀ a, a < n → lsT n D0 5 a = D0 0 a := fun a ha => tg_in rfl ha
      have f6 : ∀ a, a < n → lsT n D0 6 a = D0 1 a := fun a ha => tg_in rfl ha
      show sq (sShort (D0 20 0) (FP.dsub (lsT n D0 5 j) (lsT n D0 5 i))) (sShort (D0 20 0) (FP.dsub (lsT n D0 6 j) (lsT n D0 6 i))) = _
      rw [f5 j hj, f5 i hi, f6 j hj, f6 i hi]
      rfl
    show RowOK I1 i (nbs (atL (lsT n D0)) i n)
    rw [e]; exact hr
  | false => rw [ho] at hr; exact hr
theorem Lst.ls {D0 D D1 : T64} {li : Int32} {n : Nat} {I I1 : T32} (h : Lst D0 li n D I D1 I1) : I1 25 0 = lsN D0 li n (I 25 0) := by
  unfold lsN
  rcases h with ⟨h1, h2, rfl⟩ | ⟨h1, h2, h3, h4, h5, h6⟩
  · rw [h1]; rfl
  · rw [h1]; exact h5
theorem Lst.li {D0 D D1 : T64} {li : Int32} {n : Nat} {I I1 : T32} (h : Lst D0 li n D I D1 I1) (hli : I 23 0 = li) (h01 : li = nI 0 ∨ li = nI 1) : I1 23 0 = nI 1 := by
  rcases h with ⟨h1, h2, rfl⟩ | ⟨h1, h2, h3, h4, h5, h6⟩
  · rw [hli]
    rcases h01 with q | q
    · exact absurd (by rw [q]; rfl) (oldB_f.mp h1).1
    · exact q
  · exact h4
theorem Lst.far {D0 D D1 : T64} {li : Int32} {n : Nat} {I I1 : T32} (h : Lst D0 li n D I D1 I1) {f i : Nat} (h1 : sN f = false) (h5 : f ≠ 5) (h6 : f ≠ 6) : D1 f i = D f i := by
  rcases h with ⟨-, h2, -⟩ | ⟨-, h2, -⟩
  · exact h2 f i h1
  · rw [h2 f i h1]; exact lsT_out h5 h6
/-! how a step ends -/
section AE
variable {dt : UInt64} {n nb nr : Nat} {J : Jt} {I : T32} {D T : T64} {li ls : Int32} {q : Nat}
theorem adv_ov (h : ovl D n = true) : adv dt n nb nr J I D li ls = (1, lsC D li n, lsN D li n ls, 0) := if_pos h
theorem adv_no (h : ovl D n = false) : adv dt n nb nr J I D li ls = advA dt n nb nr J I (lsC D li n) (lsN D li n ls) := if_neg (by rw [h]; decide)
theorem advA_t (h : fastB (pshC (FP.dmul 4602678819172646912 dt) n nb J I D) n = true) : advA dt n nb nr J I D ls = (3, D, ls, 0) := if_pos h
theorem advA_f (h : fastB (pshC (FP.dmul 4602678819172646912 dt) n nb J I D) n = false) : advA dt n nb nr J I D ls = advB dt n nb nr J I (pshC (FP.dmul 4602678819172646912 dt) n nb J I D) ls := if_neg (by rw [h]; decide)
theorem advB_n (h : rds D I J nr 40 0 (nxt dt I D) = none) : advB dt n nb nr J I D ls = (2, D, ls, 0) := by unfold advB; rw [h]
theorem advB_s (h : rds D I J nr 40 0 (nxt dt I D) = some (q, T)) : advB dt n nb nr J I D ls = advC dt n nb nr J I D T ls q := by unfold advB; rw [h]
theorem advC_t (h : fastB (vel dt n nr I D T) n = true) : advC dt n nb nr J I D T ls q = (3, D, ls, 0) := if_pos h
theorem advC_f (h : fastB (vel dt n nr I D T) n = false) : advC dt n nb nr J I D T ls q = advD dt n nb J I (mov n (vel dt n nr I D T) T) ls q := if_neg (by rw [h]; decide)
theorem advD_t (h : ovl D n = true) : advD dt n nb J I D ls q = (1, lsC D (nI 1) n, lsN D (nI 1) n ls, 0) := if_pos h
theorem advD_f (h : ovl D n = false) : advD dt n nb J I D ls q = advE dt n nb J I (lsC D (nI 1) n) (lsN D (nI 1) n ls) q := if_neg (by rw [h]; decide)
theorem advE_t (h : fastB (pshC (FP.dmul 4602678819172646912 dt) n nb J I D) n = true) : advE dt n nb J I D ls q = (3, D, ls, 0) := if_pos h
theorem advE_f (h : fastB (pshC (FP.dmul 4602678819172646912 dt) n nb J I D) n = false) : advE dt n nb J I D ls q = (0, pshC (FP.dmul 4602678819172646912 dt) n nb J I D, ls, q) := if_neg (by rw [h]; decide)
end AE
/-- the shared numbers that a step's failure leaves -/
def agU (D E : T64) : Prop := ∀ f i, cD f = true → s4 0 1 2 3 f = false → D f i = E f i
theorem agD.U {D E : T64} (h : agD D E) : agU D E := fun f i hf _ => h f i hf
theorem agU.to {D E E' : T64} (h : agU D E) (he : exc (s4 0 1 2 3) E' E) : agU D E' := fun f i hf hs => (h f i hf hs).trans (he f i hs).symm
theorem s23_4 : ∀ f, s4 0 1 2 3 f = false → s2 2 3 f = false := by
  intro f h
  cases hb : s2 2 3 f with
  | false => rfl
  | true => rcases s2_or hb with rfl | rfl <;> exact absurd h (by decide)
theorem s01_4 : ∀ f, s4 0 1 2 3 f = false → s2 0 1 f = false := by
  intro f h
  cases hb : s2 0 1 f with
  | false => rfl
  | true => rcases s2_or hb with rfl | rfl <;> exact absurd h (by decide)
theorem sL_4 : ∀ f, sL f = false → s4 0 1 2 3 f = false := by
  intro f h
  unfold sL at h
  rw [Bool.not_eq_false', Bool.or_eq_true, Bool.or_eq_true, Bool.or_eq_true, Bool.or_eq_true, Nat.beq_eq, Nat.beq_eq, Nat.beq_eq, Nat.beq_eq, Nat.beq_eq] at h
  rcases h with rfl | rfl | rfl | rfl | rfl <;> rfl
/-- warmed, if it is wanted -/
def wrm (w : UInt64) (n : Nat) (I : T32) (D : T64) : T64 := if FP.dcmp w FP.dconst0 = some .gt ∨ FP.dcmp w FP.dconst0 = some .eq then rsc w n D I else D
theorem wrm_t {w : UInt64} {n : Nat} {I : T32} {D : T64} (h : fge w FP.dconst0) : wrm w n I D = rsc w n D I := if_pos h
theorem wrm_f {w : UInt64} {n : Nat} {I : T32} {D : T64} (h : ¬ fge w FP.dconst0) : wrm w n I D = D := if_neg h
theorem nI_pos1 {k : Nat} (hk : k < 1000) (h : ¬ nI k ≤ 0) : 0 < k := by
  apply Nat.pos_of_ne_zero
  intro q
  subst q
  exact h (by decide)
theorem nI_le0 {k : Nat} (hk : k < 1000) (h : nI k ≤ 0) : ¬ 0 < k := by
  intro q
  have := (nI_leI (a := k) (b := 0) (by omega) (by omega)).mp h
  omega
