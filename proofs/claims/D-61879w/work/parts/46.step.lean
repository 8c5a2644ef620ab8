set_option maxRecDepth 100000
/-! ===== a step keeps what holds between calls ===== -/
/-- alike but for places, speeds and the list's places of the atoms there are -/
def kpt (n : Nat) (E D : T64) : Prop := ∀ f i, (s4 0 1 2 3 f = true ∨ (f = 5 ∨ f = 6) ∧ i < n) ∨ E f i = D f i
theorem kpt.rf {n : Nat} {D : T64} : kpt n D D := fun _ _ => Or.inr rfl
theorem kpt.trans {n : Nat} {E D C : T64} (h : kpt n E D) (h2 : kpt n D C) : kpt n E C := fun f i => by
  rcases h f i with q | q
  · exact Or.inl q
  · rcases h2 f i with r | r
    · exact Or.inl r
    · exact Or.inr (q.trans r)
theorem kpt.ex {n : Nat} {E D : T64} (h : exc (s4 0 1 2 3) E D) : kpt n E D := fun f i => by
  cases hs : s4 0 1 2 3 f with
  | true => exact Or.inl (Or.inl rfl)
  | false => exact Or.inr (h f i hs)
theorem kpt.ls {n : Nat} {D : T64} {li : Int32} : kpt n (lsC D li n) D := fun f i => by
  unfold lsC
  cases oldB D li n with
  | false => exact Or.inr rfl
  | true =>
    by_cases h5 : f = 5
    · by_cases hi : i < n
      · exact Or.inl (Or.inr ⟨Or.inl h5, hi⟩)
      · exact Or.inr (tg_hi hi)
    · by_cases h6 : f = 6
      · by_cases hi : i < n
        · exact Or.inl (Or.inr ⟨Or.inr h6, hi⟩)
        · exact Or.inr (tg_hi hi)
      · exact Or.inr (lsT_out h5 h6)
theorem kpt.at {n : Nat} {E D : T64} (h : kpt n E D) {f i : Nat} (h4 : s4 0 1 2 3 f = false) (h5 : f ≠ 5) (h6 : f ≠ 6) : E f i = D f i := by
  rcases h f i with (q | ⟨q | q, -⟩) | q
  · rw [h4] at q; cases q
  · exact absurd q h5
  · exact absurd q h6
  · exact q
theorem kpt.hi {n : Nat} {E D : T64} (h : kpt n E D) {f i : Nat} (h4 : s4 0 1 2 3 f = false) (hi : n ≤ i) : E f i = D f i := by
  rcases h f i with (q | ⟨-, q⟩) | q
  · rw [h4] at q; cases q
  · omega
  · exact q
theorem rds_BT {n nb nr : Nat} {J : Jt} {D : T64} {I : T32} (h : Bd n nb nr J D) : ∀ (f r c : Nat) (T : T64), BT c n T → c + 4 * f ≤ 200 → ∀ q T1, rds D I J nr f r T = some (q, T1) → BT 200 n T1 ∧ q < r + f
  | 0, r, c, T, _, _, q, T1, he => by cases he
  | f + 1, r, c, T, hT, hc, q, T1, he => by
    have h4 := h.nr4
    have hb := rnd_BT (I := I) h hT (by omega) nr (Nat.le_refl _)
    cases h1 : (rnd D I J T nr).2.2 with
    | true => rw [rds_stiff h1] at he; cases he
    | false =>
      cases h2 : (rnd D I J T nr).2.1 with
      | true =>
        rw [rds_next h1 h2] at he
        obtain ⟨a, b⟩ := rds_BT h f (r + 1) (c + nr) _ hb (by omega) q T1 he
        exact ⟨a, by omega⟩
      | false =>
        rw [rds_done h1 h2] at he
        cases he
        exact ⟨hb.mono (by omega), by omega⟩
/-- what a step's making leaves -/
theorem adv_keep {dt : UInt64} {n nb nr : Nat} {J : Jt} {I : T32} {D : T64} {li ls : Int32} (h : Bd n nb nr J D) (hu : Bu 20 n D) (hd : dtOK dt) :
    (adv dt n nb nr J I D li ls).1 ≤ 3 ∧ (adv dt n nb nr J I D li ls).2.2.2 < 40 ∧ Bd n nb nr J (adv dt n nb nr J I D li ls).2.1 ∧ kpt n (adv dt n nb nr J I D li ls).2.1 D ∧ ((adv dt n nb nr J I D li ls).1 = 0 → Bu 20 n (adv dt n nb nr J I D li ls).2.1) := by
  have z3 : (3 : Nat) = 0 → False := by decide
  cases h1 : ovl D n with
  | true => rw [adv_ov h1]; exact ⟨(by decide : 1 ≤ 3), (by decide : 0 < 40), h.lc, kpt.ls, fun q => absurd q (Nat.succ_ne_zero _)⟩
  | false =>
    rw [adv_no h1]
    have k1 : kpt n (lsC D li n) D := kpt.ls
    have hE : Bd n nb nr J (lsC D li n) := h.lc
    have hu1 : Bu 20 n (lsC D li n) := hu.cg (lsC_exL (li := li) (n := n)) rfl rfl
    have ho1 : ovl (lsC D li n) n = false := by rw [ovl_cg lsC_exL]; exact h1
    generalize lsC D li n = E1 at k1 hE hu1 ho1
    generalize lsN D li n ls = ls1
    have k2 : kpt n (pshC (FP.dmul 4602678819172646912 dt) n nb J I E1) D := (kpt.ex (tg_exc.mono s23_4)).trans k1
    have hv2 := Bu.psh (I := I) hE hu1 (dt_half hd) ho1
    have hE2 : Bd n nb nr J (pshC (FP.dmul 4602678819172646912 dt) n nb J I E1) := hE.psh
    cases h2 : fastB (pshC (FP.dmul 4602678819172646912 dt) n nb J I E1) n with
    | true => rw [advA_t h2]; exact ⟨(by decide : 3 ≤ 3), (by decide : 0 < 40), hE, k1, fun q => absurd q (Nat.succ_ne_zero _)⟩
    | false =>
      rw [advA_f h2]
      have hu2 := hv2.slow h2
      generalize pshC (FP.dmul 4602678819172646912 dt) n nb J I E1 = E2 at k2 hE2 hu2
      cases h3 : rds E2 I J nr 40 0 (nxt dt I E2) with
      | none => rw [advB_n h3]; exact ⟨(by decide : 2 ≤ 3), (by decide : 0 < 40), hE2, k2, fun q => absurd q (Nat.succ_ne_zero _)⟩
      | some qT =>
        obtain ⟨q, T⟩ := qT
        rw [advB_s h3]
        obtain ⟨hT, hq⟩ := rds_BT hE2 40 0 1 _ (nxt_BT hE2 hu2 hd) (by decide) q T h3
        have k3 : kpt n (vel dt n nr I E2 T) D := (kpt.ex (tg_exc.mono s23_4)).trans k2
        have hv3 : Bu 59 n (vel dt n nr I E2 T) := Bu.vl hE2 hu2 hd hT
        have hE3 : Bd n nb nr J (vel dt n nr I E2 T) := hE2.vl
        cases h4 : fastB (vel dt n nr I E2 T) n with
        | true => rw [advC_t h4]; exact ⟨(by decide : 3 ≤ 3), (by decide : 0 < 40), hE2, k2, fun q => absurd q (Nat.succ_ne_zero _)⟩
        | false =>
          rw [advC_f h4]
          have hu3 := hv3.slow h4
          generalize vel dt n nr I E2 T = E3 at k3 hE3 hu3
          have k4 : kpt n (mov n E3 T) D := (kpt.ex (tg_exc.mono s01_4)).trans k3
          have hE4 : Bd n nb nr J (mov n E3 T) := hE3.mv hT (by decide)
          have hu4 : Bu 20 n (mov n E3 T) := hu3.cg (S := s2 0 1) tg_exc rfl rfl
          generalize mov n E3 T = E4 at k4 hE4 hu4
          cases h5 : ovl E4 n with
          | true => rw [advD_t h5]; exact ⟨(by decide : 1 ≤ 3), (by decide : 0 < 40), hE4.lc, kpt.ls.trans k4, fun q => absurd q (Nat.succ_ne_zero _)⟩
          | false =>
            rw [advD_f h5]
            have k6 : kpt n (lsC E4 (nI 1) n) D := kpt.ls.trans k4
            have hE6 : Bd n nb nr J (lsC E4 (nI 1) n) := hE4.lc
            have hu6 : Bu 20 n (lsC E4 (nI 1) n) := hu4.cg (lsC_exL (li := nI 1) (n := n)) rfl rfl
            have ho6 : ovl (lsC E4 (nI 1) n) n = false := by rw [ovl_cg lsC_exL]; exact h5
            generalize lsC E4 (nI 1) n = E6 at k6 hE6 hu6 ho6
            generalize lsN E4 (nI 1) n ls1 = ls6
            have hv7 := Bu.psh (I := I) hE6 hu6 (dt_half hd) ho6
            cases h6 : fastB (pshC (FP.dmul 4602678819172646912 dt) n nb J I E6) n with
            | true => rw [advE_t h6]; exact ⟨(by decide : 3 ≤ 3), (by decide : 0 < 40), hE6, k6, fun q => absurd q (Nat.succ_ne_zero _)⟩
            | false => rw [advE_f h6]; exact ⟨(by decide : 0 ≤ 3), by show q < 40; omega, hE6.psh, (kpt.ex (tg_exc.mono s23_4)).trans k6, fun _ => hv7.slow h6⟩
/-- the same atoms stuck: the same step -/
theorem adv_cg {dt : UInt64} {n nb nr : Nat} {J : Jt} {I I1 : T32} {D : T64} {li ls : Int32} (h : sameS I1 I) : adv dt n nb nr J I1 D li ls = adv dt n nb nr J I D li ls := by
  have e1 : ∀ half D, pshC half n nb J I1 D = pshC half n nb J I D := by
    intro half D
    have : pshG half n nb J I1 D = pshG half n nb J I D := by funext f k; unfold pshG g2; simp only [h k]
    unfold pshC; rw [this]
  have e2 : ∀ D, nxt dt I1 D = nxt dt I D := by intro D; funext f k; unfold nxt g2; simp only [h k]
  have e3 : ∀ D T, vel dt n nr I1 D T = vel dt n nr I D T := by
    intro D T
    have : velG dt nr I1 D T = velG dt nr I D T := by funext f k; unfold velG g2; simp only [h k]
    unfold vel; rw [this]
  have eE : ∀ D ls q, advE dt n nb J I1 D ls q = advE dt n nb J I D ls q := by intro D ls q; unfold advE; rw [e1]
  have eD : ∀ D ls q, advD dt n nb J I1 D ls q = advD dt n nb J I D ls q := by intro D ls q; unfold advD; rw [eE]
  have eC : ∀ D T ls q, advC dt n nb nr J I1 D T ls q = advC dt n nb nr J I D T ls q := by intro D T ls q; unfold advC; rw [e3, eD]
  have eB : ∀ D ls, advB dt n nb nr J I1 D ls = advB dt n nb nr J I D ls := by
    intro D ls
    unfold advB
    rw [e2, rds_cg h]
    cases rds D I J nr 40 0 (nxt dt I D) with
    | none => rfl
    | some qT => obtain ⟨q, T⟩ := qT; exact eC _ _ _ _
  have eA : ∀ D ls, advA dt n nb nr J I1 D ls = advA dt n nb nr J I D ls := by intro D ls; unfold advA; rw [e1, eB]
  unfold adv
  rw [eA]
theorem wrm_cg {w : UInt64} {n : Nat} {I I1 : T32} {D : T64} (h : sameS I1 I) : wrm w n I1 D = wrm w n I D := by unfold wrm; rw [rsc_cg h]
theorem Bd.undo {n nb nr : Nat} {J : Jt} {D E : T64} (h : Bd n nb nr J D) (h2 : Bd n nb nr J E) : Bd n nb nr J (undoT D E) := by
  have he : ∀ f i, s4 0 1 2 3 f = false → undoT D E f i = E f i := fun f i hf => by unfold undoT; rw [hf]; rfl
  refine ⟨by rw [he 20 0 rfl]; exact h2.1, h2.2.1, fun i hi => ?_, fun i hi => ?_, fun i hi => ?_, fun i hi => ?_, fun i hi => ?_, by rw [he 21 0 rfl]; exact h2.cutV, by rw [he 22 0 rfl]; exact h2.skinV, h2.2.2.2.2.2.2.2.2.2⟩
  · rw [he 4 i rfl]; exact ⟨h.x hi, h.y hi, h2.m hi, h2.ml hi, h2.m0 hi⟩
  · rw [he 5 i rfl, he 6 i rfl]; exact h2.2.2.2.1 i hi
  · rw [he 7 i rfl, he 8 i rfl, he 9 i rfl]; exact h2.2.2.2.2.1 i hi
  · rw [he 10 i rfl, he 11 i rfl]; exact h2.2.2.2.2.2.1 i hi
  · rw [he 12 i rfl]; exact h2.2.2.2.2.2.2.1 i hi
section ST
variable {dt : UInt64} {n nb nr : Nat} {J : Jt} {D : T64} {I : T32}
theorem st1_0 (h : (adv dt n nb nr J I D (I 23 0) (I 25 0)).1 = 0) : st1 dt n nb nr J D I = (true, wrm (D 23 0) n I (adv dt n nb nr J I D (I 23 0) (I 25 0)).2.1, up2 (up2 (up2 (up2 I 23 0 (nI 1)) 25 0 (adv dt n nb nr J I D (I 23 0) (I 25 0)).2.2.1) 26 0 (I 26 0 + nI (adv dt n nb nr J I D (I 23 0) (I 25 0)).2.2.2)) 24 0 (I 24 0 + nI 1)) := if_pos h
theorem st1_1 (h : ¬ (adv dt n nb nr J I D (I 23 0) (I 25 0)).1 = 0) : st1 dt n nb nr J D I = (false, undoT D (adv dt n nb nr J I D (I 23 0) (I 25 0)).2.1, up2 (up2 (up2 I 25 0 (adv dt n nb nr J I D (I 23 0) (I 25 0)).2.2.1) 23 0 (nI 0)) 28 ((adv dt n nb nr J I D (I 23 0) (I 25 0)).1 - 1) (I 28 ((adv dt n nb nr J I D (I 23 0) (I 25 0)).1 - 1) + nI 1)) := if_neg h
theorem stn_t {k : Nat} (h : (st1 dt n nb nr J D I).1 = true) : stn dt n nb nr J (k + 1) D I = stn dt n nb nr J k (st1 dt n nb nr J D I).2.1 (st1 dt n nb nr J D I).2.2 := if_pos h
theorem stn_f {k : Nat} (h : (st1 dt n nb nr J D I).1 = false) : stn dt n nb nr J (k + 1) D I = st1 dt n nb nr J D I := if_neg (by rw [h]; decide)
theorem Inv.s1 (h : Inv n nb nr J D I) (hd : dtOK dt) : Inv n nb nr J (st1 dt n nb nr J D I).2.1 (st1 dt n nb nr J D I).2.2 := by
  obtain ⟨a1, a2, a3, a4, a5⟩ := adv_keep (I := I) (li := I 23 0) (ls := I 25 0) h.bd h.bu hd
  obtain ⟨c1, c2, c3⟩ := h.cn
  by_cases h0 : (adv dt n nb nr J I D (I 23 0) (I 25 0)).1 = 0
  · rw [st1_0 h0]
    generalize adv dt n nb nr J I D (I 23 0) (I 25 0) = a at a1 a2 a3 a4 a5 h0
    have hu := a5 h0
    have hw : Bd n nb nr J (wrm (D 23 0) n I a.2.1) ∧ Bu 20 n (wrm (D 23 0) n I a.2.1) ∧ exc (s2 2 3) (wrm (D 23 0) n I a.2.1) a.2.1 := by
      by_cases hf : fge (D 23 0) FP.dconst0
      · rw [wrm_t hf]
        exact ⟨a3.uv rsc_exc, Bu.rsc a3 hu (h.wt hf), rsc_exc⟩
      · rw [wrm_f hf]; exact ⟨a3, hu, exc.rf⟩
    obtain ⟨w1, w2, w3⟩ := hw
    refine ⟨w1, w2, ⟨c1, c2, c3⟩, Or.inr rfl, ?_, fun i hi => ?_⟩
    · show fge (wrm (D 23 0) n I a.2.1 23 0) FP.dconst0 → okT (wrm (D 23 0) n I a.2.1 23 0)
      rw [w3 23 0 rfl, a4.at rfl (by decide) (by decide)]; exact h.wt
    · show wrm (D 23 0) n I a.2.1 5 i = FP.dconst0 ∧ wrm (D 23 0) n I a.2.1 6 i = FP.dconst0
      rw [w3 5 i rfl, w3 6 i rfl, a4.hi rfl hi, a4.hi rfl hi]; exact h.fresh hi
  · rw [st1_1 h0]
    generalize adv dt n nb nr J I D (I 23 0) (I 25 0) = a at a1 a2 a3 a4 a5 h0
    refine ⟨h.bd.undo a3, h.bu, ⟨c1, c2, c3⟩, Or.inl rfl, ?_, fun i hi => ?_⟩
    · show fge (a.2.1 23 0) FP.dconst0 → okT (a.2.1 23 0)
      rw [a4.at rfl (by decide) (by decide)]; exact h.wt
    · show a.2.1 5 i = FP.dconst0 ∧ a.2.1 6 i = FP.dconst0
      rw [a4.hi rfl hi, a4.hi rfl hi]; exact h.fresh hi
theorem Inv.sn (hd : dtOK dt) : ∀ (k : Nat) (D : T64) (I : T32), Inv n nb nr J D I → Inv n nb nr J (stn dt n nb nr J k D I).2.1 (stn dt n nb nr J k D I).2.2
  | 0, _, _, h => h
  | k + 1, D, I, h => by
    cases h1 : (st1 dt n nb nr J D I).1 with
    | true => rw [stn_t h1]; exact Inv.sn hd k _ _ (h.s1 hd)
    | false => rw [stn_f h1]; exact h.s1 hd
end ST
