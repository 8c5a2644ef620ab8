set_option maxRecDepth 100000
/-! ===== the model: a step ===== -/
def sO : Nat → Bool := fun f => Nat.ble 44 f && Nat.ble f 47
def sJ : Nat → Bool := fun f => Nat.beq f 23 || (Nat.beq f 25 || Nat.beq f 43)
theorem sO_4 {f : Nat} (h : s4 0 1 2 3 f = true) : sO f = false := by rcases s4_or h with rfl | rfl | rfl | rfl <;> rfl
theorem djO : ∀ f, cD f = true → sO f = false := by
  intro f h
  cases hb : sO f with
  | false => rfl
  | true =>
    exfalso
    unfold sO at hb
    unfold cD at h
    simp only [Bool.or_eq_true, Bool.and_eq_true, Nat.beq_eq, ble_i] at h hb
    omega
theorem dj3233 : ∀ f, cD f = true → s2 32 33 f = false := by
  intro f h
  cases hb : s2 32 33 f with
  | false => rfl
  | true => rcases s2_or hb with rfl | rfl <;> cases h
/-- what was saved; what lies beyond the atoms; the heat -/
def KO (n : Nat) (D D1 : T64) : Prop := (∀ a, a < n → D1 44 a = D 0 a ∧ D1 45 a = D 1 a ∧ D1 46 a = D 2 a ∧ D1 47 a = D 3 a) ∧ (∀ f a, s4 0 1 2 3 f = true → n ≤ a → D1 f a = D f a) ∧ D1 23 0 = D 23 0
theorem KO.to {n : Nat} {D D1 D2 : T64} (h : KO n D D1) (h1 : ∀ f a, sO f = true → D2 f a = D1 f a) (h2 : ∀ f a, s4 0 1 2 3 f = true → n ≤ a → D2 f a = D1 f a) (h3 : D2 23 0 = D1 23 0) : KO n D D2 := by
  refine ⟨fun a ha => ?_, fun f a hf ha => (h2 f a hf ha).trans (h.2.1 f a hf ha), h3.trans h.2.2⟩
  obtain ⟨q1, q2, q3, q4⟩ := h.1 a ha
  exact ⟨(h1 44 a rfl).trans q1, (h1 45 a rfl).trans q2, (h1 46 a rfl).trans q3, (h1 47 a rfl).trans q4⟩
theorem sO_or {f : Nat} (h : sO f = true) : f = 44 ∨ f = 45 ∨ f = 46 ∨ f = 47 := by
  unfold sO at h
  simp only [Bool.and_eq_true, ble_i] at h
  omega
theorem KO.ml {n : Nat} {D D1 D2 D0 : T64} {li : Int32} {I I1 : T32} (h : KO n D D1) (hL : ML D0 li n D1 I D2 I1) : KO n D D2 := by
  refine h.to (fun f a hf => ?_) (fun f a hf _ => ?_) (hL.far rfl (by decide) (by decide))
  · rcases sO_or hf with rfl | rfl | rfl | rfl <;> exact hL.far rfl (by decide) (by decide)
  · rcases s4_or hf with rfl | rfl | rfl | rfl <;> exact hL.far rfl (by decide) (by decide)
theorem KO.ex {n : Nat} {D D1 D2 : T64} (h : KO n D D1) (he : exc sX D2 D1) : KO n D D2 := by
  refine h.to (fun f a hf => ?_) (fun f a hf _ => ?_) (he 23 0 rfl)
  · rcases sO_or hf with rfl | rfl | rfl | rfl <;> exact he _ a rfl
  · rcases s4_or hf with rfl | rfl | rfl | rfl <;> exact he _ a rfl
theorem KO.tS {n : Nat} {S : Nat → Bool} {D D1 G : T64} (h : KO n D D1) (hS : ∀ f, sO f = true → S f = false) (h23 : S 23 = false) : KO n D (tg n S G D1) := h.to (fun f a hf => tg_out (hS f hf)) (fun f a _ ha => tg_hi (by omega)) (tg_out h23)
theorem sO_2 {a b : Nat} (ha : a < 44) (hb : b < 44) : ∀ f, sO f = true → s2 a b f = false := by
  intro f hf
  cases hq : s2 a b f with
  | false => rfl
  | true => exfalso; rcases s2_or hq with rfl | rfl <;> rcases sO_or hf with q | q | q | q <;> omega
theorem s2_23 {a b : Nat} (ha : 23 ≠ a) (hb : 23 ≠ b) : s2 a b 23 = false := by unfold s2; rw [beq_f ha, beq_f hb]; rfl
theorem KO.t2 {n a b : Nat} {D D1 G : T64} (h : KO n D D1) (ha : a < 20 := by decide) (hb : b < 20 := by decide) : KO n D (tg n (s2 a b) G D1) := h.tS (sO_2 (by omega) (by omega)) (s2_23 (by omega) (by omega))
theorem KO.t3 {n : Nat} {D D1 G : T64} (h : KO n D D1) : KO n D (tg n (s2 32 33) G D1) := h.tS (sO_2 (by decide) (by decide)) rfl
theorem KO_step {i : Nat} {D D1 : T64} (h : ∀ a, a < i → D1 44 a = D 0 a ∧ D1 45 a = D 1 a ∧ D1 46 a = D 2 a ∧ D1 47 a = D 3 a) : ∀ a, a < i + 1 → up2 (up2 (up2 (up2 D1 44 i (D 0 i)) 45 i (D 1 i)) 46 i (D 2 i)) 47 i (D 3 i) 44 a = D 0 a ∧ up2 (up2 (up2 (up2 D1 44 i (D 0 i)) 45 i (D 1 i)) 46 i (D 2 i)) 47 i (D 3 i) 45 a = D 1 a ∧ up2 (up2 (up2 (up2 D1 44 i (D 0 i)) 45 i (D 1 i)) 46 i (D 2 i)) 47 i (D 3 i) 46 a = D 2 a ∧ up2 (up2 (up2 (up2 D1 44 i (D 0 i)) 45 i (D 1 i)) 46 i (D 2 i)) 47 i (D 3 i) 47 a = D 3 a := by
  refine lt_s (fun a ha => ?_) ?_
  · have hne : a ≠ i := by omega
    rw [up2_i _ _ _ _ hne, up2_i _ _ _ _ hne, up2_i _ _ _ _ hne, up2_i _ _ _ _ hne, up2_i _ _ _ _ hne, up2_i _ _ _ _ hne, up2_i _ _ _ _ hne, up2_i _ _ _ _ hne, up2_i _ _ _ _ hne, up2_i _ _ _ _ hne, up2_i _ _ _ _ hne, up2_i _ _ _ _ hne, up2_i _ _ _ _ hne, up2_i _ _ _ _ hne, up2_i _ _ _ _ hne, up2_i _ _ _ _ hne]
    exact h a ha
  · refine ⟨?_, ?_, ?_, ?_⟩
    · rw [up2_f _ _ _ _ (by decide), up2_f _ _ _ _ (by decide), up2_f _ _ _ _ (by decide), up2_same]
    · rw [up2_f _ _ _ _ (by decide), up2_f _ _ _ _ (by decide), up2_same]
    · rw [up2_f _ _ _ _ (by decide), up2_same]
    · rw [up2_same]
section MLt
variable {D0 D D1 : T64} {li : Int32} {n : Nat} {I I1 : T32}
theorem ML.int (h : ML D0 li n D I D1 I1) : exc sJ I1 I := by
  rcases h with ⟨-, -, rfl⟩ | ⟨-, -, rfl⟩
  · exact exc.rf
  · exact (exc.rf.up rfl).up rfl
theorem ML.ls (h : ML D0 li n D I D1 I1) : I1 25 0 = lsN D0 li n (I 25 0) := by
  unfold lsN
  rcases h with ⟨h1, -, rfl⟩ | ⟨h1, -, rfl⟩
  · rw [h1]; rfl
  · rw [h1]; rfl
theorem ML.l1 (h : ML D0 li n D I D1 I1) (hli : I 23 0 = li) (h01 : li = nI 0 ∨ li = nI 1) : I1 23 0 = nI 1 := by
  rcases h with ⟨h1, -, rfl⟩ | ⟨h1, -, rfl⟩
  · rw [hli]
    rcases h01 with q | q
    · exact absurd (by rw [q]; rfl) (oldB_f.mp h1).1
    · exact q
  · rfl
theorem ML.i43 (h : ML D0 li n D I D1 I1) : I1 43 0 = I 43 0 := by
  rcases h with ⟨h1, -, rfl⟩ | ⟨h1, -, rfl⟩
  · rfl
  · rfl
end MLt
theorem vel_0 {dt : UInt64} {n nr : Nat} {I : T32} {E T D : T64} (h : nr = 0) (hag : agD D E) : tg n (s2 2 3) (velG dt nr I E T) D = D := by
  funext f j
  cases hs : s2 2 3 f with
  | false => exact tg_out hs
  | true =>
    by_cases hj : j < n
    · rw [tg_in hs hj]
      rcases s2_or hs with rfl | rfl
      · exact (if_neg (fun q => by omega)).trans (hag 2 j rfl).symm
      · exact (if_neg (fun q => by omega)).trans (hag 3 j rfl).symm
    · exact tg_hi hj
set_option maxHeartbeats 4000000 in
theorem m_X5_oneStep (l : Launch) (A : Nat → Prop) (Dg : va_G) (dA : Nat → ClassId) (ad : Nat → Nat → Nat) (n : Nat) (nb : Nat) (nr : Nat) (J : Nat → Nat → Nat) (D : T64) (I : T32) (D0 : T64) (hag : agD D D0) (hB : Bd n nb nr J D0) (hM : mI n nb nr J I) (li : Int32) (hli : I 23 0 = li) (h01 : li = nI 0 ∨ li = nI 1) (hu : Bu 20 n D0) (dt : UInt64) (hdt : dtOK dt) : MX l yX5_oneStep cX5_oneStep 4 (some .int) [] (rmx 8 0 0) [.ref (ad 30 0), .double (dt)] (Pw Dg dA (mW A Dg dA ad D I)) (qW (fun r : Int32 => some (.int r)) (fun r H => r = nI (adv dt n nb nr J I D0 li (I 25 0)).1 ∧ ∃ D1 I1, mW A Dg dA ad D1 I1 H ∧ KO n D D1 ∧ exc sJ I1 I ∧ I1 25 0 = (adv dt n nb nr J I D0 li (I 25 0)).2.2.1 ∧ (((adv dt n nb nr J I D0 li (I 25 0)).1 = 0 ∧ agD D1 (adv dt n nb nr J I D0 li (I 25 0)).2.1 ∧ I1 23 0 = nI 1 ∧ I1 43 0 = nI (adv dt n nb nr J I D0 li (I 25 0)).2.2.2) ∨ (¬ (adv dt n nb nr J I D0 li (I 25 0)).1 = 0 ∧ agU D1 (adv dt n nb nr J I D0 li (I 25 0)).2.1))) A) 0 0 A := by
  refine MX.start (Nat.le_of_ble_eq_true rfl) ?_
  intro p e s m args below meth c ls Q hAt hPc hl hQ
  have hl : lv_has ls 4 [(0, .ref (ad 30 0)), (1, .double (dt))] := hl
  obtain ⟨hx, hb, hml, hr, hlk, hown, hnm, htab, hts⟩ := id hAt
  obtain ⟨hK, hW⟩ := hPc
  have Z := Cx.of hAt hK
  have hS : va_S A s.heap s.heap [] := va_S.rf
  have hn10 := hB.n10
  have hnr4 := hB.nr4
  refine lv_iconst (v := nI 0) hx hb dX5_oneStep_0 rfl ?_
  refine lv_istore_n (lv' := [(3, .int (nI 0)), (0, .ref (ad 30 0)), (1, .double (dt))]) hx hb dX5_oneStep_1 rfl hl (by decide) rfl (fun ls hl => ?_)
  refine wl_up n 0 (fun i H locs ls => ∃ D1, lv_has ls 4 [(3, .int (nI i)), (0, .ref (ad 30 0)), (1, .double (dt))] ∧ mW A Dg dA ad D1 I H ∧ va_S A s.heap H locs ∧ exc sO D1 D ∧ ∀ a, a < i → D1 44 a = D 0 a ∧ D1 45 a = D 1 a ∧ D1 46 a = D 2 a ∧ D1 47 a = D 3 a) (Nat.zero_le _) ⟨D, lv_sub hl [0, 1, 2] rfl, hW, hS, exc.rf, lt_0⟩ ?_ ?_
  · intro i H locs ls hi hP ih
    obtain ⟨D1, hl, hW, hS, hex, hsv⟩ := hP
    refine lv_iload_n hx hb dX5_oneStep_2 rfl (lv_at hl 0 rfl) ?_
    refine lv_aload_n hx hb dX5_oneStep_3 rfl (lv_at hl 1 rfl) ?_
    refine g_I (x := nI n) Z hW kX5 rfl 14 (by decide) q754 (show (0 : Nat) < 1 by decide) rfl hM.cn dX5_oneStep_4 ?_
    refine lv_nge (tgt := 64) hx hb (by omega) (by omega) dX5_oneStep_7 (by decide) (fun c => absurd c (by omega)) (fun c => ?_)
    refine lv_aload_n hx hb dX5_oneStep_10 rfl (lv_at hl 1 rfl) ?_
    refine w_getR (v := .ref (ad 50 0)) Z hW kX5 rfl 27 (by decide) q767 (show (0 : Nat) < 1 by decide) rfl rfl dX5_oneStep_11 ?_
    refine lv_iload_n hx hb dX5_oneStep_14 rfl (lv_at hl 0 rfl) ?_
    refine lv_aload_n hx hb dX5_oneStep_15 rfl (lv_at hl 1 rfl) ?_
    refine w_getR (v := .ref (ad 31 0)) Z hW kX5 rfl 4 (by decide) q744 (show (0 : Nat) < 1 by decide) rfl rfl dX5_oneStep_16 ?_
    refine lv_iload_n hx hb dX5_oneStep_19 rfl (lv_at hl 0 rfl) ?_
    refine a_D (j := i) (x := D 0 i) (ix := i) Z hW rfl (show (0 : Nat) < 1 by decide) (by omega) (by decide) rfl rfl (hex 0 i rfl) dX5_oneStep_20 ?_
    refine w_ads (j := i) (ix := i) Z hW hS rfl (show (0 : Nat) < 1 by decide) rfl (by omega) (by decide) (show (i : Nat) < 10 by omega) rfl rfl dX5_oneStep_21 (fun H locs hW hS => ?_)
    refine lv_aload_n hx hb dX5_oneStep_22 rfl (lv_at hl 1 rfl) ?_
    refine w_getR (v := .ref (ad 51 0)) Z hW kX5 rfl 28 (by decide) q768 (show (0 : Nat) < 1 by decide) rfl rfl dX5_oneStep_23 ?_
    refine lv_iload_n hx hb dX5_oneStep_26 rfl (lv_at hl 0 rfl) ?_
    refine lv_aload_n hx hb dX5_oneStep_27 rfl (lv_at hl 1 rfl) ?_
    refine w_getR (v := .ref (ad 32 0)) Z hW kX5 rfl 5 (by decide) q745 (show (0 : Nat) < 1 by decide) rfl rfl dX5_oneStep_28 ?_
    refine lv_iload_n hx hb dX5_oneStep_31 rfl (lv_at hl 0 rfl) ?_
    refine a_D (j := i) (x := D 1 i) (ix := i) Z hW rfl (show (0 : Nat) < 1 by decide) (by omega) (by decide) rfl rfl ((up2_f _ _ _ _ (by decide)).trans (hex 1 i rfl)) dX5_oneStep_32 ?_
    refine w_ads (j := i) (ix := i) Z hW hS rfl (show (0 : Nat) < 1 by decide) rfl (by omega) (by decide) (show (i : Nat) < 10 by omega) rfl rfl dX5_oneStep_33 (fun H locs hW hS => ?_)
    refine lv_aload_n hx hb dX5_oneStep_34 rfl (lv_at hl 1 rfl) ?_
    refine w_getR (v := .ref (ad 52 0)) Z hW kX5 rfl 29 (by decide) q769 (show (0 : Nat) < 1 by decide) rfl rfl dX5_oneStep_35 ?_
    refine lv_iload_n hx hb dX5_oneStep_38 rfl (lv_at hl 0 rfl) ?_
    refine lv_aload_n hx hb dX5_oneStep_39 rfl (lv_at hl 1 rfl) ?_
    refine w_getR (v := .ref (ad 33 0)) Z hW kX5 rfl 6 (by decide) q746 (show (0 : Nat) < 1 by decide) rfl rfl dX5_oneStep_40 ?_
    refine lv_iload_n hx hb dX5_oneStep_43 rfl (lv_at hl 0 rfl) ?_
    refine a_D (j := i) (x := D 2 i) (ix := i) Z hW rfl (show (0 : Nat) < 1 by decide) (by omega) (by decide) rfl rfl ((up2_f _ _ _ _ (by decide)).trans ((up2_f _ _ _ _ (by decide)).trans (hex 2 i rfl))) dX5_oneStep_44 ?_
    refine w_ads (j := i) (ix := i) Z hW hS rfl (show (0 : Nat) < 1 by decide) rfl (by omega) (by decide) (show (i : Nat) < 10 by omega) rfl rfl dX5_oneStep_45 (fun H locs hW hS => ?_)
    refine lv_aload_n hx hb dX5_oneStep_46 rfl (lv_at hl 1 rfl) ?_
    refine w_getR (v := .ref (ad 53 0)) Z hW kX5 rfl 30 (by decide) q770 (show (0 : Nat) < 1 by decide) rfl rfl dX5_oneStep_47 ?_
    refine lv_iload_n hx hb dX5_oneStep_50 rfl (lv_at hl 0 rfl) ?_
    refine lv_aload_n hx hb dX5_oneStep_51 rfl (lv_at hl 1 rfl) ?_
    refine w_getR (v := .ref (ad 34 0)) Z hW kX5 rfl 7 (by decide) q747 (show (0 : Nat) < 1 by decide) rfl rfl dX5_oneStep_52 ?_
    refine lv_iload_n hx hb dX5_oneStep_55 rfl (lv_at hl 0 rfl) ?_
    refine a_D (j := i) (x := D 3 i) (ix := i) Z hW rfl (show (0 : Nat) < 1 by decide) (by omega) (by decide) rfl rfl ((up2_f _ _ _ _ (by decide)).trans ((up2_f _ _ _ _ (by decide)).trans ((up2_f _ _ _ _ (by decide)).trans (hex 3 i rfl)))) dX5_oneStep_56 ?_
    refine w_ads (j := i) (ix := i) Z hW hS rfl (show (0 : Nat) < 1 by decide) rfl (by omega) (by decide) (show (i : Nat) < 10 by omega) rfl rfl dX5_oneStep_57 (fun H locs hW hS => ?_)
    refine lv_iinc1 (lv' := [(3, .int (nI (i + 1))), (0, .ref (ad 30 0)), (1, .double (dt))]) hx hb dX5_oneStep_58 hl (k := 0) rfl (by decide) rfl (fun ls hl => ?_)
    refine lv_goto (tgt := 2) hx hb dX5_oneStep_61 (by decide) ?_
    exact ih _ _ _ ⟨_, lv_sub hl [0, 1, 2] rfl, hW, hS, (((hex.up rfl).up rfl).up rfl).up rfl, KO_step hsv⟩
  · intro H locs ls hP
    obtain ⟨D1, hl, hW, hS, hex, hsv⟩ := hP
    have hk0 : KO n D D1 := ⟨hsv, fun f a hf ha => hex f a (sO_4 hf), hex 23 0 rfl⟩
    have hag0 : agD D1 D0 := hag.of hex djO
    generalize D1 = Da at hW hk0 hag0
    refine lv_iload_n hx hb dX5_oneStep_2 rfl (lv_at hl 0 rfl) ?_
    refine lv_aload_n hx hb dX5_oneStep_3 rfl (lv_at hl 1 rfl) ?_
    refine g_I (x := nI n) Z hW kX5 rfl 14 (by decide) q754 (show (0 : Nat) < 1 by decide) rfl hM.cn dX5_oneStep_4 ?_
    refine lv_nge (tgt := 64) hx hb (by omega) (by omega) dX5_oneStep_7 (by decide) (fun c => ?_) (fun c => absurd c (by omega))
    refine lv_aload_n hx hb dX5_oneStep_64 rfl (lv_at hl 1 rfl) ?_
    refine wx_ws (wx_V (As := []) (rest := []) hAt.fix (m_X5_forces l A Dg dA ad n nb nr J Da I D0 hag0 hB hM li hli) q960 q962 qs26 q963 wn_X5_forces ⟨Nat.le_of_ble_eq_true rfl, Nat.le_of_ble_eq_true rfl, Nat.le_of_ble_eq_true rfl, Nat.le_of_ble_eq_true rfl⟩ (w_recv hK hW kX5 rfl (show (0 : Nat) < 1 by decide)) (Pw.of hK hW) hl.1 (Nat.le_of_ble_eq_true rfl) dX5_oneStep_65) hS (fun r H locs hW hz hS => ?_)
    obtain ⟨D1, I1, hW, hL, hr1⟩ := hW
    have hk1 : KO n D D1 := hk0.ml hL
    have hag1 := hL.ag hag0
    have hM1 := hL.mi hM
    have hI1 : exc sJ I1 I := hL.int
    have hS1 : sameS I1 I := fun j => hI1 1 j rfl
    have hls1 := hL.ls
    have hli1 := hL.l1 hli h01
    rcases hr1 with ⟨rfl, ho⟩ | ⟨rfl, ho, hF⟩
    · refine lv_if_ne (tgt := 73) hx hb dX5_oneStep_68 (by decide) (fun h => absurd nI_0 h) (fun _ => ?_)
      refine lv_iconst (v := nI 1) hx hb dX5_oneStep_71 rfl ?_
      have ea : adv dt n nb nr J I D0 li (I 25 0) = _ := adv_ov ho
      rw [hQ]
      exact rW_i hx hb hr hlk hS (⟨by rw [ea], D1, I1, hW, hk1, hI1, by rw [ea]; exact hls1, Or.inr ⟨by rw [ea]; exact Nat.succ_ne_zero _, by rw [ea]; exact hag1.U⟩⟩) dX5_oneStep_72
    have ea : adv dt n nb nr J I D0 li (I 25 0) = _ := adv_no ho
    have hF1 : ∀ a, a < n → D1 30 a = (FX (lsC D0 li n) J n nb a).1 ∧ D1 31 a = (FX (lsC D0 li n) J n nb a).2 := fun a ha => by rw [FX_cg lsC_exL]; exact hF a ha
    have hE1 : Bd n nb nr J (lsC D0 li n) := hB.lc
    have hu1 : Bu 20 n (lsC D0 li n) := hu.cg (lsC_exL (li := li) (n := n)) rfl rfl
    have hov1 : ovl (lsC D0 li n) n = false := by rw [ovl_cg lsC_exL]; exact ho
    have hx1 : exc (s2 5 6) (lsC D0 li n) D0 := lsC_exL
    generalize lsC D0 li n = E1 at hag1 hF1 hE1 hu1 hov1 hx1 ea
    refine lv_if_ne (tgt := 73) hx hb dX5_oneStep_68 (by decide) (fun _ => ?_) (fun h => absurd h (by decide))
    refine lv_aload_n hx hb dX5_oneStep_73 rfl (lv_at hl 1 rfl) ?_
    refine lv_dload_n hx hb dX5_oneStep_74 rfl (lv_at hl 2 rfl) ?_
    refine wx_wv (wx_V (As := [.double (dt)]) (rest := []) hAt.fix (m_X5_kick l A Dg dA ad n nb nr J D1 I1 ((hE1.cg hag1)) hM1.cn dt hdt ((hu1.ag hag1)) ((fun i hi => by rw [(hF1 i hi).1, (hF1 i hi).2]; exact FX_fb hE1 hi hov1))) q1007 q1009 qs37 q1010 wn_X5_kick ⟨Nat.le_of_ble_eq_true rfl, Nat.le_of_ble_eq_true rfl, Nat.le_of_ble_eq_true rfl, Nat.le_of_ble_eq_true rfl⟩ (w_recv hK hW kX5 rfl (show (0 : Nat) < 1 by decide)) (Pw.of hK hW) hl.1 (Nat.le_of_ble_eq_true rfl) dX5_oneStep_75) hS (fun H locs hW hz hS => ?_)
    have hag2 : agD _ (pshC (FP.dmul 4602678819172646912 dt) n nb J I E1) := psh_ag (half := (FP.dmul 4602678819172646912 dt)) hag1 hS1 hF1
    have hk2 : KO n D (psD (FP.dmul 4602678819172646912 dt) n D1 I1) := hk1.t2
    have hE2 : Bd n nb nr J (pshC (FP.dmul 4602678819172646912 dt) n nb J I E1) := hE1.psh
    have hv2 : Bu 164 n (pshC (FP.dmul 4602678819172646912 dt) n nb J I E1) := Bu.psh hE1 hu1 (dt_half hdt) hov1
    have hx2 : exc (s2 2 3) (pshC (FP.dmul 4602678819172646912 dt) n nb J I E1) E1 := tg_exc
    generalize psD (FP.dmul 4602678819172646912 dt) n D1 I1 = D2 at hW hag2 hk2
    refine lv_aload_n hx hb dX5_oneStep_78 rfl (lv_at hl 1 rfl) ?_
    refine wx_r (wx_V (As := []) (rest := []) hAt.fix (m_X5_blown l A Dg dA ad n nb nr J D2 I1 hM1.cn hn10 ((fun i hi => by rw [hag2 2 i rfl, hag2 3 i rfl]; exact ⟨(hv2 i hi).1.1, (hv2 i hi).2.1⟩))) q1011 q1013 qs38 q1014 wn_X5_blown ⟨Nat.le_of_ble_eq_true rfl, Nat.le_of_ble_eq_true rfl, Nat.le_of_ble_eq_true rfl, Nat.le_of_ble_eq_true rfl⟩ (w_recv hK hW kX5 rfl (show (0 : Nat) < 1 by decide)) (Pw.of hK hW) hl.1 (Nat.le_of_ble_eq_true rfl) dX5_oneStep_79) (fun r hr => ?_)
    rw [fastB_ag hag2] at hr
    rcases hr with ⟨rfl, hf⟩ | ⟨rfl, hf⟩
    · rw [advA_t hf] at ea
      refine lv_if_eq (tgt := 87) hx hb dX5_oneStep_82 (by decide) (fun h => absurd h (by decide)) (fun _ => ?_)
      refine lv_iconst (v := nI 3) hx hb dX5_oneStep_85 rfl ?_
      rw [hQ]
      exact rW_i hx hb hr hlk hS (⟨by rw [ea], D2, I1, hW, hk2, hI1, by rw [ea]; exact hls1, Or.inr ⟨by rw [ea]; exact Nat.succ_ne_zero _, by rw [ea]; exact (hag2.U.to ((hx2.mono s23_4).symm))⟩⟩) dX5_oneStep_86
    rw [advA_f hf] at ea
    have hu2 : Bu 20 n (pshC (FP.dmul 4602678819172646912 dt) n nb J I E1) := hv2.slow hf
    generalize pshC (FP.dmul 4602678819172646912 dt) n nb J I E1 = E2 at hag2 hE2 hu2 hx2 ea
    refine lv_if_eq (tgt := 87) hx hb dX5_oneStep_82 (by decide) (fun _ => ?_) (fun h => absurd nI_0 h)
    refine lv_iconst (v := nI 0) hx hb dX5_oneStep_87 rfl ?_
    refine lv_istore_n (lv' := [(3, .int (nI 0)), (0, .ref (ad 30 0)), (1, .double (dt))]) hx hb dX5_oneStep_88 rfl hl (by decide) rfl (fun ls hl => ?_)
    refine wl_up n 0 (fun i H locs ls => lv_has ls 4 [(3, .int (nI i)), (0, .ref (ad 30 0)), (1, .double (dt))] ∧ mW A Dg dA ad ((tg i (s2 32 33) (nxt dt I E2) D2)) I1 H ∧ va_S A s.heap H locs) (Nat.zero_le _) ⟨lv_sub hl [0, 1, 2] rfl, by rw [tg_0]; exact hW, hS⟩ ?_ ?_
    · intro i H locs ls hi hP ih
      obtain ⟨hl, hW, hS⟩ := hP
      have hagc : agD (tg i (s2 32 33) (nxt dt I E2) D2) E2 := hag2.of tg_exc dj3233
      refine lv_iload_n hx hb dX5_oneStep_89 rfl (lv_at hl 0 rfl) ?_
      refine lv_aload_n hx hb dX5_oneStep_90 rfl (lv_at hl 1 rfl) ?_
      refine g_I (x := nI n) Z hW kX5 rfl 14 (by decide) q754 (show (0 : Nat) < 1 by decide) rfl hM1.cn dX5_oneStep_91 ?_
      refine lv_nge (tgt := 181) hx hb (by omega) (by omega) dX5_oneStep_94 (by decide) (fun c => absurd c (by omega)) (fun c => ?_)
      refine lv_aload_n hx hb dX5_oneStep_97 rfl (lv_at hl 1 rfl) ?_
      refine w_getR (v := .ref (ad 54 0)) Z hW kX5 rfl 31 (by decide) q771 (show (0 : Nat) < 1 by decide) rfl rfl dX5_oneStep_98 ?_
      refine lv_iload_n hx hb dX5_oneStep_101 rfl (lv_at hl 0 rfl) ?_
      refine lv_aload_n hx hb dX5_oneStep_102 rfl (lv_at hl 1 rfl) ?_
      refine w_getR (v := .ref (ad 37 0)) Z hW kX5 rfl 10 (by decide) q750 (show (0 : Nat) < 1 by decide) rfl rfl dX5_oneStep_103 ?_
      refine lv_iload_n hx hb dX5_oneStep_106 rfl (lv_at hl 0 rfl) ?_
      refine a_Z (j := i) (x := I 1 i) (ix := i) Z hW rfl (show (0 : Nat) < 1 by decide) (by omega) (by decide) rfl rfl (hS1 i) dX5_oneStep_107 ?_
      refine lv_if_eq (tgt := 120) hx hb dX5_oneStep_108 (by decide) (fun c5 => ?_) (fun c5 => ?_)
      · refine lv_aload_n hx hb dX5_oneStep_120 rfl (lv_at hl 1 rfl) ?_
        refine w_getR (v := .ref (ad 31 0)) Z hW kX5 rfl 4 (by decide) q744 (show (0 : Nat) < 1 by decide) rfl rfl dX5_oneStep_121 ?_
        refine lv_iload_n hx hb dX5_oneStep_124 rfl (lv_at hl 0 rfl) ?_
        refine a_D (j := i) (x := E2 0 i) (ix := i) Z hW rfl (show (0 : Nat) < 1 by decide) (by omega) (by decide) rfl rfl (hagc 0 i rfl) dX5_oneStep_125 ?_
        refine lv_dload_n hx hb dX5_oneStep_126 rfl (lv_at hl 2 rfl) ?_
        refine lv_aload_n hx hb dX5_oneStep_127 rfl (lv_at hl 1 rfl) ?_
        refine w_getR (v := .ref (ad 33 0)) Z hW kX5 rfl 6 (by decide) q746 (show (0 : Nat) < 1 by decide) rfl rfl dX5_oneStep_128 ?_
        refine lv_iload_n hx hb dX5_oneStep_131 rfl (lv_at hl 0 rfl) ?_
        refine a_D (j := i) (x := E2 2 i) (ix := i) Z hW rfl (show (0 : Nat) < 1 by decide) (by omega) (by decide) rfl rfl (hagc 2 i rfl) dX5_oneStep_132 ?_
        have f6 : fb (17) (FP.dmul dt (E2 2 i)) := fb.mul hdt.1 (hu2 i hi).1 (by decide)
        refine lv_dmul hx hb dX5_oneStep_133 f6.n64 ?_
        have f7 : fb (18) (FP.dadd (E2 0 i) (FP.dmul dt (E2 2 i))) := fb.add (hE2.x hi) f6 (by decide)
        refine lv_dadd hx hb dX5_oneStep_134 f7.n64 ?_
        refine w_ads (j := i) (ix := i) Z hW hS rfl (show (0 : Nat) < 1 by decide) rfl (by omega) (by decide) (show (i : Nat) < 10 by omega) rfl rfl dX5_oneStep_135 (fun H locs hW hS => ?_)
        refine lv_aload_n hx hb dX5_oneStep_136 rfl (lv_at hl 1 rfl) ?_
        refine w_getR (v := .ref (ad 55 0)) Z hW kX5 rfl 32 (by decide) q772 (show (0 : Nat) < 1 by decide) rfl rfl dX5_oneStep_137 ?_
        refine lv_iload_n hx hb dX5_oneStep_140 rfl (lv_at hl 0 rfl) ?_
        refine lv_aload_n hx hb dX5_oneStep_141 rfl (lv_at hl 1 rfl) ?_
        refine w_getR (v := .ref (ad 37 0)) Z hW kX5 rfl 10 (by decide) q750 (show (0 : Nat) < 1 by decide) rfl rfl dX5_oneStep_142 ?_
        refine lv_iload_n hx hb dX5_oneStep_145 rfl (lv_at hl 0 rfl) ?_
        refine a_Z (j := i) (x := I 1 i) (ix := i) Z hW rfl (show (0 : Nat) < 1 by decide) (by omega) (by decide) rfl rfl (hS1 i) dX5_oneStep_146 ?_
        refine lv_if_eq (tgt := 159) hx hb dX5_oneStep_147 (by decide) (fun c8 => ?_) (fun c8 => ?_)
        · refine lv_aload_n hx hb dX5_oneStep_159 rfl (lv_at hl 1 rfl) ?_
          refine w_getR (v := .ref (ad 32 0)) Z hW kX5 rfl 5 (by decide) q745 (show (0 : Nat) < 1 by decide) rfl rfl dX5_oneStep_160 ?_
          refine lv_iload_n hx hb dX5_oneStep_163 rfl (lv_at hl 0 rfl) ?_
          refine a_D (j := i) (x := E2 1 i) (ix := i) Z hW rfl (show (0 : Nat) < 1 by decide) (by omega) (by decide) rfl rfl ((up2_f _ _ _ _ (by decide)).trans (hagc 1 i rfl)) dX5_oneStep_164 ?_
          refine lv_dload_n hx hb dX5_oneStep_165 rfl (lv_at hl 2 rfl) ?_
          refine lv_aload_n hx hb dX5_oneStep_166 rfl (lv_at hl 1 rfl) ?_
          refine w_getR (v := .ref (ad 34 0)) Z hW kX5 rfl 7 (by decide) q747 (show (0 : Nat) < 1 by decide) rfl rfl dX5_oneStep_167 ?_
          refine lv_iload_n hx hb dX5_oneStep_170 rfl (lv_at hl 0 rfl) ?_
          refine a_D (j := i) (x := E2 3 i) (ix := i) Z hW rfl (show (0 : Nat) < 1 by decide) (by omega) (by decide) rfl rfl ((up2_f _ _ _ _ (by decide)).trans (hagc 3 i rfl)) dX5_oneStep_171 ?_
          have f9 : fb (17) (FP.dmul dt (E2 3 i)) := fb.mul hdt.1 (hu2 i hi).2 (by decide)
          refine lv_dmul hx hb dX5_oneStep_172 f9.n64 ?_
          have f10 : fb (18) (FP.dadd (E2 1 i) (FP.dmul dt (E2 3 i))) := fb.add (hE2.y hi) f9 (by decide)
          refine lv_dadd hx hb dX5_oneStep_173 f10.n64 ?_
          refine w_ads (j := i) (ix := i) Z hW hS rfl (show (0 : Nat) < 1 by decide) rfl (by omega) (by decide) (show (i : Nat) < 10 by omega) rfl rfl dX5_oneStep_174 (fun H locs hW hS => ?_)
          refine lv_iinc1 (lv' := [(3, .int (nI (i + 1))), (0, .ref (ad 30 0)), (1, .double (dt))]) hx hb dX5_oneStep_175 hl (k := 0) rfl (by decide) rfl (fun ls hl => ?_)
          refine lv_goto (tgt := 89) hx hb dX5_oneStep_178 (by decide) ?_
          exact ih _ _ _ ⟨lv_sub hl [0, 1, 2] rfl, tg_s2 (k := i) (D := D2) (G := nxt dt I E2) (a := 32) (b := 33) (x := FP.dadd (E2 0 i) (FP.dmul dt (E2 2 i))) (y := FP.dadd (E2 1 i) (FP.dmul dt (E2 3 i))) (by decide) (if_pos c5).symm (if_pos c8).symm ▸ hW, hS⟩
        · refine lv_aload_n hx hb dX5_oneStep_150 rfl (lv_at hl 1 rfl) ?_
          refine w_getR (v := .ref (ad 32 0)) Z hW kX5 rfl 5 (by decide) q745 (show (0 : Nat) < 1 by decide) rfl rfl dX5_oneStep_151 ?_
          refine lv_iload_n hx hb dX5_oneStep_154 rfl (lv_at hl 0 rfl) ?_
          refine a_D (j := i) (x := E2 1 i) (ix := i) Z hW rfl (show (0 : Nat) < 1 by decide) (by omega) (by decide) rfl rfl ((up2_f _ _ _ _ (by decide)).trans (hagc 1 i rfl)) dX5_oneStep_155 ?_
          refine lv_goto (tgt := 174) hx hb dX5_oneStep_156 (by decide) ?_
          refine w_ads (j := i) (ix := i) Z hW hS rfl (show (0 : Nat) < 1 by decide) rfl (by omega) (by decide) (show (i : Nat) < 10 by omega) rfl rfl dX5_oneStep_174 (fun H locs hW hS => ?_)
          refine lv_iinc1 (lv' := [(3, .int (nI (i + 1))), (0, .ref (ad 30 0)), (1, .double (dt))]) hx hb dX5_oneStep_175 hl (k := 0) rfl (by decide) rfl (fun ls hl => ?_)
          refine lv_goto (tgt := 89) hx hb dX5_oneStep_178 (by decide) ?_
          exact ih _ _ _ ⟨lv_sub hl [0, 1, 2] rfl, tg_s2 (k := i) (D := D2) (G := nxt dt I E2) (a := 32) (b := 33) (x := FP.dadd (E2 0 i) (FP.dmul dt (E2 2 i))) (y := E2 1 i) (by decide) (if_pos c5).symm (if_neg c8).symm ▸ hW, hS⟩
      · refine lv_aload_n hx hb dX5_oneStep_111 rfl (lv_at hl 1 rfl) ?_
        refine w_getR (v := .ref (ad 31 0)) Z hW kX5 rfl 4 (by decide) q744 (show (0 : Nat) < 1 by decide) rfl rfl dX5_oneStep_112 ?_
        refine lv_iload_n hx hb dX5_oneStep_115 rfl (lv_at hl 0 rfl) ?_
        refine a_D (j := i) (x := E2 0 i) (ix := i) Z hW rfl (show (0 : Nat) < 1 by decide) (by omega) (by decide) rfl rfl (hagc 0 i rfl) dX5_oneStep_116 ?_
        refine lv_goto (tgt := 135) hx hb dX5_oneStep_117 (by decide) ?_
        refine w_ads (j := i) (ix := i) Z hW hS rfl (show (0 : Nat) < 1 by decide) rfl (by omega) (by decide) (show (i : Nat) < 10 by omega) rfl rfl dX5_oneStep_135 (fun H locs hW hS => ?_)
        refine lv_aload_n hx hb dX5_oneStep_136 rfl (lv_at hl 1 rfl) ?_
        refine w_getR (v := .ref (ad 55 0)) Z hW kX5 rfl 32 (by decide) q772 (show (0 : Nat) < 1 by decide) rfl rfl dX5_oneStep_137 ?_
        refine lv_iload_n hx hb dX5_oneStep_140 rfl (lv_at hl 0 rfl) ?_
        refine lv_aload_n hx hb dX5_oneStep_141 rfl (lv_at hl 1 rfl) ?_
        refine w_getR (v := .ref (ad 37 0)) Z hW kX5 rfl 10 (by decide) q750 (show (0 : Nat) < 1 by decide) rfl rfl dX5_oneStep_142 ?_
        refine lv_iload_n hx hb dX5_oneStep_145 rfl (lv_at hl 0 rfl) ?_
        refine a_Z (j := i) (x := I 1 i) (ix := i) Z hW rfl (show (0 : Nat) < 1 by decide) (by omega) (by decide) rfl rfl (hS1 i) dX5_oneStep_146 ?_
        refine lv_if_eq (tgt := 159) hx hb dX5_oneStep_147 (by decide) (fun c11 => ?_) (fun c11 => ?_)
        · refine lv_aload_n hx hb dX5_oneStep_159 rfl (lv_at hl 1 rfl) ?_
          refine w_getR (v := .ref (ad 32 0)) Z hW kX5 rfl 5 (by decide) q745 (show (0 : Nat) < 1 by decide) rfl rfl dX5_oneStep_160 ?_
          refine lv_iload_n hx hb dX5_oneStep_163 rfl (lv_at hl 0 rfl) ?_
          refine a_D (j := i) (x := E2 1 i) (ix := i) Z hW rfl (show (0 : Nat) < 1 by decide) (by omega) (by decide) rfl rfl ((up2_f _ _ _ _ (by decide)).trans (hagc 1 i rfl)) dX5_oneStep_164 ?_
          refine lv_dload_n hx hb dX5_oneStep_165 rfl (lv_at hl 2 rfl) ?_
          refine lv_aload_n hx hb dX5_oneStep_166 rfl (lv_at hl 1 rfl) ?_
          refine w_getR (v := .ref (ad 34 0)) Z hW kX5 rfl 7 (by decide) q747 (show (0 : Nat) < 1 by decide) rfl rfl dX5_oneStep_167 ?_
          refine lv_iload_n hx hb dX5_oneStep_170 rfl (lv_at hl 0 rfl) ?_
          refine a_D (j := i) (x := E2 3 i) (ix := i) Z hW rfl (show (0 : Nat) < 1 by decide) (by omega) (by decide) rfl rfl ((up2_f _ _ _ _ (by decide)).trans (hagc 3 i rfl)) dX5_oneStep_171 ?_
          have f12 : fb (17) (FP.dmul dt (E2 3 i)) := fb.mul hdt.1 (hu2 i hi).2 (by decide)
          refine lv_dmul hx hb dX5_oneStep_172 f12.n64 ?_
          have f13 : fb (18) (FP.dadd (E2 1 i) (FP.dmul dt (E2 3 i))) := fb.add (hE2.y hi) f12 (by decide)
          refine lv_dadd hx hb dX5_oneStep_173 f13.n64 ?_
          refine w_ads (j := i) (ix := i) Z hW hS rfl (show (0 : Nat) < 1 by decide) rfl (by omega) (by decide) (show (i : Nat) < 10 by omega) rfl rfl dX5_oneStep_174 (fun H locs hW hS => ?_)
          refine lv_iinc1 (lv' := [(3, .int (nI (i + 1))), (0, .ref (ad 30 0)), (1, .double (dt))]) hx hb dX5_oneStep_175 hl (k := 0) rfl (by decide) rfl (fun ls hl => ?_)
          refine lv_goto (tgt := 89) hx hb dX5_oneStep_178 (by decide) ?_
          exact ih _ _ _ ⟨lv_sub hl [0, 1, 2] rfl, tg_s2 (k := i) (D := D2) (G := nxt dt I E2) (a := 32) (b := 33) (x := E2 0 i) (y := FP.dadd (E2 1 i) (FP.dmul dt (E2 3 i))) (by decide) (if_neg c5).symm (if_pos c11).symm ▸ hW, hS⟩
        · refine lv_aload_n hx hb dX5_oneStep_150 rfl (lv_at hl 1 rfl) ?_
          refine w_getR (v := .ref (ad 32 0)) Z hW kX5 rfl 5 (by decide) q745 (show (0 : Nat) < 1 by decide) rfl rfl dX5_oneStep_151 ?_
          refine lv_iload_n hx hb dX5_oneStep_154 rfl (lv_at hl 0 rfl) ?_
          refine a_D (j := i) (x := E2 1 i) (ix := i) Z hW rfl (show (0 : Nat) < 1 by decide) (by omega) (by decide) rfl rfl ((up2_f _ _ _ _ (by decide)).trans (hagc 1 i rfl)) dX5_oneStep_155 ?_
          refine lv_goto (tgt := 174) hx hb dX5_oneStep_156 (by decide) ?_
          refine w_ads (j := i) (ix := i) Z hW hS rfl (show (0 : Nat) < 1 by decide) rfl (by omega) (by decide) (show (i : Nat) < 10 by omega) rfl rfl dX5_oneStep_174 (fun H locs hW hS => ?_)
          refine lv_iinc1 (lv' := [(3, .int (nI (i + 1))), (0, .ref (ad 30 0)), (1, .double (dt))]) hx hb dX5_oneStep_175 hl (k := 0) rfl (by decide) rfl (fun ls hl => ?_)
          refine lv_goto (tgt := 89) hx hb dX5_oneStep_178 (by decide) ?_
          exact ih _ _ _ ⟨lv_sub hl [0, 1, 2] rfl, tg_s2 (k := i) (D := D2) (G := nxt dt I E2) (a := 32) (b := 33) (x := E2 0 i) (y := E2 1 i) (by decide) (if_neg c5).symm (if_neg c11).symm ▸ hW, hS⟩
    · intro H locs ls hP
      obtain ⟨hl, hW, hS⟩ := hP
      refine lv_iload_n hx hb dX5_oneStep_89 rfl (lv_at hl 0 rfl) ?_
      refine lv_aload_n hx hb dX5_oneStep_90 rfl (lv_at hl 1 rfl) ?_
      refine g_I (x := nI n) Z hW kX5 rfl 14 (by decide) q754 (show (0 : Nat) < 1 by decide) rfl hM1.cn dX5_oneStep_91 ?_
      refine lv_nge (tgt := 181) hx hb (by omega) (by omega) dX5_oneStep_94 (by decide) (fun c => ?_) (fun c => absurd c (by omega))
      refine lv_aload_n hx hb dX5_oneStep_181 rfl (lv_at hl 1 rfl) ?_
      have hagc : agD (tg n (s2 32 33) (nxt dt I E2) D2) E2 := hag2.of tg_exc dj3233
      have hkc : KO n D (tg n (s2 32 33) (nxt dt I E2) D2) := hk2.t3
      have hTn : agN n (tg n (s2 32 33) (nxt dt I E2) D2) (nxt dt I E2) := fun i hi => ⟨tg_in rfl hi, tg_in rfl hi⟩
      generalize tg n (s2 32 33) (nxt dt I E2) D2 = D2c at hW hagc hkc hTn
      have hol : ∀ a, a < n → D2c 44 a = E2 0 a ∧ D2c 45 a = E2 1 a := fun a ha => ⟨by rw [(hkc.1 a ha).1, hag 0 a rfl, hx2 0 a rfl, hx1 0 a rfl], by rw [(hkc.1 a ha).2.1, hag 1 a rfl, hx2 1 a rfl, hx1 1 a rfl]⟩
      refine wx_ws (wx_V (As := []) (rest := []) hAt.fix (m_X5_keepRods l A Dg dA ad n nb nr J D2c I1 E2 hagc hE2 hM1 ((nxt dt I E2)) hTn ((nxt_BT hE2 hu2 hdt)) hol) q1017 q1019 qs39 q1020 wn_X5_keepRods ⟨Nat.le_of_ble_eq_true rfl, Nat.le_of_ble_eq_true rfl, Nat.le_of_ble_eq_true rfl, Nat.le_of_ble_eq_true rfl⟩ (w_recv hK hW kX5 rfl (show (0 : Nat) < 1 by decide)) (Pw.of hK hW) hl.1 (Nat.le_of_ble_eq_true rfl) dX5_oneStep_182) hS (fun r H locs hW hz hS => ?_)
      obtain ⟨D2d, x, hex3, hW, hr1⟩ := hW
      rw [rds_cg hS1] at hr1
      have hkd : KO n D D2d := hkc.ex hex3
      have hag2d := hagc.X hex3
      have hI2 : exc sJ (up2 I1 43 0 x) I := (exc.rf.up rfl).trans hI1
      have hM2 : mI n nb nr J (up2 I1 43 0 x) := hM1
      have hS2 : sameS (up2 I1 43 0 x) I := fun j => hI2 1 j rfl
      have hls2 : up2 I1 43 0 x 25 0 = _ := (up2_f _ _ _ _ (by decide)).trans hls1
      have hli2 : up2 I1 43 0 x 23 0 = nI 1 := (up2_f _ _ _ _ (by decide)).trans hli1
      have hch : up2 I1 43 0 x 43 0 = x := up2_same _ _ _ _
      generalize up2 I1 43 0 x = I2 at hW hI2 hM2 hS2 hls2 hli2 hch
      rcases hr1 with ⟨rfl, q, T1, hrd, hq40, rfl, hBT1, hT1⟩ | ⟨rfl, hrd⟩
      rotate_left
      · rw [advB_n hrd] at ea
        refine lv_if_ne (tgt := 190) hx hb dX5_oneStep_185 (by decide) (fun h => absurd nI_0 h) (fun _ => ?_)
        refine lv_iconst (v := nI 2) hx hb dX5_oneStep_188 rfl ?_
        rw [hQ]
        exact rW_i hx hb hr hlk hS (⟨by rw [ea], D2d, I2, hW, hkd, hI2, by rw [ea]; exact hls2, Or.inr ⟨by rw [ea]; exact Nat.succ_ne_zero _, by rw [ea]; exact hag2d.U⟩⟩) dX5_oneStep_189
      rw [advB_s hrd] at ea
      have hch2 := hch
      refine lv_if_ne (tgt := 190) hx hb dX5_oneStep_185 (by decide) (fun _ => ?_) (fun h => absurd h (by decide))
      refine lv_iconst (v := nI 0) hx hb dX5_oneStep_190 rfl ?_
      refine lv_istore_n (lv' := [(3, .int (nI 0)), (0, .ref (ad 30 0)), (1, .double (dt))]) hx hb dX5_oneStep_191 rfl hl (by decide) rfl (fun ls hl => ?_)
      refine wb_meetH (fun H locs ls => lv_has ls 4 [(0, .ref (ad 30 0)), (1, .double (dt))] ∧ mW A Dg dA ad ((tg n (s2 2 3) (velG dt nr I E2 T1) D2d)) I2 H ∧ va_S A s.heap H locs) 267 ?_ ?_
      · intro H locs ls hP
        obtain ⟨hl, hW, hS⟩ := hP
        have hag3 : agD (tg n (s2 2 3) (velG dt nr I E2 T1) D2d) (vel dt n nr I E2 T1) := hag2d.tg (fun _ _ _ _ _ => rfl)
        have hk3 : KO n D (tg n (s2 2 3) (velG dt nr I E2 T1) D2d) := hkd.t2
        have hT3 : agN n (tg n (s2 2 3) (velG dt nr I E2 T1) D2d) T1 := fun i hi => ⟨(tg_out rfl).trans (hT1 i hi).1, (tg_out rfl).trans (hT1 i hi).2⟩
        have hE3 : Bd n nb nr J (vel dt n nr I E2 T1) := hE2.vl
        have hv3 : Bu 59 n (vel dt n nr I E2 T1) := Bu.vl hE2 hu2 hdt hBT1
        have hx3 : exc (s2 2 3) (vel dt n nr I E2 T1) E2 := tg_exc
        generalize (tg n (s2 2 3) (velG dt nr I E2 T1) D2d) = D3 at hW hag3 hk3 hT3
        refine lv_aload_n hx hb dX5_oneStep_267 rfl (lv_at hl 0 rfl) ?_
        refine wx_r (wx_V (As := []) (rest := []) hAt.fix (m_X5_blown l A Dg dA ad n nb nr J D3 I2 hM2.cn hn10 ((fun i hi => by rw [hag3 2 i rfl, hag3 3 i rfl]; exact ⟨(hv3 i hi).1.1, (hv3 i hi).2.1⟩))) q1011 q1013 qs38 q1014 wn_X5_blown ⟨Nat.le_of_ble_eq_true rfl, Nat.le_of_ble_eq_true rfl, Nat.le_of_ble_eq_true rfl, Nat.le_of_ble_eq_true rfl⟩ (w_recv hK hW kX5 rfl (show (0 : Nat) < 1 by decide)) (Pw.of hK hW) hl.1 (Nat.le_of_ble_eq_true rfl) dX5_oneStep_268) (fun r hr => ?_)
        rw [fastB_ag hag3] at hr
        rcases hr with ⟨rfl, hf⟩ | ⟨rfl, hf⟩
        · rw [advC_t hf] at ea
          refine lv_if_eq (tgt := 276) hx hb dX5_oneStep_271 (by decide) (fun h => absurd h (by decide)) (fun _ => ?_)
          refine lv_iconst (v := nI 3) hx hb dX5_oneStep_274 rfl ?_
          rw [hQ]
          exact rW_i hx hb hr hlk hS (⟨by rw [ea], D3, I2, hW, hk3, hI2, by rw [ea]; exact hls2, Or.inr ⟨by rw [ea]; exact Nat.succ_ne_zero _, by rw [ea]; exact (hag3.U.to ((hx3.mono s23_4).symm))⟩⟩) dX5_oneStep_275
        rw [advC_f hf] at ea
        have hu3 : Bu 20 n (vel dt n nr I E2 T1) := hv3.slow hf
        generalize vel dt n nr I E2 T1 = E3 at hag3 hE3 hu3 hx3 ea
        refine lv_if_eq (tgt := 276) hx hb dX5_oneStep_271 (by decide) (fun _ => ?_) (fun h => absurd nI_0 h)
        refine lv_iconst (v := nI 0) hx hb dX5_oneStep_276 rfl ?_
        refine lv_istore_n (lv' := [(3, .int (nI 0)), (0, .ref (ad 30 0)), (1, .double (dt))]) hx hb dX5_oneStep_277 rfl hl (by decide) rfl (fun ls hl => ?_)
        refine wl_up n 0 (fun i H locs ls => lv_has ls 4 [(3, .int (nI i)), (0, .ref (ad 30 0)), (1, .double (dt))] ∧ mW A Dg dA ad ((tg i (s2 0 1) (movG E3 T1) D3)) I2 H ∧ va_S A s.heap H locs) (Nat.zero_le _) ⟨lv_sub hl [0, 1, 2] rfl, by rw [tg_0]; exact hW, hS⟩ ?_ ?_
        · intro i H locs ls hi hP ih
          obtain ⟨hl, hW, hS⟩ := hP
          have hr32 : (tg i (s2 0 1) (movG E3 T1) D3) 32 i = T1 32 i := (tg_out rfl).trans ((hT3 i hi).1)
          have hr33 : (tg i (s2 0 1) (movG E3 T1) D3) 33 i = T1 33 i := (tg_out rfl).trans ((hT3 i hi).2)
          have hr20 : (tg i (s2 0 1) (movG E3 T1) D3) 20 0 = E3 20 0 := (tg_out rfl).trans (hag3 20 0 rfl)
          refine lv_iload_n hx hb dX5_oneStep_278 rfl (lv_at hl 0 rfl) ?_
          refine lv_aload_n hx hb dX5_oneStep_279 rfl (lv_at hl 1 rfl) ?_
          refine g_I (x := nI n) Z hW kX5 rfl 14 (by decide) q754 (show (0 : Nat) < 1 by decide) rfl hM2.cn dX5_oneStep_280 ?_
          refine lv_nge (tgt := 324) hx hb (by omega) (by omega) dX5_oneStep_283 (by decide) (fun c => absurd c (by omega)) (fun c => ?_)
          refine lv_aload_n hx hb dX5_oneStep_286 rfl (lv_at hl 1 rfl) ?_
          refine w_getR (v := .ref (ad 31 0)) Z hW kX5 rfl 4 (by decide) q744 (show (0 : Nat) < 1 by decide) rfl rfl dX5_oneStep_287 ?_
          refine lv_iload_n hx hb dX5_oneStep_290 rfl (lv_at hl 0 rfl) ?_
          refine lv_aload_n hx hb dX5_oneStep_291 rfl (lv_at hl 1 rfl) ?_
          refine lv_aload_n hx hb dX5_oneStep_292 rfl (lv_at hl 1 rfl) ?_
          refine w_getR (v := .ref (ad 54 0)) Z hW kX5 rfl 31 (by decide) q771 (show (0 : Nat) < 1 by decide) rfl rfl dX5_oneStep_293 ?_
          refine lv_iload_n hx hb dX5_oneStep_296 rfl (lv_at hl 0 rfl) ?_
          refine a_D (j := i) (x := T1 32 i) (ix := i) Z hW rfl (show (0 : Nat) < 1 by decide) (by omega) (by decide) rfl rfl hr32 dX5_oneStep_297 ?_
          refine wx_r (wx_V (As := [.double (T1 32 i)]) (rest := [.int (nI i), .ref (ad 31 0)]) hAt.fix (m_X5_wrapped l A Dg dA ad n nb nr J ((tg i (s2 0 1) (movG E3 T1) D3)) I2 (E3 20 0) (T1 32 i) hr20 hE3.side (((hBT1 i hi).1.bnd (by decide)))) q905 q907 qs23 q908 wn_X5_wrapped ⟨Nat.le_of_ble_eq_true rfl, Nat.le_of_ble_eq_true rfl, Nat.le_of_ble_eq_true rfl, Nat.le_of_ble_eq_true rfl⟩ (w_recv hK hW kX5 rfl (show (0 : Nat) < 1 by decide)) (Pw.of hK hW) hl.1 (Nat.le_of_ble_eq_true rfl) dX5_oneStep_298) (fun r hr => ?_)
          subst hr
          refine w_ads (j := i) (ix := i) Z hW hS rfl (show (0 : Nat) < 1 by decide) rfl (by omega) (by decide) (show (i : Nat) < 10 by omega) rfl rfl dX5_oneStep_301 (fun H locs hW hS => ?_)
          refine lv_aload_n hx hb dX5_oneStep_302 rfl (lv_at hl 1 rfl) ?_
          refine w_getR (v := .ref (ad 32 0)) Z hW kX5 rfl 5 (by decide) q745 (show (0 : Nat) < 1 by decide) rfl rfl dX5_oneStep_303 ?_
          refine lv_iload_n hx hb dX5_oneStep_306 rfl (lv_at hl 0 rfl) ?_
          refine lv_aload_n hx hb dX5_oneStep_307 rfl (lv_at hl 1 rfl) ?_
          refine lv_aload_n hx hb dX5_oneStep_308 rfl (lv_at hl 1 rfl) ?_
          refine w_getR (v := .ref (ad 55 0)) Z hW kX5 rfl 32 (by decide) q772 (show (0 : Nat) < 1 by decide) rfl rfl dX5_oneStep_309 ?_
          refine lv_iload_n hx hb dX5_oneStep_312 rfl (lv_at hl 0 rfl) ?_
          refine a_D (j := i) (x := T1 33 i) (ix := i) Z hW rfl (show (0 : Nat) < 1 by decide) (by omega) (by decide) rfl rfl ((up2_f _ _ _ _ (by decide)).trans hr33) dX5_oneStep_313 ?_
          refine wx_r (wx_V (As := [.double (T1 33 i)]) (rest := [.int (nI i), .ref (ad 32 0)]) hAt.fix (m_X5_wrapped l A Dg dA ad n nb nr J ((up2 (tg i (s2 0 1) (movG E3 T1) D3) 0 i (sWrap (E3 20 0) (T1 32 i)))) I2 (E3 20 0) (T1 33 i) (((up2_f _ _ _ _ (by decide)).trans hr20)) hE3.side (((hBT1 i hi).2.bnd (by decide)))) q905 q907 qs23 q908 wn_X5_wrapped ⟨Nat.le_of_ble_eq_true rfl, Nat.le_of_ble_eq_true rfl, Nat.le_of_ble_eq_true rfl, Nat.le_of_ble_eq_true rfl⟩ (w_recv hK hW kX5 rfl (show (0 : Nat) < 1 by decide)) (Pw.of hK hW) hl.1 (Nat.le_of_ble_eq_true rfl) dX5_oneStep_314) (fun r hr => ?_)
          subst hr
          refine w_ads (j := i) (ix := i) Z hW hS rfl (show (0 : Nat) < 1 by decide) rfl (by omega) (by decide) (show (i : Nat) < 10 by omega) rfl rfl dX5_oneStep_317 (fun H locs hW hS => ?_)
          refine lv_iinc1 (lv' := [(3, .int (nI (i + 1))), (0, .ref (ad 30 0)), (1, .double (dt))]) hx hb dX5_oneStep_318 hl (k := 0) rfl (by decide) rfl (fun ls hl => ?_)
          refine lv_goto (tgt := 278) hx hb dX5_oneStep_321 (by decide) ?_
          exact ih _ _ _ ⟨lv_sub hl [0, 1, 2] rfl, tg_s2 (k := i) (D := D3) (G := movG E3 T1) (a := 0) (b := 1) (x := sWrap (E3 20 0) (T1 32 i)) (y := sWrap (E3 20 0) (T1 33 i)) (by decide) movG_0.symm movG_1.symm ▸ hW, hS⟩
        · intro H locs ls hP
          obtain ⟨hl, hW, hS⟩ := hP
          have hag4 : agD (tg n (s2 0 1) (movG E3 T1) D3) (mov n E3 T1) := hag3.tg (fun _ _ _ _ _ => rfl)
          have hk4 : KO n D (tg n (s2 0 1) (movG E3 T1) D3) := hk3.t2
          have hE4 : Bd n nb nr J (mov n E3 T1) := hE3.mv hBT1 (by decide)
          have hu4 : Bu 20 n (mov n E3 T1) := hu3.cg (S := s2 0 1) tg_exc rfl rfl
          generalize mov n E3 T1 = E4 at hag4 hE4 hu4 ea
          generalize (tg n (s2 0 1) (movG E3 T1) D3) = D4 at hW hag4 hk4
          refine lv_iload_n hx hb dX5_oneStep_278 rfl (lv_at hl 0 rfl) ?_
          refine lv_aload_n hx hb dX5_oneStep_279 rfl (lv_at hl 1 rfl) ?_
          refine g_I (x := nI n) Z hW kX5 rfl 14 (by decide) q754 (show (0 : Nat) < 1 by decide) rfl hM2.cn dX5_oneStep_280 ?_
          refine lv_nge (tgt := 324) hx hb (by omega) (by omega) dX5_oneStep_283 (by decide) (fun c => ?_) (fun c => absurd c (by omega))
          refine lv_aload_n hx hb dX5_oneStep_324 rfl (lv_at hl 1 rfl) ?_
          refine wx_ws (wx_V (As := []) (rest := []) hAt.fix (m_X5_forces l A Dg dA ad n nb nr J D4 I2 E4 hag4 hE4 hM2 ((nI 1)) hli2) q960 q962 qs26 q963 wn_X5_forces ⟨Nat.le_of_ble_eq_true rfl, Nat.le_of_ble_eq_true rfl, Nat.le_of_ble_eq_true rfl, Nat.le_of_ble_eq_true rfl⟩ (w_recv hK hW kX5 rfl (show (0 : Nat) < 1 by decide)) (Pw.of hK hW) hl.1 (Nat.le_of_ble_eq_true rfl) dX5_oneStep_325) hS (fun r H locs hW hz hS => ?_)
          obtain ⟨D6, I6, hW, hL, hr1⟩ := hW
          have hk6 : KO n D D6 := hk4.ml hL
          have hag6 := hL.ag hag4
          have hM6 := hL.mi hM2
          have hI6 : exc sJ I6 I := hL.int.trans hI2
          have hS6 : sameS I6 I := fun j => hI6 1 j rfl
          have hls6 := hL.ls
          rw [hls2] at hls6
          have hli6 := hL.l1 hli2 (Or.inr rfl)
          have hch6 : I6 43 0 = nI q := hL.i43.trans hch2
          rcases hr1 with ⟨rfl, ho⟩ | ⟨rfl, ho, hF⟩
          · rw [advD_t ho] at ea
            refine lv_if_ne (tgt := 333) hx hb dX5_oneStep_328 (by decide) (fun h => absurd nI_0 h) (fun _ => ?_)
            refine lv_iconst (v := nI 1) hx hb dX5_oneStep_331 rfl ?_
            rw [hQ]
            exact rW_i hx hb hr hlk hS (⟨by rw [ea], D6, I6, hW, hk6, hI6, by rw [ea]; exact hls6, Or.inr ⟨by rw [ea]; exact Nat.succ_ne_zero _, by rw [ea]; exact hag6.U⟩⟩) dX5_oneStep_332
          rw [advD_f ho] at ea
          have hF6 : ∀ a, a < n → D6 30 a = (FX (lsC E4 (nI 1) n) J n nb a).1 ∧ D6 31 a = (FX (lsC E4 (nI 1) n) J n nb a).2 := fun a ha => by rw [FX_cg lsC_exL]; exact hF a ha
          have hE6 : Bd n nb nr J (lsC E4 (nI 1) n) := hE4.lc
          have hu6 : Bu 20 n (lsC E4 (nI 1) n) := hu4.cg (lsC_exL (li := nI 1) (n := n)) rfl rfl
          have hov6 : ovl (lsC E4 (nI 1) n) n = false := by rw [ovl_cg lsC_exL]; exact ho
          generalize lsC E4 (nI 1) n = E6 at hag6 hF6 hE6 hu6 hov6 ea
          refine lv_if_ne (tgt := 333) hx hb dX5_oneStep_328 (by decide) (fun _ => ?_) (fun h => absurd h (by decide))
          refine lv_aload_n hx hb dX5_oneStep_333 rfl (lv_at hl 1 rfl) ?_
          refine lv_dload_n hx hb dX5_oneStep_334 rfl (lv_at hl 2 rfl) ?_
          refine wx_wv (wx_V (As := [.double (dt)]) (rest := []) hAt.fix (m_X5_kick l A Dg dA ad n nb nr J D6 I6 ((hE6.cg hag6)) hM6.cn dt hdt ((hu6.ag hag6)) ((fun i hi => by rw [(hF6 i hi).1, (hF6 i hi).2]; exact FX_fb hE6 hi hov6))) q1007 q1009 qs37 q1010 wn_X5_kick ⟨Nat.le_of_ble_eq_true rfl, Nat.le_of_ble_eq_true rfl, Nat.le_of_ble_eq_true rfl, Nat.le_of_ble_eq_true rfl⟩ (w_recv hK hW kX5 rfl (show (0 : Nat) < 1 by decide)) (Pw.of hK hW) hl.1 (Nat.le_of_ble_eq_true rfl) dX5_oneStep_335) hS (fun H locs hW hz hS => ?_)
          have hag7 : agD _ (pshC (FP.dmul 4602678819172646912 dt) n nb J I E6) := psh_ag (half := (FP.dmul 4602678819172646912 dt)) hag6 hS6 hF6
          have hk7 : KO n D (psD (FP.dmul 4602678819172646912 dt) n D6 I6) := hk6.t2
          have hE7 : Bd n nb nr J (pshC (FP.dmul 4602678819172646912 dt) n nb J I E6) := hE6.psh
          have hv7 : Bu 164 n (pshC (FP.dmul 4602678819172646912 dt) n nb J I E6) := Bu.psh hE6 hu6 (dt_half hdt) hov6
          have hx7 : exc (s2 2 3) (pshC (FP.dmul 4602678819172646912 dt) n nb J I E6) E6 := tg_exc
          generalize psD (FP.dmul 4602678819172646912 dt) n D6 I6 = D7 at hW hag7 hk7
          refine lv_aload_n hx hb dX5_oneStep_338 rfl (lv_at hl 1 rfl) ?_
          refine wx_r (wx_V (As := []) (rest := []) hAt.fix (m_X5_blown l A Dg dA ad n nb nr J D7 I6 hM6.cn hn10 ((fun i hi => by rw [hag7 2 i rfl, hag7 3 i rfl]; exact ⟨(hv7 i hi).1.1, (hv7 i hi).2.1⟩))) q1011 q1013 qs38 q1014 wn_X5_blown ⟨Nat.le_of_ble_eq_true rfl, Nat.le_of_ble_eq_true rfl, Nat.le_of_ble_eq_true rfl, Nat.le_of_ble_eq_true rfl⟩ (w_recv hK hW kX5 rfl (show (0 : Nat) < 1 by decide)) (Pw.of hK hW) hl.1 (Nat.le_of_ble_eq_true rfl) dX5_oneStep_339) (fun r hr => ?_)
          rw [fastB_ag hag7] at hr
          rcases hr with ⟨rfl, hf⟩ | ⟨rfl, hf⟩
          · rw [advE_t hf] at ea
            refine lv_if_eq (tgt := 349) hx hb dX5_oneStep_342 (by decide) (fun h => absurd h (by decide)) (fun _ => ?_)
            refine lv_iconst (v := nI 3) hx hb dX5_oneStep_345 rfl ?_
            refine lv_goto (tgt := 350) hx hb dX5_oneStep_346 (by decide) ?_
            rw [hQ]
            exact rW_i hx hb hr hlk hS (⟨by rw [ea], D7, I6, hW, hk7, hI6, by rw [ea]; exact hls6, Or.inr ⟨by rw [ea]; exact Nat.succ_ne_zero _, by rw [ea]; exact (hag7.U.to ((hx7.mono s23_4).symm))⟩⟩) dX5_oneStep_350
          rw [advE_f hf] at ea
          have hu7 : Bu 20 n (pshC (FP.dmul 4602678819172646912 dt) n nb J I E6) := hv7.slow hf
          generalize pshC (FP.dmul 4602678819172646912 dt) n nb J I E6 = E7 at hag7 hE7 hu7 hx7 ea
          refine lv_if_eq (tgt := 349) hx hb dX5_oneStep_342 (by decide) (fun _ => ?_) (fun h => absurd nI_0 h)
          refine lv_iconst (v := nI 0) hx hb dX5_oneStep_349 rfl ?_
          rw [hQ]
          exact rW_i hx hb hr hlk hS (⟨by rw [ea], D7, I6, hW, hk7, hI6, by rw [ea]; exact hls6, Or.inl ⟨by rw [ea], by rw [ea]; exact hag7, hli6, by rw [ea]; exact hch6⟩⟩) dX5_oneStep_350
      intro hmeet
      by_cases hr0 : nr = 0
      · have e : (tg n (s2 2 3) (velG dt nr I E2 T1) D2d) = D2d := vel_0 hr0 hag2d
        refine lv_iload_n hx hb dX5_oneStep_192 rfl (lv_at hl 0 rfl) ?_
        refine lv_aload_n hx hb dX5_oneStep_193 rfl (lv_at hl 1 rfl) ?_
        refine g_I (x := nI n) Z hW kX5 rfl 14 (by decide) q754 (show (0 : Nat) < 1 by decide) rfl hM2.cn dX5_oneStep_194 ?_
        refine lv_nge (tgt := 267) hx hb (by decide) (by omega) dX5_oneStep_197 (by decide) (fun c22 => ?_) (fun c22 => ?_)
        · exact hmeet _ _ _ ⟨lv_sub hl [1, 2] rfl, e.symm ▸ hW, hS⟩
        · refine lv_aload_n hx hb dX5_oneStep_200 rfl (lv_at hl 1 rfl) ?_
          refine g_I (x := nI nr) Z hW kX5 rfl 16 (by decide) q756 (show (0 : Nat) < 1 by decide) rfl hM2.cr dX5_oneStep_201 ?_
          refine lv_if_le (tgt := 267) hx hb dX5_oneStep_204 (by decide) (fun c => ?_) (fun c => absurd hr0 (Nat.ne_of_gt (nI_pos1 (by omega) c)))
          exact hmeet _ _ _ ⟨lv_sub hl [1, 2] rfl, e.symm ▸ hW, hS⟩
      have hrp : 0 < nr := Nat.pos_of_ne_zero hr0
      refine wl_up n 0 (fun i H locs ls => lv_has ls 4 [(3, .int (nI i)), (0, .ref (ad 30 0)), (1, .double (dt))] ∧ mW A Dg dA ad ((tg i (s2 2 3) (velG dt nr I E2 T1) D2d)) I2 H ∧ va_S A s.heap H locs) (Nat.zero_le _) ⟨lv_sub hl [0, 1, 2] rfl, by rw [tg_0]; exact hW, hS⟩ ?_ ?_
      · intro i H locs ls hi hP ih
        obtain ⟨hl, hW, hS⟩ := hP
        have hr0 : (tg i (s2 2 3) (velG dt nr I E2 T1) D2d) 0 i = E2 0 i := (tg_out rfl).trans (hag2d 0 i rfl)
        have hr1 : (tg i (s2 2 3) (velG dt nr I E2 T1) D2d) 1 i = E2 1 i := (tg_out rfl).trans (hag2d 1 i rfl)
        have hr32 : (tg i (s2 2 3) (velG dt nr I E2 T1) D2d) 32 i = T1 32 i := (tg_out rfl).trans ((hT1 i hi).1)
        have hr33 : (tg i (s2 2 3) (velG dt nr I E2 T1) D2d) 33 i = T1 33 i := (tg_out rfl).trans ((hT1 i hi).2)
        refine lv_iload_n hx hb dX5_oneStep_192 rfl (lv_at hl 0 rfl) ?_
        refine lv_aload_n hx hb dX5_oneStep_193 rfl (lv_at hl 1 rfl) ?_
        refine g_I (x := nI n) Z hW kX5 rfl 14 (by decide) q754 (show (0 : Nat) < 1 by decide) rfl hM2.cn dX5_oneStep_194 ?_
        refine lv_nge (tgt := 267) hx hb (by omega) (by omega) dX5_oneStep_197 (by decide) (fun c => absurd c (by omega)) (fun c => ?_)
        refine lv_aload_n hx hb dX5_oneStep_200 rfl (lv_at hl 1 rfl) ?_
        refine g_I (x := nI nr) Z hW kX5 rfl 16 (by decide) q756 (show (0 : Nat) < 1 by decide) rfl hM2.cr dX5_oneStep_201 ?_
        refine lv_if_le (tgt := 267) hx hb dX5_oneStep_204 (by decide) (fun c => absurd hrp (nI_le0 (by omega) c)) (fun c => ?_)
        refine lv_aload_n hx hb dX5_oneStep_207 rfl (lv_at hl 1 rfl) ?_
        refine w_getR (v := .ref (ad 37 0)) Z hW kX5 rfl 10 (by decide) q750 (show (0 : Nat) < 1 by decide) rfl rfl dX5_oneStep_208 ?_
        refine lv_iload_n hx hb dX5_oneStep_211 rfl (lv_at hl 0 rfl) ?_
        refine a_Z (j := i) (x := I 1 i) (ix := i) Z hW rfl (show (0 : Nat) < 1 by decide) (by omega) (by decide) rfl rfl (hS2 i) dX5_oneStep_212 ?_
        refine lv_if_eq (tgt := 219) hx hb dX5_oneStep_213 (by decide) (fun c23 => ?_) (fun c23 => ?_)
        · refine lv_aload_n hx hb dX5_oneStep_219 rfl (lv_at hl 1 rfl) ?_
          refine w_getR (v := .ref (ad 33 0)) Z hW kX5 rfl 6 (by decide) q746 (show (0 : Nat) < 1 by decide) rfl rfl dX5_oneStep_220 ?_
          refine lv_iload_n hx hb dX5_oneStep_223 rfl (lv_at hl 0 rfl) ?_
          refine lv_aload_n hx hb dX5_oneStep_224 rfl (lv_at hl 1 rfl) ?_
          refine w_getR (v := .ref (ad 54 0)) Z hW kX5 rfl 31 (by decide) q771 (show (0 : Nat) < 1 by decide) rfl rfl dX5_oneStep_225 ?_
          refine lv_iload_n hx hb dX5_oneStep_228 rfl (lv_at hl 0 rfl) ?_
          refine a_D (j := i) (x := T1 32 i) (ix := i) Z hW rfl (show (0 : Nat) < 1 by decide) (by omega) (by decide) rfl rfl hr32 dX5_oneStep_229 ?_
          refine lv_aload_n hx hb dX5_oneStep_230 rfl (lv_at hl 1 rfl) ?_
          refine w_getR (v := .ref (ad 31 0)) Z hW kX5 rfl 4 (by decide) q744 (show (0 : Nat) < 1 by decide) rfl rfl dX5_oneStep_231 ?_
          refine lv_iload_n hx hb dX5_oneStep_234 rfl (lv_at hl 0 rfl) ?_
          refine a_D (j := i) (x := E2 0 i) (ix := i) Z hW rfl (show (0 : Nat) < 1 by decide) (by omega) (by decide) rfl rfl hr0 dX5_oneStep_235 ?_
          have f24 : fb (49) (FP.dsub (T1 32 i) (E2 0 i)) := fb.sub ((hBT1 i hi).1.bnd (by decide)) (hE2.x hi) (by decide)
          refine lv_dsub hx hb dX5_oneStep_236 f24.n64 ?_
          refine lv_dload_n hx hb dX5_oneStep_237 rfl (lv_at hl 2 rfl) ?_
          have f25 : fb (59) (FP.ddiv (FP.dsub (T1 32 i) (E2 0 i)) dt) := fb.div f24 hdt.2 (by decide)
          refine lv_ddiv hx hb dX5_oneStep_238 f25.n64 ?_
          refine w_ads (j := i) (ix := i) Z hW hS rfl (show (0 : Nat) < 1 by decide) rfl (by omega) (by decide) (show (i : Nat) < 10 by omega) rfl rfl dX5_oneStep_239 (fun H locs hW hS => ?_)
          refine lv_aload_n hx hb dX5_oneStep_240 rfl (lv_at hl 1 rfl) ?_
          refine w_getR (v := .ref (ad 34 0)) Z hW kX5 rfl 7 (by decide) q747 (show (0 : Nat) < 1 by decide) rfl rfl dX5_oneStep_241 ?_
          refine lv_iload_n hx hb dX5_oneStep_244 rfl (lv_at hl 0 rfl) ?_
          refine lv_aload_n hx hb dX5_oneStep_245 rfl (lv_at hl 1 rfl) ?_
          refine w_getR (v := .ref (ad 55 0)) Z hW kX5 rfl 32 (by decide) q772 (show (0 : Nat) < 1 by decide) rfl rfl dX5_oneStep_246 ?_
          refine lv_iload_n hx hb dX5_oneStep_249 rfl (lv_at hl 0 rfl) ?_
          refine a_D (j := i) (x := T1 33 i) (ix := i) Z hW rfl (show (0 : Nat) < 1 by decide) (by omega) (by decide) rfl rfl ((up2_f _ _ _ _ (by decide)).trans hr33) dX5_oneStep_250 ?_
          refine lv_aload_n hx hb dX5_oneStep_251 rfl (lv_at hl 1 rfl) ?_
          refine w_getR (v := .ref (ad 32 0)) Z hW kX5 rfl 5 (by decide) q745 (show (0 : Nat) < 1 by decide) rfl rfl dX5_oneStep_252 ?_
          refine lv_iload_n hx hb dX5_oneStep_255 rfl (lv_at hl 0 rfl) ?_
          refine a_D (j := i) (x := E2 1 i) (ix := i) Z hW rfl (show (0 : Nat) < 1 by decide) (by omega) (by decide) rfl rfl ((up2_f _ _ _ _ (by decide)).trans hr1) dX5_oneStep_256 ?_
          have f26 : fb (49) (FP.dsub (T1 33 i) (E2 1 i)) := fb.sub ((hBT1 i hi).2.bnd (by decide)) (hE2.y hi) (by decide)
          refine lv_dsub hx hb dX5_oneStep_257 f26.n64 ?_
          refine lv_dload_n hx hb dX5_oneStep_258 rfl (lv_at hl 2 rfl) ?_
          have f27 : fb (59) (FP.ddiv (FP.dsub (T1 33 i) (E2 1 i)) dt) := fb.div f26 hdt.2 (by decide)
          refine lv_ddiv hx hb dX5_oneStep_259 f27.n64 ?_
          refine w_ads (j := i) (ix := i) Z hW hS rfl (show (0 : Nat) < 1 by decide) rfl (by omega) (by decide) (show (i : Nat) < 10 by omega) rfl rfl dX5_oneStep_260 (fun H locs hW hS => ?_)
          refine lv_iinc1 (lv' := [(3, .int (nI (i + 1))), (0, .ref (ad 30 0)), (1, .double (dt))]) hx hb dX5_oneStep_261 hl (k := 0) rfl (by decide) rfl (fun ls hl => ?_)
          refine lv_goto (tgt := 192) hx hb dX5_oneStep_264 (by decide) ?_
          exact ih _ _ _ ⟨lv_sub hl [0, 1, 2] rfl, tg_s2 (k := i) (D := D2d) (G := velG dt nr I E2 T1) (a := 2) (b := 3) (x := FP.ddiv (FP.dsub (T1 32 i) (E2 0 i)) dt) (y := FP.ddiv (FP.dsub (T1 33 i) (E2 1 i)) dt) (by decide) (if_pos ⟨hrp, c23⟩).symm (if_pos ⟨hrp, c23⟩).symm ▸ hW, hS⟩
        · refine lv_goto (tgt := 261) hx hb dX5_oneStep_216 (by decide) ?_
          refine lv_iinc1 (lv' := [(3, .int (nI (i + 1))), (0, .ref (ad 30 0)), (1, .double (dt))]) hx hb dX5_oneStep_261 hl (k := 0) rfl (by decide) rfl (fun ls hl => ?_)
          refine lv_goto (tgt := 192) hx hb dX5_oneStep_264 (by decide) ?_
          have e : tg (i + 1) (s2 2 3) (velG dt nr I E2 T1) D2d = _ := tg_same (fun f hf => by
            rcases s2_or hf with rfl | rfl
            · exact (hag2d 2 i rfl).trans (if_neg (fun q => c23 q.2)).symm
            · exact (hag2d 3 i rfl).trans (if_neg (fun q => c23 q.2)).symm)
          exact ih _ _ _ ⟨lv_sub hl [0, 1, 2] rfl, e.symm ▸ hW, hS⟩
      · intro H locs ls hP
        obtain ⟨hl, hW, hS⟩ := hP
        refine lv_iload_n hx hb dX5_oneStep_192 rfl (lv_at hl 0 rfl) ?_
        refine lv_aload_n hx hb dX5_oneStep_193 rfl (lv_at hl 1 rfl) ?_
        refine g_I (x := nI n) Z hW kX5 rfl 14 (by decide) q754 (show (0 : Nat) < 1 by decide) rfl hM2.cn dX5_oneStep_194 ?_
        refine lv_nge (tgt := 267) hx hb (by omega) (by omega) dX5_oneStep_197 (by decide) (fun c => ?_) (fun c => absurd c (by omega))
        exact hmeet _ _ _ ⟨lv_sub hl [1, 2] rfl, hW, hS⟩
