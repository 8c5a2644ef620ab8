set_option maxRecDepth 100000
/-! ===== the class: advance ===== -/
theorem s3233 : ∀ f, sM f = false → s2 32 33 f = false := by
  intro f h
  cases hb : s2 32 33 f with
  | false => rfl
  | true => rcases s2_or hb with rfl | rfl <;> exact absurd h (by decide)
theorem g2_a {α : Type} {a j : Nat} {x y : Nat → α} : g2 a x y a j = x j := by unfold g2; rw [Nat.beq_refl]; rfl
theorem g2_b {α : Type} {a b j : Nat} {x y : Nat → α} (h : b ≠ a) : g2 a x y b j = y j := by unfold g2; rw [beq_f h]; rfl
theorem movG_0 {D T : T64} {j : Nat} : movG D T 0 j = sWrap (D 20 0) (T 32 j) := g2_a
theorem movG_1 {D T : T64} {j : Nat} : movG D T 1 j = sWrap (D 20 0) (T 33 j) := g2_b (by decide)
theorem exc.symm {α : Type} {S : Nat → Bool} {D D0 : Nat → Nat → α} (h : exc S D D0) : exc S D0 D := fun f i hf => (h f i hf).symm
set_option maxHeartbeats 4000000 in
theorem m_X1_advance (l : Launch) (hfl : l.flags = flags0) (A : Nat → Prop) (Dg : va_G) (dA : Nat → ClassId) (ad : Nat → Nat → Nat) (n : Nat) (nb : Nat) (nr : Nat) (no : Nat) (J : Nat → Nat → Nat) (R : Nat → Value) (D : T64) (I : T32) (D0 : T64) (hag : agD D D0) (hB : Bd n nb nr J D0) (hCn : Cn n nb nr I) (li : Int32) (hli : I 23 0 = li) (h01 : li = nI 0 ∨ li = nI 1) (hNL : ¬ li = 0 → NL D0 I n) (hu : Bu 20 n D0) (dt : UInt64) (hdt : dtOK dt) (wm : UInt64) (hwm : D 43 0 = wm) (hwT : fge wm FP.dconst0 → okT wm) : MX l yX1_advance cX1_advance 6 (some .int) [] (rmx 10 1 6) [.ref (ad 0 0), .double (dt)] (Px A Dg dA (cW A Dg dA ad n nb nr no J R D I)) (qX (fun r : Int32 => some (.int r)) (fun r H => (adv dt n nb nr J I D0 li (I 25 0)).1 = 0 ∧ r = nI (adv dt n nb nr J I D0 li (I 25 0)).2.2.2 ∧ ∃ D1 I1 R1, cW A Dg dA ad n nb nr no J R1 D1 I1 H ∧ agD D1 (wrm wm n I (adv dt n nb nr J I D0 li (I 25 0)).2.1) ∧ NL (wrm wm n I (adv dt n nb nr J I D0 li (I 25 0)).2.1) I1 n ∧ I1 23 0 = nI 1 ∧ I1 25 0 = (adv dt n nb nr J I D0 li (I 25 0)).2.2.1 ∧ exc sI I1 I ∧ (∀ i, D1 37 i = D 37 i) ∧ D1 43 0 = D 43 0) (fun C H => (¬ (adv dt n nb nr J I D0 li (I 25 0)).1 = 0 ∧ C = "java/lang/ArithmeticException") ∧ ∃ D1 I1 R1, cW A Dg dA ad n nb nr no J R1 D1 ((up2 I1 40 0 (nI ((adv dt n nb nr J I D0 li (I 25 0)).1 - 1)))) H ∧ agU D1 (adv dt n nb nr J I D0 li (I 25 0)).2.1 ∧ I1 25 0 = (adv dt n nb nr J I D0 li (I 25 0)).2.2.1 ∧ exc sI I1 I ∧ (∀ i, D1 37 i = D 37 i) ∧ D1 43 0 = D 43 0) A) 0 0 A := by
  refine MX.start (Nat.le_of_ble_eq_true rfl) ?_
  intro p e s m args below meth c ls Q hAt hPc hl hQ
  have hl : lv_has ls 6 [(0, .ref (ad 0 0)), (1, .double (dt))] := hl
  obtain ⟨hx, hb, hml, hr, hlk, hown, hnm, htab, hts⟩ := id hAt
  obtain ⟨hK, hst, hA, hW⟩ := hPc
  have Z := Cx.of hAt hK
  have hS : va_S A s.heap s.heap [] := va_S.rf
  obtain ⟨hn, hnb, hnr⟩ := id hCn
  have hn10 := hB.n10
  have hnr4 := hB.nr4
  refine lv_aload_n hx hb dX1_advance_0 rfl (lv_at hl 0 rfl) ?_
  refine wx_x (wx_V (As := []) (rest := []) hAt.fix (m_X1_forces l hfl A Dg dA ad n nb nr no J R D I D0 hag hB hn hnb li hli hNL) q566 q568 qs7 q569 wn_X1_forces ⟨Nat.le_of_ble_eq_true rfl, Nat.le_of_ble_eq_true rfl, Nat.le_of_ble_eq_true rfl, Nat.le_of_ble_eq_true rfl⟩ (w_recv hK hW kX1 rfl (show (0 : Nat) < 1 by decide)) (Px.of hK hst hA hS hW) hl.1 (Nat.le_of_ble_eq_true rfl) dX1_advance_1) hS (fun r H locs hW hz hS => ?_) (fun x C H locs hp hE hz hS => ?_)
  rotate_left
  · rw [hQ]
    obtain ⟨⟨hov, rfl⟩, D1, I1, R1, hW, hL⟩ := hp
    have ea : adv dt n nb nr J I D0 li (I 25 0) = _ := adv_ov ((list_ovl hB).mp hov)
    refine rT_x hlk htab rfl hS hE ⟨⟨by rw [ea]; exact Nat.succ_ne_zero _, rfl⟩, D1, I1, R1, ?_, ?_, ?_, hL.int, fun i => hL.far rfl (by decide) (by decide), hL.far rfl (by decide) (by decide)⟩
    · rw [ea]; exact hW
    · rw [ea]; exact (hL.ag hag).U
    · rw [ea]; exact hL.ls
  obtain ⟨D1, I1, R1, hW, hL, hall⟩ := hW
  have hov : ovl D0 n = false := by
    cases ho : ovl D0 n with
    | false => rfl
    | true =>
      obtain ⟨a, ha, k, hk, hq⟩ := (list_ovl hB (li := li)).mpr ho
      exact absurd hq ((hall a ha).1 k hk)
  have hag1 := hL.ag hag
  have hI1 := hL.int
  have hS1 : sameS I1 I := fun j => hI1 1 j rfl
  have hNL1 := hL.nl hNL
  have hli1 := hL.li hli h01
  have hls1 := hL.ls
  have h371 : ∀ i, D1 37 i = D 37 i := fun i => hL.far rfl (by decide) (by decide)
  have h431 : D1 43 0 = D 43 0 := hL.far rfl (by decide) (by decide)
  have hF1 : ∀ a, a < n → D1 30 a = (FX (lsC D0 li n) J n nb a).1 ∧ D1 31 a = (FX (lsC D0 li n) J n nb a).2 := fun a ha => by rw [FX_cg lsC_exL, ← list_force hB (li := li) ha]; exact ⟨(hall a ha).2.1, (hall a ha).2.2⟩
  have hE1 : Bd n nb nr J (lsC D0 li n) := hB.lc
  have hu1 : Bu 20 n (lsC D0 li n) := hu.cg (lsC_exL (li := li) (n := n)) rfl rfl
  have hov1 : ovl (lsC D0 li n) n = false := by rw [ovl_cg lsC_exL]; exact hov
  have ea : adv dt n nb nr J I D0 li (I 25 0) = _ := adv_no hov
  generalize hE1e : lsC D0 li n = E1 at hag1 hNL1 hF1 hE1 hu1 hov1 ea
  refine lv_aload_n hx hb dX1_advance_4 rfl (lv_at hl 0 rfl) ?_
  refine lv_ldc2d (v := 4602678819172646912) hx hb hown (hts _ (lw_car_all q69)) dX1_advance_5 ?_
  refine lv_dload_n hx hb dX1_advance_8 rfl (lv_at hl 1 rfl) ?_
  have f1 : fb (-4) (FP.dmul 4602678819172646912 dt) := fb.mul fc_4602678819172646912 hdt.1 (by decide)
  refine lv_dmul hx hb dX1_advance_9 f1.n64 ?_
  refine wx_wv (wx_V (As := [.double (FP.dmul 4602678819172646912 dt)]) (rest := []) hAt.fix (m_X1_pushAll l A Dg dA ad n nb nr no J R1 D1 I1 ((hE1.cg hag1)) (((hI1 20 0 rfl).trans hn)) ((FP.dmul 4602678819172646912 dt)) ((dt_half hdt)) ((hu1.ag hag1)) ((fun i hi => by rw [(hF1 i hi).1, (hF1 i hi).2]; exact FX_fb hE1 hi hov1))) q627 q629 qs15 q630 wn_X1_pushAll ⟨Nat.le_of_ble_eq_true rfl, Nat.le_of_ble_eq_true rfl, Nat.le_of_ble_eq_true rfl, Nat.le_of_ble_eq_true rfl⟩ (w_recv hK hW kX1 rfl (show (0 : Nat) < 1 by decide)) (Pw.of hK hW) hl.1 (Nat.le_of_ble_eq_true rfl) dX1_advance_10) hS (fun H locs hW hz hS => ?_)
  have hag2 : agD _ (pshC (FP.dmul 4602678819172646912 dt) n nb J I E1) := psh_ag (half := (FP.dmul 4602678819172646912 dt)) hag1 hS1 hF1
  have h372 : ∀ i, psD (FP.dmul 4602678819172646912 dt) n D1 I1 37 i = D 37 i := fun i => (tg_out rfl).trans (h371 i)
  have h432 : psD (FP.dmul 4602678819172646912 dt) n D1 I1 43 0 = D 43 0 := (tg_out rfl).trans h431
  have hE2 : Bd n nb nr J (pshC (FP.dmul 4602678819172646912 dt) n nb J I E1) := hE1.psh
  have hv2 : Bu 164 n (pshC (FP.dmul 4602678819172646912 dt) n nb J I E1) := Bu.psh hE1 hu1 (dt_half hdt) hov1
  have hx2 : exc (s2 2 3) (pshC (FP.dmul 4602678819172646912 dt) n nb J I E1) E1 := tg_exc
  generalize psD (FP.dmul 4602678819172646912 dt) n D1 I1 = D2 at hW hag2 h372 h432
  refine lv_aload_n hx hb dX1_advance_13 rfl (lv_at hl 0 rfl) ?_
  refine wx_x (wx_V (As := []) (rest := []) hAt.fix (m_X1_checkSpeeds l hfl A Dg dA ad n nb nr no J R1 D2 I1 (((hI1 20 0 rfl).trans hn)) hn10) q635 q637 qs16 q638 wn_X1_checkSpeeds ⟨Nat.le_of_ble_eq_true rfl, Nat.le_of_ble_eq_true rfl, Nat.le_of_ble_eq_true rfl, Nat.le_of_ble_eq_true rfl⟩ (w_recv hK hW kX1 rfl (show (0 : Nat) < 1 by decide)) (Px.of hK hst hA hS hW) hl.1 (Nat.le_of_ble_eq_true rfl) dX1_advance_14) hS (fun r H locs hW hz hS => ?_) (fun x C H locs hp hE hz hS => ?_)
  rotate_left
  · rw [hQ]
    obtain ⟨⟨hfa, rfl⟩, hW⟩ := hp
    have hft : fastB (pshC (FP.dmul 4602678819172646912 dt) n nb J I E1) n = true := by rw [← fastB_ag hag2]; exact fastB_t.mpr hfa
    rw [advA_t hft] at ea
    refine rT_x hlk htab rfl hS hE ⟨⟨by rw [ea]; exact Nat.succ_ne_zero _, rfl⟩, D2, I1, R1, ?_, ?_, ?_, hI1, h372, h432⟩
    · rw [ea]; exact hW
    · rw [ea]; exact hag2.U.to ((hx2.mono s23_4).symm)
    · rw [ea]; exact hls1
  obtain ⟨hnf, hW⟩ := hW
  have hff : fastB (pshC (FP.dmul 4602678819172646912 dt) n nb J I E1) n = false := by rw [← fastB_ag hag2]; exact fastB_f.mpr hnf
  rw [advA_f hff] at ea
  have hu2 : Bu 20 n (pshC (FP.dmul 4602678819172646912 dt) n nb J I E1) := hv2.slow hff
  generalize hE2e : pshC (FP.dmul 4602678819172646912 dt) n nb J I E1 = E2 at hag2 hE2 hu2 hx2 ea
  refine lv_iconst (v := nI 0) hx hb dX1_advance_17 rfl ?_
  refine lv_istore_n (lv' := [(3, .int (nI 0)), (0, .ref (ad 0 0)), (1, .double (dt))]) hx hb dX1_advance_18 rfl hl (by decide) rfl (fun ls hl => ?_)
  refine wl_up n 0 (fun i H locs ls => lv_has ls 6 [(3, .int (nI i)), (0, .ref (ad 0 0)), (1, .double (dt))] ∧ cW A Dg dA ad n nb nr no J R1 ((tg i (s2 32 33) (nxt dt I E2) D2)) I1 H ∧ va_S A s.heap H locs) (Nat.zero_le _) ⟨lv_sub hl [0, 1, 2] rfl, by rw [tg_0]; exact hW, hS⟩ ?_ ?_
  · intro i H locs ls hi hP ih
    obtain ⟨hl, hW, hS⟩ := hP
    have hagc : agD (tg i (s2 32 33) (nxt dt I E2) D2) E2 := hag2.M (tg_exc.mono s3233)
    refine lv_iload_n hx hb dX1_advance_19 rfl (lv_at hl 0 rfl) ?_
    refine lv_aload_n hx hb dX1_advance_20 rfl (lv_at hl 1 rfl) ?_
    refine g_I (x := nI n) Z hW kX1 rfl 8 (by decide) q149 (show (0 : Nat) < 1 by decide) rfl ((hI1 20 0 rfl).trans hn) dX1_advance_21 ?_
    refine lv_nge (tgt := 109) hx hb (by omega) (by omega) dX1_advance_24 (by decide) (fun c => absurd c (by omega)) (fun c => ?_)
    refine lv_aload_n hx hb dX1_advance_27 rfl (lv_at hl 1 rfl) ?_
    refine w_getR (v := .ref (ad 11 0)) Z hW kX1 rfl 5 (by decide) q146 (show (0 : Nat) < 1 by decide) rfl rfl dX1_advance_28 ?_
    refine lv_iload_n hx hb dX1_advance_31 rfl (lv_at hl 0 rfl) ?_
    refine a_R (j := i) (v := .ref (ad 2 i)) (ix := i) Z hW rfl (show (0 : Nat) < 1 by decide) (by omega) (by decide) rfl rfl rfl rfl (cR_atom (show (i : Nat) < n by omega)) dX1_advance_32 ?_
    refine lv_astore (lv' := [(4, .ref (ad 2 i)), (3, .int (nI i)), (0, .ref (ad 0 0)), (1, .double (dt))]) hx hb dX1_advance_33 hl (by decide) rfl (fun ls hl => ?_)
    refine lv_aload hx hb dX1_advance_35 (lv_at hl 0 rfl) ?_
    refine lv_aload hx hb dX1_advance_37 (lv_at hl 0 rfl) ?_
    refine g_I (x := I 1 i) Z hW kX6 rfl 9 (by decide) q387 (show (i : Nat) < n by omega) rfl (hI1 1 i rfl) dX1_advance_39 ?_
    refine lv_if_eq (tgt := 53) hx hb dX1_advance_42 (by decide) (fun c2 => ?_) (fun c2 => ?_)
    · refine lv_aload hx hb dX1_advance_53 (lv_at hl 0 rfl) ?_
      refine g_D (x := E2 0 i) Z hW kX6 rfl 3 (by decide) q375 (show (i : Nat) < n by omega) rfl (hagc 0 i rfl) dX1_advance_55 ?_
      refine lv_dload_n hx hb dX1_advance_58 rfl (lv_at hl 3 rfl) ?_
      refine lv_aload hx hb dX1_advance_59 (lv_at hl 0 rfl) ?_
      refine g_D (x := E2 2 i) Z hW kX6 rfl 5 (by decide) q379 (show (i : Nat) < n by omega) rfl (hagc 2 i rfl) dX1_advance_61 ?_
      have f3 : fb (17) (FP.dmul dt (E2 2 i)) := fb.mul hdt.1 (hu2 i hi).1 (by decide)
      refine lv_dmul hx hb dX1_advance_64 f3.n64 ?_
      have f4 : fb (18) (FP.dadd (E2 0 i) (FP.dmul dt (E2 2 i))) := fb.add (hE2.x (show (i : Nat) < n by omega)) f3 (by decide)
      refine lv_dadd hx hb dX1_advance_65 f4.n64 ?_
      refine w_putD Z hW hS kX6 rfl 10 (by decide) (by decide) q388 rfl (show (i : Nat) < n by omega) rfl rfl dX1_advance_66 (fun H locs hW hS => ?_)
      refine lv_aload hx hb dX1_advance_69 (lv_at hl 0 rfl) ?_
      refine lv_aload hx hb dX1_advance_71 (lv_at hl 0 rfl) ?_
      refine g_I (x := I 1 i) Z hW kX6 rfl 9 (by decide) q387 (show (i : Nat) < n by omega) rfl (hI1 1 i rfl) dX1_advance_73 ?_
      refine lv_if_eq (tgt := 87) hx hb dX1_advance_76 (by decide) (fun c5 => ?_) (fun c5 => ?_)
      · refine lv_aload hx hb dX1_advance_87 (lv_at hl 0 rfl) ?_
        refine g_D (x := E2 1 i) Z hW kX6 rfl 4 (by decide) q377 (show (i : Nat) < n by omega) rfl ((up2_f _ _ _ _ (by decide)).trans (hagc 1 i rfl)) dX1_advance_89 ?_
        refine lv_dload_n hx hb dX1_advance_92 rfl (lv_at hl 3 rfl) ?_
        refine lv_aload hx hb dX1_advance_93 (lv_at hl 0 rfl) ?_
        refine g_D (x := E2 3 i) Z hW kX6 rfl 6 (by decide) q381 (show (i : Nat) < n by omega) rfl ((up2_f _ _ _ _ (by decide)).trans (hagc 3 i rfl)) dX1_advance_95 ?_
        have f6 : fb (17) (FP.dmul dt (E2 3 i)) := fb.mul hdt.1 (hu2 i hi).2 (by decide)
        refine lv_dmul hx hb dX1_advance_98 f6.n64 ?_
        have f7 : fb (18) (FP.dadd (E2 1 i) (FP.dmul dt (E2 3 i))) := fb.add (hE2.y (show (i : Nat) < n by omega)) f6 (by decide)
        refine lv_dadd hx hb dX1_advance_99 f7.n64 ?_
        refine w_putD Z hW hS kX6 rfl 11 (by decide) (by decide) q389 rfl (show (i : Nat) < n by omega) rfl rfl dX1_advance_100 (fun H locs hW hS => ?_)
        refine lv_iinc1 (lv' := [(3, .int (nI (i + 1))), (4, .ref (ad 2 i)), (0, .ref (ad 0 0)), (1, .double (dt))]) hx hb dX1_advance_103 hl (k := 1) rfl (by decide) rfl (fun ls hl => ?_)
        refine lv_goto (tgt := 19) hx hb dX1_advance_106 (by decide) ?_
        exact ih _ _ _ ⟨lv_sub hl [0, 2, 3] rfl, tg_s2 (k := i) (D := D2) (G := nxt dt I E2) (a := 32) (b := 33) (x := FP.dadd (E2 0 i) (FP.dmul dt (E2 2 i))) (y := FP.dadd (E2 1 i) (FP.dmul dt (E2 3 i))) (by decide) (if_pos c2).symm (if_pos c5).symm ▸ hW, hS⟩
      · refine lv_aload hx hb dX1_advance_79 (lv_at hl 0 rfl) ?_
        refine g_D (x := E2 1 i) Z hW kX6 rfl 4 (by decide) q377 (show (i : Nat) < n by omega) rfl ((up2_f _ _ _ _ (by decide)).trans (hagc 1 i rfl)) dX1_advance_81 ?_
        refine lv_goto (tgt := 100) hx hb dX1_advance_84 (by decide) ?_
        refine w_putD Z hW hS kX6 rfl 11 (by decide) (by decide) q389 rfl (show (i : Nat) < n by omega) rfl rfl dX1_advance_100 (fun H locs hW hS => ?_)
        refine lv_iinc1 (lv' := [(3, .int (nI (i + 1))), (4, .ref (ad 2 i)), (0, .ref (ad 0 0)), (1, .double (dt))]) hx hb dX1_advance_103 hl (k := 1) rfl (by decide) rfl (fun ls hl => ?_)
        refine lv_goto (tgt := 19) hx hb dX1_advance_106 (by decide) ?_
        exact ih _ _ _ ⟨lv_sub hl [0, 2, 3] rfl, tg_s2 (k := i) (D := D2) (G := nxt dt I E2) (a := 32) (b := 33) (x := FP.dadd (E2 0 i) (FP.dmul dt (E2 2 i))) (y := E2 1 i) (by decide) (if_pos c2).symm (if_neg c5).symm ▸ hW, hS⟩
    · refine lv_aload hx hb dX1_advance_45 (lv_at hl 0 rfl) ?_
      refine g_D (x := E2 0 i) Z hW kX6 rfl 3 (by decide) q375 (show (i : Nat) < n by omega) rfl (hagc 0 i rfl) dX1_advance_47 ?_
      refine lv_goto (tgt := 66) hx hb dX1_advance_50 (by decide) ?_
      refine w_putD Z hW hS kX6 rfl 10 (by decide) (by decide) q388 rfl (show (i : Nat) < n by omega) rfl rfl dX1_advance_66 (fun H locs hW hS => ?_)
      refine lv_aload hx hb dX1_advance_69 (lv_at hl 0 rfl) ?_
      refine lv_aload hx hb dX1_advance_71 (lv_at hl 0 rfl) ?_
      refine g_I (x := I 1 i) Z hW kX6 rfl 9 (by decide) q387 (show (i : Nat) < n by omega) rfl (hI1 1 i rfl) dX1_advance_73 ?_
      refine lv_if_eq (tgt := 87) hx hb dX1_advance_76 (by decide) (fun c8 => ?_) (fun c8 => ?_)
      · refine lv_aload hx hb dX1_advance_87 (lv_at hl 0 rfl) ?_
        refine g_D (x := E2 1 i) Z hW kX6 rfl 4 (by decide) q377 (show (i : Nat) < n by omega) rfl ((up2_f _ _ _ _ (by decide)).trans (hagc 1 i rfl)) dX1_advance_89 ?_
        refine lv_dload_n hx hb dX1_advance_92 rfl (lv_at hl 3 rfl) ?_
        refine lv_aload hx hb dX1_advance_93 (lv_at hl 0 rfl) ?_
        refine g_D (x := E2 3 i) Z hW kX6 rfl 6 (by decide) q381 (show (i : Nat) < n by omega) rfl ((up2_f _ _ _ _ (by decide)).trans (hagc 3 i rfl)) dX1_advance_95 ?_
        have f9 : fb (17) (FP.dmul dt (E2 3 i)) := fb.mul hdt.1 (hu2 i hi).2 (by decide)
        refine lv_dmul hx hb dX1_advance_98 f9.n64 ?_
        have f10 : fb (18) (FP.dadd (E2 1 i) (FP.dmul dt (E2 3 i))) := fb.add (hE2.y (show (i : Nat) < n by omega)) f9 (by decide)
        refine lv_dadd hx hb dX1_advance_99 f10.n64 ?_
        refine w_putD Z hW hS kX6 rfl 11 (by decide) (by decide) q389 rfl (show (i : Nat) < n by omega) rfl rfl dX1_advance_100 (fun H locs hW hS => ?_)
        refine lv_iinc1 (lv' := [(3, .int (nI (i + 1))), (4, .ref (ad 2 i)), (0, .ref (ad 0 0)), (1, .double (dt))]) hx hb dX1_advance_103 hl (k := 1) rfl (by decide) rfl (fun ls hl => ?_)
        refine lv_goto (tgt := 19) hx hb dX1_advance_106 (by decide) ?_
        exact ih _ _ _ ⟨lv_sub hl [0, 2, 3] rfl, tg_s2 (k := i) (D := D2) (G := nxt dt I E2) (a := 32) (b := 33) (x := E2 0 i) (y := FP.dadd (E2 1 i) (FP.dmul dt (E2 3 i))) (by decide) (if_neg c2).symm (if_pos c8).symm ▸ hW, hS⟩
      · refine lv_aload hx hb dX1_advance_79 (lv_at hl 0 rfl) ?_
        refine g_D (x := E2 1 i) Z hW kX6 rfl 4 (by decide) q377 (show (i : Nat) < n by omega) rfl ((up2_f _ _ _ _ (by decide)).trans (hagc 1 i rfl)) dX1_advance_81 ?_
        refine lv_goto (tgt := 100) hx hb dX1_advance_84 (by decide) ?_
        refine w_putD Z hW hS kX6 rfl 11 (by decide) (by decide) q389 rfl (show (i : Nat) < n by omega) rfl rfl dX1_advance_100 (fun H locs hW hS => ?_)
        refine lv_iinc1 (lv' := [(3, .int (nI (i + 1))), (4, .ref (ad 2 i)), (0, .ref (ad 0 0)), (1, .double (dt))]) hx hb dX1_advance_103 hl (k := 1) rfl (by decide) rfl (fun ls hl => ?_)
        refine lv_goto (tgt := 19) hx hb dX1_advance_106 (by decide) ?_
        exact ih _ _ _ ⟨lv_sub hl [0, 2, 3] rfl, tg_s2 (k := i) (D := D2) (G := nxt dt I E2) (a := 32) (b := 33) (x := E2 0 i) (y := E2 1 i) (by decide) (if_neg c2).symm (if_neg c8).symm ▸ hW, hS⟩
  · intro H locs ls hP
    obtain ⟨hl, hW, hS⟩ := hP
    refine lv_iload_n hx hb dX1_advance_19 rfl (lv_at hl 0 rfl) ?_
    refine lv_aload_n hx hb dX1_advance_20 rfl (lv_at hl 1 rfl) ?_
    refine g_I (x := nI n) Z hW kX1 rfl 8 (by decide) q149 (show (0 : Nat) < 1 by decide) rfl ((hI1 20 0 rfl).trans hn) dX1_advance_21 ?_
    refine lv_nge (tgt := 109) hx hb (by omega) (by omega) dX1_advance_24 (by decide) (fun c => ?_) (fun c => absurd c (by omega))
    refine lv_aload_n hx hb dX1_advance_109 rfl (lv_at hl 1 rfl) ?_
    have hag3c : agD (tg n (s2 32 33) (nxt dt I E2) D2) E2 := hag2.M (tg_exc.mono s3233)
    have h37c : ∀ i, tg n (s2 32 33) (nxt dt I E2) D2 37 i = D 37 i := fun i => (tg_out rfl).trans (h372 i)
    have h43c : tg n (s2 32 33) (nxt dt I E2) D2 43 0 = D 43 0 := (tg_out rfl).trans h432
    have hTn : agN n (tg n (s2 32 33) (nxt dt I E2) D2) (nxt dt I E2) := fun i hi => ⟨tg_in rfl hi, tg_in rfl hi⟩
    generalize tg n (s2 32 33) (nxt dt I E2) D2 = D2c at hW hag3c h37c h43c hTn
    refine wx_x (wx_V (As := []) (rest := []) hAt.fix (m_X1_straightenAll l hfl A Dg dA ad n nb nr no J R1 D2c I1 E2 hag3c hE2 (((hI1 22 0 rfl).trans hnr)) ((nxt dt I E2)) hTn ((nxt_BT hE2 hu2 hdt))) q645 q647 qs17 q648 wn_X1_straightenAll ⟨Nat.le_of_ble_eq_true rfl, Nat.le_of_ble_eq_true rfl, Nat.le_of_ble_eq_true rfl, Nat.le_of_ble_eq_true rfl⟩ (w_recv hK hW kX1 rfl (show (0 : Nat) < 1 by decide)) (Px.of hK hst hA hS hW) hl.1 (Nat.le_of_ble_eq_true rfl) dX1_advance_110) hS (fun r H locs hW hz hS => ?_) (fun x C H locs hp hE hz hS => ?_)
    rotate_left
    · rw [hQ]
      obtain ⟨⟨hrd, rfl⟩, D3, hex3, hW⟩ := hp
      rw [rds_cg hS1] at hrd
      rw [advB_n hrd] at ea
      refine rT_x hlk htab rfl hS hE ⟨⟨by rw [ea]; exact Nat.succ_ne_zero _, rfl⟩, D3, I1, R1, ?_, ?_, ?_, hI1, fun i => (hex3 37 i rfl).trans (h37c i), (hex3 43 0 rfl).trans h43c⟩
      · rw [ea]; exact hW
      · rw [ea]; exact (hag3c.M hex3).U
      · rw [ea]; exact hls1
    obtain ⟨q, T1, hrd, hq40, rfl, hBT1, D2d, hex3, hT1, hW⟩ := hW
    rw [rds_cg hS1] at hrd
    rw [advB_s hrd] at ea
    have hag2d := hag3c.M hex3
    have h37d : ∀ i, D2d 37 i = D 37 i := fun i => (hex3 37 i rfl).trans (h37c i)
    have h43d : D2d 43 0 = D 43 0 := (hex3 43 0 rfl).trans h43c
    refine lv_istore_n (lv' := [(3, .int (nI q)), (0, .ref (ad 0 0)), (1, .double (dt))]) hx hb dX1_advance_113 rfl hl (by decide) rfl (fun ls hl => ?_)
    refine lv_iconst (v := nI 0) hx hb dX1_advance_114 rfl ?_
    refine lv_istore (lv' := [(4, .int (nI 0)), (3, .int (nI q)), (0, .ref (ad 0 0)), (1, .double (dt))]) hx hb dX1_advance_115 hl (by decide) rfl (fun ls hl => ?_)
    refine wl_up n 0 (fun i H locs ls => lv_has ls 6 [(4, .int (nI i)), (3, .int (nI q)), (0, .ref (ad 0 0)), (1, .double (dt))] ∧ cW A Dg dA ad n nb nr no J R1 ((tg i (s2 2 3) (velG dt nr I E2 T1) D2d)) I1 H ∧ va_S A s.heap H locs) (Nat.zero_le _) ⟨lv_sub hl [0, 1, 2, 3] rfl, by rw [tg_0]; exact hW, hS⟩ ?_ ?_
    · intro i H locs ls hi hP ih
      obtain ⟨hl, hW, hS⟩ := hP
      have hr0 : (tg i (s2 2 3) (velG dt nr I E2 T1) D2d) 0 i = E2 0 i := (tg_out rfl).trans (hag2d 0 i rfl)
      have hr1 : (tg i (s2 2 3) (velG dt nr I E2 T1) D2d) 1 i = E2 1 i := (tg_out rfl).trans (hag2d 1 i rfl)
      have hr32 : (tg i (s2 2 3) (velG dt nr I E2 T1) D2d) 32 i = T1 32 i := (tg_out rfl).trans ((hT1 i hi).1)
      have hr33 : (tg i (s2 2 3) (velG dt nr I E2 T1) D2d) 33 i = T1 33 i := (tg_out rfl).trans ((hT1 i hi).2)
      refine lv_iload hx hb dX1_advance_117 (lv_at hl 0 rfl) ?_
      refine lv_aload_n hx hb dX1_advance_119 rfl (lv_at hl 2 rfl) ?_
      refine g_I (x := nI n) Z hW kX1 rfl 8 (by decide) q149 (show (0 : Nat) < 1 by decide) rfl ((hI1 20 0 rfl).trans hn) dX1_advance_120 ?_
      refine lv_nge (tgt := 192) hx hb (by omega) (by omega) dX1_advance_123 (by decide) (fun c => absurd c (by omega)) (fun c => ?_)
      refine lv_aload_n hx hb dX1_advance_126 rfl (lv_at hl 2 rfl) ?_
      refine w_getR (v := .ref (ad 11 0)) Z hW kX1 rfl 5 (by decide) q146 (show (0 : Nat) < 1 by decide) rfl rfl dX1_advance_127 ?_
      refine lv_iload hx hb dX1_advance_130 (lv_at hl 0 rfl) ?_
      refine a_R (j := i) (v := .ref (ad 2 i)) (ix := i) Z hW rfl (show (0 : Nat) < 1 by decide) (by omega) (by decide) rfl rfl rfl rfl (cR_atom (show (i : Nat) < n by omega)) dX1_advance_132 ?_
      refine lv_astore (lv' := [(5, .ref (ad 2 i)), (4, .int (nI i)), (3, .int (nI q)), (0, .ref (ad 0 0)), (1, .double (dt))]) hx hb dX1_advance_133 hl (by decide) rfl (fun ls hl => ?_)
      refine lv_aload_n hx hb dX1_advance_135 rfl (lv_at hl 3 rfl) ?_
      refine g_I (x := nI nr) Z hW kX1 rfl 10 (by decide) q151 (show (0 : Nat) < 1 by decide) rfl ((hI1 22 0 rfl).trans hnr) dX1_advance_136 ?_
      refine lv_if_le (tgt := 186) hx hb dX1_advance_139 (by decide) (fun c11 => ?_) (fun c11 => ?_)
      · refine lv_iinc1 (lv' := [(4, .int (nI (i + 1))), (5, .ref (ad 2 i)), (3, .int (nI q)), (0, .ref (ad 0 0)), (1, .double (dt))]) hx hb dX1_advance_186 hl (k := 1) rfl (by decide) rfl (fun ls hl => ?_)
        refine lv_goto (tgt := 117) hx hb dX1_advance_189 (by decide) ?_
        have e : tg (i + 1) (s2 2 3) (velG dt nr I E2 T1) D2d = _ := tg_same (fun f hf => by
          rcases s2_or hf with rfl | rfl
          · exact (hag2d 2 i rfl).trans (if_neg (fun q => nI_le0 (by omega) c11 q.1)).symm
          · exact (hag2d 3 i rfl).trans (if_neg (fun q => nI_le0 (by omega) c11 q.1)).symm)
        exact ih _ _ _ ⟨lv_sub hl [0, 2, 3, 4] rfl, e.symm ▸ hW, hS⟩
      · refine lv_aload hx hb dX1_advance_142 (lv_at hl 0 rfl) ?_
        refine g_I (x := I 1 i) Z hW kX6 rfl 9 (by decide) q387 (show (i : Nat) < n by omega) rfl (hI1 1 i rfl) dX1_advance_144 ?_
        refine lv_if_ne (tgt := 186) hx hb dX1_advance_147 (by decide) (fun c12 => ?_) (fun c12 => ?_)
        · refine lv_iinc1 (lv' := [(4, .int (nI (i + 1))), (5, .ref (ad 2 i)), (3, .int (nI q)), (0, .ref (ad 0 0)), (1, .double (dt))]) hx hb dX1_advance_186 hl (k := 1) rfl (by decide) rfl (fun ls hl => ?_)
          refine lv_goto (tgt := 117) hx hb dX1_advance_189 (by decide) ?_
          have e : tg (i + 1) (s2 2 3) (velG dt nr I E2 T1) D2d = _ := tg_same (fun f hf => by
            rcases s2_or hf with rfl | rfl
            · exact (hag2d 2 i rfl).trans (if_neg (fun q => c12 q.2)).symm
            · exact (hag2d 3 i rfl).trans (if_neg (fun q => c12 q.2)).symm)
          exact ih _ _ _ ⟨lv_sub hl [0, 2, 3, 4] rfl, e.symm ▸ hW, hS⟩
        · refine lv_aload hx hb dX1_advance_150 (lv_at hl 0 rfl) ?_
          refine lv_aload hx hb dX1_advance_152 (lv_at hl 0 rfl) ?_
          refine g_D (x := T1 32 i) Z hW kX6 rfl 10 (by decide) q388 (show (i : Nat) < n by omega) rfl hr32 dX1_advance_154 ?_
          refine lv_aload hx hb dX1_advance_157 (lv_at hl 0 rfl) ?_
          refine g_D (x := E2 0 i) Z hW kX6 rfl 3 (by decide) q375 (show (i : Nat) < n by omega) rfl hr0 dX1_advance_159 ?_
          have f13 : fb (49) (FP.dsub (T1 32 i) (E2 0 i)) := fb.sub ((hBT1 i hi).1.bnd (by decide)) (hE2.x hi) (by decide)
          refine lv_dsub hx hb dX1_advance_162 f13.n64 ?_
          refine lv_dload_n hx hb dX1_advance_163 rfl (lv_at hl 4 rfl) ?_
          have f14 : fb (59) (FP.ddiv (FP.dsub (T1 32 i) (E2 0 i)) dt) := fb.div f13 hdt.2 (by decide)
          refine lv_ddiv hx hb dX1_advance_164 f14.n64 ?_
          refine w_putD Z hW hS kX6 rfl 5 (by decide) (by decide) q379 rfl (show (i : Nat) < n by omega) rfl rfl dX1_advance_165 (fun H locs hW hS => ?_)
          refine lv_aload hx hb dX1_advance_168 (lv_at hl 0 rfl) ?_
          refine lv_aload hx hb dX1_advance_170 (lv_at hl 0 rfl) ?_
          refine g_D (x := T1 33 i) Z hW kX6 rfl 11 (by decide) q389 (show (i : Nat) < n by omega) rfl ((up2_f _ _ _ _ (by decide)).trans hr33) dX1_advance_172 ?_
          refine lv_aload hx hb dX1_advance_175 (lv_at hl 0 rfl) ?_
          refine g_D (x := E2 1 i) Z hW kX6 rfl 4 (by decide) q377 (show (i : Nat) < n by omega) rfl ((up2_f _ _ _ _ (by decide)).trans hr1) dX1_advance_177 ?_
          have f15 : fb (49) (FP.dsub (T1 33 i) (E2 1 i)) := fb.sub ((hBT1 i hi).2.bnd (by decide)) (hE2.y hi) (by decide)
          refine lv_dsub hx hb dX1_advance_180 f15.n64 ?_
          refine lv_dload_n hx hb dX1_advance_181 rfl (lv_at hl 4 rfl) ?_
          have f16 : fb (59) (FP.ddiv (FP.dsub (T1 33 i) (E2 1 i)) dt) := fb.div f15 hdt.2 (by decide)
          refine lv_ddiv hx hb dX1_advance_182 f16.n64 ?_
          refine w_putD Z hW hS kX6 rfl 6 (by decide) (by decide) q381 rfl (show (i : Nat) < n by omega) rfl rfl dX1_advance_183 (fun H locs hW hS => ?_)
          refine lv_iinc1 (lv' := [(4, .int (nI (i + 1))), (5, .ref (ad 2 i)), (3, .int (nI q)), (0, .ref (ad 0 0)), (1, .double (dt))]) hx hb dX1_advance_186 hl (k := 1) rfl (by decide) rfl (fun ls hl => ?_)
          refine lv_goto (tgt := 117) hx hb dX1_advance_189 (by decide) ?_
          exact ih _ _ _ ⟨lv_sub hl [0, 2, 3, 4] rfl, tg_s2 (k := i) (D := D2d) (G := velG dt nr I E2 T1) (a := 2) (b := 3) (x := FP.ddiv (FP.dsub (T1 32 i) (E2 0 i)) dt) (y := FP.ddiv (FP.dsub (T1 33 i) (E2 1 i)) dt) (by decide) (if_pos ⟨nI_pos1 (by omega) c11, c12⟩).symm (if_pos ⟨nI_pos1 (by omega) c11, c12⟩).symm ▸ hW, hS⟩
    · intro H locs ls hP
      obtain ⟨hl, hW, hS⟩ := hP
      have hag3 : agD (tg n (s2 2 3) (velG dt nr I E2 T1) D2d) (vel dt n nr I E2 T1) := hag2d.tg (fun _ _ _ _ _ => rfl)
      have h373 : ∀ i, (tg n (s2 2 3) (velG dt nr I E2 T1) D2d) 37 i = D 37 i := fun i => (tg_out rfl).trans (h37d i)
      have h433 : (tg n (s2 2 3) (velG dt nr I E2 T1) D2d) 43 0 = D 43 0 := (tg_out rfl).trans h43d
      have hT3 : agN n (tg n (s2 2 3) (velG dt nr I E2 T1) D2d) T1 := fun i hi => ⟨(tg_out rfl).trans (hT1 i hi).1, (tg_out rfl).trans (hT1 i hi).2⟩
      have hE3 : Bd n nb nr J (vel dt n nr I E2 T1) := hE2.vl
      have hv3 : Bu 59 n (vel dt n nr I E2 T1) := Bu.vl hE2 hu2 hdt hBT1
      have hx3 : exc (s2 2 3) (vel dt n nr I E2 T1) E2 := tg_exc
      generalize (tg n (s2 2 3) (velG dt nr I E2 T1) D2d) = D3 at hW hag3 h373 h433 hT3
      refine lv_iload hx hb dX1_advance_117 (lv_at hl 0 rfl) ?_
      refine lv_aload_n hx hb dX1_advance_119 rfl (lv_at hl 2 rfl) ?_
      refine g_I (x := nI n) Z hW kX1 rfl 8 (by decide) q149 (show (0 : Nat) < 1 by decide) rfl ((hI1 20 0 rfl).trans hn) dX1_advance_120 ?_
      refine lv_nge (tgt := 192) hx hb (by omega) (by omega) dX1_advance_123 (by decide) (fun c => ?_) (fun c => absurd c (by omega))
      refine lv_aload_n hx hb dX1_advance_192 rfl (lv_at hl 2 rfl) ?_
      refine wx_x (wx_V (As := []) (rest := []) hAt.fix (m_X1_checkSpeeds l hfl A Dg dA ad n nb nr no J R1 D3 I1 (((hI1 20 0 rfl).trans hn)) hn10) q635 q637 qs16 q638 wn_X1_checkSpeeds ⟨Nat.le_of_ble_eq_true rfl, Nat.le_of_ble_eq_true rfl, Nat.le_of_ble_eq_true rfl, Nat.le_of_ble_eq_true rfl⟩ (w_recv hK hW kX1 rfl (show (0 : Nat) < 1 by decide)) (Px.of hK hst hA hS hW) hl.1 (Nat.le_of_ble_eq_true rfl) dX1_advance_193) hS (fun r H locs hW hz hS => ?_) (fun x C H locs hp hE hz hS => ?_)
      rotate_left
      · rw [hQ]
        obtain ⟨⟨hfa, rfl⟩, hW⟩ := hp
        have hft : fastB (vel dt n nr I E2 T1) n = true := by rw [← fastB_ag hag3]; exact fastB_t.mpr hfa
        rw [advC_t hft] at ea
        refine rT_x hlk htab rfl hS hE ⟨⟨by rw [ea]; exact Nat.succ_ne_zero _, rfl⟩, D3, I1, R1, ?_, ?_, ?_, hI1, h373, h433⟩
        · rw [ea]; exact hW
        · rw [ea]; exact hag3.U.to ((hx3.mono s23_4).symm)
        · rw [ea]; exact hls1
      obtain ⟨hnf, hW⟩ := hW
      have hff : fastB (vel dt n nr I E2 T1) n = false := by rw [← fastB_ag hag3]; exact fastB_f.mpr hnf
      rw [advC_f hff] at ea
      have hu3 : Bu 20 n (vel dt n nr I E2 T1) := hv3.slow hff
      generalize hE3e : vel dt n nr I E2 T1 = E3 at hag3 hE3 hu3 hx3 ea
      refine lv_iconst (v := nI 0) hx hb dX1_advance_196 rfl ?_
      refine lv_istore (lv' := [(4, .int (nI 0)), (3, .int (nI q)), (0, .ref (ad 0 0)), (1, .double (dt))]) hx hb dX1_advance_197 hl (by decide) rfl (fun ls hl => ?_)
      refine wl_up n 0 (fun i H locs ls => lv_has ls 6 [(4, .int (nI i)), (3, .int (nI q)), (0, .ref (ad 0 0)), (1, .double (dt))] ∧ cW A Dg dA ad n nb nr no J R1 ((tg i (s2 0 1) (movG E3 T1) D3)) I1 H ∧ va_S A s.heap H locs) (Nat.zero_le _) ⟨lv_sub hl [0, 1, 2, 3] rfl, by rw [tg_0]; exact hW, hS⟩ ?_ ?_
      · intro i H locs ls hi hP ih
        obtain ⟨hl, hW, hS⟩ := hP
        have hr32 : (tg i (s2 0 1) (movG E3 T1) D3) 32 i = T1 32 i := (tg_out rfl).trans ((hT3 i hi).1)
        have hr33 : (tg i (s2 0 1) (movG E3 T1) D3) 33 i = T1 33 i := (tg_out rfl).trans ((hT3 i hi).2)
        have hr20 : (tg i (s2 0 1) (movG E3 T1) D3) 20 0 = E3 20 0 := (tg_out rfl).trans (hag3 20 0 rfl)
        refine lv_iload hx hb dX1_advance_199 (lv_at hl 0 rfl) ?_
        refine lv_aload_n hx hb dX1_advance_201 rfl (lv_at hl 2 rfl) ?_
        refine g_I (x := nI n) Z hW kX1 rfl 8 (by decide) q149 (show (0 : Nat) < 1 by decide) rfl ((hI1 20 0 rfl).trans hn) dX1_advance_202 ?_
        refine lv_nge (tgt := 262) hx hb (by omega) (by omega) dX1_advance_205 (by decide) (fun c => absurd c (by omega)) (fun c => ?_)
        refine lv_aload_n hx hb dX1_advance_208 rfl (lv_at hl 2 rfl) ?_
        refine w_getR (v := .ref (ad 11 0)) Z hW kX1 rfl 5 (by decide) q146 (show (0 : Nat) < 1 by decide) rfl rfl dX1_advance_209 ?_
        refine lv_iload hx hb dX1_advance_212 (lv_at hl 0 rfl) ?_
        refine a_R (j := i) (v := .ref (ad 2 i)) (ix := i) Z hW rfl (show (0 : Nat) < 1 by decide) (by omega) (by decide) rfl rfl rfl rfl (cR_atom (show (i : Nat) < n by omega)) dX1_advance_214 ?_
        refine lv_aload_n hx hb dX1_advance_215 rfl (lv_at hl 2 rfl) ?_
        refine lv_aload_n hx hb dX1_advance_216 rfl (lv_at hl 2 rfl) ?_
        refine w_getR (v := .ref (ad 11 0)) Z hW kX1 rfl 5 (by decide) q146 (show (0 : Nat) < 1 by decide) rfl rfl dX1_advance_217 ?_
        refine lv_iload hx hb dX1_advance_220 (lv_at hl 0 rfl) ?_
        refine a_R (j := i) (v := .ref (ad 2 i)) (ix := i) Z hW rfl (show (0 : Nat) < 1 by decide) (by omega) (by decide) rfl rfl rfl rfl (cR_atom (show (i : Nat) < n by omega)) dX1_advance_222 ?_
        refine g_D (x := T1 32 i) Z hW kX6 rfl 10 (by decide) q388 (show (i : Nat) < n by omega) rfl hr32 dX1_advance_223 ?_
        refine wx_r (wx_V (As := [.double (T1 32 i)]) (rest := [.ref (ad 2 i)]) hAt.fix (m_X1_wrapped l A Dg dA ad n nb nr no J R1 ((tg i (s2 0 1) (movG E3 T1) D3)) I1 (E3 20 0) (T1 32 i) hr20 hE3.side (((hBT1 i hi).1.bnd (by decide)))) q421 q423 qs4 q424 wn_X1_wrapped ⟨Nat.le_of_ble_eq_true rfl, Nat.le_of_ble_eq_true rfl, Nat.le_of_ble_eq_true rfl, Nat.le_of_ble_eq_true rfl⟩ (w_recv hK hW kX1 rfl (show (0 : Nat) < 1 by decide)) (Pw.of hK hW) hl.1 (Nat.le_of_ble_eq_true rfl) dX1_advance_226) (fun r hr => ?_)
        subst hr
        refine w_putD Z hW hS kX6 rfl 3 (by decide) (by decide) q375 rfl (show (i : Nat) < n by omega) rfl rfl dX1_advance_229 (fun H locs hW hS => ?_)
        refine lv_aload_n hx hb dX1_advance_232 rfl (lv_at hl 2 rfl) ?_
        refine w_getR (v := .ref (ad 11 0)) Z hW kX1 rfl 5 (by decide) q146 (show (0 : Nat) < 1 by decide) rfl rfl dX1_advance_233 ?_
        refine lv_iload hx hb dX1_advance_236 (lv_at hl 0 rfl) ?_
        refine a_R (j := i) (v := .ref (ad 2 i)) (ix := i) Z hW rfl (show (0 : Nat) < 1 by decide) (by omega) (by decide) rfl rfl rfl rfl (cR_atom (show (i : Nat) < n by omega)) dX1_advance_238 ?_
        refine lv_aload_n hx hb dX1_advance_239 rfl (lv_at hl 2 rfl) ?_
        refine lv_aload_n hx hb dX1_advance_240 rfl (lv_at hl 2 rfl) ?_
        refine w_getR (v := .ref (ad 11 0)) Z hW kX1 rfl 5 (by decide) q146 (show (0 : Nat) < 1 by decide) rfl rfl dX1_advance_241 ?_
        refine lv_iload hx hb dX1_advance_244 (lv_at hl 0 rfl) ?_
        refine a_R (j := i) (v := .ref (ad 2 i)) (ix := i) Z hW rfl (show (0 : Nat) < 1 by decide) (by omega) (by decide) rfl rfl rfl rfl (cR_atom (show (i : Nat) < n by omega)) dX1_advance_246 ?_
        refine g_D (x := T1 33 i) Z hW kX6 rfl 11 (by decide) q389 (show (i : Nat) < n by omega) rfl ((up2_f _ _ _ _ (by decide)).trans hr33) dX1_advance_247 ?_
        refine wx_r (wx_V (As := [.double (T1 33 i)]) (rest := [.ref (ad 2 i)]) hAt.fix (m_X1_wrapped l A Dg dA ad n nb nr no J R1 ((up2 (tg i (s2 0 1) (movG E3 T1) D3) 0 i (sWrap (E3 20 0) (T1 32 i)))) I1 (E3 20 0) (T1 33 i) (((up2_f _ _ _ _ (by decide)).trans hr20)) hE3.side (((hBT1 i hi).2.bnd (by decide)))) q421 q423 qs4 q424 wn_X1_wrapped ⟨Nat.le_of_ble_eq_true rfl, Nat.le_of_ble_eq_true rfl, Nat.le_of_ble_eq_true rfl, Nat.le_of_ble_eq_true rfl⟩ (w_recv hK hW kX1 rfl (show (0 : Nat) < 1 by decide)) (Pw.of hK hW) hl.1 (Nat.le_of_ble_eq_true rfl) dX1_advance_250) (fun r hr => ?_)
        subst hr
        refine w_putD Z hW hS kX6 rfl 4 (by decide) (by decide) q377 rfl (show (i : Nat) < n by omega) rfl rfl dX1_advance_253 (fun H locs hW hS => ?_)
        refine lv_iinc1 (lv' := [(4, .int (nI (i + 1))), (3, .int (nI q)), (0, .ref (ad 0 0)), (1, .double (dt))]) hx hb dX1_advance_256 hl (k := 0) rfl (by decide) rfl (fun ls hl => ?_)
        refine lv_goto (tgt := 199) hx hb dX1_advance_259 (by decide) ?_
        exact ih _ _ _ ⟨lv_sub hl [0, 1, 2, 3] rfl, tg_s2 (k := i) (D := D3) (G := movG E3 T1) (a := 0) (b := 1) (x := sWrap (E3 20 0) (T1 32 i)) (y := sWrap (E3 20 0) (T1 33 i)) (by decide) movG_0.symm movG_1.symm ▸ hW, hS⟩
      · intro H locs ls hP
        obtain ⟨hl, hW, hS⟩ := hP
        have hag4 : agD (tg n (s2 0 1) (movG E3 T1) D3) (mov n E3 T1) := hag3.tg (fun _ _ _ _ _ => rfl)
        have h374 : ∀ i, (tg n (s2 0 1) (movG E3 T1) D3) 37 i = D 37 i := fun i => (tg_out rfl).trans (h373 i)
        have h434 : (tg n (s2 0 1) (movG E3 T1) D3) 43 0 = D 43 0 := (tg_out rfl).trans h433
        have hE4 : Bd n nb nr J (mov n E3 T1) := hE3.mv hBT1 (by decide)
        have hx4 : exc (s4 0 1 2 3) (mov n E3 T1) E3 := tg_exc.mono s01_4
        have hu4 : Bu 20 n (mov n E3 T1) := hu3.cg (S := s2 0 1) tg_exc rfl rfl
        have hNL4 : NL (mov n E3 T1) I1 n := hNL1.cg ((hx4.mono sL_4).trans (((hx3.mono s23_4).mono sL_4).trans ((hx2.mono s23_4).mono sL_4))) exc.rf
        generalize mov n E3 T1 = E4 at hag4 hE4 hu4 hx4 hNL4 ea
        generalize (tg n (s2 0 1) (movG E3 T1) D3) = D4 at hW hag4 h374 h434
        refine lv_iload hx hb dX1_advance_199 (lv_at hl 0 rfl) ?_
        refine lv_aload_n hx hb dX1_advance_201 rfl (lv_at hl 2 rfl) ?_
        refine g_I (x := nI n) Z hW kX1 rfl 8 (by decide) q149 (show (0 : Nat) < 1 by decide) rfl ((hI1 20 0 rfl).trans hn) dX1_advance_202 ?_
        refine lv_nge (tgt := 262) hx hb (by omega) (by omega) dX1_advance_205 (by decide) (fun c => ?_) (fun c => absurd c (by omega))
        refine lv_aload_n hx hb dX1_advance_262 rfl (lv_at hl 2 rfl) ?_
        refine wx_x (wx_V (As := []) (rest := []) hAt.fix (m_X1_forces l hfl A Dg dA ad n nb nr no J R1 D4 I1 E4 hag4 hE4 (((hI1 20 0 rfl).trans hn)) (((hI1 21 0 rfl).trans hnb)) ((nI 1)) hli1 ((fun _ => hNL4))) q566 q568 qs7 q569 wn_X1_forces ⟨Nat.le_of_ble_eq_true rfl, Nat.le_of_ble_eq_true rfl, Nat.le_of_ble_eq_true rfl, Nat.le_of_ble_eq_true rfl⟩ (w_recv hK hW kX1 rfl (show (0 : Nat) < 1 by decide)) (Px.of hK hst hA hS hW) hl.1 (Nat.le_of_ble_eq_true rfl) dX1_advance_263) hS (fun r H locs hW hz hS => ?_) (fun x C H locs hp hE hz hS => ?_)
        rotate_left
        · rw [hQ]
          obtain ⟨⟨hov, rfl⟩, D6, I6, R6, hW, hL⟩ := hp
          rw [advD_t ((list_ovl hE4).mp hov)] at ea
          refine rT_x hlk htab rfl hS hE ⟨⟨by rw [ea]; exact Nat.succ_ne_zero _, rfl⟩, D6, I6, R6, ?_, ?_, ?_, hL.int.trans hI1, fun i => (hL.far rfl (by decide) (by decide)).trans (h374 i), (hL.far rfl (by decide) (by decide)).trans h434⟩
          · rw [ea]; exact hW
          · rw [ea]; exact (hL.ag hag4).U
          · rw [ea, ← hls1]; exact hL.ls
        obtain ⟨D6, I6, R6, hW, hL, hall⟩ := hW
        have hov4 : ovl E4 n = false := by
          cases ho : ovl E4 n with
          | false => rfl
          | true =>
            obtain ⟨a, ha, k, hk, hq⟩ := (list_ovl hE4 (li := nI 1)).mpr ho
            exact absurd hq ((hall a ha).1 k hk)
        rw [advD_f hov4] at ea
        have hag6 := hL.ag hag4
        have hI6 : exc sI I6 I := hL.int.trans hI1
        have hS6 : sameS I6 I := fun j => hI6 1 j rfl
        have hNL6 := hL.nl (fun _ => hNL4)
        have hli6 := hL.li hli1 (Or.inr rfl)
        have hls6 := hL.ls
        rw [hls1] at hls6
        have h376 : ∀ i, D6 37 i = D 37 i := fun i => (hL.far rfl (by decide) (by decide)).trans (h374 i)
        have h436 : D6 43 0 = D 43 0 := (hL.far rfl (by decide) (by decide)).trans h434
        have hF6 : ∀ a, a < n → D6 30 a = (FX (lsC E4 (nI 1) n) J n nb a).1 ∧ D6 31 a = (FX (lsC E4 (nI 1) n) J n nb a).2 := fun a ha => by rw [FX_cg lsC_exL, ← list_force hE4 (li := nI 1) ha]; exact ⟨(hall a ha).2.1, (hall a ha).2.2⟩
        have hE6 : Bd n nb nr J (lsC E4 (nI 1) n) := hE4.lc
        have hu6 : Bu 20 n (lsC E4 (nI 1) n) := hu4.cg (lsC_exL (li := nI 1) (n := n)) rfl rfl
        have hov6 : ovl (lsC E4 (nI 1) n) n = false := by rw [ovl_cg lsC_exL]; exact hov4
        generalize lsC E4 (nI 1) n = E6 at hag6 hNL6 hF6 hE6 hu6 hov6 ea
        refine lv_aload_n hx hb dX1_advance_266 rfl (lv_at hl 2 rfl) ?_
        refine lv_ldc2d (v := 4602678819172646912) hx hb hown (hts _ (lw_car_all q69)) dX1_advance_267 ?_
        refine lv_dload_n hx hb dX1_advance_270 rfl (lv_at hl 3 rfl) ?_
        refine lv_dmul hx hb dX1_advance_271 f1.n64 ?_
        refine wx_wv (wx_V (As := [.double (FP.dmul 4602678819172646912 dt)]) (rest := []) hAt.fix (m_X1_pushAll l A Dg dA ad n nb nr no J R6 D6 I6 ((hE6.cg hag6)) (((hI6 20 0 rfl).trans hn)) ((FP.dmul 4602678819172646912 dt)) ((dt_half hdt)) ((hu6.ag hag6)) ((fun i hi => by rw [(hF6 i hi).1, (hF6 i hi).2]; exact FX_fb hE6 hi hov6))) q627 q629 qs15 q630 wn_X1_pushAll ⟨Nat.le_of_ble_eq_true rfl, Nat.le_of_ble_eq_true rfl, Nat.le_of_ble_eq_true rfl, Nat.le_of_ble_eq_true rfl⟩ (w_recv hK hW kX1 rfl (show (0 : Nat) < 1 by decide)) (Pw.of hK hW) hl.1 (Nat.le_of_ble_eq_true rfl) dX1_advance_272) hS (fun H locs hW hz hS => ?_)
        have hag7 : agD _ (pshC (FP.dmul 4602678819172646912 dt) n nb J I E6) := psh_ag (half := (FP.dmul 4602678819172646912 dt)) hag6 hS6 hF6
        have h377 : ∀ i, psD (FP.dmul 4602678819172646912 dt) n D6 I6 37 i = D 37 i := fun i => (tg_out rfl).trans (h376 i)
        have h437 : psD (FP.dmul 4602678819172646912 dt) n D6 I6 43 0 = D 43 0 := (tg_out rfl).trans h436
        have hE7 : Bd n nb nr J (pshC (FP.dmul 4602678819172646912 dt) n nb J I E6) := hE6.psh
        have hv7 : Bu 164 n (pshC (FP.dmul 4602678819172646912 dt) n nb J I E6) := Bu.psh hE6 hu6 (dt_half hdt) hov6
        have hx7 : exc (s2 2 3) (pshC (FP.dmul 4602678819172646912 dt) n nb J I E6) E6 := tg_exc
        generalize psD (FP.dmul 4602678819172646912 dt) n D6 I6 = D7 at hW hag7 h377 h437
        refine lv_aload_n hx hb dX1_advance_275 rfl (lv_at hl 2 rfl) ?_
        refine wx_x (wx_V (As := []) (rest := []) hAt.fix (m_X1_checkSpeeds l hfl A Dg dA ad n nb nr no J R6 D7 I6 (((hI6 20 0 rfl).trans hn)) hn10) q635 q637 qs16 q638 wn_X1_checkSpeeds ⟨Nat.le_of_ble_eq_true rfl, Nat.le_of_ble_eq_true rfl, Nat.le_of_ble_eq_true rfl, Nat.le_of_ble_eq_true rfl⟩ (w_recv hK hW kX1 rfl (show (0 : Nat) < 1 by decide)) (Px.of hK hst hA hS hW) hl.1 (Nat.le_of_ble_eq_true rfl) dX1_advance_276) hS (fun r H locs hW hz hS => ?_) (fun x C H locs hp hE hz hS => ?_)
        rotate_left
        · rw [hQ]
          obtain ⟨⟨hfa, rfl⟩, hW⟩ := hp
          have hft : fastB (pshC (FP.dmul 4602678819172646912 dt) n nb J I E6) n = true := by rw [← fastB_ag hag7]; exact fastB_t.mpr hfa
          rw [advE_t hft] at ea
          refine rT_x hlk htab rfl hS hE ⟨⟨by rw [ea]; exact Nat.succ_ne_zero _, rfl⟩, D7, I6, R6, ?_, ?_, ?_, hI6, h377, h437⟩
          · rw [ea]; exact hW
          · rw [ea]; exact hag7.U.to ((hx7.mono s23_4).symm)
          · rw [ea]; exact hls6
        obtain ⟨hnf, hW⟩ := hW
        have hff : fastB (pshC (FP.dmul 4602678819172646912 dt) n nb J I E6) n = false := by rw [← fastB_ag hag7]; exact fastB_f.mpr hnf
        rw [advE_f hff] at ea
        have hu7 : Bu 20 n (pshC (FP.dmul 4602678819172646912 dt) n nb J I E6) := hv7.slow hff
        generalize hE7e : pshC (FP.dmul 4602678819172646912 dt) n nb J I E6 = E7 at hag7 hE7 hu7 hx7 ea
        have hNL7 : NL E7 I6 n := hNL6.cg ((hx7.mono s23_4).mono sL_4) exc.rf
        refine lv_aload_n hx hb dX1_advance_279 rfl (lv_at hl 2 rfl) ?_
        refine g_D (x := wm) Z hW kX1 rfl 3 (by decide) q144 (show (0 : Nat) < 1 by decide) rfl (h437.trans hwm) dX1_advance_280 ?_
        refine lv_dconst0 hx hb dX1_advance_283 ?_
        refine lv_dl_lt (tgt := 296) hx hb dX1_advance_284 dX1_advance_285 (by decide) (fun c17 => ?_) (fun c17 => ?_)
        · refine lv_iload_n hx hb dX1_advance_296 rfl (lv_at hl 1 rfl) ?_
          rw [hQ]
          exact rX (rW_i hx hb hr hlk hS (⟨by rw [ea], by rw [ea], D7, I6, R6, hW, by rw [wrm_f c17, ea]; exact hag7, by rw [wrm_f c17, ea]; exact hNL7, hli6, by rw [ea]; exact hls6, hI6, h377, h437⟩) dX1_advance_297)
        · refine lv_aload_n hx hb dX1_advance_288 rfl (lv_at hl 2 rfl) ?_
          refine lv_aload_n hx hb dX1_advance_289 rfl (lv_at hl 2 rfl) ?_
          refine g_D (x := wm) Z hW kX1 rfl 3 (by decide) q144 (show (0 : Nat) < 1 by decide) rfl (h437.trans hwm) dX1_advance_290 ?_
          refine wx_wv (wx_V (As := [.double (wm)]) (rest := []) hAt.fix (m_X1_rescale l A Dg dA ad n nb nr no J R6 D7 I6 ((hE7.cg hag7)) ((hu7.ag hag7)) (((hI6 20 0 rfl).trans hn)) wm ((hwT c17))) q659 q661 qs19 q662 wn_X1_rescale ⟨Nat.le_of_ble_eq_true rfl, Nat.le_of_ble_eq_true rfl, Nat.le_of_ble_eq_true rfl, Nat.le_of_ble_eq_true rfl⟩ (w_recv hK hW kX1 rfl (show (0 : Nat) < 1 by decide)) (Pw.of hK hW) hl.1 (Nat.le_of_ble_eq_true rfl) dX1_advance_293) hS (fun H locs hW hz hS => ?_)
          refine lv_iload_n hx hb dX1_advance_296 rfl (lv_at hl 1 rfl) ?_
          rw [hQ]
          exact rX (rW_i hx hb hr hlk hS (⟨by rw [ea], by rw [ea], _, I6, R6, hW, by rw [wrm_t c17, ea]; exact rsc_ag hag7 hS6, by rw [wrm_t c17, ea]; exact hNL7.cg (((rsc_exc).mono s23_4).mono sL_4) exc.rf, hli6, by rw [ea]; exact hls6, hI6, fun i => (rsc_exc 37 i rfl).trans (h377 i), (rsc_exc 43 0 rfl).trans h437⟩) dX1_advance_297)
