set_option maxRecDepth 100000
/-! ===== the model: forces, the list, kick, blown ===== -/
theorem exS_ls {D1 D : T64} {n : Nat} (h : exc sS D1 D) : exc sS (lsT n D1) (lsT n D) := by
  intro f i hf
  by_cases h56 : s2 5 6 f = true
  · by_cases hi : i < n
    · have e1 : lsT n D1 f i = _ := tg_in h56 hi
      have e2 : lsT n D f i = _ := tg_in h56 hi
      rw [e1, e2]
      rcases s2_or h56 with rfl | rfl
      · exact h 0 i rfl
      · exact h 1 i rfl
    · have e1 : lsT n D1 f i = _ := tg_hi hi
      have e2 : lsT n D f i = _ := tg_hi hi
      rw [e1, e2]; exact h f i hf
  · have h56 : s2 5 6 f = false := by simpa using h56
    have e1 : lsT n D1 f i = _ := tg_out h56
    have e2 : lsT n D f i = _ := tg_out h56
    rw [e1, e2]; exact h f i hf
theorem oldB_00 {D : T64} {li : Int32} (h : ¬ li = 0) : oldB D li 0 = false := oldB_f.mpr ⟨h, fun i hi => absurd hi (Nat.not_lt_zero i)⟩
theorem oldB_01 {D : T64} {li : Int32} {n : Nat} (h : li = 0) : oldB D li n = true := oldB_t.mpr (Or.inl h)
theorem oldB_up {D : T64} {li : Int32} {i n : Nat} (hi : i ≤ n) (h : oldB D li i = true) : oldB D li i = true ∧ oldB D li n = true := by
  refine ⟨h, ?_⟩
  rcases oldB_t.mp h with q | ⟨j, hj, q⟩
  · exact oldB_t.mpr (Or.inl q)
  · exact oldB_t.mpr (Or.inr ⟨j, by omega, q⟩)
theorem oldB_no {D : T64} {li : Int32} {i : Nat} (h : oldB D li i = false) (hn : ¬ fgt (vR D i) (most D)) : oldB D li (i + 1) = false := by
  obtain ⟨h1, h2⟩ := oldB_f.mp h
  refine oldB_f.mpr ⟨h1, fun j hj => ?_⟩
  by_cases q : j = i
  · subst q; exact hn
  · exact h2 j (by omega)
theorem oldB_yes {D : T64} {li : Int32} {i : Nat} (hn : fgt (vR D i) (most D)) : oldB D li (i + 1) = true := oldB_t.mpr (Or.inr ⟨i, by omega, hn⟩)
theorem in_nfast {u v : UInt64} (h1 : inn u 13920209183539462144 4696837146684686336) (h2 : inn v 13920209183539462144 4696837146684686336) : ¬ fast u v := by
  have key : ∀ {x : UInt64}, inn x 13920209183539462144 4696837146684686336 → ¬ fgt x 4696837146684686336 ∧ ¬ flt x 13920209183539462144 := by
    intro x h
    refine ⟨fun q => ?_, fun q => ?_⟩
    · have := h.2; unfold fle at this; unfold fgt at q; rw [q] at this; rcases this with w | w <;> cases w
    · have := h.1; unfold fge at this; unfold flt at q; rw [q] at this; rcases this with w | w <;> cases w
  rintro (q | q | q | q)
  · exact (key h1).1 q
  · exact (key h1).2 q
  · exact (key h2).1 q
  · exact (key h2).2 q
theorem nin_fast {u v : UInt64} (hu : Fn u) (hv : Fn v) (h : ¬ inn u 13920209183539462144 4696837146684686336 ∨ ¬ inn v 13920209183539462144 4696837146684686336) : fast u v := by
  have key : ∀ {x : UInt64}, Fn x → ¬ inn x 13920209183539462144 4696837146684686336 → fgt x 4696837146684686336 ∨ flt x 13920209183539462144 := by
    intro x hx h
    by_cases h1 : fge x 13920209183539462144
    · left
      obtain ⟨c1, c2, c3, c4⟩ := cmp_val hx fc_4696837146684686336.1
      refine c3.mpr ?_
      by_cases q : rv 4696837146684686336 < rv x
      · exact q
      · exfalso
        refine h ⟨h1, ?_⟩
        unfold fle
        by_cases e : rv x = rv 4696837146684686336
        · exact Or.inr (c2.mpr e)
        · exact Or.inl (c1.mpr (by grind))
    · exact Or.inr (nlt_of h1 hx fc_13920209183539462144.1)
  unfold fast
  rcases h with h | h
  · rcases key hu h with q | q
    · exact Or.inl q
    · exact Or.inr (Or.inl q)
  · rcases key hv h with q | q
    · exact Or.inr (Or.inr (Or.inl q))
    · exact Or.inr (Or.inr (Or.inr q))
set_option maxHeartbeats 4000000 in
theorem m_X5_findForce (l : Launch) (A : Nat → Prop) (Dg : va_G) (dA : Nat → ClassId) (ad : Nat → Nat → Nat) (n : Nat) (nb : Nat) (nr : Nat) (J : Nat → Nat → Nat) (D : T64) (I : T32) (D0 : T64) (hag : agD D D0) (hB : Bd n nb nr J D0) (hM : mI n nb nr J I) (i : Nat) (hi : i < n) (ho : ovl D0 n = false) : MX l yX5_findForce cX5_findForce 11 none [] (rmx 6 0 0) [.ref (ad 30 0), .int (nI i)] (Pw Dg dA (mW A Dg dA ad D I)) (qW (fun _ : Unit => none) (fun _ H => ∃ D1, exc sS D1 (up2 (up2 D 30 i (FX D0 J n nb i).1) 31 i (FX D0 J n nb i).2) ∧ mW A Dg dA ad D1 I H) A) 0 0 A := by
  refine MX.start (Nat.le_of_ble_eq_true rfl) ?_
  intro p e s m args below meth c ls Q hAt hPc hl hQ
  have hl : lv_has ls 11 [(0, .ref (ad 30 0)), (1, .int (nI i))] := hl
  obtain ⟨hx, hb, hml, hr, hlk, hown, hnm, htab, hts⟩ := id hAt
  obtain ⟨hK, hW⟩ := hPc
  have Z := Cx.of hAt hK
  have hS : va_S A s.heap s.heap [] := va_S.rf
  have hn10 := hB.n10
  have hnb8 := hB.nb8
  have hno := ovl_all hB ho hi
  refine lv_aload_n hx hb dX5_findForce_0 rfl (lv_at hl 0 rfl) ?_
  refine w_getR (v := .ref (ad 56 0)) Z hW kX5 rfl 33 (by decide) q773 (show (0 : Nat) < 1 by decide) rfl rfl dX5_findForce_1 ?_
  refine lv_iload_n hx hb dX5_findForce_4 rfl (lv_at hl 1 rfl) ?_
  refine lv_dconst0 hx hb dX5_findForce_5 ?_
  refine w_ads (j := i) (ix := i) Z hW hS rfl (show (0 : Nat) < 1 by decide) rfl (by omega) (by decide) (show (i : Nat) < 10 by omega) rfl rfl dX5_findForce_6 (fun H locs hW hS => ?_)
  refine lv_aload_n hx hb dX5_findForce_7 rfl (lv_at hl 0 rfl) ?_
  refine w_getR (v := .ref (ad 57 0)) Z hW kX5 rfl 34 (by decide) q774 (show (0 : Nat) < 1 by decide) rfl rfl dX5_findForce_8 ?_
  refine lv_iload_n hx hb dX5_findForce_11 rfl (lv_at hl 1 rfl) ?_
  refine lv_dconst0 hx hb dX5_findForce_12 ?_
  refine w_ads (j := i) (ix := i) Z hW hS rfl (show (0 : Nat) < 1 by decide) rfl (by omega) (by decide) (show (i : Nat) < 10 by omega) rfl rfl dX5_findForce_13 (fun H locs hW hS => ?_)
  refine lv_iconst (v := nI 0) hx hb dX5_findForce_14 rfl ?_
  refine lv_istore_n (lv' := [(2, .int (nI 0)), (0, .ref (ad 30 0)), (1, .int (nI i))]) hx hb dX5_findForce_15 rfl hl (by decide) rfl (fun ls hl => ?_)
  have hi0 := hi
  refine wl_up n 0 (fun j H locs ls => ∃ D1, lv_has ls 11 [(2, .int (nI j)), (0, .ref (ad 30 0)), (1, .int (nI i))] ∧ mW A Dg dA ad D1 I H ∧ va_S A s.heap H locs ∧ exc sS D1 (up2 (up2 D 30 i (fPa D0 J i j).1) 31 i (fPa D0 J i j).2)) (Nat.zero_le _) ⟨_, lv_sub hl [0, 1, 2] rfl, hW, hS, exc.rf⟩ ?_ ?_
  · intro j H locs ls hi hP ih
    obtain ⟨D1, hl, hW, hS, hex⟩ := hP
    have hj := hi
    replace hi := hi0
    have hag1 : agD D1 D0 := ((hag.up rfl).up rfl).S hex
    have h30 : D1 30 i = (fPa D0 J i j).1 := (hex 30 i rfl).trans ((up2_f _ _ _ _ (by decide)).trans (up2_same _ _ _ _))
    have h31 : D1 31 i = (fPa D0 J i j).2 := (hex 31 i rfl).trans (up2_same _ _ _ _)
    have hfp := fPa_fb hB hi j (by omega) (by omega) (fun q hq hne => hno q (by omega) hne)
    refine lv_iload_n hx hb dX5_findForce_16 rfl (lv_at hl 0 rfl) ?_
    refine lv_aload_n hx hb dX5_findForce_17 rfl (lv_at hl 1 rfl) ?_
    refine g_I (x := nI n) Z hW kX5 rfl 14 (by decide) q754 (show (0 : Nat) < 1 by decide) rfl hM.cn dX5_findForce_18 ?_
    refine lv_nge (tgt := 152) hx hb (by omega) (by omega) dX5_findForce_21 (by decide) (fun c => absurd c (by omega)) (fun c => ?_)
    refine lv_iload_n hx hb dX5_findForce_24 rfl (lv_at hl 0 rfl) ?_
    refine lv_iload_n hx hb dX5_findForce_25 rfl (lv_at hl 2 rfl) ?_
    refine lv_neq (tgt := 146) hx hb (by omega) (by omega) dX5_findForce_26 (by decide) (fun c1 => ?_) (fun c1 => ?_)
    · refine lv_iinc1 (lv' := [(2, .int (nI (j + 1))), (0, .ref (ad 30 0)), (1, .int (nI i))]) hx hb dX5_findForce_146 hl (k := 0) rfl (by decide) rfl (fun ls hl => ?_)
      refine lv_goto (tgt := 16) hx hb dX5_findForce_149 (by decide) ?_
      have e : fPa D0 J i (j + 1) = fPa D0 J i j := if_pos c1
      exact ih _ _ _ ⟨_, lv_sub hl [0, 1, 2] rfl, hW, hS, by rw [e]; exact hex⟩
    · refine lv_aload_n hx hb dX5_findForce_29 rfl (lv_at hl 1 rfl) ?_
      refine lv_iload_n hx hb dX5_findForce_30 rfl (lv_at hl 2 rfl) ?_
      refine lv_iload_n hx hb dX5_findForce_31 rfl (lv_at hl 0 rfl) ?_
      refine wx_ws (wx_V (As := [.int (nI i), .int (nI j)]) (rest := []) hAt.fix (m_X5_isPair l A Dg dA ad n nb nr J D1 I D0 hag1 hB i j hi hj) q989 q991 qs33 q992 wn_X5_isPair ⟨Nat.le_of_ble_eq_true rfl, Nat.le_of_ble_eq_true rfl, Nat.le_of_ble_eq_true rfl, Nat.le_of_ble_eq_true rfl⟩ (w_recv hK hW kX5 rfl (show (0 : Nat) < 1 by decide)) (Pw.of hK hW) hl.1 (Nat.le_of_ble_eq_true rfl) dX5_findForce_32) hS (fun r H locs hW hz hS => ?_)
      obtain ⟨hr1, D2, hexw, h50, h51, h52, hW⟩ := hW
      have hag2 := hag1.S hexw
      have g30 : D2 30 i = (fPa D0 J i j).1 := (hexw 30 i rfl).trans h30
      have g31 : D2 31 i = (fPa D0 J i j).2 := (hexw 31 i rfl).trans h31
      have hne : j ≠ i := c1
      have hrl := lc_near (wR_fb hB hi hj) (hno j hj hne)
      rcases hr1 with ⟨rfl, hq⟩ | ⟨rfl, hq⟩
      · have q2 := hq
        refine lv_if_ne (tgt := 41) hx hb dX5_findForce_35 (by decide) (fun _ => ?_) (fun h => absurd h (by decide))
        refine lv_aload_n hx hb dX5_findForce_41 rfl (lv_at hl 1 rfl) ?_
        refine lv_iload_n hx hb dX5_findForce_42 rfl (lv_at hl 2 rfl) ?_
        refine lv_iload_n hx hb dX5_findForce_43 rfl (lv_at hl 0 rfl) ?_
        refine wx_r (wx_V (As := [.int (nI i), .int (nI j)]) (rest := []) hAt.fix (m_X5_deep l A Dg dA ad n nb nr J D2 I D0 hag2 hB hM i j hi hj) q993 q995 qs34 q996 wn_X5_deep ⟨Nat.le_of_ble_eq_true rfl, Nat.le_of_ble_eq_true rfl, Nat.le_of_ble_eq_true rfl, Nat.le_of_ble_eq_true rfl⟩ (w_recv hK hW kX5 rfl (show (0 : Nat) < 1 by decide)) (Pw.of hK hW) hl.1 (Nat.le_of_ble_eq_true rfl) dX5_findForce_44) (fun r hr => ?_)
        subst hr
        refine lv_dstore_n (lv' := [(3, .double (pE D0 J i j)), (2, .int (nI j)), (0, .ref (ad 30 0)), (1, .int (nI i))]) hx hb dX5_findForce_47 rfl hl (by decide) rfl (fun ls hl => ?_)
        refine lv_aload_n hx hb dX5_findForce_48 rfl (lv_at hl 2 rfl) ?_
        refine lv_iload_n hx hb dX5_findForce_49 rfl (lv_at hl 3 rfl) ?_
        refine lv_iload_n hx hb dX5_findForce_50 rfl (lv_at hl 1 rfl) ?_
        refine wx_r (wx_V (As := [.int (nI i), .int (nI j)]) (rest := []) hAt.fix (m_X5_sixth l A Dg dA ad n nb nr J D2 I D0 hag2 hB hM i j hi hj (wR D0 i j) h52 ((wR_fb hB hi hj)) hrl) q997 q999 qs35 q1000 wn_X5_sixth ⟨Nat.le_of_ble_eq_true rfl, Nat.le_of_ble_eq_true rfl, Nat.le_of_ble_eq_true rfl, Nat.le_of_ble_eq_true rfl⟩ (w_recv hK hW kX5 rfl (show (0 : Nat) < 1 by decide)) (Pw.of hK hW) hl.1 (Nat.le_of_ble_eq_true rfl) dX5_findForce_51) (fun r hr => ?_)
        subst hr
        refine lv_dstore (lv' := [(5, .double (pP D0 J i j (wR D0 i j))), (3, .double (pE D0 J i j)), (2, .int (nI j)), (0, .ref (ad 30 0)), (1, .int (nI i))]) hx hb dX5_findForce_54 hl (by decide) rfl (fun ls hl => ?_)
        refine lv_aload_n hx hb dX5_findForce_56 rfl (lv_at hl 3 rfl) ?_
        refine lv_iload_n hx hb dX5_findForce_57 rfl (lv_at hl 4 rfl) ?_
        refine lv_iload_n hx hb dX5_findForce_58 rfl (lv_at hl 2 rfl) ?_
        refine wx_r (wx_V (As := [.int (nI i), .int (nI j)]) (rest := []) hAt.fix (m_X5_charges l A Dg dA ad n nb nr J D2 I D0 hag2 hB hM i j hi hj) q1001 q1003 qs36 q1004 wn_X5_charges ⟨Nat.le_of_ble_eq_true rfl, Nat.le_of_ble_eq_true rfl, Nat.le_of_ble_eq_true rfl, Nat.le_of_ble_eq_true rfl⟩ (w_recv hK hW kX5 rfl (show (0 : Nat) < 1 by decide)) (Pw.of hK hW) hl.1 (Nat.le_of_ble_eq_true rfl) dX5_findForce_59) (fun r hr => ?_)
        subst hr
        refine lv_dstore (lv' := [(7, .double (pC D0 J i j)), (5, .double (pP D0 J i j (wR D0 i j))), (3, .double (pE D0 J i j)), (2, .int (nI j)), (0, .ref (ad 30 0)), (1, .int (nI i))]) hx hb dX5_findForce_62 hl (by decide) rfl (fun ls hl => ?_)
        refine lv_ldc2d (v := 4627448617123184640) hx hb hown (hts _ (lw_car_all q1005)) dX5_findForce_64 ?_
        refine lv_dload_n hx hb dX5_findForce_67 rfl (lv_at hl 2 rfl) ?_
        have f4 : fb (11) (FP.dmul 4627448617123184640 (pE D0 J i j)) := fb.mul fc_4627448617123184640 (pE_fb hB hi hj) (by decide)
        refine lv_dmul hx hb dX5_findForce_68 f4.n64 ?_
        refine lv_dload hx hb dX5_findForce_69 (lv_at hl 1 rfl) ?_
        refine lv_ldc2d (v := 4611686018427387904) hx hb hown (hts _ (lw_car_all q1006)) dX5_findForce_71 ?_
        refine lv_dload hx hb dX5_findForce_74 (lv_at hl 1 rfl) ?_
        have f5 : fb (43) (FP.dmul 4611686018427387904 (pP D0 J i j (wR D0 i j))) := fb.mul fc_4611686018427387904 (pP_fb hB hi hj hrl) (by decide)
        refine lv_dmul hx hb dX5_findForce_76 f5.n64 ?_
        refine lv_dload hx hb dX5_findForce_77 (lv_at hl 1 rfl) ?_
        have f6 : fb (85) (FP.dmul (FP.dmul 4611686018427387904 (pP D0 J i j (wR D0 i j))) (pP D0 J i j (wR D0 i j))) := fb.mul f5 (pP_fb hB hi hj hrl) (by decide)
        refine lv_dmul hx hb dX5_findForce_79 f6.n64 ?_
        have f7 : fb (86) (FP.dsub (pP D0 J i j (wR D0 i j)) (FP.dmul (FP.dmul 4611686018427387904 (pP D0 J i j (wR D0 i j))) (pP D0 J i j (wR D0 i j)))) := fb.sub (pP_fb hB hi hj hrl) f6 (by decide)
        refine lv_dsub hx hb dX5_findForce_80 f7.n64 ?_
        have f8 : fb (97) (FP.dmul (FP.dmul 4627448617123184640 (pE D0 J i j)) (FP.dsub (pP D0 J i j (wR D0 i j)) (FP.dmul (FP.dmul 4611686018427387904 (pP D0 J i j (wR D0 i j))) (pP D0 J i j (wR D0 i j))))) := fb.mul f4 f7 (by decide)
        refine lv_dmul hx hb dX5_findForce_81 f8.n64 ?_
        refine lv_aload_n hx hb dX5_findForce_82 rfl (lv_at hl 4 rfl) ?_
        refine g_D (x := wR D0 i j) Z hW kX5 rfl 47 (by decide) q787 (show (0 : Nat) < 1 by decide) rfl h52 dX5_findForce_83 ?_
        have f9 : fb (107) (FP.ddiv (FP.dmul (FP.dmul 4627448617123184640 (pE D0 J i j)) (FP.dsub (pP D0 J i j (wR D0 i j)) (FP.dmul (FP.dmul 4611686018427387904 (pP D0 J i j (wR D0 i j))) (pP D0 J i j (wR D0 i j))))) (wR D0 i j)) := fb.div f8 hrl (by decide)
        refine lv_ddiv hx hb dX5_findForce_86 f9.n64 ?_
        refine lv_ldc2d (v := 4611686018427387904) hx hb hown (hts _ (lw_car_all q1006)) dX5_findForce_87 ?_
        refine lv_dload hx hb dX5_findForce_90 (lv_at hl 0 rfl) ?_
        have f10 : fb (7) (FP.dmul 4611686018427387904 (pC D0 J i j)) := fb.mul fc_4611686018427387904 (fb.mul (hB.c (hB.j0 hi)) (hB.c (hB.j0 hj)) (G := 6) (by decide)) (by decide)
        refine lv_dmul hx hb dX5_findForce_92 f10.n64 ?_
        refine lv_aload_n hx hb dX5_findForce_93 rfl (lv_at hl 4 rfl) ?_
        refine g_D (x := wR D0 i j) Z hW kX5 rfl 47 (by decide) q787 (show (0 : Nat) < 1 by decide) rfl h52 dX5_findForce_94 ?_
        refine lv_aload_n hx hb dX5_findForce_97 rfl (lv_at hl 4 rfl) ?_
        refine g_D (x := wR D0 i j) Z hW kX5 rfl 47 (by decide) q787 (show (0 : Nat) < 1 by decide) rfl h52 dX5_findForce_98 ?_
        have f11 : fb (22) (FP.dmul (wR D0 i j) (wR D0 i j)) := fb.mul (wR_fb hB hi hj) (wR_fb hB hi hj) (by decide)
        refine lv_dmul hx hb dX5_findForce_101 f11.n64 ?_
        have f12 : fb (27) (FP.ddiv (FP.dmul 4611686018427387904 (pC D0 J i j)) (FP.dmul (wR D0 i j) (wR D0 i j))) := fb.div f10 (lb.mul hrl hrl (wR_fb hB hi hj) (wR_fb hB hi hj) (G := -20) (by decide)) (by decide)
        refine lv_ddiv hx hb dX5_findForce_102 f12.n64 ?_
        have f13 : fb (108) (FP.dsub (FP.ddiv (FP.dmul (FP.dmul 4627448617123184640 (pE D0 J i j)) (FP.dsub (pP D0 J i j (wR D0 i j)) (FP.dmul (FP.dmul 4611686018427387904 (pP D0 J i j (wR D0 i j))) (pP D0 J i j (wR D0 i j))))) (wR D0 i j)) (FP.ddiv (FP.dmul 4611686018427387904 (pC D0 J i j)) (FP.dmul (wR D0 i j) (wR D0 i j)))) := fb.sub f9 f12 (by decide)
        refine lv_dsub hx hb dX5_findForce_103 f13.n64 ?_
        refine lv_dstore (lv' := [(9, .double (pF D0 J i j (wR D0 i j))), (7, .double (pC D0 J i j)), (5, .double (pP D0 J i j (wR D0 i j))), (3, .double (pE D0 J i j)), (2, .int (nI j)), (0, .ref (ad 30 0)), (1, .int (nI i))]) hx hb dX5_findForce_104 hl (by decide) rfl (fun ls hl => ?_)
        refine lv_aload_n hx hb dX5_findForce_106 rfl (lv_at hl 5 rfl) ?_
        refine w_getR (v := .ref (ad 56 0)) Z hW kX5 rfl 33 (by decide) q773 (show (0 : Nat) < 1 by decide) rfl rfl dX5_findForce_107 ?_
        refine lv_iload_n hx hb dX5_findForce_110 rfl (lv_at hl 6 rfl) ?_
        refine lv_aload_n hx hb dX5_findForce_111 rfl (lv_at hl 5 rfl) ?_
        refine w_getR (v := .ref (ad 56 0)) Z hW kX5 rfl 33 (by decide) q773 (show (0 : Nat) < 1 by decide) rfl rfl dX5_findForce_112 ?_
        refine lv_iload_n hx hb dX5_findForce_115 rfl (lv_at hl 6 rfl) ?_
        refine a_D (j := i) (x := (fPa D0 J i j).1) (ix := i) Z hW rfl (show (0 : Nat) < 1 by decide) (by omega) (by decide) rfl rfl g30 dX5_findForce_116 ?_
        refine lv_dload hx hb dX5_findForce_117 (lv_at hl 0 rfl) ?_
        refine lv_aload_n hx hb dX5_findForce_119 rfl (lv_at hl 5 rfl) ?_
        refine g_D (x := wA D0 i j) Z hW kX5 rfl 45 (by decide) q785 (show (0 : Nat) < 1 by decide) rfl h50 dX5_findForce_120 ?_
        have f14 : fb (115) (FP.dmul (pF D0 J i j (wR D0 i j)) (wA D0 i j)) := fb.mul (pF_fb hB hi hj hrl (wR_fb hB hi hj)) (wA_fb hB hi hj) (by decide)
        refine lv_dmul hx hb dX5_findForce_123 f14.n64 ?_
        have f15 : fb ((120 + (j : Int)) + 1) (FP.dadd ((fPa D0 J i j).1) (FP.dmul (pF D0 J i j (wR D0 i j)) (wA D0 i j))) := fb.add hfp.1 (f14.mono (show (115 : Int) ≤ 120 + (j : Int) by omega)) (by omega)
        refine lv_dadd hx hb dX5_findForce_124 f15.n64 ?_
        refine w_ads (j := i) (ix := i) Z hW hS rfl (show (0 : Nat) < 1 by decide) rfl (by omega) (by decide) (show (i : Nat) < 10 by omega) rfl rfl dX5_findForce_125 (fun H locs hW hS => ?_)
        refine lv_aload_n hx hb dX5_findForce_126 rfl (lv_at hl 5 rfl) ?_
        refine w_getR (v := .ref (ad 57 0)) Z hW kX5 rfl 34 (by decide) q774 (show (0 : Nat) < 1 by decide) rfl rfl dX5_findForce_127 ?_
        refine lv_iload_n hx hb dX5_findForce_130 rfl (lv_at hl 6 rfl) ?_
        refine lv_aload_n hx hb dX5_findForce_131 rfl (lv_at hl 5 rfl) ?_
        refine w_getR (v := .ref (ad 57 0)) Z hW kX5 rfl 34 (by decide) q774 (show (0 : Nat) < 1 by decide) rfl rfl dX5_findForce_132 ?_
        refine lv_iload_n hx hb dX5_findForce_135 rfl (lv_at hl 6 rfl) ?_
        refine a_D (j := i) (x := (fPa D0 J i j).2) (ix := i) Z hW rfl (show (0 : Nat) < 1 by decide) (by omega) (by decide) rfl rfl ((up2_f _ _ _ _ (by decide)).trans g31) dX5_findForce_136 ?_
        refine lv_dload hx hb dX5_findForce_137 (lv_at hl 0 rfl) ?_
        refine lv_aload_n hx hb dX5_findForce_139 rfl (lv_at hl 5 rfl) ?_
        refine g_D (x := wB D0 i j) Z hW kX5 rfl 46 (by decide) q786 (show (0 : Nat) < 1 by decide) rfl ((up2_f _ _ _ _ (by decide)).trans h51) dX5_findForce_140 ?_
        have f16 : fb (115) (FP.dmul (pF D0 J i j (wR D0 i j)) (wB D0 i j)) := fb.mul (pF_fb hB hi hj hrl (wR_fb hB hi hj)) (wB_fb hB hi hj) (by decide)
        refine lv_dmul hx hb dX5_findForce_143 f16.n64 ?_
        have f17 : fb ((120 + (j : Int)) + 1) (FP.dadd ((fPa D0 J i j).2) (FP.dmul (pF D0 J i j (wR D0 i j)) (wB D0 i j))) := fb.add hfp.2 (f16.mono (show (115 : Int) ≤ 120 + (j : Int) by omega)) (by omega)
        refine lv_dadd hx hb dX5_findForce_144 f17.n64 ?_
        refine w_ads (j := i) (ix := i) Z hW hS rfl (show (0 : Nat) < 1 by decide) rfl (by omega) (by decide) (show (i : Nat) < 10 by omega) rfl rfl dX5_findForce_145 (fun H locs hW hS => ?_)
        refine lv_iinc1 (lv' := [(2, .int (nI (j + 1))), (9, .double (pF D0 J i j (wR D0 i j))), (7, .double (pC D0 J i j)), (5, .double (pP D0 J i j (wR D0 i j))), (3, .double (pE D0 J i j)), (0, .ref (ad 30 0)), (1, .int (nI i))]) hx hb dX5_findForce_146 hl (k := 4) rfl (by decide) rfl (fun ls hl => ?_)
        refine lv_goto (tgt := 16) hx hb dX5_findForce_149 (by decide) ?_
        have e : fPa D0 J i (j + 1) = _ := (if_neg c1).trans (if_pos q2)
        exact ih _ _ _ ⟨_, lv_sub hl [0, 5, 6] rfl, hW, hS, by rw [e]; exact exc_fxy (hexw.trans hex)⟩
      · have q18 := hq
        refine lv_if_ne (tgt := 41) hx hb dX5_findForce_35 (by decide) (fun h => absurd nI_0 h) (fun _ => ?_)
        refine lv_goto (tgt := 146) hx hb dX5_findForce_38 (by decide) ?_
        refine lv_iinc1 (lv' := [(2, .int (nI (j + 1))), (0, .ref (ad 30 0)), (1, .int (nI i))]) hx hb dX5_findForce_146 hl (k := 0) rfl (by decide) rfl (fun ls hl => ?_)
        refine lv_goto (tgt := 16) hx hb dX5_findForce_149 (by decide) ?_
        have e : fPa D0 J i (j + 1) = _ := (if_neg c1).trans (if_neg q18)
        exact ih _ _ _ ⟨_, lv_sub hl [0, 1, 2] rfl, hW, hS, by rw [e]; exact hexw.trans hex⟩
  · intro H locs ls hP
    obtain ⟨D1, hl, hW, hS, hex⟩ := hP
    refine lv_iload_n hx hb dX5_findForce_16 rfl (lv_at hl 0 rfl) ?_
    refine lv_aload_n hx hb dX5_findForce_17 rfl (lv_at hl 1 rfl) ?_
    refine g_I (x := nI n) Z hW kX5 rfl 14 (by decide) q754 (show (0 : Nat) < 1 by decide) rfl hM.cn dX5_findForce_18 ?_
    refine lv_nge (tgt := 152) hx hb (by omega) (by omega) dX5_findForce_21 (by decide) (fun c => ?_) (fun c => absurd c (by omega))
    refine lv_iconst (v := nI 0) hx hb dX5_findForce_152 rfl ?_
    refine lv_istore_n (lv' := [(2, .int (nI 0)), (0, .ref (ad 30 0)), (1, .int (nI i))]) hx hb dX5_findForce_153 rfl hl (by decide) rfl (fun ls hl => ?_)
    have hfa := fPa_fb hB hi n (by omega) (Nat.le_refl _) (fun q hq hne => hno q hq hne)
    replace hfa : fb 140 (fPa D0 J i n).1 ∧ fb 140 (fPa D0 J i n).2 := ⟨hfa.1.mono (by omega), hfa.2.mono (by omega)⟩
    have hi0 := hi
    refine wl_up nb 0 (fun k H locs ls => ∃ D1, lv_has ls 11 [(2, .int (nI k)), (0, .ref (ad 30 0)), (1, .int (nI i))] ∧ mW A Dg dA ad D1 I H ∧ va_S A s.heap H locs ∧ exc sS D1 (up2 (up2 D 30 i (fBo D0 J i (fPa D0 J i n) k).1) 31 i (fBo D0 J i (fPa D0 J i n) k).2)) (Nat.zero_le _) ⟨_, lv_sub hl [0, 1, 2] rfl, hW, hS, hex⟩ ?_ ?_
    · intro k H locs ls hi hP ih
      obtain ⟨D1, hl, hW, hS, hex⟩ := hP
      have hk := hi
      replace hi := hi0
      have hj2 := hB.j2 hk
      have hj3 := hB.j3 hk
      have hag1 : agD D1 D0 := ((hag.up rfl).up rfl).S hex
      have h30 : D1 30 i = (fBo D0 J i (fPa D0 J i n) k).1 := (hex 30 i rfl).trans ((up2_f _ _ _ _ (by decide)).trans (up2_same _ _ _ _))
      have h31 : D1 31 i = (fBo D0 J i (fPa D0 J i n) k).2 := (hex 31 i rfl).trans (up2_same _ _ _ _)
      have hfp := fBo_fb hB hi hfa k (by omega)
      refine lv_iload_n hx hb dX5_findForce_154 rfl (lv_at hl 0 rfl) ?_
      refine lv_aload_n hx hb dX5_findForce_155 rfl (lv_at hl 1 rfl) ?_
      refine g_I (x := nI nb) Z hW kX5 rfl 15 (by decide) q755 (show (0 : Nat) < 1 by decide) rfl hM.cb dX5_findForce_156 ?_
      refine lv_nge (tgt := 292) hx hb (by omega) (by omega) dX5_findForce_159 (by decide) (fun c => absurd c (by omega)) (fun c => ?_)
      refine lv_aload_n hx hb dX5_findForce_162 rfl (lv_at hl 1 rfl) ?_
      refine w_getR (v := .ref (ad 41 0)) Z hW kX5 rfl 17 (by decide) q757 (show (0 : Nat) < 1 by decide) rfl rfl dX5_findForce_163 ?_
      refine lv_iload_n hx hb dX5_findForce_166 rfl (lv_at hl 0 rfl) ?_
      refine a_I (j := k) (x := nI (J 2 k)) (ix := k) Z hW rfl (show (0 : Nat) < 1 by decide) (by omega) (by decide) rfl rfl (hM.bi (show (k : Nat) < nb by omega)) dX5_findForce_167 ?_
      refine lv_iload_n hx hb dX5_findForce_168 rfl (lv_at hl 2 rfl) ?_
      refine lv_neq (tgt := 185) hx hb (by omega) (by omega) dX5_findForce_169 (by decide) (fun c20 => ?_) (fun c20 => ?_)
      · refine lv_aload_n hx hb dX5_findForce_185 rfl (lv_at hl 1 rfl) ?_
        refine lv_iload_n hx hb dX5_findForce_186 rfl (lv_at hl 2 rfl) ?_
        refine lv_aload_n hx hb dX5_findForce_187 rfl (lv_at hl 1 rfl) ?_
        refine w_getR (v := .ref (ad 41 0)) Z hW kX5 rfl 17 (by decide) q757 (show (0 : Nat) < 1 by decide) rfl rfl dX5_findForce_188 ?_
        refine lv_iload_n hx hb dX5_findForce_191 rfl (lv_at hl 0 rfl) ?_
        refine a_I (j := k) (x := nI (J 2 k)) (ix := k) Z hW rfl (show (0 : Nat) < 1 by decide) (by omega) (by decide) rfl rfl (hM.bi (show (k : Nat) < nb by omega)) dX5_findForce_192 ?_
        refine lv_iload_n hx hb dX5_findForce_193 rfl (lv_at hl 2 rfl) ?_
        refine lv_nne (tgt := 206) hx hb (by omega) (by omega) dX5_findForce_194 (by decide) (fun c => absurd c20 c) (fun c => ?_)
        refine lv_aload_n hx hb dX5_findForce_197 rfl (lv_at hl 1 rfl) ?_
        refine w_getR (v := .ref (ad 42 0)) Z hW kX5 rfl 18 (by decide) q758 (show (0 : Nat) < 1 by decide) rfl rfl dX5_findForce_198 ?_
        refine lv_iload_n hx hb dX5_findForce_201 rfl (lv_at hl 0 rfl) ?_
        refine a_I (j := k) (x := nI (J 3 k)) (ix := k) Z hW rfl (show (0 : Nat) < 1 by decide) (by omega) (by decide) rfl rfl (hM.bj (show (k : Nat) < nb by omega)) dX5_findForce_202 ?_
        refine lv_goto (tgt := 212) hx hb dX5_findForce_203 (by decide) ?_
        refine wx_wv (wx_V (As := [.int (nI i), .int (nI (J 3 k))]) (rest := []) hAt.fix (m_X5_between l A Dg dA ad n nb nr J D1 I D0 hag1 hB i ((J 3 k)) hi hj3) q980 q982 qs31 q983 wn_X5_between ⟨Nat.le_of_ble_eq_true rfl, Nat.le_of_ble_eq_true rfl, Nat.le_of_ble_eq_true rfl, Nat.le_of_ble_eq_true rfl⟩ (w_recv hK hW kX5 rfl (show (0 : Nat) < 1 by decide)) (Pw.of hK hW) hl.1 (Nat.le_of_ble_eq_true rfl) dX5_findForce_212) hS (fun H locs hW hz hS => ?_)
        obtain ⟨D2, hexw, h50, h51, h52, hW⟩ := hW
        have hag2 := hag1.S hexw
        have g30 := (hexw 30 i rfl).trans h30
        have g31 := (hexw 31 i rfl).trans h31
        refine lv_aload_n hx hb dX5_findForce_215 rfl (lv_at hl 1 rfl) ?_
        refine g_D (x := wR D0 i ((J 3 k))) Z hW kX5 rfl 47 (by decide) q787 (show (0 : Nat) < 1 by decide) rfl h52 dX5_findForce_216 ?_
        refine lv_aload_n hx hb dX5_findForce_219 rfl (lv_at hl 1 rfl) ?_
        refine w_getR (v := .ref (ad 46 0)) Z hW kX5 rfl 22 (by decide) q762 (show (0 : Nat) < 1 by decide) rfl rfl dX5_findForce_220 ?_
        refine lv_iload_n hx hb dX5_findForce_223 rfl (lv_at hl 0 rfl) ?_
        refine a_D (j := k) (x := D0 11 k) (ix := k) Z hW rfl (show (0 : Nat) < 1 by decide) (by omega) (by decide) rfl rfl (hag2 11 k rfl) dX5_findForce_224 ?_
        refine lv_aload_n hx hb dX5_findForce_225 rfl (lv_at hl 1 rfl) ?_
        refine w_getR (v := .ref (ad 46 0)) Z hW kX5 rfl 22 (by decide) q762 (show (0 : Nat) < 1 by decide) rfl rfl dX5_findForce_226 ?_
        refine lv_iload_n hx hb dX5_findForce_229 rfl (lv_at hl 0 rfl) ?_
        refine a_D (j := k) (x := D0 11 k) (ix := k) Z hW rfl (show (0 : Nat) < 1 by decide) (by omega) (by decide) rfl rfl (hag2 11 k rfl) dX5_findForce_230 ?_
        have f21 : fb (8) (FP.dmul (D0 11 k) (D0 11 k)) := fb.mul (hB.bl (show (k : Nat) < nb by omega)) (hB.bl (show (k : Nat) < nb by omega)) (by decide)
        refine lv_dmul hx hb dX5_findForce_231 f21.n64 ?_
        have f22 : fb (12) (FP.dsub (wR D0 i ((J 3 k))) (FP.dmul (D0 11 k) (D0 11 k))) := fb.sub (wR_fb hB hi hj3) f21 (by decide)
        refine lv_dsub hx hb dX5_findForce_232 f22.n64 ?_
        refine lv_dstore_n (lv' := [(3, .double (FP.dsub (wR D0 i ((J 3 k))) (FP.dmul (D0 11 k) (D0 11 k)))), (2, .int (nI k)), (0, .ref (ad 30 0)), (1, .int (nI i))]) hx hb dX5_findForce_233 rfl hl (by decide) rfl (fun ls hl => ?_)
        refine lv_aload_n hx hb dX5_findForce_234 rfl (lv_at hl 2 rfl) ?_
        refine w_getR (v := .ref (ad 56 0)) Z hW kX5 rfl 33 (by decide) q773 (show (0 : Nat) < 1 by decide) rfl rfl dX5_findForce_235 ?_
        refine lv_iload_n hx hb dX5_findForce_238 rfl (lv_at hl 3 rfl) ?_
        refine lv_aload_n hx hb dX5_findForce_239 rfl (lv_at hl 2 rfl) ?_
        refine w_getR (v := .ref (ad 56 0)) Z hW kX5 rfl 33 (by decide) q773 (show (0 : Nat) < 1 by decide) rfl rfl dX5_findForce_240 ?_
        refine lv_iload_n hx hb dX5_findForce_243 rfl (lv_at hl 3 rfl) ?_
        refine a_D (j := i) (x := (fBo D0 J i (fPa D0 J i n) k).1) (ix := i) Z hW rfl (show (0 : Nat) < 1 by decide) (by omega) (by decide) rfl rfl g30 dX5_findForce_244 ?_
        refine lv_aload_n hx hb dX5_findForce_245 rfl (lv_at hl 2 rfl) ?_
        refine w_getR (v := .ref (ad 45 0)) Z hW kX5 rfl 21 (by decide) q761 (show (0 : Nat) < 1 by decide) rfl rfl dX5_findForce_246 ?_
        refine lv_iload_n hx hb dX5_findForce_249 rfl (lv_at hl 1 rfl) ?_
        refine a_D (j := k) (x := D0 10 k) (ix := k) Z hW rfl (show (0 : Nat) < 1 by decide) (by omega) (by decide) rfl rfl (hag2 10 k rfl) dX5_findForce_250 ?_
        refine lv_dload_n hx hb dX5_findForce_251 rfl (lv_at hl 0 rfl) ?_
        have f23 : fb (18) (FP.dmul (D0 10 k) (FP.dsub (wR D0 i ((J 3 k))) (FP.dmul (D0 11 k) (D0 11 k)))) := fb.mul (hB.bk (show (k : Nat) < nb by omega)) f22 (by decide)
        refine lv_dmul hx hb dX5_findForce_252 f23.n64 ?_
        refine lv_aload_n hx hb dX5_findForce_253 rfl (lv_at hl 2 rfl) ?_
        refine g_D (x := wA D0 i ((J 3 k))) Z hW kX5 rfl 45 (by decide) q785 (show (0 : Nat) < 1 by decide) rfl h50 dX5_findForce_254 ?_
        have f24 : fb (23) (FP.dmul (FP.dmul (D0 10 k) (FP.dsub (wR D0 i ((J 3 k))) (FP.dmul (D0 11 k) (D0 11 k)))) (wA D0 i ((J 3 k)))) := fb.mul f23 (wA_fb hB hi hj3) (by decide)
        refine lv_dmul hx hb dX5_findForce_257 f24.n64 ?_
        have f25 : fb ((140 + (k : Int)) + 1) (FP.dadd ((fBo D0 J i (fPa D0 J i n) k).1) (FP.dmul (FP.dmul (D0 10 k) (FP.dsub (wR D0 i ((J 3 k))) (FP.dmul (D0 11 k) (D0 11 k)))) (wA D0 i ((J 3 k))))) := fb.add hfp.1 (f24.mono (show (23 : Int) ≤ 140 + (k : Int) by omega)) (by omega)
        refine lv_dadd hx hb dX5_findForce_258 f25.n64 ?_
        refine w_ads (j := i) (ix := i) Z hW hS rfl (show (0 : Nat) < 1 by decide) rfl (by omega) (by decide) (show (i : Nat) < 10 by omega) rfl rfl dX5_findForce_259 (fun H locs hW hS => ?_)
        refine lv_aload_n hx hb dX5_findForce_260 rfl (lv_at hl 2 rfl) ?_
        refine w_getR (v := .ref (ad 57 0)) Z hW kX5 rfl 34 (by decide) q774 (show (0 : Nat) < 1 by decide) rfl rfl dX5_findForce_261 ?_
        refine lv_iload_n hx hb dX5_findForce_264 rfl (lv_at hl 3 rfl) ?_
        refine lv_aload_n hx hb dX5_findForce_265 rfl (lv_at hl 2 rfl) ?_
        refine w_getR (v := .ref (ad 57 0)) Z hW kX5 rfl 34 (by decide) q774 (show (0 : Nat) < 1 by decide) rfl rfl dX5_findForce_266 ?_
        refine lv_iload_n hx hb dX5_findForce_269 rfl (lv_at hl 3 rfl) ?_
        refine a_D (j := i) (x := (fBo D0 J i (fPa D0 J i n) k).2) (ix := i) Z hW rfl (show (0 : Nat) < 1 by decide) (by omega) (by decide) rfl rfl ((up2_f _ _ _ _ (by decide)).trans g31) dX5_findForce_270 ?_
        refine lv_aload_n hx hb dX5_findForce_271 rfl (lv_at hl 2 rfl) ?_
        refine w_getR (v := .ref (ad 45 0)) Z hW kX5 rfl 21 (by decide) q761 (show (0 : Nat) < 1 by decide) rfl rfl dX5_findForce_272 ?_
        refine lv_iload_n hx hb dX5_findForce_275 rfl (lv_at hl 1 rfl) ?_
        refine a_D (j := k) (x := D0 10 k) (ix := k) Z hW rfl (show (0 : Nat) < 1 by decide) (by omega) (by decide) rfl rfl ((up2_f _ _ _ _ (by decide)).trans (hag2 10 k rfl)) dX5_findForce_276 ?_
        refine lv_dload_n hx hb dX5_findForce_277 rfl (lv_at hl 0 rfl) ?_
        refine lv_dmul hx hb dX5_findForce_278 f23.n64 ?_
        refine lv_aload_n hx hb dX5_findForce_279 rfl (lv_at hl 2 rfl) ?_
        refine g_D (x := wB D0 i ((J 3 k))) Z hW kX5 rfl 46 (by decide) q786 (show (0 : Nat) < 1 by decide) rfl ((up2_f _ _ _ _ (by decide)).trans h51) dX5_findForce_280 ?_
        have f26 : fb (23) (FP.dmul (FP.dmul (D0 10 k) (FP.dsub (wR D0 i ((J 3 k))) (FP.dmul (D0 11 k) (D0 11 k)))) (wB D0 i ((J 3 k)))) := fb.mul f23 (wB_fb hB hi hj3) (by decide)
        refine lv_dmul hx hb dX5_findForce_283 f26.n64 ?_
        have f27 : fb ((140 + (k : Int)) + 1) (FP.dadd ((fBo D0 J i (fPa D0 J i n) k).2) (FP.dmul (FP.dmul (D0 10 k) (FP.dsub (wR D0 i ((J 3 k))) (FP.dmul (D0 11 k) (D0 11 k)))) (wB D0 i ((J 3 k))))) := fb.add hfp.2 (f26.mono (show (23 : Int) ≤ 140 + (k : Int) by omega)) (by omega)
        refine lv_dadd hx hb dX5_findForce_284 f27.n64 ?_
        refine w_ads (j := i) (ix := i) Z hW hS rfl (show (0 : Nat) < 1 by decide) rfl (by omega) (by decide) (show (i : Nat) < 10 by omega) rfl rfl dX5_findForce_285 (fun H locs hW hS => ?_)
        refine lv_iinc1 (lv' := [(2, .int (nI (k + 1))), (3, .double (FP.dsub (wR D0 i ((J 3 k))) (FP.dmul (D0 11 k) (D0 11 k)))), (0, .ref (ad 30 0)), (1, .int (nI i))]) hx hb dX5_findForce_286 hl (k := 1) rfl (by decide) rfl (fun ls hl => ?_)
        refine lv_goto (tgt := 154) hx hb dX5_findForce_289 (by decide) ?_
        have e : fBo D0 J i (fPa D0 J i n) (k + 1) = _ := if_pos c20
        exact ih _ _ _ ⟨_, lv_sub hl [0, 2, 3] rfl, hW, hS, by rw [e]; exact exc_fxy (hexw.trans hex)⟩
      · refine lv_aload_n hx hb dX5_findForce_172 rfl (lv_at hl 1 rfl) ?_
        refine w_getR (v := .ref (ad 42 0)) Z hW kX5 rfl 18 (by decide) q758 (show (0 : Nat) < 1 by decide) rfl rfl dX5_findForce_173 ?_
        refine lv_iload_n hx hb dX5_findForce_176 rfl (lv_at hl 0 rfl) ?_
        refine a_I (j := k) (x := nI (J 3 k)) (ix := k) Z hW rfl (show (0 : Nat) < 1 by decide) (by omega) (by decide) rfl rfl (hM.bj (show (k : Nat) < nb by omega)) dX5_findForce_177 ?_
        refine lv_iload_n hx hb dX5_findForce_178 rfl (lv_at hl 2 rfl) ?_
        refine lv_neq (tgt := 185) hx hb (by omega) (by omega) dX5_findForce_179 (by decide) (fun c28 => ?_) (fun c28 => ?_)
        · refine lv_aload_n hx hb dX5_findForce_185 rfl (lv_at hl 1 rfl) ?_
          refine lv_iload_n hx hb dX5_findForce_186 rfl (lv_at hl 2 rfl) ?_
          refine lv_aload_n hx hb dX5_findForce_187 rfl (lv_at hl 1 rfl) ?_
          refine w_getR (v := .ref (ad 41 0)) Z hW kX5 rfl 17 (by decide) q757 (show (0 : Nat) < 1 by decide) rfl rfl dX5_findForce_188 ?_
          refine lv_iload_n hx hb dX5_findForce_191 rfl (lv_at hl 0 rfl) ?_
          refine a_I (j := k) (x := nI (J 2 k)) (ix := k) Z hW rfl (show (0 : Nat) < 1 by decide) (by omega) (by decide) rfl rfl (hM.bi (show (k : Nat) < nb by omega)) dX5_findForce_192 ?_
          refine lv_iload_n hx hb dX5_findForce_193 rfl (lv_at hl 2 rfl) ?_
          refine lv_nne (tgt := 206) hx hb (by omega) (by omega) dX5_findForce_194 (by decide) (fun c => ?_) (fun c => absurd c c20)
          refine lv_aload_n hx hb dX5_findForce_206 rfl (lv_at hl 1 rfl) ?_
          refine w_getR (v := .ref (ad 41 0)) Z hW kX5 rfl 17 (by decide) q757 (show (0 : Nat) < 1 by decide) rfl rfl dX5_findForce_207 ?_
          refine lv_iload_n hx hb dX5_findForce_210 rfl (lv_at hl 0 rfl) ?_
          refine a_I (j := k) (x := nI (J 2 k)) (ix := k) Z hW rfl (show (0 : Nat) < 1 by decide) (by omega) (by decide) rfl rfl (hM.bi (show (k : Nat) < nb by omega)) dX5_findForce_211 ?_
          refine wx_wv (wx_V (As := [.int (nI i), .int (nI (J 2 k))]) (rest := []) hAt.fix (m_X5_between l A Dg dA ad n nb nr J D1 I D0 hag1 hB i ((J 2 k)) hi hj2) q980 q982 qs31 q983 wn_X5_between ⟨Nat.le_of_ble_eq_true rfl, Nat.le_of_ble_eq_true rfl, Nat.le_of_ble_eq_true rfl, Nat.le_of_ble_eq_true rfl⟩ (w_recv hK hW kX5 rfl (show (0 : Nat) < 1 by decide)) (Pw.of hK hW) hl.1 (Nat.le_of_ble_eq_true rfl) dX5_findForce_212) hS (fun H locs hW hz hS => ?_)
          obtain ⟨D2, hexw, h50, h51, h52, hW⟩ := hW
          have hag2 := hag1.S hexw
          have g30 := (hexw 30 i rfl).trans h30
          have g31 := (hexw 31 i rfl).trans h31
          refine lv_aload_n hx hb dX5_findForce_215 rfl (lv_at hl 1 rfl) ?_
          refine g_D (x := wR D0 i ((J 2 k))) Z hW kX5 rfl 47 (by decide) q787 (show (0 : Nat) < 1 by decide) rfl h52 dX5_findForce_216 ?_
          refine lv_aload_n hx hb dX5_findForce_219 rfl (lv_at hl 1 rfl) ?_
          refine w_getR (v := .ref (ad 46 0)) Z hW kX5 rfl 22 (by decide) q762 (show (0 : Nat) < 1 by decide) rfl rfl dX5_findForce_220 ?_
          refine lv_iload_n hx hb dX5_findForce_223 rfl (lv_at hl 0 rfl) ?_
          refine a_D (j := k) (x := D0 11 k) (ix := k) Z hW rfl (show (0 : Nat) < 1 by decide) (by omega) (by decide) rfl rfl (hag2 11 k rfl) dX5_findForce_224 ?_
          refine lv_aload_n hx hb dX5_findForce_225 rfl (lv_at hl 1 rfl) ?_
          refine w_getR (v := .ref (ad 46 0)) Z hW kX5 rfl 22 (by decide) q762 (show (0 : Nat) < 1 by decide) rfl rfl dX5_findForce_226 ?_
          refine lv_iload_n hx hb dX5_findForce_229 rfl (lv_at hl 0 rfl) ?_
          refine a_D (j := k) (x := D0 11 k) (ix := k) Z hW rfl (show (0 : Nat) < 1 by decide) (by omega) (by decide) rfl rfl (hag2 11 k rfl) dX5_findForce_230 ?_
          have f29 : fb (8) (FP.dmul (D0 11 k) (D0 11 k)) := fb.mul (hB.bl (show (k : Nat) < nb by omega)) (hB.bl (show (k : Nat) < nb by omega)) (by decide)
          refine lv_dmul hx hb dX5_findForce_231 f29.n64 ?_
          have f30 : fb (12) (FP.dsub (wR D0 i ((J 2 k))) (FP.dmul (D0 11 k) (D0 11 k))) := fb.sub (wR_fb hB hi hj2) f29 (by decide)
          refine lv_dsub hx hb dX5_findForce_232 f30.n64 ?_
          refine lv_dstore_n (lv' := [(3, .double (FP.dsub (wR D0 i ((J 2 k))) (FP.dmul (D0 11 k) (D0 11 k)))), (2, .int (nI k)), (0, .ref (ad 30 0)), (1, .int (nI i))]) hx hb dX5_findForce_233 rfl hl (by decide) rfl (fun ls hl => ?_)
          refine lv_aload_n hx hb dX5_findForce_234 rfl (lv_at hl 2 rfl) ?_
          refine w_getR (v := .ref (ad 56 0)) Z hW kX5 rfl 33 (by decide) q773 (show (0 : Nat) < 1 by decide) rfl rfl dX5_findForce_235 ?_
          refine lv_iload_n hx hb dX5_findForce_238 rfl (lv_at hl 3 rfl) ?_
          refine lv_aload_n hx hb dX5_findForce_239 rfl (lv_at hl 2 rfl) ?_
          refine w_getR (v := .ref (ad 56 0)) Z hW kX5 rfl 33 (by decide) q773 (show (0 : Nat) < 1 by decide) rfl rfl dX5_findForce_240 ?_
          refine lv_iload_n hx hb dX5_findForce_243 rfl (lv_at hl 3 rfl) ?_
          refine a_D (j := i) (x := (fBo D0 J i (fPa D0 J i n) k).1) (ix := i) Z hW rfl (show (0 : Nat) < 1 by decide) (by omega) (by decide) rfl rfl g30 dX5_findForce_244 ?_
          refine lv_aload_n hx hb dX5_findForce_245 rfl (lv_at hl 2 rfl) ?_
          refine w_getR (v := .ref (ad 45 0)) Z hW kX5 rfl 21 (by decide) q761 (show (0 : Nat) < 1 by decide) rfl rfl dX5_findForce_246 ?_
          refine lv_iload_n hx hb dX5_findForce_249 rfl (lv_at hl 1 rfl) ?_
          refine a_D (j := k) (x := D0 10 k) (ix := k) Z hW rfl (show (0 : Nat) < 1 by decide) (by omega) (by decide) rfl rfl (hag2 10 k rfl) dX5_findForce_250 ?_
          refine lv_dload_n hx hb dX5_findForce_251 rfl (lv_at hl 0 rfl) ?_
          have f31 : fb (18) (FP.dmul (D0 10 k) (FP.dsub (wR D0 i ((J 2 k))) (FP.dmul (D0 11 k) (D0 11 k)))) := fb.mul (hB.bk (show (k : Nat) < nb by omega)) f30 (by decide)
          refine lv_dmul hx hb dX5_findForce_252 f31.n64 ?_
          refine lv_aload_n hx hb dX5_findForce_253 rfl (lv_at hl 2 rfl) ?_
          refine g_D (x := wA D0 i ((J 2 k))) Z hW kX5 rfl 45 (by decide) q785 (show (0 : Nat) < 1 by decide) rfl h50 dX5_findForce_254 ?_
          have f32 : fb (23) (FP.dmul (FP.dmul (D0 10 k) (FP.dsub (wR D0 i ((J 2 k))) (FP.dmul (D0 11 k) (D0 11 k)))) (wA D0 i ((J 2 k)))) := fb.mul f31 (wA_fb hB hi hj2) (by decide)
          refine lv_dmul hx hb dX5_findForce_257 f32.n64 ?_
          have f33 : fb ((140 + (k : Int)) + 1) (FP.dadd ((fBo D0 J i (fPa D0 J i n) k).1) (FP.dmul (FP.dmul (D0 10 k) (FP.dsub (wR D0 i ((J 2 k))) (FP.dmul (D0 11 k) (D0 11 k)))) (wA D0 i ((J 2 k))))) := fb.add hfp.1 (f32.mono (show (23 : Int) ≤ 140 + (k : Int) by omega)) (by omega)
          refine lv_dadd hx hb dX5_findForce_258 f33.n64 ?_
          refine w_ads (j := i) (ix := i) Z hW hS rfl (show (0 : Nat) < 1 by decide) rfl (by omega) (by decide) (show (i : Nat) < 10 by omega) rfl rfl dX5_findForce_259 (fun H locs hW hS => ?_)
          refine lv_aload_n hx hb dX5_findForce_260 rfl (lv_at hl 2 rfl) ?_
          refine w_getR (v := .ref (ad 57 0)) Z hW kX5 rfl 34 (by decide) q774 (show (0 : Nat) < 1 by decide) rfl rfl dX5_findForce_261 ?_
          refine lv_iload_n hx hb dX5_findForce_264 rfl (lv_at hl 3 rfl) ?_
          refine lv_aload_n hx hb dX5_findForce_265 rfl (lv_at hl 2 rfl) ?_
          refine w_getR (v := .ref (ad 57 0)) Z hW kX5 rfl 34 (by decide) q774 (show (0 : Nat) < 1 by decide) rfl rfl dX5_findForce_266 ?_
          refine lv_iload_n hx hb dX5_findForce_269 rfl (lv_at hl 3 rfl) ?_
          refine a_D (j := i) (x := (fBo D0 J i (fPa D0 J i n) k).2) (ix := i) Z hW rfl (show (0 : Nat) < 1 by decide) (by omega) (by decide) rfl rfl ((up2_f _ _ _ _ (by decide)).trans g31) dX5_findForce_270 ?_
          refine lv_aload_n hx hb dX5_findForce_271 rfl (lv_at hl 2 rfl) ?_
          refine w_getR (v := .ref (ad 45 0)) Z hW kX5 rfl 21 (by decide) q761 (show (0 : Nat) < 1 by decide) rfl rfl dX5_findForce_272 ?_
          refine lv_iload_n hx hb dX5_findForce_275 rfl (lv_at hl 1 rfl) ?_
          refine a_D (j := k) (x := D0 10 k) (ix := k) Z hW rfl (show (0 : Nat) < 1 by decide) (by omega) (by decide) rfl rfl ((up2_f _ _ _ _ (by decide)).trans (hag2 10 k rfl)) dX5_findForce_276 ?_
          refine lv_dload_n hx hb dX5_findForce_277 rfl (lv_at hl 0 rfl) ?_
          refine lv_dmul hx hb dX5_findForce_278 f31.n64 ?_
          refine lv_aload_n hx hb dX5_findForce_279 rfl (lv_at hl 2 rfl) ?_
          refine g_D (x := wB D0 i ((J 2 k))) Z hW kX5 rfl 46 (by decide) q786 (show (0 : Nat) < 1 by decide) rfl ((up2_f _ _ _ _ (by decide)).trans h51) dX5_findForce_280 ?_
          have f34 : fb (23) (FP.dmul (FP.dmul (D0 10 k) (FP.dsub (wR D0 i ((J 2 k))) (FP.dmul (D0 11 k) (D0 11 k)))) (wB D0 i ((J 2 k)))) := fb.mul f31 (wB_fb hB hi hj2) (by decide)
          refine lv_dmul hx hb dX5_findForce_283 f34.n64 ?_
          have f35 : fb ((140 + (k : Int)) + 1) (FP.dadd ((fBo D0 J i (fPa D0 J i n) k).2) (FP.dmul (FP.dmul (D0 10 k) (FP.dsub (wR D0 i ((J 2 k))) (FP.dmul (D0 11 k) (D0 11 k)))) (wB D0 i ((J 2 k))))) := fb.add hfp.2 (f34.mono (show (23 : Int) ≤ 140 + (k : Int) by omega)) (by omega)
          refine lv_dadd hx hb dX5_findForce_284 f35.n64 ?_
          refine w_ads (j := i) (ix := i) Z hW hS rfl (show (0 : Nat) < 1 by decide) rfl (by omega) (by decide) (show (i : Nat) < 10 by omega) rfl rfl dX5_findForce_285 (fun H locs hW hS => ?_)
          refine lv_iinc1 (lv' := [(2, .int (nI (k + 1))), (3, .double (FP.dsub (wR D0 i ((J 2 k))) (FP.dmul (D0 11 k) (D0 11 k)))), (0, .ref (ad 30 0)), (1, .int (nI i))]) hx hb dX5_findForce_286 hl (k := 1) rfl (by decide) rfl (fun ls hl => ?_)
          refine lv_goto (tgt := 154) hx hb dX5_findForce_289 (by decide) ?_
          have e : fBo D0 J i (fPa D0 J i n) (k + 1) = _ := (if_neg c20).trans (if_pos c28)
          exact ih _ _ _ ⟨_, lv_sub hl [0, 2, 3] rfl, hW, hS, by rw [e]; exact exc_fxy (hexw.trans hex)⟩
        · refine lv_goto (tgt := 286) hx hb dX5_findForce_182 (by decide) ?_
          refine lv_iinc1 (lv' := [(2, .int (nI (k + 1))), (0, .ref (ad 30 0)), (1, .int (nI i))]) hx hb dX5_findForce_286 hl (k := 0) rfl (by decide) rfl (fun ls hl => ?_)
          refine lv_goto (tgt := 154) hx hb dX5_findForce_289 (by decide) ?_
          have e : fBo D0 J i (fPa D0 J i n) (k + 1) = _ := (if_neg c20).trans (if_neg c28)
          exact ih _ _ _ ⟨_, lv_sub hl [0, 1, 2] rfl, hW, hS, by rw [e]; exact hex⟩
    · intro H locs ls hP
      obtain ⟨D1, hl, hW, hS, hex⟩ := hP
      refine lv_iload_n hx hb dX5_findForce_154 rfl (lv_at hl 0 rfl) ?_
      refine lv_aload_n hx hb dX5_findForce_155 rfl (lv_at hl 1 rfl) ?_
      refine g_I (x := nI nb) Z hW kX5 rfl 15 (by decide) q755 (show (0 : Nat) < 1 by decide) rfl hM.cb dX5_findForce_156 ?_
      refine lv_nge (tgt := 292) hx hb (by omega) (by omega) dX5_findForce_159 (by decide) (fun c => ?_) (fun c => absurd c (by omega))
      rw [hQ]
      exact rW_v hx hb hr hlk hS (⟨D1, hex, hW⟩) dX5_findForce_292
set_option maxHeartbeats 4000000 in
theorem m_X5_neighbours (l : Launch) (A : Nat → Prop) (Dg : va_G) (dA : Nat → ClassId) (ad : Nat → Nat → Nat) (n : Nat) (nb : Nat) (nr : Nat) (J : Nat → Nat → Nat) (D : T64) (I : T32) (D0 : T64) (hag : agD D D0) (hB : Bd n nb nr J D0) (hn : I 20 0 = nI n) (li : Int32) (hli : I 23 0 = li) : MX l yX5_neighbours cX5_neighbours 3 none [] (rmx 4 0 0) [.ref (ad 30 0)] (Pw Dg dA (mW A Dg dA ad D I)) (qW (fun _ : Unit => none) (fun _ H => ∃ D1 I1, mW A Dg dA ad D1 I1 H ∧ ((oldB D0 li n = false ∧ exc sS D1 D ∧ I1 = I) ∨ (oldB D0 li n = true ∧ exc sS D1 (lsT n D) ∧ I1 = up2 (up2 I 25 0 (I 25 0 + nI 1)) 23 0 (nI 1)))) A) 0 0 A := by
  refine MX.start (Nat.le_of_ble_eq_true rfl) ?_
  intro p e s m args below meth c ls Q hAt hPc hl hQ
  have hl : lv_has ls 3 [(0, .ref (ad 30 0))] := hl
  obtain ⟨hx, hb, hml, hr, hlk, hown, hnm, htab, hts⟩ := id hAt
  obtain ⟨hK, hW⟩ := hPc
  have Z := Cx.of hAt hK
  have hS : va_S A s.heap s.heap [] := va_S.rf
  have hn10 := hB.n10
  refine wb_meetH (fun H locs ls => ∃ D1, lv_has ls 3 [(1, .int (nI (bO1 (oldB D0 li n)))), (0, .ref (ad 30 0))] ∧ mW A Dg dA ad D1 I H ∧ va_S A s.heap H locs ∧ exc sS D1 D) 88 ?_ ?_
  · intro H locs ls hP
    obtain ⟨D1, hl, hW, hS, hex⟩ := hP
    have hag1 := hag.S hex
    refine lv_iload_n hx hb dX5_neighbours_88 rfl (lv_at hl 0 rfl) ?_
    refine lv_if_ne (tgt := 93) hx hb dX5_neighbours_89 (by decide) (fun c1 => ?_) (fun c1 => ?_)
    · have hbo : oldB D0 li n = true := bO1_nz c1
      refine lv_aload_n hx hb dX5_neighbours_93 rfl (lv_at hl 1 rfl) ?_
      refine lv_dup hx hb dX5_neighbours_94 rfl ?_
      refine g_I (x := I 25 0) Z hW kX5 rfl 37 (by decide) q777 (show (0 : Nat) < 1 by decide) rfl rfl dX5_neighbours_95 ?_
      refine lv_iconst (v := nI 1) hx hb dX5_neighbours_98 rfl ?_
      refine lv_iadd hx hb dX5_neighbours_99 ?_
      refine w_putI Z hW hS kX5 rfl 37 (by decide) (by decide) q777 rfl (show (0 : Nat) < 1 by decide) rfl rfl rfl dX5_neighbours_100 (fun H locs hW hS => ?_)
      refine lv_aload_n hx hb dX5_neighbours_103 rfl (lv_at hl 1 rfl) ?_
      refine lv_iconst (v := nI 1) hx hb dX5_neighbours_104 rfl ?_
      refine w_putI Z hW hS kX5 rfl 26 (by decide) (by decide) q766 rfl (show (0 : Nat) < 1 by decide) rfl rfl rfl dX5_neighbours_105 (fun H locs hW hS => ?_)
      refine lv_iconst (v := nI 0) hx hb dX5_neighbours_108 rfl ?_
      refine lv_istore_n (lv' := [(2, .int (nI 0)), (1, .int (nI (bO1 (oldB D0 li n)))), (0, .ref (ad 30 0))]) hx hb dX5_neighbours_109 rfl hl (by decide) rfl (fun ls hl => ?_)
      refine wl_up n 0 (fun i H locs ls => lv_has ls 3 [(2, .int (nI i)), (0, .ref (ad 30 0))] ∧ mW A Dg dA ad ((lsT i D1)) ((up2 (up2 I 25 0 (I 25 0 + nI 1)) 23 0 (nI 1))) H ∧ va_S A s.heap H locs) (Nat.zero_le _) ⟨lv_sub hl [0, 2] rfl, by rw [lsT_0]; exact hW, hS⟩ ?_ ?_
      · intro i H locs ls hi hP ih
        obtain ⟨hl, hW, hS⟩ := hP
        refine lv_iload_n hx hb dX5_neighbours_110 rfl (lv_at hl 0 rfl) ?_
        refine lv_aload_n hx hb dX5_neighbours_111 rfl (lv_at hl 1 rfl) ?_
        refine g_I (x := nI n) Z hW kX5 rfl 14 (by decide) q754 (show (0 : Nat) < 1 by decide) rfl hn dX5_neighbours_112 ?_
        refine lv_nge (tgt := 148) hx hb (by omega) (by omega) dX5_neighbours_115 (by decide) (fun c => absurd c (by omega)) (fun c => ?_)
        refine lv_aload_n hx hb dX5_neighbours_118 rfl (lv_at hl 1 rfl) ?_
        refine w_getR (v := .ref (ad 48 0)) Z hW kX5 rfl 24 (by decide) q764 (show (0 : Nat) < 1 by decide) rfl rfl dX5_neighbours_119 ?_
        refine lv_iload_n hx hb dX5_neighbours_122 rfl (lv_at hl 0 rfl) ?_
        refine lv_aload_n hx hb dX5_neighbours_123 rfl (lv_at hl 1 rfl) ?_
        refine w_getR (v := .ref (ad 31 0)) Z hW kX5 rfl 4 (by decide) q744 (show (0 : Nat) < 1 by decide) rfl rfl dX5_neighbours_124 ?_
        refine lv_iload_n hx hb dX5_neighbours_127 rfl (lv_at hl 0 rfl) ?_
        refine a_D (j := i) (x := D1 0 i) (ix := i) Z hW rfl (show (0 : Nat) < 1 by decide) (by omega) (by decide) rfl rfl (lsT_out (by decide) (by decide)) dX5_neighbours_128 ?_
        refine w_ads (j := i) (ix := i) Z hW hS rfl (show (0 : Nat) < 1 by decide) rfl (by omega) (by decide) (show (i : Nat) < 10 by omega) rfl rfl dX5_neighbours_129 (fun H locs hW hS => ?_)
        refine lv_aload_n hx hb dX5_neighbours_130 rfl (lv_at hl 1 rfl) ?_
        refine w_getR (v := .ref (ad 49 0)) Z hW kX5 rfl 25 (by decide) q765 (show (0 : Nat) < 1 by decide) rfl rfl dX5_neighbours_131 ?_
        refine lv_iload_n hx hb dX5_neighbours_134 rfl (lv_at hl 0 rfl) ?_
        refine lv_aload_n hx hb dX5_neighbours_135 rfl (lv_at hl 1 rfl) ?_
        refine w_getR (v := .ref (ad 32 0)) Z hW kX5 rfl 5 (by decide) q745 (show (0 : Nat) < 1 by decide) rfl rfl dX5_neighbours_136 ?_
        refine lv_iload_n hx hb dX5_neighbours_139 rfl (lv_at hl 0 rfl) ?_
        refine a_D (j := i) (x := D1 1 i) (ix := i) Z hW rfl (show (0 : Nat) < 1 by decide) (by omega) (by decide) rfl rfl ((up2_f _ _ _ _ (by decide)).trans (lsT_out (by decide) (by decide))) dX5_neighbours_140 ?_
        refine w_ads (j := i) (ix := i) Z hW hS rfl (show (0 : Nat) < 1 by decide) rfl (by omega) (by decide) (show (i : Nat) < 10 by omega) rfl rfl dX5_neighbours_141 (fun H locs hW hS => ?_)
        refine lv_iinc1 (lv' := [(2, .int (nI (i + 1))), (0, .ref (ad 30 0))]) hx hb dX5_neighbours_142 hl (k := 0) rfl (by decide) rfl (fun ls hl => ?_)
        refine lv_goto (tgt := 110) hx hb dX5_neighbours_145 (by decide) ?_
        exact ih _ _ _ ⟨lv_sub hl [0, 1] rfl, lsT_step ▸ hW, hS⟩
      · intro H locs ls hP
        obtain ⟨hl, hW, hS⟩ := hP
        refine lv_iload_n hx hb dX5_neighbours_110 rfl (lv_at hl 0 rfl) ?_
        refine lv_aload_n hx hb dX5_neighbours_111 rfl (lv_at hl 1 rfl) ?_
        refine g_I (x := nI n) Z hW kX5 rfl 14 (by decide) q754 (show (0 : Nat) < 1 by decide) rfl hn dX5_neighbours_112 ?_
        refine lv_nge (tgt := 148) hx hb (by omega) (by omega) dX5_neighbours_115 (by decide) (fun c => ?_) (fun c => absurd c (by omega))
        rw [hQ]
        exact rW_v hx hb hr hlk hS (⟨_, _, hW, Or.inr ⟨hbo, exS_ls hex, rfl⟩⟩) dX5_neighbours_148
    · have hbo : oldB D0 li n = false := bO1_z c1
      rw [hQ]
      exact rW_v hx hb hr hlk hS (⟨D1, I, hW, Or.inl ⟨hbo, hex, rfl⟩⟩) dX5_neighbours_92
  intro hmeet
  refine lv_aload_n hx hb dX5_neighbours_0 rfl (lv_at hl 0 rfl) ?_
  refine g_I (x := li) Z hW kX5 rfl 26 (by decide) q766 (show (0 : Nat) < 1 by decide) rfl hli dX5_neighbours_1 ?_
  refine lv_if_ne (tgt := 11) hx hb dX5_neighbours_4 (by decide) (fun c2 => ?_) (fun c2 => ?_)
  · refine lv_iconst (v := nI 0) hx hb dX5_neighbours_11 rfl ?_
    refine lv_istore_n (lv' := [(1, .int (nI 0)), (0, .ref (ad 30 0))]) hx hb dX5_neighbours_12 rfl hl (by decide) rfl (fun ls hl => ?_)
    refine lv_iconst (v := nI 0) hx hb dX5_neighbours_13 rfl ?_
    refine lv_istore_n (lv' := [(2, .int (nI 0)), (1, .int (nI 0)), (0, .ref (ad 30 0))]) hx hb dX5_neighbours_14 rfl hl (by decide) rfl (fun ls hl => ?_)
    have hl : lv_has ls 3 [(2, .int (nI 0)), (1, .int (nI (bO1 (oldB D0 li 0)))), (0, .ref (ad 30 0))] := by rw [oldB_00 c2]; exact lv_sub hl [0, 1, 2] rfl
    refine wl_up n 0 (fun i H locs ls => ∃ D1, lv_has ls 3 [(2, .int (nI i)), (1, .int (nI (bO1 (oldB D0 li i)))), (0, .ref (ad 30 0))] ∧ mW A Dg dA ad D1 I H ∧ va_S A s.heap H locs ∧ exc sS D1 D) (Nat.zero_le _) ⟨D, hl, hW, hS, exc.rf⟩ ?_ ?_
    · intro i H locs ls hi hP ih
      obtain ⟨D1, hl, hW, hS, hex⟩ := hP
      have hag1 := hag.S hex
      refine lv_iload_n hx hb dX5_neighbours_15 rfl (lv_at hl 0 rfl) ?_
      refine lv_aload_n hx hb dX5_neighbours_16 rfl (lv_at hl 2 rfl) ?_
      refine g_I (x := nI n) Z hW kX5 rfl 14 (by decide) q754 (show (0 : Nat) < 1 by decide) rfl hn dX5_neighbours_17 ?_
      refine lv_nge (tgt := 88) hx hb (by omega) (by omega) dX5_neighbours_20 (by decide) (fun c => absurd c (by omega)) (fun c => ?_)
      refine lv_iload_n hx hb dX5_neighbours_23 rfl (lv_at hl 1 rfl) ?_
      refine lv_if_ne (tgt := 88) hx hb dX5_neighbours_24 (by decide) (fun c3 => ?_) (fun c3 => ?_)
      · have hbu := oldB_up (Nat.le_of_lt hi) (bO1_nz c3)
        have hl : lv_has ls 3 [(1, .int (nI (bO1 (oldB D0 li n)))), (0, .ref (ad 30 0))] := by rw [hbu.2, ← hbu.1]; exact lv_sub hl [1, 2] rfl
        exact hmeet _ _ _ ⟨D1, hl, hW, hS, hex⟩
      · have hb0 := bO1_z c3
        refine lv_aload_n hx hb dX5_neighbours_27 rfl (lv_at hl 2 rfl) ?_
        refine lv_aload_n hx hb dX5_neighbours_28 rfl (lv_at hl 2 rfl) ?_
        refine w_getR (v := .ref (ad 48 0)) Z hW kX5 rfl 24 (by decide) q764 (show (0 : Nat) < 1 by decide) rfl rfl dX5_neighbours_29 ?_
        refine lv_iload_n hx hb dX5_neighbours_32 rfl (lv_at hl 0 rfl) ?_
        refine a_D (j := i) (x := D0 5 i) (ix := i) Z hW rfl (show (0 : Nat) < 1 by decide) (by omega) (by decide) rfl rfl (hag1 5 i rfl) dX5_neighbours_33 ?_
        refine lv_aload_n hx hb dX5_neighbours_34 rfl (lv_at hl 2 rfl) ?_
        refine w_getR (v := .ref (ad 49 0)) Z hW kX5 rfl 25 (by decide) q765 (show (0 : Nat) < 1 by decide) rfl rfl dX5_neighbours_35 ?_
        refine lv_iload_n hx hb dX5_neighbours_38 rfl (lv_at hl 0 rfl) ?_
        refine a_D (j := i) (x := D0 6 i) (ix := i) Z hW rfl (show (0 : Nat) < 1 by decide) (by omega) (by decide) rfl rfl (hag1 6 i rfl) dX5_neighbours_39 ?_
        refine lv_aload_n hx hb dX5_neighbours_40 rfl (lv_at hl 2 rfl) ?_
        refine w_getR (v := .ref (ad 31 0)) Z hW kX5 rfl 4 (by decide) q744 (show (0 : Nat) < 1 by decide) rfl rfl dX5_neighbours_41 ?_
        refine lv_iload_n hx hb dX5_neighbours_44 rfl (lv_at hl 0 rfl) ?_
        refine a_D (j := i) (x := D0 0 i) (ix := i) Z hW rfl (show (0 : Nat) < 1 by decide) (by omega) (by decide) rfl rfl (hag1 0 i rfl) dX5_neighbours_45 ?_
        refine lv_aload_n hx hb dX5_neighbours_46 rfl (lv_at hl 2 rfl) ?_
        refine w_getR (v := .ref (ad 32 0)) Z hW kX5 rfl 5 (by decide) q745 (show (0 : Nat) < 1 by decide) rfl rfl dX5_neighbours_47 ?_
        refine lv_iload_n hx hb dX5_neighbours_50 rfl (lv_at hl 0 rfl) ?_
        refine a_D (j := i) (x := D0 1 i) (ix := i) Z hW rfl (show (0 : Nat) < 1 by decide) (by omega) (by decide) rfl rfl (hag1 1 i rfl) dX5_neighbours_51 ?_
        refine wx_wv (wx_V (As := [.double (D0 5 i), .double (D0 6 i), .double (D0 0 i), .double (D0 1 i)]) (rest := []) hAt.fix (m_X5_way l A Dg dA ad n nb nr J D1 I (D0 20 0) ((hag1 20 0 rfl)) hB.side (D0 5 i) (D0 6 i) (D0 0 i) (D0 1 i) (((hB.lx hi).mono (by decide))) (((hB.ly hi).mono (by decide))) (((hB.x hi).mono (by decide))) (((hB.y hi).mono (by decide)))) q968 q970 qs28 q971 wn_X5_way ⟨Nat.le_of_ble_eq_true rfl, Nat.le_of_ble_eq_true rfl, Nat.le_of_ble_eq_true rfl, Nat.le_of_ble_eq_true rfl⟩ (w_recv hK hW kX5 rfl (show (0 : Nat) < 1 by decide)) (Pw.of hK hW) hl.1 (Nat.le_of_ble_eq_true rfl) dX5_neighbours_52) hS (fun H locs hW hz hS => ?_)
        obtain ⟨D2, hexw, h50, h51, h52, hW⟩ := hW
        have hag2 := hag1.S hexw
        refine lv_aload_n hx hb dX5_neighbours_55 rfl (lv_at hl 2 rfl) ?_
        refine g_D (x := vR D0 i) Z hW kX5 rfl 47 (by decide) q787 (show (0 : Nat) < 1 by decide) rfl h52 dX5_neighbours_56 ?_
        refine lv_aload_n hx hb dX5_neighbours_59 rfl (lv_at hl 2 rfl) ?_
        refine g_D (x := D0 22 0) Z hW kX5 rfl 2 (by decide) q742 (show (0 : Nat) < 1 by decide) rfl (hag2 22 0 rfl) dX5_neighbours_60 ?_
        refine lv_ldc2d (v := 4602678819172646912) hx hb hown (hts _ (lw_car_all q737)) dX5_neighbours_63 ?_
        have f4 : fb (1) (FP.dmul (D0 22 0) 4602678819172646912) := fb.mul hB.skin fc_4602678819172646912 (by decide)
        refine lv_dmul hx hb dX5_neighbours_66 f4.n64 ?_
        refine lv_aload_n hx hb dX5_neighbours_67 rfl (lv_at hl 2 rfl) ?_
        refine g_D (x := D0 22 0) Z hW kX5 rfl 2 (by decide) q742 (show (0 : Nat) < 1 by decide) rfl (hag2 22 0 rfl) dX5_neighbours_68 ?_
        refine lv_ldc2d (v := 4602678819172646912) hx hb hown (hts _ (lw_car_all q737)) dX5_neighbours_71 ?_
        refine lv_dmul hx hb dX5_neighbours_74 f4.n64 ?_
        have f5 : fb (2) (FP.dmul (FP.dmul (D0 22 0) 4602678819172646912) (FP.dmul (D0 22 0) 4602678819172646912)) := fb.mul f4 f4 (by decide)
        refine lv_dmul hx hb dX5_neighbours_75 f5.n64 ?_
        refine lv_dl_le (tgt := 82) hx hb dX5_neighbours_76 dX5_neighbours_77 (by decide) (fun c6 => ?_) (fun c6 => ?_)
        · refine lv_iinc1 (lv' := [(2, .int (nI (i + 1))), (1, .int (nI (bO1 (oldB D0 li i)))), (0, .ref (ad 30 0))]) hx hb dX5_neighbours_82 hl (k := 0) rfl (by decide) rfl (fun ls hl => ?_)
          refine lv_goto (tgt := 15) hx hb dX5_neighbours_85 (by decide) ?_
          have hl : lv_has ls 3 [(2, .int (nI (i + 1))), (1, .int (nI (bO1 (oldB D0 li (i + 1))))), (0, .ref (ad 30 0))] := by rw [oldB_no hb0 c6, ← hb0]; exact lv_sub hl [0, 1, 2] rfl
          exact ih _ _ _ ⟨_, hl, hW, hS, hexw.trans hex⟩
        · refine lv_iconst (v := nI 1) hx hb dX5_neighbours_80 rfl ?_
          refine lv_istore_n (lv' := [(1, .int (nI 1)), (2, .int (nI i)), (0, .ref (ad 30 0))]) hx hb dX5_neighbours_81 rfl hl (by decide) rfl (fun ls hl => ?_)
          refine lv_iinc1 (lv' := [(2, .int (nI (i + 1))), (1, .int (nI 1)), (0, .ref (ad 30 0))]) hx hb dX5_neighbours_82 hl (k := 1) rfl (by decide) rfl (fun ls hl => ?_)
          refine lv_goto (tgt := 15) hx hb dX5_neighbours_85 (by decide) ?_
          have hl : lv_has ls 3 [(2, .int (nI (i + 1))), (1, .int (nI (bO1 (oldB D0 li (i + 1))))), (0, .ref (ad 30 0))] := by rw [oldB_yes c6]; exact lv_sub hl [0, 1, 2] rfl
          exact ih _ _ _ ⟨_, hl, hW, hS, hexw.trans hex⟩
    · intro H locs ls hP
      obtain ⟨D1, hl, hW, hS, hex⟩ := hP
      refine lv_iload_n hx hb dX5_neighbours_15 rfl (lv_at hl 0 rfl) ?_
      refine lv_aload_n hx hb dX5_neighbours_16 rfl (lv_at hl 2 rfl) ?_
      refine g_I (x := nI n) Z hW kX5 rfl 14 (by decide) q754 (show (0 : Nat) < 1 by decide) rfl hn dX5_neighbours_17 ?_
      refine lv_nge (tgt := 88) hx hb (by omega) (by omega) dX5_neighbours_20 (by decide) (fun c => ?_) (fun c => absurd c (by omega))
      exact hmeet _ _ _ ⟨D1, lv_sub hl [1, 2] rfl, hW, hS, hex⟩
  · refine lv_iconst (v := nI 1) hx hb dX5_neighbours_7 rfl ?_
    refine lv_goto (tgt := 12) hx hb dX5_neighbours_8 (by decide) ?_
    refine lv_istore_n (lv' := [(1, .int (nI 1)), (0, .ref (ad 30 0))]) hx hb dX5_neighbours_12 rfl hl (by decide) rfl (fun ls hl => ?_)
    refine lv_iconst (v := nI 0) hx hb dX5_neighbours_13 rfl ?_
    refine lv_istore_n (lv' := [(2, .int (nI 0)), (1, .int (nI 1)), (0, .ref (ad 30 0))]) hx hb dX5_neighbours_14 rfl hl (by decide) rfl (fun ls hl => ?_)
    have hl : lv_has ls 3 [(2, .int (nI 0)), (1, .int (nI (bO1 (oldB D0 li 0)))), (0, .ref (ad 30 0))] := by rw [oldB_01 c2]; exact lv_sub hl [0, 1, 2] rfl
    refine wl_up n 0 (fun i H locs ls => ∃ D1, lv_has ls 3 [(2, .int (nI i)), (1, .int (nI (bO1 (oldB D0 li i)))), (0, .ref (ad 30 0))] ∧ mW A Dg dA ad D1 I H ∧ va_S A s.heap H locs ∧ exc sS D1 D) (Nat.zero_le _) ⟨D, hl, hW, hS, exc.rf⟩ ?_ ?_
    · intro i H locs ls hi hP ih
      obtain ⟨D1, hl, hW, hS, hex⟩ := hP
      have hag1 := hag.S hex
      refine lv_iload_n hx hb dX5_neighbours_15 rfl (lv_at hl 0 rfl) ?_
      refine lv_aload_n hx hb dX5_neighbours_16 rfl (lv_at hl 2 rfl) ?_
      refine g_I (x := nI n) Z hW kX5 rfl 14 (by decide) q754 (show (0 : Nat) < 1 by decide) rfl hn dX5_neighbours_17 ?_
      refine lv_nge (tgt := 88) hx hb (by omega) (by omega) dX5_neighbours_20 (by decide) (fun c => absurd c (by omega)) (fun c => ?_)
      refine lv_iload_n hx hb dX5_neighbours_23 rfl (lv_at hl 1 rfl) ?_
      refine lv_if_ne (tgt := 88) hx hb dX5_neighbours_24 (by decide) (fun c7 => ?_) (fun c7 => ?_)
      · have hbu := oldB_up (Nat.le_of_lt hi) (bO1_nz c7)
        have hl : lv_has ls 3 [(1, .int (nI (bO1 (oldB D0 li n)))), (0, .ref (ad 30 0))] := by rw [hbu.2, ← hbu.1]; exact lv_sub hl [1, 2] rfl
        exact hmeet _ _ _ ⟨D1, hl, hW, hS, hex⟩
      · have hb0 := bO1_z c7
        refine lv_aload_n hx hb dX5_neighbours_27 rfl (lv_at hl 2 rfl) ?_
        refine lv_aload_n hx hb dX5_neighbours_28 rfl (lv_at hl 2 rfl) ?_
        refine w_getR (v := .ref (ad 48 0)) Z hW kX5 rfl 24 (by decide) q764 (show (0 : Nat) < 1 by decide) rfl rfl dX5_neighbours_29 ?_
        refine lv_iload_n hx hb dX5_neighbours_32 rfl (lv_at hl 0 rfl) ?_
        refine a_D (j := i) (x := D0 5 i) (ix := i) Z hW rfl (show (0 : Nat) < 1 by decide) (by omega) (by decide) rfl rfl (hag1 5 i rfl) dX5_neighbours_33 ?_
        refine lv_aload_n hx hb dX5_neighbours_34 rfl (lv_at hl 2 rfl) ?_
        refine w_getR (v := .ref (ad 49 0)) Z hW kX5 rfl 25 (by decide) q765 (show (0 : Nat) < 1 by decide) rfl rfl dX5_neighbours_35 ?_
        refine lv_iload_n hx hb dX5_neighbours_38 rfl (lv_at hl 0 rfl) ?_
        refine a_D (j := i) (x := D0 6 i) (ix := i) Z hW rfl (show (0 : Nat) < 1 by decide) (by omega) (by decide) rfl rfl (hag1 6 i rfl) dX5_neighbours_39 ?_
        refine lv_aload_n hx hb dX5_neighbours_40 rfl (lv_at hl 2 rfl) ?_
        refine w_getR (v := .ref (ad 31 0)) Z hW kX5 rfl 4 (by decide) q744 (show (0 : Nat) < 1 by decide) rfl rfl dX5_neighbours_41 ?_
        refine lv_iload_n hx hb dX5_neighbours_44 rfl (lv_at hl 0 rfl) ?_
        refine a_D (j := i) (x := D0 0 i) (ix := i) Z hW rfl (show (0 : Nat) < 1 by decide) (by omega) (by decide) rfl rfl (hag1 0 i rfl) dX5_neighbours_45 ?_
        refine lv_aload_n hx hb dX5_neighbours_46 rfl (lv_at hl 2 rfl) ?_
        refine w_getR (v := .ref (ad 32 0)) Z hW kX5 rfl 5 (by decide) q745 (show (0 : Nat) < 1 by decide) rfl rfl dX5_neighbours_47 ?_
        refine lv_iload_n hx hb dX5_neighbours_50 rfl (lv_at hl 0 rfl) ?_
        refine a_D (j := i) (x := D0 1 i) (ix := i) Z hW rfl (show (0 : Nat) < 1 by decide) (by omega) (by decide) rfl rfl (hag1 1 i rfl) dX5_neighbours_51 ?_
        refine wx_wv (wx_V (As := [.double (D0 5 i), .double (D0 6 i), .double (D0 0 i), .double (D0 1 i)]) (rest := []) hAt.fix (m_X5_way l A Dg dA ad n nb nr J D1 I (D0 20 0) ((hag1 20 0 rfl)) hB.side (D0 5 i) (D0 6 i) (D0 0 i) (D0 1 i) (((hB.lx hi).mono (by decide))) (((hB.ly hi).mono (by decide))) (((hB.x hi).mono (by decide))) (((hB.y hi).mono (by decide)))) q968 q970 qs28 q971 wn_X5_way ⟨Nat.le_of_ble_eq_true rfl, Nat.le_of_ble_eq_true rfl, Nat.le_of_ble_eq_true rfl, Nat.le_of_ble_eq_true rfl⟩ (w_recv hK hW kX5 rfl (show (0 : Nat) < 1 by decide)) (Pw.of hK hW) hl.1 (Nat.le_of_ble_eq_true rfl) dX5_neighbours_52) hS (fun H locs hW hz hS => ?_)
        obtain ⟨D2, hexw, h50, h51, h52, hW⟩ := hW
        have hag2 := hag1.S hexw
        refine lv_aload_n hx hb dX5_neighbours_55 rfl (lv_at hl 2 rfl) ?_
        refine g_D (x := vR D0 i) Z hW kX5 rfl 47 (by decide) q787 (show (0 : Nat) < 1 by decide) rfl h52 dX5_neighbours_56 ?_
        refine lv_aload_n hx hb dX5_neighbours_59 rfl (lv_at hl 2 rfl) ?_
        refine g_D (x := D0 22 0) Z hW kX5 rfl 2 (by decide) q742 (show (0 : Nat) < 1 by decide) rfl (hag2 22 0 rfl) dX5_neighbours_60 ?_
        refine lv_ldc2d (v := 4602678819172646912) hx hb hown (hts _ (lw_car_all q737)) dX5_neighbours_63 ?_
        have f8 : fb (1) (FP.dmul (D0 22 0) 4602678819172646912) := fb.mul hB.skin fc_4602678819172646912 (by decide)
        refine lv_dmul hx hb dX5_neighbours_66 f8.n64 ?_
        refine lv_aload_n hx hb dX5_neighbours_67 rfl (lv_at hl 2 rfl) ?_
        refine g_D (x := D0 22 0) Z hW kX5 rfl 2 (by decide) q742 (show (0 : Nat) < 1 by decide) rfl (hag2 22 0 rfl) dX5_neighbours_68 ?_
        refine lv_ldc2d (v := 4602678819172646912) hx hb hown (hts _ (lw_car_all q737)) dX5_neighbours_71 ?_
        refine lv_dmul hx hb dX5_neighbours_74 f8.n64 ?_
        have f9 : fb (2) (FP.dmul (FP.dmul (D0 22 0) 4602678819172646912) (FP.dmul (D0 22 0) 4602678819172646912)) := fb.mul f8 f8 (by decide)
        refine lv_dmul hx hb dX5_neighbours_75 f9.n64 ?_
        refine lv_dl_le (tgt := 82) hx hb dX5_neighbours_76 dX5_neighbours_77 (by decide) (fun c10 => ?_) (fun c10 => ?_)
        · refine lv_iinc1 (lv' := [(2, .int (nI (i + 1))), (1, .int (nI (bO1 (oldB D0 li i)))), (0, .ref (ad 30 0))]) hx hb dX5_neighbours_82 hl (k := 0) rfl (by decide) rfl (fun ls hl => ?_)
          refine lv_goto (tgt := 15) hx hb dX5_neighbours_85 (by decide) ?_
          have hl : lv_has ls 3 [(2, .int (nI (i + 1))), (1, .int (nI (bO1 (oldB D0 li (i + 1))))), (0, .ref (ad 30 0))] := by rw [oldB_no hb0 c10, ← hb0]; exact lv_sub hl [0, 1, 2] rfl
          exact ih _ _ _ ⟨_, hl, hW, hS, hexw.trans hex⟩
        · refine lv_iconst (v := nI 1) hx hb dX5_neighbours_80 rfl ?_
          refine lv_istore_n (lv' := [(1, .int (nI 1)), (2, .int (nI i)), (0, .ref (ad 30 0))]) hx hb dX5_neighbours_81 rfl hl (by decide) rfl (fun ls hl => ?_)
          refine lv_iinc1 (lv' := [(2, .int (nI (i + 1))), (1, .int (nI 1)), (0, .ref (ad 30 0))]) hx hb dX5_neighbours_82 hl (k := 1) rfl (by decide) rfl (fun ls hl => ?_)
          refine lv_goto (tgt := 15) hx hb dX5_neighbours_85 (by decide) ?_
          have hl : lv_has ls 3 [(2, .int (nI (i + 1))), (1, .int (nI (bO1 (oldB D0 li (i + 1))))), (0, .ref (ad 30 0))] := by rw [oldB_yes c10]; exact lv_sub hl [0, 1, 2] rfl
          exact ih _ _ _ ⟨_, hl, hW, hS, hexw.trans hex⟩
    · intro H locs ls hP
      obtain ⟨D1, hl, hW, hS, hex⟩ := hP
      refine lv_iload_n hx hb dX5_neighbours_15 rfl (lv_at hl 0 rfl) ?_
      refine lv_aload_n hx hb dX5_neighbours_16 rfl (lv_at hl 2 rfl) ?_
      refine g_I (x := nI n) Z hW kX5 rfl 14 (by decide) q754 (show (0 : Nat) < 1 by decide) rfl hn dX5_neighbours_17 ?_
      refine lv_nge (tgt := 88) hx hb (by omega) (by omega) dX5_neighbours_20 (by decide) (fun c => ?_) (fun c => absurd c (by omega))
      exact hmeet _ _ _ ⟨D1, lv_sub hl [1, 2] rfl, hW, hS, hex⟩
set_option maxHeartbeats 4000000 in
theorem m_X5_kick (l : Launch) (A : Nat → Prop) (Dg : va_G) (dA : Nat → ClassId) (ad : Nat → Nat → Nat) (n : Nat) (nb : Nat) (nr : Nat) (J : Nat → Nat → Nat) (D : T64) (I : T32) (hB : Bd n nb nr J D) (hn : I 20 0 = nI n) (dt : UInt64) (hdt : dtOK dt) (hu : Bu 20 n D) (hf : ∀ i, i < n → fb 160 (D 30 i) ∧ fb 160 (D 31 i)) : MX l yX5_kick cX5_kick 4 none [] (rmx 1 0 0) [.ref (ad 30 0), .double (dt)] (Pw Dg dA (mW A Dg dA ad D I)) (qW (fun _ : Unit => none) (fun _ H => mW A Dg dA ad ((psD (FP.dmul 4602678819172646912 dt) n D I)) I H) A) 0 0 A := by
  refine MX.start (Nat.le_of_ble_eq_true rfl) ?_
  intro p e s m args below meth c ls Q hAt hPc hl hQ
  have hl : lv_has ls 4 [(0, .ref (ad 30 0)), (1, .double (dt))] := hl
  obtain ⟨hx, hb, hml, hr, hlk, hown, hnm, htab, hts⟩ := id hAt
  obtain ⟨hK, hW⟩ := hPc
  have Z := Cx.of hAt hK
  have hS : va_S A s.heap s.heap [] := va_S.rf
  have hn10 := hB.n10
  refine lv_iconst (v := nI 0) hx hb dX5_kick_0 rfl ?_
  refine lv_istore_n (lv' := [(3, .int (nI 0)), (0, .ref (ad 30 0)), (1, .double (dt))]) hx hb dX5_kick_1 rfl hl (by decide) rfl (fun ls hl => ?_)
  refine wl_up n 0 (fun i H locs ls => lv_has ls 4 [(3, .int (nI i)), (0, .ref (ad 30 0)), (1, .double (dt))] ∧ mW A Dg dA ad ((psD (FP.dmul 4602678819172646912 dt) i D I)) I H ∧ va_S A s.heap H locs) (Nat.zero_le _) ⟨lv_sub hl [0, 1, 2] rfl, by unfold psD; rw [tg_0]; exact hW, hS⟩ ?_ ?_
  · intro i H locs ls hi hP ih
    obtain ⟨hl, hW, hS⟩ := hP
    refine lv_iload_n hx hb dX5_kick_2 rfl (lv_at hl 0 rfl) ?_
    refine lv_aload_n hx hb dX5_kick_3 rfl (lv_at hl 1 rfl) ?_
    refine g_I (x := nI n) Z hW kX5 rfl 14 (by decide) q754 (show (0 : Nat) < 1 by decide) rfl hn dX5_kick_4 ?_
    refine lv_nge (tgt := 92) hx hb (by omega) (by omega) dX5_kick_7 (by decide) (fun c => absurd c (by omega)) (fun c => ?_)
    refine lv_aload_n hx hb dX5_kick_10 rfl (lv_at hl 1 rfl) ?_
    refine w_getR (v := .ref (ad 37 0)) Z hW kX5 rfl 10 (by decide) q750 (show (0 : Nat) < 1 by decide) rfl rfl dX5_kick_11 ?_
    refine lv_iload_n hx hb dX5_kick_14 rfl (lv_at hl 0 rfl) ?_
    refine a_Z (j := i) (x := I 1 i) (ix := i) Z hW rfl (show (0 : Nat) < 1 by decide) (by omega) (by decide) rfl rfl rfl dX5_kick_15 ?_
    refine lv_if_eq (tgt := 22) hx hb dX5_kick_16 (by decide) (fun c1 => ?_) (fun c1 => ?_)
    · refine lv_aload_n hx hb dX5_kick_22 rfl (lv_at hl 1 rfl) ?_
      refine w_getR (v := .ref (ad 33 0)) Z hW kX5 rfl 6 (by decide) q746 (show (0 : Nat) < 1 by decide) rfl rfl dX5_kick_23 ?_
      refine lv_iload_n hx hb dX5_kick_26 rfl (lv_at hl 0 rfl) ?_
      refine lv_aload_n hx hb dX5_kick_27 rfl (lv_at hl 1 rfl) ?_
      refine w_getR (v := .ref (ad 33 0)) Z hW kX5 rfl 6 (by decide) q746 (show (0 : Nat) < 1 by decide) rfl rfl dX5_kick_28 ?_
      refine lv_iload_n hx hb dX5_kick_31 rfl (lv_at hl 0 rfl) ?_
      refine a_D (j := i) (x := D 2 i) (ix := i) Z hW rfl (show (0 : Nat) < 1 by decide) (by omega) (by decide) rfl rfl (tg_hi (Nat.lt_irrefl i)) dX5_kick_32 ?_
      refine lv_ldc2d (v := 4602678819172646912) hx hb hown (hts _ (lw_car_all q737)) dX5_kick_33 ?_
      refine lv_dload_n hx hb dX5_kick_36 rfl (lv_at hl 2 rfl) ?_
      refine lv_dmul hx hb dX5_kick_37 (dt_half hdt).n64 ?_
      refine lv_aload_n hx hb dX5_kick_38 rfl (lv_at hl 1 rfl) ?_
      refine w_getR (v := .ref (ad 56 0)) Z hW kX5 rfl 33 (by decide) q773 (show (0 : Nat) < 1 by decide) rfl rfl dX5_kick_39 ?_
      refine lv_iload_n hx hb dX5_kick_42 rfl (lv_at hl 0 rfl) ?_
      refine a_D (j := i) (x := D 30 i) (ix := i) Z hW rfl (show (0 : Nat) < 1 by decide) (by omega) (by decide) rfl rfl (tg_hi (Nat.lt_irrefl i)) dX5_kick_43 ?_
      refine lv_aload_n hx hb dX5_kick_44 rfl (lv_at hl 1 rfl) ?_
      refine w_getR (v := .ref (ad 35 0)) Z hW kX5 rfl 8 (by decide) q748 (show (0 : Nat) < 1 by decide) rfl rfl dX5_kick_45 ?_
      refine lv_iload_n hx hb dX5_kick_48 rfl (lv_at hl 0 rfl) ?_
      refine a_D (j := i) (x := D 4 i) (ix := i) Z hW rfl (show (0 : Nat) < 1 by decide) (by omega) (by decide) rfl rfl (tg_hi (Nat.lt_irrefl i)) dX5_kick_49 ?_
      have f2 : fb (163) (FP.ddiv (D 30 i) (D 4 i)) := fb.div (hf i hi).1 (hB.ml hi) (by decide)
      refine lv_ddiv hx hb dX5_kick_50 f2.n64 ?_
      have f3 : fb (163) (FP.dmul (FP.dmul 4602678819172646912 dt) (FP.ddiv (D 30 i) (D 4 i))) := fb.mul (dt_half hdt) f2 (by decide)
      refine lv_dmul hx hb dX5_kick_51 f3.n64 ?_
      have f4 : fb (164) (FP.dadd (D 2 i) (FP.dmul (FP.dmul 4602678819172646912 dt) (FP.ddiv (D 30 i) (D 4 i)))) := fb.add (hu i hi).1 f3 (by decide)
      refine lv_dadd hx hb dX5_kick_52 f4.n64 ?_
      refine w_ads (j := i) (ix := i) Z hW hS rfl (show (0 : Nat) < 1 by decide) rfl (by omega) (by decide) (show (i : Nat) < 10 by omega) rfl rfl dX5_kick_53 (fun H locs hW hS => ?_)
      refine lv_aload_n hx hb dX5_kick_54 rfl (lv_at hl 1 rfl) ?_
      refine w_getR (v := .ref (ad 34 0)) Z hW kX5 rfl 7 (by decide) q747 (show (0 : Nat) < 1 by decide) rfl rfl dX5_kick_55 ?_
      refine lv_iload_n hx hb dX5_kick_58 rfl (lv_at hl 0 rfl) ?_
      refine lv_aload_n hx hb dX5_kick_59 rfl (lv_at hl 1 rfl) ?_
      refine w_getR (v := .ref (ad 34 0)) Z hW kX5 rfl 7 (by decide) q747 (show (0 : Nat) < 1 by decide) rfl rfl dX5_kick_60 ?_
      refine lv_iload_n hx hb dX5_kick_63 rfl (lv_at hl 0 rfl) ?_
      refine a_D (j := i) (x := D 3 i) (ix := i) Z hW rfl (show (0 : Nat) < 1 by decide) (by omega) (by decide) rfl rfl ((up2_f _ _ _ _ (by decide)).trans (tg_hi (Nat.lt_irrefl i))) dX5_kick_64 ?_
      refine lv_ldc2d (v := 4602678819172646912) hx hb hown (hts _ (lw_car_all q737)) dX5_kick_65 ?_
      refine lv_dload_n hx hb dX5_kick_68 rfl (lv_at hl 2 rfl) ?_
      refine lv_dmul hx hb dX5_kick_69 (dt_half hdt).n64 ?_
      refine lv_aload_n hx hb dX5_kick_70 rfl (lv_at hl 1 rfl) ?_
      refine w_getR (v := .ref (ad 57 0)) Z hW kX5 rfl 34 (by decide) q774 (show (0 : Nat) < 1 by decide) rfl rfl dX5_kick_71 ?_
      refine lv_iload_n hx hb dX5_kick_74 rfl (lv_at hl 0 rfl) ?_
      refine a_D (j := i) (x := D 31 i) (ix := i) Z hW rfl (show (0 : Nat) < 1 by decide) (by omega) (by decide) rfl rfl ((up2_f _ _ _ _ (by decide)).trans (tg_hi (Nat.lt_irrefl i))) dX5_kick_75 ?_
      refine lv_aload_n hx hb dX5_kick_76 rfl (lv_at hl 1 rfl) ?_
      refine w_getR (v := .ref (ad 35 0)) Z hW kX5 rfl 8 (by decide) q748 (show (0 : Nat) < 1 by decide) rfl rfl dX5_kick_77 ?_
      refine lv_iload_n hx hb dX5_kick_80 rfl (lv_at hl 0 rfl) ?_
      refine a_D (j := i) (x := D 4 i) (ix := i) Z hW rfl (show (0 : Nat) < 1 by decide) (by omega) (by decide) rfl rfl ((up2_f _ _ _ _ (by decide)).trans (tg_hi (Nat.lt_irrefl i))) dX5_kick_81 ?_
      have f5 : fb (163) (FP.ddiv (D 31 i) (D 4 i)) := fb.div (hf i hi).2 (hB.ml hi) (by decide)
      refine lv_ddiv hx hb dX5_kick_82 f5.n64 ?_
      have f6 : fb (163) (FP.dmul (FP.dmul 4602678819172646912 dt) (FP.ddiv (D 31 i) (D 4 i))) := fb.mul (dt_half hdt) f5 (by decide)
      refine lv_dmul hx hb dX5_kick_83 f6.n64 ?_
      have f7 : fb (164) (FP.dadd (D 3 i) (FP.dmul (FP.dmul 4602678819172646912 dt) (FP.ddiv (D 31 i) (D 4 i)))) := fb.add (hu i hi).2 f6 (by decide)
      refine lv_dadd hx hb dX5_kick_84 f7.n64 ?_
      refine w_ads (j := i) (ix := i) Z hW hS rfl (show (0 : Nat) < 1 by decide) rfl (by omega) (by decide) (show (i : Nat) < 10 by omega) rfl rfl dX5_kick_85 (fun H locs hW hS => ?_)
      refine lv_iinc1 (lv' := [(3, .int (nI (i + 1))), (0, .ref (ad 30 0)), (1, .double (dt))]) hx hb dX5_kick_86 hl (k := 0) rfl (by decide) rfl (fun ls hl => ?_)
      refine lv_goto (tgt := 2) hx hb dX5_kick_89 (by decide) ?_
      have e := psD_step (half := (FP.dmul 4602678819172646912 dt)) (i := i) (D := D) (I := I)
      rw [if_pos c1] at e
      exact ih _ _ _ ⟨lv_sub hl [0, 1, 2] rfl, e ▸ hW, hS⟩
    · refine lv_goto (tgt := 86) hx hb dX5_kick_19 (by decide) ?_
      refine lv_iinc1 (lv' := [(3, .int (nI (i + 1))), (0, .ref (ad 30 0)), (1, .double (dt))]) hx hb dX5_kick_86 hl (k := 0) rfl (by decide) rfl (fun ls hl => ?_)
      refine lv_goto (tgt := 2) hx hb dX5_kick_89 (by decide) ?_
      have e := psD_step (half := (FP.dmul 4602678819172646912 dt)) (i := i) (D := D) (I := I)
      rw [if_neg c1] at e
      exact ih _ _ _ ⟨lv_sub hl [0, 1, 2] rfl, e ▸ hW, hS⟩
  · intro H locs ls hP
    obtain ⟨hl, hW, hS⟩ := hP
    refine lv_iload_n hx hb dX5_kick_2 rfl (lv_at hl 0 rfl) ?_
    refine lv_aload_n hx hb dX5_kick_3 rfl (lv_at hl 1 rfl) ?_
    refine g_I (x := nI n) Z hW kX5 rfl 14 (by decide) q754 (show (0 : Nat) < 1 by decide) rfl hn dX5_kick_4 ?_
    refine lv_nge (tgt := 92) hx hb (by omega) (by omega) dX5_kick_7 (by decide) (fun c => ?_) (fun c => absurd c (by omega))
    rw [hQ]
    exact rW_v hx hb hr hlk hS (hW) dX5_kick_92
set_option maxHeartbeats 4000000 in
theorem m_X5_blown (l : Launch) (A : Nat → Prop) (Dg : va_G) (dA : Nat → ClassId) (ad : Nat → Nat → Nat) (n : Nat) (nb : Nat) (nr : Nat) (J : Nat → Nat → Nat) (D : T64) (I : T32) (hn : I 20 0 = nI n) (hn10 : n ≤ 10) (hv : ∀ i, i < n → Fn (D 2 i) ∧ Fn (D 3 i)) : MX l yX5_blown cX5_blown 2 (some .boolean) [] (rmx 2 0 0) [.ref (ad 30 0)] (Pw Dg dA (mW A Dg dA ad D I)) (qR Value.int (fun r => (r = nI 1 ∧ fastB D n = true) ∨ (r = nI 0 ∧ fastB D n = false))) 0 0 (fun _ => False) := by
  refine MX.start (Nat.le_of_ble_eq_true rfl) ?_
  intro p e s m args below meth c ls Q hAt hPc hl hQ
  have hl : lv_has ls 2 [(0, .ref (ad 30 0))] := hl
  obtain ⟨hx, hb, hml, hr, hlk, hown, hnm, htab, hts⟩ := id hAt
  obtain ⟨hK, hW⟩ := hPc
  have Z := Cx.of hAt hK
  refine lv_iconst (v := nI 0) hx hb dX5_blown_0 rfl ?_
  refine lv_istore_n (lv' := [(1, .int (nI 0)), (0, .ref (ad 30 0))]) hx hb dX5_blown_1 rfl hl (by decide) rfl (fun ls hl => ?_)
  refine wl_up n 0 (fun i H locs ls => H = s.heap ∧ locs = [] ∧ lv_has ls 2 [(1, .int (nI i)), (0, .ref (ad 30 0))] ∧ ∀ j, j < i → ¬ fast (D 2 j) (D 3 j)) (Nat.zero_le _) ⟨rfl, rfl, lv_sub hl [0, 1] rfl, lt_0⟩ ?_ ?_
  · intro i H locs ls hi hP ih
    obtain ⟨rfl, rfl, hl, hlt⟩ := hP
    refine lv_iload_n hx hb dX5_blown_2 rfl (lv_at hl 0 rfl) ?_
    refine lv_aload_n hx hb dX5_blown_3 rfl (lv_at hl 1 rfl) ?_
    refine g_I (x := nI n) Z hW kX5 rfl 14 (by decide) q754 (show (0 : Nat) < 1 by decide) rfl hn dX5_blown_4 ?_
    refine lv_nge (tgt := 54) hx hb (by omega) (by omega) dX5_blown_7 (by decide) (fun c => absurd c (by omega)) (fun c => ?_)
    refine lv_aload_n hx hb dX5_blown_10 rfl (lv_at hl 1 rfl) ?_
    refine w_getR (v := .ref (ad 33 0)) Z hW kX5 rfl 6 (by decide) q746 (show (0 : Nat) < 1 by decide) rfl rfl dX5_blown_11 ?_
    refine lv_iload_n hx hb dX5_blown_14 rfl (lv_at hl 0 rfl) ?_
    refine a_D (j := i) (x := D 2 i) (ix := i) Z hW rfl (show (0 : Nat) < 1 by decide) (by omega) (by decide) rfl rfl rfl dX5_blown_15 ?_
    refine lv_ldc2d (v := 13920209183539462144) hx hb hown (hts _ (lw_car_all q1015)) dX5_blown_16 ?_
    refine lv_ldc2d (v := 4696837146684686336) hx hb hown (hts _ (lw_car_all q1016)) dX5_blown_19 ?_
    refine wx_r (wx_S (As := [.double (D 2 i), .double (13920209183539462144), .double (4696837146684686336)]) (rest := []) hAt.fix (m_X5_within l (D 2 i) 13920209183539462144 4696837146684686336) q896 q897 q50 q898 wn_X5_in ⟨Nat.le_of_ble_eq_true rfl, Nat.le_of_ble_eq_true rfl, Nat.le_of_ble_eq_true rfl, Nat.le_of_ble_eq_true rfl⟩ (fun _ _ _ => trivial) hl.1 (Nat.le_of_ble_eq_true rfl) dX5_blown_22) (fun r hr => ?_)
    rcases hr with ⟨rfl, hq⟩ | ⟨rfl, hq⟩
    · have q1 := hq
      refine lv_if_eq (tgt := 46) hx hb dX5_blown_25 (by decide) (fun h => absurd h (by decide)) (fun _ => ?_)
      refine lv_aload_n hx hb dX5_blown_28 rfl (lv_at hl 1 rfl) ?_
      refine w_getR (v := .ref (ad 34 0)) Z hW kX5 rfl 7 (by decide) q747 (show (0 : Nat) < 1 by decide) rfl rfl dX5_blown_29 ?_
      refine lv_iload_n hx hb dX5_blown_32 rfl (lv_at hl 0 rfl) ?_
      refine a_D (j := i) (x := D 3 i) (ix := i) Z hW rfl (show (0 : Nat) < 1 by decide) (by omega) (by decide) rfl rfl rfl dX5_blown_33 ?_
      refine lv_ldc2d (v := 13920209183539462144) hx hb hown (hts _ (lw_car_all q1015)) dX5_blown_34 ?_
      refine lv_ldc2d (v := 4696837146684686336) hx hb hown (hts _ (lw_car_all q1016)) dX5_blown_37 ?_
      refine wx_r (wx_S (As := [.double (D 3 i), .double (13920209183539462144), .double (4696837146684686336)]) (rest := []) hAt.fix (m_X5_within l (D 3 i) 13920209183539462144 4696837146684686336) q896 q897 q50 q898 wn_X5_in ⟨Nat.le_of_ble_eq_true rfl, Nat.le_of_ble_eq_true rfl, Nat.le_of_ble_eq_true rfl, Nat.le_of_ble_eq_true rfl⟩ (fun _ _ _ => trivial) hl.1 (Nat.le_of_ble_eq_true rfl) dX5_blown_40) (fun r hr => ?_)
      rcases hr with ⟨rfl, hq⟩ | ⟨rfl, hq⟩
      · have q3 := hq
        refine lv_if_ne (tgt := 48) hx hb dX5_blown_43 (by decide) (fun _ => ?_) (fun h => absurd h (by decide))
        refine lv_iinc1 (lv' := [(1, .int (nI (i + 1))), (0, .ref (ad 30 0))]) hx hb dX5_blown_48 hl (k := 0) rfl (by decide) rfl (fun ls hl => ?_)
        refine lv_goto (tgt := 2) hx hb dX5_blown_51 (by decide) ?_
        exact ih _ _ _ ⟨rfl, rfl, lv_sub hl [0, 1] rfl, lt_s hlt (in_nfast q1 q3)⟩
      · have q5 := hq
        refine lv_if_ne (tgt := 48) hx hb dX5_blown_43 (by decide) (fun h => absurd nI_0 h) (fun _ => ?_)
        refine lv_iconst (v := nI 1) hx hb dX5_blown_46 rfl ?_
        rw [hQ]
        exact rR_z hx hb hr hlk (Or.inr rfl) (Or.inl ⟨rfl, fastB_t.mpr ⟨i, hi, nin_fast (hv i hi).1 (hv i hi).2 (Or.inr q5)⟩⟩) dX5_blown_47
    · have q7 := hq
      refine lv_if_eq (tgt := 46) hx hb dX5_blown_25 (by decide) (fun _ => ?_) (fun h => absurd nI_0 h)
      refine lv_iconst (v := nI 1) hx hb dX5_blown_46 rfl ?_
      rw [hQ]
      exact rR_z hx hb hr hlk (Or.inr rfl) (Or.inl ⟨rfl, fastB_t.mpr ⟨i, hi, nin_fast (hv i hi).1 (hv i hi).2 (Or.inl q7)⟩⟩) dX5_blown_47
  · intro H locs ls hP
    obtain ⟨rfl, rfl, hl, hlt⟩ := hP
    refine lv_iload_n hx hb dX5_blown_2 rfl (lv_at hl 0 rfl) ?_
    refine lv_aload_n hx hb dX5_blown_3 rfl (lv_at hl 1 rfl) ?_
    refine g_I (x := nI n) Z hW kX5 rfl 14 (by decide) q754 (show (0 : Nat) < 1 by decide) rfl hn dX5_blown_4 ?_
    refine lv_nge (tgt := 54) hx hb (by omega) (by omega) dX5_blown_7 (by decide) (fun c => ?_) (fun c => absurd c (by omega))
    refine lv_iconst (v := nI 0) hx hb dX5_blown_54 rfl ?_
    rw [hQ]
    exact rR_z hx hb hr hlk (Or.inl rfl) (Or.inr ⟨rfl, fastB_f.mpr hlt⟩) dX5_blown_55
