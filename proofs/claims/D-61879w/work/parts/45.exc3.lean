set_option maxRecDepth 100000
/-! ===== an exception's cell lies apart; rows that say what else stays ===== -/
theorem w_sh_l {k ci : Nat} (h : w_sh k = .inl ci) : ci < 8 := by
  unfold w_sh at h
  split at h <;> first | (cases h; decide) | cases h
theorem w_sh_r {k : Nat} {q : Nat × Nat} (h : w_sh k = .inr q) : q.1 < 9 := by
  unfold w_sh at h
  split at h <;> first | (cases h; decide) | cases h
theorem cls_apart {s : State} {a b : String} {c : ClassId} (h1 : s.vm.findClass a = some c) (h2 : s.vm.findClass b = some c) : a = b := by
  obtain ⟨k, hk, hn⟩ := Vm.findClass_spec h1
  obtain ⟨k', hk', hn'⟩ := Vm.findClass_spec h2
  cases hk.symm.trans hk'
  exact hn.symm.trans hn'
theorem vCl_name {ci : Nat} {r : vw_C} (hci : ci < 8) (h : vCl[ci]? = some r) : r.1 ≠ "java/lang/ArithmeticException" := by
  have : ∀ ci, ci < 8 → ∀ r, vCl[ci]? = some r → (r.1 == "java/lang/ArithmeticException") = false := by
    intro ci hci r hr
    match ci, hci, hr with
    | 0, _, hr => cases hr; decide +kernel
    | 1, _, hr => cases hr; decide +kernel
    | 2, _, hr => cases hr; decide +kernel
    | 3, _, hr => cases hr; decide +kernel
    | 4, _, hr => cases hr; decide +kernel
    | 5, _, hr => cases hr; decide +kernel
    | 6, _, hr => cases hr; decide +kernel
    | 7, _, hr => cases hr; decide +kernel
    | k + 8, hk, _ => omega
  intro e
  have := this ci hci r h
  rw [e] at this
  exact absurd this (by decide +kernel)
theorem dA_name {dA : Nat → ClassId} {s : State} {Dg : va_G} (hK : va_K Dg vCl (vTys dA) s) {t : Nat} (ht : t < 9) (h : s.vm.findClass "java/lang/ArithmeticException" = some (dA t)) : False := by
  match t, ht with
  | 0, _ => obtain ⟨-, kA, comp, -, -, -, h1⟩ := hK.2 0 _ rfl; exact absurd (cls_apart h1 h) (by decide +kernel)
  | 1, _ => obtain ⟨-, kA, comp, -, -, -, h1⟩ := hK.2 1 _ rfl; exact absurd (cls_apart h1 h) (by decide +kernel)
  | 2, _ => obtain ⟨-, kA, comp, -, -, -, h1⟩ := hK.2 2 _ rfl; exact absurd (cls_apart h1 h) (by decide +kernel)
  | 3, _ => obtain ⟨-, kA, comp, -, -, -, h1⟩ := hK.2 3 _ rfl; exact absurd (cls_apart h1 h) (by decide +kernel)
  | 4, _ => have h1 : s.vm.findClass ("[" ++ (FieldType.array .int).toString) = some (dA 4) := (hK.2 4 _ rfl).2; exact absurd (cls_apart h1 h) (by decide +kernel)
  | 5, _ => have h1 : s.vm.findClass ("[" ++ (FieldType.int).toString) = some (dA 5) := (hK.2 5 _ rfl).2; exact absurd (cls_apart h1 h) (by decide +kernel)
  | 6, _ => have h1 : s.vm.findClass ("[" ++ (FieldType.array .double).toString) = some (dA 6) := (hK.2 6 _ rfl).2; exact absurd (cls_apart h1 h) (by decide +kernel)
  | 7, _ => have h1 : s.vm.findClass ("[" ++ (FieldType.double).toString) = some (dA 7) := (hK.2 7 _ rfl).2; exact absurd (cls_apart h1 h) (by decide +kernel)
  | 8, _ => have h1 : s.vm.findClass ("[" ++ (FieldType.boolean).toString) = some (dA 8) := (hK.2 8 _ rfl).2; exact absurd (cls_apart h1 h) (by decide +kernel)
  | k + 9, hk => omega
/-- no cell of the world is the exception -/
theorem x_apart {A : Nat → Prop} {Dg : va_G} {dA : Nat → ClassId} {N : Nat → Nat} {ad : Nat → Nat → Nat} {V : Nat → Nat → Nat → Value} {H : Heap} {s : State} {x : Nat} (hK : va_K Dg vCl (vTys dA) s) (hW : World A Dg dA N ad V H) (hE : ∃ cell, H[x]? = some cell ∧ cell.vm = .none ∧ s.vm.findClass "java/lang/ArithmeticException" = some cell.cls) : ∀ k b, b < N k → ad k b ≠ x := by
  rintro k b hb rfl
  obtain ⟨cell, h1, h2, h3⟩ := hE
  have hc := hW.2.2.2 k b hb
  unfold wd_cell at hc
  split at hc
  · rename_i ci hsh
    obtain ⟨r, q1, q2, cell', q3, q4, -⟩ := hc
    cases h1.symm.trans q3
    obtain ⟨-, hfc, -⟩ := hK.1 ci r q1
    rw [q4] at h3
    exact vCl_name (w_sh_l hsh) q1 (cls_apart hfc h3)
  · rename_i q hsh
    have e := Option.some.inj (h1.symm.trans hc.2)
    rw [e] at h3
    exact dA_name hK (w_sh_r hsh) h3
section FR
variable {p : Program} {l : Launch} {e : Env} {R : Room} {s : State} {m : MethodId} {args : Array Value} {below : List Frame} {meth : Method} {c : Code} {H : Heap} {locs : List Loc} {cells slots : Nat} {Q : State → Prop}
variable {cc : ByteArray} {pc : Nat} {ls : Array Slot} {rest : List Value} {A : Nat → Prop} {Dg : va_G} {dA : Nat → ClassId} {N : Nat → Nat} {ad : Nat → Nat → Nat} {Rf : Nat → Nat → Value} {D : Nat → Nat → UInt64} {I : Nat → Nat → Int32} {own : String}
/-- a call that touches less -/
theorem wx_wvA {post : Unit → Heap → Prop} {A2 : Nat → Prop} {st0 : List Value} {mc ms : Nat} (hr : wx_Run p l e R s m args below meth c H locs cells slots (F0 m pc ls st0) 3 rest (qW (fun _ : Unit => none) post A2) mc ms A2) (hS : va_S A s.heap H locs) (hsub : ∀ q, A2 q → A q)
    (k : ∀ (H1 : Heap) (locs1 : List Loc), post () H1 → H.size ≤ H1.size → va_S A s.heap H1 locs1 → (∀ q, q < H.size → ¬ A2 q → H1[q]? = H[q]?) → W p l e R s m args below meth c H1 locs1 (cells + mc) (slots + ms) Q (F0 m (pc + 3) ls rest)) : W p l e R s m args below meth c H locs cells slots Q (F0 m pc ls st0) := by
  intro T hT X
  obtain ⟨o, st, t, T', L, h0, X', hL, h1, h2, ⟨⟨r, rfl, hp⟩, hF⟩, hsteps⟩ := hr T hT X
  have hF' : va_F A st t := ⟨hF.1, fun q a b => hF.2 q a (fun w => b (hsub q w))⟩
  obtain ⟨t2, a1, b1⟩ := k T'.heap (locs ++ L) (by rw [h1]; exact hp) (by rw [h1, ← h0]; exact hF.1) (wx_S_call hS h0 h1.symm hF' (fun q hq => hsub _ (hL q hq))) (fun q hq hn => by rw [h1, ← h0]; exact hF.2 q (by rw [h0]; exact hq) hn) T' rfl X'
  exact ⟨t2, hsteps t2 a1, b1⟩
theorem w_put_f {V : Nat → Nat → Nat → Value} (Z : Cx p s m args c cc own Dg dA) (hW : World A Dg dA N ad V H) (hS0 : va_S A s.heap H locs) {k b ci : Nat} {C : String} {T : u_T} {Nf : Nat} {ty : Nat → FieldType} (hC : w_cls ci C T Nf ty) (hsh : w_sh k = .inl ci) (j : Nat) (hj : j < Nf) {index : Nat} (hlink : Cond.fieldLink own index (T j).1 (T j).2.1 (T j).2.2.1 ∈ lw_all) (hfin : (T j).2.2.2 = false) (hbN : b < N k) {v : Value} (hn : narrow (ty j) v = v) (hfit : fits (ty j) v = true) (hdg : decode cc pc = .ok (.putfield index, 3))
    (kk : ∀ (H1 : Heap) (locs1 : List Loc), World A Dg dA N ad (wd_up V k b j v) H1 → va_S A s.heap H1 locs1 → (∀ q : Nat, q ≠ ad k b → H1[q]? = H[q]?) → W p l e R s m args below meth c H1 locs1 cells slots Q (F0 m (pc + 3) ls rest)) : W p l e R s m args below meth c H locs cells slots Q (F0 m pc ls (v :: .ref (ad k b) :: rest)) := by
  obtain ⟨hx, hb, hown, hts, hK⟩ := Z
  obtain ⟨hc, hin, hty, hnm⟩ := hC
  have hts' : ∀ w ∈ lw_all, w.before args s = true := fun w h => hts w (lw_car_all h)
  have hap := va_apart (own := own) hts' hin ty hty hnm hK hc
  have h0 := hW.2.2.2 k b hbN
  unfold wd_cell at h0
  rw [hsh] at h0
  obtain ⟨r, h1, h2, cell, q1, q2, q3, q4⟩ := h0
  have hr : r = (C, T, Nf) := Option.some.inj (h1.symm.trans hc)
  subst hr
  obtain ⟨hS, hfc, kC, hkC, hkind⟩ := hK.1 ci _ hc
  obtain ⟨cf, kf, fi, f, hi, hsl⟩ := hS j hj
  have hlay := hts' _ (hin _ (u_in_lay hj))
  unfold u_lay at hlay
  rw [if_neg (by rw [hfin]; decide)] at hlay
  have hst := (u_facts hfc hkC (u_lays hts' hin hj) hi).1
  have h6 := u_store hfc hkC hkind hlay hi (hty j hj) hn hfit
  refine W.putK hx hb (f := f) ⟨hown, hts' _ hlink, ⟨_, _, _, hi⟩, hst⟩ (by rw [q2]; exact h6) q1 q3 (by rw [hsl]; exact k2_hasslot (q4 j hj)) rfl rfl hdg fun H' e1 e2 e3 => ?_
  rw [hsl] at e1 ⊢
  refine kk H' _ (hW.set hbN ?_ e3) (hS0.put e2 e3 (hW.2.2.1 k b hbN)) e3
  unfold wd_cell
  rw [hsh]
  exact ⟨_, hc, h2, _, e1, q2, q3, t_set q4 hap hj v⟩
theorem w_putI_f (Z : Cx p s m args c cc own Dg dA) (hW : World A Dg dA N ad (wV Rf D I) H) (hS0 : va_S A s.heap H locs) {k b ci : Nat} {C : String} {T : u_T} {Nf : Nat} {ty : Nat → FieldType} (hC : w_cls ci C T Nf ty) (hsh : w_sh k = .inl ci) (j : Nat) (hj : j < Nf) (hjl : j < w_len k) {index : Nat} (hlink : Cond.fieldLink own index (T j).1 (T j).2.1 (T j).2.2.1 ∈ lw_all) (hfin : (T j).2.2.2 = false) (hbN : b < N k) {f : Nat} (hs : w_src k j = (1, f, 0)) {x : Int32} (hn : narrow (ty j) (.int x) = .int x) (hfit : fits (ty j) (.int x) = true) (hdg : decode cc pc = .ok (.putfield index, 3))
    (kk : ∀ (H1 : Heap) (locs1 : List Loc), World A Dg dA N ad (wV Rf D (up2 I f b x)) H1 → va_S A s.heap H1 locs1 → (∀ q : Nat, q ≠ ad k b → H1[q]? = H[q]?) → W p l e R s m args below meth c H1 locs1 cells slots Q (F0 m (pc + 3) ls rest)) : W p l e R s m args below meth c H locs cells slots Q (F0 m pc ls (.int x :: .ref (ad k b) :: rest)) :=
  w_put_f Z hW hS0 hC hsh j hj hlink hfin hbN hn hfit hdg (fun H1 locs1 h1 h2 h3 => kk H1 locs1 (h1.putI hbN hjl hs) h2 h3)
theorem w_ais_f (Z : Cx p s m args c cc own Dg dA) (hW : World A Dg dA N ad (wV Rf D I) H) (hS0 : va_S A s.heap H locs) {k b n j : Nat} {i x : Int32} (hsh : w_sh k = .inr (5, n)) (hbN : b < N k) (hi : i = nI j) (hj : j < n) (hn : n < 1000) (hjl : j < w_len k) {f st ix : Nat} (hs : w_src k j = (1, f, st)) (hix : wix st b j = ix) (hdg : decode cc pc = .ok (.iastore, 1))
    (kk : ∀ (H1 : Heap) (locs1 : List Loc), World A Dg dA N ad (wV Rf D (up2 I f ix x)) H1 → va_S A s.heap H1 locs1 → (∀ q : Nat, q ≠ ad k b → H1[q]? = H[q]?) → W p l e R s m args below meth c H1 locs1 cells slots Q (F0 m (pc + 1) ls rest)) : W p l e R s m args below meth c H locs cells slots Q (F0 m pc ls (.int x :: .int i :: .ref (ad k b) :: rest)) := by
  obtain ⟨hx, hb, hown, hts, hK⟩ := Z
  subst hi
  subst hix
  refine W.iast hx hb (w_arr hW hsh hbN) ((hK.2 5 _ rfl).1 n _) (fun q => by cases q) (by rw [arrV_size]; exact nI_in hj (by omega)) rfl rfl hdg fun H1 e1 e2 e3 => ?_
  rw [nI_clamp (by omega)] at e1 ⊢
  exact kk H1 _ ((w_setA hW hsh hbN e1 e3).putI hbN hjl hs) (hS0.put e2 e3 (hW.2.2.1 k b hbN)) e3
end FR
theorem World.inA {A A2 : Nat → Prop} {Dg : va_G} {dA : Nat → ClassId} {N : Nat → Nat} {ad : Nat → Nat → Nat} {V : Nat → Nat → Nat → Value} {H : Heap} (h : World A Dg dA N ad V H) (h2 : ∀ k b, b < N k → A2 (ad k b)) : World A2 Dg dA N ad V H := ⟨h.1, h.2.1, h2, h.2.2.2⟩
/-! saving and giving back -/
def s37 : Nat → Bool := fun f => Nat.beq f 37
def SV (D2 D : T64) (m : Nat) : Prop := ∀ a, a < m → D2 37 (0 + 4 * a) = D 0 a ∧ D2 37 (1 + 4 * a) = D 1 a ∧ D2 37 (2 + 4 * a) = D 2 a ∧ D2 37 (3 + 4 * a) = D 3 a
theorem SV.step {D2 D : T64} {i : Nat} (h : SV D2 D i) (he : exc s37 D2 D) : SV (svD D2 i) D (i + 1) ∧ exc s37 (svD D2 i) D := by
  refine ⟨lt_s (fun a ha => ?_) ?_, (((he.up rfl).up rfl).up rfl).up rfl⟩
  · obtain ⟨h1, h2, h3, h4⟩ := h a ha
    unfold svD
    refine ⟨?_, ?_, ?_, ?_⟩
    · rw [up2_i _ _ _ _ (by omega), up2_i _ _ _ _ (by omega), up2_i _ _ _ _ (by omega), up2_i _ _ _ _ (by omega)]; exact h1
    · rw [up2_i _ _ _ _ (by omega), up2_i _ _ _ _ (by omega), up2_i _ _ _ _ (by omega), up2_i _ _ _ _ (by omega)]; exact h2
    · rw [up2_i _ _ _ _ (by omega), up2_i _ _ _ _ (by omega), up2_i _ _ _ _ (by omega), up2_i _ _ _ _ (by omega)]; exact h3
    · rw [up2_i _ _ _ _ (by omega), up2_i _ _ _ _ (by omega), up2_i _ _ _ _ (by omega), up2_i _ _ _ _ (by omega)]; exact h4
  · unfold svD
    refine ⟨?_, ?_, ?_, ?_⟩
    · rw [up2_i _ _ _ _ (by omega), up2_i _ _ _ _ (by omega), up2_i _ _ _ _ (by omega), up2_same]; exact he 0 i rfl
    · rw [up2_i _ _ _ _ (by omega), up2_i _ _ _ _ (by omega), up2_same]; exact he 1 i rfl
    · rw [up2_i _ _ _ _ (by omega), up2_same]; exact he 2 i rfl
    · rw [up2_same]; exact he 3 i rfl
/-- given back up to m -/
theorem rs_step {D1 D E : T64} {i : Nat} (hsv : SV E D (i + 1)) (he : ∀ j, D1 37 j = E 37 j) : rsD D1 i = up2 (up2 (up2 (up2 D1 0 i (D 0 i)) 1 i (D 1 i)) 2 i (D 2 i)) 3 i (D 3 i) := by
  obtain ⟨h1, h2, h3, h4⟩ := hsv i (by omega)
  unfold rsD
  rw [he, he, he, he, h1, h2, h3, h4]
