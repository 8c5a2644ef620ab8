set_option maxRecDepth 100000
/-! ===== new cells; live places of the tables; final fields; references put ===== -/
/-- which kind's count bounds the places of number f (99: none) -/
def lk (t f : Nat) : Nat := match t with
  | 0 => bif Nat.ble f 6 || (Nat.ble 30 f && Nat.ble f 33) then 2 else bif Nat.beq f 10 || Nat.beq f 11 then 3 else bif Nat.beq f 12 then 4 else 99
  | 1 => bif Nat.beq f 1 then 2 else bif Nat.beq f 32 then 22 else 99
  | _ => bif Nat.beq f 19 || Nat.beq f 26 then 2 else bif Nat.beq f 20 || Nat.beq f 21 then 3 else bif Nat.beq f 22 || Nat.beq f 23 then 4 else 99
def live (N : Nat → Nat) (t f i : Nat) : Prop := (lk t f < 22 → i < N (lk t f)) ∧ (lk t f = 22 → 0 < N 22)
theorem src_lk : (w_ksC.all fun k => (List.range (w_len k)).all fun j => Nat.beq (lk (w_src k j).1 (w_src k j).2.1) 99 || (Nat.beq (lk (w_src k j).1 (w_src k j).2.1) k && (Nat.beq k 22 || Nat.beq (w_src k j).2.2 0))) = true := by decide +kernel
theorem live_at {N : Nat → Nat} {k b j t f st : Nat} (hk : k ∈ w_ksC) (hb : b < N k) (hj : j < w_len k) (hs : w_src k j = (t, f, st)) : live N t f (wix st b j) := by
  have h1 := List.all_eq_true.mp (List.all_eq_true.mp src_lk k hk) j (List.mem_range.mpr hj)
  rw [hs] at h1
  simp only [Bool.or_eq_true, Bool.and_eq_true, Nat.beq_eq] at h1
  unfold live
  rcases h1 with h1 | ⟨h1, h2⟩
  · rw [h1]; exact ⟨fun q => absurd q (by decide), fun q => absurd q (by decide)⟩
  · rw [h1]
    refine ⟨fun q => ?_, fun q => by rw [q] at hb; omega⟩
    rcases h2 with h2 | h2
    · omega
    · subst h2; exact hb
theorem cN_ks {n nb nr no k : Nat} (h : 0 < cN n nb nr no k) : k ∈ w_ksC := by
  unfold cN at h
  split at h <;> first | decide | omega
theorem World.tab {A : Nat → Prop} {Dg : va_G} {dA : Nat → ClassId} {N : Nat → Nat} {ad : Nat → Nat → Nat} {Rf Rf' : Nat → Nat → Value} {D D' : T64} {I I' : T32} {H : Heap} (hks : ∀ k, 0 < N k → k ∈ w_ksC) (h : World A Dg dA N ad (wV Rf D I) H) (hD : ∀ f i, live N 0 f i → D f i = D' f i) (hI : ∀ f i, live N 1 f i → I f i = I' f i) (hR : ∀ f i, live N 2 f i → Rf f i = Rf' f i) : World A Dg dA N ad (wV Rf' D' I') H := by
  refine h.congr (fun k b j hb hj => ?_)
  have hk := hks k (Nat.lt_of_le_of_lt (Nat.zero_le _) hb)
  rcases hs : w_src k j with ⟨t, f, st⟩
  have hl := live_at hk hb hj hs
  unfold wV
  rw [hs]
  match t, hl with
  | 0, hl => show Value.double (D f _) = .double (D' f _); rw [hD _ _ hl]
  | 1, hl => show Value.int (I f _) = .int (I' f _); rw [hI _ _ hl]
  | t + 2, hl => exact hR _ _ hl
theorem World.add {A : Nat → Prop} {Dg : va_G} {dA : Nat → ClassId} {N N' : Nat → Nat} {ad ad' : Nat → Nat → Nat} {V : Nat → Nat → Nat → Value} {H H1 : Heap} (h : World A Dg dA N ad V H) {k : Nat} (hsup : w_sup N') (hN : N' k = N k + 1) (hN' : ∀ k', k' ≠ k → N' k' = N k') (hold : ∀ k' b, (k' ≠ k ∨ b ≠ N k) → ad' k' b = ad k' b) (hnew : ad' k (N k) = H.size) (hA : A H.size) (hk : ∀ q : Nat, q < H.size → H1[q]? = H[q]?) (hc : wd_cell Dg dA k H.size (V k (N k)) H1) : World A Dg dA N' ad' V H1 := by
  have key : ∀ k' b', b' < N' k' → (k' = k ∧ b' = N k) ∨ (b' < N k' ∧ ad' k' b' = ad k' b') := by
    intro k' b' hb
    by_cases e : k' = k
    · subst e
      rw [hN] at hb
      by_cases e2 : b' = N k'
      · exact Or.inl ⟨rfl, e2⟩
      · exact Or.inr ⟨by omega, hold _ _ (Or.inr e2)⟩
    · rw [hN' k' e] at hb
      exact Or.inr ⟨hb, hold _ _ (Or.inl e)⟩
  have lt : ∀ k' b', b' < N k' → ad k' b' < H.size := fun k' b' hb => (h.2.2.2 k' b' hb).lt
  refine ⟨hsup, fun k1 b1 k2 b2 h1 h2 he => ?_, fun k' b' hb => ?_, fun k' b' hb => ?_⟩
  · rcases key k1 b1 h1 with ⟨rfl, rfl⟩ | ⟨q1, e1⟩
    · rcases key k2 b2 h2 with ⟨rfl, rfl⟩ | ⟨q2, e2⟩
      · exact ⟨rfl, rfl⟩
      · rw [hnew, e2] at he
        have := lt k2 b2 q2
        omega
    · rcases key k2 b2 h2 with ⟨rfl, rfl⟩ | ⟨q2, e2⟩
      · rw [hnew, e1] at he
        have := lt k1 b1 q1
        omega
      · rw [e1, e2] at he
        exact h.2.1 k1 b1 k2 b2 q1 q2 he
  · rcases key k' b' hb with ⟨rfl, rfl⟩ | ⟨q, e⟩
    · rw [hnew]; exact hA
    · rw [e]; exact h.2.2.1 k' b' q
  · rcases key k' b' hb with ⟨rfl, rfl⟩ | ⟨q, e⟩
    · rw [hnew]; exact hc
    · rw [e]; exact (h.2.2.2 k' b' q).kept (hk _ (lt k' b' q))
theorem World.drop {A : Nat → Prop} {Dg : va_G} {dA : Nat → ClassId} {N N' : Nat → Nat} {ad : Nat → Nat → Nat} {V : Nat → Nat → Nat → Value} {H : Heap} (h : World A Dg dA N ad V H) (hsup : w_sup N') (hN : ∀ k, N' k ≤ N k) : World A Dg dA N' ad V H :=
  ⟨hsup, fun k b k' b' h1 h2 => h.2.1 k b k' b' (Nat.lt_of_lt_of_le h1 (hN k)) (Nat.lt_of_lt_of_le h2 (hN k')), fun k b hb => h.2.2.1 k b (Nat.lt_of_lt_of_le hb (hN k)), fun k b hb => h.2.2.2 k b (Nat.lt_of_lt_of_le hb (hN k))⟩
theorem World.putRf {A : Nat → Prop} {Dg : va_G} {dA : Nat → ClassId} {N : Nat → Nat} {ad : Nat → Nat → Nat} {Rf : Nat → Nat → Value} {D : T64} {I : T32} {H : Heap} {k b j f st : Nat} {v : Value} (h : World A Dg dA N ad (wd_up (wV Rf D I) k b j v) H) (hb : b < N k) (hj : j < w_len k) (hs : w_src k j = (2, f, st)) (h2 : (w_ksC ++ w_ksM).all (fun k => (List.range (w_len k)).all fun j => Nat.ble (w_src k j).1 2) = true) (hks : ∀ k, 0 < N k → k ∈ w_ksC ++ w_ksM) : World A Dg dA N ad (wV (up2 Rf f (wix st b j) v) D I) H := by
  refine h.congr (fun k' b' j' hb' hj' => ?_)
  by_cases hq : k' = k ∧ b' = b ∧ j' = j
  · obtain ⟨rfl, rfl, rfl⟩ := hq
    simp [wd_up, wV_R hs, up2_same]
  · simp only [wd_up, if_neg hq]
    have h3 := List.all_eq_true.mp (List.all_eq_true.mp h2 k' (hks k' (Nat.lt_of_le_of_lt (Nat.zero_le _) hb'))) j' (List.mem_range.mpr hj')
    rcases hs' : w_src k' j' with ⟨t', f', st'⟩
    rw [hs'] at h3
    unfold wV
    rw [hs']
    match t', hs', h3 with
    | 0, _, _ => rfl
    | 1, _, _ => rfl
    | 2, hs', _ =>
      show Rf f' (wix st' b' j') = up2 Rf f (wix st b j) v f' (wix st' b' j')
      rw [up2_eq, if_neg (h.apart hb hb' hj hj' hs hs' hq)]
    | t' + 3, _, h3 => rw [Nat.ble_eq] at h3; exact absurd h3 (by show ¬ t' + 3 ≤ 2; omega)
theorem src_2 : (w_ksC ++ w_ksM).all (fun k => (List.range (w_len k)).all fun j => Nat.ble (w_src k j).1 2) = true := by decide +kernel
section NEW
variable {p : Program} {l : Launch} {e : Env} {R : Room} {s : State} {m : MethodId} {args : Array Value} {below : List Frame} {meth : Method} {c : Code} {H : Heap} {locs : List Loc} {cells slots : Nat} {Q : State → Prop}
variable {cc : ByteArray} {pc : Nat} {ls : Array Slot} {rest : List Value} {A : Nat → Prop} {Dg : va_G} {dA : Nat → ClassId} {N N' : Nat → Nat} {ad : Nat → Nat → Nat} {Rf : Nat → Nat → Value} {D : T64} {I : T32} {own : String}
theorem w_newO (Z : Cx p s m args c cc own Dg dA) (hW : World A Dg dA N ad (wV Rf D I) H) (hS : va_S A s.heap H locs) (hA : ∀ q, s.heap.size ≤ q → A q) {k ci : Nat} {C : String} {T : u_T} {Nf : Nat} {ty : Nat → FieldType} (hC : w_cls ci C T Nf ty) (hsh : w_sh k = .inl ci) (hlen : Nf = w_len k) {index : Nat} (hcl : Cond.classLink own index C ∈ lw_all) (hinst : Cond.instantiable C Nf ∈ lw_all) (hini : Cond.initialized C ∈ lw_all) (hsup : w_sup N') (hN : N' k = N k + 1) (hN' : ∀ k', k' ≠ k → N' k' = N k') (hdef : ∀ j, j < Nf → defaultValue (ty j) = wV Rf D I k (N k) j) (hcells : cells + 1 ≤ R.cells) (hslots : slots + Nf ≤ R.slots) (hdg : decode cc pc = .ok (.new index, 3))
    (kk : ∀ (H1 : Heap) (ad' : Nat → Nat → Nat), (∀ k' b, (k' ≠ k ∨ b ≠ N k) → ad' k' b = ad k' b) → World A Dg dA N' ad' (wV Rf D I) H1 → va_S A s.heap H1 locs → W p l e R s m args below meth c H1 locs (cells + 1) (slots + Nf) Q (F0 m (pc + 3) ls (.ref (ad' k (N k)) :: rest))) : W p l e R s m args below meth c H locs cells slots Q (F0 m pc ls rest) := by
  obtain ⟨hx, hb, hown, hts, hK⟩ := Z
  obtain ⟨hc, hin, hty, hnm⟩ := hC
  have hts' : ∀ w ∈ lw_all, w.before args s = true := fun w h => hts w (lw_car_all h)
  have hKn := hK.1 ci _ hc
  refine W.newcK hx hb hown (hts' _ hcl) (hts' _ hinst) (hts' _ hini) rfl hdg hcells hslots hKn.2.1 rfl fun H1 kC hkC e1 z1 o1 => ?_
  have hw : World A Dg dA N' (up2 ad k (N k) H.size) (wV Rf D I) H1 := by
    refine hW.add hsup hN hN' (fun k' b h => ?_) (up2_same _ _ _ _) (hA _ hS.1) o1 ?_
    · rw [up2_eq, if_neg (fun q => h.elim (fun z => z q.1) (fun z => z q.2))]
    · unfold wd_cell
      rw [hsh]
      exact ⟨_, hc, hlen, (u_born ty hts' hin hKn hkC e1 hty).to hdef⟩
  have h := kk H1 _ (fun k' b h => by rw [up2_eq, if_neg (fun q => h.elim (fun z => z q.1) (fun z => z q.2))]) hw ⟨Nat.le_trans hS.1 (by omega), fun x h1 h2 => (o1 x (Nat.lt_of_lt_of_le h1 hS.1)).trans (hS.2.1 x h1 h2), hS.2.2⟩
  rw [up2_same] at h
  exact h
theorem w_newA (Z : Cx p s m args c cc own Dg dA) (hW : World A Dg dA N ad (wV Rf D I) H) (hS : va_S A s.heap H locs) (hA : ∀ q, s.heap.size ≤ q → A q) {k t n : Nat} (hsh : w_sh k = .inr (t, n)) (hlen : n = w_len k) {atype : ArrayType} {ty : FieldType} (hty : newarray.typeOf atype = ty) (harr : Cond.arrayClass ty ∈ lw_all) (hfc : s.vm.findClass ("[" ++ ty.toString) = some (dA t)) (hsup : w_sup N') (hN : N' k = N k + 1) (hN' : ∀ k', k' ≠ k → N' k' = N k') (hdef : ∀ j, j < n → defaultValue ty = wV Rf D I k (N k) j) (hn : n < 1000) (hbytes : n * componentBytes ty ≤ 536870912) (hcells : cells + 1 ≤ R.cells) (hslots : slots + n ≤ R.slots) (hdg : decode cc pc = .ok (.newarray atype, 2))
    (kk : ∀ (H1 : Heap) (ad' : Nat → Nat → Nat), (∀ k' b, (k' ≠ k ∨ b ≠ N k) → ad' k' b = ad k' b) → World A Dg dA N' ad' (wV Rf D I) H1 → va_S A s.heap H1 locs → W p l e R s m args below meth c H1 locs (cells + 1) (slots + n) Q (F0 m (pc + 2) ls (.ref (ad' k (N k)) :: rest))) : W p l e R s m args below meth c H locs cells slots Q (F0 m pc ls (.int (nI n) :: rest)) := by
  obtain ⟨hx, hb, hown, hts, hK⟩ := Z
  subst hty
  refine va_newaK hx hb (hts _ (lw_car_all harr)) rfl hdg rfl (nI_pos (by omega)) (nI_clamp (by omega)) hbytes hcells hslots rfl fun H1 cA e1 z1 o1 hAr hNm => ?_
  have hcA : cA = dA t := Option.some.inj (hNm.symm.trans hfc)
  subst hcA
  have hw : World A Dg dA N' (up2 ad k (N k) H.size) (wV Rf D I) H1 := by
    refine hW.add hsup hN hN' (fun k' b h => ?_) (up2_same _ _ _ _) (hA _ hS.1) o1 ?_
    · rw [up2_eq, if_neg (fun q => h.elim (fun z => z q.1) (fun z => z q.2))]
    · unfold wd_cell
      rw [hsh]
      exact ⟨hlen, by rw [e1]; exact congrArg some (arrV_congr hdef)⟩
  have h := kk H1 _ (fun k' b h => by rw [up2_eq, if_neg (fun q => h.elim (fun z => z q.1) (fun z => z q.2))]) hw ⟨Nat.le_trans hS.1 (by omega), fun x h1 h2 => (o1 x (Nat.lt_of_lt_of_le h1 hS.1)).trans (hS.2.1 x h1 h2), hS.2.2⟩
  rw [up2_same] at h
  exact h
/-- a final field, in the constructor -/
theorem w_putF {V : Nat → Nat → Nat → Value} (Z : Cx p s m args c cc own Dg dA) (hW : World A Dg dA N ad V H) (hS0 : va_S A s.heap H locs) {k b ci : Nat} {C : String} {T : u_T} {Nf : Nat} {ty : Nat → FieldType} (hC : w_cls ci C T Nf ty) (hsh : w_sh k = .inl ci) (j : Nat) (hj : j < Nf) {index : Nat} (hlink : Cond.fieldLink own index (T j).1 (T j).2.1 (T j).2.2.1 ∈ lw_all) (hfin : (T j).2.2.2 = true) (hin2 : meth.name = "<init>") (hdecl : (T j).1 = own) (hbN : b < N k) {v : Value} (hn : narrow (ty j) v = v) (hfit : fits (ty j) v = true) (hdg : decode cc pc = .ok (.putfield index, 3))
    (kk : ∀ (H1 : Heap) (locs1 : List Loc), World A Dg dA N ad (wd_up V k b j v) H1 → va_S A s.heap H1 locs1 → W p l e R s m args below meth c H1 locs1 cells slots Q (F0 m (pc + 3) ls rest)) : W p l e R s m args below meth c H locs cells slots Q (F0 m pc ls (v :: .ref (ad k b) :: rest)) := by
  obtain ⟨hx, hb, hown, hts, hK⟩ := Z
  obtain ⟨hc, hin, hty, hnm⟩ := hC
  have hts' : ∀ w ∈ lw_all, w.before args s = true := fun w h => hts w (lw_car_all h)
  have hap := va_apart (own := own) hts' hin ty hty hnm hK hc
  have h0 := hW.2.2.2 k b hbN
  unfold wd_cell at h0
  rw [hsh] at h0
  obtain ⟨r, h1, h2, cell, q1, q2, q3, q4⟩ := h0
  have hr : r = (C, T, Nf) := Option.some.inj (h1.symm.trans hc)
  subst hr
  obtain ⟨hS, hfc, kC, hkC, hkind⟩ := hK.1 ci _ hc
  obtain ⟨cf, kf, fi, f, hi, hsl⟩ := hS j hj
  have hlay := hts' _ (hin _ (u_in_lay hj))
  unfold u_lay at hlay
  rw [if_pos hfin] at hlay
  have hst := (u_facts hfc hkC (u_lays hts' hin hj) hi).1
  have hcf : m.cls = cf := by
    obtain ⟨_, _, c', _, _, _, -, -, hf', -, -, -, hown2, -⟩ := Cond.laysFinal_spec hlay
    have e1 : c' = cf := by have := hi.symm.trans hf'; simp at this; exact this.1.symm
    rw [hdecl] at hown2
    rw [← e1]; exact Option.some.inj (hown.symm.trans hown2)
  have h6 := u_fits hfc hkC hkind (Or.inr hlay) hi (hty j hj) hn hfit
  refine W.putFinK hx hb hown (hts' _ hlink) hi hst hcf hin2 (by rw [q2]; exact h6) q1 q3 (by rw [hsl]; exact k2_hasslot (q4 j hj)) rfl rfl hdg fun H' e1 e2 e3 => ?_
  rw [hsl] at e1 ⊢
  refine kk H' _ (hW.set hbN ?_ e3) (hS0.put e2 e3 (hW.2.2.1 k b hbN))
  unfold wd_cell
  rw [hsh]
  exact ⟨_, hc, h2, _, e1, q2, q3, t_set q4 hap hj v⟩
/-- a reference into an array of objects -/
theorem w_aas (Z : Cx p s m args c cc own Dg dA) (hW : World A Dg dA N ad (wV Rf D I) H) (hS0 : va_S A s.heap H locs) {k b t n j : Nat} {x : Int32} {kv bv ci : Nat} {r : vw_C} (hsh : w_sh k = .inr (t, n)) (hbN : b < N k) (hi : x = nI j) (hj : j < n) (hn : n < 1000) (hjl : j < w_len k) (ht : (vTys dA)[t]? = some (dA t, .object r.1)) (hc : vCl[ci]? = some r) (hsv : w_sh kv = .inl ci) (hbv : bv < N kv) {f st ix : Nat} (hs : w_src k j = (2, f, st)) (hix : wix st b j = ix) (hks : ∀ k, 0 < N k → k ∈ w_ksC ++ w_ksM) (hdg : decode cc pc = .ok (.aastore, 1))
    (kk : ∀ (H1 : Heap) (locs1 : List Loc), World A Dg dA N ad (wV (up2 Rf f ix (.ref (ad kv bv))) D I) H1 → va_S A s.heap H1 locs1 → W p l e R s m args below meth c H1 locs1 cells slots Q (F0 m (pc + 1) ls rest)) : W p l e R s m args below meth c H locs cells slots Q (F0 m pc ls (.ref (ad kv bv) :: .int x :: .ref (ad k b) :: rest)) := by
  obtain ⟨hx, hb, hown, hts, hK⟩ := Z
  subst hi
  subst hix
  have h0 := hW.2.2.2 kv bv hbv
  unfold wd_cell at h0
  rw [hsv] at h0
  obtain ⟨r', h1, h2, cellV, g1, g2, g3, -⟩ := h0
  have hcls := (hK.1 ci r hc).2
  obtain ⟨kA, comp, k1, k2, k3, -⟩ := (hK.2 t _ ht).2
  have hcomp : comp = Dg.1 ci := Option.some.inj (k3.symm.trans hcls.1)
  subst hcomp
  obtain ⟨kC, hkC, -⟩ := hcls.2
  refine W.aast hx hb (w_arr hW hsh hbN) (fun q h => by cases h) (fun h => by cases h) k1 k2 rfl hkC ⟨nI_pos (by omega), by rw [arrV_size, nI_clamp (by omega)]; exact hj⟩ g1 (fun q h => by rw [g3] at h; cases h) (by rw [g2]; exact hkC) (by rw [g2]; exact va_assign hcls) rfl rfl hdg fun H1 e1 z oq => ?_
  rw [nI_clamp (by omega)] at e1 ⊢
  exact kk H1 _ ((w_setA hW hsh hbN e1 oq).putRf hbN hjl hs src_2 hks) (hS0.put z oq (hW.2.2.1 k b hbN))
end NEW
