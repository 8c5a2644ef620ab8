set_option maxRecDepth 100000
/-! ===== the class: the constructor ===== -/
/-- how many cells of each kind: one for each in the list -/
def kN : List Nat → Nat → Nat
  | [], _ => 0
  | a :: l, k => bif Nat.beq k a then kN l k + 1 else kN l k
theorem kN_ne {a k : Nat} {l : List Nat} (h : k ≠ a) : kN (a :: l) k = kN l k := by
  show (bif Nat.beq k a then _ else _) = _
  rw [beq_f h]; rfl
theorem kN_pos {k : Nat} : ∀ {l : List Nat}, 0 < kN l k → k ∈ l
  | [], h => absurd h (Nat.lt_irrefl 0)
  | a :: l, h => by
    by_cases e : k = a
    · subst e; exact List.mem_cons_self
    · rw [kN_ne e] at h; exact List.mem_cons_of_mem _ (kN_pos h)
theorem kN_ks {l : List Nat} (h : (l.all fun k => w_ksC.contains k) = true) : ∀ k, 0 < kN l k → k ∈ w_ksC := fun k hk => List.contains_iff_mem.mp (List.all_eq_true.mp h k (kN_pos hk))
theorem kN_sup {l : List Nat} (h : (l.all fun k => w_ksC.contains k) = true) : w_sup (kN l) := ⟨w_ksC, c_ok, kN_ks h⟩
theorem kN_cm {l : List Nat} (h : (l.all fun k => w_ksC.contains k) = true) : ∀ k, 0 < kN l k → k ∈ w_ksC ++ w_ksM := fun k hk => List.mem_append_left _ (kN_ks h k hk)
theorem kN_g {ko ki k : Nat} : ∀ {n : Nat} {l : List Nat}, k ≠ ko → k ≠ ki → kN (List.replicate n ki ++ ko :: l) k = kN l k
  | 0, l, h1, h2 => kN_ne h1
  | n + 1, l, h1, h2 => by
    show kN (ki :: (List.replicate n ki ++ ko :: l)) k = _
    rw [kN_ne h2]
    exact kN_g h1 h2
def nR : Nat → Nat → Value := fun _ _ => .null
def zD : T64 := fun _ _ => 0
def zI : T32 := fun _ _ => 0
/-- a private constructor's link, among nest mates -/
abbrev lkS : Cond := .methodLinkNest "ParticleBox" 22 ⟨"ParticleBox$Sort", "<init>", "()V"⟩ "ParticleBox"
abbrev lkN : Cond := .methodLinkNest "ParticleBox" 47 ⟨"ParticleBox$Neighbourhood", "<init>", "()V"⟩ "ParticleBox"
abbrev lkW : Cond := .methodLinkNest "ParticleBox" 54 ⟨"ParticleBox$Way", "<init>", "()V"⟩ "ParticleBox"
/-- what the constructor rests on, beside the words that are taken along -/
def AOs (U : State) : Prop := va_AO "ParticleBox$Sort" U ∧ va_AO "ParticleBox$Atom" U ∧ va_AO "ParticleBox$Bond" U ∧ va_AO "ParticleBox$Rod" U ∧ (Cond.arrayOver (.array .int)).before #[] U = true ∧ (Cond.arrayOver (.array .double)).before #[] U = true ∧ va_Nw lkS U ∧ va_Nw lkN U ∧ va_Nw lkW U
theorem AOs.warm {u U : State} (hw : u.WarmedH U.vm) (h : AOs u) : AOs U := ⟨h.1.moved hw.alike, h.2.1.moved hw.alike, h.2.2.1.moved hw.alike, h.2.2.2.1.moved hw.alike, over_moved hw.alike h.2.2.2.2.1, over_moved hw.alike h.2.2.2.2.2.1, h.2.2.2.2.2.2.1.warmM hw, h.2.2.2.2.2.2.2.1.warmM hw, h.2.2.2.2.2.2.2.2.warmM hw⟩
def Pn (A : Nat → Prop) (Dg : va_G) (dA : Nat → ClassId) (B : Heap → Prop) (U : State) : Prop := va_K Dg vCl (vTys dA) U ∧ (∀ q, U.heap.size ≤ q → A q) ∧ AOs U ∧ B U.heap
theorem Pn.of {A : Nat → Prop} {Dg : va_G} {dA : Nat → ClassId} {B : Heap → Prop} {s : State} {H : Heap} {locs : List Loc} (hK : va_K Dg vCl (vTys dA) s) (hao : AOs s) (hA : ∀ q, s.heap.size ≤ q → A q) (hS : va_S A s.heap H locs) (hB : B H) : ∀ U : State, U.heap = H → s.WarmedH U.vm → Pn A Dg dA B U :=
  fun U h1 h2 => ⟨va_K.moved h2.alike hK, fun q hq => hA q (Nat.le_trans hS.1 (by rw [← h1]; exact hq)), hao.warm h2, by rw [h1]; exact hB⟩
theorem fo0 {Dg : va_G} {dA : Nat → ClassId} {s : State} (hK : va_K Dg vCl (vTys dA) s) : s.vm.findClass ("[" ++ (FieldType.object "ParticleBox$Sort").toString) = some (dA 0) := by obtain ⟨-, kA, comp, -, -, -, h1⟩ := hK.2 0 _ rfl; exact h1
theorem fo1 {Dg : va_G} {dA : Nat → ClassId} {s : State} (hK : va_K Dg vCl (vTys dA) s) : s.vm.findClass ("[" ++ (FieldType.object "ParticleBox$Atom").toString) = some (dA 1) := by obtain ⟨-, kA, comp, -, -, -, h1⟩ := hK.2 1 _ rfl; exact h1
theorem fo2 {Dg : va_G} {dA : Nat → ClassId} {s : State} (hK : va_K Dg vCl (vTys dA) s) : s.vm.findClass ("[" ++ (FieldType.object "ParticleBox$Bond").toString) = some (dA 2) := by obtain ⟨-, kA, comp, -, -, -, h1⟩ := hK.2 2 _ rfl; exact h1
theorem fo3 {Dg : va_G} {dA : Nat → ClassId} {s : State} (hK : va_K Dg vCl (vTys dA) s) : s.vm.findClass ("[" ++ (FieldType.object "ParticleBox$Rod").toString) = some (dA 3) := by obtain ⟨-, kA, comp, -, -, -, h1⟩ := hK.2 3 _ rfl; exact h1
section NI
variable {p : Program} {l : Launch} {e : Env} {R : Room} {s : State} {m : MethodId} {args : Array Value} {below : List Frame} {meth : Method} {c : Code} {H : Heap} {locs : List Loc} {cells slots : Nat} {Q : State → Prop}
theorem wx_IN {y : MethodName} {cc cc0 : ByteArray} {nL nL0 : Nat} {rm : Room} {As rest : List Value} {Pc : State → Prop} {Qc : State → Outcome → State → Prop} {mc ms : Nat} {free : Addr → Prop} {own host : String} {index : Nat} {b : Addr} {pc : Nat} {ls : Array Slot}
    (S : wx_Fix p m c cc0 nL0 s args own) (hM : MX l y cc nL none [] rm (.ref b :: As) Pc Qc mc ms free) (w1 : va_Nw (.methodLinkNest own index y host) s) (w2 : Cond.instanceMethod y ∈ lw_all) (w5 : Cond.code y cc nL none ∈ lw_all) (hy1 : y.name = "<init>") (hd : wx_name y As.length) (hrm : wx_room rm R nL cells slots)
    (hpre : ∀ U : State, U.heap = H → s.WarmedH U.vm → Pc U) (hsize : ls.size = nL0) (hrest : (rest.map fun v => v.category).sum ≤ 8) (hdg : decode cc0 pc = .ok (.invokespecial index, 3)) :
    wx_Run p l e R s m args below meth c H locs cells slots (F0 m pc ls (As.reverse ++ .ref b :: rest)) 3 rest Qc mc ms free := by
  obtain ⟨hx, hb, hml, ho, hts⟩ := S
  intro T hT X
  have hpl : e.platform.magicAccessors = ({} : Platform).magicAccessors := by rw [X.admits.platform]
  obtain ⟨mk, methM, cM, kP, vm₁, hnamed, hmethM, hcodeM, -, hlocalsM, -, hkP, -, hW₁, hstep₁⟩ := Steps.initColdArgsNest (e := e) X.here hx X.warmed hpl ho hy1 hd.2.1 (va_Nw.use (A := args) rfl w1) (hts _ (lw_car_all w2)) (hts _ (lw_car_all w5)) (f := F0 m pc ls (As.reverse ++ .ref b :: rest)) rfl (a := b) (fun sig h => hd.len h) rfl (by rw [hb]; exact hdg)
  have X₁ := X.noted hW₁
  obtain ⟨o, st, t, T', L, h0, X', hL, h1, h2, hq, hsteps⟩ := hM.enter hd.1 X₁ hx hts (show wx_code y cc nL none [] ∈ lw_car from lw_car_all w5) (X₁.named hnamed) (g := F0 m pc ls rest) rfl (hsize.trans hml.symm) (by rw [hb]; exact hdg) hrm.1 (wx_words (w := 0) rfl hrest hrm.2.1) hrm.2.2.1 hrm.2.2.2
    (fun U e1 e2 => hpre U (e1.trans hT) (by rw [e2]; exact X₁.warmed))
  exact ⟨o, st, t, T', L, h0.trans hT, X', hL, h1, h2, hq, fun target h => hstep₁ _ fun acts => by rw [doInvoke_state]; exact hsteps.trans h⟩
end NI
section NQ
variable {p : Program} {l : Launch} {e : Env} {R : Room} {s : State} {m : MethodId} {args : Array Value} {below : List Frame} {meth : Method} {c : Code} {H : Heap} {locs : List Loc} {cells slots : Nat} {Q : State → Prop}
variable {cc : ByteArray} {pc : Nat} {ls : Array Slot} {rest : List Value} {A : Nat → Prop} {Dg : va_G} {dA : Nat → ClassId} {N N' : Nat → Nat} {ad : Nat → Nat → Nat} {Rf : Nat → Nat → Value} {D : T64} {I : T32} {own : String}
theorem w_newQ (Z : Cx p s m args c cc own Dg dA) (hW : World A Dg dA N ad (wV Rf D I) H) (hS : va_S A s.heap H locs) (hA : ∀ q, s.heap.size ≤ q → A q) {k t n : Nat} (hsh : w_sh k = .inr (t, n)) (hlen : n = w_len k) {C : String} {index : Nat} (hfc : s.vm.findClass ("[" ++ (FieldType.object C).toString) = some (dA t)) (hcl : Cond.classLink own index C ∈ lw_all) (hov : va_AO C s) (hsup : w_sup N') (hN : N' k = N k + 1) (hN' : ∀ k', k' ≠ k → N' k' = N k') (hdef : ∀ j, j < n → Value.null = wV Rf D I k (N k) j) (hn : n < 1000) (hcells : cells + 1 ≤ R.cells) (hslots : slots + n ≤ R.slots) (hdg : decode cc pc = .ok (.anewarray index, 3))
    (kk : ∀ (H1 : Heap) (ad' : Nat → Nat → Nat), (∀ k' b, (k' ≠ k ∨ b ≠ N k) → ad' k' b = ad k' b) → World A Dg dA N' ad' (wV Rf D I) H1 → va_S A s.heap H1 locs → W p l e R s m args below meth c H1 locs (cells + 1) (slots + n) Q (F0 m (pc + 3) ls (.ref (ad' k (N k)) :: rest))) : W p l e R s m args below meth c H locs cells slots Q (F0 m pc ls (.int (nI n) :: rest)) := by
  obtain ⟨hx, hb, hown, hts, hK⟩ := Z
  have en : (nI n).toNatClampNeg = n := nI_clamp (by omega)
  refine W.anew hx hb hown (hts _ (lw_car_all hcl)) (va_AO.use hov) rfl hdg rfl (nI_pos (by omega)) (by rw [en]; omega) hcells (by rw [en]; exact hslots) fun cA kA comp f1 f2 f3 f4 => ?_
  have hcA : cA = dA t := Option.some.inj (f1.symm.trans hfc)
  subst hcA
  rw [en]
  generalize hH1 : H.push ({ cls := dA t, slots := Array.replicate n .null, vm := .none } : Cell) = H1
  have z1 : H1.size = H.size + 1 := by rw [← hH1, Array.size_push]
  have e1 : H1[H.size]? = some (arrV (dA t) n (fun _ => .null)) := by rw [← hH1, Array.getElem?_push_size, ← arrV_new]
  have o1 : ∀ q : Nat, q < H.size → H1[q]? = H[q]? := fun q hq => by rw [← hH1, Array.getElem?_push, if_neg (Nat.ne_of_lt hq)]
  have hw : World A Dg dA N' (up2 ad k (N k) H.size) (wV Rf D I) H1 := by
    refine hW.add hsup hN hN' (fun k' b h => ?_) (up2_same _ _ _ _) (hA _ hS.1) o1 ?_
    · rw [up2_eq, if_neg (fun q => h.elim (fun z => z q.1) (fun z => z q.2))]
    · unfold wd_cell
      rw [hsh]
      exact ⟨hlen, by rw [e1]; exact congrArg some (arrV_congr hdef)⟩
  have h := kk H1 _ (fun k' b h => by rw [up2_eq, if_neg (fun q => h.elim (fun z => z q.1) (fun z => z q.2))]) hw ⟨Nat.le_trans hS.1 (by omega), fun x h1 h2 => (o1 x (Nat.lt_of_lt_of_le h1 hS.1)).trans (hS.2.1 x h1 h2), hS.2.2⟩
  rw [up2_same] at h
  exact h
end NQ
/-- the side, as it is taken -/
def clS (s : Int32) : Int32 := if s < nI 8 then nI 8 else if nI 64 < s then nI 64 else s
theorem clS_of (s : Int32) : ∃ m : Nat, 8 ≤ m ∧ m ≤ 64 ∧ clS s = nI m := by
  unfold clS
  by_cases h1 : s < nI 8
  · rw [if_pos h1]; exact ⟨8, by omega, by omega, rfl⟩
  · rw [if_neg h1]
    by_cases h2 : nI 64 < s
    · rw [if_pos h2]; exact ⟨64, by omega, by omega, rfl⟩
    · rw [if_neg h2]
      rw [Int32.lt_iff_toInt_lt, nI_toInt (by omega)] at h1 h2
      refine ⟨s.toInt.toNat, by omega, by omega, Int32.toInt_inj.mp ?_⟩
      rw [nI_toInt (by omega)]
      omega
theorem clS_c {sd : Int32} : (if nI 8 < (if sd < nI 64 then sd else nI 64) then (if sd < nI 64 then sd else nI 64) else nI 8) = clS sd := by
  unfold clS
  have e8 : (nI 8).toInt = 8 := nI_toInt (by omega)
  have e64 : (nI 64).toInt = 64 := nI_toInt (by omega)
  have c1 : sd < nI 64 ↔ sd.toInt < 64 := by rw [Int32.lt_iff_toInt_lt, e64]
  have c2 : sd < nI 8 ↔ sd.toInt < 8 := by rw [Int32.lt_iff_toInt_lt, e8]
  have c3 : nI 64 < sd ↔ 64 < sd.toInt := by rw [Int32.lt_iff_toInt_lt, e64]
  have c4 : nI 8 < sd ↔ 8 < sd.toInt := by rw [Int32.lt_iff_toInt_lt, e8]
  have c5 : nI 8 < nI 64 := by decide
  by_cases h1 : sd.toInt < 64
  · rw [if_pos (c1.mpr h1)]
    by_cases h3 : 8 < sd.toInt
    · rw [if_pos (c4.mpr h3), if_neg (show ¬ sd < nI 8 from fun q => by have := c2.mp q; omega), if_neg (show ¬ nI 64 < sd from fun q => by have := c3.mp q; omega)]
    · rw [if_neg (show ¬ nI 8 < sd from fun q => h3 (c4.mp q))]
      by_cases h2 : sd.toInt < 8
      · rw [if_pos (c2.mpr h2)]
      · rw [if_neg (show ¬ sd < nI 8 from fun q => h2 (c2.mp q)), if_neg (show ¬ nI 64 < sd from fun q => by have := c3.mp q; omega)]
        exact Int32.toInt_inj.mp (by omega)
  · rw [if_neg (show ¬ sd < nI 64 from fun q => h1 (c1.mp q)), if_pos c5, if_neg (show ¬ sd < nI 8 from fun q => by have := c2.mp q; omega)]
    by_cases h2 : 64 < sd.toInt
    · rw [if_pos (c3.mpr h2)]
    · rw [if_neg (show ¬ nI 64 < sd from fun q => h2 (c3.mp q))]
      exact Int32.toInt_inj.mp (by omega)
theorem clS_b {s : Int32} : fb 6 (FP.i2d (clS s)) ∧ rv (FP.i2d (clS s)) = ((clS s).toInt : Rat) := by
  obtain ⟨m, h1, h2, h3⟩ := clS_of s
  obtain ⟨i1, i2⟩ := i2d_rd (clS s)
  rw [h3] at i1 i2 ⊢
  have e : (nI m).toInt = (m : Int) := nI_toInt (by omega)
  rw [e] at i2 ⊢
  have e6 : p2 6 = ((64 : Nat) : Rat) := (p2_nat 6).trans (by decide +kernel)
  have a2 : ((m : Int) : Rat) ≤ ((64 : Nat) : Rat) := by exact_mod_cast h2
  have a0 : (0 : Rat) ≤ ((m : Int) : Rat) := by exact_mod_cast Nat.zero_le m
  exact ⟨⟨i1, by rw [i2, e6]; exact a2, by rw [i2, e6]; grind⟩, i2⟩
/-- the shared numbers at the start -/
def sdW (s : Int32) : UInt64 := FP.dmul (FP.i2d (clS s)) 4602678819172646912
def iD (s : Int32) : T64 := up2 (up2 (up2 (up2 (up2 (up2 (up2 (up2 (up2 (up2 zD 22 0 4602678819172646912) 23 0 13830554455654793216) 7 0 FP.dconst1) 8 0 FP.dconst1) 7 1 FP.dconst1) 8 1 FP.dconst1) 7 2 FP.dconst1) 8 2 FP.dconst1) 20 0 (sdW s)) 21 0 (FP.dmul (sdW s) 4598175219545276416)
abbrev iDc (s : Int32) : T64 := up2 (up2 (up2 (up2 (up2 (up2 (up2 (up2 (up2 (up2 zD 22 0 4602678819172646912) 43 0 13830554455654793216) 7 0 FP.dconst1) 8 0 FP.dconst1) 7 1 FP.dconst1) 8 1 FP.dconst1) 7 2 FP.dconst1) 8 2 FP.dconst1) 20 0 (sdW s)) 21 0 (FP.dmul (sdW s) 4598175219545276416)
theorem ini_ag {s : Int32} : agD (iDc s) (iD s) := by
  have h0 : agD (up2 (up2 zD 22 0 4602678819172646912) 43 0 13830554455654793216) (up2 (up2 zD 22 0 4602678819172646912) 23 0 13830554455654793216) := (agD.rf.up rfl).up0 rfl
  exact (((((((h0.put 7 0 _).put 8 0 _).put 7 1 _).put 8 1 _).put 7 2 _).put 8 2 _).put 20 0 _).put 21 0 _
theorem ini_w {s : Int32} : wOK (iDc s) (iD s) := by
  have e1 : iDc s 43 0 = 13830554455654793216 := rfl
  have e2 : iD s 23 0 = 13830554455654793216 := rfl
  unfold wOK
  rw [e1, e2]
  exact ⟨fun _ => rfl, fun q => q⟩
/-- which kind holds the references of number f -/
def kk (f : Nat) : Nat := bif Nat.ble f 11 then 0 else ([10, 11, 12, 13, 14, 17, 19, 2, 3, 3, 4, 4, 5, 5, 2] : List Nat).getD (f - 12) 99
theorem src_kk : (w_ksC.all fun k => (List.range (w_len k)).all fun j => !(Nat.ble 2 (w_src k j).1) || (Nat.beq (kk (w_src k j).2.1) k && (bif Nat.ble k 6 then Nat.beq (w_src k j).2.2 0 else Nat.beq (w_src k j).2.2 16))) = true := by decide +kernel
def lvR (N : Nat → Nat) (f i : Nat) : Prop := (kk f ≤ 6 → i < N (kk f)) ∧ (6 < kk f → ∃ b j, b < N (kk f) ∧ j < w_len (kk f) ∧ i = j + 16 * b)
theorem World.tab2 {A : Nat → Prop} {Dg : va_G} {dA : Nat → ClassId} {N : Nat → Nat} {ad : Nat → Nat → Nat} {Rf Rf' : Nat → Nat → Value} {D : T64} {I : T32} {H : Heap} (hks : ∀ k, 0 < N k → k ∈ w_ksC) (h : World A Dg dA N ad (wV Rf D I) H) (hR : ∀ f i, lvR N f i → Rf f i = Rf' f i) : World A Dg dA N ad (wV Rf' D I) H := by
  refine h.congr (fun k b j hb hj => ?_)
  have hk := hks k (Nat.lt_of_le_of_lt (Nat.zero_le _) hb)
  have h1 := List.all_eq_true.mp (List.all_eq_true.mp src_kk k hk) j (List.mem_range.mpr hj)
  rcases hs : w_src k j with ⟨t, f, st⟩
  rw [hs] at h1
  unfold wV
  rw [hs]
  match t, h1 with
  | 0, _ => rfl
  | 1, _ => rfl
  | t + 2, h1 =>
    have h2 : Nat.ble 2 (t + 2) = true := by rw [Nat.ble_eq]; omega
    simp only [h2, Bool.not_true, Bool.false_or, Bool.and_eq_true, Nat.beq_eq] at h1
    obtain ⟨h3, h4⟩ := h1
    refine hR _ _ ⟨fun q => ?_, fun q => ?_⟩
    · rw [h3] at q ⊢
      rw [(Nat.ble_eq).mpr q] at h4
      have : st = 0 := Nat.eq_of_beq_eq_true h4
      subst this
      exact hb
    · rw [h3] at q ⊢
      have h5 : Nat.ble k 6 = false := by
        cases hq : Nat.ble k 6 with
        | false => rfl
        | true => rw [Nat.ble_eq] at hq; omega
      rw [h5] at h4
      have : st = 16 := Nat.eq_of_beq_eq_true h4
      subst this
      exact ⟨b, j, hb, hj, rfl⟩
theorem cN_kN (k : Nat) : cN 0 0 0 0 k ≤ kN [21, 20, 20, 20, 20, 20, 20, 20, 20, 20, 19, 18, 18, 18, 18, 18, 18, 18, 18, 18, 18, 17, 16, 15, 15, 15, 15, 15, 15, 15, 15, 15, 15, 14, 6, 6, 5, 13, 12, 11, 1, 1, 1, 10, 0] k := by
  unfold cN
  split <;> first | decide | exact Nat.zero_le _
theorem ini_R {ad : Nat → Nat → Nat} {J : Jt} {f i : Nat} (h : lvR (cN 0 0 0 0) f i) : (up2 (up2 (upr (up2 (upr (up2 (up2 (upr (up2 (up2 (up2 (up2 (up2 (up2 (up2 (up2 (up2 (up2 nR 12 0 (.ref (ad 1 0))) 12 1 (.ref (ad 1 1))) 12 2 (.ref (ad 1 2))) 0 0 (.ref (ad 10 0))) 1 0 (.ref (ad 11 0))) 2 0 (.ref (ad 12 0))) 3 0 (.ref (ad 13 0))) 4 0 (.ref (ad 5 0))) 5 0 (.ref (ad 6 0))) 6 0 (.ref (ad 6 1))) 16 (ad 15)) 7 0 (.ref (ad 14 0))) 8 0 (.ref (ad 16 0))) 17 (ad 18)) 9 0 (.ref (ad 17 0))) 18 (ad 20)) 10 0 (.ref (ad 19 0))) 11 0 (.ref (ad 21 0))) f i = cR ad 0 0 0 J (fun _ => .null) f i := by
  match f, h with
  | 0, h =>
    have h1 : i < 1 := h.1 (by decide)
    have h2 : i = 0 := by omega
    subst h2
    rfl
  | 1, h =>
    have h1 : i < 1 := h.1 (by decide)
    have h2 : i = 0 := by omega
    subst h2
    rfl
  | 2, h =>
    have h1 : i < 1 := h.1 (by decide)
    have h2 : i = 0 := by omega
    subst h2
    rfl
  | 3, h =>
    have h1 : i < 1 := h.1 (by decide)
    have h2 : i = 0 := by omega
    subst h2
    rfl
  | 4, h =>
    have h1 : i < 1 := h.1 (by decide)
    have h2 : i = 0 := by omega
    subst h2
    rfl
  | 5, h =>
    have h1 : i < 1 := h.1 (by decide)
    have h2 : i = 0 := by omega
    subst h2
    rfl
  | 6, h =>
    have h1 : i < 1 := h.1 (by decide)
    have h2 : i = 0 := by omega
    subst h2
    rfl
  | 7, h =>
    have h1 : i < 1 := h.1 (by decide)
    have h2 : i = 0 := by omega
    subst h2
    rfl
  | 8, h =>
    have h1 : i < 1 := h.1 (by decide)
    have h2 : i = 0 := by omega
    subst h2
    rfl
  | 9, h =>
    have h1 : i < 1 := h.1 (by decide)
    have h2 : i = 0 := by omega
    subst h2
    rfl
  | 10, h =>
    have h1 : i < 1 := h.1 (by decide)
    have h2 : i = 0 := by omega
    subst h2
    rfl
  | 11, h =>
    have h1 : i < 1 := h.1 (by decide)
    have h2 : i = 0 := by omega
    subst h2
    rfl
  | 12, h =>
    obtain ⟨b, j, hb, hj, rfl⟩ := h.2 (by decide)
    have hb : b < 1 := hb
    have hj : j < 3 := hj
    have hb0 : b = 0 := by omega
    subst hb0
    match j, hj with
    | 0, _ => rfl
    | 1, _ => rfl
    | 2, _ => rfl
    | j + 3, hj => omega
  | 13, h => show Value.null = if i < 0 then Value.ref (ad 2 i) else Value.null; rw [if_neg (Nat.not_lt_zero i)]
  | 14, h => show Value.null = if i < 0 then Value.ref (ad 3 i) else Value.null; rw [if_neg (Nat.not_lt_zero i)]
  | 15, h => show Value.null = if i < 0 then Value.ref (ad 4 i) else Value.null; rw [if_neg (Nat.not_lt_zero i)]
  | 16, h => rfl
  | 17, h => rfl
  | 18, h => rfl
  | 19, h => exact absurd (h.1 (by decide) : i < 0) (Nat.not_lt_zero i)
  | 20, h => exact absurd (h.1 (by decide) : i < 0) (Nat.not_lt_zero i)
  | 21, h => exact absurd (h.1 (by decide) : i < 0) (Nat.not_lt_zero i)
  | 22, h => exact absurd (h.1 (by decide) : i < 0) (Nat.not_lt_zero i)
  | 23, h => exact absurd (h.1 (by decide) : i < 0) (Nat.not_lt_zero i)
  | 24, h => rfl
  | 25, h => rfl
  | 26, h => exact absurd (h.1 (by decide) : i < 0) (Nat.not_lt_zero i)
  | f + 27, h =>
    exfalso
    have e : kk (f + 27) = 99 := rfl
    obtain ⟨b, j, hb, -⟩ := h.2 (by rw [e]; decide)
    rw [e] at hb
    exact absurd (hb : b < 0) (Nat.not_lt_zero b)
set_option maxHeartbeats 4000000 in
theorem m_X1_init (l : Launch) (A : Nat → Prop) (Dg : va_G) (dA : Nat → ClassId) (ad : Nat → Nat → Nat) (J : Jt) (sd : Int32) : MX l yX1_init cX1_init 2 none [] (rmx 3 44 367) [.ref (ad 0 0), .int (sd)] (Pn A Dg dA (World A Dg dA (kN [0]) ad (wV nR zD zI))) (qW (fun _ : Unit => none) (fun _ H => CS A Dg dA (ad 0 0) 0 0 0 J (iD sd) zI H) A) 44 367 A := by
  refine MX.start (Nat.le_of_ble_eq_true rfl) ?_
  intro p e s m args below meth c ls Q hAt hPc hl hQ
  have hl : lv_has ls 2 [(0, .ref (ad 0 0)), (1, .int (sd))] := hl
  obtain ⟨hx, hb, hml, hr, hlk, hown, hnm, htab, hts⟩ := id hAt
  obtain ⟨hK, hA, hao, hW⟩ := hPc
  have Z := Cx.of hAt hK
  have hS : va_S A s.heap s.heap [] := va_S.rf
  refine lv_aload_n hx hb dX1_init_0 rfl (lv_at hl 0 rfl) ?_
  refine W.objInit hx hb hown (hts _ (lw_car_all q66)) (hts _ (lw_car_all q67)) (hts _ (lw_car_all q68)) rfl (by rw [hml]; exact hl.1) rfl dX1_init_1 (Nat.le_of_ble_eq_true rfl) (Nat.le_of_ble_eq_true rfl) ?_
  refine lv_aload_n hx hb dX1_init_4 rfl (lv_at hl 0 rfl) ?_
  refine lv_ldc2d (v := 4602678819172646912) hx hb hown (hts _ (lw_car_all q69)) dX1_init_5 ?_
  refine w_putD Z hW hS kX1 rfl 2 (by decide) (by decide) q143 rfl (by decide) rfl rfl dX1_init_8 (fun H locs hW hS => ?_)
  refine lv_aload_n hx hb dX1_init_11 rfl (lv_at hl 0 rfl) ?_
  refine lv_ldc2d (v := 13830554455654793216) hx hb hown (hts _ (lw_car_all q70)) dX1_init_12 ?_
  refine w_putD Z hW hS kX1 rfl 3 (by decide) (by decide) q144 rfl (by decide) rfl rfl dX1_init_15 (fun H locs hW hS => ?_)
  refine lv_aload_n hx hb dX1_init_18 rfl (lv_at hl 0 rfl) ?_
  refine lv_iconst (v := nI 3) hx hb dX1_init_19 rfl ?_
  refine w_newQ (N' := (kN [10, 0])) (k := 10) Z hW hS hA rfl rfl (fo0 hK) q71 hao.1 (kN_sup (by decide)) rfl (fun k hk => kN_ne hk) (fun j hj => rfl) (by decide) (Nat.le_of_ble_eq_true rfl) (Nat.le_of_ble_eq_true rfl) dX1_init_20 (fun H ad hold hW hS => ?_)
  rw [show kN [0] 10 = 0 from rfl]
  have e00 := hold 0 0 (Or.inl (by decide))
  rw [← e00] at hl hQ
  rw [← hold 0 0 (Or.inl (by decide))]
  clear hold e00
  refine lv_dup hx hb dX1_init_23 rfl ?_
  refine lv_iconst (v := nI 0) hx hb dX1_init_24 rfl ?_
  refine w_newO (N' := (kN [1, 10, 0])) (k := 1) Z hW hS hA kX2 rfl rfl q71 q73 q46 (kN_sup (by decide)) rfl (fun k hk => kN_ne hk) (by intro j hj; match j, hj with | 0, _ => rfl | 1, _ => rfl | 2, _ => rfl | j + 3, hj => exact absurd hj (by omega)) (Nat.le_of_ble_eq_true rfl) (Nat.le_of_ble_eq_true rfl) dX1_init_25 (fun H ad hold hW hS => ?_)
  rw [show kN [10, 0] 1 = 0 from rfl]
  have e00 := hold 0 0 (Or.inl (by decide))
  rw [← e00] at hl hQ
  rw [← hold 10 0 (Or.inl (by decide)), ← hold 0 0 (Or.inl (by decide))]
  clear hold e00
  refine lv_dup hx hb dX1_init_28 rfl ?_
  refine wx_wv (wx_IN (As := []) (rest := [.ref (ad 1 0), .int (nI 0), .ref (ad 10 0), .ref (ad 10 0), .ref (ad 0 0)]) hAt.fix (m_X2_init l A Dg dA ((kN [1, 10, 0])) ad nR ((up2 (up2 zD 22 0 (4602678819172646912)) 43 0 (13830554455654793216))) zI ((kN_cm (by decide))) 0 ((by decide))) hao.2.2.2.2.2.2.1 q75 q76 rfl wn_X2_init ⟨Nat.le_of_ble_eq_true rfl, Nat.le_of_ble_eq_true rfl, Nat.le_of_ble_eq_true rfl, Nat.le_of_ble_eq_true rfl⟩ (Pw.of hK hW) hl.1 (Nat.le_of_ble_eq_true rfl) dX1_init_29) hS (fun H locs hW hz hS => ?_)
  refine w_aas (j := 0) (ix := 0) (kv := 1) (bv := 0) (ci := 1) Z hW hS (k := 10) (b := 0) rfl (by decide) rfl (by decide) (by decide) (by decide) rfl rfl rfl (by decide) rfl rfl (kN_cm (by decide)) dX1_init_32 (fun H locs hW hS => ?_)
  refine lv_dup hx hb dX1_init_33 rfl ?_
  refine lv_iconst (v := nI 1) hx hb dX1_init_34 rfl ?_
  refine w_newO (N' := (kN [1, 1, 10, 0])) (k := 1) Z hW hS hA kX2 rfl rfl q71 q73 q46 (kN_sup (by decide)) rfl (fun k hk => kN_ne hk) (by intro j hj; match j, hj with | 0, _ => rfl | 1, _ => rfl | 2, _ => rfl | j + 3, hj => exact absurd hj (by omega)) (Nat.le_of_ble_eq_true rfl) (Nat.le_of_ble_eq_true rfl) dX1_init_35 (fun H ad hold hW hS => ?_)
  rw [show kN [1, 10, 0] 1 = 1 from rfl]
  have e00 := hold 0 0 (Or.inl (by decide))
  rw [← e00] at hl hQ
  rw [← hold 10 0 (Or.inl (by decide)), ← hold 0 0 (Or.inl (by decide))]
  rw [← hold 1 0 (Or.inr (by decide))] at hW
  clear hold e00
  refine lv_dup hx hb dX1_init_38 rfl ?_
  refine wx_wv (wx_IN (As := []) (rest := [.ref (ad 1 1), .int (nI 1), .ref (ad 10 0), .ref (ad 10 0), .ref (ad 0 0)]) hAt.fix (m_X2_init l A Dg dA ((kN [1, 1, 10, 0])) ad ((up2 nR 12 0 (.ref (ad 1 0)))) ((up2 (up2 (up2 (up2 zD 22 0 (4602678819172646912)) 43 0 (13830554455654793216)) 7 0 (FP.dconst1)) 8 0 (FP.dconst1))) zI ((kN_cm (by decide))) 1 ((by decide))) hao.2.2.2.2.2.2.1 q75 q76 rfl wn_X2_init ⟨Nat.le_of_ble_eq_true rfl, Nat.le_of_ble_eq_true rfl, Nat.le_of_ble_eq_true rfl, Nat.le_of_ble_eq_true rfl⟩ (Pw.of hK hW) hl.1 (Nat.le_of_ble_eq_true rfl) dX1_init_39) hS (fun H locs hW hz hS => ?_)
  refine w_aas (j := 1) (ix := 1) (kv := 1) (bv := 1) (ci := 1) Z hW hS (k := 10) (b := 0) rfl (by decide) rfl (by decide) (by decide) (by decide) rfl rfl rfl (by decide) rfl rfl (kN_cm (by decide)) dX1_init_42 (fun H locs hW hS => ?_)
  refine lv_dup hx hb dX1_init_43 rfl ?_
  refine lv_iconst (v := nI 2) hx hb dX1_init_44 rfl ?_
  refine w_newO (N' := (kN [1, 1, 1, 10, 0])) (k := 1) Z hW hS hA kX2 rfl rfl q71 q73 q46 (kN_sup (by decide)) rfl (fun k hk => kN_ne hk) (by intro j hj; match j, hj with | 0, _ => rfl | 1, _ => rfl | 2, _ => rfl | j + 3, hj => exact absurd hj (by omega)) (Nat.le_of_ble_eq_true rfl) (Nat.le_of_ble_eq_true rfl) dX1_init_45 (fun H ad hold hW hS => ?_)
  rw [show kN [1, 1, 10, 0] 1 = 2 from rfl]
  have e00 := hold 0 0 (Or.inl (by decide))
  rw [← e00] at hl hQ
  rw [← hold 10 0 (Or.inl (by decide)), ← hold 0 0 (Or.inl (by decide))]
  rw [← hold 1 0 (Or.inr (by decide)), ← hold 1 1 (Or.inr (by decide))] at hW
  clear hold e00
  refine lv_dup hx hb dX1_init_48 rfl ?_
  refine wx_wv (wx_IN (As := []) (rest := [.ref (ad 1 2), .int (nI 2), .ref (ad 10 0), .ref (ad 10 0), .ref (ad 0 0)]) hAt.fix (m_X2_init l A Dg dA ((kN [1, 1, 1, 10, 0])) ad ((up2 (up2 nR 12 0 (.ref (ad 1 0))) 12 1 (.ref (ad 1 1)))) ((up2 (up2 (up2 (up2 (up2 (up2 zD 22 0 (4602678819172646912)) 43 0 (13830554455654793216)) 7 0 (FP.dconst1)) 8 0 (FP.dconst1)) 7 1 (FP.dconst1)) 8 1 (FP.dconst1))) zI ((kN_cm (by decide))) 2 ((by decide))) hao.2.2.2.2.2.2.1 q75 q76 rfl wn_X2_init ⟨Nat.le_of_ble_eq_true rfl, Nat.le_of_ble_eq_true rfl, Nat.le_of_ble_eq_true rfl, Nat.le_of_ble_eq_true rfl⟩ (Pw.of hK hW) hl.1 (Nat.le_of_ble_eq_true rfl) dX1_init_49) hS (fun H locs hW hz hS => ?_)
  refine w_aas (j := 2) (ix := 2) (kv := 1) (bv := 2) (ci := 1) Z hW hS (k := 10) (b := 0) rfl (by decide) rfl (by decide) (by decide) (by decide) rfl rfl rfl (by decide) rfl rfl (kN_cm (by decide)) dX1_init_52 (fun H locs hW hS => ?_)
  refine w_pFR Z hW hS kX1 rfl 4 (by decide) (by decide) q145 rfl hnm rfl (by decide) rfl rfl rfl (kN_cm (by decide)) dX1_init_53 (fun H locs hW hS => ?_)
  refine lv_aload_n hx hb dX1_init_56 rfl (lv_at hl 0 rfl) ?_
  refine lv_bipush (v := nI 10) hx hb dX1_init_57 rfl ?_
  refine w_newQ (N' := (kN [11, 1, 1, 1, 10, 0])) (k := 11) Z hW hS hA rfl rfl (fo1 hK) q93 hao.2.1 (kN_sup (by decide)) rfl (fun k hk => kN_ne hk) (fun j hj => rfl) (by decide) (Nat.le_of_ble_eq_true rfl) (Nat.le_of_ble_eq_true rfl) dX1_init_59 (fun H ad hold hW hS => ?_)
  rw [show kN [1, 1, 1, 10, 0] 11 = 0 from rfl]
  have e00 := hold 0 0 (Or.inl (by decide))
  rw [← e00] at hl hQ
  rw [← hold 0 0 (Or.inl (by decide))]
  rw [← hold 1 0 (Or.inl (by decide)), ← hold 1 1 (Or.inl (by decide)), ← hold 1 2 (Or.inl (by decide)), ← hold 10 0 (Or.inl (by decide))] at hW
  clear hold e00
  refine w_pFR Z hW hS kX1 rfl 5 (by decide) (by decide) q146 rfl hnm rfl (by decide) rfl rfl rfl (kN_cm (by decide)) dX1_init_62 (fun H locs hW hS => ?_)
  refine lv_aload_n hx hb dX1_init_65 rfl (lv_at hl 0 rfl) ?_
  refine lv_bipush (v := nI 8) hx hb dX1_init_66 rfl ?_
  refine w_newQ (N' := (kN [12, 11, 1, 1, 1, 10, 0])) (k := 12) Z hW hS hA rfl rfl (fo2 hK) q95 hao.2.2.1 (kN_sup (by decide)) rfl (fun k hk => kN_ne hk) (fun j hj => rfl) (by decide) (Nat.le_of_ble_eq_true rfl) (Nat.le_of_ble_eq_true rfl) dX1_init_68 (fun H ad hold hW hS => ?_)
  rw [show kN [11, 1, 1, 1, 10, 0] 12 = 0 from rfl]
  have e00 := hold 0 0 (Or.inl (by decide))
  rw [← e00] at hl hQ
  rw [← hold 0 0 (Or.inl (by decide))]
  rw [← hold 1 0 (Or.inl (by decide)), ← hold 1 1 (Or.inl (by decide)), ← hold 1 2 (Or.inl (by decide)), ← hold 10 0 (Or.inl (by decide)), ← hold 11 0 (Or.inl (by decide))] at hW
  clear hold e00
  refine w_pFR Z hW hS kX1 rfl 6 (by decide) (by decide) q147 rfl hnm rfl (by decide) rfl rfl rfl (kN_cm (by decide)) dX1_init_71 (fun H locs hW hS => ?_)
  refine lv_aload_n hx hb dX1_init_74 rfl (lv_at hl 0 rfl) ?_
  refine lv_iconst (v := nI 4) hx hb dX1_init_75 rfl ?_
  refine w_newQ (N' := (kN [13, 12, 11, 1, 1, 1, 10, 0])) (k := 13) Z hW hS hA rfl rfl (fo3 hK) q97 hao.2.2.2.1 (kN_sup (by decide)) rfl (fun k hk => kN_ne hk) (fun j hj => rfl) (by decide) (Nat.le_of_ble_eq_true rfl) (Nat.le_of_ble_eq_true rfl) dX1_init_76 (fun H ad hold hW hS => ?_)
  rw [show kN [12, 11, 1, 1, 1, 10, 0] 13 = 0 from rfl]
  have e00 := hold 0 0 (Or.inl (by decide))
  rw [← e00] at hl hQ
  rw [← hold 0 0 (Or.inl (by decide))]
  rw [← hold 1 0 (Or.inl (by decide)), ← hold 1 1 (Or.inl (by decide)), ← hold 1 2 (Or.inl (by decide)), ← hold 10 0 (Or.inl (by decide)), ← hold 11 0 (Or.inl (by decide)), ← hold 12 0 (Or.inl (by decide))] at hW
  clear hold e00
  refine w_pFR Z hW hS kX1 rfl 7 (by decide) (by decide) q148 rfl hnm rfl (by decide) rfl rfl rfl (kN_cm (by decide)) dX1_init_79 (fun H locs hW hS => ?_)
  refine lv_aload_n hx hb dX1_init_82 rfl (lv_at hl 0 rfl) ?_
  refine w_newO (N' := (kN [5, 13, 12, 11, 1, 1, 1, 10, 0])) (k := 5) Z hW hS hA kX3 rfl rfl q99 q100 q47 (kN_sup (by decide)) rfl (fun k hk => kN_ne hk) (by intro j hj; match j, hj with | 0, _ => rfl | 1, _ => rfl | 2, _ => rfl | j + 3, hj => exact absurd hj (by omega)) (Nat.le_of_ble_eq_true rfl) (Nat.le_of_ble_eq_true rfl) dX1_init_83 (fun H ad hold hW hS => ?_)
  rw [show kN [13, 12, 11, 1, 1, 1, 10, 0] 5 = 0 from rfl]
  have e00 := hold 0 0 (Or.inl (by decide))
  rw [← e00] at hl hQ
  rw [← hold 0 0 (Or.inl (by decide))]
  rw [← hold 1 0 (Or.inl (by decide)), ← hold 1 1 (Or.inl (by decide)), ← hold 1 2 (Or.inl (by decide)), ← hold 10 0 (Or.inl (by decide)), ← hold 11 0 (Or.inl (by decide)), ← hold 12 0 (Or.inl (by decide)), ← hold 13 0 (Or.inl (by decide))] at hW
  clear hold e00
  refine lv_dup hx hb dX1_init_86 rfl ?_
  refine wx_wv (wx_IN (As := []) (rest := [.ref (ad 5 0), .ref (ad 0 0)]) hAt.fix (m_X3_init l A Dg dA ((kN [5, 13, 12, 11, 1, 1, 1, 10, 0])) ad ((up2 (up2 (up2 (up2 (up2 (up2 (up2 nR 12 0 (.ref (ad 1 0))) 12 1 (.ref (ad 1 1))) 12 2 (.ref (ad 1 2))) 0 0 (.ref (ad 10 0))) 1 0 (.ref (ad 11 0))) 2 0 (.ref (ad 12 0))) 3 0 (.ref (ad 13 0)))) ((up2 (up2 (up2 (up2 (up2 (up2 (up2 (up2 zD 22 0 (4602678819172646912)) 43 0 (13830554455654793216)) 7 0 (FP.dconst1)) 8 0 (FP.dconst1)) 7 1 (FP.dconst1)) 8 1 (FP.dconst1)) 7 2 (FP.dconst1)) 8 2 (FP.dconst1))) zI ((kN_cm (by decide))) 0 ((by decide))) hao.2.2.2.2.2.2.2.1 q102 q103 rfl wn_X3_init ⟨Nat.le_of_ble_eq_true rfl, Nat.le_of_ble_eq_true rfl, Nat.le_of_ble_eq_true rfl, Nat.le_of_ble_eq_true rfl⟩ (Pw.of hK hW) hl.1 (Nat.le_of_ble_eq_true rfl) dX1_init_87) hS (fun H locs hW hz hS => ?_)
  refine w_pFR Z hW hS kX1 rfl 11 (by decide) (by decide) q152 rfl hnm rfl (by decide) rfl rfl rfl (kN_cm (by decide)) dX1_init_90 (fun H locs hW hS => ?_)
  refine lv_aload_n hx hb dX1_init_93 rfl (lv_at hl 0 rfl) ?_
  refine w_newO (N' := (kN [6, 5, 13, 12, 11, 1, 1, 1, 10, 0])) (k := 6) Z hW hS hA kX4 rfl rfl q115 q116 q48 (kN_sup (by decide)) rfl (fun k hk => kN_ne hk) (by intro j hj; match j, hj with | 0, _ => rfl | 1, _ => rfl | j + 2, hj => exact absurd hj (by omega)) (Nat.le_of_ble_eq_true rfl) (Nat.le_of_ble_eq_true rfl) dX1_init_94 (fun H ad hold hW hS => ?_)
  rw [show kN [5, 13, 12, 11, 1, 1, 1, 10, 0] 6 = 0 from rfl]
  have e00 := hold 0 0 (Or.inl (by decide))
  rw [← e00] at hl hQ
  rw [← hold 0 0 (Or.inl (by decide))]
  rw [← hold 1 0 (Or.inl (by decide)), ← hold 1 1 (Or.inl (by decide)), ← hold 1 2 (Or.inl (by decide)), ← hold 10 0 (Or.inl (by decide)), ← hold 11 0 (Or.inl (by decide)), ← hold 12 0 (Or.inl (by decide)), ← hold 13 0 (Or.inl (by decide)), ← hold 5 0 (Or.inl (by decide))] at hW
  clear hold e00
  refine lv_dup hx hb dX1_init_97 rfl ?_
  refine wx_wv (wx_IN (As := []) (rest := [.ref (ad 6 0), .ref (ad 0 0)]) hAt.fix (m_X4_init l A Dg dA ((kN [6, 5, 13, 12, 11, 1, 1, 1, 10, 0])) ad ((up2 (up2 (up2 (up2 (up2 (up2 (up2 (up2 nR 12 0 (.ref (ad 1 0))) 12 1 (.ref (ad 1 1))) 12 2 (.ref (ad 1 2))) 0 0 (.ref (ad 10 0))) 1 0 (.ref (ad 11 0))) 2 0 (.ref (ad 12 0))) 3 0 (.ref (ad 13 0))) 4 0 (.ref (ad 5 0)))) ((up2 (up2 (up2 (up2 (up2 (up2 (up2 (up2 zD 22 0 (4602678819172646912)) 43 0 (13830554455654793216)) 7 0 (FP.dconst1)) 8 0 (FP.dconst1)) 7 1 (FP.dconst1)) 8 1 (FP.dconst1)) 7 2 (FP.dconst1)) 8 2 (FP.dconst1))) zI ((kN_cm (by decide))) 0 ((by decide))) hao.2.2.2.2.2.2.2.2 q118 q119 rfl wn_X4_init ⟨Nat.le_of_ble_eq_true rfl, Nat.le_of_ble_eq_true rfl, Nat.le_of_ble_eq_true rfl, Nat.le_of_ble_eq_true rfl⟩ (Pw.of hK hW) hl.1 (Nat.le_of_ble_eq_true rfl) dX1_init_98) hS (fun H locs hW hz hS => ?_)
  refine w_pFR Z hW hS kX1 rfl 12 (by decide) (by decide) q153 rfl hnm rfl (by decide) rfl rfl rfl (kN_cm (by decide)) dX1_init_101 (fun H locs hW hS => ?_)
  refine lv_aload_n hx hb dX1_init_104 rfl (lv_at hl 0 rfl) ?_
  refine w_newO (N' := (kN [6, 6, 5, 13, 12, 11, 1, 1, 1, 10, 0])) (k := 6) Z hW hS hA kX4 rfl rfl q115 q116 q48 (kN_sup (by decide)) rfl (fun k hk => kN_ne hk) (by intro j hj; match j, hj with | 0, _ => rfl | 1, _ => rfl | j + 2, hj => exact absurd hj (by omega)) (Nat.le_of_ble_eq_true rfl) (Nat.le_of_ble_eq_true rfl) dX1_init_105 (fun H ad hold hW hS => ?_)
  rw [show kN [6, 5, 13, 12, 11, 1, 1, 1, 10, 0] 6 = 1 from rfl]
  have e00 := hold 0 0 (Or.inl (by decide))
  rw [← e00] at hl hQ
  rw [← hold 0 0 (Or.inl (by decide))]
  rw [← hold 1 0 (Or.inl (by decide)), ← hold 1 1 (Or.inl (by decide)), ← hold 1 2 (Or.inl (by decide)), ← hold 10 0 (Or.inl (by decide)), ← hold 11 0 (Or.inl (by decide)), ← hold 12 0 (Or.inl (by decide)), ← hold 13 0 (Or.inl (by decide)), ← hold 5 0 (Or.inl (by decide)), ← hold 6 0 (Or.inr (by decide))] at hW
  clear hold e00
  refine lv_dup hx hb dX1_init_108 rfl ?_
  refine wx_wv (wx_IN (As := []) (rest := [.ref (ad 6 1), .ref (ad 0 0)]) hAt.fix (m_X4_init l A Dg dA ((kN [6, 6, 5, 13, 12, 11, 1, 1, 1, 10, 0])) ad ((up2 (up2 (up2 (up2 (up2 (up2 (up2 (up2 (up2 nR 12 0 (.ref (ad 1 0))) 12 1 (.ref (ad 1 1))) 12 2 (.ref (ad 1 2))) 0 0 (.ref (ad 10 0))) 1 0 (.ref (ad 11 0))) 2 0 (.ref (ad 12 0))) 3 0 (.ref (ad 13 0))) 4 0 (.ref (ad 5 0))) 5 0 (.ref (ad 6 0)))) ((up2 (up2 (up2 (up2 (up2 (up2 (up2 (up2 zD 22 0 (4602678819172646912)) 43 0 (13830554455654793216)) 7 0 (FP.dconst1)) 8 0 (FP.dconst1)) 7 1 (FP.dconst1)) 8 1 (FP.dconst1)) 7 2 (FP.dconst1)) 8 2 (FP.dconst1))) zI ((kN_cm (by decide))) 1 ((by decide))) hao.2.2.2.2.2.2.2.2 q118 q119 rfl wn_X4_init ⟨Nat.le_of_ble_eq_true rfl, Nat.le_of_ble_eq_true rfl, Nat.le_of_ble_eq_true rfl, Nat.le_of_ble_eq_true rfl⟩ (Pw.of hK hW) hl.1 (Nat.le_of_ble_eq_true rfl) dX1_init_109) hS (fun H locs hW hz hS => ?_)
  refine w_pFR Z hW hS kX1 rfl 13 (by decide) (by decide) q154 rfl hnm rfl (by decide) rfl rfl rfl (kN_cm (by decide)) dX1_init_112 (fun H locs hW hS => ?_)
  refine lv_aload_n hx hb dX1_init_115 rfl (lv_at hl 0 rfl) ?_
  refine lv_bipush (v := nI 10) hx hb dX1_init_116 rfl ?_
  refine lv_bipush (v := nI 10) hx hb dX1_init_118 rfl ?_
  refine w_grid (N' := (kN [15, 15, 15, 15, 15, 15, 15, 15, 15, 15, 14, 6, 6, 5, 13, 12, 11, 1, 1, 1, 10, 0])) (ko := 14) (ki := 15) (n := 10) (k := 10) (to := 4) (ti := 5) (f := 16) (ty := .int) Z hW hS hA (by decide) rfl rfl rfl rfl q130 hao.2.2.2.2.1 q217 (hK.2 4 _ rfl).2 (hK.2 5 _ rfl).2 (kN_sup (by decide)) ⟨rfl, rfl⟩ ⟨rfl, rfl⟩ (fun k h1 h2 => kN_g (n := 10) (l := [6, 6, 5, 13, 12, 11, 1, 1, 1, 10, 0]) h1 h2) (fun _ => rfl) (fun _ => (show (1 : Nat) < 2 by decide)) (kN_ks (by decide)) (by decide +kernel) (fun b j hb hj => rfl) (by decide) (by decide) (by decide) rfl rfl (Nat.le_of_ble_eq_true rfl) (Nat.le_of_ble_eq_true rfl) dX1_init_120 (fun H ad hold hW hS => ?_)
  have e00 := hold 0 0 (by decide) (by decide)
  rw [← e00] at hl hQ
  rw [← hold 0 0 (by decide) (by decide)]
  rw [← hold 1 0 (by decide) (by decide), ← hold 1 1 (by decide) (by decide), ← hold 1 2 (by decide) (by decide), ← hold 10 0 (by decide) (by decide), ← hold 11 0 (by decide) (by decide), ← hold 12 0 (by decide) (by decide), ← hold 13 0 (by decide) (by decide), ← hold 5 0 (by decide) (by decide), ← hold 6 0 (by decide) (by decide), ← hold 6 1 (by decide) (by decide)] at hW
  clear hold e00
  refine w_pFR Z hW hS kX1 rfl 14 (by decide) (by decide) q155 rfl hnm rfl (by decide) rfl rfl rfl (kN_cm (by decide)) dX1_init_124 (fun H locs hW hS => ?_)
  refine lv_aload_n hx hb dX1_init_127 rfl (lv_at hl 0 rfl) ?_
  refine lv_bipush (v := nI 10) hx hb dX1_init_128 rfl ?_
  refine w_newA (N' := (kN [16, 15, 15, 15, 15, 15, 15, 15, 15, 15, 15, 14, 6, 6, 5, 13, 12, 11, 1, 1, 1, 10, 0])) (k := 16) (atype := .int) Z hW hS hA rfl rfl rfl q217 (hK.2 5 _ rfl).2 (kN_sup (by decide)) rfl (fun k hk => kN_ne hk) (fun j hj => rfl) (by decide) (by decide) (Nat.le_of_ble_eq_true rfl) (Nat.le_of_ble_eq_true rfl) dX1_init_130 (fun H ad hold hW hS => ?_)
  rw [show kN [15, 15, 15, 15, 15, 15, 15, 15, 15, 15, 14, 6, 6, 5, 13, 12, 11, 1, 1, 1, 10, 0] 16 = 0 from rfl]
  have e00 := hold 0 0 (Or.inl (by decide))
  rw [← e00] at hl hQ
  rw [← hold 0 0 (Or.inl (by decide))]
  rw [← hold 1 0 (Or.inl (by decide)), ← hold 1 1 (Or.inl (by decide)), ← hold 1 2 (Or.inl (by decide)), ← hold 10 0 (Or.inl (by decide)), ← hold 11 0 (Or.inl (by decide)), ← hold 12 0 (Or.inl (by decide)), ← hold 13 0 (Or.inl (by decide)), ← hold 5 0 (Or.inl (by decide)), ← hold 6 0 (Or.inl (by decide)), ← hold 6 1 (Or.inl (by decide)), ← hold 14 0 (Or.inl (by decide))] at hW
  rw [← (funext (fun b => hold 15 b (Or.inl (by decide))) : ad 15 = _)] at hW
  clear hold e00
  refine w_pFR Z hW hS kX1 rfl 15 (by decide) (by decide) q156 rfl hnm rfl (by decide) rfl rfl rfl (kN_cm (by decide)) dX1_init_132 (fun H locs hW hS => ?_)
  refine lv_aload_n hx hb dX1_init_135 rfl (lv_at hl 0 rfl) ?_
  refine lv_bipush (v := nI 10) hx hb dX1_init_136 rfl ?_
  refine lv_iconst (v := nI 4) hx hb dX1_init_138 rfl ?_
  refine w_grid (N' := (kN [18, 18, 18, 18, 18, 18, 18, 18, 18, 18, 17, 16, 15, 15, 15, 15, 15, 15, 15, 15, 15, 15, 14, 6, 6, 5, 13, 12, 11, 1, 1, 1, 10, 0])) (ko := 17) (ki := 18) (n := 10) (k := 4) (to := 6) (ti := 7) (f := 17) (ty := .double) Z hW hS hA (by decide) rfl rfl rfl rfl q132 hao.2.2.2.2.2.1 q218 (hK.2 6 _ rfl).2 (hK.2 7 _ rfl).2 (kN_sup (by decide)) ⟨rfl, rfl⟩ ⟨rfl, rfl⟩ (fun k h1 h2 => kN_g (n := 10) (l := [16, 15, 15, 15, 15, 15, 15, 15, 15, 15, 15, 14, 6, 6, 5, 13, 12, 11, 1, 1, 1, 10, 0]) h1 h2) (fun _ => rfl) (fun _ => (show (0 : Nat) < 2 by decide)) (kN_ks (by decide)) (by decide +kernel) (fun b j hb hj => rfl) (by decide) (by decide) (by decide) rfl rfl (Nat.le_of_ble_eq_true rfl) (Nat.le_of_ble_eq_true rfl) dX1_init_139 (fun H ad hold hW hS => ?_)
  have e00 := hold 0 0 (by decide) (by decide)
  rw [← e00] at hl hQ
  rw [← hold 0 0 (by decide) (by decide)]
  rw [← hold 1 0 (by decide) (by decide), ← hold 1 1 (by decide) (by decide), ← hold 1 2 (by decide) (by decide), ← hold 10 0 (by decide) (by decide), ← hold 11 0 (by decide) (by decide), ← hold 12 0 (by decide) (by decide), ← hold 13 0 (by decide) (by decide), ← hold 5 0 (by decide) (by decide), ← hold 6 0 (by decide) (by decide), ← hold 6 1 (by decide) (by decide), ← hold 14 0 (by decide) (by decide), ← hold 16 0 (by decide) (by decide)] at hW
  rw [← (funext (fun b => hold 15 b (by decide) (by decide)) : ad 15 = _)] at hW
  clear hold e00
  refine w_pFR Z hW hS kX1 rfl 17 (by decide) (by decide) q158 rfl hnm rfl (by decide) rfl rfl rfl (kN_cm (by decide)) dX1_init_143 (fun H locs hW hS => ?_)
  refine lv_aload_n hx hb dX1_init_146 rfl (lv_at hl 0 rfl) ?_
  refine lv_bipush (v := nI 9) hx hb dX1_init_147 rfl ?_
  refine lv_bipush (v := nI 16) hx hb dX1_init_149 rfl ?_
  refine w_grid (N' := (kN [20, 20, 20, 20, 20, 20, 20, 20, 20, 19, 18, 18, 18, 18, 18, 18, 18, 18, 18, 18, 17, 16, 15, 15, 15, 15, 15, 15, 15, 15, 15, 15, 14, 6, 6, 5, 13, 12, 11, 1, 1, 1, 10, 0])) (ko := 19) (ki := 20) (n := 9) (k := 16) (to := 4) (ti := 5) (f := 18) (ty := .int) Z hW hS hA (by decide) rfl rfl rfl rfl q130 hao.2.2.2.2.1 q217 (hK.2 4 _ rfl).2 (hK.2 5 _ rfl).2 (kN_sup (by decide)) ⟨rfl, rfl⟩ ⟨rfl, rfl⟩ (fun k h1 h2 => kN_g (n := 9) (l := [18, 18, 18, 18, 18, 18, 18, 18, 18, 18, 17, 16, 15, 15, 15, 15, 15, 15, 15, 15, 15, 15, 14, 6, 6, 5, 13, 12, 11, 1, 1, 1, 10, 0]) h1 h2) (fun _ => rfl) (fun _ => (show (1 : Nat) < 2 by decide)) (kN_ks (by decide)) (by decide +kernel) (fun b j hb hj => rfl) (by decide) (by decide) (by decide) rfl rfl (Nat.le_of_ble_eq_true rfl) (Nat.le_of_ble_eq_true rfl) dX1_init_151 (fun H ad hold hW hS => ?_)
  have e00 := hold 0 0 (by decide) (by decide)
  rw [← e00] at hl hQ
  rw [← hold 0 0 (by decide) (by decide)]
  rw [← hold 1 0 (by decide) (by decide), ← hold 1 1 (by decide) (by decide), ← hold 1 2 (by decide) (by decide), ← hold 10 0 (by decide) (by decide), ← hold 11 0 (by decide) (by decide), ← hold 12 0 (by decide) (by decide), ← hold 13 0 (by decide) (by decide), ← hold 5 0 (by decide) (by decide), ← hold 6 0 (by decide) (by decide), ← hold 6 1 (by decide) (by decide), ← hold 14 0 (by decide) (by decide), ← hold 16 0 (by decide) (by decide), ← hold 17 0 (by decide) (by decide)] at hW
  rw [← (funext (fun b => hold 15 b (by decide) (by decide)) : ad 15 = _)] at hW
  rw [← (funext (fun b => hold 18 b (by decide) (by decide)) : ad 18 = _)] at hW
  clear hold e00
  refine w_pFR Z hW hS kX1 rfl 18 (by decide) (by decide) q159 rfl hnm rfl (by decide) rfl rfl rfl (kN_cm (by decide)) dX1_init_155 (fun H locs hW hS => ?_)
  refine lv_aload_n hx hb dX1_init_158 rfl (lv_at hl 0 rfl) ?_
  refine lv_iconst (v := nI 3) hx hb dX1_init_159 rfl ?_
  refine w_newA (N' := (kN [21, 20, 20, 20, 20, 20, 20, 20, 20, 20, 19, 18, 18, 18, 18, 18, 18, 18, 18, 18, 18, 17, 16, 15, 15, 15, 15, 15, 15, 15, 15, 15, 15, 14, 6, 6, 5, 13, 12, 11, 1, 1, 1, 10, 0])) (k := 21) (atype := .int) Z hW hS hA rfl rfl rfl q217 (hK.2 5 _ rfl).2 (kN_sup (by decide)) rfl (fun k hk => kN_ne hk) (fun j hj => rfl) (by decide) (by decide) (Nat.le_of_ble_eq_true rfl) (Nat.le_of_ble_eq_true rfl) dX1_init_160 (fun H ad hold hW hS => ?_)
  rw [show kN [20, 20, 20, 20, 20, 20, 20, 20, 20, 19, 18, 18, 18, 18, 18, 18, 18, 18, 18, 18, 17, 16, 15, 15, 15, 15, 15, 15, 15, 15, 15, 15, 14, 6, 6, 5, 13, 12, 11, 1, 1, 1, 10, 0] 21 = 0 from rfl]
  have e00 := hold 0 0 (Or.inl (by decide))
  rw [← e00] at hl hQ
  rw [← hold 0 0 (Or.inl (by decide))]
  rw [← hold 1 0 (Or.inl (by decide)), ← hold 1 1 (Or.inl (by decide)), ← hold 1 2 (Or.inl (by decide)), ← hold 10 0 (Or.inl (by decide)), ← hold 11 0 (Or.inl (by decide)), ← hold 12 0 (Or.inl (by decide)), ← hold 13 0 (Or.inl (by decide)), ← hold 5 0 (Or.inl (by decide)), ← hold 6 0 (Or.inl (by decide)), ← hold 6 1 (Or.inl (by decide)), ← hold 14 0 (Or.inl (by decide)), ← hold 16 0 (Or.inl (by decide)), ← hold 17 0 (Or.inl (by decide)), ← hold 19 0 (Or.inl (by decide))] at hW
  rw [← (funext (fun b => hold 15 b (Or.inl (by decide))) : ad 15 = _)] at hW
  rw [← (funext (fun b => hold 18 b (Or.inl (by decide))) : ad 18 = _)] at hW
  rw [← (funext (fun b => hold 20 b (Or.inl (by decide))) : ad 20 = _)] at hW
  clear hold e00
  refine w_pFR Z hW hS kX1 rfl 23 (by decide) (by decide) q164 rfl hnm rfl (by decide) rfl rfl rfl (kN_cm (by decide)) dX1_init_162 (fun H locs hW hS => ?_)
  refine lv_aload_n hx hb dX1_init_165 rfl (lv_at hl 0 rfl) ?_
  refine lv_bipush (v := nI 8) hx hb dX1_init_166 rfl ?_
  refine lv_bipush (v := nI 64) hx hb dX1_init_168 rfl ?_
  refine lv_iload_n hx hb dX1_init_170 rfl (lv_at hl 1 rfl) ?_
  refine va_mmin hx hb (hml.trans hl.1.symm) hown (hts _ (lw_car_all q134)) (hts _ (lw_car_all q135)) (hts _ (lw_car_all q49)) (hts _ (lw_car_all q136)) (Nat.le_of_ble_eq_true rfl) (Nat.le_of_ble_eq_true rfl) (Nat.le_of_ble_eq_true rfl) (Nat.le_of_ble_eq_true rfl) dX1_init_171 ?_
  refine va_mmax hx hb (hml.trans hl.1.symm) hown (hts _ (lw_car_all q137)) (hts _ (lw_car_all q138)) (hts _ (lw_car_all q49)) (hts _ (lw_car_all q139)) (Nat.le_of_ble_eq_true rfl) (Nat.le_of_ble_eq_true rfl) (Nat.le_of_ble_eq_true rfl) (Nat.le_of_ble_eq_true rfl) dX1_init_174 ?_
  rw [show (if nI 8 < if sd < nI 64 then sd else nI 64 then if sd < nI 64 then sd else nI 64 else nI 8) = clS sd from clS_c]
  obtain ⟨i5, i6⟩ := clS_b (s := sd)
  refine lv_i2d hx hb dX1_init_177 ?_
  refine lv_ldc2d (v := 4602678819172646912) hx hb hown (hts _ (lw_car_all q69)) dX1_init_178 ?_
  have f1 : fb (5) (FP.dmul (FP.i2d (clS sd)) 4602678819172646912) := fb.mul i5 fc_4602678819172646912 (by decide)
  refine lv_dmul hx hb dX1_init_181 f1.n64 ?_
  refine w_pFD Z hW hS kX1 rfl 0 (by decide) (by decide) q141 rfl hnm rfl (by decide) rfl rfl dX1_init_182 (fun H locs hW hS => ?_)
  refine lv_aload_n hx hb dX1_init_185 rfl (lv_at hl 0 rfl) ?_
  refine lv_aload_n hx hb dX1_init_186 rfl (lv_at hl 0 rfl) ?_
  refine g_D (x := FP.dmul (FP.i2d (clS sd)) 4602678819172646912) Z hW kX1 rfl 0 (by decide) q141 (by decide) rfl rfl dX1_init_187 ?_
  refine lv_ldc2d (v := 4598175219545276416) hx hb hown (hts _ (lw_car_all q140)) dX1_init_190 ?_
  have f2 : fb (3) (FP.dmul (FP.dmul (FP.i2d (clS sd)) 4602678819172646912) 4598175219545276416) := fb.mul f1 fc_4598175219545276416 (by decide)
  refine lv_dmul hx hb dX1_init_193 f2.n64 ?_
  refine w_putD Z hW hS kX1 rfl 1 (by decide) (by decide) q142 rfl (by decide) rfl rfl dX1_init_194 (fun H locs hW hS => ?_)
  rw [hQ]
  exact rW_v hx hb hr hlk hS (⟨ad, _, _, _, rfl, World.tab2 (fun _ => cN_ks) (World.drop hW (c_sup _ _ _ _) cN_kN) (fun f i h => ini_R h), ini_ag, agI.rf, ini_w, NL_0 rfl⟩) dX1_init_197
