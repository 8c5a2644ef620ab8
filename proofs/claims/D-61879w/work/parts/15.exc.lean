set_option maxRecDepth 100000
/-! ===== making an exception: 'new C' has been done, its constructor is called (no stack traces in this launch) ===== -/
def ex_atoms0 (own : String) (ic : Nat) (X : String) (names : List String) : List Cond :=
  Bundle.throwableAtoms ++ Bundle.chain0Atoms X names ++
  [.methodLink own ic (Bundle.init0 X), .instantiable X 6, .selects X Bundle.tFill0 Bundle.tFill0, .selects X Bundle.tFill Bundle.tFill,
   .lays X Bundle.tN "cause" "Ljava/lang/Throwable;", .lays X Bundle.tN "stackTrace" Bundle.steD, .lays X Bundle.tN "suppressedExceptions" Bundle.listD,
   .fieldLink Bundle.tN 198 Bundle.tN "backtrace" "Ljava/lang/Object;", .lays Bundle.tN Bundle.tN "backtrace" "Ljava/lang/Object;", .lays X Bundle.tN "backtrace" "Ljava/lang/Object;"]
def ex_atomsS (own : String) (ic : Nat) (X : String) (names : List String) : List Cond :=
  Bundle.throwableAtoms ++ Bundle.throwableSAtoms ++ Bundle.chainSAtoms X names ++
  [.methodLink own ic (Bundle.initS X), .instantiable X 6, .selects X Bundle.tFill0 Bundle.tFill0, .selects X Bundle.tFill Bundle.tFill,
   .lays X Bundle.tN "cause" "Ljava/lang/Throwable;", .lays X Bundle.tN "stackTrace" Bundle.steD, .lays X Bundle.tN "suppressedExceptions" Bundle.listD, .lays X Bundle.tN "detailMessage" "Ljava/lang/String;",
   .fieldLink Bundle.tN 198 Bundle.tN "backtrace" "Ljava/lang/Object;", .lays Bundle.tN Bundle.tN "backtrace" "Ljava/lang/Object;", .lays X Bundle.tN "backtrace" "Ljava/lang/Object;"]
abbrev ex_s1 : Cond := .laysStatic Bundle.tN "UNASSIGNED_STACK" Bundle.steD
abbrev ex_s2 : Cond := .laysStatic Bundle.tN "SUPPRESSED_SENTINEL" Bundle.listD
/-- what Throwable's statics hold; nobody writes them -/
def wx_stat (A : Nat → Prop) (U : State) : Prop := ∃ (cT : ClassId) (kT : Class) (aS : Addr) (cellS : Cell) (iU iS : Nat) (u0 sen : RefV), U.vm.findClass Bundle.tN = some cT ∧ U.vm.classes[cT]? = some kT ∧ kT.statics = some aS ∧ ¬ A aS ∧ U.heap[aS]? = some cellS ∧ cellS.vm.isStatics = true ∧
  SlotIs U Bundle.tN "UNASSIGNED_STACK" Bundle.steD iU ∧ cellS.slots[iU]? = some u0.v ∧ SlotIs U Bundle.tN "SUPPRESSED_SENTINEL" Bundle.listD iS ∧ cellS.slots[iS]? = some sen.v ∧ ex_s1.before #[] U = true ∧ ex_s2.before #[] U = true
theorem ex_s_moved {u U : State} {f d : String} {cT : ClassId} {kT : Class} {aS : Addr} (hvm : u.vm.Alike U.vm) (h1 : u.vm.findClass Bundle.tN = some cT) (h2 : u.vm.classes[cT]? = some kT) (h3 : kT.statics = some aS) (hk : U.heap[aS]? = u.heap[aS]?) (h : (Cond.laysStatic Bundle.tN f d).before #[] u = true) : (Cond.laysStatic Bundle.tN f d).before #[] U = true := by
  obtain ⟨c, k, i, fd, a, cell, hc, hf, hst, hsta, hcell, hiss, hcls, hlt, hty⟩ := Cond.laysStatic_spec h
  cases Option.some.inj (h1.symm.trans hc)
  cases Option.some.inj (h2.symm.trans (State.fieldFound?_spec hf).1)
  cases Option.some.inj (h3.symm.trans hsta)
  obtain ⟨k', hf', he⟩ := State.fieldFound?_setVm (s := u) hvm hf
  have hf2 : U.fieldFound? Bundle.tN f d = some (cT, k', i, fd) := by simpa only [State.fieldFound?, State.vm_setVm] using hf'
  have e1 : U.vm.findClass Bundle.tN = some cT := by rw [hvm.findClass]; exact h1
  have e2 : k'.statics = some aS := by rw [he]; exact h3
  have e3 : k'.staticTypes[fd.slot]? = some fd.type := by rw [he]; exact hty
  simp [Cond.before, Cond.holds, Cond.value, e1, hf2, hst, e2, hk, hcell, hiss, hcls, hlt, e3]
theorem wx_stat.moved {A : Nat → Prop} {u U : State} (hvm : u.vm.Alike U.vm) (hk : ∀ q, q < u.heap.size → ¬ A q → U.heap[q]? = u.heap[q]?) (h : wx_stat A u) : wx_stat A U := by
  obtain ⟨cT, kT, aS, cellS, iU, iS, u0, sen, h1, h2, h3, h4, h5, h6, h7, h8, h9, h10, h11, h12⟩ := h
  obtain ⟨k', hk', he⟩ := hvm.2.2 _ _ h2
  have hq : U.heap[aS]? = u.heap[aS]? := hk aS (Array.getElem?_eq_some_iff.mp h5).1 h4
  refine ⟨cT, k', aS, cellS, iU, iS, u0, sen, by rw [hvm.findClass]; exact h1, hk', by rw [he]; exact h3, h4, ?_, h6, slotIs_moved hvm h7, h8, slotIs_moved hvm h9, h10, ex_s_moved hvm h1 h2 h3 hq h11, ex_s_moved hvm h1 h2 h3 hq h12⟩
  rw [hq]; exact h5
theorem wx_stat.words {A : Nat → Prop} {s : State} {args : Array Value} {ws : List Cond} (hst : wx_stat A s) (hts : ∀ w ∈ lw_car, w.before args s = true) (hw : ∀ w ∈ ws, w ∈ lw_car ∨ w = ex_s1 ∨ w = ex_s2) : ∀ x ∈ ws, x.before args s = true := by
  obtain ⟨cT, kT, aS, cellS, iU, iS, u0, sen, h1, h2, h3, h4, h5, h6, h7, h8, h9, h10, h11, h12⟩ := hst
  intro x hx
  rcases hw x hx with h | h | h
  · exact hts x h
  · subst h; exact h11
  · subst h; exact h12
section EXC
variable {p : Program} {l : Launch} {e : Env} {R : Room} {s : State} {m : MethodId} {args : Array Value} {below : List Frame} {meth : Method} {c : Code} {H : Heap} {locs : List Loc} {cells slots : Nat} {Q : State → Prop}
variable {cc : ByteArray} {pc nL : Nat} {ls : Array Slot} {rest : List Value}
set_option maxHeartbeats 4000000 in
theorem wx_exc0 {own cls : String} {names : List String} {ic : Nat} {A : Nat → Prop} (S : wx_Fix p m c cc nL s args own) (hfl : l.flags = flags0) (hcls : Bundle.fit cls = true) (hnames : ∀ n ∈ names, Bundle.fit n = true) (hw : ∀ w ∈ ex_atoms0 own ic cls names, w ∈ lw_car ∨ w = ex_s1 ∨ w = ex_s2) (hst : wx_stat A s) (hS : va_S A s.heap H locs)
    {a : Addr} {cX : ClassId} {kX : Class} (hfoundX : s.vm.findClass cls = some cX) (hkX : s.vm.classes[cX]? = some kX) (hcell : H[a]? = some { cls := cX, slots := kX.instanceTypes.map defaultValue, vm := .none }) (hnew : s.heap.size ≤ a) (hAa : A a) (hsize : ls.size = nL) (hdg : decode cc pc = .ok (.invokespecial ic, 3))
    (hRframes : names.length + 3 < R.frames) (hRlocals : (rest.map fun v => v.category).sum + (13 * (names.length + 1) + 41) ≤ R.locals)
    (k : ∀ (H1 : Heap) (locs1 : List Loc) (ce : Cell), H1[a]? = some ce → ce.vm = .none → ce.cls = cX → H1.size = H.size → (∀ q : Nat, q ≠ a → H1[q]? = H[q]?) → va_S A s.heap H1 locs1 → W p l e R s m args below meth c H1 locs1 cells slots Q (F0 m (pc + 3) ls rest)) :
    W p l e R s m args below meth c H locs cells slots Q (F0 m pc ls (.ref a :: rest)) := by
  intro V hV X
  obtain ⟨hexec, hb, hml, hown, hts⟩ := S
  have hcell' : V.heap[a]? = some (freshCell cX kX) := by rw [hV]; exact hcell
  have htr : e.platform.stackTraces = false := Launch.traces_off hfl X.admits
  have howns : e.platform.frameOwnsMonitors = true := by rw [X.admits.platform]
  have hfin : e.platform.finalization = false := by rw [X.admits.platform]
  have hpl : e.platform.magicAccessors = ({} : Platform).magicAccessors := by rw [X.admits.platform]
  have h : ∀ x ∈ ex_atoms0 own ic cls names, x.before args s = true := hst.words hts hw
  have a' : ∀ x, x ∈ ex_atoms0 own ic cls names → x.holds args s none s [] = true := fun x hx => h x hx
  obtain ⟨T, Z, L, LZ, Y⟩ := ThrowableC.of_atoms (args := args) howns hfin hpl (fun x hx => h x (by simp [ex_atoms0, hx]))
  obtain ⟨P1, Ps, hlen, L1, hL, hP1m, hlink1, hlink⟩ := Bundle.chain0 (args := args) hpl Y.init0 names cls hcls hnames (fun x hx => h x (by simp [ex_atoms0, hx]))
  have hfound : s.vm.findClass cls = some P1.m.cls := findClass_of_methodNamed hP1m
  cases Option.some.inj (hfoundX.symm.trans hfound)
  obtain ⟨c1, kX', hc1, hk, hord, -, -, hn6⟩ := Cond.instantiable_spec (a' (.instantiable cls 6) (by simp [ex_atoms0]))
  cases Option.some.inj (hc1.symm.trans hfound)
  cases Option.some.inj (hkX.symm.trans hk)
  have hsel0 : selectMethod e.platform s.vm P1.m.cls T.fill0 = .method T.fill0 := by
    obtain ⟨c2, r2, m2, q1, q2, q3, q4, -⟩ := Cond.selects_spec (a' (.selects cls Bundle.tFill0 Bundle.tFill0) (by simp [ex_atoms0]))
    cases Option.some.inj (q1.symm.trans hfound)
    cases Option.some.inj (q2.symm.trans (State.methodFound?_of_named Y.fill0 (by decide)))
    cases Option.some.inj (q3.symm.trans Y.fill0)
    rw [Launch.admits_selectMethod X.admits]; exact q4
  have hselF : selectMethod e.platform s.vm P1.m.cls T.fill = .method T.fill := by
    obtain ⟨c2, r2, m2, q1, q2, q3, q4, -⟩ := Cond.selects_spec (a' (.selects cls Bundle.tFill Bundle.tFill) (by simp [ex_atoms0]))
    cases Option.some.inj (q1.symm.trans hfound)
    cases Option.some.inj (q2.symm.trans (State.methodFound?_of_named Y.fill (by decide)))
    cases Option.some.inj (q3.symm.trans Y.fill)
    rw [Launch.admits_selectMethod X.admits]; exact q4
  obtain ⟨cT, kT, aS, cellS, iU, iS, u0, sen, z1, z2, z3, z4, z5, z6, ⟨_, _, _, fU, z7, z7e⟩, z8, ⟨_, _, _, fS, z9, z9e⟩, z10, -, -⟩ := hst
  cases Option.some.inj (z1.symm.trans Y.found)
  cases Option.some.inj (z2.symm.trans L.cls)
  cases Option.some.inj (z3.symm.trans L.statics)
  cases Option.some.inj (z7.symm.trans Y.unassigned)
  cases Option.some.inj (z9.symm.trans Y.sentinel)
  rw [← z7e] at z8
  rw [← z9e] at z10
  have hltS := (Array.getElem?_eq_some_iff.mp z5).1
  have hcellS : V.heap[T.aS]? = some cellS := by rw [hV, hS.2.1 _ hltS z4]; exact z5
  have hknownS : cellS.vm ≠ .unknown := by
    intro hu
    rw [hu] at z6
    cases z6
  have hneS : T.aS ≠ a := Nat.ne_of_lt (Nat.lt_of_lt_of_le hltS hnew)
  obtain ⟨ci198, i198, fB, hk198, hg198, ha198, hsB, -, hnB, htB, hffB⟩ := Cond.ownField (t := .object "java/lang/Object") Y.found L.cls (by decide +kernel) (a' (.fieldLink Bundle.tN 198 Bundle.tN "backtrace" "Ljava/lang/Object;") (by simp [ex_atoms0])) (a' (.lays Bundle.tN Bundle.tN "backtrace" "Ljava/lang/Object;") (by simp [ex_atoms0])) e.platform hpl
  obtain ⟨tyC, dC, hdC, hdnC⟩ := Cond.laysAt hfound hk Y.cause (a' (.lays cls Bundle.tN "cause" "Ljava/lang/Throwable;") (by simp [ex_atoms0]))
  obtain ⟨tyS, dS, hdS, hdnS⟩ := Cond.laysAt hfound hk Y.stack (a' (.lays cls Bundle.tN "stackTrace" Bundle.steD) (by simp [ex_atoms0]))
  obtain ⟨tyP, dP, hdP, hdnP⟩ := Cond.laysAt hfound hk Y.supp (a' (.lays cls Bundle.tN "suppressedExceptions" Bundle.listD) (by simp [ex_atoms0]))
  obtain ⟨tyB, dB, hdB, hdnB⟩ := Cond.laysAt hfound hk hffB (a' (.lays cls Bundle.tN "backtrace" "Ljava/lang/Object;") (by simp [ex_atoms0]))
  have bC := Cond.laysApart hdB hdC hdnB hdnC (by rw [hnB, Y.causeName]; decide)
  have bS := Cond.laysApart hdB hdS hdnB hdnS (by rw [hnB, Y.stackName]; decide)
  have bP := Cond.laysApart hdB hdP hdnB hdnP (by rw [hnB, Y.suppName]; decide)
  have hskip : SkipFacts T e.platform s (fun u => u) u0 ((preparedCellV T.toThrowableT (freshCell P1.m.cls kX) a u0 sen).withEntry V.cur) :=
    ⟨{ ci198 := ci198, i198 := i198, fBack := fB }, ⟨hk198, hg198, ha198, hsB⟩, by
      have := fresh_default (c := P1.m.cls) tyB
      rw [htB] at this
      simpa [preparedCellV, Cell.setSlot, Cell.withEntry, Array.getElem?_setIfInBounds, bC, bS, bP, bC.symm, bS.symm, bP.symm, defaultValue] using this, fun _ _ => rfl⟩
  subst hb
  obtain ⟨tm, methC, cdC, kC, vm₁, hnC, -, -, -, -, -, -, -, hW₁, st1⟩ := Steps.initCold (tb := p.tables) (e := e) (below := below) (s := s) (U := V) X.here hexec X.warmed hpl hown (t := Bundle.init0 cls) rfl rfl (Bundle.fit_spec hcls).2
    (a' (.methodLink own ic (Bundle.init0 cls)) (by simp [ex_atoms0])) (h (.instanceMethod (Bundle.init0 cls)) (by cases names <;> simp [ex_atoms0, Bundle.chain0Atoms, Bundle.passAtoms])) (bytes := Bundle.five) (maxL := 1) (h (.code (Bundle.init0 cls) Bundle.five 1 none) (by cases names <;> simp [ex_atoms0, Bundle.chain0Atoms, Bundle.passAtoms]))
    (f := F0 m pc ls (.ref a :: rest)) rfl (a := a) (rest := rest) rfl hdg
  cases Option.some.inj (hnC.symm.trans hP1m)
  have X₁ := X.noted hW₁
  obtain ⟨vm₂, X₂, st2⟩ := X₁.ctorPlainOffV hexec (g := F0 m pc ls rest) rfl (hsize.trans hml.symm) T L Z LZ (P1 :: Ps)
    (fun P hP => by rcases List.mem_cons.mp hP with rfl | hP; exact L1; exact hL P hP) ⟨hlink1, hlink⟩ (u0 := u0) (sen := sen) (self := a) (cell := freshCell P1.m.cls kX) (cellS := cellS)
    hcell' (fun _ => by simp) (by simp) rfl rfl hsel0 hselF hcellS hneS hknownS z8 z10
    (Takes.of_laid hk hord tyC (by rw [Y.causeType]; rfl)) (Takes.of_laid hk hord tyS (by rw [Y.stackType]; exact fits_refV_array _ u0)) (Takes.of_laid hk hord tyP (by rw [Y.suppType]; exact fits_refV_object _ sen)) Y.objLocals hskip htr [] hdg
    (by simp only [List.length_cons, hlen]; omega) (by simp only [List.length_cons, hlen]; show 2 * 0 + _ + _ ≤ _; omega)
  have hlt : a < ((V.setVm vm₁).setVm vm₂).heap.size := (Array.getElem?_eq_some_iff.mp hcell').1
  have hU := heapAt_setCell_self (s := (V.setVm vm₁).setVm vm₂) ((preparedCellV T.toThrowableT (freshCell P1.m.cls kX) a u0 sen).setSlot T.fStack.slot u0.v) hlt
  have e2 : ∀ q : Nat, q ≠ a → (((V.setVm vm₁).setVm vm₂).setCell a ((preparedCellV T.toThrowableT (freshCell P1.m.cls kX) a u0 sen).setSlot T.fStack.slot u0.v)).heap[q]? = H[q]? := fun q hq => by rw [heapAt_setCell_ne _ (Ne.symm hq), ← hV]; rfl
  have e1 : (((V.setVm vm₁).setVm vm₂).setCell a ((preparedCellV T.toThrowableT (freshCell P1.m.cls kX) a u0 sen).setSlot T.fStack.slot u0.v)).heap.size = H.size := by rw [size_setCell, ← hV]; rfl
  obtain ⟨t2, a1, b1⟩ := k _ _ _ hU rfl rfl e1 e2 (⟨by rw [e1]; exact hS.1, fun q h1 h2 => by rw [e2 q (fun z => h2 (z ▸ hAa))]; exact hS.2.1 q h1 h2, fun q hq => by
      rcases List.mem_append.mp hq with hq | hq
      · exact hS.2.2 q hq
      · simp only [List.mem_cons, List.not_mem_nil, or_false] at hq
        rcases hq with rfl | rfl | rfl | rfl <;> exact hAa⟩) _ rfl X₂
  exact ⟨t2, st1 _ (fun acts => by rw [doInvoke_state]; exact st2 _ a1), b1⟩
set_option maxHeartbeats 4000000 in
theorem wx_excS {own cls : String} {names : List String} {ic : Nat} {A : Nat → Prop} (S : wx_Fix p m c cc nL s args own) (hfl : l.flags = flags0) (hcls : Bundle.fit cls = true) (hnames : ∀ n ∈ names, Bundle.fit n = true) (hw : ∀ w ∈ ex_atomsS own ic cls names, w ∈ lw_car ∨ w = ex_s1 ∨ w = ex_s2) (hst : wx_stat A s) (hS : va_S A s.heap H locs)
    {a : Addr} {cX : ClassId} {kX : Class} (hfoundX : s.vm.findClass cls = some cX) (hkX : s.vm.classes[cX]? = some kX) (hcell : H[a]? = some { cls := cX, slots := kX.instanceTypes.map defaultValue, vm := .none }) (hnew : s.heap.size ≤ a) (hAa : A a) (hsize : ls.size = nL) (hdg : decode cc pc = .ok (.invokespecial ic, 3))
    (hRframes : names.length + 3 < R.frames) (hRlocals : (rest.map fun v => v.category).sum + (13 * (names.length + 1) + 42) ≤ R.locals) {msg : Value} (hmsg : msg.isRef = true)
    (k : ∀ (H1 : Heap) (locs1 : List Loc) (ce : Cell), H1[a]? = some ce → ce.vm = .none → ce.cls = cX → H1.size = H.size → (∀ q : Nat, q ≠ a → H1[q]? = H[q]?) → va_S A s.heap H1 locs1 → W p l e R s m args below meth c H1 locs1 cells slots Q (F0 m (pc + 3) ls rest)) :
    W p l e R s m args below meth c H locs cells slots Q (F0 m pc ls (msg :: .ref a :: rest)) := by
  intro V hV X
  obtain ⟨hexec, hb, hml, hown, hts⟩ := S
  have hcell' : V.heap[a]? = some (freshCell cX kX) := by rw [hV]; exact hcell
  have htr : e.platform.stackTraces = false := Launch.traces_off hfl X.admits
  have howns : e.platform.frameOwnsMonitors = true := by rw [X.admits.platform]
  have hfin : e.platform.finalization = false := by rw [X.admits.platform]
  have hpl : e.platform.magicAccessors = ({} : Platform).magicAccessors := by rw [X.admits.platform]
  have h : ∀ x ∈ ex_atomsS own ic cls names, x.before args s = true := hst.words hts hw
  have a' : ∀ x, x ∈ ex_atomsS own ic cls names → x.holds args s none s [] = true := fun x hx => h x hx
  obtain ⟨T, Z0, L, -, Y⟩ := ThrowableC.of_atoms (args := args) howns hfin hpl (fun x hx => h x (by simp [ex_atomsS, hx]))
  obtain ⟨Z, M, LZ, LM, hnZ⟩ := Init0T.ofS_atoms (args := args) hpl L Y (fun x hx => h x (by simp [ex_atomsS, hx]))
  obtain ⟨P1, Ps, hlen, L1, hL, hP1m, hlink1, hlink⟩ := Bundle.chainS (args := args) hpl hnZ names cls hcls hnames (fun x hx => h x (by simp [ex_atomsS, hx]))
  have hfound : s.vm.findClass cls = some P1.m.cls := findClass_of_methodNamed hP1m
  cases Option.some.inj (hfoundX.symm.trans hfound)
  obtain ⟨c1, kX', hc1, hk, hord, -, -, hn6⟩ := Cond.instantiable_spec (a' (.instantiable cls 6) (by simp [ex_atomsS]))
  cases Option.some.inj (hc1.symm.trans hfound)
  cases Option.some.inj (hkX.symm.trans hk)
  have hsel0 : selectMethod e.platform s.vm P1.m.cls T.fill0 = .method T.fill0 := by
    obtain ⟨c2, r2, m2, q1, q2, q3, q4, -⟩ := Cond.selects_spec (a' (.selects cls Bundle.tFill0 Bundle.tFill0) (by simp [ex_atomsS]))
    cases Option.some.inj (q1.symm.trans hfound)
    cases Option.some.inj (q2.symm.trans (State.methodFound?_of_named Y.fill0 (by decide)))
    cases Option.some.inj (q3.symm.trans Y.fill0)
    rw [Launch.admits_selectMethod X.admits]; exact q4
  have hselF : selectMethod e.platform s.vm P1.m.cls T.fill = .method T.fill := by
    obtain ⟨c2, r2, m2, q1, q2, q3, q4, -⟩ := Cond.selects_spec (a' (.selects cls Bundle.tFill Bundle.tFill) (by simp [ex_atomsS]))
    cases Option.some.inj (q1.symm.trans hfound)
    cases Option.some.inj (q2.symm.trans (State.methodFound?_of_named Y.fill (by decide)))
    cases Option.some.inj (q3.symm.trans Y.fill)
    rw [Launch.admits_selectMethod X.admits]; exact q4
  obtain ⟨cT, kT, aS, cellS, iU, iS, u0, sen, z1, z2, z3, z4, z5, z6, ⟨_, _, _, fU, z7, z7e⟩, z8, ⟨_, _, _, fS, z9, z9e⟩, z10, -, -⟩ := hst
  cases Option.some.inj (z1.symm.trans Y.found)
  cases Option.some.inj (z2.symm.trans L.cls)
  cases Option.some.inj (z3.symm.trans L.statics)
  cases Option.some.inj (z7.symm.trans Y.unassigned)
  cases Option.some.inj (z9.symm.trans Y.sentinel)
  rw [← z7e] at z8
  rw [← z9e] at z10
  have hltS := (Array.getElem?_eq_some_iff.mp z5).1
  have hcellS : V.heap[T.aS]? = some cellS := by rw [hV, hS.2.1 _ hltS z4]; exact z5
  have hknownS : cellS.vm ≠ .unknown := by
    intro hu
    rw [hu] at z6
    cases z6
  have hneS : T.aS ≠ a := Nat.ne_of_lt (Nat.lt_of_lt_of_le hltS hnew)
  obtain ⟨ci198, i198, fB, hk198, hg198, ha198, hsB, -, hnB, htB, hffB⟩ := Cond.ownField (t := .object "java/lang/Object") Y.found L.cls (by decide +kernel) (a' (.fieldLink Bundle.tN 198 Bundle.tN "backtrace" "Ljava/lang/Object;") (by simp [ex_atomsS])) (a' (.lays Bundle.tN Bundle.tN "backtrace" "Ljava/lang/Object;") (by simp [ex_atomsS])) e.platform hpl
  obtain ⟨tyC, dC, hdC, hdnC⟩ := Cond.laysAt hfound hk Y.cause (a' (.lays cls Bundle.tN "cause" "Ljava/lang/Throwable;") (by simp [ex_atomsS]))
  obtain ⟨tyS, dS, hdS, hdnS⟩ := Cond.laysAt hfound hk Y.stack (a' (.lays cls Bundle.tN "stackTrace" Bundle.steD) (by simp [ex_atomsS]))
  obtain ⟨tyP, dP, hdP, hdnP⟩ := Cond.laysAt hfound hk Y.supp (a' (.lays cls Bundle.tN "suppressedExceptions" Bundle.listD) (by simp [ex_atomsS]))
  obtain ⟨iM, hffM⟩ := Y.msg
  obtain ⟨tyM, dM, hdM, hdnM⟩ := Cond.laysAt hfound hk hffM (a' (.lays cls Bundle.tN "detailMessage" "Ljava/lang/String;") (by simp [ex_atomsS]))
  obtain ⟨tyB, dB, hdB, hdnB⟩ := Cond.laysAt hfound hk hffB (a' (.lays cls Bundle.tN "backtrace" "Ljava/lang/Object;") (by simp [ex_atomsS]))
  have bC := Cond.laysApart hdB hdC hdnB hdnC (by rw [hnB, Y.causeName]; decide)
  have bS := Cond.laysApart hdB hdS hdnB hdnS (by rw [hnB, Y.stackName]; decide)
  have bP := Cond.laysApart hdB hdP hdnB hdnP (by rw [hnB, Y.suppName]; decide)
  have hskip : SkipFacts T e.platform s (fun u => u) u0 ((preparedCellV T.toThrowableT (freshCell P1.m.cls kX) a u0 sen).withEntry V.cur) :=
    ⟨{ ci198 := ci198, i198 := i198, fBack := fB }, ⟨hk198, hg198, ha198, hsB⟩, by
      have := fresh_default (c := P1.m.cls) tyB
      rw [htB] at this
      simpa [preparedCellV, Cell.setSlot, Cell.withEntry, Array.getElem?_setIfInBounds, bC, bS, bP, bC.symm, bS.symm, bP.symm, defaultValue] using this, fun _ _ => rfl⟩
  subst hb
  obtain ⟨tm, methC, cdC, kC, vm₁, hnC, -, -, -, -, -, -, -, hW₁, st1⟩ := Steps.initColdS (tb := p.tables) (e := e) (below := below) (s := s) (U := V) X.here hexec X.warmed hpl hown (t := Bundle.initS cls) rfl rfl (Bundle.fit_spec hcls).2
    (a' (.methodLink own ic (Bundle.initS cls)) (by simp [ex_atomsS])) (h (.instanceMethod (Bundle.initS cls)) (by cases names <;> simp [ex_atomsS, Bundle.chainSAtoms, Bundle.passSAtoms])) (bytes := Bundle.six) (maxL := 2) (h (.code (Bundle.initS cls) Bundle.six 2 none) (by cases names <;> simp [ex_atomsS, Bundle.chainSAtoms, Bundle.passSAtoms]))
    (f := F0 m pc ls (msg :: .ref a :: rest)) rfl (a := a) (msg := msg) (rest := rest) rfl hdg
  cases Option.some.inj (hnC.symm.trans hP1m)
  have X₁ := X.noted hW₁
  obtain ⟨vm₂, X₂, st2⟩ := X₁.ctorMessageOffV hexec (g := F0 m pc ls rest) rfl (hsize.trans hml.symm) T L Z LZ M LM (P1 :: Ps)
    (fun P hP => by rcases List.mem_cons.mp hP with rfl | hP; exact L1; exact hL P hP) ⟨hlink1, hlink⟩ (u0 := u0) (sen := sen) (self := a) hmsg (cell := freshCell P1.m.cls kX) (cellS := cellS)
    hcell' (fun _ => by simp) (by simp) rfl rfl hsel0 hselF hcellS hneS hknownS z8 z10
    (Takes.of_laid hk hord tyC (by rw [Y.causeType]; rfl)) (Takes.of_laid hk hord tyS (by rw [Y.stackType]; exact fits_refV_array _ u0)) (Takes.of_laid hk hord tyP (by rw [Y.suppType]; exact fits_refV_object _ sen)) (Takes.of_laid hk hord tyM (by rw [Y.msgType]; exact fits_refV_object _ ⟨msg, hmsg⟩)) Y.objLocals hskip htr [] hdg
    (by simp only [List.length_cons, hlen]; omega) (by simp only [List.length_cons, hlen]; show 2 * 0 + _ + _ ≤ _; omega)
  have hlt : a < ((V.setVm vm₁).setVm vm₂).heap.size := (Array.getElem?_eq_some_iff.mp hcell').1
  have hU := heapAt_setCell_self (s := (V.setVm vm₁).setVm vm₂) (plainBareV T.toThrowableT (freshCell P1.m.cls kX) a u0 sen msg) hlt
  have e2 : ∀ q : Nat, q ≠ a → (((V.setVm vm₁).setVm vm₂).setCell a (plainBareV T.toThrowableT (freshCell P1.m.cls kX) a u0 sen msg)).heap[q]? = H[q]? := fun q hq => by rw [heapAt_setCell_ne _ (Ne.symm hq), ← hV]; rfl
  have e1 : (((V.setVm vm₁).setVm vm₂).setCell a (plainBareV T.toThrowableT (freshCell P1.m.cls kX) a u0 sen msg)).heap.size = H.size := by rw [size_setCell, ← hV]; rfl
  obtain ⟨t2, a1, b1⟩ := k _ _ _ hU rfl rfl e1 e2 (⟨by rw [e1]; exact hS.1, fun q h1 h2 => by rw [e2 q (fun z => h2 (z ▸ hAa))]; exact hS.2.1 q h1 h2, fun q hq => by
      rcases List.mem_append.mp hq with hq | hq
      · exact hS.2.2 q hq
      · simp only [List.mem_cons, List.not_mem_nil, or_false] at hq
        rcases hq with rfl | rfl | rfl | rfl | rfl <;> exact hAa⟩) _ rfl X₂
  exact ⟨t2, st1 _ (fun acts => by rw [doInvoke_state]; exact st2 _ a1), b1⟩
end EXC
