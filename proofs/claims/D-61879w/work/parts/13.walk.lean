set_option maxRecDepth 100000
/-! ===== the walk: contracts of methods that return or throw; the words that are taken along ===== -/
/-- words that stay true while the tables warm, beside the good ones -/
def wx_odd : Cond → Bool
  | .declares _ => true
  | .publicMethod _ => true
  | .unhidden _ _ _ => true
  | .castable _ _ => true
  | .interfaceMethod r o n d => (Cond.interfaceMethod r o n d).faceAtom
  | _ => false
theorem wx_odd_ok {s : State} {w : Cond} (h : wx_odd w = true) : w.warmOk s := by
  cases w <;> first | exact trivial | exact h | (simp [wx_odd] at h)
def wx_car (w : Cond) : Bool := goodWord w || (w.onTables && wx_odd w)
def lw_car : List Cond := lw_tbl.filter wx_car
theorem lw_car_all {w : Cond} (h : w ∈ lw_all) : w ∈ lw_car := by
  obtain ⟨h1, h2⟩ := List.mem_filter.mp h
  exact List.mem_filter.mpr ⟨h1, by unfold wx_car; rw [h2]; rfl⟩
theorem lw_car_tbl {w : Cond} (h : w ∈ lw_tbl) (g : wx_car w = true) : w ∈ lw_car := List.mem_filter.mpr ⟨h, g⟩
theorem wx_move {s U : State} (hW : s.WarmedH U.vm) {w : Cond} (hc : w ∈ lw_car) {a a' : Array Value} (h : w.before a s = true) : w.before a' U = true := by
  have h1 := (List.mem_filter.mp hc).2
  unfold wx_car at h1
  rw [Bool.or_eq_true] at h1
  rcases h1 with h1 | h1
  · exact word_at hW (good_of_word h1) h
  · rw [Bool.and_eq_true] at h1
    have h2 := Cond.before_warmed hW w (wx_odd_ok h1.2) h
    exact va_tabs h1.1 (show (s.setVm U.vm).vm = U.vm from rfl) h2
def wx_code (y : MethodName) (cc : ByteArray) (nL : Nat) (ret : Option FieldType) : List (Nat × Nat × Nat × Nat) → Cond
  | [] => .code y cc nL ret
  | h :: t => .codeWith y cc nL ret (h :: t)
abbrev wx_tab (c : Code) : List (Nat × Nat × Nat × Nat) := c.exceptionTable.toList.map (fun h => (h.startPc, h.endPc, h.handlerPc, h.catchType))
theorem wx_code_spec {y : MethodName} {cc : ByteArray} {nL : Nat} {ret : Option FieldType} {hh : List (Nat × Nat × Nat × Nat)} {a : Array Value} {T : State} {mk : MethodId} (hn : T.methodNamed? y = some mk) (h : (wx_code y cc nL ret hh).before a T = true) :
    ∃ meth c, T.vm.method? mk = some meth ∧ meth.code = some c ∧ c.code = cc ∧ c.maxLocals = nL ∧ meth.sig.returnType = ret ∧ meth.locks = false ∧ wx_tab c = hh ∧ parseMethodDescriptor y.desc = some meth.sig := by
  cases hh with
  | nil =>
    obtain ⟨meth, c, h1, h2, h3, h4, h5, h6, h7, h8⟩ := Cond.code_spec hn (show (Cond.code y cc nL ret).before a T = true from h)
    refine ⟨meth, c, h1, h2, h3, h4, h5, h6, ?_, h8⟩
    have : c.exceptionTable = #[] := by simpa [Array.isEmpty_iff] using h7
    simp [wx_tab, this]
  | cons x t =>
    obtain ⟨m9, meth, c, hn9, h1, h2, h3, h4, h5, h6, h7, h8⟩ := Cond.codeWith_spec (show (Cond.codeWith y cc nL ret (x :: t)).before a T = true from h)
    cases hn.symm.trans hn9
    exact ⟨meth, c, h1, h2, h3, h4, h6, h7, h5, h8⟩
section WX
variable {p : Program} {l : Launch} {e : Env} {R : Room} {s : State} {m : MethodId} {args : Array Value} {below : List Frame} {meth : Method} {c : Code} {H : Heap} {locs : List Loc} {cells slots : Nat} {Q : State → Prop}
/-- an outcome's cost: a throw makes one cell more -/
def oc (k d : Nat) : Outcome → Nat
  | .returned _ => k
  | .threw _ => k + d
theorem oc_le (k d : Nat) (o : Outcome) : k ≤ oc k d o := by cases o <;> simp [oc]
def MQX (below : List Frame) (Qc : State → Outcome → State → Prop) (s : State) (mc ms : Nat) (free : Addr → Prop) : State → Prop := fun t =>
  ∃ o, t.status = .running ∧ Ended t below o ∧ Qc s o t ∧ ∃ L, (s.WarmedH t.vm ∧ s.sameButNew ({ t with vm := s.vm } : State) L (oc mc 1 o) (oc ms 6 o)) ∧ ∀ q ∈ L, free q.base
theorem W.mono {Q' : State → Prop} {g : JFrame} (h : W p l e R s m args below meth c H locs cells slots Q g) (k : ∀ t, Q t → Q' t) : W p l e R s m args below meth c H locs cells slots Q' g := fun T hT X => by
  obtain ⟨t, a, b⟩ := h T hT X
  exact ⟨t, a, k t b⟩
theorem MQ.toX {Qc : State → Outcome → State → Prop} {a : Array Value} {mc ms : Nat} {free : Addr → Prop} {t : State} (h : MQ below (fun _ => Qc) a s mc ms free t) : MQX below Qc s mc ms free t := by
  obtain ⟨o, h1, h2, h3, L, ⟨-, h4, h5⟩, h6⟩ := h
  exact ⟨o, h1, h2, h3, L, ⟨h4, h5.mono (oc_le _ _ _) (oc_le _ _ _)⟩, h6⟩
/-- what a walk of the method y knows -/
def wx_At (y : MethodName) (cc : ByteArray) (nL : Nat) (ret : Option FieldType) (hh : List (Nat × Nat × Nat × Nat)) (p : Program) (s : State) (m : MethodId) (args : Array Value) (meth : Method) (c : Code) : Prop :=
  p.tables.exec = Jvm.exec ∧ c.code = cc ∧ c.maxLocals = nL ∧ meth.sig.returnType = ret ∧ meth.locks = false ∧ s.vm.findClass y.cls = some m.cls ∧ meth.name = y.name ∧ wx_tab c = hh ∧ ∀ w ∈ lw_car, w.before args s = true
/-- the contract of y: called with As, where Pc holds, it ends as Qc says -/
def MX (l : Launch) (y : MethodName) (cc : ByteArray) (nL : Nat) (ret : Option FieldType) (hh : List (Nat × Nat × Nat × Nat)) (rm : Room) (As : List Value) (Pc : State → Prop) (Qc : State → Outcome → State → Prop) (mc ms : Nat) (free : Addr → Prop) : Prop :=
  ∀ (p : Program) (e : Env) (s : State) (m : MethodId) (below : List Frame) (meth : Method) (c : Code), wx_At y cc nL ret hh p s m As.toArray meth c → Pc s →
    W p l e rm s m As.toArray below meth c s.heap [] 0 0 (MQX below Qc s mc ms free) (entryFrame m As.toArray nL)
/-- an exception is on its way, over the frame g -/
def WT (p : Program) (l : Launch) (e : Env) (R : Room) (s : State) (m : MethodId) (args : Array Value) (below : List Frame) (meth : Method) (c : Code) (H : Heap) (locs : List Loc) (cells slots : Nat) (Q : State → Prop) (x : Addr) (g : JFrame) : Prop :=
  ∀ T : State, T.heap = H → Stand p l e R s m args below meth c T locs cells slots → ∃ t, Steps p.tables e below ((T.setTop g).pushFrame (.throwing x)) t ∧ Q t
def wx_to (T' : State) (g : JFrame) (len : Nat) : Outcome → State
  | .returned v => T'.setTop { g with pc := g.pc + len, stack := v.toList ++ g.stack }
  | .threw x => (T'.setTop g).pushFrame (.throwing x)
theorem MX.enter {y : MethodName} {cc : ByteArray} {nL : Nat} {ret : Option FieldType} {hh : List (Nat × Nat × Nat × Nat)} {rm : Room} {As : List Value} {Pc : State → Prop} {Qc : State → Outcome → State → Prop} {mc ms : Nat} {free : Addr → Prop}
    (hM : MX l y cc nL ret hh rm As Pc Qc mc ms free) (hy : plainName y.cls = true) {T : State} (X : Stand p l e R s m args below meth c T locs cells slots) (hexec : p.tables.exec = Jvm.exec) (hts : ∀ w ∈ lw_car, w.before args s = true) (hcode : wx_code y cc nL ret hh ∈ lw_car)
    {mk : MethodId} (hn : T.methodNamed? y = some mk) {g : JFrame} (hg : g.method = m) (hsize : g.locals.size = c.maxLocals) {ig : Instr} {len : Nat} (hdg : decode c.code g.pc = .ok (ig, len))
    (hfr : rm.frames + 1 ≤ R.frames) (hlo : 2 * g.monitorRoom + (g.stack.map fun v => v.category).sum + (nL + 11) + rm.locals ≤ R.locals) (hce : cells + rm.cells ≤ R.cells) (hsl : slots + rm.slots ≤ R.slots) (hPc : ∀ U : State, U.heap = T.heap → U.vm = T.vm → Pc U) :
    ∃ (o : Outcome) (st t T' : State) (L : List Loc), st.heap = T.heap ∧ Stand p l e R s m args below meth c T' (locs ++ L) (cells + oc mc 1 o) (slots + oc ms 6 o) ∧ (∀ q ∈ L, free q.base) ∧ T'.heap = t.heap ∧ T'.vm = t.vm ∧ Qc st o t ∧ Steps p.tables e below (doInvoke e (T.setTop g) [] mk As.toArray).1 (wx_to T' g len o) := by
  obtain ⟨methk, ck, hmk, hck, hbytes, hml, hret, hlk, het, hsig⟩ := wx_code_spec hn (wx_move (a' := args) X.warmed hcode (hts _ hcode))
  subst hml
  obtain ⟨Y₀, hin⟩ := X.into hg hsize hdg As.toArray (R' := rm) hmk hck hlk (State.plainMethod.of_named (plainFor_of_name hy) hn hmk) hfr hlo hce hsl
  have hAt : wx_At y cc ck.maxLocals ret hh p (T.calling g mk As.toArray) mk As.toArray methk ck :=
    ⟨hexec, hbytes, rfl, hret, hlk, findClass_of_methodNamed hn, (name_of_methodNamed hn hmk).1, het, fun w hw => wx_move (U := T.calling g mk As.toArray) X.warmed hw (hts w hw)⟩
  obtain ⟨t, hst, o, hrun, hend, hq, L, ⟨hW, hsame⟩, hL⟩ := hM p e (T.calling g mk As.toArray) mk (.java g :: below) methk ck hAt (hPc _ rfl rfl) ((T.setTop g).pushFrame (.java (entryFrame mk As.toArray ck.maxLocals))) rfl Y₀
  cases o with
  | returned v =>
    obtain ⟨T', X', hW', hB, ht⟩ := X.outOf hg hdg hend hW hsame
    refine ⟨.returned v, T.calling g mk As.toArray, t, T', L, rfl, X', hL, by rw [ht]; rfl, by rw [ht]; rfl, hq, ?_⟩
    rw [hin []]
    show Steps p.tables e below _ (T'.setTop { g with pc := g.pc + len, stack := v.toList ++ g.stack })
    rw [← ht]
    exact Steps.weaken (mid := [.java g]) hst
  | threw x =>
    obtain ⟨T', X', hW', hB, ht⟩ := X.outOfThrown hg hend hW hsame
    refine ⟨.threw x, T.calling g mk As.toArray, t, T', L, rfl, X', hL, by rw [ht]; rfl, by rw [ht]; rfl, hq, ?_⟩
    rw [hin []]
    show Steps p.tables e below _ ((T'.setTop g).pushFrame (.throwing x))
    rw [← ht]
    exact Steps.weaken (mid := [.java g]) hst
/-- a call has been made: what comes of it -/
def wx_Run (p : Program) (l : Launch) (e : Env) (R : Room) (s : State) (m : MethodId) (args : Array Value) (below : List Frame) (meth : Method) (c : Code) (H : Heap) (locs : List Loc) (cells slots : Nat) (g : JFrame) (len : Nat) (rest : List Value) (Qc : State → Outcome → State → Prop) (mc ms : Nat) (free : Addr → Prop) : Prop :=
  ∀ T : State, T.heap = H → Stand p l e R s m args below meth c T locs cells slots → ∃ (o : Outcome) (st t T' : State) (L : List Loc), st.heap = H ∧ Stand p l e R s m args below meth c T' (locs ++ L) (cells + oc mc 1 o) (slots + oc ms 6 o) ∧ (∀ q ∈ L, free q.base) ∧ T'.heap = t.heap ∧ T'.vm = t.vm ∧ Qc st o t ∧
    ∀ target, Steps p.tables e below (wx_to T' { g with stack := rest } len o) target → Steps p.tables e below (T.setTop g) target
/-- the walk's own fixed facts -/
def wx_Fix (p : Program) (m : MethodId) (c : Code) (cc : ByteArray) (nL : Nat) (s : State) (args : Array Value) (own : String) : Prop := p.tables.exec = Jvm.exec ∧ c.code = cc ∧ c.maxLocals = nL ∧ s.vm.findClass own = some m.cls ∧ ∀ w ∈ lw_car, w.before args s = true
def wx_room (rm R : Room) (nL cells slots : Nat) : Prop := rm.frames + 1 ≤ R.frames ∧ 8 + (nL + 11) + rm.locals ≤ R.locals ∧ cells + rm.cells ≤ R.cells ∧ slots + rm.slots ≤ R.slots
def wx_name (y : MethodName) (n : Nat) : Prop := plainName y.cls = true ∧ (y.cls ≠ "java/lang/invoke/MethodHandle" ∧ y.cls ≠ "java/lang/invoke/VarHandle") ∧ (parseMethodDescriptor y.desc).map (fun d => d.parameters.length) = some n
theorem wx_name.len {y : MethodName} {n : Nat} (h : wx_name y n) {sig : MethodDescriptor} (hs : parseMethodDescriptor y.desc = some sig) : n = sig.parameters.length := by
  have h2 := h.2.2
  rw [hs] at h2
  exact (Option.some.inj h2).symm
theorem wx_words {w : Nat} {g : JFrame} {rm : Room} {nL : Nat} {rest : List Value} (hm : g.monitorRoom = 0) (hr : (rest.map fun v => v.category).sum ≤ 8) (h : 8 + (nL + 11) + rm.locals ≤ R.locals) : 2 * g.monitorRoom + (rest.map fun v => v.category).sum + (nL + 11) + rm.locals ≤ R.locals := by
  rw [hm]; omega
theorem wx_V {y : MethodName} {cc cc0 : ByteArray} {nL nL0 : Nat} {ret : Option FieldType} {hh : List (Nat × Nat × Nat × Nat)} {rm : Room} {As rest : List Value} {Pc : State → Prop} {Qc : State → Outcome → State → Prop} {mc ms : Nat} {free : Addr → Prop} {own C : String} {index : Nat} {b : Addr} {pc : Nat} {ls : Array Slot}
    (S : wx_Fix p m c cc0 nL0 s args own) (hM : MX l y cc nL ret hh rm (.ref b :: As) Pc Qc mc ms free) (w1 : Cond.methodLink own index y ∈ lw_all) (w2 : Cond.instanceMethod y ∈ lw_all) (w3 : Cond.selects C y y ∈ lw_all) (w5 : wx_code y cc nL ret hh ∈ lw_all) (hd : wx_name y As.length) (hrm : wx_room rm R nL cells slots)
    (hrecv : ∃ cellB, H[b]? = some cellB ∧ cellB.vm.isStatics = false ∧ s.vm.findClass C = some cellB.cls) (hpre : ∀ U : State, U.heap = H → s.WarmedH U.vm → Pc U) (hsize : ls.size = nL0) (hrest : (rest.map fun v => v.category).sum ≤ 8) (hdg : decode cc0 pc = .ok (.invokevirtual index, 3)) :
    wx_Run p l e R s m args below meth c H locs cells slots (F0 m pc ls (As.reverse ++ .ref b :: rest)) 3 rest Qc mc ms free := by
  obtain ⟨hx, hb, hml, ho, hts⟩ := S
  obtain ⟨cellB, hcB, hoB, hclB⟩ := hrecv
  intro T hT X
  obtain ⟨mk, methM, hnamed, hmethM, hstM, habM⟩ := Cond.instanceMethod_spec (hts _ (lw_car_all w2))
  obtain ⟨methM', cM, hmethM', -, -, -, -, -, -, hsigM⟩ := wx_code_spec hnamed (hts _ (lw_car_all w5))
  cases hmethM.symm.trans hmethM'
  obtain ⟨c2, r2, m2, q1, q2, q3, q4, kP, hkP, hkPi⟩ := Cond.selects_spec (hts _ (lw_car_all w3))
  cases hclB.symm.trans q1
  cases (State.methodFound?_of_named hnamed hd.2.1).symm.trans q2
  cases hnamed.symm.trans q3
  have hselP : selectMethod e.platform s.vm cellB.cls mk = .method mk := by rw [Launch.admits_selectMethod X.admits]; exact q4
  obtain ⟨vm₁, X₁, hstep₁⟩ := X.invokevirtual hx ho (hts _ (lw_car_all w1)) hnamed hmethM hstM hkP hkPi hd.2.1 (a := b) (cell := cellB) (by rw [hT]; exact hcB)
    (fun z h => by rw [h] at hoB; cases hoB) hselP hmethM habM hkP hkPi (g := F0 m pc ls (As.reverse ++ .ref b :: rest)) rfl (argsL := As) (rest := rest) (hd.len hsigM) rfl (by rw [hb]; exact hdg)
  obtain ⟨o, st, t, T', L, h0, X', hL, h1, h2, hq, hsteps⟩ := hM.enter hd.1 X₁ hx hts (lw_car_all w5) (X₁.named hnamed) (g := F0 m pc ls rest) rfl (hsize.trans hml.symm) (by rw [hb]; exact hdg) hrm.1 (wx_words (w := 0) rfl hrest hrm.2.1) hrm.2.2.1 hrm.2.2.2
    (fun U e1 e2 => hpre U (e1.trans hT) (by rw [e2]; exact X₁.warmed))
  exact ⟨o, st, t, T', L, h0.trans hT, X', hL, h1, h2, hq, fun target h => hstep₁ _ fun acts => by rw [doInvoke_state]; exact hsteps.trans h⟩
theorem wx_S {y : MethodName} {cc cc0 : ByteArray} {nL nL0 : Nat} {ret : Option FieldType} {hh : List (Nat × Nat × Nat × Nat)} {rm : Room} {As rest : List Value} {Pc : State → Prop} {Qc : State → Outcome → State → Prop} {mc ms : Nat} {free : Addr → Prop} {own : String} {index : Nat} {pc : Nat} {ls : Array Slot}
    (S : wx_Fix p m c cc0 nL0 s args own) (hM : MX l y cc nL ret hh rm As Pc Qc mc ms free) (w1 : Cond.methodLink own index y ∈ lw_all) (w2 : Cond.static y ∈ lw_all) (w3 : Cond.initialized y.cls ∈ lw_all) (w5 : wx_code y cc nL ret hh ∈ lw_all) (hd : wx_name y As.length) (hrm : wx_room rm R nL cells slots)
    (hpre : ∀ U : State, U.heap = H → s.WarmedH U.vm → Pc U) (hsize : ls.size = nL0) (hrest : (rest.map fun v => v.category).sum ≤ 8) (hdg : decode cc0 pc = .ok (.invokestatic index, 3)) :
    wx_Run p l e R s m args below meth c H locs cells slots (F0 m pc ls (As.reverse ++ rest)) 3 rest Qc mc ms free := by
  obtain ⟨hx, hb, hml, ho, hts⟩ := S
  intro T hT X
  obtain ⟨mk, hnamed⟩ : ∃ mk, s.methodNamed? y = some mk := by
    have h := hts _ (lw_car_all w5)
    cases hh with
    | nil => exact Cond.code_named (show (Cond.code y cc nL ret).before args s = true from h)
    | cons x t =>
      obtain ⟨m9, -, -, hn9, -⟩ := Cond.codeWith_spec (show (Cond.codeWith y cc nL ret (x :: t)).before args s = true from h)
      exact ⟨m9, hn9⟩
  obtain ⟨methM, cM, hmethM, -, -, -, -, -, -, hsigM⟩ := wx_code_spec hnamed (hts _ (lw_car_all w5))
  have hstatic : methM.isStatic = true := Cond.static_spec hnamed hmethM (hts _ (lw_car_all w2))
  obtain ⟨kP, hkP, -⟩ := className_of_methodNamed hnamed
  have hinitP : kP.init = .initialized := Cond.initialized_spec (findClass_of_methodNamed hnamed) hkP (hts _ (lw_car_all w3))
  obtain ⟨vm₁, X₁, hstep₁⟩ := X.invokestatic hx ho (hts _ (lw_car_all w1)) hnamed hmethM hstatic hkP hinitP hd.2.1 (g := F0 m pc ls (As.reverse ++ rest)) rfl (argsL := As) (rest := rest) (hd.len hsigM) rfl (by rw [hb]; exact hdg)
  obtain ⟨o, st, t, T', L, h0, X', hL, h1, h2, hq, hsteps⟩ := hM.enter hd.1 X₁ hx hts (lw_car_all w5) (X₁.named hnamed) (g := F0 m pc ls rest) rfl (hsize.trans hml.symm) (by rw [hb]; exact hdg) hrm.1 (wx_words (w := 0) rfl hrest hrm.2.1) hrm.2.2.1 hrm.2.2.2
    (fun U e1 e2 => hpre U (e1.trans hT) (by rw [e2]; exact X₁.warmed))
  exact ⟨o, st, t, T', L, h0.trans hT, X', hL, h1, h2, hq, fun target h => hstep₁ _ fun acts => by rw [doInvoke_state]; exact hsteps.trans h⟩
theorem wx_I {y : MethodName} {cc cc0 : ByteArray} {nL nL0 : Nat} {rm : Room} {As rest : List Value} {Pc : State → Prop} {Qc : State → Outcome → State → Prop} {mc ms : Nat} {free : Addr → Prop} {own : String} {index : Nat} {b : Addr} {pc : Nat} {ls : Array Slot}
    (S : wx_Fix p m c cc0 nL0 s args own) (hM : MX l y cc nL none [] rm (.ref b :: As) Pc Qc mc ms free) (w1 : Cond.methodLink own index y ∈ lw_all) (w2 : Cond.instanceMethod y ∈ lw_all) (w5 : Cond.code y cc nL none ∈ lw_all) (hy1 : y.name = "<init>") (hd : wx_name y As.length) (hrm : wx_room rm R nL cells slots)
    (hpre : ∀ U : State, U.heap = H → s.WarmedH U.vm → Pc U) (hsize : ls.size = nL0) (hrest : (rest.map fun v => v.category).sum ≤ 8) (hdg : decode cc0 pc = .ok (.invokespecial index, 3)) :
    wx_Run p l e R s m args below meth c H locs cells slots (F0 m pc ls (As.reverse ++ .ref b :: rest)) 3 rest Qc mc ms free := by
  obtain ⟨hx, hb, hml, ho, hts⟩ := S
  intro T hT X
  have hpl : e.platform.magicAccessors = ({} : Platform).magicAccessors := by rw [X.admits.platform]
  obtain ⟨mk, methM, cM, kP, vm₁, hnamed, hmethM, hcodeM, -, hlocalsM, -, hkP, -, hW₁, hstep₁⟩ := Steps.initColdArgs (e := e) X.here hx X.warmed hpl ho hy1 hd.2.1 (hts _ (lw_car_all w1)) (hts _ (lw_car_all w2)) (hts _ (lw_car_all w5)) (f := F0 m pc ls (As.reverse ++ .ref b :: rest)) rfl (a := b) (fun sig h => hd.len h) rfl (by rw [hb]; exact hdg)
  have X₁ := X.noted hW₁
  obtain ⟨o, st, t, T', L, h0, X', hL, h1, h2, hq, hsteps⟩ := hM.enter hd.1 X₁ hx hts (show wx_code y cc nL none [] ∈ lw_car from lw_car_all w5) (X₁.named hnamed) (g := F0 m pc ls rest) rfl (hsize.trans hml.symm) (by rw [hb]; exact hdg) hrm.1 (wx_words (w := 0) rfl hrest hrm.2.1) hrm.2.2.1 hrm.2.2.2
    (fun U e1 e2 => hpre U (e1.trans hT) (by rw [e2]; exact X₁.warmed))
  exact ⟨o, st, t, T', L, h0.trans hT, X', hL, h1, h2, hq, fun target h => hstep₁ _ fun acts => by rw [doInvoke_state]; exact hsteps.trans h⟩
end WX
