set_option maxRecDepth 100000
/-! ===== throwing: athrow, leaving, catching (the handler's class may not be resolved yet), what a call goes on with ===== -/
theorem wx_go_cold {E : CtlPost} {e : Env} {d : Bool} {acts : List Action} {s : State} {f : JFrame} {a : Addr} {Q : Handler → Pre} {x : ExceptionTableEntry} {t : List ExceptionTableEntry} {cl : ClassId} {cell : Cell} {vm' : Vm} (hx : covers x f.pc = true) (h0 : x.catchType ≠ 0)
    (hg : (Jvm.resolveClass f.method.cls x.catchType).Gives e.toSetting s.vm (.ok cl) vm') (hsz : vm'.classes.size ≤ s.vm.classes.size) (hcell : s.heap[a]? = some cell) (hobj : ∀ k, cell.vm ≠ .statics k)
    (hk : ∃ k, vm'.classes[cell.cls]? = some k) (hc : ∃ k, vm'.classes[cl]? = some k) :
    wp (findHandler.go f a (x :: t)) Q E e d acts s ↔
      if vm'.assignable cell.cls cl = true then Q (.found x.handlerPc) d acts (s.setVm vm') else wp (findHandler.go f a t) Q E e d acts (s.setVm vm') := by
  simp only [covers] at hx
  obtain ⟨ha, ht⟩ := hg.op (op := VmOp.resolveClass f.method.cls x.catchType) rfl
  cases hfit : vm'.assignable cell.cls cl <;>
    simp [findHandler.go, hx, h0, ha, ht, hsz, hcell, hobj, hk, hc, hfit, VmOp.dirties, VmOp.acts]
/-- the handler that is found: the first that covers pc and whose class takes the exception's -/
def wx_hit (s : State) (args : Array Value) (own : String) (xc : ClassId) (pc h : Nat) : List (Nat × Nat × Nat × Nat) → Prop
  | [] => False
  | q :: t => (q.1 ≤ pc ∧ pc < q.2.1) ∧ q.2.2.2 ≠ 0 ∧ ∃ (C : String) (cl : ClassId), (Cond.classLink own q.2.2.2 C).before args s = true ∧ s.vm.findClass C = some cl ∧ ((s.vm.assignable xc cl = true ∧ q.2.2.1 = h) ∨ (s.vm.assignable xc cl = false ∧ wx_hit s args own xc pc h t))
theorem wx_find {e : Env} {s : State} {args : Array Value} {own : String} {f : JFrame} {a : Addr} {cell : Cell} {h : Nat} (hpl : e.platform.magicAccessors = ({} : Platform).magicAccessors) (hown : s.vm.findClass own = some f.method.cls) (hobj : ∀ k, cell.vm ≠ .statics k) (hkx : ∃ k, s.vm.classes[cell.cls]? = some k) :
    ∀ (es : List ExceptionTableEntry) (T : State), s.WarmedH T.vm → T.heap[a]? = some cell → wx_hit s args own cell.cls f.pc h (es.map (fun h => (h.startPc, h.endPc, h.handlerPc, h.catchType))) →
      ∃ vm', s.WarmedH vm' ∧ ∀ (Q : Handler → Pre) (E : CtlPost) (d : Bool) (acts : List Action), wp (findHandler.go f a es) Q E e d acts T ↔ Q (.found h) d acts (T.setVm vm') := by
  intro es
  induction es with
  | nil => intro T _ _ hh; exact hh.elim
  | cons x t ih =>
    intro T hW hcell hh
    obtain ⟨⟨h1, h2⟩, h0, C, cl, hlink, hC, hor⟩ := hh
    obtain ⟨c', hc', hcl⟩ := Cond.classLink_spec hown hlink e.platform hpl
    cases hC.symm.trans hc'
    obtain ⟨dk, _, _, kt, hd, _, _, _, _, hkt, _, hopen⟩ := hcl.here
    have hcl₀ := hW.classLinks hcl
    have hW' : s.WarmedH (T.vm.noted f.method.cls x.catchType (.cls cl)) := hW.noted hd hopen (State.rightAt_cls hcl)
    obtain ⟨kx, hkx'⟩ := hkx
    obtain ⟨kx1, hkx1, -⟩ := hW'.alike.2.2 _ _ hkx'
    obtain ⟨kt1, hkt1, -⟩ := hW'.alike.2.2 _ _ hkt
    have hcov : covers x f.pc = true := by
      simp only [covers, Bool.and_eq_true, decide_eq_true_eq]
      exact ⟨h1, h2⟩
    have hsz : (T.vm.noted f.method.cls x.catchType (.cls cl)).classes.size ≤ T.vm.classes.size := by rw [Vm.size_noted]; exact Nat.le_refl _
    rcases hor with ⟨has, rfl⟩ | ⟨has, hrest⟩
    · refine ⟨_, hW', fun Q E d acts => ?_⟩
      rw [wx_go_cold hcov h0 (resolveClass_links e.toSetting hcl₀) hsz hcell hobj ⟨_, hkx1⟩ ⟨_, hkt1⟩, if_pos (by rw [hW'.alike.assignable]; exact has)]
    · obtain ⟨vm2, hW2, h2⟩ := ih (T.setVm (T.vm.noted f.method.cls x.catchType (.cls cl))) hW' hcell hrest
      refine ⟨vm2, hW2, fun Q E d acts => ?_⟩
      rw [wx_go_cold hcov h0 (resolveClass_links e.toSetting hcl₀) hsz hcell hobj ⟨_, hkx1⟩ ⟨_, hkt1⟩, if_neg (by rw [hW'.alike.assignable, has]; decide)]
      exact h2 Q E d acts
theorem wx_stepCatch {e : Env} {s : State} {a : Addr} {f : JFrame} {r : List Frame} {pc : Nat} {vm' : Vm} (hfind : ∀ (Q : Handler → Pre) (E : CtlPost) (d : Bool) (acts : List Action), wp (findHandler f a) Q E e d acts s ↔ Q (.found pc) d acts (s.setVm vm')) :
    (stepThrowing e s a (.java f :: r)).Is ((s.setVm vm').setFrames (.java { f with pc := pc, stack := [.ref a] } :: r)) [] := by
  simp only [stepThrowing, searchFrame, vmDo]
  generalize hr : Sem.go _ e false [] s = res
  obtain ⟨as, rfl, ha⟩ := Sem.eq_ok_of hr (a := Handler.found pc) (s' := s.setVm vm') (acts' := []) (by simp [hfind _ _ _ _])
  exact ⟨rfl, ha⟩
section WY
variable {p : Program} {l : Launch} {e : Env} {R : Room} {s : State} {m : MethodId} {args : Array Value} {below : List Frame} {meth : Method} {c : Code} {H : Heap} {locs : List Loc} {cells slots : Nat} {Q : State → Prop}
variable {cc : ByteArray} {pc : Nat} {ls : Array Slot} {rest : List Value}
/-- the exception leaves the method: no handler covers the place -/
theorem wt_leave {x : Addr} {hh : List (Nat × Nat × Nat × Nat)} {Qc : State → Outcome → State → Prop} {free : Addr → Prop} (hlocks : meth.locks = false) (ht : wx_tab c = hh) (hout : hh.all (fun h => !(decide (h.1 ≤ pc) && decide (pc < h.2.1))) = true)
    (hq : ∀ t : State, t.heap = H → s.WarmedH t.vm → Qc s (.threw x) t) (hf : ∀ q ∈ locs, free q.base) {mc ms : Nat} (hmc : cells ≤ mc + 1) (hms : slots ≤ ms + 6) : WT p l e R s m args below meth c H locs cells slots (MQX below Qc s mc ms free) x (F0 m pc ls rest) := by
  intro T hT X
  have hout' : ∀ y ∈ c.exceptionTable.toList, covers y (F0 m pc ls rest).pc = false := by
    intro y hy
    have h1 : (y.startPc, y.endPc, y.handlerPc, y.catchType) ∈ hh := by rw [← ht]; exact List.mem_map.mpr ⟨y, hy, rfl⟩
    have h2 := List.all_eq_true.mp hout _ h1
    cases h3 : (decide (y.startPc ≤ pc) && decide (pc < y.endPc)) with
    | false => exact h3
    | true => rw [h3] at h2; cases h2
  obtain ⟨h1, h2, h3, h4, h5⟩ := X.leaveThrown x (g := F0 m pc ls rest) rfl rfl rfl hout' hlocks
  exact ⟨_, h1, .threw x, h2, h3, hq _ hT h4, locs, ⟨h4, h5.mono hmc hms⟩, hf⟩
/-- the exception is caught in the method -/
theorem wt_catch {x : Addr} {hh : List (Nat × Nat × Nat × Nat)} {own : String} {cell : Cell} {h : Nat} (hown : s.vm.findClass own = some m.cls) (ht : wx_tab c = hh) (hcell : H[x]? = some cell) (hvm : cell.vm = .none) (hk : ∃ k, s.vm.classes[cell.cls]? = some k) (hit : wx_hit s args own cell.cls pc h hh)
    (k : W p l e R s m args below meth c H locs cells slots Q (F0 m h ls [.ref x])) : WT p l e R s m args below meth c H locs cells slots Q x (F0 m pc ls rest) := by
  intro T hT X
  have hpl : e.platform.magicAccessors = ({} : Platform).magicAccessors := by rw [X.admits.platform]
  subst ht
  obtain ⟨vm', hW', hf⟩ := wx_find (e := e) (f := F0 m pc ls rest) (a := x) hpl hown (fun q hq => by rw [hvm] at hq; cases hq) hk c.exceptionTable.toList ((T.setTop (F0 m pc ls rest)).pushFrame (.throwing x)) X.warmed (by show T.heap[x]? = some cell; rw [hT]; exact hcell) hit
  obtain ⟨t, h1, h2⟩ := k (T.setVm vm') hT (X.noted hW')
  refine ⟨t, ?_, h2⟩
  have hA : At T (F0 m pc ls rest).method c below := X.here
  obtain ⟨hgo, hw⟩ := hA.throwing x
  refine Steps.head hgo hw ?_
  have hfind : ∀ (Q : Handler → Pre) (E : CtlPost) (d : Bool) (acts : List Action), wp (findHandler (F0 m pc ls rest) x) Q E e d acts ((T.setTop (F0 m pc ls rest)).pushFrame (.throwing x)) ↔ Q (.found h) d acts (((T.setTop (F0 m pc ls rest)).pushFrame (.throwing x)).setVm vm') := by
    intro Q E d acts
    rw [W.findHandler_eq (meth := meth) (code := c) (show ((T.setTop (F0 m pc ls rest)).pushFrame (.throwing x)).vm.method? m = some meth from X.method') X.code]
    exact hf Q E d acts
  rw [stepThread_throwing (frames_entered hA.top _), (wx_stepCatch hfind).1]
  obtain ⟨g₀, hg⟩ := Option.isSome_iff_exists.mp hA.top
  obtain ⟨r, hr⟩ := State.topJava?_eq_some.mp hg
  have hr' : (T.setVm vm').frames = .java g₀ :: r := hr
  rw [State.setTop_of_frames _ hr'] at h1
  have e1 : (((T.setTop (F0 m pc ls rest)).pushFrame (.throwing x)).setVm vm').setFrames (.java (F0 m h ls [.ref x]) :: r) = (T.setVm vm').setFrames (.java (F0 m h ls [.ref x]) :: r) := by
    show (((T.setTop (F0 m pc ls rest)).pushFrame (.throwing x)).setFrames (.java (F0 m h ls [.ref x]) :: r)).setVm vm' = (T.setFrames (.java (F0 m h ls [.ref x]) :: r)).setVm vm'
    rw [State.pushFrame, State.setFrames_setFrames, State.setTop_of_frames _ hr, State.setFrames_setFrames]
  rw [hr]
  show Steps p.tables e below ((((T.setTop (F0 m pc ls rest)).pushFrame (.throwing x)).setVm vm').setFrames (.java (F0 m h ls [.ref x]) :: r)) t
  rw [e1]
  exact h1
theorem lv_athrow (hexec : p.tables.exec = Jvm.exec) (hb : c.code = cc) {x : Addr} (hdg : decode cc pc = .ok (.athrow, 1))
    (k : WT p l e R s m args below meth c H locs cells slots Q x (F0 m pc ls rest)) : W p l e R s m args below meth c H locs cells slots Q (F0 m pc ls (.ref x :: rest)) := by
  intro T hT X
  obtain ⟨t, a, b⟩ := k T hT X
  refine ⟨t, ?_, b⟩
  subst hb
  jvm_step X.here [hexec, hdg, athrow.wp_sem]
  exact a
/-! what a method's end says -/
/-- it reads only: its answer -/
def qR {α : Type} (f : α → Value) (post : α → Prop) : State → Outcome → State → Prop := fun st o t => (∃ r : α, o = .returned (some (f r)) ∧ post r) ∧ t.heap = st.heap
/-- it returns; the heap behind it -/
def qW {α : Type} (f : α → Option Value) (post : α → Heap → Prop) (A : Nat → Prop) : State → Outcome → State → Prop := fun st o t => (∃ r : α, o = .returned (f r) ∧ post r t.heap) ∧ va_F A st t
/-- an exception of the class C -/
def qE (C : String) (x : Addr) (t : State) : Prop := ∃ cell, t.heap[x]? = some cell ∧ cell.vm = .none ∧ t.vm.findClass C = some cell.cls
/-- it returns or throws an exception of class C -/
def qX {α : Type} (f : α → Option Value) (post : α → Heap → Prop) (thr : String → Heap → Prop) (A : Nat → Prop) : State → Outcome → State → Prop := fun st o t => ((∃ r : α, o = .returned (f r) ∧ post r t.heap) ∨ (∃ (x : Addr) (C : String), o = .threw x ∧ qE C x t ∧ thr C t.heap)) ∧ va_F A st t
theorem wx_S_call {A : Nat → Prop} {st t : State} {H1 : Heap} {L : List Loc} (hS : va_S A s.heap H locs) (h0 : st.heap = H) (ht : t.heap = H1) (hF : va_F A st t) (hL : ∀ q ∈ L, A q.base) : va_S A s.heap H1 (locs ++ L) := by
  obtain ⟨hz, hk⟩ := hF
  rw [h0] at hz hk
  rw [ht] at hz
  refine ⟨Nat.le_trans hS.1 hz, fun q h1 h2 => ?_, fun q hq => ?_⟩
  · have h3 := hk q (Nat.lt_of_lt_of_le h1 hS.1) h2
    rw [ht] at h3
    rw [h3]
    exact hS.2.1 q h1 h2
  · rcases List.mem_append.mp hq with h | h
    · exact hS.2.2 q h
    · exact hL q h
theorem wx_r {len : Nat} {α : Type} {f : α → Value} {post : α → Prop} {st0 : List Value} (hr : wx_Run p l e R s m args below meth c H locs cells slots (F0 m pc ls st0) len rest (qR f post) 0 0 (fun _ => False))
    (k : ∀ r : α, post r → W p l e R s m args below meth c H locs cells slots Q (F0 m (pc + len) ls (f r :: rest))) : W p l e R s m args below meth c H locs cells slots Q (F0 m pc ls st0) := by
  intro T hT X
  obtain ⟨o, st, t, T', L, h0, X', hL, h1, h2, ⟨⟨r, rfl, hp⟩, hh⟩, hsteps⟩ := hr T hT X
  have hL0 : L = [] := by
    cases L with
    | nil => rfl
    | cons q _ => exact (hL q List.mem_cons_self).elim
  subst hL0
  rw [List.append_nil] at X'
  obtain ⟨t2, a1, b1⟩ := k r hp T' (by rw [h1, hh, h0]) X'
  exact ⟨t2, hsteps t2 a1, b1⟩
theorem wx_w {α : Type} {f : α → Option Value} {post : α → Heap → Prop} {A : Nat → Prop} {st0 : List Value} {mc ms : Nat} (hr : wx_Run p l e R s m args below meth c H locs cells slots (F0 m pc ls st0) 3 rest (qW f post A) mc ms A) (hS : va_S A s.heap H locs)
    (k : ∀ (r : α) (H1 : Heap) (locs1 : List Loc), post r H1 → H.size ≤ H1.size → va_S A s.heap H1 locs1 → W p l e R s m args below meth c H1 locs1 (cells + mc) (slots + ms) Q (F0 m (pc + 3) ls ((f r).toList ++ rest))) : W p l e R s m args below meth c H locs cells slots Q (F0 m pc ls st0) := by
  intro T hT X
  obtain ⟨o, st, t, T', L, h0, X', hL, h1, h2, ⟨⟨r, rfl, hp⟩, hF⟩, hsteps⟩ := hr T hT X
  obtain ⟨t2, a1, b1⟩ := k r T'.heap (locs ++ L) (by rw [h1]; exact hp) (by rw [h1, ← h0]; exact hF.1) (wx_S_call hS h0 h1.symm hF hL) T' rfl X'
  exact ⟨t2, hsteps t2 a1, b1⟩
theorem wx_wv {post : Unit → Heap → Prop} {A : Nat → Prop} {st0 : List Value} {mc ms : Nat} (hr : wx_Run p l e R s m args below meth c H locs cells slots (F0 m pc ls st0) 3 rest (qW (fun _ : Unit => none) post A) mc ms A) (hS : va_S A s.heap H locs)
    (k : ∀ (H1 : Heap) (locs1 : List Loc), post () H1 → H.size ≤ H1.size → va_S A s.heap H1 locs1 → W p l e R s m args below meth c H1 locs1 (cells + mc) (slots + ms) Q (F0 m (pc + 3) ls rest)) : W p l e R s m args below meth c H locs cells slots Q (F0 m pc ls st0) :=
  wx_w hr hS (fun _ H1 locs1 h1 h2 h3 => k H1 locs1 h1 h2 h3)
theorem wx_ws {α : Type} {f : α → Value} {post : α → Heap → Prop} {A : Nat → Prop} {st0 : List Value} {mc ms : Nat} (hr : wx_Run p l e R s m args below meth c H locs cells slots (F0 m pc ls st0) 3 rest (qW (fun r : α => some (f r)) post A) mc ms A) (hS : va_S A s.heap H locs)
    (k : ∀ (r : α) (H1 : Heap) (locs1 : List Loc), post r H1 → H.size ≤ H1.size → va_S A s.heap H1 locs1 → W p l e R s m args below meth c H1 locs1 (cells + mc) (slots + ms) Q (F0 m (pc + 3) ls (f r :: rest))) : W p l e R s m args below meth c H locs cells slots Q (F0 m pc ls st0) :=
  wx_w hr hS (fun r H1 locs1 h1 h2 h3 => k r H1 locs1 h1 h2 h3)
theorem qE.alike {C : String} {x : Addr} {t : State} {vm : Vm} {H1 : Heap} (h : qE C x t) (ht : t.heap = H1) (hv : vm.Alike t.vm) : ∃ cell, H1[x]? = some cell ∧ cell.vm = .none ∧ vm.findClass C = some cell.cls := by
  obtain ⟨cell, h1, h2, h3⟩ := h
  exact ⟨cell, by rw [← ht]; exact h1, h2, by rw [← hv.findClass]; exact h3⟩
theorem wx_x {α : Type} {f : α → Option Value} {post : α → Heap → Prop} {thr : String → Heap → Prop} {A : Nat → Prop} {st0 : List Value} {mc ms : Nat} (hr : wx_Run p l e R s m args below meth c H locs cells slots (F0 m pc ls st0) 3 rest (qX f post thr A) mc ms A) (hS : va_S A s.heap H locs)
    (k : ∀ (r : α) (H1 : Heap) (locs1 : List Loc), post r H1 → H.size ≤ H1.size → va_S A s.heap H1 locs1 → W p l e R s m args below meth c H1 locs1 (cells + mc) (slots + ms) Q (F0 m (pc + 3) ls ((f r).toList ++ rest)))
    (kt : ∀ (x : Addr) (C : String) (H1 : Heap) (locs1 : List Loc), thr C H1 → (∃ cell, H1[x]? = some cell ∧ cell.vm = .none ∧ s.vm.findClass C = some cell.cls) → H.size ≤ H1.size → va_S A s.heap H1 locs1 → WT p l e R s m args below meth c H1 locs1 (cells + (mc + 1)) (slots + (ms + 6)) Q x (F0 m pc ls rest)) : W p l e R s m args below meth c H locs cells slots Q (F0 m pc ls st0) := by
  intro T hT X
  obtain ⟨o, st, t, T', L, h0, X', hL, h1, h2, ⟨hor, hF⟩, hsteps⟩ := hr T hT X
  rcases hor with ⟨r, rfl, hp⟩ | ⟨x, C, rfl, hE, hp⟩
  · obtain ⟨t2, a1, b1⟩ := k r T'.heap (locs ++ L) (by rw [h1]; exact hp) (by rw [h1, ← h0]; exact hF.1) (wx_S_call hS h0 h1.symm hF hL) T' rfl X'
    exact ⟨t2, hsteps t2 a1, b1⟩
  · obtain ⟨t2, a1, b1⟩ := kt x C T'.heap (locs ++ L) (by rw [h1]; exact hp) (hE.alike h1.symm (by rw [← h2]; exact X'.warmed.alike)) (by rw [h1, ← h0]; exact hF.1) (wx_S_call hS h0 h1.symm hF hL) T' rfl X'
    exact ⟨t2, hsteps t2 a1, b1⟩
end WY
