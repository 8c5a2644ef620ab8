set_option maxRecDepth 100000
/-! ===== rows: comparisons of doubles with their branch, returns, starts; bounds of doubles ===== -/
def flt (x y : UInt64) : Prop := FP.dcmp x y = some .lt
def feq (x y : UInt64) : Prop := FP.dcmp x y = some .eq
def fgt (x y : UInt64) : Prop := FP.dcmp x y = some .gt
def fle (x y : UInt64) : Prop := FP.dcmp x y = some .lt ∨ FP.dcmp x y = some .eq
def fge (x y : UInt64) : Prop := FP.dcmp x y = some .gt ∨ FP.dcmp x y = some .eq
section DCMP
variable {p : Program} {l : Launch} {e : Env} {R : Room} {s : State} {m : MethodId} {args : Array Value} {below : List Frame} {meth : Method} {c : Code} {H : Heap} {locs : List Loc} {cells slots : Nat} {Q : State → Prop}
variable {cc : ByteArray} {pc : Nat} {ls : Array Slot} {rest : List Value}
theorem lv_dg_ge (hexec : p.tables.exec = Jvm.exec) (hb : c.code = cc) {x y : UInt64} {off : Int} {tgt : Nat} (hd1 : decode cc pc = .ok (.dcmp .g, 1)) (hd2 : decode cc (pc + 1) = .ok (.ifCond .ge off, 3)) (ht : ((pc + 1 : Nat) : Int) + off = (tgt : Int))
    (kt : ¬ flt x y → W p l e R s m args below meth c H locs cells slots Q (F0 m tgt ls rest)) (kf : flt x y → W p l e R s m args below meth c H locs cells slots Q (F0 m (pc + 4) ls rest)) : W p l e R s m args below meth c H locs cells slots Q (F0 m pc ls (.double y :: .double x :: rest)) := by
  refine lv_dcmp hexec hb hd1 ?_
  have key : (¬ flt x y) ∨ (flt x y) := by
    simp only [flt, fle, feq, fgt, fge]
    cases FP.dcmp x y with
    | none => decide
    | some o => cases o <;> decide
  refine lv_if_ge hexec hb hd2 ht (fun h => kt ?_) (fun h => kf ?_)
  · revert h
    simp only [flt, fle, feq, fgt, fge]
    cases FP.dcmp x y with
    | none => decide
    | some o => cases o <;> decide
  · revert h
    simp only [flt, fle, feq, fgt, fge]
    cases FP.dcmp x y with
    | none => decide
    | some o => cases o <;> decide
theorem lv_dg_gt (hexec : p.tables.exec = Jvm.exec) (hb : c.code = cc) {x y : UInt64} {off : Int} {tgt : Nat} (hd1 : decode cc pc = .ok (.dcmp .g, 1)) (hd2 : decode cc (pc + 1) = .ok (.ifCond .gt off, 3)) (ht : ((pc + 1 : Nat) : Int) + off = (tgt : Int))
    (kt : ¬ fle x y → W p l e R s m args below meth c H locs cells slots Q (F0 m tgt ls rest)) (kf : fle x y → W p l e R s m args below meth c H locs cells slots Q (F0 m (pc + 4) ls rest)) : W p l e R s m args below meth c H locs cells slots Q (F0 m pc ls (.double y :: .double x :: rest)) := by
  refine lv_dcmp hexec hb hd1 ?_
  have key : (¬ fle x y) ∨ (fle x y) := by
    simp only [flt, fle, feq, fgt, fge]
    cases FP.dcmp x y with
    | none => decide
    | some o => cases o <;> decide
  refine lv_if_gt hexec hb hd2 ht (fun h => kt ?_) (fun h => kf ?_)
  · revert h
    simp only [flt, fle, feq, fgt, fge]
    cases FP.dcmp x y with
    | none => decide
    | some o => cases o <;> decide
  · revert h
    simp only [flt, fle, feq, fgt, fge]
    cases FP.dcmp x y with
    | none => decide
    | some o => cases o <;> decide
theorem lv_dg_lt (hexec : p.tables.exec = Jvm.exec) (hb : c.code = cc) {x y : UInt64} {off : Int} {tgt : Nat} (hd1 : decode cc pc = .ok (.dcmp .g, 1)) (hd2 : decode cc (pc + 1) = .ok (.ifCond .lt off, 3)) (ht : ((pc + 1 : Nat) : Int) + off = (tgt : Int))
    (kt : flt x y → W p l e R s m args below meth c H locs cells slots Q (F0 m tgt ls rest)) (kf : ¬ flt x y → W p l e R s m args below meth c H locs cells slots Q (F0 m (pc + 4) ls rest)) : W p l e R s m args below meth c H locs cells slots Q (F0 m pc ls (.double y :: .double x :: rest)) := by
  refine lv_dcmp hexec hb hd1 ?_
  have key : (flt x y) ∨ (¬ flt x y) := by
    simp only [flt, fle, feq, fgt, fge]
    cases FP.dcmp x y with
    | none => decide
    | some o => cases o <;> decide
  refine lv_if_lt hexec hb hd2 ht (fun h => kt ?_) (fun h => kf ?_)
  · revert h
    simp only [flt, fle, feq, fgt, fge]
    cases FP.dcmp x y with
    | none => decide
    | some o => cases o <;> decide
  · revert h
    simp only [flt, fle, feq, fgt, fge]
    cases FP.dcmp x y with
    | none => decide
    | some o => cases o <;> decide
theorem lv_dl_eq (hexec : p.tables.exec = Jvm.exec) (hb : c.code = cc) {x y : UInt64} {off : Int} {tgt : Nat} (hd1 : decode cc pc = .ok (.dcmp .l, 1)) (hd2 : decode cc (pc + 1) = .ok (.ifCond .eq off, 3)) (ht : ((pc + 1 : Nat) : Int) + off = (tgt : Int))
    (kt : feq x y → W p l e R s m args below meth c H locs cells slots Q (F0 m tgt ls rest)) (kf : ¬ feq x y → W p l e R s m args below meth c H locs cells slots Q (F0 m (pc + 4) ls rest)) : W p l e R s m args below meth c H locs cells slots Q (F0 m pc ls (.double y :: .double x :: rest)) := by
  refine lv_dcmp hexec hb hd1 ?_
  have key : (feq x y) ∨ (¬ feq x y) := by
    simp only [flt, fle, feq, fgt, fge]
    cases FP.dcmp x y with
    | none => decide
    | some o => cases o <;> decide
  refine lv_if_eq hexec hb hd2 ht (fun h => kt ?_) (fun h => kf ?_)
  · revert h
    simp only [flt, fle, feq, fgt, fge]
    cases FP.dcmp x y with
    | none => decide
    | some o => cases o <;> decide
  · revert h
    simp only [flt, fle, feq, fgt, fge]
    cases FP.dcmp x y with
    | none => decide
    | some o => cases o <;> decide
theorem lv_dl_gt (hexec : p.tables.exec = Jvm.exec) (hb : c.code = cc) {x y : UInt64} {off : Int} {tgt : Nat} (hd1 : decode cc pc = .ok (.dcmp .l, 1)) (hd2 : decode cc (pc + 1) = .ok (.ifCond .gt off, 3)) (ht : ((pc + 1 : Nat) : Int) + off = (tgt : Int))
    (kt : fgt x y → W p l e R s m args below meth c H locs cells slots Q (F0 m tgt ls rest)) (kf : ¬ fgt x y → W p l e R s m args below meth c H locs cells slots Q (F0 m (pc + 4) ls rest)) : W p l e R s m args below meth c H locs cells slots Q (F0 m pc ls (.double y :: .double x :: rest)) := by
  refine lv_dcmp hexec hb hd1 ?_
  have key : (fgt x y) ∨ (¬ fgt x y) := by
    simp only [flt, fle, feq, fgt, fge]
    cases FP.dcmp x y with
    | none => decide
    | some o => cases o <;> decide
  refine lv_if_gt hexec hb hd2 ht (fun h => kt ?_) (fun h => kf ?_)
  · revert h
    simp only [flt, fle, feq, fgt, fge]
    cases FP.dcmp x y with
    | none => decide
    | some o => cases o <;> decide
  · revert h
    simp only [flt, fle, feq, fgt, fge]
    cases FP.dcmp x y with
    | none => decide
    | some o => cases o <;> decide
theorem lv_dl_le (hexec : p.tables.exec = Jvm.exec) (hb : c.code = cc) {x y : UInt64} {off : Int} {tgt : Nat} (hd1 : decode cc pc = .ok (.dcmp .l, 1)) (hd2 : decode cc (pc + 1) = .ok (.ifCond .le off, 3)) (ht : ((pc + 1 : Nat) : Int) + off = (tgt : Int))
    (kt : ¬ fgt x y → W p l e R s m args below meth c H locs cells slots Q (F0 m tgt ls rest)) (kf : fgt x y → W p l e R s m args below meth c H locs cells slots Q (F0 m (pc + 4) ls rest)) : W p l e R s m args below meth c H locs cells slots Q (F0 m pc ls (.double y :: .double x :: rest)) := by
  refine lv_dcmp hexec hb hd1 ?_
  have key : (¬ fgt x y) ∨ (fgt x y) := by
    simp only [flt, fle, feq, fgt, fge]
    cases FP.dcmp x y with
    | none => decide
    | some o => cases o <;> decide
  refine lv_if_le hexec hb hd2 ht (fun h => kt ?_) (fun h => kf ?_)
  · revert h
    simp only [flt, fle, feq, fgt, fge]
    cases FP.dcmp x y with
    | none => decide
    | some o => cases o <;> decide
  · revert h
    simp only [flt, fle, feq, fgt, fge]
    cases FP.dcmp x y with
    | none => decide
    | some o => cases o <;> decide
theorem lv_dl_lt (hexec : p.tables.exec = Jvm.exec) (hb : c.code = cc) {x y : UInt64} {off : Int} {tgt : Nat} (hd1 : decode cc pc = .ok (.dcmp .l, 1)) (hd2 : decode cc (pc + 1) = .ok (.ifCond .lt off, 3)) (ht : ((pc + 1 : Nat) : Int) + off = (tgt : Int))
    (kt : ¬ fge x y → W p l e R s m args below meth c H locs cells slots Q (F0 m tgt ls rest)) (kf : fge x y → W p l e R s m args below meth c H locs cells slots Q (F0 m (pc + 4) ls rest)) : W p l e R s m args below meth c H locs cells slots Q (F0 m pc ls (.double y :: .double x :: rest)) := by
  refine lv_dcmp hexec hb hd1 ?_
  have key : (¬ fge x y) ∨ (fge x y) := by
    simp only [flt, fle, feq, fgt, fge]
    cases FP.dcmp x y with
    | none => decide
    | some o => cases o <;> decide
  refine lv_if_lt hexec hb hd2 ht (fun h => kt ?_) (fun h => kf ?_)
  · revert h
    simp only [flt, fle, feq, fgt, fge]
    cases FP.dcmp x y with
    | none => decide
    | some o => cases o <;> decide
  · revert h
    simp only [flt, fle, feq, fgt, fge]
    cases FP.dcmp x y with
    | none => decide
    | some o => cases o <;> decide
theorem lv_dl_ne (hexec : p.tables.exec = Jvm.exec) (hb : c.code = cc) {x y : UInt64} {off : Int} {tgt : Nat} (hd1 : decode cc pc = .ok (.dcmp .l, 1)) (hd2 : decode cc (pc + 1) = .ok (.ifCond .ne off, 3)) (ht : ((pc + 1 : Nat) : Int) + off = (tgt : Int))
    (kt : ¬ feq x y → W p l e R s m args below meth c H locs cells slots Q (F0 m tgt ls rest)) (kf : feq x y → W p l e R s m args below meth c H locs cells slots Q (F0 m (pc + 4) ls rest)) : W p l e R s m args below meth c H locs cells slots Q (F0 m pc ls (.double y :: .double x :: rest)) := by
  refine lv_dcmp hexec hb hd1 ?_
  have key : (¬ feq x y) ∨ (feq x y) := by
    simp only [flt, fle, feq, fgt, fge]
    cases FP.dcmp x y with
    | none => decide
    | some o => cases o <;> decide
  refine lv_if_ne hexec hb hd2 ht (fun h => kt ?_) (fun h => kf ?_)
  · revert h
    simp only [flt, fle, feq, fgt, fge]
    cases FP.dcmp x y with
    | none => decide
    | some o => cases o <;> decide
  · revert h
    simp only [flt, fle, feq, fgt, fge]
    cases FP.dcmp x y with
    | none => decide
    | some o => cases o <;> decide
end DCMP
section RET
variable {p : Program} {l : Launch} {e : Env} {R : Room} {s : State} {m : MethodId} {args : Array Value} {below : List Frame} {meth : Method} {c : Code} {H : Heap} {locs : List Loc} {cells slots : Nat} {Q : State → Prop}
variable {cc : ByteArray} {pc : Nat} {ls : Array Slot} {rest : List Value} {A : Nat → Prop}
/-! returns: of a method that only reads -/
theorem rR_d (hexec : p.tables.exec = Jvm.exec) (hb : c.code = cc) (hr : meth.sig.returnType = some .double) (hlk : meth.locks = false) {v : UInt64} {post : UInt64 → Prop} (hp : post v) (hdg : decode cc pc = .ok (.dreturn, 1)) : W p l e R s m args below meth c s.heap [] 0 0 (MQX below (qR Value.double post) s 0 0 (fun _ => False)) (F0 m pc ls [.double v]) :=
  (W.dret (Qc := fun _ => qR Value.double post) hexec hb hr (fun t ht _ => ⟨⟨v, rfl, hp⟩, ht⟩) (fun _ h => by cases h) hdg hlk).mono (fun _ h => MQ.toX h)
theorem rR_i (hexec : p.tables.exec = Jvm.exec) (hb : c.code = cc) (hr : meth.sig.returnType = some .int) (hlk : meth.locks = false) {v : Int32} {post : Int32 → Prop} (hp : post v) (hdg : decode cc pc = .ok (.ireturn, 1)) : W p l e R s m args below meth c s.heap [] 0 0 (MQX below (qR Value.int post) s 0 0 (fun _ => False)) (F0 m pc ls [.int v]) :=
  (W.iret (Qc := fun _ => qR Value.int post) hexec hb hr (fun t ht _ => ⟨⟨v, rfl, hp⟩, ht⟩) (fun _ h => by cases h) hdg hlk).mono (fun _ h => MQ.toX h)
theorem rR_z (hexec : p.tables.exec = Jvm.exec) (hb : c.code = cc) (hr : meth.sig.returnType = some .boolean) (hlk : meth.locks = false) {v : Int32} (hv : v = 0 ∨ v = 1) {post : Int32 → Prop} (hp : post v) (hdg : decode cc pc = .ok (.ireturn, 1)) : W p l e R s m args below meth c s.heap [] 0 0 (MQX below (qR Value.int post) s 0 0 (fun _ => False)) (F0 m pc ls [.int v]) :=
  (W.zret (Qc := fun _ => qR Value.int post) hexec hb hr (by rcases hv with rfl | rfl <;> rfl) (fun t ht _ => ⟨⟨v, rfl, hp⟩, ht⟩) (fun _ h => by cases h) hdg hlk).mono (fun _ h => MQ.toX h)
theorem rR_a (hexec : p.tables.exec = Jvm.exec) (hb : c.code = cc) {rt : FieldType} (hr : meth.sig.returnType = some rt) (hrt : (∃ n, rt = .object n) ∨ ∃ t, rt = .array t) (hlk : meth.locks = false) {v : Nat} {post : Nat → Prop} (hp : post v) (hdg : decode cc pc = .ok (.areturn, 1)) : W p l e R s m args below meth c s.heap [] 0 0 (MQX below (qR Value.ref post) s 0 0 (fun _ => False)) (F0 m pc ls [.ref v]) :=
  (W.aret (Qc := fun _ => qR Value.ref post) hexec hb hr hrt (Or.inr ⟨v, rfl⟩) (fun t ht _ => ⟨⟨v, rfl, hp⟩, ht⟩) (fun _ h => by cases h) hdg hlk).mono (fun _ h => MQ.toX h)
/-! of a method that writes -/
theorem rW_v (hexec : p.tables.exec = Jvm.exec) (hb : c.code = cc) (hr : meth.sig.returnType = none) (hlk : meth.locks = false) (hS : va_S A s.heap H locs) {post : Unit → Heap → Prop} (hp : post () H) {mc ms : Nat} (hdg : decode cc pc = .ok (.return_, 1)) (hmc : cells ≤ mc := by decide) (hms : slots ≤ ms := by decide) : W p l e R s m args below meth c H locs cells slots (MQX below (qW (fun _ : Unit => none) post A) s mc ms A) (F0 m pc ls []) :=
  W.widen hmc hms ((W.vret (Qc := fun _ => qW (fun _ : Unit => none) post A) hexec hb hr (fun t ht _ => ⟨⟨(), rfl, by rw [ht]; exact hp⟩, hS.F ht⟩) hS.2.2 hdg hlk).mono (fun _ h => MQ.toX h))
theorem rW_d (hexec : p.tables.exec = Jvm.exec) (hb : c.code = cc) (hr : meth.sig.returnType = some .double) (hlk : meth.locks = false) (hS : va_S A s.heap H locs) {v : UInt64} {post : UInt64 → Heap → Prop} (hp : post v H) {mc ms : Nat} (hdg : decode cc pc = .ok (.dreturn, 1)) (hmc : cells ≤ mc := by decide) (hms : slots ≤ ms := by decide) : W p l e R s m args below meth c H locs cells slots (MQX below (qW (fun r : UInt64 => some (.double r)) post A) s mc ms A) (F0 m pc ls [.double v]) :=
  W.widen hmc hms ((W.dret (Qc := fun _ => qW (fun r : UInt64 => some (.double r)) post A) hexec hb hr (fun t ht _ => ⟨⟨v, rfl, by rw [ht]; exact hp⟩, hS.F ht⟩) hS.2.2 hdg hlk).mono (fun _ h => MQ.toX h))
theorem rW_i (hexec : p.tables.exec = Jvm.exec) (hb : c.code = cc) (hr : meth.sig.returnType = some .int) (hlk : meth.locks = false) (hS : va_S A s.heap H locs) {v : Int32} {post : Int32 → Heap → Prop} (hp : post v H) {mc ms : Nat} (hdg : decode cc pc = .ok (.ireturn, 1)) (hmc : cells ≤ mc := by decide) (hms : slots ≤ ms := by decide) : W p l e R s m args below meth c H locs cells slots (MQX below (qW (fun r : Int32 => some (.int r)) post A) s mc ms A) (F0 m pc ls [.int v]) :=
  W.widen hmc hms ((W.iret (Qc := fun _ => qW (fun r : Int32 => some (.int r)) post A) hexec hb hr (fun t ht _ => ⟨⟨v, rfl, by rw [ht]; exact hp⟩, hS.F ht⟩) hS.2.2 hdg hlk).mono (fun _ h => MQ.toX h))
theorem rW_z (hexec : p.tables.exec = Jvm.exec) (hb : c.code = cc) (hr : meth.sig.returnType = some .boolean) (hlk : meth.locks = false) (hS : va_S A s.heap H locs) {v : Int32} (hv : v = 0 ∨ v = 1) {post : Int32 → Heap → Prop} (hp : post v H) {mc ms : Nat} (hdg : decode cc pc = .ok (.ireturn, 1)) (hmc : cells ≤ mc := by decide) (hms : slots ≤ ms := by decide) : W p l e R s m args below meth c H locs cells slots (MQX below (qW (fun r : Int32 => some (.int r)) post A) s mc ms A) (F0 m pc ls [.int v]) :=
  W.widen hmc hms ((W.zret (Qc := fun _ => qW (fun r : Int32 => some (.int r)) post A) hexec hb hr (by rcases hv with rfl | rfl <;> rfl) (fun t ht _ => ⟨⟨v, rfl, by rw [ht]; exact hp⟩, hS.F ht⟩) hS.2.2 hdg hlk).mono (fun _ h => MQ.toX h))
theorem rW_a (hexec : p.tables.exec = Jvm.exec) (hb : c.code = cc) {rt : FieldType} (hr : meth.sig.returnType = some rt) (hrt : (∃ n, rt = .object n) ∨ ∃ t, rt = .array t) (hlk : meth.locks = false) (hS : va_S A s.heap H locs) {v : Nat} {post : Nat → Heap → Prop} (hp : post v H) {mc ms : Nat} (hdg : decode cc pc = .ok (.areturn, 1)) (hmc : cells ≤ mc := by decide) (hms : slots ≤ ms := by decide) : W p l e R s m args below meth c H locs cells slots (MQX below (qW (fun r : Nat => some (.ref r)) post A) s mc ms A) (F0 m pc ls [.ref v]) :=
  W.widen hmc hms ((W.aret (Qc := fun _ => qW (fun r : Nat => some (.ref r)) post A) hexec hb hr hrt (Or.inr ⟨v, rfl⟩) (fun t ht _ => ⟨⟨v, rfl, by rw [ht]; exact hp⟩, hS.F ht⟩) hS.2.2 hdg hlk).mono (fun _ h => MQ.toX h))
/-! of a method that may throw -/
theorem qW.x {α : Type} {f : α → Option Value} {post : α → Heap → Prop} {thr : String → Heap → Prop} {st t : State} {o : Outcome} (h : qW f post A st o t) : qX f post thr A st o t := ⟨Or.inl h.1, h.2⟩
theorem MQX.x {α : Type} {f : α → Option Value} {post : α → Heap → Prop} {thr : String → Heap → Prop} {mc ms : Nat} {free : Addr → Prop} {t : State} (h : MQX below (qW f post A) s mc ms free t) : MQX below (qX f post thr A) s mc ms free t := by
  obtain ⟨o, h1, h2, h3, h4⟩ := h
  exact ⟨o, h1, h2, h3.x, h4⟩
theorem rX {α : Type} {f : α → Option Value} {post : α → Heap → Prop} {thr : String → Heap → Prop} {mc ms : Nat} {free : Addr → Prop} {g : JFrame} (h : W p l e R s m args below meth c H locs cells slots (MQX below (qW f post A) s mc ms free) g) : W p l e R s m args below meth c H locs cells slots (MQX below (qX f post thr A) s mc ms free) g := h.mono (fun _ => MQX.x)
theorem rT_x {α : Type} {f : α → Option Value} {post : α → Heap → Prop} {thr : String → Heap → Prop} {hh : List (Nat × Nat × Nat × Nat)} {x : Addr} {C : String} (hlk : meth.locks = false) (ht : wx_tab c = hh) (hout : hh.all (fun h => !(decide (h.1 ≤ pc) && decide (pc < h.2.1))) = true) (hS : va_S A s.heap H locs) (hE : ∃ cell, H[x]? = some cell ∧ cell.vm = .none ∧ s.vm.findClass C = some cell.cls) (hp : thr C H) {mc ms : Nat} (hmc : cells ≤ mc + 1 := by decide) (hms : slots ≤ ms + 6 := by decide) : WT p l e R s m args below meth c H locs cells slots (MQX below (qX f post thr A) s mc ms A) x (F0 m pc ls rest) :=
  wt_leave hlk ht hout (fun t e1 e2 => by
    obtain ⟨cell, h1, h2, h3⟩ := hE
    exact ⟨Or.inr ⟨x, C, rfl, ⟨cell, by rw [e1]; exact h1, h2, by rw [e2.alike.findClass]; exact h3⟩, by rw [e1]; exact hp⟩, hS.F e1⟩) hS.2.2 hmc hms
/-! references compared -/
theorem lv_aeq (hexec : p.tables.exec = Jvm.exec) (hb : c.code = cc) {x y : Nat} {off : Int} {tgt : Nat} (hdg : decode cc pc = .ok (.if_acmp .eq off, 3)) (ht : (pc : Int) + off = (tgt : Int))
    (kt : x = y → W p l e R s m args below meth c H locs cells slots Q (F0 m tgt ls rest)) (kf : ¬ x = y → W p l e R s m args below meth c H locs cells slots Q (F0 m (pc + 3) ls rest)) : W p l e R s m args below meth c H locs cells slots Q (F0 m pc ls (.ref y :: .ref x :: rest)) :=
  lv_acmp_eq (rx := some x) (ry := some y) hexec hb hdg ht (fun h => kt (Option.some.inj h)) (fun h => kf (fun q => h (by rw [q])))
theorem lv_ane (hexec : p.tables.exec = Jvm.exec) (hb : c.code = cc) {x y : Nat} {off : Int} {tgt : Nat} (hdg : decode cc pc = .ok (.if_acmp .ne off, 3)) (ht : (pc : Int) + off = (tgt : Int))
    (kt : ¬ x = y → W p l e R s m args below meth c H locs cells slots Q (F0 m tgt ls rest)) (kf : x = y → W p l e R s m args below meth c H locs cells slots Q (F0 m (pc + 3) ls rest)) : W p l e R s m args below meth c H locs cells slots Q (F0 m pc ls (.ref y :: .ref x :: rest)) :=
  lv_acmp_ne (rx := some x) (ry := some y) hexec hb hdg ht (fun h => kt (fun q => h (by rw [q]))) (fun h => kf (Option.some.inj h))
end RET
/-! starts -/
def Pw (Dg : va_G) (dA : Nat → ClassId) (B : Heap → Prop) (U : State) : Prop := va_K Dg vCl (vTys dA) U ∧ B U.heap
theorem Pw.of {Dg : va_G} {dA : Nat → ClassId} {B : Heap → Prop} {s : State} {H : Heap} (hK : va_K Dg vCl (vTys dA) s) (hB : B H) : ∀ U : State, U.heap = H → s.WarmedH U.vm → Pw Dg dA B U := fun U h1 h2 => ⟨va_K.moved h2.alike hK, by rw [h1]; exact hB⟩
def Px (A : Nat → Prop) (Dg : va_G) (dA : Nat → ClassId) (B : Heap → Prop) (U : State) : Prop := va_K Dg vCl (vTys dA) U ∧ wx_stat A U ∧ (∀ q, U.heap.size ≤ q → A q) ∧ B U.heap
theorem Px.of {A : Nat → Prop} {Dg : va_G} {dA : Nat → ClassId} {B : Heap → Prop} {s : State} {H : Heap} {locs : List Loc} (hK : va_K Dg vCl (vTys dA) s) (hst : wx_stat A s) (hA : ∀ q, s.heap.size ≤ q → A q) (hS : va_S A s.heap H locs) (hB : B H) : ∀ U : State, U.heap = H → s.WarmedH U.vm → Px A Dg dA B U :=
  fun U h1 h2 => ⟨va_K.moved h2.alike hK, hst.moved h2.alike (fun q a b => by rw [h1]; exact hS.2.1 q a b), fun q hq => hA q (Nat.le_trans hS.1 (by rw [← h1]; exact hq)), by rw [h1]; exact hB⟩
def rmx (d mc ms : Nat) : Room := { frames := d, cells := mc, slots := ms, locals := 80 * d }
theorem Cx.of {y : MethodName} {cc : ByteArray} {nL : Nat} {ret : Option FieldType} {hh : List (Nat × Nat × Nat × Nat)} {p : Program} {s : State} {m : MethodId} {args : Array Value} {meth : Method} {c : Code} {Dg : va_G} {dA : Nat → ClassId} (h : wx_At y cc nL ret hh p s m args meth c) (hK : va_K Dg vCl (vTys dA) s) : Cx p s m args c cc y.cls Dg dA := ⟨h.1, h.2.1, h.2.2.2.2.2.1, h.2.2.2.2.2.2.2.2, hK⟩
theorem wx_At.fix {y : MethodName} {cc : ByteArray} {nL : Nat} {ret : Option FieldType} {hh : List (Nat × Nat × Nat × Nat)} {p : Program} {s : State} {m : MethodId} {args : Array Value} {meth : Method} {c : Code} (h : wx_At y cc nL ret hh p s m args meth c) : wx_Fix p m c cc nL s args y.cls := ⟨h.1, h.2.1, h.2.2.1, h.2.2.2.2.2.1, h.2.2.2.2.2.2.2.2⟩
theorem w_recv {A : Nat → Prop} {Dg : va_G} {dA : Nat → ClassId} {N : Nat → Nat} {ad : Nat → Nat → Nat} {V : Nat → Nat → Nat → Value} {H : Heap} {s : State} {k b ci : Nat} {C : String} {T : u_T} {Nf : Nat} {ty : Nat → FieldType} (hK : va_K Dg vCl (vTys dA) s) (hW : World A Dg dA N ad V H) (hC : w_cls ci C T Nf ty) (hsh : w_sh k = .inl ci) (hbN : b < N k) : ∃ cellB, H[ad k b]? = some cellB ∧ cellB.vm.isStatics = false ∧ s.vm.findClass C = some cellB.cls := by
  have h0 := hW.2.2.2 k b hbN
  unfold wd_cell at h0
  rw [hsh] at h0
  obtain ⟨r, h1, h2, cell, q1, q2, q3, q4⟩ := h0
  obtain ⟨hS, hfc, -⟩ := hK.1 ci _ hC.1
  exact ⟨cell, q1, by rw [q3]; rfl, by rw [q2]; exact hfc⟩
/-! bounds -/
/-- finite, of magnitude at most 2^E -/
def fb (E : Int) (a : UInt64) : Prop := Fn a ∧ rv a ≤ p2 E ∧ -rv a ≤ p2 E
theorem fb.n64 {E : Int} {a : UInt64} (h : fb E a) : vf_n64 a := fn_n64 h.1
theorem fb.mono {E F : Int} {a : UInt64} (h : fb E a) (hEF : E ≤ F) : fb F a := by
  have := p2_mono hEF
  exact ⟨h.1, by have := h.2.1; grind, by have := h.2.2; grind⟩
theorem p2_sum {E F G : Int} (h1 : E + 1 ≤ G) (h2 : F + 1 ≤ G) : p2 E + p2 F ≤ p2 G := by
  have a1 := p2_mono h1
  have a2 := p2_mono h2
  rw [p2_succ] at a1 a2
  grind
theorem fb_of {X : Rat} {a : UInt64} {G : Int} (hG : -1074 ≤ G) (ha : Fn a) (h : Rd X (rv a)) (h1 : X ≤ p2 G) (h2 : -X ≤ p2 G) : fb G a := by
  refine ⟨ha, h.2.2 _ (rep_p2 hG) h1, ?_⟩
  have := h.2.1 _ (rep_p2 hG).neg (by grind)
  grind
theorem fb.add {E F G : Int} {a b : UInt64} (ha : fb E a) (hb : fb F b) (h1 : E + 1 ≤ G ∧ F + 1 ≤ G ∧ -1074 ≤ G ∧ G ≤ 1000) : fb G (FP.dadd a b) := by
  obtain ⟨a1, a2, a3⟩ := ha
  obtain ⟨b1, b2, b3⟩ := hb
  have hs := p2_sum h1.1 h1.2.1
  have hG := p2_mono h1.2.2.2
  obtain ⟨q1, q2⟩ := add_rd a1 b1 (by grind) (by grind)
  exact fb_of h1.2.2.1 q1 q2 (by grind) (by grind)
theorem fb.sub {E F G : Int} {a b : UInt64} (ha : fb E a) (hb : fb F b) (h1 : E + 1 ≤ G ∧ F + 1 ≤ G ∧ -1074 ≤ G ∧ G ≤ 1000) : fb G (FP.dsub a b) := by
  obtain ⟨a1, a2, a3⟩ := ha
  obtain ⟨b1, b2, b3⟩ := hb
  have hs := p2_sum h1.1 h1.2.1
  have hG := p2_mono h1.2.2.2
  obtain ⟨q1, q2⟩ := sub_rd a1 b1 (by grind) (by grind)
  exact fb_of h1.2.2.1 q1 q2 (by grind) (by grind)
theorem rat_mul_bd {x y X Y : Rat} (h1 : x ≤ X) (h2 : -x ≤ X) (h3 : y ≤ Y) (h4 : -y ≤ Y) : x * y ≤ X * Y ∧ -(x * y) ≤ X * Y := by
  have hX : 0 ≤ X := by grind
  have hY : 0 ≤ Y := by grind
  have a1 := Rat.mul_nonneg (show 0 ≤ X - x by grind) (show 0 ≤ Y + y by grind)
  have a2 := Rat.mul_nonneg (show 0 ≤ X + x by grind) (show 0 ≤ Y - y by grind)
  have a3 := Rat.mul_nonneg (show 0 ≤ X - x by grind) (show 0 ≤ Y - y by grind)
  have a4 := Rat.mul_nonneg (show 0 ≤ X + x by grind) (show 0 ≤ Y + y by grind)
  constructor <;> grind
theorem fb.mul {E F G : Int} {a b : UInt64} (ha : fb E a) (hb : fb F b) (h1 : E + F ≤ G ∧ -1074 ≤ G ∧ G ≤ 1000) : fb G (FP.dmul a b) := by
  obtain ⟨a1, a2, a3⟩ := ha
  obtain ⟨b1, b2, b3⟩ := hb
  have hs := p2_mono h1.1
  rw [p2_add] at hs
  have hG := p2_mono h1.2.2
  obtain ⟨m1, m2⟩ := rat_mul_bd a2 a3 b2 b3
  obtain ⟨q1, q2⟩ := mul_rd a1 b1 (by grind) (by grind)
  exact fb_of h1.2.1 q1 q2 (by grind) (by grind)
/-- finite, of magnitude at least 2^F -/
def lb (F : Int) (a : UInt64) : Prop := Fn a ∧ (p2 F ≤ rv a ∨ p2 F ≤ -rv a)
theorem lb.ne0 {F : Int} {a : UInt64} (h : lb F a) : rv a ≠ 0 := by
  have := p2_pos F
  rcases h.2 with q | q <;> grind
theorem rat_div_bd {x y X : Rat} {F : Int} (h1 : x ≤ X) (h2 : -x ≤ X) (hy : p2 F ≤ y ∨ p2 F ≤ -y) : x / y ≤ X * p2 (-F) ∧ -(x / y) ≤ X * p2 (-F) := by
  have hp := p2_pos F
  have hX : 0 ≤ X := by grind
  have hy0 : y ≠ 0 := by rcases hy with q | q <;> grind
  have e1 : x / y * y = x := Rat.div_mul_cancel hy0
  have e2 : p2 (-F) * p2 F = 1 := by rw [← p2_add, show -F + F = 0 by omega, p2_0]
  have hq := p2_pos (-F)
  generalize x / y = d at e1 ⊢
  have hXq := Rat.mul_nonneg hX (Rat.le_of_lt hq)
  have e3 : X * p2 (-F) * p2 F = X := by rw [Rat.mul_assoc, e2, Rat.mul_one]
  rcases hy with q | q
  · have hy1 : 0 < y := by grind
    have h5 := Rat.mul_le_mul_of_nonneg_left q hXq
    rw [e3] at h5
    constructor
    · exact Rat.le_of_mul_le_mul_right (c := y) (by rw [e1]; grind) hy1
    · refine Rat.le_of_mul_le_mul_right (c := y) ?_ hy1
      have e4 : -d * y = -x := by rw [Rat.neg_mul, e1]
      rw [e4]; grind
  · have hy1 : 0 < -y := by grind
    have h5 := Rat.mul_le_mul_of_nonneg_left q hXq
    rw [e3] at h5
    constructor
    · refine Rat.le_of_mul_le_mul_right (c := -y) ?_ hy1
      have e4 : d * -y = -x := by rw [Rat.mul_neg, e1]
      rw [e4]; grind
    · refine Rat.le_of_mul_le_mul_right (c := -y) ?_ hy1
      have e4 : -d * -y = x := by rw [Rat.mul_neg, Rat.neg_mul, Rat.neg_neg, e1]
      rw [e4]; grind
theorem fb.div {E F G : Int} {a b : UInt64} (ha : fb E a) (hb : lb F b) (h1 : E - F ≤ G ∧ -1074 ≤ G ∧ G ≤ 1000) : fb G (FP.ddiv a b) := by
  obtain ⟨a1, a2, a3⟩ := ha
  have hs := p2_mono h1.1
  rw [show E - F = E + -F by omega, p2_add] at hs
  have hG := p2_mono h1.2.2
  obtain ⟨m1, m2⟩ := rat_div_bd a2 a3 hb.2
  obtain ⟨q1, q2⟩ := div_rd a1 hb.1 hb.ne0 (by grind) (by grind)
  exact fb_of h1.2.1 q1 q2 (by grind) (by grind)
