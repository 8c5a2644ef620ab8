set_option maxRecDepth 100000
/-! ===== an array of arrays is made (the kit has no row for it) ===== -/
/-- the outer array's places, i rows made -/
abbrev gV (h0 i : Nat) : Nat → Value := fun j => if j < i then .ref (h0 + 1 + j) else .null
/-- the state with i rows made -/
def gS (T : State) (cA cI : ClassId) (n k : Nat) (dv : Value) : Nat → State
  | 0 => T.pushCell (arrV cA n (gV T.heap.size 0))
  | i + 1 => ((gS T cA cI n k dv i).pushCell (arrV cI k (fun _ => dv))).setCell T.heap.size (arrV cA n (gV T.heap.size (i + 1)))
theorem push_old {S : State} {cell : Cell} {a : Nat} (h : a < S.heap.size) : (S.pushCell cell).heap[a]? = S.heap[a]? := State.heap_pushCell_of_lt (h := h) ..
theorem gV_step {cA : ClassId} {n h0 i : Nat} : (arrV cA n (gV h0 i)).setSlot i (.ref (h0 + 1 + i)) = arrV cA n (gV h0 (i + 1)) := by
  rw [arrV_store]
  congr 1
  funext j
  unfold updV gV
  by_cases h : j = i
  · subst h; simp
  · by_cases h2 : j < i
    · simp [h, h2, show j < i + 1 by omega]
    · simp [h, h2, show ¬ j < i + 1 by omega]
theorem gS_at (T : State) (cA cI : ClassId) (n k : Nat) (dv : Value) : ∀ i, (gS T cA cI n k dv i).heap.size = T.heap.size + 1 + i ∧ (gS T cA cI n k dv i).heap[T.heap.size]? = some (arrV cA n (gV T.heap.size i)) ∧ (gS T cA cI n k dv i).vm = T.vm ∧ (gS T cA cI n k dv i).slotsUsed = T.slotsUsed + n + i * k ∧ (∀ a : Nat, a < T.heap.size → (gS T cA cI n k dv i).heap[a]? = T.heap[a]?) ∧ ∀ j, j < i → (gS T cA cI n k dv i).heap[T.heap.size + 1 + j]? = some (arrV cI k (fun _ => dv))
  | 0 => by
    refine ⟨by simp [gS], by simp [gS], rfl, by simp [gS, arrV_size], fun a ha => ?_, fun j hj => absurd hj (Nat.not_lt_zero j)⟩
    exact push_old ha
  | i + 1 => by
    obtain ⟨h1, h2, h3, h4, h5, h6⟩ := gS_at T cA cI n k dv i
    have hlt : T.heap.size < ((gS T cA cI n k dv i).pushCell (arrV cI k (fun _ => dv))).heap.size := by simp; omega
    refine ⟨?_, heapAt_setCell_self _ hlt, by simp [gS, h3], ?_, fun a ha => ?_, fun j hj => ?_⟩
    · show (((gS T cA cI n k dv i).pushCell _).setCell _ _).heap.size = _
      rw [size_setCell]
      simp
      omega
    · simp [gS, h4, arrV_size, Nat.succ_mul]; omega
    · show (((gS T cA cI n k dv i).pushCell _).setCell _ _).heap[a]? = _
      rw [heapAt_setCell_ne _ (show T.heap.size ≠ a by omega), push_old (show a < (gS T cA cI n k dv i).heap.size by omega)]
      exact h5 a ha
    · show (((gS T cA cI n k dv i).pushCell _).setCell _ _).heap[T.heap.size + 1 + j]? = _
      rw [heapAt_setCell_ne _ (show T.heap.size ≠ T.heap.size + 1 + j by omega)]
      by_cases hq : j = i
      · subst hq
        rw [← h1]
        simp
      · rw [push_old (show T.heap.size + 1 + j < (gS T cA cI n k dv i).heap.size by omega)]
        exact h6 j (by omega)
section GRID
variable {p : Program} {l : Launch} {e : Env} {R : Room} {s : State} {m : MethodId} {args : Array Value} {below : List Frame} {meth : Method} {c : Code} {T : State} {locs : List Loc} {cells slots : Nat}
theorem gS_stand (X : Stand p l e R s m args below meth c T locs cells slots) (cA cI : ClassId) (n k : Nat) (dv : Value) : ∀ i, Stand p l e R s m args below meth c (gS T cA cI n k dv i) locs (cells + 1 + i) (slots + n + i * k)
  | 0 => by
    have h := X.pushed (arrV cA n (gV T.heap.size 0))
    rw [arrV_size] at h
    simpa [gS] using h
  | i + 1 => by
    have Xi := gS_stand X cA cI n k dv i
    obtain ⟨h1, h2, h3, h4, h5, h6⟩ := gS_at T cA cI n k dv i
    have hc : ((gS T cA cI n k dv i).pushCell (arrV cI k (fun _ => dv))).heap[T.heap.size]? = some (arrV cA n (gV T.heap.size i)) := by rw [push_old (show T.heap.size < (gS T cA cI n k dv i).heap.size by omega)]; exact h2
    have h := (Xi.pushed (arrV cI k (fun _ => dv))).stored hc i (.ref (T.heap.size + 1 + i))
    rw [gV_step, arrV_size] at h
    have h' := h.dropFresh (fun x hx => by
      rcases List.mem_singleton.mp hx with rfl
      exact X.heapGrown)
    have e3 : slots + n + (i + 1) * k = slots + n + i * k + k := by rw [Nat.succ_mul]; omega
    rw [e3]
    exact h'
end GRID
section GWP
variable {E : CtlPost} {e : Env} {d : Bool} {acts : List Action} {s : State}
/-- one array of defaults -/
theorem g_one {cl comp : ClassId} {kc : Class} {ty : FieldType} {len : Nat} {v0 : Value} (hk : s.vm.classes[cl]? = some kc) (hkind : kc.kind = .array comp ty) (h1 : len ≤ e.platform.arrayLengthLimit) (h2 : len * componentBytes ty ≤ e.platform.maxHeapBytes) (hf : fits ty v0 = true) (hd : v0.isDefault = true) {Q : Addr → Pre} (h3 : s.heap.size < e.platform.maxCells) (h4 : s.slotsUsed + len ≤ e.platform.maxSlots) (hq : Q s.heap.size d acts (s.pushCell (arrV cl len (fun _ => v0)))) : wp (Jvm.newArray cl len v0) Q E e d acts s := by
  rw [← arrV_new] at hq
  have hfit : ∀ i v, (Array.replicate len v0)[i]? = some v → s.fitsSlot cl .none i v = true := by
    intro i v hv
    rw [Array.getElem?_replicate] at hv
    split at hv
    · cases hv
      simp [State.fitsSlot, State.slotType?, hk, hkind, hf]
    · cases hv
  have hall : allocActs (Array.replicate len v0) s.heap.size acts = acts := by
    have : ((Array.replicate len v0).all (·.isDefault)) = true := by
      rw [Array.all_replicate]
      split <;> simp [hd]
    unfold allocActs
    rw [if_pos this]
  have g1 : ¬ len > e.platform.arrayLengthLimit := by omega
  have g2 : ¬ len * componentBytes ty > e.platform.maxHeapBytes := by omega
  simp only [Jvm.newArray, Jvm.arrayFits, wp_bind', W.ask, W.ite, g1, if_false, wp_pure', W.theClass, hk, hkind, g2, W.alloc, W.stop, Option.some.injEq, exists_eq_left', Array.size_replicate, hall]
  rw [if_neg (by omega)]
  exact ⟨h3, h4, hfit, hq⟩
/-- the whole -/
theorem g_all {cA cI cE : ClassId} {kA kI : Class} {ty : FieldType} {n k : Int32} (hA : s.vm.classes[cA]? = some kA) (hkA : kA.kind = .array cI (.array ty)) (hI : s.vm.classes[cI]? = some kI) (hkI : kI.kind = .array cE ty) (hn : ¬ n < 0) (hk : ¬ k < 0) (l1 : n.toNatClampNeg ≤ e.platform.arrayLengthLimit) (b1 : n.toNatClampNeg * componentBytes (.array ty) ≤ e.platform.maxHeapBytes) (l2 : k.toNatClampNeg ≤ e.platform.arrayLengthLimit) (b2 : k.toNatClampNeg * componentBytes ty ≤ e.platform.maxHeapBytes) (hf : fits ty (defaultValue ty) = true) (hd : (defaultValue ty).isDefault = true)
    (hc : s.heap.size + 1 + n.toNatClampNeg ≤ e.platform.maxCells) (hs : s.slotsUsed + n.toNatClampNeg + n.toNatClampNeg * k.toNatClampNeg ≤ e.platform.maxSlots) {Q : Addr → Pre} (hq : ∀ d' acts', Q s.heap.size d' acts' (gS s cA cI n.toNatClampNeg k.toNatClampNeg (defaultValue ty) n.toNatClampNeg)) : wp (multianewarray.make cA [n, k]) Q E e d acts s := by
  have hnone : ([k].find? (· < 0)) = none := by simp [hk]
  rw [multianewarray.make]
  simp only [wp_bind', W.ite, hn, if_false, wp_pure', W.theClass, hA, hkA, Option.some.injEq, exists_eq_left']
  refine g_one hA hkA l1 b1 rfl rfl (by omega) (by have := Nat.zero_le (n.toNatClampNeg * k.toNatClampNeg); omega) ?_
  simp only [hnone]
  rw [ite_self, wp_bind', Std.Legacy.Range.forIn_eq_forIn_range']
  have hsz : ([:n.toNatClampNeg] : Std.Legacy.Range).size = n.toNatClampNeg := by simp [Std.Legacy.Range.size]
  rw [hsz]
  show wp (forIn (List.range' 0 n.toNatClampNeg 1) PUnit.unit _) _ E e d acts _
  generalize hN : n.toNatClampNeg = N at *
  generalize hK : k.toNatClampNeg = K at *
  have e0 : s.pushCell (arrV cA N (fun _ => Value.null)) = gS s cA cI N K (defaultValue ty) 0 := by
    show _ = s.pushCell _
    congr 2
  rw [e0]
  refine wp_forIn_inv (fun rest s' => ∃ i, i + rest.length = N ∧ rest = List.range' i (N - i) ∧ s' = gS s cA cI N K (defaultValue ty) i) _ _ ⟨0, by simp, rfl, rfl⟩ ?_ ?_
  · rintro x rest s' d' acts' Q' ⟨i, hi, hl, rfl⟩ hnext
    have hlt : i < N := by rw [List.length_cons] at hi; omega
    rw [show N - i = (N - (i + 1)) + 1 by omega, List.range'_succ] at hl
    obtain ⟨rfl, hrest⟩ := List.cons.inj hl
    obtain ⟨h1, h2, h3, h4, h5, h6⟩ := gS_at s cA cI N K (defaultValue ty) x
    have hmul : x * K + K ≤ N * K := by
      have := Nat.mul_le_mul_right K (show x + 1 ≤ N from hlt)
      rw [Nat.succ_mul] at this
      exact this
    simp only [wp_bind']
    rw [multianewarray.make]
    simp only [wp_bind', W.ite, hk, if_false, wp_pure', W.theClass, h3, hI, hkI, Option.some.injEq, exists_eq_left']
    rw [hK]
    refine g_one (by rw [h3]; exact hI) hkI l2 b2 hf hd (by omega) (by omega) ?_
    simp only [wp_bind', W.writeLoc, wp_pure']
    refine ⟨arrV cA N (gV s.heap.size x), by rw [push_old (show s.heap.size < (gS s cA cI N K (defaultValue ty) x).heap.size by omega)]; exact h2, (fun h => by cases h), by rw [arrV_size]; exact hlt, ?_, hnext _ _ _ ⟨x + 1, by rw [hrest, List.length_range']; omega, hrest, ?_⟩⟩
    · show State.fitsSlot _ cA .none _ _ = true
      simp [State.fitsSlot, State.slotType?, h3, hA, hkA, fits]
    · rw [h1, gV_step]; rfl
  · rintro s' d' acts' ⟨i, hi, hl, rfl⟩
    have : i = N := by simpa using hi
    subst this
    simp only [wp_pure']
    exact hq _ _
end GWP
section GSTEP
variable {p : Program} {l : Launch} {e : Env} {R : Room} {s : State} {m : MethodId} {args : Array Value} {below : List Frame} {meth : Method} {c : Code} {T : State} {locs : List Loc} {cells slots : Nat}
theorem gS_top (T : State) (f : JFrame) (cA cI : ClassId) (n k : Nat) (dv : Value) : ∀ i, gS (T.setTop f) cA cI n k dv i = (gS T cA cI n k dv i).setTop f
  | 0 => rfl
  | i + 1 => by simp only [gS, gS_top T f cA cI n k dv i, State.heap_setTop, State.pushCell_setTop, State.setCell_setTop]
theorem g_step (X : Stand p l e R s m args below meth c T locs cells slots) (hexec : p.tables.exec = Jvm.exec) {own : String} {index : Nat} {ty : FieldType} (hown : s.vm.findClass own = some m.cls) (hcl : (Cond.classLink own index ("[" ++ (FieldType.array ty).toString)).before args s = true) (hov : (Cond.arrayOver (.array ty)).before args s = true) (har : (Cond.arrayClass ty).before args s = true)
    {g : JFrame} (hg : g.method = m) (hdg : decode c.code g.pc = .ok (.multianewarray index 2, 4)) {n k : Int32} {rest : List Value} (hst : g.stack = .int k :: .int n :: rest) (hn : ¬ n < 0) (hk : ¬ k < 0) (b1 : n.toNatClampNeg * 4 ≤ 536870912) (b2 : k.toNatClampNeg * componentBytes ty ≤ 536870912) (b3 : k.toNatClampNeg ≤ 536870912) (hf : fits ty (defaultValue ty) = true) (hd : (defaultValue ty).isDefault = true)
    (hce : cells + (1 + n.toNatClampNeg) ≤ R.cells) (hsl : slots + (n.toNatClampNeg + n.toNatClampNeg * k.toNatClampNeg) ≤ R.slots) :
    ∃ (vm1 : Vm) (cA cI : ClassId), s.vm.findClass ("[" ++ (FieldType.array ty).toString) = some cA ∧ s.vm.findClass (FieldType.array ty).toString = some cI ∧
      Stand p l e R s m args below meth c (gS (T.setVm vm1) cA cI n.toNatClampNeg k.toNatClampNeg (defaultValue ty) n.toNatClampNeg) locs (cells + 1 + n.toNatClampNeg) (slots + n.toNatClampNeg + n.toNatClampNeg * k.toNatClampNeg) ∧
      ∀ target, Steps p.tables e below ((gS (T.setVm vm1) cA cI n.toNatClampNeg k.toNatClampNeg (defaultValue ty) n.toNatClampNeg).setTop { g with pc := g.pc + 4, stack := .ref T.heap.size :: rest }) target → Steps p.tables e below (T.setTop g) target := by
  subst hg
  have hpl : e.platform.magicAccessors = ({} : Platform).magicAccessors := by rw [X.admits.platform]
  obtain ⟨cI, cA, kA, o1, -, o2, o3, o4⟩ := arrayOverA_spec hov
  obtain ⟨cI', kI, cE, a1, a2, a3⟩ := Cond.arrayClass_spec har
  cases Option.some.inj (a1.symm.trans o1)
  obtain ⟨c0, f0, hlk⟩ := Cond.classLink_spec hown hcl e.platform hpl
  cases Option.some.inj (o4.symm.trans f0)
  obtain ⟨r1, r2, r3⟩ := State.classEntry (e := e) X.warmed hlk
  generalize T.vm.noted g.method.cls index (.cls cA) = vm1 at r1 r2 r3
  obtain ⟨kA1, q1, q2⟩ := r2.alike.2.2 _ _ o2
  obtain ⟨kI1, q3, q4⟩ := r2.alike.2.2 _ _ a2
  have X1 := X.noted r2
  obtain ⟨m1, m2⟩ := X.roomAbove hce hsl
  have XF := gS_stand X1 cA cI n.toNatClampNeg k.toNatClampNeg (defaultValue ty) n.toNatClampNeg
  refine ⟨vm1, cA, cI, o4, o1, XF, fun target hrest => ?_⟩
  jvm_step X.here [hexec, hdg]
  simp only [multianewarray.sem, wp_bind', W.resolveClassAt_links (State.method?_setTop g X.here.top) r1]
  rw [W.popN, if_neg (by decide)]
  refine ⟨g, State.topJava?_setTop' (s := T.setVm vm1) g X.here.top, [.int n, .int k], rest, rfl, hst, ?_⟩
  simp only [List.mapM_cons, List.mapM_nil, wp_bind', wp_pure']
  refine g_all (kA := kA1) (kI := kI1) (cI := cI) (cE := cE) (ty := ty) q1 (by rw [q2]; exact o3) q3 (by rw [q4]; exact a3) hn hk (by rw [Launch.admits_arrayLengthLimit X.admits]; omega) (by rw [Launch.admits_maxHeapBytes X.admits]; exact b1) (by rw [Launch.admits_arrayLengthLimit X.admits]; omega) (by rw [Launch.admits_maxHeapBytes X.admits]; exact b2) hf hd (by show T.heap.size + 1 + _ ≤ _; omega) (by show T.slotsUsed + _ + _ ≤ _; omega) (fun d' acts' => ?_)
  have eS : ((T.setTop g).setVm vm1).setTop { g with stack := rest } = (T.setVm vm1).setTop { g with stack := rest } := by
    show ((T.setVm vm1).setTop g).setTop _ = _
    rw [State.setTop_setTop]
  rw [eS, gS_top]
  simp only [wp_bind', W.mark, W.pushRef, State.topJava?_setTop' _ XF.here.top, Option.some.injEq, exists_eq_left', State.setTop_setTop, State.heap_setTop]
  intro acts
  simp [jvm, XF.here.top]
  exact hrest
end GSTEP
/-- a row of references -/
def upr (Rf : Nat → Nat → Value) (f : Nat) (a : Nat → Nat) : Nat → Nat → Value := fun g j => bif Nat.beq g f then .ref (a j) else Rf g j
section GROW
variable {p : Program} {l : Launch} {e : Env} {R : Room} {s : State} {m : MethodId} {args : Array Value} {below : List Frame} {meth : Method} {c : Code} {H : Heap} {locs : List Loc} {cells slots : Nat} {Q : State → Prop}
variable {cc : ByteArray} {pc : Nat} {ls : Array Slot} {rest : List Value} {A : Nat → Prop} {Dg : va_G} {dA : Nat → ClassId} {N N' : Nat → Nat} {ad : Nat → Nat → Nat} {Rf : Nat → Nat → Value} {D : T64} {I : T32} {own : String}
/-- two kinds at once: the outer array, its rows -/
theorem World.add2 {V V' : Nat → Nat → Nat → Value} {H1 : Heap} {ad' : Nat → Nat → Nat} (h : World A Dg dA N ad V H) {ko ki n : Nat} (hki : ko ≠ ki) (hsup : w_sup N') (ho : N ko = 0 ∧ N' ko = 1) (hi : N ki = 0 ∧ N' ki = n) (hN' : ∀ k', k' ≠ ko → k' ≠ ki → N' k' = N k') (hold : ∀ k' b, k' ≠ ko → k' ≠ ki → ad' k' b = ad k' b) (hno : ad' ko 0 = H.size) (hni : ∀ j, j < n → ad' ki j = H.size + 1 + j) (hA : ∀ q, H.size ≤ q → A q) (hk : ∀ q : Nat, q < H.size → H1[q]? = H[q]?) (hV : ∀ k b j, b < N k → j < w_len k → V' k b j = V k b j) (hco : wd_cell Dg dA ko H.size (V' ko 0) H1) (hci : ∀ j, j < n → wd_cell Dg dA ki (H.size + 1 + j) (V' ki j) H1) : World A Dg dA N' ad' V' H1 := by
  have key : ∀ k' b', b' < N' k' → (k' = ko ∧ b' = 0 ∧ ad' k' b' = H.size) ∨ (k' = ki ∧ b' < n ∧ ad' k' b' = H.size + 1 + b') ∨ (k' ≠ ko ∧ k' ≠ ki ∧ b' < N k' ∧ ad' k' b' = ad k' b' ∧ ad k' b' < H.size) := by
    intro k' b' hb
    by_cases e1 : k' = ko
    · subst e1
      rw [ho.2] at hb
      have : b' = 0 := by omega
      subst this
      exact Or.inl ⟨rfl, rfl, hno⟩
    · by_cases e2 : k' = ki
      · subst e2
        rw [hi.2] at hb
        exact Or.inr (Or.inl ⟨rfl, hb, hni _ hb⟩)
      · rw [hN' k' e1 e2] at hb
        exact Or.inr (Or.inr ⟨e1, e2, hb, hold _ _ e1 e2, (h.2.2.2 k' b' hb).lt⟩)
  refine ⟨hsup, fun k1 b1 k2 b2 h1 h2 he => ?_, fun k' b' hb => ?_, fun k' b' hb => ?_⟩
  · rcases key k1 b1 h1 with ⟨p1, p2, p3⟩ | ⟨p1, p2, p3⟩ | ⟨p1, p2, p3, p4, p5⟩ <;> rcases key k2 b2 h2 with ⟨r1, r2, r3⟩ | ⟨r1, r2, r3⟩ | ⟨r1, r2, r3, r4, r5⟩
    · exact ⟨p1.trans r1.symm, p2.trans r2.symm⟩
    · omega
    · omega
    · omega
    · exact ⟨p1.trans r1.symm, by omega⟩
    · omega
    · omega
    · omega
    · exact h.2.1 k1 b1 k2 b2 p3 r3 (by rw [← p4, ← r4]; exact he)
  · rcases key k' b' hb with ⟨p1, p2, p3⟩ | ⟨p1, p2, p3⟩ | ⟨p1, p2, p3, p4, p5⟩
    · rw [p3]; exact hA _ (Nat.le_refl _)
    · rw [p3]; exact hA _ (by omega)
    · rw [p4]; exact h.2.2.1 k' b' p3
  · rcases key k' b' hb with ⟨p1, p2, p3⟩ | ⟨p1, p2, p3⟩ | ⟨p1, p2, p3, p4, p5⟩
    · subst p1; subst p2; rw [p3]; exact hco
    · subst p1; rw [p3]; exact hci _ p2
    · rw [p4]
      exact ((h.2.2.2 k' b' p3).kept (hk _ p5)).to (fun j hj => (hV k' b' j p3 hj).symm)
theorem w_grid (Z : Cx p s m args c cc own Dg dA) (hW : World A Dg dA N ad (wV Rf D I) H) (hS : va_S A s.heap H locs) (hA : ∀ q, s.heap.size ≤ q → A q) {ko ki n k to ti f : Nat} {ty : FieldType} (hki : ko ≠ ki) (hsho : w_sh ko = .inr (to, n)) (hshi : w_sh ki = .inr (ti, k)) (hlo : n = w_len ko) (hli : k = w_len ki) {index : Nat} (hcl : Cond.classLink own index ("[" ++ (FieldType.array ty).toString) ∈ lw_all) (hov : (Cond.arrayOver (.array ty)).before #[] s = true) (har : Cond.arrayClass ty ∈ lw_all) (hfo : s.vm.findClass ("[" ++ (FieldType.array ty).toString) = some (dA to)) (hfi : s.vm.findClass (FieldType.array ty).toString = some (dA ti)) (hsup : w_sup N') (ho : N ko = 0 ∧ N' ko = 1) (hi : N ki = 0 ∧ N' ki = n) (hN' : ∀ k', k' ≠ ko → k' ≠ ki → N' k' = N k')
    (hso : ∀ j, w_src ko j = (2, f, 16)) (hsi : ∀ j, (w_src ki j).1 < 2) (hks : ∀ k, 0 < N k → k ∈ w_ksC) (hchk : (w_ksC.all fun k => (List.range (w_len k)).all fun j => !(Nat.ble 2 (w_src k j).1 && Nat.beq (w_src k j).2.1 f) || Nat.beq k ko) = true) (hdef : ∀ b j, b < n → j < k → defaultValue ty = wV Rf D I ki b j) (hn : n < 1000) (hk : k < 1000) (hby : k * componentBytes ty ≤ 536870912) (hf : fits ty (defaultValue ty) = true) (hd : (defaultValue ty).isDefault = true) (hce : cells + (1 + n) ≤ R.cells) (hsl : slots + (n + n * k) ≤ R.slots) (hdg : decode cc pc = .ok (.multianewarray index 2, 4))
    (kk : ∀ (H1 : Heap) (ad' : Nat → Nat → Nat), (∀ k' b, k' ≠ ko → k' ≠ ki → ad' k' b = ad k' b) → World A Dg dA N' ad' (wV (upr Rf f (ad' ki)) D I) H1 → va_S A s.heap H1 locs → W p l e R s m args below meth c H1 locs (cells + 1 + n) (slots + n + n * k) Q (F0 m (pc + 4) ls (.ref (ad' ko 0) :: rest))) : W p l e R s m args below meth c H locs cells slots Q (F0 m pc ls (.int (nI k) :: .int (nI n) :: rest)) := by
  obtain ⟨hx, hb, hown, hts, hK⟩ := Z
  subst hb
  intro T hT X
  subst hT
  have en : (nI n).toNatClampNeg = n := nI_clamp (by omega)
  have ek : (nI k).toNatClampNeg = k := nI_clamp (by omega)
  obtain ⟨vm1, cA, cI, f1, f2, XF, st⟩ := g_step X hx hown (hts _ (lw_car_all hcl)) hov (hts _ (lw_car_all har)) (g := F0 m pc ls (.int (nI k) :: .int (nI n) :: rest)) rfl hdg rfl (nI_pos (by omega)) (nI_pos (by omega)) (by rw [en]; omega) (by rw [ek]; exact hby) (by rw [ek]; omega) hf hd (by rw [en]; exact hce) (by rw [en, ek]; exact hsl)
  rw [en, ek] at XF st
  cases Option.some.inj (f1.symm.trans hfo)
  cases Option.some.inj (f2.symm.trans hfi)
  obtain ⟨g1, g2, g3, g4, g5, g6⟩ := gS_at (T.setVm vm1) (dA to) (dA ti) n k (defaultValue ty) n
  have hso' : ∀ j, j < n → (if j < n then Value.ref (T.heap.size + 1 + j) else .null) = Value.ref (T.heap.size + 1 + j) := fun j hj => if_pos hj
  generalize hU : gS (T.setVm vm1) (dA to) (dA ti) n k (defaultValue ty) n = U at *
  obtain ⟨ad', had⟩ : ∃ ad' : Nat → Nat → Nat, ad' = fun k' b => if k' = ko then T.heap.size else if k' = ki then T.heap.size + 1 + b else ad k' b := ⟨_, rfl⟩
  have d1 : ad' ko 0 = T.heap.size := by rw [had]; simp
  have d2 : ∀ j, ad' ki j = T.heap.size + 1 + j := fun j => by rw [had]; simp [Ne.symm hki]
  have d3 : ∀ k' b, k' ≠ ko → k' ≠ ki → ad' k' b = ad k' b := fun k' b h1 h2 => by rw [had]; simp [h1, h2]
  clear had
  have hz : T.heap.size ≤ U.heap.size := by have g1 : U.heap.size = T.heap.size + 1 + n := g1; omega
  have hw : World A Dg dA N' ad' (wV (upr Rf f (ad' ki)) D I) U.heap := by
    refine World.add2 hW hki hsup ho hi hN' d3 d1 (fun j _ => d2 j) (fun q hq => hA q (Nat.le_trans hS.1 hq)) g5 (fun k' b' j' hb' hj' => ?_) ?_ (fun b hb => ?_)
    · have hc := List.all_eq_true.mp (List.all_eq_true.mp hchk k' (hks k' (Nat.lt_of_le_of_lt (Nat.zero_le _) hb'))) j' (List.mem_range.mpr hj')
      rcases hs : w_src k' j' with ⟨t, f', st'⟩
      rw [hs] at hc
      unfold wV
      rw [hs]
      match t, hc with
      | 0, _ => rfl
      | 1, _ => rfl
      | t + 2, hc =>
        show (bif Nat.beq f' f then _ else Rf f' _) = Rf f' _
        cases hq : Nat.beq f' f with
        | false => rfl
        | true =>
          exfalso
          have h2 : Nat.ble 2 (t + 2) = true := by rw [Nat.ble_eq]; omega
          simp only [hq, h2, Bool.and_self, Bool.not_true, Bool.false_or, Nat.beq_eq] at hc
          subst hc
          rw [ho.1] at hb'
          omega
    · unfold wd_cell
      rw [hsho]
      refine ⟨hlo, ?_⟩
      have e1 : U.heap[T.heap.size]? = some (arrV (dA to) n (gV T.heap.size n)) := g2
      rw [e1]
      refine congrArg some (arrV_congr (fun j hj => ?_))
      rw [wV_R (hso j)]
      show (if j < n then Value.ref (T.heap.size + 1 + j) else .null) = (bif Nat.beq f f then Value.ref (ad' ki (j + 16 * 0)) else Rf f (j + 16 * 0))
      rw [if_pos hj, Nat.beq_refl, d2]
      rfl
    · unfold wd_cell
      rw [hshi]
      refine ⟨hli, ?_⟩
      have e1 : U.heap[T.heap.size + 1 + b]? = some (arrV (dA ti) k (fun _ => defaultValue ty)) := g6 b hb
      rw [e1]
      refine congrArg some (arrV_congr (fun j hj => ?_))
      rw [hdef b j hb hj]
      have h2 := hsi j
      rcases hs : w_src ki j with ⟨t, f', st'⟩
      rw [hs] at h2
      unfold wV
      rw [hs]
      match t, h2 with
      | 0, _ => rfl
      | 1, _ => rfl
      | t + 2, h2 => exact absurd h2 (by show ¬ t + 2 < 2; omega)
  obtain ⟨t, a1, b1⟩ := kk U.heap ad' d3 hw ⟨Nat.le_trans hS.1 hz, fun x h1 h2 => (g5 x (Nat.lt_of_lt_of_le h1 hS.1)).trans (hS.2.1 x h1 h2), hS.2.2⟩ U rfl XF
  refine ⟨t, st t ?_, b1⟩
  rw [d1] at a1
  exact a1
end GROW
