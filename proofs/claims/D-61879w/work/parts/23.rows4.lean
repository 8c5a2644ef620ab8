set_option maxRecDepth 100000
/-! ===== rows: loops, meeting points, calls through an interface, references put; agreement of tables; the two worlds ===== -/
section R4
variable {p : Program} {l : Launch} {e : Env} {R : Room} {s : State} {m : MethodId} {args : Array Value} {below : List Frame} {meth : Method} {c : Code} {H : Heap} {locs : List Loc} {cells slots : Nat} {Q : State → Prop}
variable {cc : ByteArray} {pc : Nat} {ls : Array Slot} {rest : List Value} {A : Nat → Prop} {Dg : va_G} {dA : Nat → ClassId} {N : Nat → Nat} {ad : Nat → Nat → Nat} {Rf : Nat → Nat → Value} {D : Nat → Nat → UInt64} {I : Nat → Nat → Int32} {own : String}
/-- a loop that counts up to n; P: its invariant -/
theorem wl_up (n i0 : Nat) (P : Nat → Heap → List Loc → Array Slot → Prop) (hi0 : i0 ≤ n) (h0 : P i0 H locs ls)
    (step : ∀ (i : Nat) (H : Heap) (locs : List Loc) (ls : Array Slot), i < n → P i H locs ls → (∀ (H : Heap) (locs : List Loc) (ls : Array Slot), P (i + 1) H locs ls → W p l e R s m args below meth c H locs cells slots Q (F0 m pc ls rest)) → W p l e R s m args below meth c H locs cells slots Q (F0 m pc ls rest))
    (exit : ∀ (H : Heap) (locs : List Loc) (ls : Array Slot), P n H locs ls → W p l e R s m args below meth c H locs cells slots Q (F0 m pc ls rest)) : W p l e R s m args below meth c H locs cells slots Q (F0 m pc ls rest) := by
  have key : ∀ d i (H : Heap) (locs : List Loc) (ls : Array Slot), i + d = n → P i H locs ls → W p l e R s m args below meth c H locs cells slots Q (F0 m pc ls rest) := by
    intro d
    induction d with
    | zero => intro i H locs ls hd hp; have : i = n := by omega
              subst this; exact exit H locs ls hp
    | succ d ih => intro i H locs ls hd hp; exact step i H locs ls (by omega) hp (fun H locs ls hp' => ih (i + 1) H locs ls (by omega) hp')
  exact key (n - i0) i0 H locs ls (by omega) h0
/-- several ways meet at a place: what stands there is proved once -/
theorem wb_meet {α : Type} {g0 : JFrame} (P : α → Prop) (g : α → JFrame) (k : ∀ v : α, P v → W p l e R s m args below meth c H locs cells slots Q (g v)) (h : (∀ v : α, P v → W p l e R s m args below meth c H locs cells slots Q (g v)) → W p l e R s m args below meth c H locs cells slots Q g0) : W p l e R s m args below meth c H locs cells slots Q g0 := h k
/-- the same, where heap and locals may have changed -/
theorem wb_meetH {g0 : JFrame} (P : Heap → List Loc → Array Slot → Prop) (pc1 : Nat) (k : ∀ (H : Heap) (locs : List Loc) (ls : Array Slot), P H locs ls → W p l e R s m args below meth c H locs cells slots Q (F0 m pc1 ls [])) (h : (∀ (H : Heap) (locs : List Loc) (ls : Array Slot), P H locs ls → W p l e R s m args below meth c H locs cells slots Q (F0 m pc1 ls [])) → W p l e R s m args below meth c H locs cells slots Q g0) : W p l e R s m args below meth c H locs cells slots Q g0 := h k
theorem wx_F {x y : MethodName} {cc0 : ByteArray} {nL nL0 : Nat} {ret : Option FieldType} {rm : Room} {As rest : List Value} {Pc : State → Prop} {Qc : State → Outcome → State → Prop} {mc ms : Nat} {free : Addr → Prop} {C : String} {index count : Nat} {b : Addr} {pc : Nat} {ls : Array Slot}
    (S : wx_Fix p m c cc0 nL0 s args own) (hM : MX l y cc nL ret [] rm (.ref b :: As) Pc Qc mc ms free) (w1 : Cond.methodLink own index x ∈ lw_all) (w2 : Cond.instanceMethod y ∈ lw_all) (w3 : Cond.selects C x y ∈ lw_all) (w5 : Cond.code y cc nL ret ∈ lw_all) (f1 : Cond.declares x ∈ lw_car) (f2 : Cond.interfaceMethod x.cls x.cls x.name x.desc ∈ lw_car) (f3 : Cond.publicMethod y ∈ lw_car) (f4 : Cond.unhidden C x.name x.desc ∈ lw_car) (f5 : Cond.castable C x.cls ∈ lw_car) (hd : wx_name x As.length) (hdy : plainName y.cls = true) (hrm : wx_room rm R nL cells slots)
    (hrecv : ∃ cellB, H[b]? = some cellB ∧ cellB.vm.isStatics = false ∧ s.vm.findClass C = some cellB.cls) (hkB : ∀ ci, s.vm.findClass C = some ci → ∃ kB, s.vm.classes[ci]? = some kB) (hpre : ∀ U : State, U.heap = H → s.WarmedH U.vm → Pc U) (hsize : ls.size = nL0) (hrest : (rest.map fun v => v.category).sum ≤ 8) (hdg : decode cc0 pc = .ok (.invokeinterface index count, 5)) :
    wx_Run p l e R s m args below meth c H locs cells slots (F0 m pc ls (As.reverse ++ .ref b :: rest)) 5 rest Qc mc ms free := by
  obtain ⟨hx, hb, hml, ho, hts⟩ := S
  obtain ⟨cellB, hcB, hoB, hclB⟩ := hrecv
  obtain ⟨kB, hkB⟩ := hkB _ hclB
  intro T hT X
  obtain ⟨r0, r, hn, hrm0, hstR, hsigR⟩ := Cond.declares_spec (hts _ f1)
  obtain ⟨cL, kL, r1, hcL, hkL, hiL, hfoundL, hn1⟩ := Cond.interfaceMethod_spec (hts _ f2)
  cases hn.symm.trans hn1
  have hr0cls : r0.cls = cL := Option.some.inj ((findClass_of_methodNamed hn).symm.trans hcL)
  obtain ⟨hnameR, hdescR⟩ := name_of_methodNamed hn hrm0
  obtain ⟨mk, methM, hnamed, hmethM, -, habM⟩ := Cond.instanceMethod_spec (hts _ (lw_car_all w2))
  obtain ⟨c2, r2, m2, q1, q2, q3, q4, -⟩ := Cond.selects_spec (hts _ (lw_car_all w3))
  cases hclB.symm.trans q1
  cases hfoundL.symm.trans q2
  cases hnamed.symm.trans q3
  have hselP : selectMethod e.platform s.vm cellB.cls r0 = .method mk := by rw [Launch.admits_selectMethod X.admits]; exact q4
  have hpubM : hasFlag methM.accessFlags Acc.public_ = true := Cond.publicMethod_spec hnamed hmethM (hts _ f3)
  have hway : ((cellB.cls :: s.vm.superclasses cellB.cls).any fun k => (declaredIn s.vm r.name r.desc k).any fun (_, z) => z.isPrivate || z.isStatic) = false := by
    rw [hnameR, hdescR]; exact Cond.unhidden_spec hclB (hts _ f4)
  obtain ⟨c3, t3, w1', w2', w3'⟩ := Cond.castable_spec (hts _ f5)
  cases hclB.symm.trans w1'
  cases hcL.symm.trans w2'
  obtain ⟨vm₁, X₁, hstep₁⟩ := X.invokeinterface hx ho (hts _ (lw_car_all w1)) hn hrm0 hstR (by rw [hr0cls]; exact hkL) hiL hd.2.1 (a := b) (cell := cellB) (kcell := kB) (by rw [hT]; exact hcB)
    (fun z h => by rw [h] at hoB; cases hoB) hkB (by rw [hr0cls]; exact w3') hselP hmethM hway hpubM habM (g := F0 m pc ls (As.reverse ++ .ref b :: rest)) rfl (argsL := As) (rest := rest) (hd.len hsigR) rfl (by rw [hb]; exact hdg)
  obtain ⟨o, st, t, T', L, h0, X', hL, h1, h2, hq, hsteps⟩ := hM.enter hdy X₁ hx hts (show wx_code y cc nL ret [] ∈ lw_car from lw_car_all w5) (X₁.named hnamed) (g := F0 m pc ls rest) rfl (hsize.trans hml.symm) (by rw [hb]; exact hdg) hrm.1 (wx_words (w := 0) rfl hrest hrm.2.1) hrm.2.2.1 hrm.2.2.2
    (fun U e1 e2 => hpre U (e1.trans hT) (by rw [e2]; exact X₁.warmed))
  exact ⟨o, st, t, T', L, h0.trans hT, X', hL, h1, h2, hq, fun target h => hstep₁ _ fun acts => by rw [doInvoke_state]; exact hsteps.trans h⟩
theorem w_kB (hK : va_K Dg vCl (vTys dA) s) {ci : Nat} {C : String} {T : u_T} {Nf : Nat} {ty : Nat → FieldType} (hC : w_cls ci C T Nf ty) : ∀ c0, s.vm.findClass C = some c0 → ∃ kB, s.vm.classes[c0]? = some kB := by
  intro c0 h0
  obtain ⟨hS, hfc, kC, hkC, hkind⟩ := hK.1 ci _ hC.1
  cases h0.symm.trans hfc
  exact ⟨kC, hkC⟩
end R4
/-! tables that agree -/
abbrev T64 : Type := Nat → Nat → UInt64
abbrev T32 : Type := Nat → Nat → Int32
/-- alike but for the numbers in S -/
def exc {α : Type} (S : Nat → Bool) (D D0 : Nat → Nat → α) : Prop := ∀ f i, S f = false → D f i = D0 f i
theorem exc.rf {α : Type} {S : Nat → Bool} {D : Nat → Nat → α} : exc S D D := fun _ _ _ => rfl
theorem exc.trans {α : Type} {S : Nat → Bool} {D D1 D2 : Nat → Nat → α} (h : exc S D D1) (h2 : exc S D1 D2) : exc S D D2 := fun f i hf => (h f i hf).trans (h2 f i hf)
theorem exc.up {α : Type} {S : Nat → Bool} {D D0 : Nat → Nat → α} (h : exc S D D0) {f i : Nat} {x : α} (hf : S f = true) : exc S (up2 D f i x) D0 := by
  intro g j hg
  rw [up2_f _ _ _ _ (fun q => by rw [q, hf] at hg; cases hg)]
  exact h g j hg
theorem exc.mono {α : Type} {S S' : Nat → Bool} {D D0 : Nat → Nat → α} (h : exc S D D0) (hs : ∀ f, S' f = false → S f = false) : exc S' D D0 := fun f i hf => h f i (hs f hf)
/-- the numbers that class and model share -/
def cD (f : Nat) : Bool := Nat.ble f 12 || (Nat.beq f 20 || (Nat.beq f 21 || Nat.beq f 22))
def agD (D D0 : T64) : Prop := ∀ f i, cD f = true → D f i = D0 f i
theorem agD.rf {D : T64} : agD D D := fun _ _ _ => rfl
theorem agD.up {D D0 : T64} (h : agD D D0) {f i : Nat} {x : UInt64} (hf : cD f = false) : agD (up2 D f i x) D0 := by
  intro g j hg
  rw [up2_f _ _ _ _ (fun q => by rw [q, hf] at hg; cases hg)]
  exact h g j hg
theorem agD.of {S : Nat → Bool} {D D1 D0 : T64} (h : agD D D0) (h1 : exc S D1 D) (hs : ∀ f, cD f = true → S f = false) : agD D1 D0 := fun f i hf => (h1 f i (hs f hf)).trans (h f i hf)
theorem agD.put {D D0 : T64} (h : agD D D0) (f i : Nat) (x : UInt64) : agD (up2 D f i x) (up2 D0 f i x) := by
  intro g j hg
  rw [up2_eq, up2_eq]
  split
  · rfl
  · exact h g j hg
def cI (f i : Nat) : Bool := Nat.beq f 1 || (Nat.beq f 6 || (Nat.beq f 28 || ((Nat.ble 20 f && Nat.ble f 27) && Nat.beq i 0)))
def agI (I I0 : T32) : Prop := ∀ f i, cI f i = true → I f i = I0 f i
theorem agI.rf {I : T32} : agI I I := fun _ _ _ => rfl
theorem agI.up {I I0 : T32} (h : agI I I0) {f i : Nat} {x : Int32} (hf : cI f i = false) : agI (up2 I f i x) I0 := by
  intro g j hg
  rw [up2_eq]
  split
  · rename_i q
    rw [q.1, q.2, hf] at hg
    cases hg
  · exact h g j hg
theorem agI.of {S : Nat → Bool} {I I1 I0 : T32} (h : agI I I0) (h1 : exc S I1 I) (hs : ∀ f i, cI f i = true → S f = false) : agI I1 I0 := fun f i hf => (h1 f i (hs f i hf)).trans (h f i hf)
theorem agI.put {I I0 : T32} (h : agI I I0) (f i : Nat) (x : Int32) : agI (up2 I f i x) (up2 I0 f i x) := by
  intro g j hg
  rw [up2_eq, up2_eq]
  split
  · rfl
  · exact h g j hg
/-! the two worlds -/
abbrev cW (A : Nat → Prop) (Dg : va_G) (dA : Nat → ClassId) (ad : Nat → Nat → Nat) (n nb nr no : Nat) (J : Nat → Nat → Nat) (R : Nat → Value) (D : T64) (I : T32) (H : Heap) : Prop := World A Dg dA (cN n nb nr no) ad (wV (cR ad n nb nr J R) D I) H
abbrev mW (A : Nat → Prop) (Dg : va_G) (dA : Nat → ClassId) (ad : Nat → Nat → Nat) (D : T64) (I : T32) (H : Heap) : Prop := World A Dg dA mN ad (wV (mR ad) D I) H
