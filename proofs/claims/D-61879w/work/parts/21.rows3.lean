set_option maxRecDepth 100000
/-! ===== rows: a method's start; ints that are naturals; reads by value; constants' bounds ===== -/
theorem MX.start {l : Launch} {y : MethodName} {cc : ByteArray} {nL : Nat} {ret : Option FieldType} {hh : List (Nat × Nat × Nat × Nat)} {rm : Room} {As : List Value} {Pc : State → Prop} {Qc : State → Outcome → State → Prop} {mc ms : Nat} {free : Addr → Prop} (hlen : (lg_sl As).length ≤ nL)
    (body : ∀ (p : Program) (e : Env) (s : State) (m : MethodId) (args : Array Value) (below : List Frame) (meth : Method) (c : Code) (ls : Array Slot) (Q : State → Prop), wx_At y cc nL ret hh p s m args meth c → Pc s → lv_has ls nL (lv_args 0 As) → Q = MQX below Qc s mc ms free → W p l e rm s m args below meth c s.heap [] 0 0 Q (F0 m 0 ls [])) : MX l y cc nL ret hh rm As Pc Qc mc ms free := by
  intro p e s m below meth c hAt hPc
  rw [lg_entry_eq]
  exact body p e s m _ below meth c _ _ hAt hPc (lv_entry As hlen) rfl
section NROWS
variable {p : Program} {l : Launch} {e : Env} {R : Room} {s : State} {m : MethodId} {args : Array Value} {below : List Frame} {meth : Method} {c : Code} {H : Heap} {locs : List Loc} {cells slots : Nat} {Q : State → Prop}
variable {cc : ByteArray} {pc : Nat} {ls : Array Slot} {rest : List Value} {A : Nat → Prop} {Dg : va_G} {dA : Nat → ClassId} {N : Nat → Nat} {ad : Nat → Nat → Nat} {Rf : Nat → Nat → Value} {D : Nat → Nat → UInt64} {I : Nat → Nat → Int32} {own : String}
theorem nI_lim {a : Nat} (h : a < 1000) : a < 2 ^ 31 := by omega
theorem lv_nge (hexec : p.tables.exec = Jvm.exec) (hb : c.code = cc) {a b : Nat} (ha : a < 1000) (hb2 : b < 1000) {off : Int} {tgt : Nat} (hdg : decode cc pc = .ok (.if_icmp .ge off, 3)) (ht : (pc : Int) + off = (tgt : Int))
    (kt : b ≤ a → W p l e R s m args below meth c H locs cells slots Q (F0 m tgt ls rest)) (kf : a < b → W p l e R s m args below meth c H locs cells slots Q (F0 m (pc + 3) ls rest)) : W p l e R s m args below meth c H locs cells slots Q (F0 m pc ls (.int (nI b) :: .int (nI a) :: rest)) :=
  lv_icmp_ge hexec hb hdg ht (fun h => kt ((nI_leI (nI_lim hb2) (nI_lim ha)).mp h)) (fun h => kf (Nat.lt_of_not_le (fun q => h ((nI_leI (nI_lim hb2) (nI_lim ha)).mpr q))))
theorem lv_nlt (hexec : p.tables.exec = Jvm.exec) (hb : c.code = cc) {a b : Nat} (ha : a < 1000) (hb2 : b < 1000) {off : Int} {tgt : Nat} (hdg : decode cc pc = .ok (.if_icmp .lt off, 3)) (ht : (pc : Int) + off = (tgt : Int))
    (kt : a < b → W p l e R s m args below meth c H locs cells slots Q (F0 m tgt ls rest)) (kf : b ≤ a → W p l e R s m args below meth c H locs cells slots Q (F0 m (pc + 3) ls rest)) : W p l e R s m args below meth c H locs cells slots Q (F0 m pc ls (.int (nI b) :: .int (nI a) :: rest)) :=
  lv_icmp_lt hexec hb hdg ht (fun h => kt ((nI_ltI (nI_lim ha) (nI_lim hb2)).mp h)) (fun h => kf (Nat.le_of_not_lt (fun q => h ((nI_ltI (nI_lim ha) (nI_lim hb2)).mpr q))))
theorem lv_ngt (hexec : p.tables.exec = Jvm.exec) (hb : c.code = cc) {a b : Nat} (ha : a < 1000) (hb2 : b < 1000) {off : Int} {tgt : Nat} (hdg : decode cc pc = .ok (.if_icmp .gt off, 3)) (ht : (pc : Int) + off = (tgt : Int))
    (kt : b < a → W p l e R s m args below meth c H locs cells slots Q (F0 m tgt ls rest)) (kf : a ≤ b → W p l e R s m args below meth c H locs cells slots Q (F0 m (pc + 3) ls rest)) : W p l e R s m args below meth c H locs cells slots Q (F0 m pc ls (.int (nI b) :: .int (nI a) :: rest)) :=
  lv_icmp_gt hexec hb hdg ht (fun h => kt ((nI_ltI (nI_lim hb2) (nI_lim ha)).mp h)) (fun h => kf (Nat.le_of_not_lt (fun q => h ((nI_ltI (nI_lim hb2) (nI_lim ha)).mpr q))))
theorem lv_nle (hexec : p.tables.exec = Jvm.exec) (hb : c.code = cc) {a b : Nat} (ha : a < 1000) (hb2 : b < 1000) {off : Int} {tgt : Nat} (hdg : decode cc pc = .ok (.if_icmp .le off, 3)) (ht : (pc : Int) + off = (tgt : Int))
    (kt : a ≤ b → W p l e R s m args below meth c H locs cells slots Q (F0 m tgt ls rest)) (kf : b < a → W p l e R s m args below meth c H locs cells slots Q (F0 m (pc + 3) ls rest)) : W p l e R s m args below meth c H locs cells slots Q (F0 m pc ls (.int (nI b) :: .int (nI a) :: rest)) :=
  lv_icmp_le hexec hb hdg ht (fun h => kt ((nI_leI (nI_lim ha) (nI_lim hb2)).mp h)) (fun h => kf (Nat.lt_of_not_le (fun q => h ((nI_leI (nI_lim ha) (nI_lim hb2)).mpr q))))
theorem lv_neq (hexec : p.tables.exec = Jvm.exec) (hb : c.code = cc) {a b : Nat} (ha : a < 1000) (hb2 : b < 1000) {off : Int} {tgt : Nat} (hdg : decode cc pc = .ok (.if_icmp .eq off, 3)) (ht : (pc : Int) + off = (tgt : Int))
    (kt : a = b → W p l e R s m args below meth c H locs cells slots Q (F0 m tgt ls rest)) (kf : ¬ a = b → W p l e R s m args below meth c H locs cells slots Q (F0 m (pc + 3) ls rest)) : W p l e R s m args below meth c H locs cells slots Q (F0 m pc ls (.int (nI b) :: .int (nI a) :: rest)) :=
  lv_icmp_eq hexec hb hdg ht (fun h => kt ((nI_eq (nI_lim ha) (nI_lim hb2)).mp h)) (fun h => kf (fun q => h ((nI_eq (nI_lim ha) (nI_lim hb2)).mpr q)))
theorem lv_nne (hexec : p.tables.exec = Jvm.exec) (hb : c.code = cc) {a b : Nat} (ha : a < 1000) (hb2 : b < 1000) {off : Int} {tgt : Nat} (hdg : decode cc pc = .ok (.if_icmp .ne off, 3)) (ht : (pc : Int) + off = (tgt : Int))
    (kt : ¬ a = b → W p l e R s m args below meth c H locs cells slots Q (F0 m tgt ls rest)) (kf : a = b → W p l e R s m args below meth c H locs cells slots Q (F0 m (pc + 3) ls rest)) : W p l e R s m args below meth c H locs cells slots Q (F0 m pc ls (.int (nI b) :: .int (nI a) :: rest)) :=
  lv_icmp_ne hexec hb hdg ht (fun h => kt (fun q => h ((nI_eq (nI_lim ha) (nI_lim hb2)).mpr q))) (fun h => kf ((nI_eq (nI_lim ha) (nI_lim hb2)).mp h))
theorem lv_iinc1 (hexec : p.tables.exec = Jvm.exec) (hb : c.code = cc) {i nL k a : Nat} {lv lv' : List (Nat × Value)} (hdg : decode cc pc = .ok (.iinc i 1, 3)) (h : lv_has ls nL lv) (hk : lv[k]? = some (i, .int (nI a))) (hn : i < nL) (hl : (i, Value.int (nI (a + 1))) :: lv.filter (fun q => !(q.1 == i) && !(q.1 + 1 == i && q.2.category == 2)) = lv')
    (kk : ∀ ls' : Array Slot, lv_has ls' nL lv' → W p l e R s m args below meth c H locs cells slots Q (F0 m (pc + 3) ls' rest)) : W p l e R s m args below meth c H locs cells slots Q (F0 m pc ls rest) :=
  lv_iinc (v := nI (a + 1)) hexec hb hdg h hk (nI_1 a) hn hl kk
/-! reads by value -/
theorem g_D (Z : Cx p s m args c cc own Dg dA) (hW : World A Dg dA N ad (wV Rf D I) H) {k b ci : Nat} {C : String} {T : u_T} {Nf : Nat} {ty : Nat → FieldType} (hC : w_cls ci C T Nf ty) (hsh : w_sh k = .inl ci) (j : Nat) (hj : j < Nf) {index : Nat} (hlink : Cond.fieldLink own index (T j).1 (T j).2.1 (T j).2.2.1 ∈ lw_all) (hbN : b < N k) {f : Nat} (hs : w_src k j = (0, f, 0)) {x : UInt64} (hx : D f b = x) (hdg : decode cc pc = .ok (.getfield index, 3))
    (kk : W p l e R s m args below meth c H locs cells slots Q (F0 m (pc + 3) ls (.double x :: rest))) : W p l e R s m args below meth c H locs cells slots Q (F0 m pc ls (.ref (ad k b) :: rest)) := by
  subst hx
  exact w_getD Z hW hC hsh j hj hlink hbN hs hdg kk
theorem g_I (Z : Cx p s m args c cc own Dg dA) (hW : World A Dg dA N ad (wV Rf D I) H) {k b ci : Nat} {C : String} {T : u_T} {Nf : Nat} {ty : Nat → FieldType} (hC : w_cls ci C T Nf ty) (hsh : w_sh k = .inl ci) (j : Nat) (hj : j < Nf) {index : Nat} (hlink : Cond.fieldLink own index (T j).1 (T j).2.1 (T j).2.2.1 ∈ lw_all) (hbN : b < N k) {f : Nat} (hs : w_src k j = (1, f, 0)) {x : Int32} (hx : I f b = x) (hdg : decode cc pc = .ok (.getfield index, 3))
    (kk : W p l e R s m args below meth c H locs cells slots Q (F0 m (pc + 3) ls (.int x :: rest))) : W p l e R s m args below meth c H locs cells slots Q (F0 m pc ls (.ref (ad k b) :: rest)) := by
  subst hx
  exact w_getI Z hW hC hsh j hj hlink hbN hs hdg kk
theorem a_D (Z : Cx p s m args c cc own Dg dA) (hW : World A Dg dA N ad (wV Rf D I) H) {k b n j : Nat} (hsh : w_sh k = .inr (7, n)) (hbN : b < N k) (hj : j < n) (hn : n < 1000) {f st ix : Nat} (hs : w_src k j = (0, f, st)) (hix : wix st b j = ix) {x : UInt64} (hx : D f ix = x) (hdg : decode cc pc = .ok (.daload, 1))
    (kk : W p l e R s m args below meth c H locs cells slots Q (F0 m (pc + 1) ls (.double x :: rest))) : W p l e R s m args below meth c H locs cells slots Q (F0 m pc ls (.int (nI j) :: .ref (ad k b) :: rest)) := by
  subst hx
  exact w_ald Z hW hsh hbN rfl hj hn hs hix hdg kk
theorem a_I (Z : Cx p s m args c cc own Dg dA) (hW : World A Dg dA N ad (wV Rf D I) H) {k b n j : Nat} (hsh : w_sh k = .inr (5, n)) (hbN : b < N k) (hj : j < n) (hn : n < 1000) {f st ix : Nat} (hs : w_src k j = (1, f, st)) (hix : wix st b j = ix) {x : Int32} (hx : I f ix = x) (hdg : decode cc pc = .ok (.iaload, 1))
    (kk : W p l e R s m args below meth c H locs cells slots Q (F0 m (pc + 1) ls (.int x :: rest))) : W p l e R s m args below meth c H locs cells slots Q (F0 m pc ls (.int (nI j) :: .ref (ad k b) :: rest)) := by
  subst hx
  exact w_ail Z hW hsh hbN rfl hj hn hs hix hdg kk
theorem a_Z (Z : Cx p s m args c cc own Dg dA) (hW : World A Dg dA N ad (wV Rf D I) H) {k b n j : Nat} (hsh : w_sh k = .inr (8, n)) (hbN : b < N k) (hj : j < n) (hn : n < 1000) {f st ix : Nat} (hs : w_src k j = (1, f, st)) (hix : wix st b j = ix) {x : Int32} (hx : I f ix = x) (hdg : decode cc pc = .ok (.baload, 1))
    (kk : W p l e R s m args below meth c H locs cells slots Q (F0 m (pc + 1) ls (.int x :: rest))) : W p l e R s m args below meth c H locs cells slots Q (F0 m pc ls (.int (nI j) :: .ref (ad k b) :: rest)) := by
  subst hx
  exact w_azl Z hW hsh hbN rfl hj hn hs hix hdg kk
theorem a_R (Z : Cx p s m args c cc own Dg dA) (hW : World A Dg dA N ad (wV Rf D I) H) {k b t n j : Nat} {ty : FieldType} (hsh : w_sh k = .inr (t, n)) (hbN : b < N k) (hj : j < n) (hn : n < 1000) (hty : (vTys dA)[t]? = some (dA t, ty)) (hr : ty.isReference = true) {f st ix : Nat} (hs : w_src k j = (2, f, st)) (hix : wix st b j = ix) {v : Value} (hv : Rf f ix = v) (hdg : decode cc pc = .ok (.aaload, 1))
    (kk : W p l e R s m args below meth c H locs cells slots Q (F0 m (pc + 1) ls (v :: rest))) : W p l e R s m args below meth c H locs cells slots Q (F0 m pc ls (.int (nI j) :: .ref (ad k b) :: rest)) :=
  w_aal Z hW hsh hbN rfl hj hn hty hr hs hix hv hdg kk
end NROWS
theorem cR_atom {ad : Nat → Nat → Nat} {n nb nr : Nat} {J : Nat → Nat → Nat} {R : Nat → Value} {i : Nat} (h : i < n) : cR ad n nb nr J R 13 i = .ref (ad 2 i) := by show (if i < n then _ else _) = _; rw [if_pos h]
theorem cR_bond {ad : Nat → Nat → Nat} {n nb nr : Nat} {J : Nat → Nat → Nat} {R : Nat → Value} {i : Nat} (h : i < nb) : cR ad n nb nr J R 14 i = .ref (ad 3 i) := by show (if i < nb then _ else _) = _; rw [if_pos h]
theorem cR_rod {ad : Nat → Nat → Nat} {n nb nr : Nat} {J : Nat → Nat → Nat} {R : Nat → Value} {i : Nat} (h : i < nr) : cR ad n nb nr J R 15 i = .ref (ad 4 i) := by show (if i < nr then _ else _) = _; rw [if_pos h]
/-! constants -/
theorem rv_fin {a : UInt64} {s : Bool} {c : Nat} {q : Int} (h : fv a = .fin s c q) : rv a = sg s * ((c : Rat) * p2 q) := by unfold rv; rw [h, dval_fin]
theorem fb_c {a : UInt64} {s : Bool} {c : Nat} {q E : Int} (h : fv a = .fin s c q) (hE : q ≤ E ∧ c ≤ 2 ^ (E - q).toNat) : fb E a := by
  have e1 : p2 E = ((2 ^ (E - q).toNat : Nat) : Rat) * p2 q := by rw [← p2_nat, ← p2_add]; congr 1; omega
  have h1 : (c : Rat) ≤ ((2 ^ (E - q).toNat : Nat) : Rat) := by exact_mod_cast hE.2
  have h2 := Rat.mul_le_mul_of_nonneg_right h1 (p2_nn q)
  have h3 : (0 : Rat) ≤ (c : Rat) * p2 q := Rat.mul_nonneg (by exact_mod_cast Nat.zero_le _) (p2_nn q)
  have h4 := rv_fin h
  rw [← e1] at h2
  refine ⟨⟨_, _, _, h⟩, ?_, ?_⟩ <;> rw [h4] <;> cases s <;> simp only [sg, if_true, Bool.false_eq_true, if_false] <;> grind
theorem lb_c {a : UInt64} {s : Bool} {c : Nat} {q E : Int} (h : fv a = .fin s c q) (hE : q ≤ E ∧ 2 ^ (E - q).toNat ≤ c) : lb E a := by
  have e1 : p2 E = ((2 ^ (E - q).toNat : Nat) : Rat) * p2 q := by rw [← p2_nat, ← p2_add]; congr 1; omega
  have h1 : ((2 ^ (E - q).toNat : Nat) : Rat) ≤ (c : Rat) := by exact_mod_cast hE.2
  have h2 := Rat.mul_le_mul_of_nonneg_right h1 (p2_nn q)
  have h4 := rv_fin h
  rw [← e1] at h2
  refine ⟨⟨_, _, _, h⟩, ?_⟩
  rw [h4]
  cases s <;> simp only [sg, if_true, Bool.false_eq_true, if_false] <;> grind
theorem vc_4517329193108106637 : fv 4517329193108106637 = .fin false 4722366482869645 (-72) := by decide +kernel
theorem fc_4517329193108106637 : fb (-19) 4517329193108106637 := fb_c vc_4517329193108106637 (by decide)
theorem lc_4517329193108106637 : lb (-20) 4517329193108106637 := lb_c vc_4517329193108106637 (by decide)
theorem vc_4562146422526312448 : fv 4562146422526312448 = .fin false 4503599627370496 (-62) := by decide +kernel
theorem fc_4562146422526312448 : fb (-10) 4562146422526312448 := fb_c vc_4562146422526312448 (by decide)
theorem lc_4562146422526312448 : lb (-10) 4562146422526312448 := lb_c vc_4562146422526312448 (by decide)
theorem vc_4562254508917369340 : fv 4562254508917369340 = .fin false 4611686018427388 (-62) := by decide +kernel
theorem fc_4562254508917369340 : fb (-9) 4562254508917369340 := fb_c vc_4562254508917369340 (by decide)
theorem lc_4562254508917369340 : lb (-10) 4562254508917369340 := lb_c vc_4562254508917369340 (by decide)
theorem vc_4593671619917905920 : fv 4593671619917905920 = .fin false 4503599627370496 (-55) := by decide +kernel
theorem fc_4593671619917905920 : fb (-3) 4593671619917905920 := fb_c vc_4593671619917905920 (by decide)
theorem lc_4593671619917905920 : lb (-3) 4593671619917905920 := lb_c vc_4593671619917905920 (by decide)
theorem vc_4598175219545276416 : fv 4598175219545276416 = .fin false 4503599627370496 (-54) := by decide +kernel
theorem fc_4598175219545276416 : fb (-2) 4598175219545276416 := fb_c vc_4598175219545276416 (by decide)
theorem lc_4598175219545276416 : lb (-2) 4598175219545276416 := lb_c vc_4598175219545276416 (by decide)
theorem vc_4602678819172646912 : fv 4602678819172646912 = .fin false 4503599627370496 (-53) := by decide +kernel
theorem fc_4602678819172646912 : fb (-1) 4602678819172646912 := fb_c vc_4602678819172646912 (by decide)
theorem lc_4602678819172646912 : lb (-1) 4602678819172646912 := lb_c vc_4602678819172646912 (by decide)
theorem vc_4611686018427387904 : fv 4611686018427387904 = .fin false 4503599627370496 (-51) := by decide +kernel
theorem fc_4611686018427387904 : fb (1) 4611686018427387904 := fb_c vc_4611686018427387904 (by decide)
theorem lc_4611686018427387904 : lb (1) 4611686018427387904 := lb_c vc_4611686018427387904 (by decide)
theorem vc_4616189618054758400 : fv 4616189618054758400 = .fin false 4503599627370496 (-50) := by decide +kernel
theorem fc_4616189618054758400 : fb (2) 4616189618054758400 := fb_c vc_4616189618054758400 (by decide)
theorem lc_4616189618054758400 : lb (2) 4616189618054758400 := lb_c vc_4616189618054758400 (by decide)
theorem vc_4620693217682128896 : fv 4620693217682128896 = .fin false 4503599627370496 (-49) := by decide +kernel
theorem fc_4620693217682128896 : fb (3) 4620693217682128896 := fb_c vc_4620693217682128896 (by decide)
theorem lc_4620693217682128896 : lb (3) 4620693217682128896 := lb_c vc_4620693217682128896 (by decide)
theorem vc_4624633867356078080 : fv 4624633867356078080 = .fin false 8444249301319680 (-49) := by decide +kernel
theorem fc_4624633867356078080 : fb (4) 4624633867356078080 := fb_c vc_4624633867356078080 (by decide)
theorem lc_4624633867356078080 : lb (3) 4624633867356078080 := lb_c vc_4624633867356078080 (by decide)
theorem vc_4625196817309499392 : fv 4625196817309499392 = .fin false 4503599627370496 (-48) := by decide +kernel
theorem fc_4625196817309499392 : fb (4) 4625196817309499392 := fb_c vc_4625196817309499392 (by decide)
theorem lc_4625196817309499392 : lb (4) 4625196817309499392 := lb_c vc_4625196817309499392 (by decide)
theorem vc_4627448617123184640 : fv 4627448617123184640 = .fin false 6755399441055744 (-48) := by decide +kernel
theorem fc_4627448617123184640 : fb (5) 4627448617123184640 := fb_c vc_4627448617123184640 (by decide)
theorem lc_4627448617123184640 : lb (4) 4627448617123184640 := lb_c vc_4627448617123184640 (by decide)
theorem vc_4634204016564240384 : fv 4634204016564240384 = .fin false 4503599627370496 (-46) := by decide +kernel
theorem fc_4634204016564240384 : fb (6) 4634204016564240384 := fb_c vc_4634204016564240384 (by decide)
theorem lc_4634204016564240384 : lb (6) 4634204016564240384 := lb_c vc_4634204016564240384 (by decide)
theorem vc_4652007308841189376 : fv 4652007308841189376 = .fin false 8796093022208000 (-43) := by decide +kernel
theorem fc_4652007308841189376 : fb (10) 4652007308841189376 := fb_c vc_4652007308841189376 (by decide)
theorem lc_4652007308841189376 : lb (9) 4652007308841189376 := lb_c vc_4652007308841189376 (by decide)
theorem vc_4652218415073722368 : fv 4652218415073722368 = .fin false 4503599627370496 (-42) := by decide +kernel
theorem fc_4652218415073722368 : fb (10) 4652218415073722368 := fb_c vc_4652218415073722368 (by decide)
theorem lc_4652218415073722368 : lb (10) 4652218415073722368 := lb_c vc_4652218415073722368 (by decide)
theorem vc_4696837146684686336 : fv 4696837146684686336 = .fin false 8589934592000000 (-33) := by decide +kernel
theorem fc_4696837146684686336 : fb (20) 4696837146684686336 := fb_c vc_4696837146684686336 (by decide)
theorem lc_4696837146684686336 : lb (19) 4696837146684686336 := lb_c vc_4696837146684686336 (by decide)
theorem vc_13740701229962882445 : fv 13740701229962882445 = .fin true 4722366482869645 (-72) := by decide +kernel
theorem fc_13740701229962882445 : fb (-19) 13740701229962882445 := fb_c vc_13740701229962882445 (by decide)
theorem lc_13740701229962882445 : lb (-20) 13740701229962882445 := lb_c vc_13740701229962882445 (by decide)
theorem vc_13830554455654793216 : fv 13830554455654793216 = .fin true 4503599627370496 (-52) := by decide +kernel
theorem fc_13830554455654793216 : fb (0) 13830554455654793216 := fb_c vc_13830554455654793216 (by decide)
theorem lc_13830554455654793216 : lb (0) 13830554455654793216 := lb_c vc_13830554455654793216 (by decide)
theorem vc_13844065254536904704 : fv 13844065254536904704 = .fin true 4503599627370496 (-49) := by decide +kernel
theorem fc_13844065254536904704 : fb (3) 13844065254536904704 := fb_c vc_13844065254536904704 (by decide)
theorem lc_13844065254536904704 : lb (3) 13844065254536904704 := lb_c vc_13844065254536904704 (by decide)
theorem vc_13875379345695965184 : fv 13875379345695965184 = .fin true 8796093022208000 (-43) := by decide +kernel
theorem fc_13875379345695965184 : fb (10) 13875379345695965184 := fb_c vc_13875379345695965184 (by decide)
theorem lc_13875379345695965184 : lb (9) 13875379345695965184 := lb_c vc_13875379345695965184 (by decide)
theorem vc_13920209183539462144 : fv 13920209183539462144 = .fin true 8589934592000000 (-33) := by decide +kernel
theorem fc_13920209183539462144 : fb (20) 13920209183539462144 := fb_c vc_13920209183539462144 (by decide)
theorem lc_13920209183539462144 : lb (19) 13920209183539462144 := lb_c vc_13920209183539462144 (by decide)
theorem vc_0 : fv FP.dconst0 = .fin false 0 (-1074) := by decide +kernel
theorem fc_0 : fb (-1074) FP.dconst0 := fb_c vc_0 (by decide)
theorem vc_1 : fv FP.dconst1 = .fin false 4503599627370496 (-52) := by decide +kernel
theorem fc_1 : fb 0 FP.dconst1 := fb_c vc_1 (by decide)
theorem lc_1 : lb 0 FP.dconst1 := lb_c vc_1 (by decide)
