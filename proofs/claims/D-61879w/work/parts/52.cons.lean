set_option maxRecDepth 100000
/-! ===== constructors of the small classes ===== -/
section PN
variable {p : Program} {l : Launch} {e : Env} {R : Room} {s : State} {m : MethodId} {args : Array Value} {below : List Frame} {meth : Method} {c : Code} {H : Heap} {locs : List Loc} {cells slots : Nat} {Q : State → Prop}
variable {cc : ByteArray} {pc : Nat} {ls : Array Slot} {rest : List Value} {A : Nat → Prop} {Dg : va_G} {dA : Nat → ClassId} {N : Nat → Nat} {ad : Nat → Nat → Nat} {Rf : Nat → Nat → Value} {D : T64} {I : T32} {own : String}
theorem w_pFD (Z : Cx p s m args c cc own Dg dA) (hW : World A Dg dA N ad (wV Rf D I) H) (hS0 : va_S A s.heap H locs) {k b ci : Nat} {C : String} {T : u_T} {Nf : Nat} {ty : Nat → FieldType} (hC : w_cls ci C T Nf ty) (hsh : w_sh k = .inl ci) (j : Nat) (hj : j < Nf) (hjl : j < w_len k) {index : Nat} (hlink : Cond.fieldLink own index (T j).1 (T j).2.1 (T j).2.2.1 ∈ lw_all) (hfin : (T j).2.2.2 = true) (hin2 : meth.name = "<init>") (hdecl : (T j).1 = own) (hbN : b < N k) {f : Nat} (hs : w_src k j = (0, f, 0)) {x : UInt64} (hty : ty j = .double) (hdg : decode cc pc = .ok (.putfield index, 3))
    (kk : ∀ (H1 : Heap) (locs1 : List Loc), World A Dg dA N ad (wV Rf (up2 D f b x) I) H1 → va_S A s.heap H1 locs1 → W p l e R s m args below meth c H1 locs1 cells slots Q (F0 m (pc + 3) ls rest)) : W p l e R s m args below meth c H locs cells slots Q (F0 m pc ls (.double x :: .ref (ad k b) :: rest)) :=
  w_putF Z hW hS0 hC hsh j hj hlink hfin hin2 hdecl hbN (by rw [hty]; rfl) (by rw [hty]; rfl) hdg (fun H1 locs1 h1 h2 => kk H1 locs1 (h1.putD hbN hjl hs) h2)
theorem w_pFR (Z : Cx p s m args c cc own Dg dA) (hW : World A Dg dA N ad (wV Rf D I) H) (hS0 : va_S A s.heap H locs) {k b ci : Nat} {C : String} {T : u_T} {Nf : Nat} {ty : Nat → FieldType} (hC : w_cls ci C T Nf ty) (hsh : w_sh k = .inl ci) (j : Nat) (hj : j < Nf) (hjl : j < w_len k) {index : Nat} (hlink : Cond.fieldLink own index (T j).1 (T j).2.1 (T j).2.2.1 ∈ lw_all) (hfin : (T j).2.2.2 = true) (hin2 : meth.name = "<init>") (hdecl : (T j).1 = own) (hbN : b < N k) {f : Nat} (hs : w_src k j = (2, f, 0)) {v : Value} (hn : narrow (ty j) v = v) (hfit : fits (ty j) v = true) (hks : ∀ k, 0 < N k → k ∈ w_ksC ++ w_ksM) (hdg : decode cc pc = .ok (.putfield index, 3))
    (kk : ∀ (H1 : Heap) (locs1 : List Loc), World A Dg dA N ad (wV (up2 Rf f b v) D I) H1 → va_S A s.heap H1 locs1 → W p l e R s m args below meth c H1 locs1 cells slots Q (F0 m (pc + 3) ls rest)) : W p l e R s m args below meth c H locs cells slots Q (F0 m pc ls (v :: .ref (ad k b) :: rest)) :=
  w_putF Z hW hS0 hC hsh j hj hlink hfin hin2 hdecl hbN hn hfit hdg (fun H1 locs1 h1 h2 => kk H1 locs1 (h1.putRf hbN hjl hs src_2 hks) h2)
theorem w_pR (Z : Cx p s m args c cc own Dg dA) (hW : World A Dg dA N ad (wV Rf D I) H) (hS0 : va_S A s.heap H locs) {k b ci : Nat} {C : String} {T : u_T} {Nf : Nat} {ty : Nat → FieldType} (hC : w_cls ci C T Nf ty) (hsh : w_sh k = .inl ci) (j : Nat) (hj : j < Nf) (hjl : j < w_len k) {index : Nat} (hlink : Cond.fieldLink own index (T j).1 (T j).2.1 (T j).2.2.1 ∈ lw_all) (hfin : (T j).2.2.2 = false) (hbN : b < N k) {f : Nat} (hs : w_src k j = (2, f, 0)) {v : Value} (hn : narrow (ty j) v = v) (hfit : fits (ty j) v = true) (hks : ∀ k, 0 < N k → k ∈ w_ksC ++ w_ksM) (hdg : decode cc pc = .ok (.putfield index, 3))
    (kk : ∀ (H1 : Heap) (locs1 : List Loc), World A Dg dA N ad (wV (up2 Rf f b v) D I) H1 → va_S A s.heap H1 locs1 → W p l e R s m args below meth c H1 locs1 cells slots Q (F0 m (pc + 3) ls rest)) : W p l e R s m args below meth c H locs cells slots Q (F0 m pc ls (v :: .ref (ad k b) :: rest)) :=
  w_put Z hW hS0 hC hsh j hj hlink hfin hbN hn hfit hdg (fun H1 locs1 h1 h2 _ => kk H1 locs1 (h1.putRf hbN hjl hs src_2 hks) h2)
end PN
set_option maxHeartbeats 4000000 in
theorem m_X6_init (l : Launch) (A : Nat → Prop) (Dg : va_G) (dA : Nat → ClassId) (N : Nat → Nat) (ad : Nat → Nat → Nat) (Rf : Nat → Nat → Value) (D : T64) (I : T32) (hks : ∀ k, 0 < N k → k ∈ w_ksC ++ w_ksM) (b : Nat) (hbN : b < N 2) (k : Int32) (ms : UInt64) (so : Nat) : MX l yX6_init cX6_init 5 none [] (rmx 1 0 0) [.ref (ad 2 b), .int (k), .double (ms), .ref (so)] (Pw Dg dA (World A Dg dA N ad (wV Rf D I))) (qW (fun _ : Unit => none) (fun _ H => World A Dg dA N ad (wV ((up2 (up2 Rf 26 b (.int k)) 19 b (.ref so))) ((up2 D 4 b ms)) I) H) A) 0 0 A := by
  refine MX.start (Nat.le_of_ble_eq_true rfl) ?_
  intro p e s m args below meth c ls Q hAt hPc hl hQ
  have hl : lv_has ls 5 [(0, .ref (ad 2 b)), (1, .int (k)), (2, .double (ms)), (4, .ref (so))] := hl
  obtain ⟨hx, hb, hml, hr, hlk, hown, hnm, htab, hts⟩ := id hAt
  obtain ⟨hK, hW⟩ := hPc
  have Z := Cx.of hAt hK
  have hS : va_S A s.heap s.heap [] := va_S.rf
  refine lv_aload_n hx hb dX6_init_0 rfl (lv_at hl 0 rfl) ?_
  refine W.objInit hx hb hown (hts _ (lw_car_all q367)) (hts _ (lw_car_all q67)) (hts _ (lw_car_all q68)) rfl (by rw [hml]; exact hl.1) rfl dX6_init_1 (Nat.le_of_ble_eq_true rfl) (Nat.le_of_ble_eq_true rfl) ?_
  refine lv_aload_n hx hb dX6_init_4 rfl (lv_at hl 0 rfl) ?_
  refine lv_iload_n hx hb dX6_init_5 rfl (lv_at hl 1 rfl) ?_
  refine w_pFR Z hW hS kX6 rfl 2 (by decide) (by decide) q373 rfl hnm rfl hbN rfl rfl rfl hks dX6_init_6 (fun H locs hW hS => ?_)
  refine lv_aload_n hx hb dX6_init_9 rfl (lv_at hl 0 rfl) ?_
  refine lv_dload_n hx hb dX6_init_10 rfl (lv_at hl 2 rfl) ?_
  refine w_pFD Z hW hS kX6 rfl 0 (by decide) (by decide) q368 rfl hnm rfl hbN rfl rfl dX6_init_11 (fun H locs hW hS => ?_)
  refine lv_aload_n hx hb dX6_init_14 rfl (lv_at hl 0 rfl) ?_
  refine lv_aload hx hb dX6_init_15 (lv_at hl 3 rfl) ?_
  refine w_pFR Z hW hS kX6 rfl 1 (by decide) (by decide) q370 rfl hnm rfl hbN rfl rfl rfl hks dX6_init_17 (fun H locs hW hS => ?_)
  rw [hQ]
  exact rW_v hx hb hr hlk hS (hW) dX6_init_20
set_option maxHeartbeats 4000000 in
theorem m_X7_init (l : Launch) (A : Nat → Prop) (Dg : va_G) (dA : Nat → ClassId) (N : Nat → Nat) (ad : Nat → Nat → Nat) (Rf : Nat → Nat → Value) (D : T64) (I : T32) (hks : ∀ k, 0 < N k → k ∈ w_ksC ++ w_ksM) (b : Nat) (hbN : b < N 3) (u : Nat) (v : Nat) (ks : UInt64) (le : UInt64) : MX l yX7_init cX7_init 7 none [] (rmx 1 0 0) [.ref (ad 3 b), .ref (u), .ref (v), .double (ks), .double (le)] (Pw Dg dA (World A Dg dA N ad (wV Rf D I))) (qW (fun _ : Unit => none) (fun _ H => World A Dg dA N ad (wV ((up2 (up2 Rf 20 b (.ref u)) 21 b (.ref v))) ((up2 (up2 D 10 b ks) 11 b le)) I) H) A) 0 0 A := by
  refine MX.start (Nat.le_of_ble_eq_true rfl) ?_
  intro p e s m args below meth c ls Q hAt hPc hl hQ
  have hl : lv_has ls 7 [(0, .ref (ad 3 b)), (1, .ref (u)), (2, .ref (v)), (3, .double (ks)), (5, .double (le))] := hl
  obtain ⟨hx, hb, hml, hr, hlk, hown, hnm, htab, hts⟩ := id hAt
  obtain ⟨hK, hW⟩ := hPc
  have Z := Cx.of hAt hK
  have hS : va_S A s.heap s.heap [] := va_S.rf
  refine lv_aload_n hx hb dX7_init_0 rfl (lv_at hl 0 rfl) ?_
  refine W.objInit hx hb hown (hts _ (lw_car_all q471)) (hts _ (lw_car_all q67)) (hts _ (lw_car_all q68)) rfl (by rw [hml]; exact hl.1) rfl dX7_init_1 (Nat.le_of_ble_eq_true rfl) (Nat.le_of_ble_eq_true rfl) ?_
  refine lv_aload_n hx hb dX7_init_4 rfl (lv_at hl 0 rfl) ?_
  refine lv_aload_n hx hb dX7_init_5 rfl (lv_at hl 1 rfl) ?_
  refine w_pFR Z hW hS kX7 rfl 0 (by decide) (by decide) q472 rfl hnm rfl hbN rfl rfl rfl hks dX7_init_6 (fun H locs hW hS => ?_)
  refine lv_aload_n hx hb dX7_init_9 rfl (lv_at hl 0 rfl) ?_
  refine lv_aload_n hx hb dX7_init_10 rfl (lv_at hl 2 rfl) ?_
  refine w_pFR Z hW hS kX7 rfl 1 (by decide) (by decide) q474 rfl hnm rfl hbN rfl rfl rfl hks dX7_init_11 (fun H locs hW hS => ?_)
  refine lv_aload_n hx hb dX7_init_14 rfl (lv_at hl 0 rfl) ?_
  refine lv_dload_n hx hb dX7_init_15 rfl (lv_at hl 3 rfl) ?_
  refine w_pFD Z hW hS kX7 rfl 2 (by decide) (by decide) q476 rfl hnm rfl hbN rfl rfl dX7_init_16 (fun H locs hW hS => ?_)
  refine lv_aload_n hx hb dX7_init_19 rfl (lv_at hl 0 rfl) ?_
  refine lv_dload hx hb dX7_init_20 (lv_at hl 4 rfl) ?_
  refine w_pFD Z hW hS kX7 rfl 3 (by decide) (by decide) q477 rfl hnm rfl hbN rfl rfl dX7_init_22 (fun H locs hW hS => ?_)
  rw [hQ]
  exact rW_v hx hb hr hlk hS (hW) dX7_init_25
set_option maxHeartbeats 4000000 in
theorem m_X8_init (l : Launch) (A : Nat → Prop) (Dg : va_G) (dA : Nat → ClassId) (N : Nat → Nat) (ad : Nat → Nat → Nat) (Rf : Nat → Nat → Value) (D : T64) (I : T32) (hks : ∀ k, 0 < N k → k ∈ w_ksC ++ w_ksM) (b : Nat) (hbN : b < N 4) (u : Nat) (v : Nat) (le : UInt64) : MX l yX8_init cX8_init 5 none [] (rmx 1 0 0) [.ref (ad 4 b), .ref (u), .ref (v), .double (le)] (Pw Dg dA (World A Dg dA N ad (wV Rf D I))) (qW (fun _ : Unit => none) (fun _ H => World A Dg dA N ad (wV ((up2 (up2 Rf 22 b (.ref u)) 23 b (.ref v))) ((up2 D 12 b le)) I) H) A) 0 0 A := by
  refine MX.start (Nat.le_of_ble_eq_true rfl) ?_
  intro p e s m args below meth c ls Q hAt hPc hl hQ
  have hl : lv_has ls 5 [(0, .ref (ad 4 b)), (1, .ref (u)), (2, .ref (v)), (3, .double (le))] := hl
  obtain ⟨hx, hb, hml, hr, hlk, hown, hnm, htab, hts⟩ := id hAt
  obtain ⟨hK, hW⟩ := hPc
  have Z := Cx.of hAt hK
  have hS : va_S A s.heap s.heap [] := va_S.rf
  refine lv_aload_n hx hb dX8_init_0 rfl (lv_at hl 0 rfl) ?_
  refine W.objInit hx hb hown (hts _ (lw_car_all q498)) (hts _ (lw_car_all q67)) (hts _ (lw_car_all q68)) rfl (by rw [hml]; exact hl.1) rfl dX8_init_1 (Nat.le_of_ble_eq_true rfl) (Nat.le_of_ble_eq_true rfl) ?_
  refine lv_aload_n hx hb dX8_init_4 rfl (lv_at hl 0 rfl) ?_
  refine lv_aload_n hx hb dX8_init_5 rfl (lv_at hl 1 rfl) ?_
  refine w_pFR Z hW hS kX8 rfl 0 (by decide) (by decide) q499 rfl hnm rfl hbN rfl rfl rfl hks dX8_init_6 (fun H locs hW hS => ?_)
  refine lv_aload_n hx hb dX8_init_9 rfl (lv_at hl 0 rfl) ?_
  refine lv_aload_n hx hb dX8_init_10 rfl (lv_at hl 2 rfl) ?_
  refine w_pFR Z hW hS kX8 rfl 1 (by decide) (by decide) q501 rfl hnm rfl hbN rfl rfl rfl hks dX8_init_11 (fun H locs hW hS => ?_)
  refine lv_aload_n hx hb dX8_init_14 rfl (lv_at hl 0 rfl) ?_
  refine lv_dload_n hx hb dX8_init_15 rfl (lv_at hl 3 rfl) ?_
  refine w_pFD Z hW hS kX8 rfl 2 (by decide) (by decide) q503 rfl hnm rfl hbN rfl rfl dX8_init_16 (fun H locs hW hS => ?_)
  rw [hQ]
  exact rW_v hx hb hr hlk hS (hW) dX8_init_19
set_option maxHeartbeats 4000000 in
theorem m_X2_init (l : Launch) (A : Nat → Prop) (Dg : va_G) (dA : Nat → ClassId) (N : Nat → Nat) (ad : Nat → Nat → Nat) (Rf : Nat → Nat → Value) (D : T64) (I : T32) (hks : ∀ k, 0 < N k → k ∈ w_ksC ++ w_ksM) (b : Nat) (hbN : b < N 1) : MX l yX2_init cX2_init 1 none [] (rmx 1 0 0) [.ref (ad 1 b)] (Pw Dg dA (World A Dg dA N ad (wV Rf D I))) (qW (fun _ : Unit => none) (fun _ H => World A Dg dA N ad (wV Rf ((up2 (up2 D 7 b FP.dconst1) 8 b FP.dconst1)) I) H) A) 0 0 A := by
  refine MX.start (Nat.le_of_ble_eq_true rfl) ?_
  intro p e s m args below meth c ls Q hAt hPc hl hQ
  have hl : lv_has ls 1 [(0, .ref (ad 1 b))] := hl
  obtain ⟨hx, hb, hml, hr, hlk, hown, hnm, htab, hts⟩ := id hAt
  obtain ⟨hK, hW⟩ := hPc
  have Z := Cx.of hAt hK
  have hS : va_S A s.heap s.heap [] := va_S.rf
  refine lv_aload_n hx hb dX2_init_0 rfl (lv_at hl 0 rfl) ?_
  refine W.objInit hx hb hown (hts _ (lw_car_all q77)) (hts _ (lw_car_all q67)) (hts _ (lw_car_all q68)) rfl (by rw [hml]; exact hl.1) rfl dX2_init_1 (Nat.le_of_ble_eq_true rfl) (Nat.le_of_ble_eq_true rfl) ?_
  refine lv_aload_n hx hb dX2_init_4 rfl (lv_at hl 0 rfl) ?_
  refine lv_dconst1 hx hb dX2_init_5 ?_
  refine w_putD Z hW hS kX2 rfl 0 (by decide) (by decide) q78 rfl hbN rfl rfl dX2_init_6 (fun H locs hW hS => ?_)
  refine lv_aload_n hx hb dX2_init_9 rfl (lv_at hl 0 rfl) ?_
  refine lv_dconst1 hx hb dX2_init_10 ?_
  refine w_putD Z hW hS kX2 rfl 1 (by decide) (by decide) q81 rfl hbN rfl rfl dX2_init_11 (fun H locs hW hS => ?_)
  rw [hQ]
  exact rW_v hx hb hr hlk hS (hW) dX2_init_14
set_option maxHeartbeats 4000000 in
theorem m_X3_init (l : Launch) (A : Nat → Prop) (Dg : va_G) (dA : Nat → ClassId) (N : Nat → Nat) (ad : Nat → Nat → Nat) (Rf : Nat → Nat → Value) (D : T64) (I : T32) (hks : ∀ k, 0 < N k → k ∈ w_ksC ++ w_ksM) (b : Nat) (hbN : b < N 5) : MX l yX3_init cX3_init 1 none [] (rmx 1 0 0) [.ref (ad 5 b)] (Pw Dg dA (World A Dg dA N ad (wV Rf D I))) (qW (fun _ : Unit => none) (fun _ H => World A Dg dA N ad (wV Rf D I) H) A) 0 0 A := by
  refine MX.start (Nat.le_of_ble_eq_true rfl) ?_
  intro p e s m args below meth c ls Q hAt hPc hl hQ
  have hl : lv_has ls 1 [(0, .ref (ad 5 b))] := hl
  obtain ⟨hx, hb, hml, hr, hlk, hown, hnm, htab, hts⟩ := id hAt
  obtain ⟨hK, hW⟩ := hPc
  have Z := Cx.of hAt hK
  have hS : va_S A s.heap s.heap [] := va_S.rf
  refine lv_aload_n hx hb dX3_init_0 rfl (lv_at hl 0 rfl) ?_
  refine W.objInit hx hb hown (hts _ (lw_car_all q104)) (hts _ (lw_car_all q67)) (hts _ (lw_car_all q68)) rfl (by rw [hml]; exact hl.1) rfl dX3_init_1 (Nat.le_of_ble_eq_true rfl) (Nat.le_of_ble_eq_true rfl) ?_
  rw [hQ]
  exact rW_v hx hb hr hlk hS (hW) dX3_init_4
set_option maxHeartbeats 4000000 in
theorem m_X4_init (l : Launch) (A : Nat → Prop) (Dg : va_G) (dA : Nat → ClassId) (N : Nat → Nat) (ad : Nat → Nat → Nat) (Rf : Nat → Nat → Value) (D : T64) (I : T32) (hks : ∀ k, 0 < N k → k ∈ w_ksC ++ w_ksM) (b : Nat) (hbN : b < N 6) : MX l yX4_init cX4_init 1 none [] (rmx 1 0 0) [.ref (ad 6 b)] (Pw Dg dA (World A Dg dA N ad (wV Rf D I))) (qW (fun _ : Unit => none) (fun _ H => World A Dg dA N ad (wV Rf D I) H) A) 0 0 A := by
  refine MX.start (Nat.le_of_ble_eq_true rfl) ?_
  intro p e s m args below meth c ls Q hAt hPc hl hQ
  have hl : lv_has ls 1 [(0, .ref (ad 6 b))] := hl
  obtain ⟨hx, hb, hml, hr, hlk, hown, hnm, htab, hts⟩ := id hAt
  obtain ⟨hK, hW⟩ := hPc
  have Z := Cx.of hAt hK
  have hS : va_S A s.heap s.heap [] := va_S.rf
  refine lv_aload_n hx hb dX4_init_0 rfl (lv_at hl 0 rfl) ?_
  refine W.objInit hx hb hown (hts _ (lw_car_all q120)) (hts _ (lw_car_all q67)) (hts _ (lw_car_all q68)) rfl (by rw [hml]; exact hl.1) rfl dX4_init_1 (Nat.le_of_ble_eq_true rfl) (Nat.le_of_ble_eq_true rfl) ?_
  rw [hQ]
  exact rW_v hx hb hr hlk hS (hW) dX4_init_4
