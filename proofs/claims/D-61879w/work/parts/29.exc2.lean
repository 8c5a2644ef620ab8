set_option maxRecDepth 100000
/-! ===== exceptions made whole: 'new', 'dup', the constructor; references put; tables changed up to a place ===== -/
theorem car_of {ws : List Cond} (h : ws.all (fun w => (decide (w ∈ lw_tbl) && wx_car w) || (decide (w = ex_s1) || decide (w = ex_s2))) = true) : ∀ w ∈ ws, w ∈ lw_car ∨ w = ex_s1 ∨ w = ex_s2 := by
  intro w hw
  have h1 := List.all_eq_true.mp h w hw
  rw [Bool.or_eq_true, Bool.or_eq_true, Bool.and_eq_true] at h1
  rcases h1 with h1 | h1 | h1
  · exact Or.inl (lw_car_tbl (of_decide_eq_true h1.1) h1.2)
  · exact Or.inr (Or.inl (of_decide_eq_true h1))
  · exact Or.inr (Or.inr (of_decide_eq_true h1))
theorem World.grown {A : Nat → Prop} {Dg : va_G} {dA : Nat → ClassId} {N : Nat → Nat} {ad : Nat → Nat → Nat} {V : Nat → Nat → Nat → Value} {H H1 : Heap} (h : World A Dg dA N ad V H) (hk : ∀ q : Nat, q < H.size → H1[q]? = H[q]?) : World A Dg dA N ad V H1 :=
  h.kept (fun k b hb => hk _ (h.2.2.2 k b hb).lt)
abbrev exNames : List String := ["java/lang/RuntimeException", "java/lang/Exception"]
theorem exI : ∀ w ∈ ex_atoms0 "ParticleBox" 101 "java/lang/IllegalArgumentException" exNames, w ∈ lw_car ∨ w = ex_s1 ∨ w = ex_s2 := car_of (by decide +kernel)
theorem exA : ∀ w ∈ ex_atoms0 "ParticleBox" 226 "java/lang/ArithmeticException" exNames, w ∈ lw_car ∨ w = ex_s1 ∨ w = ex_s2 := car_of (by decide +kernel)
theorem exS : ∀ w ∈ ex_atoms0 "ParticleBox" 313 "java/lang/IllegalStateException" exNames, w ∈ lw_car ∨ w = ex_s1 ∨ w = ex_s2 := car_of (by decide +kernel)
theorem exM : ∀ w ∈ ex_atomsS "ParticleBox" 145 "java/lang/IllegalStateException" exNames, w ∈ lw_car ∨ w = ex_s1 ∨ w = ex_s2 := car_of (by decide +kernel)
section X2
variable {p : Program} {l : Launch} {e : Env} {R : Room} {s : State} {m : MethodId} {args : Array Value} {below : List Frame} {meth : Method} {c : Code} {H : Heap} {locs : List Loc} {cells slots : Nat} {Q : State → Prop}
variable {cc : ByteArray} {pc nL : Nat} {ls : Array Slot} {rest : List Value} {A : Nat → Prop} {own : String}
theorem w_exc0 {cls : String} {names : List String} {ic index : Nat} (S : wx_Fix p m c cc nL s args own) (hfl : l.flags = flags0) (hw : ∀ w ∈ ex_atoms0 own ic cls names, w ∈ lw_car ∨ w = ex_s1 ∨ w = ex_s2) (wcl : Cond.classLink own index cls ∈ lw_all) (wins : Cond.instantiable cls 6 ∈ lw_all) (wini : Cond.initialized cls ∈ lw_all) (hcls : Bundle.fit cls = true) (hnames : ∀ n ∈ names, Bundle.fit n = true) (hst : wx_stat A s) (hA : ∀ q, s.heap.size ≤ q → A q) (hS : va_S A s.heap H locs) (hsize : ls.size = nL)
    (hd1 : decode cc pc = .ok (.new index, 3)) (hd2 : decode cc (pc + 3) = .ok (.dup, 1)) (hd3 : decode cc (pc + 4) = .ok (.invokespecial ic, 3)) (hcells : cells + 1 ≤ R.cells) (hslots : slots + 6 ≤ R.slots) (hRf : names.length + 3 < R.frames) (hRl : 1 + (rest.map fun v => v.category).sum + (13 * (names.length + 1) + 41) ≤ R.locals)
    (k : ∀ (x : Addr) (H1 : Heap) (locs1 : List Loc), (∃ cell, H1[x]? = some cell ∧ cell.vm = .none ∧ s.vm.findClass cls = some cell.cls) → (∀ q : Nat, q < H.size → H1[q]? = H[q]?) → va_S A s.heap H1 locs1 → W p l e R s m args below meth c H1 locs1 (cells + 1) (slots + 6) Q (F0 m (pc + 7) ls (.ref x :: rest))) : W p l e R s m args below meth c H locs cells slots Q (F0 m pc ls rest) := by
  have S0 := S
  obtain ⟨hx, hb, hml, ho, hts⟩ := S0
  refine W.newc hx hb ho (hts _ (lw_car_all wcl)) (hts _ (lw_car_all wins)) (hts _ (lw_car_all wini)) (g := F0 m pc ls rest) rfl hd1 hcells hslots fun cC kC h1 h2 h3 h4 => ?_
  have hle := hS.1
  have hS1 : va_S A s.heap (H.push { cls := cC, slots := kC.instanceTypes.map defaultValue, vm := .none }) locs := by
    refine ⟨by rw [Array.size_push]; omega, fun q a b => ?_, hS.2.2⟩
    rw [Array.getElem?_push_lt (by omega), ← hS.2.1 q a b, Array.getElem?_eq_getElem (by omega)]
  show W p l e R s m args below meth c _ locs (cells + 1) (slots + 6) Q (F0 m (pc + 3) ls (.ref H.size :: rest))
  refine lv_dup hx hb hd2 rfl ?_
  refine wx_exc0 S hfl hcls hnames hw hst hS1 (a := H.size) h1 h2 (by rw [Array.getElem?_push_size]) hle (hA _ hle) hsize hd3 hRf (by simp only [List.map_cons, List.sum_cons]; show 1 + _ + _ ≤ _; exact hRl) fun H1 locs1 ce q1 q2 q3 q4 q5 q6 => ?_
  refine k H.size H1 locs1 ⟨ce, q1, q2, by rw [q3]; exact h1⟩ (fun q hq => ?_) q6
  rw [q5 q (by omega), Array.getElem?_push_lt hq, Array.getElem?_eq_getElem hq]
theorem w_excM {cls : String} {names : List String} {ic index si : Nat} {tx : String} {qa : Nat} (S : wx_Fix p m c cc nL s args own) (hfl : l.flags = flags0) (hstr : vk_R own si tx qa s) (hw : ∀ w ∈ ex_atomsS own ic cls names, w ∈ lw_car ∨ w = ex_s1 ∨ w = ex_s2) (wcl : Cond.classLink own index cls ∈ lw_all) (wins : Cond.instantiable cls 6 ∈ lw_all) (wini : Cond.initialized cls ∈ lw_all) (hcls : Bundle.fit cls = true) (hnames : ∀ n ∈ names, Bundle.fit n = true) (hst : wx_stat A s) (hA : ∀ q, s.heap.size ≤ q → A q) (hS : va_S A s.heap H locs) (hsize : ls.size = nL)
    (hd1 : decode cc pc = .ok (.new index, 3)) (hd2 : decode cc (pc + 3) = .ok (.dup, 1)) (hd4 : decode cc (pc + 4) = .ok (.ldc si, 2)) (hd3 : decode cc (pc + 6) = .ok (.invokespecial ic, 3)) (hcells : cells + 1 ≤ R.cells) (hslots : slots + 6 ≤ R.slots) (hRf : names.length + 3 < R.frames) (hRl : 1 + (rest.map fun v => v.category).sum + (13 * (names.length + 1) + 42) ≤ R.locals)
    (k : ∀ (x : Addr) (H1 : Heap) (locs1 : List Loc), (∃ cell, H1[x]? = some cell ∧ cell.vm = .none ∧ s.vm.findClass cls = some cell.cls) → (∀ q : Nat, q < H.size → H1[q]? = H[q]?) → va_S A s.heap H1 locs1 → W p l e R s m args below meth c H1 locs1 (cells + 1) (slots + 6) Q (F0 m (pc + 9) ls (.ref x :: rest))) : W p l e R s m args below meth c H locs cells slots Q (F0 m pc ls rest) := by
  have S0 := S
  obtain ⟨hx, hb, hml, ho, hts⟩ := S0
  refine W.newc hx hb ho (hts _ (lw_car_all wcl)) (hts _ (lw_car_all wins)) (hts _ (lw_car_all wini)) (g := F0 m pc ls rest) rfl hd1 hcells hslots fun cC kC h1 h2 h3 h4 => ?_
  have hle := hS.1
  have hS1 : va_S A s.heap (H.push { cls := cC, slots := kC.instanceTypes.map defaultValue, vm := .none }) locs := by
    refine ⟨by rw [Array.size_push]; omega, fun q a b => ?_, hS.2.2⟩
    rw [Array.getElem?_push_lt (by omega), ← hS.2.1 q a b, Array.getElem?_eq_getElem (by omega)]
  show W p l e R s m args below meth c _ locs (cells + 1) (slots + 6) Q (F0 m (pc + 3) ls (.ref H.size :: rest))
  refine lv_dup hx hb hd2 rfl ?_
  refine va_ldcS hx hb ho hstr hd4 ?_
  refine wx_excS S hfl hcls hnames hw hst hS1 (a := H.size) h1 h2 (by rw [Array.getElem?_push_size]) hle (hA _ hle) hsize hd3 hRf (by simp only [List.map_cons, List.sum_cons]; show 1 + _ + _ ≤ _; exact hRl) rfl fun H1 locs1 ce q1 q2 q3 q4 q5 q6 => ?_
  refine k H.size H1 locs1 ⟨ce, q1, q2, by rw [q3]; exact h1⟩ (fun q hq => ?_) q6
  rw [q5 q (by omega), Array.getElem?_push_lt hq, Array.getElem?_eq_getElem hq]
end X2
/-! the neighbourhood's two references -/
theorem cR_R {ad : Nat → Nat → Nat} {n nb nr : Nat} {J : Nat → Nat → Nat} {R R' : Nat → Value} {f i : Nat} (h1 : f = 24 → R 0 = R' 0) (h2 : f = 25 → R 1 = R' 1) : cR ad n nb nr J R f i = cR ad n nb nr J R' f i := by
  unfold cR
  split <;> first | rfl | exact h1 rfl | exact h2 rfl
def rr (R : Nat → Value) (k : Nat) (v : Value) : Nat → Value := fun q => bif Nat.beq q k then v else R q
section PR
variable {p : Program} {l : Launch} {e : Env} {R : Room} {s : State} {m : MethodId} {args : Array Value} {below : List Frame} {meth : Method} {c : Code} {H : Heap} {locs : List Loc} {cells slots : Nat} {Q : State → Prop}
variable {cc : ByteArray} {pc : Nat} {ls : Array Slot} {rest : List Value} {A : Nat → Prop} {Dg : va_G} {dA : Nat → ClassId} {ad : Nat → Nat → Nat} {D : T64} {I : T32} {own : String} {n nb nr no : Nat} {J : Nat → Nat → Nat} {R0 : Nat → Value}
theorem cN_in {n nb nr no k : Nat} (hk : 0 < cN n nb nr no k) : k ∈ w_ksC := by
  unfold cN at hk
  split at hk <;> first | decide | omega
theorem c_tag : ∀ k ∈ w_ksC, ∀ j, j < w_len k → (w_src k j).1 ≤ 2 := by decide +kernel
theorem World.putR {j r f : Nat} {v : Value} (hjr : (j = 1 ∧ r = 0 ∧ f = 24) ∨ (j = 2 ∧ r = 1 ∧ f = 25)) (h : World A Dg dA (cN n nb nr no) ad (wd_up (wV (cR ad n nb nr J R0) D I) 5 0 j v) H) : cW A Dg dA ad n nb nr no J (rr R0 r v) D I H := by
  have hj : j < w_len 5 := by rcases hjr with q | q <;> (obtain ⟨rfl, -, -⟩ := q; decide)
  have hs : w_src 5 j = (2, f, 0) := by rcases hjr with q | q <;> (obtain ⟨rfl, -, rfl⟩ := q; rfl)
  refine h.congr (fun k' b' j' hb' hj' => ?_)
  by_cases hq : k' = 5 ∧ b' = 0 ∧ j' = j
  · obtain ⟨rfl, rfl, rfl⟩ := hq
    simp only [wd_up, and_self, if_true]
    rw [wV_R hs]
    rcases hjr with q | q <;> (obtain ⟨rfl, rfl, rfl⟩ := q; rfl)
  · simp only [wd_up, if_neg hq]
    rcases hs' : w_src k' j' with ⟨t', f', st'⟩
    unfold wV
    rw [hs']
    match t', hs' with
    | 0, _ => rfl
    | 1, _ => rfl
    | 2, hs' =>
      have hap := h.apart (k := 5) (b := 0) (show (0 : Nat) < 1 by decide) hb' hj hj' hs hs' hq
      show cR ad n nb nr J R0 f' (wix st' b' j') = cR ad n nb nr J (rr R0 r v) f' (wix st' b' j')
      by_cases hf : f' = f
      · exfalso
        subst hf
        obtain ⟨rfl, h1, h2⟩ := w_inj h.1 (k := k') (k' := 5) (Nat.lt_of_le_of_lt (Nat.zero_le _) hb') (show (0 : Nat) < 1 by decide) hj' hj (by rw [hs, hs']) (by rw [hs, hs'])
        rw [hs, hs'] at h1
        have h1 : st' = 0 := h1
        subst h1
        have hb0 : b' = 0 := by have : b' < 1 := hb'; omega
        exact hap ⟨rfl, by subst hb0; rfl⟩
      · refine cR_R (fun q => ?_) (fun q => ?_)
        · rcases hjr with w | w <;> obtain ⟨rfl, rfl, rfl⟩ := w
          · exact absurd q hf
          · rfl
        · rcases hjr with w | w <;> obtain ⟨rfl, rfl, rfl⟩ := w
          · rfl
          · exact absurd q hf
    | t' + 3, hs' =>
      exfalso
      have h9 := c_tag k' (cN_in (Nat.lt_of_le_of_lt (Nat.zero_le _) hb')) j' hj'
      rw [hs'] at h9
      exact absurd h9 (by show ¬ (t' + 3 ≤ 2); omega)
theorem w_putR (Z : Cx p s m args c cc own Dg dA) (hW : cW A Dg dA ad n nb nr no J R0 D I H) (hS0 : va_S A s.heap H locs) (j r : Nat) {f : Nat} (hjr : (j = 1 ∧ r = 0 ∧ f = 24) ∨ (j = 2 ∧ r = 1 ∧ f = 25)) {index : Nat} (hlink : Cond.fieldLink own index (TX3 j).1 (TX3 j).2.1 (TX3 j).2.2.1 ∈ lw_all) {a : Nat} (hdg : decode cc pc = .ok (.putfield index, 3))
    (kk : ∀ (H1 : Heap) (locs1 : List Loc), cW A Dg dA ad n nb nr no J (rr R0 r (.ref a)) D I H1 → va_S A s.heap H1 locs1 → W p l e R s m args below meth c H1 locs1 cells slots Q (F0 m (pc + 3) ls rest)) : W p l e R s m args below meth c H locs cells slots Q (F0 m pc ls (.ref a :: .ref (ad 5 0) :: rest)) := by
  have hj : j < 3 := by rcases hjr with q | q <;> omega
  refine w_put Z hW hS0 kX3 rfl j hj hlink ?_ (show (0 : Nat) < 1 by decide) ?_ ?_ hdg (fun H1 locs1 h1 h2 _ => kk H1 locs1 (World.putR hjr h1) h2)
  · rcases hjr with q | q <;> (obtain ⟨rfl, -, -⟩ := q; rfl)
  · rcases hjr with q | q <;> (obtain ⟨rfl, -, -⟩ := q; rfl)
  · rcases hjr with q | q <;> (obtain ⟨rfl, -, -⟩ := q; rfl)
end PR
/-! tables changed up to a place -/
/-- at the numbers of S, up to k, what G says -/
def tg {α : Type} (k : Nat) (S : Nat → Bool) (G D : Nat → Nat → α) : Nat → Nat → α := fun f j => bif (S f && Nat.blt j k) then G f j else D f j
section TG
variable {α : Type} {k : Nat} {S : Nat → Bool} {G D : Nat → Nat → α}
theorem blt_t {j k : Nat} (h : j < k) : Nat.blt j k = true := by simp [Nat.blt]; omega
theorem blt_f {j k : Nat} (h : ¬ j < k) : Nat.blt j k = false := by
  cases hb : Nat.blt j k with
  | false => rfl
  | true => exfalso; apply h; simp [Nat.blt] at hb; omega
theorem tg_0 : tg 0 S G D = D := by
  funext f j
  unfold tg
  rw [blt_f (Nat.not_lt_zero j)]
  simp
theorem tg_in {f j : Nat} (hf : S f = true) (hj : j < k) : tg k S G D f j = G f j := by simp [tg, hf, blt_t hj]
theorem tg_hi {f j : Nat} (hj : ¬ j < k) : tg k S G D f j = D f j := by simp [tg, blt_f hj]
theorem tg_out {f j : Nat} (hf : S f = false) : tg k S G D f j = D f j := by simp [tg, hf]
theorem tg_exc : exc S (tg k S G D) D := fun f j hf => tg_out hf
/-- one place more: nothing to write -/
theorem tg_same (h : ∀ f, S f = true → D f k = G f k) : tg (k + 1) S G D = tg k S G D := by
  funext f j
  cases hf : S f with
  | false => rw [tg_out hf, tg_out hf]
  | true =>
    by_cases h1 : j < k
    · rw [tg_in hf h1, tg_in hf (by omega)]
    · by_cases h2 : j = k
      · subst h2
        rw [tg_in hf (by omega), tg_hi h1, h f hf]
      · rw [tg_hi h1, tg_hi (by omega)]
def s2 (a b : Nat) : Nat → Bool := fun f => Nat.beq f a || Nat.beq f b
def s4 (a b c d : Nat) : Nat → Bool := fun f => Nat.beq f a || (Nat.beq f b || (Nat.beq f c || Nat.beq f d))
def g2 {α : Type} (a : Nat) (x y : Nat → α) : Nat → Nat → α := fun f j => bif Nat.beq f a then x j else y j
theorem beq_t {a b : Nat} (h : a = b) : Nat.beq a b = true := by subst h; exact Nat.beq_refl a
theorem beq_f {a b : Nat} (h : ¬ a = b) : Nat.beq a b = false := by
  cases hb : Nat.beq a b with
  | false => rfl
  | true => exact absurd (Nat.eq_of_beq_eq_true hb) h
theorem tg_s2 {a b : Nat} (hab : a ≠ b) {x y : α} (hx : x = G a k) (hy : y = G b k) : up2 (up2 (tg k (s2 a b) G D) a k x) b k y = tg (k + 1) (s2 a b) G D := by
  subst hx; subst hy
  funext f j
  by_cases h1 : f = b
  · subst h1
    have hs : s2 a f f = true := by simp [s2, beq_t]
    by_cases h2 : j = k
    · subst h2; rw [up2_same, tg_in hs (by omega)]
    · rw [up2_i _ _ _ _ h2, up2_i _ _ _ _ h2]
      by_cases h3 : j < k
      · rw [tg_in hs h3, tg_in hs (by omega)]
      · rw [tg_hi h3, tg_hi (by omega)]
  · rw [up2_f _ _ _ _ h1]
    by_cases h4 : f = a
    · subst h4
      have hs : s2 f b f = true := by simp [s2, beq_t]
      by_cases h2 : j = k
      · subst h2; rw [up2_same, tg_in hs (by omega)]
      · rw [up2_i _ _ _ _ h2]
        by_cases h3 : j < k
        · rw [tg_in hs h3, tg_in hs (by omega)]
        · rw [tg_hi h3, tg_hi (by omega)]
    · rw [up2_f _ _ _ _ h4]
      have hs : s2 a b f = false := by simp [s2, beq_f h1, beq_f h4]
      rw [tg_out hs, tg_out hs]
theorem tg_s4 {a b c d : Nat} (hab : a ≠ b ∧ a ≠ c ∧ a ≠ d ∧ b ≠ c ∧ b ≠ d ∧ c ≠ d) {x y z w : α} (hx : x = G a k) (hy : y = G b k) (hz : z = G c k) (hw : w = G d k) : up2 (up2 (up2 (up2 (tg k (s4 a b c d) G D) a k x) b k y) c k z) d k w = tg (k + 1) (s4 a b c d) G D := by
  subst hx; subst hy; subst hz; subst hw
  funext f j
  by_cases h2 : j = k
  · subst h2
    by_cases h1 : f = d
    · subst h1; rw [up2_same, tg_in (by simp [s4, beq_t]) (by omega)]
    · rw [up2_f _ _ _ _ h1]
      by_cases h3 : f = c
      · subst h3; rw [up2_same, tg_in (by simp [s4, beq_t]) (by omega)]
      · rw [up2_f _ _ _ _ h3]
        by_cases h4 : f = b
        · subst h4; rw [up2_same, tg_in (by simp [s4, beq_t]) (by omega)]
        · rw [up2_f _ _ _ _ h4]
          by_cases h5 : f = a
          · subst h5; rw [up2_same, tg_in (by simp [s4, beq_t]) (by omega)]
          · rw [up2_f _ _ _ _ h5]
            have hs : s4 a b c d f = false := by simp [s4, beq_f h1, beq_f h3, beq_f h4, beq_f h5]
            rw [tg_out hs, tg_out hs]
  · rw [up2_i _ _ _ _ h2, up2_i _ _ _ _ h2, up2_i _ _ _ _ h2, up2_i _ _ _ _ h2]
    cases hs : s4 a b c d f with
    | false => rw [tg_out hs, tg_out hs]
    | true =>
      by_cases h3 : j < k
      · rw [tg_in hs h3, tg_in hs (by omega)]
      · rw [tg_hi h3, tg_hi (by omega)]
end TG
/-! places that are numbers of atoms -/
def okI (k : Int32) (n : Nat) : Prop := ∃ i, i < n ∧ k = nI i
theorem okI_of {k : Int32} {n : Nat} (hn : n ≤ 10) (h1 : ¬ k < 0) (h2 : ¬ nI n ≤ k) : okI k n := by
  rcases pk_ix k (n := n) (by omega) with h | h | h
  · exact absurd h h1
  · exact absurd h h2
  · exact h
theorem okI_lt {k : Int32} {n : Nat} (hn : n ≤ 10) (h : k < 0) : ¬ okI k n := by
  rintro ⟨i, hi, rfl⟩
  exact nI_pos (by omega) h
theorem okI_ge {k : Int32} {n : Nat} (hn : n ≤ 10) (h : nI n ≤ k) : ¬ okI k n := by
  rintro ⟨i, hi, rfl⟩
  have := (nI_leI (by omega) (by omega)).mp h
  omega
/-- a picture of the heap that stays when cells are added -/
def Gr (B : Heap → Prop) : Prop := ∀ H H1 : Heap, B H → (∀ q : Nat, q < H.size → H1[q]? = H[q]?) → B H1
theorem gr_W {A : Nat → Prop} {Dg : va_G} {dA : Nat → ClassId} {N : Nat → Nat} {ad : Nat → Nat → Nat} {V : Nat → Nat → Nat → Value} : Gr (fun H => World A Dg dA N ad V H) := fun _ _ h hk => h.grown hk
/-- an arithmetic exception lies at x -/
def isAr (Dg : va_G) (x : Nat) (H : Heap) : Prop := ∃ cell, H[x]? = some cell ∧ cell.vm = .none ∧ cell.cls = Dg.1 8
theorem kAr {Dg : va_G} {dA : Nat → ClassId} {s : State} (hK : va_K Dg vCl (vTys dA) s) : s.vm.findClass "java/lang/ArithmeticException" = some (Dg.1 8) := by
  obtain ⟨hS, hfc, -⟩ := hK.1 8 _ rfl
  exact hfc
theorem isAr.of {Dg : va_G} {dA : Nat → ClassId} {s : State} {x : Nat} {H : Heap} (hK : va_K Dg vCl (vTys dA) s) (h : ∃ cell, H[x]? = some cell ∧ cell.vm = .none ∧ s.vm.findClass "java/lang/ArithmeticException" = some cell.cls) : isAr Dg x H := by
  obtain ⟨cell, h1, h2, h3⟩ := h
  exact ⟨cell, h1, h2, Option.some.inj (h3.symm.trans (kAr hK))⟩
theorem isAr.to {Dg : va_G} {dA : Nat → ClassId} {s : State} {x : Nat} {H : Heap} (hK : va_K Dg vCl (vTys dA) s) (h : isAr Dg x H) : ∃ cell, H[x]? = some cell ∧ cell.vm = .none ∧ s.vm.findClass "java/lang/ArithmeticException" = some cell.cls := by
  obtain ⟨cell, h1, h2, h3⟩ := h
  exact ⟨cell, h1, h2, by rw [h3]; exact kAr hK⟩
theorem Gr.and {B C : Heap → Prop} (h1 : Gr B) (h2 : Gr C) : Gr (fun H => B H ∧ C H) := fun H H1 h hk => ⟨h1 H H1 h.1 hk, h2 H H1 h.2 hk⟩
/-! negation -/
theorem nat_xor63 {a : Nat} (h : a < 18446744073709551616) : a ^^^ 2 ^ 63 = (a + 9223372036854775808) % 18446744073709551616 := by
  have h1 : (a ^^^ 2 ^ 63) % 2 ^ 63 = a % 2 ^ 63 := by rw [Nat.xor_mod_two_pow, Nat.mod_self, Nat.xor_zero]
  have h2 : (a ^^^ 2 ^ 63) / 2 ^ 63 = (a / 2 ^ 63) ^^^ 1 := by rw [Nat.xor_div_two_pow, Nat.div_self (Nat.two_pow_pos 63)]
  have h3 : a / 2 ^ 63 = 0 ∨ a / 2 ^ 63 = 1 := by omega
  generalize a ^^^ 2 ^ 63 = t at h1 h2
  rcases h3 with h3 | h3
  · rw [h3] at h2
    have h2 : t / 2 ^ 63 = 1 := h2
    omega
  · rw [h3] at h2
    have h2 : t / 2 ^ 63 = 0 := h2
    omega
theorem neg_fv {a : UInt64} {s : Bool} {c : Nat} {q : Int} (h : fv a = .fin s c q) : fv (FP.dneg a) = .fin (!s) c q := by
  have e0 : (FP.dneg a).toNat = (a.toNat + 9223372036854775808) % 18446744073709551616 := by
    rw [← nat_xor63 a.toNat_lt]
    exact UInt64.toNat_xor _ _
  unfold fv at h ⊢
  rw [e0]
  have hn : a.toNat < 18446744073709551616 := a.toNat_lt
  generalize a.toNat = n at h hn
  have e1 : (n + 9223372036854775808) % 18446744073709551616 % 4503599627370496 = n % 4503599627370496 := by omega
  have e2 : (n + 9223372036854775808) % 18446744073709551616 / 4503599627370496 % 2048 = n / 4503599627370496 % 2048 := by omega
  have e3 : ((n + 9223372036854775808) % 18446744073709551616 / 4503599627370496 / 2048 % 2 == 1) = !(n / 4503599627370496 / 2048 % 2 == 1) := by
    have : (n + 9223372036854775808) % 18446744073709551616 / 4503599627370496 / 2048 % 2 = 1 - n / 4503599627370496 / 2048 % 2 := by omega
    rw [this]
    have h2 : n / 4503599627370496 / 2048 % 2 = 0 ∨ n / 4503599627370496 / 2048 % 2 = 1 := by omega
    rcases h2 with h2 | h2 <;> rw [h2] <;> rfl
  unfold FP.Core.decode FP.Core.fieldT FP.Core.fieldE FP.Core.fieldS at h ⊢
  rw [exps64, tails64, qmin64] at h ⊢
  rw [e1, e2, e3]
  split at h
  · split at h <;> cases h
  · rw [if_neg (by assumption)]
    split at h
    · rw [if_pos (by assumption)]
      obtain ⟨h1, h2, h3⟩ := FP.Core.Datum.fin.inj h
      rw [h1, h2, h3]
    · rw [if_neg (by assumption)]
      obtain ⟨h1, h2, h3⟩ := FP.Core.Datum.fin.inj h
      rw [h1, h2, h3]
theorem neg_val {a : UInt64} (h : Fn a) : Fn (FP.dneg a) ∧ rv (FP.dneg a) = -rv a := by
  obtain ⟨s, c, q, h1⟩ := h
  have e := neg_fv h1
  refine ⟨⟨_, _, _, e⟩, ?_⟩
  rw [rv_fin e, rv_fin h1]
  cases s <;> simp [sg] <;> grind
