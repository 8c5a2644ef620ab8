/-- a private method of a class that the tables say can be made, by its rows of tables_1 -/
def lw_okq (q : MethodName × Nat) : Prop := (q.1.cls ≠ "java/lang/invoke/MethodHandle" ∧ q.1.cls ≠ "java/lang/invoke/VarHandle") ∧ Cond.instantiable q.1.cls q.2 ∈ tables_1 ∧ Cond.privateMethod q.1 ∈ tables_1 ∧ Cond.instanceMethod q.1 ∈ tables_1
set_option maxRecDepth 100000
theorem lw_t1 {w : Cond} (h : w ∈ tables_1_1) : w ∈ tables_1 := List.mem_append_left _ h
theorem lw_t2 {w : Cond} (h : w ∈ tables_1_2) : w ∈ tables_1 := List.mem_append_right _ (List.mem_append_left _ h)
theorem lw_t3 {w : Cond} (h : w ∈ tables_1_3) : w ∈ tables_1 := List.mem_append_right _ (List.mem_append_right _ (List.mem_append_left _ h))
theorem lw_t4 {w : Cond} (h : w ∈ tables_1_4) : w ∈ tables_1 := List.mem_append_right _ (List.mem_append_right _ (List.mem_append_right _ (List.mem_append_left _ h)))
theorem lw_t5 {w : Cond} (h : w ∈ tables_1_5) : w ∈ tables_1 := List.mem_append_right _ (List.mem_append_right _ (List.mem_append_right _ (List.mem_append_right _ h)))
theorem lw_p0 : lw_okq (⟨"ParticleBox", "from", "(LParticleBox$Atom;LParticleBox$Atom;)V"⟩, 25) := ⟨⟨by decide +kernel, by decide +kernel⟩, lw_t1 (List.mem_of_getElem? (i := 18) rfl), lw_t1 (List.mem_of_getElem? (i := 185) rfl), lw_t1 (List.mem_of_getElem? (i := 186) rfl)⟩
theorem lw_p1 : lw_okq (⟨"ParticleBox", "shortest", "(D)D"⟩, 25) := ⟨⟨by decide +kernel, by decide +kernel⟩, lw_t1 (List.mem_of_getElem? (i := 18) rfl), lw_t1 (List.mem_of_getElem? (i := 189) rfl), lw_t1 (List.mem_of_getElem? (i := 190) rfl)⟩
theorem lw_p2 : lw_okq (⟨"ParticleBox", "classOf", "(LParticleBox$Sort;LParticleBox$Sort;)I"⟩, 25) := ⟨⟨by decide +kernel, by decide +kernel⟩, lw_t1 (List.mem_of_getElem? (i := 18) rfl), lw_t1 (List.mem_of_getElem? (i := 201) rfl), lw_t1 (List.mem_of_getElem? (i := 202) rfl)⟩
theorem lw_p3 : lw_okq (⟨"java/lang/Throwable", "fillInStackTrace", "(I)Ljava/lang/Throwable;"⟩, 6) := ⟨⟨by decide +kernel, by decide +kernel⟩, lw_t2 (List.mem_of_getElem? (i := 29) rfl), lw_t2 (List.mem_of_getElem? (i := 27) rfl), lw_t2 (List.mem_of_getElem? (i := 28) rfl)⟩
theorem lw_p4 : lw_okq (⟨"ParticleBox", "wrapped", "(D)D"⟩, 25) := ⟨⟨by decide +kernel, by decide +kernel⟩, lw_t1 (List.mem_of_getElem? (i := 18) rfl), lw_t2 (List.mem_of_getElem? (i := 138) rfl), lw_t2 (List.mem_of_getElem? (i := 139) rfl)⟩
theorem lw_p5 : lw_okq (⟨"ParticleBox", "at", "(I)LParticleBox$Atom;"⟩, 25) := ⟨⟨by decide +kernel, by decide +kernel⟩, lw_t1 (List.mem_of_getElem? (i := 18) rfl), lw_t2 (List.mem_of_getElem? (i := 149) rfl), lw_t2 (List.mem_of_getElem? (i := 150) rfl)⟩
theorem lw_p6 : lw_okq (⟨"ParticleBox", "advance", "(D)I"⟩, 25) := ⟨⟨by decide +kernel, by decide +kernel⟩, lw_t1 (List.mem_of_getElem? (i := 18) rfl), lw_t3 (List.mem_of_getElem? (i := 39) rfl), lw_t3 (List.mem_of_getElem? (i := 40) rfl)⟩
theorem lw_p7 : lw_okq (⟨"ParticleBox", "forces", "()V"⟩, 25) := ⟨⟨by decide +kernel, by decide +kernel⟩, lw_t1 (List.mem_of_getElem? (i := 18) rfl), lw_t3 (List.mem_of_getElem? (i := 43) rfl), lw_t3 (List.mem_of_getElem? (i := 44) rfl)⟩
theorem lw_p8 : lw_okq (⟨"ParticleBox", "list", "()V"⟩, 25) := ⟨⟨by decide +kernel, by decide +kernel⟩, lw_t1 (List.mem_of_getElem? (i := 18) rfl), lw_t3 (List.mem_of_getElem? (i := 47) rfl), lw_t3 (List.mem_of_getElem? (i := 48) rfl)⟩
theorem lw_p9 : lw_okq (⟨"ParticleBox", "outdated", "()Z"⟩, 25) := ⟨⟨by decide +kernel, by decide +kernel⟩, lw_t1 (List.mem_of_getElem? (i := 18) rfl), lw_t3 (List.mem_of_getElem? (i := 51) rfl), lw_t3 (List.mem_of_getElem? (i := 52) rfl)⟩
theorem lw_p10 : lw_okq (⟨"ParticleBox", "forceOn", "(LParticleBox$Atom;[II)V"⟩, 25) := ⟨⟨by decide +kernel, by decide +kernel⟩, lw_t1 (List.mem_of_getElem? (i := 18) rfl), lw_t3 (List.mem_of_getElem? (i := 56) rfl), lw_t3 (List.mem_of_getElem? (i := 57) rfl)⟩
theorem lw_p11 : lw_okq (⟨"ParticleBox", "failure", "(I)Ljava/lang/ArithmeticException;"⟩, 25) := ⟨⟨by decide +kernel, by decide +kernel⟩, lw_t1 (List.mem_of_getElem? (i := 18) rfl), lw_t3 (List.mem_of_getElem? (i := 61) rfl), lw_t3 (List.mem_of_getElem? (i := 62) rfl)⟩
theorem lw_p12 : lw_okq (⟨"ParticleBox", "pull", "(LParticleBox$Atom;LParticleBox$Tie;)V"⟩, 25) := ⟨⟨by decide +kernel, by decide +kernel⟩, lw_t1 (List.mem_of_getElem? (i := 18) rfl), lw_t3 (List.mem_of_getElem? (i := 73) rfl), lw_t3 (List.mem_of_getElem? (i := 74) rfl)⟩
theorem lw_p13 : lw_okq (⟨"ParticleBox$Neighbourhood", "sixth", "(D)D"⟩, 3) := ⟨⟨by decide +kernel, by decide +kernel⟩, lw_t1 (List.mem_of_getElem? (i := 56) rfl), lw_t3 (List.mem_of_getElem? (i := 93) rfl), lw_t3 (List.mem_of_getElem? (i := 94) rfl)⟩
theorem lw_p14 : lw_okq (⟨"ParticleBox$Neighbourhood", "strength", "()D"⟩, 3) := ⟨⟨by decide +kernel, by decide +kernel⟩, lw_t1 (List.mem_of_getElem? (i := 56) rfl), lw_t3 (List.mem_of_getElem? (i := 99) rfl), lw_t3 (List.mem_of_getElem? (i := 100) rfl)⟩
theorem lw_p15 : lw_okq (⟨"ParticleBox", "pushAll", "(D)V"⟩, 25) := ⟨⟨by decide +kernel, by decide +kernel⟩, lw_t1 (List.mem_of_getElem? (i := 18) rfl), lw_t3 (List.mem_of_getElem? (i := 104) rfl), lw_t3 (List.mem_of_getElem? (i := 105) rfl)⟩
def lw_privs_1 : List (MethodName × Nat) := [(⟨"ParticleBox", "from", "(LParticleBox$Atom;LParticleBox$Atom;)V"⟩, 25), (⟨"ParticleBox", "shortest", "(D)D"⟩, 25), (⟨"ParticleBox", "classOf", "(LParticleBox$Sort;LParticleBox$Sort;)I"⟩, 25), (⟨"java/lang/Throwable", "fillInStackTrace", "(I)Ljava/lang/Throwable;"⟩, 6), (⟨"ParticleBox", "wrapped", "(D)D"⟩, 25), (⟨"ParticleBox", "at", "(I)LParticleBox$Atom;"⟩, 25), (⟨"ParticleBox", "advance", "(D)I"⟩, 25), (⟨"ParticleBox", "forces", "()V"⟩, 25), (⟨"ParticleBox", "list", "()V"⟩, 25), (⟨"ParticleBox", "outdated", "()Z"⟩, 25), (⟨"ParticleBox", "forceOn", "(LParticleBox$Atom;[II)V"⟩, 25), (⟨"ParticleBox", "failure", "(I)Ljava/lang/ArithmeticException;"⟩, 25), (⟨"ParticleBox", "pull", "(LParticleBox$Atom;LParticleBox$Tie;)V"⟩, 25), (⟨"ParticleBox$Neighbourhood", "sixth", "(D)D"⟩, 3), (⟨"ParticleBox$Neighbourhood", "strength", "()D"⟩, 3), (⟨"ParticleBox", "pushAll", "(D)V"⟩, 25)]
theorem lw_r1 : ∀ q ∈ lw_privs_1, lw_okq q := List.forall_mem_cons.mpr ⟨lw_p0, List.forall_mem_cons.mpr ⟨lw_p1, List.forall_mem_cons.mpr ⟨lw_p2, List.forall_mem_cons.mpr ⟨lw_p3, List.forall_mem_cons.mpr ⟨lw_p4, List.forall_mem_cons.mpr ⟨lw_p5, List.forall_mem_cons.mpr ⟨lw_p6, List.forall_mem_cons.mpr ⟨lw_p7, List.forall_mem_cons.mpr ⟨lw_p8, List.forall_mem_cons.mpr ⟨lw_p9, List.forall_mem_cons.mpr ⟨lw_p10, List.forall_mem_cons.mpr ⟨lw_p11, List.forall_mem_cons.mpr ⟨lw_p12, List.forall_mem_cons.mpr ⟨lw_p13, List.forall_mem_cons.mpr ⟨lw_p14, List.forall_mem_cons.mpr ⟨lw_p15, fun _ h => absurd h List.not_mem_nil⟩⟩⟩⟩⟩⟩⟩⟩⟩⟩⟩⟩⟩⟩⟩⟩
theorem lw_p16 : lw_okq (⟨"ParticleBox", "checkSpeeds", "()V"⟩, 25) := ⟨⟨by decide +kernel, by decide +kernel⟩, lw_t1 (List.mem_of_getElem? (i := 18) rfl), lw_t3 (List.mem_of_getElem? (i := 112) rfl), lw_t3 (List.mem_of_getElem? (i := 113) rfl)⟩
theorem lw_p17 : lw_okq (⟨"ParticleBox", "straightenAll", "()I"⟩, 25) := ⟨⟨by decide +kernel, by decide +kernel⟩, lw_t1 (List.mem_of_getElem? (i := 18) rfl), lw_t3 (List.mem_of_getElem? (i := 122) rfl), lw_t3 (List.mem_of_getElem? (i := 123) rfl)⟩
theorem lw_p18 : lw_okq (⟨"ParticleBox", "straighten", "(LParticleBox$Rod;)Z"⟩, 25) := ⟨⟨by decide +kernel, by decide +kernel⟩, lw_t1 (List.mem_of_getElem? (i := 18) rfl), lw_t3 (List.mem_of_getElem? (i := 126) rfl), lw_t3 (List.mem_of_getElem? (i := 127) rfl)⟩
theorem lw_p19 : lw_okq (⟨"ParticleBox", "rescale", "(D)V"⟩, 25) := ⟨⟨by decide +kernel, by decide +kernel⟩, lw_t1 (List.mem_of_getElem? (i := 18) rfl), lw_t3 (List.mem_of_getElem? (i := 136) rfl), lw_t3 (List.mem_of_getElem? (i := 137) rfl)⟩
theorem lw_p20 : lw_okq (⟨"ParticleBox", "checkOverlap", "()V"⟩, 25) := ⟨⟨by decide +kernel, by decide +kernel⟩, lw_t1 (List.mem_of_getElem? (i := 18) rfl), lw_t3 (List.mem_of_getElem? (i := 162) rfl), lw_t3 (List.mem_of_getElem? (i := 163) rfl)⟩
theorem lw_p21 : lw_okq (⟨"ParticleBox", "pairEnergy", "()D"⟩, 25) := ⟨⟨by decide +kernel, by decide +kernel⟩, lw_t1 (List.mem_of_getElem? (i := 18) rfl), lw_t3 (List.mem_of_getElem? (i := 166) rfl), lw_t3 (List.mem_of_getElem? (i := 167) rfl)⟩
theorem lw_p22 : lw_okq (⟨"ParticleBoxModel", "bad", "(Z)Z"⟩, 48) := ⟨⟨by decide +kernel, by decide +kernel⟩, lw_t3 (List.mem_of_getElem? (i := 208) rfl), lw_t4 (List.mem_of_getElem? (i := 138) rfl), lw_t4 (List.mem_of_getElem? (i := 139) rfl)⟩
theorem lw_p23 : lw_okq (⟨"ParticleBoxModel", "wrapped", "(D)D"⟩, 48) := ⟨⟨by decide +kernel, by decide +kernel⟩, lw_t3 (List.mem_of_getElem? (i := 208) rfl), lw_t4 (List.mem_of_getElem? (i := 142) rfl), lw_t4 (List.mem_of_getElem? (i := 143) rfl)⟩
theorem lw_p24 : lw_okq (⟨"ParticleBoxModel", "isAtom", "(I)Z"⟩, 48) := ⟨⟨by decide +kernel, by decide +kernel⟩, lw_t3 (List.mem_of_getElem? (i := 208) rfl), lw_t4 (List.mem_of_getElem? (i := 153) rfl), lw_t4 (List.mem_of_getElem? (i := 154) rfl)⟩
theorem lw_p25 : lw_okq (⟨"ParticleBoxModel", "oneStep", "(D)I"⟩, 48) := ⟨⟨by decide +kernel, by decide +kernel⟩, lw_t3 (List.mem_of_getElem? (i := 208) rfl), lw_t4 (List.mem_of_getElem? (i := 193) rfl), lw_t4 (List.mem_of_getElem? (i := 194) rfl)⟩
theorem lw_p26 : lw_okq (⟨"ParticleBoxModel", "forces", "()Z"⟩, 48) := ⟨⟨by decide +kernel, by decide +kernel⟩, lw_t3 (List.mem_of_getElem? (i := 208) rfl), lw_t4 (List.mem_of_getElem? (i := 197) rfl), lw_t4 (List.mem_of_getElem? (i := 198) rfl)⟩
theorem lw_p27 : lw_okq (⟨"ParticleBoxModel", "neighbours", "()V"⟩, 48) := ⟨⟨by decide +kernel, by decide +kernel⟩, lw_t3 (List.mem_of_getElem? (i := 208) rfl), lw_t4 (List.mem_of_getElem? (i := 201) rfl), lw_t4 (List.mem_of_getElem? (i := 202) rfl)⟩
theorem lw_p28 : lw_okq (⟨"ParticleBoxModel", "way", "(DDDD)V"⟩, 48) := ⟨⟨by decide +kernel, by decide +kernel⟩, lw_t3 (List.mem_of_getElem? (i := 208) rfl), lw_t4 (List.mem_of_getElem? (i := 205) rfl), lw_t4 (List.mem_of_getElem? (i := 206) rfl)⟩
theorem lw_p29 : lw_okq (⟨"ParticleBoxModel", "nearest", "(D)D"⟩, 48) := ⟨⟨by decide +kernel, by decide +kernel⟩, lw_t3 (List.mem_of_getElem? (i := 208) rfl), lw_t4 (List.mem_of_getElem? (i := 209) rfl), lw_t4 (List.mem_of_getElem? (i := 210) rfl)⟩
theorem lw_p30 : lw_okq (⟨"ParticleBoxModel", "overlap", "()Z"⟩, 48) := ⟨⟨by decide +kernel, by decide +kernel⟩, lw_t3 (List.mem_of_getElem? (i := 208) rfl), lw_t4 (List.mem_of_getElem? (i := 213) rfl), lw_t4 (List.mem_of_getElem? (i := 214) rfl)⟩
theorem lw_p31 : lw_okq (⟨"ParticleBoxModel", "between", "(II)V"⟩, 48) := ⟨⟨by decide +kernel, by decide +kernel⟩, lw_t3 (List.mem_of_getElem? (i := 208) rfl), lw_t4 (List.mem_of_getElem? (i := 217) rfl), lw_t4 (List.mem_of_getElem? (i := 218) rfl)⟩
def lw_privs_2 : List (MethodName × Nat) := [(⟨"ParticleBox", "checkSpeeds", "()V"⟩, 25), (⟨"ParticleBox", "straightenAll", "()I"⟩, 25), (⟨"ParticleBox", "straighten", "(LParticleBox$Rod;)Z"⟩, 25), (⟨"ParticleBox", "rescale", "(D)V"⟩, 25), (⟨"ParticleBox", "checkOverlap", "()V"⟩, 25), (⟨"ParticleBox", "pairEnergy", "()D"⟩, 25), (⟨"ParticleBoxModel", "bad", "(Z)Z"⟩, 48), (⟨"ParticleBoxModel", "wrapped", "(D)D"⟩, 48), (⟨"ParticleBoxModel", "isAtom", "(I)Z"⟩, 48), (⟨"ParticleBoxModel", "oneStep", "(D)I"⟩, 48), (⟨"ParticleBoxModel", "forces", "()Z"⟩, 48), (⟨"ParticleBoxModel", "neighbours", "()V"⟩, 48), (⟨"ParticleBoxModel", "way", "(DDDD)V"⟩, 48), (⟨"ParticleBoxModel", "nearest", "(D)D"⟩, 48), (⟨"ParticleBoxModel", "overlap", "()Z"⟩, 48), (⟨"ParticleBoxModel", "between", "(II)V"⟩, 48)]
theorem lw_r2 : ∀ q ∈ lw_privs_2, lw_okq q := List.forall_mem_cons.mpr ⟨lw_p16, List.forall_mem_cons.mpr ⟨lw_p17, List.forall_mem_cons.mpr ⟨lw_p18, List.forall_mem_cons.mpr ⟨lw_p19, List.forall_mem_cons.mpr ⟨lw_p20, List.forall_mem_cons.mpr ⟨lw_p21, List.forall_mem_cons.mpr ⟨lw_p22, List.forall_mem_cons.mpr ⟨lw_p23, List.forall_mem_cons.mpr ⟨lw_p24, List.forall_mem_cons.mpr ⟨lw_p25, List.forall_mem_cons.mpr ⟨lw_p26, List.forall_mem_cons.mpr ⟨lw_p27, List.forall_mem_cons.mpr ⟨lw_p28, List.forall_mem_cons.mpr ⟨lw_p29, List.forall_mem_cons.mpr ⟨lw_p30, List.forall_mem_cons.mpr ⟨lw_p31, fun _ h => absurd h List.not_mem_nil⟩⟩⟩⟩⟩⟩⟩⟩⟩⟩⟩⟩⟩⟩⟩⟩
theorem lw_p32 : lw_okq (⟨"ParticleBoxModel", "findForce", "(I)V"⟩, 48) := ⟨⟨by decide +kernel, by decide +kernel⟩, lw_t3 (List.mem_of_getElem? (i := 208) rfl), lw_t4 (List.mem_of_getElem? (i := 222) rfl), lw_t4 (List.mem_of_getElem? (i := 223) rfl)⟩
theorem lw_p33 : lw_okq (⟨"ParticleBoxModel", "isPair", "(II)Z"⟩, 48) := ⟨⟨by decide +kernel, by decide +kernel⟩, lw_t3 (List.mem_of_getElem? (i := 208) rfl), lw_t4 (List.mem_of_getElem? (i := 226) rfl), lw_t4 (List.mem_of_getElem? (i := 227) rfl)⟩
theorem lw_p34 : lw_okq (⟨"ParticleBoxModel", "deep", "(II)D"⟩, 48) := ⟨⟨by decide +kernel, by decide +kernel⟩, lw_t3 (List.mem_of_getElem? (i := 208) rfl), lw_t4 (List.mem_of_getElem? (i := 230) rfl), lw_t4 (List.mem_of_getElem? (i := 231) rfl)⟩
theorem lw_p35 : lw_okq (⟨"ParticleBoxModel", "sixth", "(II)D"⟩, 48) := ⟨⟨by decide +kernel, by decide +kernel⟩, lw_t3 (List.mem_of_getElem? (i := 208) rfl), lw_t4 (List.mem_of_getElem? (i := 234) rfl), lw_t4 (List.mem_of_getElem? (i := 235) rfl)⟩
theorem lw_p36 : lw_okq (⟨"ParticleBoxModel", "charges", "(II)D"⟩, 48) := ⟨⟨by decide +kernel, by decide +kernel⟩, lw_t3 (List.mem_of_getElem? (i := 208) rfl), lw_t4 (List.mem_of_getElem? (i := 238) rfl), lw_t4 (List.mem_of_getElem? (i := 239) rfl)⟩
theorem lw_p37 : lw_okq (⟨"ParticleBoxModel", "kick", "(D)V"⟩, 48) := ⟨⟨by decide +kernel, by decide +kernel⟩, lw_t3 (List.mem_of_getElem? (i := 208) rfl), lw_t5 (List.mem_of_getElem? (i := 4) rfl), lw_t5 (List.mem_of_getElem? (i := 5) rfl)⟩
theorem lw_p38 : lw_okq (⟨"ParticleBoxModel", "blown", "()Z"⟩, 48) := ⟨⟨by decide +kernel, by decide +kernel⟩, lw_t3 (List.mem_of_getElem? (i := 208) rfl), lw_t5 (List.mem_of_getElem? (i := 8) rfl), lw_t5 (List.mem_of_getElem? (i := 9) rfl)⟩
theorem lw_p39 : lw_okq (⟨"ParticleBoxModel", "keepRods", "()Z"⟩, 48) := ⟨⟨by decide +kernel, by decide +kernel⟩, lw_t3 (List.mem_of_getElem? (i := 208) rfl), lw_t5 (List.mem_of_getElem? (i := 14) rfl), lw_t5 (List.mem_of_getElem? (i := 15) rfl)⟩
theorem lw_p40 : lw_okq (⟨"ParticleBoxModel", "turn", "(I)I"⟩, 48) := ⟨⟨by decide +kernel, by decide +kernel⟩, lw_t3 (List.mem_of_getElem? (i := 208) rfl), lw_t5 (List.mem_of_getElem? (i := 18) rfl), lw_t5 (List.mem_of_getElem? (i := 19) rfl)⟩
theorem lw_p41 : lw_okq (⟨"ParticleBoxModel", "undo", "()V"⟩, 48) := ⟨⟨by decide +kernel, by decide +kernel⟩, lw_t3 (List.mem_of_getElem? (i := 208) rfl), lw_t5 (List.mem_of_getElem? (i := 24) rfl), lw_t5 (List.mem_of_getElem? (i := 25) rfl)⟩
theorem lw_p42 : lw_okq (⟨"ParticleBoxModel", "warm", "(D)D"⟩, 48) := ⟨⟨by decide +kernel, by decide +kernel⟩, lw_t3 (List.mem_of_getElem? (i := 208) rfl), lw_t5 (List.mem_of_getElem? (i := 28) rfl), lw_t5 (List.mem_of_getElem? (i := 29) rfl)⟩
theorem lw_p43 : lw_okq (⟨"ParticleBoxModel", "findTemperature", "()D"⟩, 48) := ⟨⟨by decide +kernel, by decide +kernel⟩, lw_t3 (List.mem_of_getElem? (i := 208) rfl), lw_t5 (List.mem_of_getElem? (i := 32) rfl), lw_t5 (List.mem_of_getElem? (i := 33) rfl)⟩
def lw_privs_3 : List (MethodName × Nat) := [(⟨"ParticleBoxModel", "findForce", "(I)V"⟩, 48), (⟨"ParticleBoxModel", "isPair", "(II)Z"⟩, 48), (⟨"ParticleBoxModel", "deep", "(II)D"⟩, 48), (⟨"ParticleBoxModel", "sixth", "(II)D"⟩, 48), (⟨"ParticleBoxModel", "charges", "(II)D"⟩, 48), (⟨"ParticleBoxModel", "kick", "(D)V"⟩, 48), (⟨"ParticleBoxModel", "blown", "()Z"⟩, 48), (⟨"ParticleBoxModel", "keepRods", "()Z"⟩, 48), (⟨"ParticleBoxModel", "turn", "(I)I"⟩, 48), (⟨"ParticleBoxModel", "undo", "()V"⟩, 48), (⟨"ParticleBoxModel", "warm", "(D)D"⟩, 48), (⟨"ParticleBoxModel", "findTemperature", "()D"⟩, 48)]
theorem lw_r3 : ∀ q ∈ lw_privs_3, lw_okq q := List.forall_mem_cons.mpr ⟨lw_p32, List.forall_mem_cons.mpr ⟨lw_p33, List.forall_mem_cons.mpr ⟨lw_p34, List.forall_mem_cons.mpr ⟨lw_p35, List.forall_mem_cons.mpr ⟨lw_p36, List.forall_mem_cons.mpr ⟨lw_p37, List.forall_mem_cons.mpr ⟨lw_p38, List.forall_mem_cons.mpr ⟨lw_p39, List.forall_mem_cons.mpr ⟨lw_p40, List.forall_mem_cons.mpr ⟨lw_p41, List.forall_mem_cons.mpr ⟨lw_p42, List.forall_mem_cons.mpr ⟨lw_p43, fun _ h => absurd h List.not_mem_nil⟩⟩⟩⟩⟩⟩⟩⟩⟩⟩⟩⟩
def lw_privs : List (MethodName × Nat) := lw_privs_1 ++ (lw_privs_2 ++ (lw_privs_3))
def lw_tbl : List Cond := k2_sels lw_privs ++ tables_1
theorem lw_privs_ok : ∀ q ∈ lw_privs, lw_okq q := by
  show ∀ q ∈ lw_privs_1 ++ (lw_privs_2 ++ (lw_privs_3)), lw_okq q
  exact List.forall_mem_append.mpr ⟨lw_r1, List.forall_mem_append.mpr ⟨lw_r2, lw_r3⟩⟩
-- ===== ONE list of words for every method: the tables' words that hold all through a run =====
def lw_all : List Cond := lw_tbl.filter goodWord
/-- a word of the tables by its place: claim/WORDS.tsv -/
theorem lw_w {w : Cond} (i : Nat) (h : lw_tbl[i]? = some w) (g : goodWord w = true) : w ∈ lw_all := List.mem_filter.mpr ⟨List.mem_of_getElem? h, g⟩
theorem lw_all_tbl {w : Cond} (h : w ∈ lw_all) : w ∈ lw_tbl := (List.mem_filter.mp h).1
theorem lw_self : GoodIn lw_all lw_all := fun w h => ⟨h, good_of_word (List.mem_filter.mp h).2⟩
/-- a class's field words, by their places -/
theorem lw_in (ws : List Cond) (ps : List Nat) (hp : ws = ps.filterMap (fun i => lw_tbl[i]?)) (hg : ws.all goodWord = true) : ∀ w ∈ ws, w ∈ lw_all := by
  intro w h
  have h1 := List.all_eq_true.mp hg w h
  rw [hp] at h
  obtain ⟨i, -, hi⟩ := List.mem_filterMap.mp h
  exact lw_w i hi h1
/-- the words of a contract for the method y with code b, L locals, answer r -/
abbrev ws_ (y : MethodName) (b : ByteArray) (L : Nat) (r : Option FieldType) : List Cond := Cond.code y b L r :: lw_all
theorem lw_meth {y : MethodName} {b : ByteArray} {L : Nat} {r : Option FieldType} (h : Cond.code y b L r ∈ lw_all) : GoodIn lw_all (ws_ y b L r) := by
  intro w hw
  rcases List.mem_cons.mp hw with e | e
  · rw [e]
    exact lw_self _ h
  · exact lw_self _ e
theorem lw_app {a c : List Cond} (ha : ∀ w ∈ a, w ∈ lw_all) (hc : GoodIn lw_all c) : GoodIn lw_all (a ++ c) := by
  intro w hw
  rcases List.mem_append.mp hw with e | e
  · exact lw_self w (ha w e)
  · exact hc w e
/-- what a call through an object asks: cwV n hts (lw_V ..) -/
theorem lw_V {own : String} {idx : Nat} {C : String} {y : MethodName} {b : ByteArray} {L : Nat} {r : Option FieldType} (h1 : Cond.methodLink own idx y ∈ lw_all) (h2 : Cond.instanceMethod y ∈ lw_all) (h3 : Cond.selects C y y ∈ lw_all) (h4 : Cond.initialized C ∈ lw_all) (h5 : Cond.code y b L r ∈ lw_all) : GoodIn lw_all (wsV own idx C y (ws_ y b L r)) := by
  refine lw_app ?_ (lw_meth h5)
  intro w hw
  simp only [List.mem_cons, List.not_mem_nil, or_false] at hw
  rcases hw with e | e | e | e
  · rw [e]; exact h1
  · rw [e]; exact h2
  · rw [e]; exact h3
  · rw [e]; exact h4
/-- what a static call asks: va_cwS n hts (lw_S ..) -/
theorem lw_S {own : String} {idx : Nat} {y : MethodName} {b : ByteArray} {L : Nat} {r : Option FieldType} (h1 : Cond.methodLink own idx y ∈ lw_all) (h2 : Cond.static y ∈ lw_all) (h3 : Cond.initialized y.cls ∈ lw_all) (h4 : Cond.code y b L r ∈ lw_all) : GoodIn lw_all (va_wsS own idx y (ws_ y b L r)) := by
  refine lw_app ?_ (lw_meth h4)
  intro w hw
  simp only [List.mem_cons, List.not_mem_nil, or_false] at hw
  rcases hw with e | e | e
  · rw [e]; exact h1
  · rw [e]; exact h2
  · rw [e]; exact h3
/-- the words of a contract for a method WITH HANDLERS (hh: its table) -/
abbrev wsW_ (y : MethodName) (b : ByteArray) (L : Nat) (r : Option FieldType) (hh : List (Nat × Nat × Nat × Nat)) : List Cond := Cond.codeWith y b L r hh :: lw_all
theorem lw_methW {y : MethodName} {b : ByteArray} {L : Nat} {r : Option FieldType} {hh : List (Nat × Nat × Nat × Nat)} (h : Cond.codeWith y b L r hh ∈ lw_all) : GoodIn lw_all (wsW_ y b L r hh) := by
  intro w hw
  rcases List.mem_cons.mp hw with e | e
  · rw [e]
    exact lw_self _ h
  · exact lw_self _ e
/-- any list of words by their places (lw_in), good -/
theorem lw_good {ws : List Cond} (h : ∀ w ∈ ws, w ∈ lw_all) : GoodIn lw_all ws := fun w hw => lw_self w (h w hw)
/-- what a call of a method with handlers asks: vx_cwVW n hts (lw_VW ..), vx_cwSW n hts (lw_SW ..) -/
theorem lw_VW {own : String} {idx : Nat} {C : String} {y : MethodName} {b : ByteArray} {L : Nat} {r : Option FieldType} {hh : List (Nat × Nat × Nat × Nat)} (h1 : Cond.methodLink own idx y ∈ lw_all) (h2 : Cond.instanceMethod y ∈ lw_all) (h3 : Cond.selects C y y ∈ lw_all) (h4 : Cond.initialized C ∈ lw_all) (h5 : Cond.codeWith y b L r hh ∈ lw_all) : GoodIn lw_all (wsV own idx C y (wsW_ y b L r hh)) := by
  refine lw_app ?_ (lw_methW h5)
  intro w hw
  simp only [List.mem_cons, List.not_mem_nil, or_false] at hw
  rcases hw with e | e | e | e
  · rw [e]; exact h1
  · rw [e]; exact h2
  · rw [e]; exact h3
  · rw [e]; exact h4
theorem lw_SW {own : String} {idx : Nat} {y : MethodName} {b : ByteArray} {L : Nat} {r : Option FieldType} {hh : List (Nat × Nat × Nat × Nat)} (h1 : Cond.methodLink own idx y ∈ lw_all) (h2 : Cond.static y ∈ lw_all) (h3 : Cond.initialized y.cls ∈ lw_all) (h4 : Cond.codeWith y b L r hh ∈ lw_all) : GoodIn lw_all (va_wsS own idx y (wsW_ y b L r hh)) := by
  refine lw_app ?_ (lw_methW h4)
  intro w hw
  simp only [List.mem_cons, List.not_mem_nil, or_false] at hw
  rcases hw with e | e | e
  · rw [e]; exact h1
  · rw [e]; exact h2
  · rw [e]; exact h3
/-- a word by its place in its run of the tables -/
theorem lw_at {r : List Cond} (hr : ∀ w ∈ r, w ∈ lw_tbl) {w : Cond} (i : Nat) (h : r[i]? = some w) : w ∈ lw_tbl := hr w (List.mem_of_getElem? h)
theorem lw_g {w : Cond} (h : w ∈ lw_tbl) (g : goodWord w = true) : w ∈ lw_all := List.mem_filter.mpr ⟨h, g⟩
theorem lw_ms : ∀ w ∈ k2_sels lw_privs, w ∈ lw_tbl := fun w h => show w ∈ k2_sels lw_privs ++ tables_1 from List.mem_append_left _ h
theorem lw_m1 : ∀ w ∈ tables_1_1, w ∈ lw_tbl := fun w h => show w ∈ k2_sels lw_privs ++ tables_1 from List.mem_append_right (k2_sels lw_privs) (show w ∈ tables_1 from List.mem_append_left _ h)
theorem lw_m2 : ∀ w ∈ tables_1_2, w ∈ lw_tbl := fun w h => show w ∈ k2_sels lw_privs ++ tables_1 from List.mem_append_right (k2_sels lw_privs) (show w ∈ tables_1 from List.mem_append_right _ (List.mem_append_left _ h))
theorem lw_m3 : ∀ w ∈ tables_1_3, w ∈ lw_tbl := fun w h => show w ∈ k2_sels lw_privs ++ tables_1 from List.mem_append_right (k2_sels lw_privs) (show w ∈ tables_1 from List.mem_append_right _ (List.mem_append_right _ (List.mem_append_left _ h)))
theorem lw_m4 : ∀ w ∈ tables_1_4, w ∈ lw_tbl := fun w h => show w ∈ k2_sels lw_privs ++ tables_1 from List.mem_append_right (k2_sels lw_privs) (show w ∈ tables_1 from List.mem_append_right _ (List.mem_append_right _ (List.mem_append_right _ (List.mem_append_left _ h))))
theorem lw_m5 : ∀ w ∈ tables_1_5, w ∈ lw_tbl := fun w h => show w ∈ k2_sels lw_privs ++ tables_1 from List.mem_append_right (k2_sels lw_privs) (show w ∈ tables_1 from List.mem_append_right _ (List.mem_append_right _ (List.mem_append_right _ (List.mem_append_right _ h))))
theorem qs0 : (Cond.selects "ParticleBox" ⟨"ParticleBox", "from", "(LParticleBox$Atom;LParticleBox$Atom;)V"⟩ ⟨"ParticleBox", "from", "(LParticleBox$Atom;LParticleBox$Atom;)V"⟩) ∈ lw_all := lw_g (lw_at lw_ms 0 rfl) rfl
theorem qs1 : (Cond.selects "ParticleBox" ⟨"ParticleBox", "shortest", "(D)D"⟩ ⟨"ParticleBox", "shortest", "(D)D"⟩) ∈ lw_all := lw_g (lw_at lw_ms 1 rfl) rfl
theorem qs2 : (Cond.selects "ParticleBox" ⟨"ParticleBox", "classOf", "(LParticleBox$Sort;LParticleBox$Sort;)I"⟩ ⟨"ParticleBox", "classOf", "(LParticleBox$Sort;LParticleBox$Sort;)I"⟩) ∈ lw_all := lw_g (lw_at lw_ms 2 rfl) rfl
theorem qs3 : (Cond.selects "java/lang/Throwable" ⟨"java/lang/Throwable", "fillInStackTrace", "(I)Ljava/lang/Throwable;"⟩ ⟨"java/lang/Throwable", "fillInStackTrace", "(I)Ljava/lang/Throwable;"⟩) ∈ lw_all := lw_g (lw_at lw_ms 3 rfl) rfl
theorem qs4 : (Cond.selects "ParticleBox" ⟨"ParticleBox", "wrapped", "(D)D"⟩ ⟨"ParticleBox", "wrapped", "(D)D"⟩) ∈ lw_all := lw_g (lw_at lw_ms 4 rfl) rfl
theorem qs5 : (Cond.selects "ParticleBox" ⟨"ParticleBox", "at", "(I)LParticleBox$Atom;"⟩ ⟨"ParticleBox", "at", "(I)LParticleBox$Atom;"⟩) ∈ lw_all := lw_g (lw_at lw_ms 5 rfl) rfl
theorem qs6 : (Cond.selects "ParticleBox" ⟨"ParticleBox", "advance", "(D)I"⟩ ⟨"ParticleBox", "advance", "(D)I"⟩) ∈ lw_all := lw_g (lw_at lw_ms 6 rfl) rfl
theorem qs7 : (Cond.selects "ParticleBox" ⟨"ParticleBox", "forces", "()V"⟩ ⟨"ParticleBox", "forces", "()V"⟩) ∈ lw_all := lw_g (lw_at lw_ms 7 rfl) rfl
theorem qs8 : (Cond.selects "ParticleBox" ⟨"ParticleBox", "list", "()V"⟩ ⟨"ParticleBox", "list", "()V"⟩) ∈ lw_all := lw_g (lw_at lw_ms 8 rfl) rfl
theorem qs9 : (Cond.selects "ParticleBox" ⟨"ParticleBox", "outdated", "()Z"⟩ ⟨"ParticleBox", "outdated", "()Z"⟩) ∈ lw_all := lw_g (lw_at lw_ms 9 rfl) rfl
theorem qs10 : (Cond.selects "ParticleBox" ⟨"ParticleBox", "forceOn", "(LParticleBox$Atom;[II)V"⟩ ⟨"ParticleBox", "forceOn", "(LParticleBox$Atom;[II)V"⟩) ∈ lw_all := lw_g (lw_at lw_ms 10 rfl) rfl
theorem qs11 : (Cond.selects "ParticleBox" ⟨"ParticleBox", "failure", "(I)Ljava/lang/ArithmeticException;"⟩ ⟨"ParticleBox", "failure", "(I)Ljava/lang/ArithmeticException;"⟩) ∈ lw_all := lw_g (lw_at lw_ms 11 rfl) rfl
theorem qs12 : (Cond.selects "ParticleBox" ⟨"ParticleBox", "pull", "(LParticleBox$Atom;LParticleBox$Tie;)V"⟩ ⟨"ParticleBox", "pull", "(LParticleBox$Atom;LParticleBox$Tie;)V"⟩) ∈ lw_all := lw_g (lw_at lw_ms 12 rfl) rfl
theorem qs13 : (Cond.selects "ParticleBox$Neighbourhood" ⟨"ParticleBox$Neighbourhood", "sixth", "(D)D"⟩ ⟨"ParticleBox$Neighbourhood", "sixth", "(D)D"⟩) ∈ lw_all := lw_g (lw_at lw_ms 13 rfl) rfl
theorem qs14 : (Cond.selects "ParticleBox$Neighbourhood" ⟨"ParticleBox$Neighbourhood", "strength", "()D"⟩ ⟨"ParticleBox$Neighbourhood", "strength", "()D"⟩) ∈ lw_all := lw_g (lw_at lw_ms 14 rfl) rfl
theorem qs15 : (Cond.selects "ParticleBox" ⟨"ParticleBox", "pushAll", "(D)V"⟩ ⟨"ParticleBox", "pushAll", "(D)V"⟩) ∈ lw_all := lw_g (lw_at lw_ms 15 rfl) rfl
theorem qs16 : (Cond.selects "ParticleBox" ⟨"ParticleBox", "checkSpeeds", "()V"⟩ ⟨"ParticleBox", "checkSpeeds", "()V"⟩) ∈ lw_all := lw_g (lw_at lw_ms 16 rfl) rfl
theorem qs17 : (Cond.selects "ParticleBox" ⟨"ParticleBox", "straightenAll", "()I"⟩ ⟨"ParticleBox", "straightenAll", "()I"⟩) ∈ lw_all := lw_g (lw_at lw_ms 17 rfl) rfl
theorem qs18 : (Cond.selects "ParticleBox" ⟨"ParticleBox", "straighten", "(LParticleBox$Rod;)Z"⟩ ⟨"ParticleBox", "straighten", "(LParticleBox$Rod;)Z"⟩) ∈ lw_all := lw_g (lw_at lw_ms 18 rfl) rfl
theorem qs19 : (Cond.selects "ParticleBox" ⟨"ParticleBox", "rescale", "(D)V"⟩ ⟨"ParticleBox", "rescale", "(D)V"⟩) ∈ lw_all := lw_g (lw_at lw_ms 19 rfl) rfl
theorem qs20 : (Cond.selects "ParticleBox" ⟨"ParticleBox", "checkOverlap", "()V"⟩ ⟨"ParticleBox", "checkOverlap", "()V"⟩) ∈ lw_all := lw_g (lw_at lw_ms 20 rfl) rfl
theorem qs21 : (Cond.selects "ParticleBox" ⟨"ParticleBox", "pairEnergy", "()D"⟩ ⟨"ParticleBox", "pairEnergy", "()D"⟩) ∈ lw_all := lw_g (lw_at lw_ms 21 rfl) rfl
theorem qs22 : (Cond.selects "ParticleBoxModel" ⟨"ParticleBoxModel", "bad", "(Z)Z"⟩ ⟨"ParticleBoxModel", "bad", "(Z)Z"⟩) ∈ lw_all := lw_g (lw_at lw_ms 22 rfl) rfl
theorem qs23 : (Cond.selects "ParticleBoxModel" ⟨"ParticleBoxModel", "wrapped", "(D)D"⟩ ⟨"ParticleBoxModel", "wrapped", "(D)D"⟩) ∈ lw_all := lw_g (lw_at lw_ms 23 rfl) rfl
theorem qs24 : (Cond.selects "ParticleBoxModel" ⟨"ParticleBoxModel", "isAtom", "(I)Z"⟩ ⟨"ParticleBoxModel", "isAtom", "(I)Z"⟩) ∈ lw_all := lw_g (lw_at lw_ms 24 rfl) rfl
theorem qs25 : (Cond.selects "ParticleBoxModel" ⟨"ParticleBoxModel", "oneStep", "(D)I"⟩ ⟨"ParticleBoxModel", "oneStep", "(D)I"⟩) ∈ lw_all := lw_g (lw_at lw_ms 25 rfl) rfl
theorem qs26 : (Cond.selects "ParticleBoxModel" ⟨"ParticleBoxModel", "forces", "()Z"⟩ ⟨"ParticleBoxModel", "forces", "()Z"⟩) ∈ lw_all := lw_g (lw_at lw_ms 26 rfl) rfl
theorem qs27 : (Cond.selects "ParticleBoxModel" ⟨"ParticleBoxModel", "neighbours", "()V"⟩ ⟨"ParticleBoxModel", "neighbours", "()V"⟩) ∈ lw_all := lw_g (lw_at lw_ms 27 rfl) rfl
theorem qs28 : (Cond.selects "ParticleBoxModel" ⟨"ParticleBoxModel", "way", "(DDDD)V"⟩ ⟨"ParticleBoxModel", "way", "(DDDD)V"⟩) ∈ lw_all := lw_g (lw_at lw_ms 28 rfl) rfl
theorem qs29 : (Cond.selects "ParticleBoxModel" ⟨"ParticleBoxModel", "nearest", "(D)D"⟩ ⟨"ParticleBoxModel", "nearest", "(D)D"⟩) ∈ lw_all := lw_g (lw_at lw_ms 29 rfl) rfl
theorem qs30 : (Cond.selects "ParticleBoxModel" ⟨"ParticleBoxModel", "overlap", "()Z"⟩ ⟨"ParticleBoxModel", "overlap", "()Z"⟩) ∈ lw_all := lw_g (lw_at lw_ms 30 rfl) rfl
theorem qs31 : (Cond.selects "ParticleBoxModel" ⟨"ParticleBoxModel", "between", "(II)V"⟩ ⟨"ParticleBoxModel", "between", "(II)V"⟩) ∈ lw_all := lw_g (lw_at lw_ms 31 rfl) rfl
theorem qs32 : (Cond.selects "ParticleBoxModel" ⟨"ParticleBoxModel", "findForce", "(I)V"⟩ ⟨"ParticleBoxModel", "findForce", "(I)V"⟩) ∈ lw_all := lw_g (lw_at lw_ms 32 rfl) rfl
theorem qs33 : (Cond.selects "ParticleBoxModel" ⟨"ParticleBoxModel", "isPair", "(II)Z"⟩ ⟨"ParticleBoxModel", "isPair", "(II)Z"⟩) ∈ lw_all := lw_g (lw_at lw_ms 33 rfl) rfl
theorem qs34 : (Cond.selects "ParticleBoxModel" ⟨"ParticleBoxModel", "deep", "(II)D"⟩ ⟨"ParticleBoxModel", "deep", "(II)D"⟩) ∈ lw_all := lw_g (lw_at lw_ms 34 rfl) rfl
theorem qs35 : (Cond.selects "ParticleBoxModel" ⟨"ParticleBoxModel", "sixth", "(II)D"⟩ ⟨"ParticleBoxModel", "sixth", "(II)D"⟩) ∈ lw_all := lw_g (lw_at lw_ms 35 rfl) rfl
theorem qs36 : (Cond.selects "ParticleBoxModel" ⟨"ParticleBoxModel", "charges", "(II)D"⟩ ⟨"ParticleBoxModel", "charges", "(II)D"⟩) ∈ lw_all := lw_g (lw_at lw_ms 36 rfl) rfl
theorem qs37 : (Cond.selects "ParticleBoxModel" ⟨"ParticleBoxModel", "kick", "(D)V"⟩ ⟨"ParticleBoxModel", "kick", "(D)V"⟩) ∈ lw_all := lw_g (lw_at lw_ms 37 rfl) rfl
theorem qs38 : (Cond.selects "ParticleBoxModel" ⟨"ParticleBoxModel", "blown", "()Z"⟩ ⟨"ParticleBoxModel", "blown", "()Z"⟩) ∈ lw_all := lw_g (lw_at lw_ms 38 rfl) rfl
theorem qs39 : (Cond.selects "ParticleBoxModel" ⟨"ParticleBoxModel", "keepRods", "()Z"⟩ ⟨"ParticleBoxModel", "keepRods", "()Z"⟩) ∈ lw_all := lw_g (lw_at lw_ms 39 rfl) rfl
theorem qs40 : (Cond.selects "ParticleBoxModel" ⟨"ParticleBoxModel", "turn", "(I)I"⟩ ⟨"ParticleBoxModel", "turn", "(I)I"⟩) ∈ lw_all := lw_g (lw_at lw_ms 40 rfl) rfl
theorem qs41 : (Cond.selects "ParticleBoxModel" ⟨"ParticleBoxModel", "undo", "()V"⟩ ⟨"ParticleBoxModel", "undo", "()V"⟩) ∈ lw_all := lw_g (lw_at lw_ms 41 rfl) rfl
theorem qs42 : (Cond.selects "ParticleBoxModel" ⟨"ParticleBoxModel", "warm", "(D)D"⟩ ⟨"ParticleBoxModel", "warm", "(D)D"⟩) ∈ lw_all := lw_g (lw_at lw_ms 42 rfl) rfl
theorem qs43 : (Cond.selects "ParticleBoxModel" ⟨"ParticleBoxModel", "findTemperature", "()D"⟩ ⟨"ParticleBoxModel", "findTemperature", "()D"⟩) ∈ lw_all := lw_g (lw_at lw_ms 43 rfl) rfl
