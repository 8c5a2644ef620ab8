/-! ParticleBox -/
set_option maxRecDepth 100000
def RX1 : String := "ParticleBox"
def TX1 : u_T := fun k => match k with
  | 0 => ("ParticleBox", "side", "D", true)
  | 1 => ("ParticleBox", "cut", "D", false)
  | 2 => ("ParticleBox", "skin", "D", false)
  | 3 => ("ParticleBox", "warmth", "D", false)
  | 4 => ("ParticleBox", "sorts", "[LParticleBox$Sort;", true)
  | 5 => ("ParticleBox", "atoms", "[LParticleBox$Atom;", true)
  | 6 => ("ParticleBox", "bonds", "[LParticleBox$Bond;", true)
  | 7 => ("ParticleBox", "rods", "[LParticleBox$Rod;", true)
  | 8 => ("ParticleBox", "atomCount", "I", false)
  | 9 => ("ParticleBox", "bondCount", "I", false)
  | 10 => ("ParticleBox", "rodCount", "I", false)
  | 11 => ("ParticleBox", "near", "LParticleBox$Neighbourhood;", true)
  | 12 => ("ParticleBox", "way", "LParticleBox$Way;", true)
  | 13 => ("ParticleBox", "before", "LParticleBox$Way;", true)
  | 14 => ("ParticleBox", "neighbours", "[[I", true)
  | 15 => ("ParticleBox", "neighbourCount", "[I", true)
  | 16 => ("ParticleBox", "listed", "Z", false)
  | 17 => ("ParticleBox", "saved", "[[D", true)
  | 18 => ("ParticleBox", "histogram", "[[I", true)
  | 19 => ("ParticleBox", "steps", "I", false)
  | 20 => ("ParticleBox", "lists", "I", false)
  | 21 => ("ParticleBox", "rounds", "I", false)
  | 22 => ("ParticleBox", "samples", "I", false)
  | 23 => ("ParticleBox", "failures", "[I", true)
  | _ => ("ParticleBox", "failing", "I", false)
def tyX1 : Nat → FieldType := fun k => match k with
  | 0 => .double
  | 1 => .double
  | 2 => .double
  | 3 => .double
  | 4 => .array (.object "ParticleBox$Sort")
  | 5 => .array (.object "ParticleBox$Atom")
  | 6 => .array (.object "ParticleBox$Bond")
  | 7 => .array (.object "ParticleBox$Rod")
  | 8 => .int
  | 9 => .int
  | 10 => .int
  | 11 => .object "ParticleBox$Neighbourhood"
  | 12 => .object "ParticleBox$Way"
  | 13 => .object "ParticleBox$Way"
  | 14 => .array (.array .int)
  | 15 => .array .int
  | 16 => .boolean
  | 17 => .array (.array .double)
  | 18 => .array (.array .int)
  | 19 => .int
  | 20 => .int
  | 21 => .int
  | 22 => .int
  | 23 => .array .int
  | _ => .int
abbrev wsX10 : List Cond := u_ws RX1 TX1 25
set_option maxRecDepth 100000 in
theorem nmX1 : ∀ a, a < 25 → ∀ b, b < 25 → a ≠ b → (TX1 a).2.1 ≠ (TX1 b).2.1 := by decide +kernel
set_option maxRecDepth 100000 in
theorem tyX1_ok : ∀ k, k < 25 → parseFieldDescriptor (TX1 k).2.2.1 = some (tyX1 k) := by decide +kernel
abbrev cX1_init : ByteArray := prog_1_method_1_code
def yX1_init : MethodName := ⟨RX1, "<init>", "(I)V"⟩
theorem dX1_init_0 : decode cX1_init 0 = .ok (.aload_n 0, 1) := by decide +kernel
theorem dX1_init_1 : decode cX1_init 1 = .ok (.invokespecial 1, 3) := by decide +kernel
theorem dX1_init_4 : decode cX1_init 4 = .ok (.aload_n 0, 1) := by decide +kernel
theorem dX1_init_5 : decode cX1_init 5 = .ok (.ldc2_w 7, 3) := by decide +kernel
theorem dX1_init_8 : decode cX1_init 8 = .ok (.putfield 9, 3) := by decide +kernel
theorem dX1_init_11 : decode cX1_init 11 = .ok (.aload_n 0, 1) := by decide +kernel
theorem dX1_init_12 : decode cX1_init 12 = .ok (.ldc2_w 15, 3) := by decide +kernel
theorem dX1_init_15 : decode cX1_init 15 = .ok (.putfield 17, 3) := by decide +kernel
theorem dX1_init_18 : decode cX1_init 18 = .ok (.aload_n 0, 1) := by decide +kernel
theorem dX1_init_19 : decode cX1_init 19 = .ok (.iconst 3, 1) := by decide +kernel
theorem dX1_init_20 : decode cX1_init 20 = .ok (.anewarray 20, 3) := by decide +kernel
theorem dX1_init_23 : decode cX1_init 23 = .ok (.dup, 1) := by decide +kernel
theorem dX1_init_24 : decode cX1_init 24 = .ok (.iconst 0, 1) := by decide +kernel
theorem dX1_init_25 : decode cX1_init 25 = .ok (.new 20, 3) := by decide +kernel
theorem dX1_init_28 : decode cX1_init 28 = .ok (.dup, 1) := by decide +kernel
theorem dX1_init_29 : decode cX1_init 29 = .ok (.invokespecial 22, 3) := by decide +kernel
theorem dX1_init_32 : decode cX1_init 32 = .ok (.aastore, 1) := by decide +kernel
theorem dX1_init_33 : decode cX1_init 33 = .ok (.dup, 1) := by decide +kernel
theorem dX1_init_34 : decode cX1_init 34 = .ok (.iconst 1, 1) := by decide +kernel
theorem dX1_init_35 : decode cX1_init 35 = .ok (.new 20, 3) := by decide +kernel
theorem dX1_init_38 : decode cX1_init 38 = .ok (.dup, 1) := by decide +kernel
theorem dX1_init_39 : decode cX1_init 39 = .ok (.invokespecial 22, 3) := by decide +kernel
theorem dX1_init_42 : decode cX1_init 42 = .ok (.aastore, 1) := by decide +kernel
theorem dX1_init_43 : decode cX1_init 43 = .ok (.dup, 1) := by decide +kernel
theorem dX1_init_44 : decode cX1_init 44 = .ok (.iconst 2, 1) := by decide +kernel
theorem dX1_init_45 : decode cX1_init 45 = .ok (.new 20, 3) := by decide +kernel
theorem dX1_init_48 : decode cX1_init 48 = .ok (.dup, 1) := by decide +kernel
theorem dX1_init_49 : decode cX1_init 49 = .ok (.invokespecial 22, 3) := by decide +kernel
theorem dX1_init_52 : decode cX1_init 52 = .ok (.aastore, 1) := by decide +kernel
theorem dX1_init_53 : decode cX1_init 53 = .ok (.putfield 23, 3) := by decide +kernel
theorem dX1_init_56 : decode cX1_init 56 = .ok (.aload_n 0, 1) := by decide +kernel
theorem dX1_init_57 : decode cX1_init 57 = .ok (.bipush 10, 2) := by decide +kernel
theorem dX1_init_59 : decode cX1_init 59 = .ok (.anewarray 27, 3) := by decide +kernel
theorem dX1_init_62 : decode cX1_init 62 = .ok (.putfield 29, 3) := by decide +kernel
theorem dX1_init_65 : decode cX1_init 65 = .ok (.aload_n 0, 1) := by decide +kernel
theorem dX1_init_66 : decode cX1_init 66 = .ok (.bipush 8, 2) := by decide +kernel
theorem dX1_init_68 : decode cX1_init 68 = .ok (.anewarray 33, 3) := by decide +kernel
theorem dX1_init_71 : decode cX1_init 71 = .ok (.putfield 35, 3) := by decide +kernel
theorem dX1_init_74 : decode cX1_init 74 = .ok (.aload_n 0, 1) := by decide +kernel
theorem dX1_init_75 : decode cX1_init 75 = .ok (.iconst 4, 1) := by decide +kernel
theorem dX1_init_76 : decode cX1_init 76 = .ok (.anewarray 39, 3) := by decide +kernel
theorem dX1_init_79 : decode cX1_init 79 = .ok (.putfield 41, 3) := by decide +kernel
theorem dX1_init_82 : decode cX1_init 82 = .ok (.aload_n 0, 1) := by decide +kernel
theorem dX1_init_83 : decode cX1_init 83 = .ok (.new 45, 3) := by decide +kernel
theorem dX1_init_86 : decode cX1_init 86 = .ok (.dup, 1) := by decide +kernel
theorem dX1_init_87 : decode cX1_init 87 = .ok (.invokespecial 47, 3) := by decide +kernel
theorem dX1_init_90 : decode cX1_init 90 = .ok (.putfield 48, 3) := by decide +kernel
theorem dX1_init_93 : decode cX1_init 93 = .ok (.aload_n 0, 1) := by decide +kernel
theorem dX1_init_94 : decode cX1_init 94 = .ok (.new 52, 3) := by decide +kernel
theorem dX1_init_97 : decode cX1_init 97 = .ok (.dup, 1) := by decide +kernel
theorem dX1_init_98 : decode cX1_init 98 = .ok (.invokespecial 54, 3) := by decide +kernel
theorem dX1_init_101 : decode cX1_init 101 = .ok (.putfield 55, 3) := by decide +kernel
theorem dX1_init_104 : decode cX1_init 104 = .ok (.aload_n 0, 1) := by decide +kernel
theorem dX1_init_105 : decode cX1_init 105 = .ok (.new 52, 3) := by decide +kernel
theorem dX1_init_108 : decode cX1_init 108 = .ok (.dup, 1) := by decide +kernel
theorem dX1_init_109 : decode cX1_init 109 = .ok (.invokespecial 54, 3) := by decide +kernel
theorem dX1_init_112 : decode cX1_init 112 = .ok (.putfield 59, 3) := by decide +kernel
theorem dX1_init_115 : decode cX1_init 115 = .ok (.aload_n 0, 1) := by decide +kernel
theorem dX1_init_116 : decode cX1_init 116 = .ok (.bipush 10, 2) := by decide +kernel
theorem dX1_init_118 : decode cX1_init 118 = .ok (.bipush 10, 2) := by decide +kernel
theorem dX1_init_120 : decode cX1_init 120 = .ok (.multianewarray 62 2, 4) := by decide +kernel
theorem dX1_init_124 : decode cX1_init 124 = .ok (.putfield 64, 3) := by decide +kernel
theorem dX1_init_127 : decode cX1_init 127 = .ok (.aload_n 0, 1) := by decide +kernel
theorem dX1_init_128 : decode cX1_init 128 = .ok (.bipush 10, 2) := by decide +kernel
theorem dX1_init_130 : decode cX1_init 130 = .ok (.newarray .int, 2) := by decide +kernel
theorem dX1_init_132 : decode cX1_init 132 = .ok (.putfield 67, 3) := by decide +kernel
theorem dX1_init_135 : decode cX1_init 135 = .ok (.aload_n 0, 1) := by decide +kernel
theorem dX1_init_136 : decode cX1_init 136 = .ok (.bipush 10, 2) := by decide +kernel
theorem dX1_init_138 : decode cX1_init 138 = .ok (.iconst 4, 1) := by decide +kernel
theorem dX1_init_139 : decode cX1_init 139 = .ok (.multianewarray 71 2, 4) := by decide +kernel
theorem dX1_init_143 : decode cX1_init 143 = .ok (.putfield 73, 3) := by decide +kernel
theorem dX1_init_146 : decode cX1_init 146 = .ok (.aload_n 0, 1) := by decide +kernel
theorem dX1_init_147 : decode cX1_init 147 = .ok (.bipush 9, 2) := by decide +kernel
theorem dX1_init_149 : decode cX1_init 149 = .ok (.bipush 16, 2) := by decide +kernel
theorem dX1_init_151 : decode cX1_init 151 = .ok (.multianewarray 62 2, 4) := by decide +kernel
theorem dX1_init_155 : decode cX1_init 155 = .ok (.putfield 76, 3) := by decide +kernel
theorem dX1_init_158 : decode cX1_init 158 = .ok (.aload_n 0, 1) := by decide +kernel
theorem dX1_init_159 : decode cX1_init 159 = .ok (.iconst 3, 1) := by decide +kernel
theorem dX1_init_160 : decode cX1_init 160 = .ok (.newarray .int, 2) := by decide +kernel
theorem dX1_init_162 : decode cX1_init 162 = .ok (.putfield 79, 3) := by decide +kernel
theorem dX1_init_165 : decode cX1_init 165 = .ok (.aload_n 0, 1) := by decide +kernel
theorem dX1_init_166 : decode cX1_init 166 = .ok (.bipush 8, 2) := by decide +kernel
theorem dX1_init_168 : decode cX1_init 168 = .ok (.bipush 64, 2) := by decide +kernel
theorem dX1_init_170 : decode cX1_init 170 = .ok (.iload_n 1, 1) := by decide +kernel
theorem dX1_init_171 : decode cX1_init 171 = .ok (.invokestatic 82, 3) := by decide +kernel
theorem dX1_init_174 : decode cX1_init 174 = .ok (.invokestatic 88, 3) := by decide +kernel
theorem dX1_init_177 : decode cX1_init 177 = .ok (.i2d, 1) := by decide +kernel
theorem dX1_init_178 : decode cX1_init 178 = .ok (.ldc2_w 7, 3) := by decide +kernel
theorem dX1_init_181 : decode cX1_init 181 = .ok (.dmul, 1) := by decide +kernel
theorem dX1_init_182 : decode cX1_init 182 = .ok (.putfield 91, 3) := by decide +kernel
theorem dX1_init_185 : decode cX1_init 185 = .ok (.aload_n 0, 1) := by decide +kernel
theorem dX1_init_186 : decode cX1_init 186 = .ok (.aload_n 0, 1) := by decide +kernel
theorem dX1_init_187 : decode cX1_init 187 = .ok (.getfield 91, 3) := by decide +kernel
theorem dX1_init_190 : decode cX1_init 190 = .ok (.ldc2_w 94, 3) := by decide +kernel
theorem dX1_init_193 : decode cX1_init 193 = .ok (.dmul, 1) := by decide +kernel
theorem dX1_init_194 : decode cX1_init 194 = .ok (.putfield 96, 3) := by decide +kernel
theorem dX1_init_197 : decode cX1_init 197 = .ok (.return_, 1) := by decide +kernel
abbrev cX1_temperature : ByteArray := prog_1_method_38_code
def yX1_temperature : MethodName := ⟨RX1, "temperature", "()D"⟩
theorem dX1_temperature_0 : decode cX1_temperature 0 = .ok (.dconst 0, 1) := by decide +kernel
theorem dX1_temperature_1 : decode cX1_temperature 1 = .ok (.dstore_n 1, 1) := by decide +kernel
theorem dX1_temperature_2 : decode cX1_temperature 2 = .ok (.iconst 0, 1) := by decide +kernel
theorem dX1_temperature_3 : decode cX1_temperature 3 = .ok (.istore_n 3, 1) := by decide +kernel
theorem dX1_temperature_4 : decode cX1_temperature 4 = .ok (.iconst 0, 1) := by decide +kernel
theorem dX1_temperature_5 : decode cX1_temperature 5 = .ok (.istore 4, 2) := by decide +kernel
theorem dX1_temperature_7 : decode cX1_temperature 7 = .ok (.iload 4, 2) := by decide +kernel
theorem dX1_temperature_9 : decode cX1_temperature 9 = .ok (.aload_n 0, 1) := by decide +kernel
theorem dX1_temperature_10 : decode cX1_temperature 10 = .ok (.getfield 102, 3) := by decide +kernel
theorem dX1_temperature_13 : decode cX1_temperature 13 = .ok (.if_icmp .ge 61, 3) := by decide +kernel
theorem dX1_temperature_16 : decode cX1_temperature 16 = .ok (.aload_n 0, 1) := by decide +kernel
theorem dX1_temperature_17 : decode cX1_temperature 17 = .ok (.getfield 29, 3) := by decide +kernel
theorem dX1_temperature_20 : decode cX1_temperature 20 = .ok (.iload 4, 2) := by decide +kernel
theorem dX1_temperature_22 : decode cX1_temperature 22 = .ok (.aaload, 1) := by decide +kernel
theorem dX1_temperature_23 : decode cX1_temperature 23 = .ok (.astore 5, 2) := by decide +kernel
theorem dX1_temperature_25 : decode cX1_temperature 25 = .ok (.dload_n 1, 1) := by decide +kernel
theorem dX1_temperature_26 : decode cX1_temperature 26 = .ok (.aload 5, 2) := by decide +kernel
theorem dX1_temperature_28 : decode cX1_temperature 28 = .ok (.getfield 349, 3) := by decide +kernel
theorem dX1_temperature_31 : decode cX1_temperature 31 = .ok (.aload 5, 2) := by decide +kernel
theorem dX1_temperature_33 : decode cX1_temperature 33 = .ok (.getfield 162, 3) := by decide +kernel
theorem dX1_temperature_36 : decode cX1_temperature 36 = .ok (.aload 5, 2) := by decide +kernel
theorem dX1_temperature_38 : decode cX1_temperature 38 = .ok (.getfield 162, 3) := by decide +kernel
theorem dX1_temperature_41 : decode cX1_temperature 41 = .ok (.dmul, 1) := by decide +kernel
theorem dX1_temperature_42 : decode cX1_temperature 42 = .ok (.aload 5, 2) := by decide +kernel
theorem dX1_temperature_44 : decode cX1_temperature 44 = .ok (.getfield 165, 3) := by decide +kernel
theorem dX1_temperature_47 : decode cX1_temperature 47 = .ok (.aload 5, 2) := by decide +kernel
theorem dX1_temperature_49 : decode cX1_temperature 49 = .ok (.getfield 165, 3) := by decide +kernel
theorem dX1_temperature_52 : decode cX1_temperature 52 = .ok (.dmul, 1) := by decide +kernel
theorem dX1_temperature_53 : decode cX1_temperature 53 = .ok (.dadd, 1) := by decide +kernel
theorem dX1_temperature_54 : decode cX1_temperature 54 = .ok (.dmul, 1) := by decide +kernel
theorem dX1_temperature_55 : decode cX1_temperature 55 = .ok (.dadd, 1) := by decide +kernel
theorem dX1_temperature_56 : decode cX1_temperature 56 = .ok (.dstore_n 1, 1) := by decide +kernel
theorem dX1_temperature_57 : decode cX1_temperature 57 = .ok (.aload 5, 2) := by decide +kernel
theorem dX1_temperature_59 : decode cX1_temperature 59 = .ok (.getfield 195, 3) := by decide +kernel
theorem dX1_temperature_62 : decode cX1_temperature 62 = .ok (.ifCond .ne 6, 3) := by decide +kernel
theorem dX1_temperature_65 : decode cX1_temperature 65 = .ok (.iinc 3 1, 3) := by decide +kernel
theorem dX1_temperature_68 : decode cX1_temperature 68 = .ok (.iinc 4 1, 3) := by decide +kernel
theorem dX1_temperature_71 : decode cX1_temperature 71 = .ok (.goto (-64), 3) := by decide +kernel
theorem dX1_temperature_74 : decode cX1_temperature 74 = .ok (.iload_n 3, 1) := by decide +kernel
theorem dX1_temperature_75 : decode cX1_temperature 75 = .ok (.ifCond .ne 7, 3) := by decide +kernel
theorem dX1_temperature_78 : decode cX1_temperature 78 = .ok (.dconst 0, 1) := by decide +kernel
theorem dX1_temperature_79 : decode cX1_temperature 79 = .ok (.goto 11, 3) := by decide +kernel
theorem dX1_temperature_82 : decode cX1_temperature 82 = .ok (.dload_n 1, 1) := by decide +kernel
theorem dX1_temperature_83 : decode cX1_temperature 83 = .ok (.ldc2_w 282, 3) := by decide +kernel
theorem dX1_temperature_86 : decode cX1_temperature 86 = .ok (.iload_n 3, 1) := by decide +kernel
theorem dX1_temperature_87 : decode cX1_temperature 87 = .ok (.i2d, 1) := by decide +kernel
theorem dX1_temperature_88 : decode cX1_temperature 88 = .ok (.dmul, 1) := by decide +kernel
theorem dX1_temperature_89 : decode cX1_temperature 89 = .ok (.ddiv, 1) := by decide +kernel
theorem dX1_temperature_90 : decode cX1_temperature 90 = .ok (.dreturn, 1) := by decide +kernel
abbrev cX1_sample : ByteArray := prog_1_method_40_code
def yX1_sample : MethodName := ⟨RX1, "sample", "()I"⟩
theorem dX1_sample_0 : decode cX1_sample 0 = .ok (.iconst 0, 1) := by decide +kernel
theorem dX1_sample_1 : decode cX1_sample 1 = .ok (.istore_n 1, 1) := by decide +kernel
theorem dX1_sample_2 : decode cX1_sample 2 = .ok (.iconst 0, 1) := by decide +kernel
theorem dX1_sample_3 : decode cX1_sample 3 = .ok (.istore_n 2, 1) := by decide +kernel
theorem dX1_sample_4 : decode cX1_sample 4 = .ok (.iload_n 2, 1) := by decide +kernel
theorem dX1_sample_5 : decode cX1_sample 5 = .ok (.aload_n 0, 1) := by decide +kernel
theorem dX1_sample_6 : decode cX1_sample 6 = .ok (.getfield 102, 3) := by decide +kernel
theorem dX1_sample_9 : decode cX1_sample 9 = .ok (.if_icmp .ge 129, 3) := by decide +kernel
theorem dX1_sample_12 : decode cX1_sample 12 = .ok (.iload_n 2, 1) := by decide +kernel
theorem dX1_sample_13 : decode cX1_sample 13 = .ok (.iconst 1, 1) := by decide +kernel
theorem dX1_sample_14 : decode cX1_sample 14 = .ok (.iadd, 1) := by decide +kernel
theorem dX1_sample_15 : decode cX1_sample 15 = .ok (.istore_n 3, 1) := by decide +kernel
theorem dX1_sample_16 : decode cX1_sample 16 = .ok (.iload_n 3, 1) := by decide +kernel
theorem dX1_sample_17 : decode cX1_sample 17 = .ok (.aload_n 0, 1) := by decide +kernel
theorem dX1_sample_18 : decode cX1_sample 18 = .ok (.getfield 102, 3) := by decide +kernel
theorem dX1_sample_21 : decode cX1_sample 21 = .ok (.if_icmp .ge 111, 3) := by decide +kernel
theorem dX1_sample_24 : decode cX1_sample 24 = .ok (.aload_n 0, 1) := by decide +kernel
theorem dX1_sample_25 : decode cX1_sample 25 = .ok (.aload_n 0, 1) := by decide +kernel
theorem dX1_sample_26 : decode cX1_sample 26 = .ok (.getfield 29, 3) := by decide +kernel
theorem dX1_sample_29 : decode cX1_sample 29 = .ok (.iload_n 2, 1) := by decide +kernel
theorem dX1_sample_30 : decode cX1_sample 30 = .ok (.aaload, 1) := by decide +kernel
theorem dX1_sample_31 : decode cX1_sample 31 = .ok (.aload_n 0, 1) := by decide +kernel
theorem dX1_sample_32 : decode cX1_sample 32 = .ok (.getfield 29, 3) := by decide +kernel
theorem dX1_sample_35 : decode cX1_sample 35 = .ok (.iload_n 3, 1) := by decide +kernel
theorem dX1_sample_36 : decode cX1_sample 36 = .ok (.aaload, 1) := by decide +kernel
theorem dX1_sample_37 : decode cX1_sample 37 = .ok (.invokevirtual 214, 3) := by decide +kernel
theorem dX1_sample_40 : decode cX1_sample 40 = .ok (.aload_n 0, 1) := by decide +kernel
theorem dX1_sample_41 : decode cX1_sample 41 = .ok (.getfield 55, 3) := by decide +kernel
theorem dX1_sample_44 : decode cX1_sample 44 = .ok (.invokevirtual 204, 3) := by decide +kernel
theorem dX1_sample_47 : decode cX1_sample 47 = .ok (.aload_n 0, 1) := by decide +kernel
theorem dX1_sample_48 : decode cX1_sample 48 = .ok (.getfield 96, 3) := by decide +kernel
theorem dX1_sample_51 : decode cX1_sample 51 = .ok (.aload_n 0, 1) := by decide +kernel
theorem dX1_sample_52 : decode cX1_sample 52 = .ok (.getfield 96, 3) := by decide +kernel
theorem dX1_sample_55 : decode cX1_sample 55 = .ok (.dmul, 1) := by decide +kernel
theorem dX1_sample_56 : decode cX1_sample 56 = .ok (.dcmp .g, 1) := by decide +kernel
theorem dX1_sample_57 : decode cX1_sample 57 = .ok (.ifCond .ge 69, 3) := by decide +kernel
theorem dX1_sample_60 : decode cX1_sample 60 = .ok (.aload_n 0, 1) := by decide +kernel
theorem dX1_sample_61 : decode cX1_sample 61 = .ok (.getfield 55, 3) := by decide +kernel
theorem dX1_sample_64 : decode cX1_sample 64 = .ok (.invokevirtual 204, 3) := by decide +kernel
theorem dX1_sample_67 : decode cX1_sample 67 = .ok (.aload_n 0, 1) := by decide +kernel
theorem dX1_sample_68 : decode cX1_sample 68 = .ok (.getfield 96, 3) := by decide +kernel
theorem dX1_sample_71 : decode cX1_sample 71 = .ok (.aload_n 0, 1) := by decide +kernel
theorem dX1_sample_72 : decode cX1_sample 72 = .ok (.getfield 96, 3) := by decide +kernel
theorem dX1_sample_75 : decode cX1_sample 75 = .ok (.dmul, 1) := by decide +kernel
theorem dX1_sample_76 : decode cX1_sample 76 = .ok (.ldc2_w 352, 3) := by decide +kernel
theorem dX1_sample_79 : decode cX1_sample 79 = .ok (.ddiv, 1) := by decide +kernel
theorem dX1_sample_80 : decode cX1_sample 80 = .ok (.ddiv, 1) := by decide +kernel
theorem dX1_sample_81 : decode cX1_sample 81 = .ok (.d2i, 1) := by decide +kernel
theorem dX1_sample_82 : decode cX1_sample 82 = .ok (.istore 4, 2) := by decide +kernel
theorem dX1_sample_84 : decode cX1_sample 84 = .ok (.aload_n 0, 1) := by decide +kernel
theorem dX1_sample_85 : decode cX1_sample 85 = .ok (.getfield 76, 3) := by decide +kernel
theorem dX1_sample_88 : decode cX1_sample 88 = .ok (.aload_n 0, 1) := by decide +kernel
theorem dX1_sample_89 : decode cX1_sample 89 = .ok (.aload_n 0, 1) := by decide +kernel
theorem dX1_sample_90 : decode cX1_sample 90 = .ok (.getfield 29, 3) := by decide +kernel
theorem dX1_sample_93 : decode cX1_sample 93 = .ok (.iload_n 2, 1) := by decide +kernel
theorem dX1_sample_94 : decode cX1_sample 94 = .ok (.aaload, 1) := by decide +kernel
theorem dX1_sample_95 : decode cX1_sample 95 = .ok (.getfield 354, 3) := by decide +kernel
theorem dX1_sample_98 : decode cX1_sample 98 = .ok (.aload_n 0, 1) := by decide +kernel
theorem dX1_sample_99 : decode cX1_sample 99 = .ok (.getfield 29, 3) := by decide +kernel
theorem dX1_sample_102 : decode cX1_sample 102 = .ok (.iload_n 3, 1) := by decide +kernel
theorem dX1_sample_103 : decode cX1_sample 103 = .ok (.aaload, 1) := by decide +kernel
theorem dX1_sample_104 : decode cX1_sample 104 = .ok (.getfield 354, 3) := by decide +kernel
theorem dX1_sample_107 : decode cX1_sample 107 = .ok (.invokevirtual 358, 3) := by decide +kernel
theorem dX1_sample_110 : decode cX1_sample 110 = .ok (.aaload, 1) := by decide +kernel
theorem dX1_sample_111 : decode cX1_sample 111 = .ok (.iload 4, 2) := by decide +kernel
theorem dX1_sample_113 : decode cX1_sample 113 = .ok (.bipush 15, 2) := by decide +kernel
theorem dX1_sample_115 : decode cX1_sample 115 = .ok (.invokestatic 82, 3) := by decide +kernel
theorem dX1_sample_118 : decode cX1_sample 118 = .ok (.dup2, 1) := by decide +kernel
theorem dX1_sample_119 : decode cX1_sample 119 = .ok (.iaload, 1) := by decide +kernel
theorem dX1_sample_120 : decode cX1_sample 120 = .ok (.iconst 1, 1) := by decide +kernel
theorem dX1_sample_121 : decode cX1_sample 121 = .ok (.iadd, 1) := by decide +kernel
theorem dX1_sample_122 : decode cX1_sample 122 = .ok (.iastore, 1) := by decide +kernel
theorem dX1_sample_123 : decode cX1_sample 123 = .ok (.iinc 1 1, 3) := by decide +kernel
theorem dX1_sample_126 : decode cX1_sample 126 = .ok (.iinc 3 1, 3) := by decide +kernel
theorem dX1_sample_129 : decode cX1_sample 129 = .ok (.goto (-113), 3) := by decide +kernel
theorem dX1_sample_132 : decode cX1_sample 132 = .ok (.iinc 2 1, 3) := by decide +kernel
theorem dX1_sample_135 : decode cX1_sample 135 = .ok (.goto (-131), 3) := by decide +kernel
theorem dX1_sample_138 : decode cX1_sample 138 = .ok (.aload_n 0, 1) := by decide +kernel
theorem dX1_sample_139 : decode cX1_sample 139 = .ok (.dup, 1) := by decide +kernel
theorem dX1_sample_140 : decode cX1_sample 140 = .ok (.getfield 362, 3) := by decide +kernel
theorem dX1_sample_143 : decode cX1_sample 143 = .ok (.iconst 1, 1) := by decide +kernel
theorem dX1_sample_144 : decode cX1_sample 144 = .ok (.iadd, 1) := by decide +kernel
theorem dX1_sample_145 : decode cX1_sample 145 = .ok (.putfield 362, 3) := by decide +kernel
theorem dX1_sample_148 : decode cX1_sample 148 = .ok (.iload_n 1, 1) := by decide +kernel
theorem dX1_sample_149 : decode cX1_sample 149 = .ok (.ireturn, 1) := by decide +kernel
abbrev cX1_from : ByteArray := prog_1_method_9_code
def yX1_from : MethodName := ⟨RX1, "from", "(LParticleBox$Atom;LParticleBox$Atom;)V"⟩
theorem dX1_from_0 : decode cX1_from 0 = .ok (.aload_n 0, 1) := by decide +kernel
theorem dX1_from_1 : decode cX1_from 1 = .ok (.getfield 55, 3) := by decide +kernel
theorem dX1_from_4 : decode cX1_from 4 = .ok (.aload_n 0, 1) := by decide +kernel
theorem dX1_from_5 : decode cX1_from 5 = .ok (.aload_n 2, 1) := by decide +kernel
theorem dX1_from_6 : decode cX1_from 6 = .ok (.getfield 114, 3) := by decide +kernel
theorem dX1_from_9 : decode cX1_from 9 = .ok (.aload_n 1, 1) := by decide +kernel
theorem dX1_from_10 : decode cX1_from 10 = .ok (.getfield 114, 3) := by decide +kernel
theorem dX1_from_13 : decode cX1_from 13 = .ok (.dsub, 1) := by decide +kernel
theorem dX1_from_14 : decode cX1_from 14 = .ok (.invokevirtual 117, 3) := by decide +kernel
theorem dX1_from_17 : decode cX1_from 17 = .ok (.putfield 120, 3) := by decide +kernel
theorem dX1_from_20 : decode cX1_from 20 = .ok (.aload_n 0, 1) := by decide +kernel
theorem dX1_from_21 : decode cX1_from 21 = .ok (.getfield 55, 3) := by decide +kernel
theorem dX1_from_24 : decode cX1_from 24 = .ok (.aload_n 0, 1) := by decide +kernel
theorem dX1_from_25 : decode cX1_from 25 = .ok (.aload_n 2, 1) := by decide +kernel
theorem dX1_from_26 : decode cX1_from 26 = .ok (.getfield 123, 3) := by decide +kernel
theorem dX1_from_29 : decode cX1_from 29 = .ok (.aload_n 1, 1) := by decide +kernel
theorem dX1_from_30 : decode cX1_from 30 = .ok (.getfield 123, 3) := by decide +kernel
theorem dX1_from_33 : decode cX1_from 33 = .ok (.dsub, 1) := by decide +kernel
theorem dX1_from_34 : decode cX1_from 34 = .ok (.invokevirtual 117, 3) := by decide +kernel
theorem dX1_from_37 : decode cX1_from 37 = .ok (.putfield 126, 3) := by decide +kernel
theorem dX1_from_40 : decode cX1_from 40 = .ok (.return_, 1) := by decide +kernel
abbrev cX1_shortest : ByteArray := prog_1_method_8_code
def yX1_shortest : MethodName := ⟨RX1, "shortest", "(D)D"⟩
theorem dX1_shortest_0 : decode cX1_shortest 0 = .ok (.dload_n 1, 1) := by decide +kernel
theorem dX1_shortest_1 : decode cX1_shortest 1 = .ok (.aload_n 0, 1) := by decide +kernel
theorem dX1_shortest_2 : decode cX1_shortest 2 = .ok (.getfield 91, 3) := by decide +kernel
theorem dX1_shortest_5 : decode cX1_shortest 5 = .ok (.dload_n 1, 1) := by decide +kernel
theorem dX1_shortest_6 : decode cX1_shortest 6 = .ok (.aload_n 0, 1) := by decide +kernel
theorem dX1_shortest_7 : decode cX1_shortest 7 = .ok (.getfield 91, 3) := by decide +kernel
theorem dX1_shortest_10 : decode cX1_shortest 10 = .ok (.ddiv, 1) := by decide +kernel
theorem dX1_shortest_11 : decode cX1_shortest 11 = .ok (.ldc2_w 7, 3) := by decide +kernel
theorem dX1_shortest_14 : decode cX1_shortest 14 = .ok (.dadd, 1) := by decide +kernel
theorem dX1_shortest_15 : decode cX1_shortest 15 = .ok (.invokestatic 110, 3) := by decide +kernel
theorem dX1_shortest_18 : decode cX1_shortest 18 = .ok (.dmul, 1) := by decide +kernel
theorem dX1_shortest_19 : decode cX1_shortest 19 = .ok (.dsub, 1) := by decide +kernel
theorem dX1_shortest_20 : decode cX1_shortest 20 = .ok (.dreturn, 1) := by decide +kernel
abbrev cX1_floor : ByteArray := prog_1_method_5_code
def yX1_floor : MethodName := ⟨RX1, "floor", "(D)D"⟩
theorem dX1_floor_0 : decode cX1_floor 0 = .ok (.dload_n 0, 1) := by decide +kernel
theorem dX1_floor_1 : decode cX1_floor 1 = .ok (.d2l, 1) := by decide +kernel
theorem dX1_floor_2 : decode cX1_floor 2 = .ok (.l2d, 1) := by decide +kernel
theorem dX1_floor_3 : decode cX1_floor 3 = .ok (.dstore_n 2, 1) := by decide +kernel
theorem dX1_floor_4 : decode cX1_floor 4 = .ok (.dload_n 2, 1) := by decide +kernel
theorem dX1_floor_5 : decode cX1_floor 5 = .ok (.dload_n 0, 1) := by decide +kernel
theorem dX1_floor_6 : decode cX1_floor 6 = .ok (.dcmp .l, 1) := by decide +kernel
theorem dX1_floor_7 : decode cX1_floor 7 = .ok (.ifCond .le 9, 3) := by decide +kernel
theorem dX1_floor_10 : decode cX1_floor 10 = .ok (.dload_n 2, 1) := by decide +kernel
theorem dX1_floor_11 : decode cX1_floor 11 = .ok (.dconst 1, 1) := by decide +kernel
theorem dX1_floor_12 : decode cX1_floor 12 = .ok (.dsub, 1) := by decide +kernel
theorem dX1_floor_13 : decode cX1_floor 13 = .ok (.goto 4, 3) := by decide +kernel
theorem dX1_floor_16 : decode cX1_floor 16 = .ok (.dload_n 2, 1) := by decide +kernel
theorem dX1_floor_17 : decode cX1_floor 17 = .ok (.dreturn, 1) := by decide +kernel
abbrev cX1_classOf : ByteArray := prog_1_method_39_code
def yX1_classOf : MethodName := ⟨RX1, "classOf", "(LParticleBox$Sort;LParticleBox$Sort;)I"⟩
theorem dX1_classOf_0 : decode cX1_classOf 0 = .ok (.iconst 0, 1) := by decide +kernel
theorem dX1_classOf_1 : decode cX1_classOf 1 = .ok (.istore_n 3, 1) := by decide +kernel
theorem dX1_classOf_2 : decode cX1_classOf 2 = .ok (.iconst 0, 1) := by decide +kernel
theorem dX1_classOf_3 : decode cX1_classOf 3 = .ok (.istore 4, 2) := by decide +kernel
theorem dX1_classOf_5 : decode cX1_classOf 5 = .ok (.iconst 0, 1) := by decide +kernel
theorem dX1_classOf_6 : decode cX1_classOf 6 = .ok (.istore 5, 2) := by decide +kernel
theorem dX1_classOf_8 : decode cX1_classOf 8 = .ok (.iload 5, 2) := by decide +kernel
theorem dX1_classOf_10 : decode cX1_classOf 10 = .ok (.iconst 3, 1) := by decide +kernel
theorem dX1_classOf_11 : decode cX1_classOf 11 = .ok (.if_icmp .ge 38, 3) := by decide +kernel
theorem dX1_classOf_14 : decode cX1_classOf 14 = .ok (.aload_n 0, 1) := by decide +kernel
theorem dX1_classOf_15 : decode cX1_classOf 15 = .ok (.getfield 23, 3) := by decide +kernel
theorem dX1_classOf_18 : decode cX1_classOf 18 = .ok (.iload 5, 2) := by decide +kernel
theorem dX1_classOf_20 : decode cX1_classOf 20 = .ok (.aaload, 1) := by decide +kernel
theorem dX1_classOf_21 : decode cX1_classOf 21 = .ok (.aload_n 1, 1) := by decide +kernel
theorem dX1_classOf_22 : decode cX1_classOf 22 = .ok (.if_acmp .ne 6, 3) := by decide +kernel
theorem dX1_classOf_25 : decode cX1_classOf 25 = .ok (.iload 5, 2) := by decide +kernel
theorem dX1_classOf_27 : decode cX1_classOf 27 = .ok (.istore_n 3, 1) := by decide +kernel
theorem dX1_classOf_28 : decode cX1_classOf 28 = .ok (.aload_n 0, 1) := by decide +kernel
theorem dX1_classOf_29 : decode cX1_classOf 29 = .ok (.getfield 23, 3) := by decide +kernel
theorem dX1_classOf_32 : decode cX1_classOf 32 = .ok (.iload 5, 2) := by decide +kernel
theorem dX1_classOf_34 : decode cX1_classOf 34 = .ok (.aaload, 1) := by decide +kernel
theorem dX1_classOf_35 : decode cX1_classOf 35 = .ok (.aload_n 2, 1) := by decide +kernel
theorem dX1_classOf_36 : decode cX1_classOf 36 = .ok (.if_acmp .ne 7, 3) := by decide +kernel
theorem dX1_classOf_39 : decode cX1_classOf 39 = .ok (.iload 5, 2) := by decide +kernel
theorem dX1_classOf_41 : decode cX1_classOf 41 = .ok (.istore 4, 2) := by decide +kernel
theorem dX1_classOf_43 : decode cX1_classOf 43 = .ok (.iinc 5 1, 3) := by decide +kernel
theorem dX1_classOf_46 : decode cX1_classOf 46 = .ok (.goto (-38), 3) := by decide +kernel
theorem dX1_classOf_49 : decode cX1_classOf 49 = .ok (.iload_n 3, 1) := by decide +kernel
theorem dX1_classOf_50 : decode cX1_classOf 50 = .ok (.iload 4, 2) := by decide +kernel
theorem dX1_classOf_52 : decode cX1_classOf 52 = .ok (.invokestatic 82, 3) := by decide +kernel
theorem dX1_classOf_55 : decode cX1_classOf 55 = .ok (.iconst 3, 1) := by decide +kernel
theorem dX1_classOf_56 : decode cX1_classOf 56 = .ok (.imul, 1) := by decide +kernel
theorem dX1_classOf_57 : decode cX1_classOf 57 = .ok (.iload_n 3, 1) := by decide +kernel
theorem dX1_classOf_58 : decode cX1_classOf 58 = .ok (.iload 4, 2) := by decide +kernel
theorem dX1_classOf_60 : decode cX1_classOf 60 = .ok (.invokestatic 88, 3) := by decide +kernel
theorem dX1_classOf_63 : decode cX1_classOf 63 = .ok (.iadd, 1) := by decide +kernel
theorem dX1_classOf_64 : decode cX1_classOf 64 = .ok (.ireturn, 1) := by decide +kernel
abbrev cX1_count : ByteArray := prog_1_method_42_code
def yX1_count : MethodName := ⟨RX1, "count", "(I)I"⟩
theorem dX1_count_0 : decode cX1_count 0 = .ok (.iload_n 1, 1) := by decide +kernel
theorem dX1_count_1 : decode cX1_count 1 = .ok (.tableswitch 100 0 9 #[55, 60, 65, 70, 75, 80, 85, 90, 90, 90], 55) := by decide +kernel
theorem dX1_count_56 : decode cX1_count 56 = .ok (.aload_n 0, 1) := by decide +kernel
theorem dX1_count_57 : decode cX1_count 57 = .ok (.getfield 102, 3) := by decide +kernel
theorem dX1_count_60 : decode cX1_count 60 = .ok (.ireturn, 1) := by decide +kernel
theorem dX1_count_61 : decode cX1_count 61 = .ok (.aload_n 0, 1) := by decide +kernel
theorem dX1_count_62 : decode cX1_count 62 = .ok (.getfield 183, 3) := by decide +kernel
theorem dX1_count_65 : decode cX1_count 65 = .ok (.ireturn, 1) := by decide +kernel
theorem dX1_count_66 : decode cX1_count 66 = .ok (.aload_n 0, 1) := by decide +kernel
theorem dX1_count_67 : decode cX1_count 67 = .ok (.getfield 189, 3) := by decide +kernel
theorem dX1_count_70 : decode cX1_count 70 = .ok (.ireturn, 1) := by decide +kernel
theorem dX1_count_71 : decode cX1_count 71 = .ok (.aload_n 0, 1) := by decide +kernel
theorem dX1_count_72 : decode cX1_count 72 = .ok (.getfield 327, 3) := by decide +kernel
theorem dX1_count_75 : decode cX1_count 75 = .ok (.ireturn, 1) := by decide +kernel
theorem dX1_count_76 : decode cX1_count 76 = .ok (.aload_n 0, 1) := by decide +kernel
theorem dX1_count_77 : decode cX1_count 77 = .ok (.getfield 218, 3) := by decide +kernel
theorem dX1_count_80 : decode cX1_count 80 = .ok (.ireturn, 1) := by decide +kernel
theorem dX1_count_81 : decode cX1_count 81 = .ok (.aload_n 0, 1) := by decide +kernel
theorem dX1_count_82 : decode cX1_count 82 = .ok (.getfield 318, 3) := by decide +kernel
theorem dX1_count_85 : decode cX1_count 85 = .ok (.ireturn, 1) := by decide +kernel
theorem dX1_count_86 : decode cX1_count 86 = .ok (.aload_n 0, 1) := by decide +kernel
theorem dX1_count_87 : decode cX1_count 87 = .ok (.getfield 362, 3) := by decide +kernel
theorem dX1_count_90 : decode cX1_count 90 = .ok (.ireturn, 1) := by decide +kernel
theorem dX1_count_91 : decode cX1_count 91 = .ok (.aload_n 0, 1) := by decide +kernel
theorem dX1_count_92 : decode cX1_count 92 = .ok (.getfield 79, 3) := by decide +kernel
theorem dX1_count_95 : decode cX1_count 95 = .ok (.iload_n 1, 1) := by decide +kernel
theorem dX1_count_96 : decode cX1_count 96 = .ok (.bipush 7, 2) := by decide +kernel
theorem dX1_count_98 : decode cX1_count 98 = .ok (.isub, 1) := by decide +kernel
theorem dX1_count_99 : decode cX1_count 99 = .ok (.iaload, 1) := by decide +kernel
theorem dX1_count_100 : decode cX1_count 100 = .ok (.ireturn, 1) := by decide +kernel
theorem dX1_count_101 : decode cX1_count 101 = .ok (.iconst (-1), 1) := by decide +kernel
theorem dX1_count_102 : decode cX1_count 102 = .ok (.ireturn, 1) := by decide +kernel
abbrev cX1_atom : ByteArray := prog_1_method_10_code
def yX1_atom : MethodName := ⟨RX1, "atom", "(DDDI)I"⟩
theorem dX1_atom_0 : decode cX1_atom 0 = .ok (.dload_n 1, 1) := by decide +kernel
theorem dX1_atom_1 : decode cX1_atom 1 = .ok (.ldc2_w 129, 3) := by decide +kernel
theorem dX1_atom_4 : decode cX1_atom 4 = .ok (.ldc2_w 131, 3) := by decide +kernel
theorem dX1_atom_7 : decode cX1_atom 7 = .ok (.invokestatic 133, 3) := by decide +kernel
theorem dX1_atom_10 : decode cX1_atom 10 = .ok (.ifCond .eq 45, 3) := by decide +kernel
theorem dX1_atom_13 : decode cX1_atom 13 = .ok (.dload_n 3, 1) := by decide +kernel
theorem dX1_atom_14 : decode cX1_atom 14 = .ok (.ldc2_w 129, 3) := by decide +kernel
theorem dX1_atom_17 : decode cX1_atom 17 = .ok (.ldc2_w 131, 3) := by decide +kernel
theorem dX1_atom_20 : decode cX1_atom 20 = .ok (.invokestatic 133, 3) := by decide +kernel
theorem dX1_atom_23 : decode cX1_atom 23 = .ok (.ifCond .eq 32, 3) := by decide +kernel
theorem dX1_atom_26 : decode cX1_atom 26 = .ok (.dload 5, 2) := by decide +kernel
theorem dX1_atom_28 : decode cX1_atom 28 = .ok (.ldc2_w 137, 3) := by decide +kernel
theorem dX1_atom_31 : decode cX1_atom 31 = .ok (.ldc2_w 139, 3) := by decide +kernel
theorem dX1_atom_34 : decode cX1_atom 34 = .ok (.invokestatic 133, 3) := by decide +kernel
theorem dX1_atom_37 : decode cX1_atom 37 = .ok (.ifCond .eq 18, 3) := by decide +kernel
theorem dX1_atom_40 : decode cX1_atom 40 = .ok (.iload 7, 2) := by decide +kernel
theorem dX1_atom_42 : decode cX1_atom 42 = .ok (.ifCond .lt 13, 3) := by decide +kernel
theorem dX1_atom_45 : decode cX1_atom 45 = .ok (.iload 7, 2) := by decide +kernel
theorem dX1_atom_47 : decode cX1_atom 47 = .ok (.iconst 3, 1) := by decide +kernel
theorem dX1_atom_48 : decode cX1_atom 48 = .ok (.if_icmp .ge 7, 3) := by decide +kernel
theorem dX1_atom_51 : decode cX1_atom 51 = .ok (.iconst 1, 1) := by decide +kernel
theorem dX1_atom_52 : decode cX1_atom 52 = .ok (.goto 4, 3) := by decide +kernel
theorem dX1_atom_55 : decode cX1_atom 55 = .ok (.iconst 0, 1) := by decide +kernel
theorem dX1_atom_56 : decode cX1_atom 56 = .ok (.invokestatic 106, 3) := by decide +kernel
theorem dX1_atom_59 : decode cX1_atom 59 = .ok (.aload_n 0, 1) := by decide +kernel
theorem dX1_atom_60 : decode cX1_atom 60 = .ok (.getfield 102, 3) := by decide +kernel
theorem dX1_atom_63 : decode cX1_atom 63 = .ok (.bipush 10, 2) := by decide +kernel
theorem dX1_atom_65 : decode cX1_atom 65 = .ok (.if_icmp .ne 13, 3) := by decide +kernel
theorem dX1_atom_68 : decode cX1_atom 68 = .ok (.new 141, 3) := by decide +kernel
theorem dX1_atom_71 : decode cX1_atom 71 = .ok (.dup, 1) := by decide +kernel
theorem dX1_atom_72 : decode cX1_atom 72 = .ok (.ldc 143, 2) := by decide +kernel
theorem dX1_atom_74 : decode cX1_atom 74 = .ok (.invokespecial 145, 3) := by decide +kernel
theorem dX1_atom_77 : decode cX1_atom 77 = .ok (.athrow, 1) := by decide +kernel
theorem dX1_atom_78 : decode cX1_atom 78 = .ok (.new 27, 3) := by decide +kernel
theorem dX1_atom_81 : decode cX1_atom 81 = .ok (.dup, 1) := by decide +kernel
theorem dX1_atom_82 : decode cX1_atom 82 = .ok (.aload_n 0, 1) := by decide +kernel
theorem dX1_atom_83 : decode cX1_atom 83 = .ok (.getfield 102, 3) := by decide +kernel
theorem dX1_atom_86 : decode cX1_atom 86 = .ok (.dload 5, 2) := by decide +kernel
theorem dX1_atom_88 : decode cX1_atom 88 = .ok (.aload_n 0, 1) := by decide +kernel
theorem dX1_atom_89 : decode cX1_atom 89 = .ok (.getfield 23, 3) := by decide +kernel
theorem dX1_atom_92 : decode cX1_atom 92 = .ok (.iload 7, 2) := by decide +kernel
theorem dX1_atom_94 : decode cX1_atom 94 = .ok (.aaload, 1) := by decide +kernel
theorem dX1_atom_95 : decode cX1_atom 95 = .ok (.invokespecial 148, 3) := by decide +kernel
theorem dX1_atom_98 : decode cX1_atom 98 = .ok (.astore 8, 2) := by decide +kernel
theorem dX1_atom_100 : decode cX1_atom 100 = .ok (.aload 8, 2) := by decide +kernel
theorem dX1_atom_102 : decode cX1_atom 102 = .ok (.aload_n 0, 1) := by decide +kernel
theorem dX1_atom_103 : decode cX1_atom 103 = .ok (.dload_n 1, 1) := by decide +kernel
theorem dX1_atom_104 : decode cX1_atom 104 = .ok (.invokevirtual 151, 3) := by decide +kernel
theorem dX1_atom_107 : decode cX1_atom 107 = .ok (.putfield 114, 3) := by decide +kernel
theorem dX1_atom_110 : decode cX1_atom 110 = .ok (.aload 8, 2) := by decide +kernel
theorem dX1_atom_112 : decode cX1_atom 112 = .ok (.aload_n 0, 1) := by decide +kernel
theorem dX1_atom_113 : decode cX1_atom 113 = .ok (.dload_n 3, 1) := by decide +kernel
theorem dX1_atom_114 : decode cX1_atom 114 = .ok (.invokevirtual 151, 3) := by decide +kernel
theorem dX1_atom_117 : decode cX1_atom 117 = .ok (.putfield 123, 3) := by decide +kernel
theorem dX1_atom_120 : decode cX1_atom 120 = .ok (.aload_n 0, 1) := by decide +kernel
theorem dX1_atom_121 : decode cX1_atom 121 = .ok (.getfield 29, 3) := by decide +kernel
theorem dX1_atom_124 : decode cX1_atom 124 = .ok (.aload_n 0, 1) := by decide +kernel
theorem dX1_atom_125 : decode cX1_atom 125 = .ok (.getfield 102, 3) := by decide +kernel
theorem dX1_atom_128 : decode cX1_atom 128 = .ok (.aload 8, 2) := by decide +kernel
theorem dX1_atom_130 : decode cX1_atom 130 = .ok (.aastore, 1) := by decide +kernel
theorem dX1_atom_131 : decode cX1_atom 131 = .ok (.aload_n 0, 1) := by decide +kernel
theorem dX1_atom_132 : decode cX1_atom 132 = .ok (.dup, 1) := by decide +kernel
theorem dX1_atom_133 : decode cX1_atom 133 = .ok (.getfield 102, 3) := by decide +kernel
theorem dX1_atom_136 : decode cX1_atom 136 = .ok (.iconst 1, 1) := by decide +kernel
theorem dX1_atom_137 : decode cX1_atom 137 = .ok (.iadd, 1) := by decide +kernel
theorem dX1_atom_138 : decode cX1_atom 138 = .ok (.putfield 102, 3) := by decide +kernel
theorem dX1_atom_141 : decode cX1_atom 141 = .ok (.aload_n 0, 1) := by decide +kernel
theorem dX1_atom_142 : decode cX1_atom 142 = .ok (.iconst 0, 1) := by decide +kernel
theorem dX1_atom_143 : decode cX1_atom 143 = .ok (.putfield 154, 3) := by decide +kernel
theorem dX1_atom_146 : decode cX1_atom 146 = .ok (.aload_n 0, 1) := by decide +kernel
theorem dX1_atom_147 : decode cX1_atom 147 = .ok (.getfield 102, 3) := by decide +kernel
theorem dX1_atom_150 : decode cX1_atom 150 = .ok (.iconst 1, 1) := by decide +kernel
theorem dX1_atom_151 : decode cX1_atom 151 = .ok (.isub, 1) := by decide +kernel
theorem dX1_atom_152 : decode cX1_atom 152 = .ok (.ireturn, 1) := by decide +kernel
abbrev cX1_within : ByteArray := prog_1_method_3_code
def yX1_within : MethodName := ⟨RX1, "within", "(DDD)Z"⟩
theorem dX1_within_0 : decode cX1_within 0 = .ok (.dload_n 0, 1) := by decide +kernel
theorem dX1_within_1 : decode cX1_within 1 = .ok (.dload_n 2, 1) := by decide +kernel
theorem dX1_within_2 : decode cX1_within 2 = .ok (.dcmp .l, 1) := by decide +kernel
theorem dX1_within_3 : decode cX1_within 3 = .ok (.ifCond .lt 14, 3) := by decide +kernel
theorem dX1_within_6 : decode cX1_within 6 = .ok (.dload_n 0, 1) := by decide +kernel
theorem dX1_within_7 : decode cX1_within 7 = .ok (.dload 4, 2) := by decide +kernel
theorem dX1_within_9 : decode cX1_within 9 = .ok (.dcmp .g, 1) := by decide +kernel
theorem dX1_within_10 : decode cX1_within 10 = .ok (.ifCond .gt 7, 3) := by decide +kernel
theorem dX1_within_13 : decode cX1_within 13 = .ok (.iconst 1, 1) := by decide +kernel
theorem dX1_within_14 : decode cX1_within 14 = .ok (.goto 4, 3) := by decide +kernel
theorem dX1_within_17 : decode cX1_within 17 = .ok (.iconst 0, 1) := by decide +kernel
theorem dX1_within_18 : decode cX1_within 18 = .ok (.ireturn, 1) := by decide +kernel
abbrev cX1_check : ByteArray := prog_1_method_2_code
def yX1_check : MethodName := ⟨RX1, "check", "(Z)V"⟩
theorem dX1_check_0 : decode cX1_check 0 = .ok (.iload_n 0, 1) := by decide +kernel
theorem dX1_check_1 : decode cX1_check 1 = .ok (.ifCond .ne 11, 3) := by decide +kernel
theorem dX1_check_4 : decode cX1_check 4 = .ok (.new 99, 3) := by decide +kernel
theorem dX1_check_7 : decode cX1_check 7 = .ok (.dup, 1) := by decide +kernel
theorem dX1_check_8 : decode cX1_check 8 = .ok (.invokespecial 101, 3) := by decide +kernel
theorem dX1_check_11 : decode cX1_check 11 = .ok (.athrow, 1) := by decide +kernel
theorem dX1_check_12 : decode cX1_check 12 = .ok (.return_, 1) := by decide +kernel
abbrev cX1_wrapped : ByteArray := prog_1_method_7_code
def yX1_wrapped : MethodName := ⟨RX1, "wrapped", "(D)D"⟩
theorem dX1_wrapped_0 : decode cX1_wrapped 0 = .ok (.dload_n 1, 1) := by decide +kernel
theorem dX1_wrapped_1 : decode cX1_wrapped 1 = .ok (.aload_n 0, 1) := by decide +kernel
theorem dX1_wrapped_2 : decode cX1_wrapped 2 = .ok (.getfield 91, 3) := by decide +kernel
theorem dX1_wrapped_5 : decode cX1_wrapped 5 = .ok (.dload_n 1, 1) := by decide +kernel
theorem dX1_wrapped_6 : decode cX1_wrapped 6 = .ok (.aload_n 0, 1) := by decide +kernel
theorem dX1_wrapped_7 : decode cX1_wrapped 7 = .ok (.getfield 91, 3) := by decide +kernel
theorem dX1_wrapped_10 : decode cX1_wrapped 10 = .ok (.ddiv, 1) := by decide +kernel
theorem dX1_wrapped_11 : decode cX1_wrapped 11 = .ok (.invokestatic 110, 3) := by decide +kernel
theorem dX1_wrapped_14 : decode cX1_wrapped 14 = .ok (.dmul, 1) := by decide +kernel
theorem dX1_wrapped_15 : decode cX1_wrapped 15 = .ok (.dsub, 1) := by decide +kernel
theorem dX1_wrapped_16 : decode cX1_wrapped 16 = .ok (.dstore_n 3, 1) := by decide +kernel
theorem dX1_wrapped_17 : decode cX1_wrapped 17 = .ok (.dload_n 3, 1) := by decide +kernel
theorem dX1_wrapped_18 : decode cX1_wrapped 18 = .ok (.aload_n 0, 1) := by decide +kernel
theorem dX1_wrapped_19 : decode cX1_wrapped 19 = .ok (.getfield 91, 3) := by decide +kernel
theorem dX1_wrapped_22 : decode cX1_wrapped 22 = .ok (.dcmp .g, 1) := by decide +kernel
theorem dX1_wrapped_23 : decode cX1_wrapped 23 = .ok (.ifCond .ge 7, 3) := by decide +kernel
theorem dX1_wrapped_26 : decode cX1_wrapped 26 = .ok (.dload_n 3, 1) := by decide +kernel
theorem dX1_wrapped_27 : decode cX1_wrapped 27 = .ok (.goto 4, 3) := by decide +kernel
theorem dX1_wrapped_30 : decode cX1_wrapped 30 = .ok (.dconst 0, 1) := by decide +kernel
theorem dX1_wrapped_31 : decode cX1_wrapped 31 = .ok (.dreturn, 1) := by decide +kernel
