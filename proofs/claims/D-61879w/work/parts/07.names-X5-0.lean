/-! ParticleBoxModel -/
set_option maxRecDepth 100000
def RX5 : String := "ParticleBoxModel"
def TX5 : u_T := fun k => match k with
  | 0 => ("ParticleBoxModel", "side", "D", true)
  | 1 => ("ParticleBoxModel", "cut", "D", false)
  | 2 => ("ParticleBoxModel", "skin", "D", false)
  | 3 => ("ParticleBoxModel", "heat", "D", false)
  | 4 => ("ParticleBoxModel", "x", "[D", true)
  | 5 => ("ParticleBoxModel", "y", "[D", true)
  | 6 => ("ParticleBoxModel", "u", "[D", true)
  | 7 => ("ParticleBoxModel", "v", "[D", true)
  | 8 => ("ParticleBoxModel", "mass", "[D", true)
  | 9 => ("ParticleBoxModel", "sort", "[I", true)
  | 10 => ("ParticleBoxModel", "stuck", "[Z", true)
  | 11 => ("ParticleBoxModel", "width", "[D", true)
  | 12 => ("ParticleBoxModel", "depth", "[D", true)
  | 13 => ("ParticleBoxModel", "charge", "[D", true)
  | 14 => ("ParticleBoxModel", "atoms", "I", false)
  | 15 => ("ParticleBoxModel", "bonds", "I", false)
  | 16 => ("ParticleBoxModel", "rods", "I", false)
  | 17 => ("ParticleBoxModel", "bondI", "[I", true)
  | 18 => ("ParticleBoxModel", "bondJ", "[I", true)
  | 19 => ("ParticleBoxModel", "rodI", "[I", true)
  | 20 => ("ParticleBoxModel", "rodJ", "[I", true)
  | 21 => ("ParticleBoxModel", "bondK", "[D", true)
  | 22 => ("ParticleBoxModel", "bondL", "[D", true)
  | 23 => ("ParticleBoxModel", "rodL", "[D", true)
  | 24 => ("ParticleBoxModel", "listX", "[D", true)
  | 25 => ("ParticleBoxModel", "listY", "[D", true)
  | 26 => ("ParticleBoxModel", "listed", "Z", false)
  | 27 => ("ParticleBoxModel", "oldX", "[D", true)
  | 28 => ("ParticleBoxModel", "oldY", "[D", true)
  | 29 => ("ParticleBoxModel", "oldU", "[D", true)
  | 30 => ("ParticleBoxModel", "oldV", "[D", true)
  | 31 => ("ParticleBoxModel", "newX", "[D", true)
  | 32 => ("ParticleBoxModel", "newY", "[D", true)
  | 33 => ("ParticleBoxModel", "fx", "[D", true)
  | 34 => ("ParticleBoxModel", "fy", "[D", true)
  | 35 => ("ParticleBoxModel", "bins", "[I", true)
  | 36 => ("ParticleBoxModel", "steps", "I", false)
  | 37 => ("ParticleBoxModel", "lists", "I", false)
  | 38 => ("ParticleBoxModel", "rounds", "I", false)
  | 39 => ("ParticleBoxModel", "samples", "I", false)
  | 40 => ("ParticleBoxModel", "overlaps", "I", false)
  | 41 => ("ParticleBoxModel", "stiffs", "I", false)
  | 42 => ("ParticleBoxModel", "blowns", "I", false)
  | 43 => ("ParticleBoxModel", "thrown", "I", false)
  | 44 => ("ParticleBoxModel", "changed", "I", false)
  | 45 => ("ParticleBoxModel", "a", "D", false)
  | 46 => ("ParticleBoxModel", "b", "D", false)
  | _ => ("ParticleBoxModel", "r2", "D", false)
def tyX5 : Nat → FieldType := fun k => match k with
  | 0 => .double
  | 1 => .double
  | 2 => .double
  | 3 => .double
  | 4 => .array .double
  | 5 => .array .double
  | 6 => .array .double
  | 7 => .array .double
  | 8 => .array .double
  | 9 => .array .int
  | 10 => .array .boolean
  | 11 => .array .double
  | 12 => .array .double
  | 13 => .array .double
  | 14 => .int
  | 15 => .int
  | 16 => .int
  | 17 => .array .int
  | 18 => .array .int
  | 19 => .array .int
  | 20 => .array .int
  | 21 => .array .double
  | 22 => .array .double
  | 23 => .array .double
  | 24 => .array .double
  | 25 => .array .double
  | 26 => .boolean
  | 27 => .array .double
  | 28 => .array .double
  | 29 => .array .double
  | 30 => .array .double
  | 31 => .array .double
  | 32 => .array .double
  | 33 => .array .double
  | 34 => .array .double
  | 35 => .array .int
  | 36 => .int
  | 37 => .int
  | 38 => .int
  | 39 => .int
  | 40 => .int
  | 41 => .int
  | 42 => .int
  | 43 => .int
  | 44 => .int
  | 45 => .double
  | 46 => .double
  | _ => .double
abbrev wsX50 : List Cond := u_ws RX5 TX5 48
set_option maxRecDepth 100000 in
theorem nmX5 : ∀ a, a < 48 → ∀ b, b < 48 → a ≠ b → (TX5 a).2.1 ≠ (TX5 b).2.1 := by decide +kernel
set_option maxRecDepth 100000 in
theorem tyX5_ok : ∀ k, k < 48 → parseFieldDescriptor (TX5 k).2.2.1 = some (tyX5 k) := by decide +kernel
abbrev cX5_init : ByteArray := prog_10_method_1_code
def yX5_init : MethodName := ⟨RX5, "<init>", "(I)V"⟩
theorem dX5_init_0 : decode cX5_init 0 = .ok (.aload_n 0, 1) := by decide +kernel
theorem dX5_init_1 : decode cX5_init 1 = .ok (.invokespecial 1, 3) := by decide +kernel
theorem dX5_init_4 : decode cX5_init 4 = .ok (.aload_n 0, 1) := by decide +kernel
theorem dX5_init_5 : decode cX5_init 5 = .ok (.ldc2_w 7, 3) := by decide +kernel
theorem dX5_init_8 : decode cX5_init 8 = .ok (.putfield 9, 3) := by decide +kernel
theorem dX5_init_11 : decode cX5_init 11 = .ok (.aload_n 0, 1) := by decide +kernel
theorem dX5_init_12 : decode cX5_init 12 = .ok (.ldc2_w 15, 3) := by decide +kernel
theorem dX5_init_15 : decode cX5_init 15 = .ok (.putfield 17, 3) := by decide +kernel
theorem dX5_init_18 : decode cX5_init 18 = .ok (.aload_n 0, 1) := by decide +kernel
theorem dX5_init_19 : decode cX5_init 19 = .ok (.bipush 10, 2) := by decide +kernel
theorem dX5_init_21 : decode cX5_init 21 = .ok (.newarray .double, 2) := by decide +kernel
theorem dX5_init_23 : decode cX5_init 23 = .ok (.putfield 20, 3) := by decide +kernel
theorem dX5_init_26 : decode cX5_init 26 = .ok (.aload_n 0, 1) := by decide +kernel
theorem dX5_init_27 : decode cX5_init 27 = .ok (.bipush 10, 2) := by decide +kernel
theorem dX5_init_29 : decode cX5_init 29 = .ok (.newarray .double, 2) := by decide +kernel
theorem dX5_init_31 : decode cX5_init 31 = .ok (.putfield 24, 3) := by decide +kernel
theorem dX5_init_34 : decode cX5_init 34 = .ok (.aload_n 0, 1) := by decide +kernel
theorem dX5_init_35 : decode cX5_init 35 = .ok (.bipush 10, 2) := by decide +kernel
theorem dX5_init_37 : decode cX5_init 37 = .ok (.newarray .double, 2) := by decide +kernel
theorem dX5_init_39 : decode cX5_init 39 = .ok (.putfield 27, 3) := by decide +kernel
theorem dX5_init_42 : decode cX5_init 42 = .ok (.aload_n 0, 1) := by decide +kernel
theorem dX5_init_43 : decode cX5_init 43 = .ok (.bipush 10, 2) := by decide +kernel
theorem dX5_init_45 : decode cX5_init 45 = .ok (.newarray .double, 2) := by decide +kernel
theorem dX5_init_47 : decode cX5_init 47 = .ok (.putfield 30, 3) := by decide +kernel
theorem dX5_init_50 : decode cX5_init 50 = .ok (.aload_n 0, 1) := by decide +kernel
theorem dX5_init_51 : decode cX5_init 51 = .ok (.bipush 10, 2) := by decide +kernel
theorem dX5_init_53 : decode cX5_init 53 = .ok (.newarray .double, 2) := by decide +kernel
theorem dX5_init_55 : decode cX5_init 55 = .ok (.putfield 33, 3) := by decide +kernel
theorem dX5_init_58 : decode cX5_init 58 = .ok (.aload_n 0, 1) := by decide +kernel
theorem dX5_init_59 : decode cX5_init 59 = .ok (.bipush 10, 2) := by decide +kernel
theorem dX5_init_61 : decode cX5_init 61 = .ok (.newarray .int, 2) := by decide +kernel
theorem dX5_init_63 : decode cX5_init 63 = .ok (.putfield 36, 3) := by decide +kernel
theorem dX5_init_66 : decode cX5_init 66 = .ok (.aload_n 0, 1) := by decide +kernel
theorem dX5_init_67 : decode cX5_init 67 = .ok (.bipush 10, 2) := by decide +kernel
theorem dX5_init_69 : decode cX5_init 69 = .ok (.newarray .boolean, 2) := by decide +kernel
theorem dX5_init_71 : decode cX5_init 71 = .ok (.putfield 40, 3) := by decide +kernel
theorem dX5_init_74 : decode cX5_init 74 = .ok (.aload_n 0, 1) := by decide +kernel
theorem dX5_init_75 : decode cX5_init 75 = .ok (.iconst 3, 1) := by decide +kernel
theorem dX5_init_76 : decode cX5_init 76 = .ok (.newarray .double, 2) := by decide +kernel
theorem dX5_init_78 : decode cX5_init 78 = .ok (.dup, 1) := by decide +kernel
theorem dX5_init_79 : decode cX5_init 79 = .ok (.iconst 0, 1) := by decide +kernel
theorem dX5_init_80 : decode cX5_init 80 = .ok (.dconst 1, 1) := by decide +kernel
theorem dX5_init_81 : decode cX5_init 81 = .ok (.dastore, 1) := by decide +kernel
theorem dX5_init_82 : decode cX5_init 82 = .ok (.dup, 1) := by decide +kernel
theorem dX5_init_83 : decode cX5_init 83 = .ok (.iconst 1, 1) := by decide +kernel
theorem dX5_init_84 : decode cX5_init 84 = .ok (.dconst 1, 1) := by decide +kernel
theorem dX5_init_85 : decode cX5_init 85 = .ok (.dastore, 1) := by decide +kernel
theorem dX5_init_86 : decode cX5_init 86 = .ok (.dup, 1) := by decide +kernel
theorem dX5_init_87 : decode cX5_init 87 = .ok (.iconst 2, 1) := by decide +kernel
theorem dX5_init_88 : decode cX5_init 88 = .ok (.dconst 1, 1) := by decide +kernel
theorem dX5_init_89 : decode cX5_init 89 = .ok (.dastore, 1) := by decide +kernel
theorem dX5_init_90 : decode cX5_init 90 = .ok (.putfield 44, 3) := by decide +kernel
theorem dX5_init_93 : decode cX5_init 93 = .ok (.aload_n 0, 1) := by decide +kernel
theorem dX5_init_94 : decode cX5_init 94 = .ok (.iconst 3, 1) := by decide +kernel
theorem dX5_init_95 : decode cX5_init 95 = .ok (.newarray .double, 2) := by decide +kernel
theorem dX5_init_97 : decode cX5_init 97 = .ok (.dup, 1) := by decide +kernel
theorem dX5_init_98 : decode cX5_init 98 = .ok (.iconst 0, 1) := by decide +kernel
theorem dX5_init_99 : decode cX5_init 99 = .ok (.dconst 1, 1) := by decide +kernel
theorem dX5_init_100 : decode cX5_init 100 = .ok (.dastore, 1) := by decide +kernel
theorem dX5_init_101 : decode cX5_init 101 = .ok (.dup, 1) := by decide +kernel
theorem dX5_init_102 : decode cX5_init 102 = .ok (.iconst 1, 1) := by decide +kernel
theorem dX5_init_103 : decode cX5_init 103 = .ok (.dconst 1, 1) := by decide +kernel
theorem dX5_init_104 : decode cX5_init 104 = .ok (.dastore, 1) := by decide +kernel
theorem dX5_init_105 : decode cX5_init 105 = .ok (.dup, 1) := by decide +kernel
theorem dX5_init_106 : decode cX5_init 106 = .ok (.iconst 2, 1) := by decide +kernel
theorem dX5_init_107 : decode cX5_init 107 = .ok (.dconst 1, 1) := by decide +kernel
theorem dX5_init_108 : decode cX5_init 108 = .ok (.dastore, 1) := by decide +kernel
theorem dX5_init_109 : decode cX5_init 109 = .ok (.putfield 47, 3) := by decide +kernel
theorem dX5_init_112 : decode cX5_init 112 = .ok (.aload_n 0, 1) := by decide +kernel
theorem dX5_init_113 : decode cX5_init 113 = .ok (.iconst 3, 1) := by decide +kernel
theorem dX5_init_114 : decode cX5_init 114 = .ok (.newarray .double, 2) := by decide +kernel
theorem dX5_init_116 : decode cX5_init 116 = .ok (.dup, 1) := by decide +kernel
theorem dX5_init_117 : decode cX5_init 117 = .ok (.iconst 0, 1) := by decide +kernel
theorem dX5_init_118 : decode cX5_init 118 = .ok (.dconst 0, 1) := by decide +kernel
theorem dX5_init_119 : decode cX5_init 119 = .ok (.dastore, 1) := by decide +kernel
theorem dX5_init_120 : decode cX5_init 120 = .ok (.dup, 1) := by decide +kernel
theorem dX5_init_121 : decode cX5_init 121 = .ok (.iconst 1, 1) := by decide +kernel
theorem dX5_init_122 : decode cX5_init 122 = .ok (.dconst 0, 1) := by decide +kernel
theorem dX5_init_123 : decode cX5_init 123 = .ok (.dastore, 1) := by decide +kernel
theorem dX5_init_124 : decode cX5_init 124 = .ok (.dup, 1) := by decide +kernel
theorem dX5_init_125 : decode cX5_init 125 = .ok (.iconst 2, 1) := by decide +kernel
theorem dX5_init_126 : decode cX5_init 126 = .ok (.dconst 0, 1) := by decide +kernel
theorem dX5_init_127 : decode cX5_init 127 = .ok (.dastore, 1) := by decide +kernel
theorem dX5_init_128 : decode cX5_init 128 = .ok (.putfield 50, 3) := by decide +kernel
theorem dX5_init_131 : decode cX5_init 131 = .ok (.aload_n 0, 1) := by decide +kernel
theorem dX5_init_132 : decode cX5_init 132 = .ok (.bipush 8, 2) := by decide +kernel
theorem dX5_init_134 : decode cX5_init 134 = .ok (.newarray .int, 2) := by decide +kernel
theorem dX5_init_136 : decode cX5_init 136 = .ok (.putfield 53, 3) := by decide +kernel
theorem dX5_init_139 : decode cX5_init 139 = .ok (.aload_n 0, 1) := by decide +kernel
theorem dX5_init_140 : decode cX5_init 140 = .ok (.bipush 8, 2) := by decide +kernel
theorem dX5_init_142 : decode cX5_init 142 = .ok (.newarray .int, 2) := by decide +kernel
theorem dX5_init_144 : decode cX5_init 144 = .ok (.putfield 56, 3) := by decide +kernel
theorem dX5_init_147 : decode cX5_init 147 = .ok (.aload_n 0, 1) := by decide +kernel
theorem dX5_init_148 : decode cX5_init 148 = .ok (.iconst 4, 1) := by decide +kernel
theorem dX5_init_149 : decode cX5_init 149 = .ok (.newarray .int, 2) := by decide +kernel
theorem dX5_init_151 : decode cX5_init 151 = .ok (.putfield 59, 3) := by decide +kernel
theorem dX5_init_154 : decode cX5_init 154 = .ok (.aload_n 0, 1) := by decide +kernel
theorem dX5_init_155 : decode cX5_init 155 = .ok (.iconst 4, 1) := by decide +kernel
theorem dX5_init_156 : decode cX5_init 156 = .ok (.newarray .int, 2) := by decide +kernel
theorem dX5_init_158 : decode cX5_init 158 = .ok (.putfield 62, 3) := by decide +kernel
theorem dX5_init_161 : decode cX5_init 161 = .ok (.aload_n 0, 1) := by decide +kernel
theorem dX5_init_162 : decode cX5_init 162 = .ok (.bipush 8, 2) := by decide +kernel
theorem dX5_init_164 : decode cX5_init 164 = .ok (.newarray .double, 2) := by decide +kernel
theorem dX5_init_166 : decode cX5_init 166 = .ok (.putfield 65, 3) := by decide +kernel
theorem dX5_init_169 : decode cX5_init 169 = .ok (.aload_n 0, 1) := by decide +kernel
theorem dX5_init_170 : decode cX5_init 170 = .ok (.bipush 8, 2) := by decide +kernel
theorem dX5_init_172 : decode cX5_init 172 = .ok (.newarray .double, 2) := by decide +kernel
theorem dX5_init_174 : decode cX5_init 174 = .ok (.putfield 68, 3) := by decide +kernel
theorem dX5_init_177 : decode cX5_init 177 = .ok (.aload_n 0, 1) := by decide +kernel
theorem dX5_init_178 : decode cX5_init 178 = .ok (.iconst 4, 1) := by decide +kernel
theorem dX5_init_179 : decode cX5_init 179 = .ok (.newarray .double, 2) := by decide +kernel
theorem dX5_init_181 : decode cX5_init 181 = .ok (.putfield 71, 3) := by decide +kernel
theorem dX5_init_184 : decode cX5_init 184 = .ok (.aload_n 0, 1) := by decide +kernel
theorem dX5_init_185 : decode cX5_init 185 = .ok (.bipush 10, 2) := by decide +kernel
theorem dX5_init_187 : decode cX5_init 187 = .ok (.newarray .double, 2) := by decide +kernel
theorem dX5_init_189 : decode cX5_init 189 = .ok (.putfield 74, 3) := by decide +kernel
theorem dX5_init_192 : decode cX5_init 192 = .ok (.aload_n 0, 1) := by decide +kernel
theorem dX5_init_193 : decode cX5_init 193 = .ok (.bipush 10, 2) := by decide +kernel
theorem dX5_init_195 : decode cX5_init 195 = .ok (.newarray .double, 2) := by decide +kernel
theorem dX5_init_197 : decode cX5_init 197 = .ok (.putfield 77, 3) := by decide +kernel
theorem dX5_init_200 : decode cX5_init 200 = .ok (.aload_n 0, 1) := by decide +kernel
theorem dX5_init_201 : decode cX5_init 201 = .ok (.bipush 10, 2) := by decide +kernel
theorem dX5_init_203 : decode cX5_init 203 = .ok (.newarray .double, 2) := by decide +kernel
theorem dX5_init_205 : decode cX5_init 205 = .ok (.putfield 80, 3) := by decide +kernel
theorem dX5_init_208 : decode cX5_init 208 = .ok (.aload_n 0, 1) := by decide +kernel
theorem dX5_init_209 : decode cX5_init 209 = .ok (.bipush 10, 2) := by decide +kernel
theorem dX5_init_211 : decode cX5_init 211 = .ok (.newarray .double, 2) := by decide +kernel
theorem dX5_init_213 : decode cX5_init 213 = .ok (.putfield 83, 3) := by decide +kernel
theorem dX5_init_216 : decode cX5_init 216 = .ok (.aload_n 0, 1) := by decide +kernel
theorem dX5_init_217 : decode cX5_init 217 = .ok (.bipush 10, 2) := by decide +kernel
theorem dX5_init_219 : decode cX5_init 219 = .ok (.newarray .double, 2) := by decide +kernel
theorem dX5_init_221 : decode cX5_init 221 = .ok (.putfield 86, 3) := by decide +kernel
theorem dX5_init_224 : decode cX5_init 224 = .ok (.aload_n 0, 1) := by decide +kernel
theorem dX5_init_225 : decode cX5_init 225 = .ok (.bipush 10, 2) := by decide +kernel
theorem dX5_init_227 : decode cX5_init 227 = .ok (.newarray .double, 2) := by decide +kernel
theorem dX5_init_229 : decode cX5_init 229 = .ok (.putfield 89, 3) := by decide +kernel
theorem dX5_init_232 : decode cX5_init 232 = .ok (.aload_n 0, 1) := by decide +kernel
theorem dX5_init_233 : decode cX5_init 233 = .ok (.bipush 10, 2) := by decide +kernel
theorem dX5_init_235 : decode cX5_init 235 = .ok (.newarray .double, 2) := by decide +kernel
theorem dX5_init_237 : decode cX5_init 237 = .ok (.putfield 92, 3) := by decide +kernel
theorem dX5_init_240 : decode cX5_init 240 = .ok (.aload_n 0, 1) := by decide +kernel
theorem dX5_init_241 : decode cX5_init 241 = .ok (.bipush 10, 2) := by decide +kernel
theorem dX5_init_243 : decode cX5_init 243 = .ok (.newarray .double, 2) := by decide +kernel
theorem dX5_init_245 : decode cX5_init 245 = .ok (.putfield 95, 3) := by decide +kernel
theorem dX5_init_248 : decode cX5_init 248 = .ok (.aload_n 0, 1) := by decide +kernel
theorem dX5_init_249 : decode cX5_init 249 = .ok (.bipush 10, 2) := by decide +kernel
theorem dX5_init_251 : decode cX5_init 251 = .ok (.newarray .double, 2) := by decide +kernel
theorem dX5_init_253 : decode cX5_init 253 = .ok (.putfield 98, 3) := by decide +kernel
theorem dX5_init_256 : decode cX5_init 256 = .ok (.aload_n 0, 1) := by decide +kernel
theorem dX5_init_257 : decode cX5_init 257 = .ok (.bipush 10, 2) := by decide +kernel
theorem dX5_init_259 : decode cX5_init 259 = .ok (.newarray .double, 2) := by decide +kernel
theorem dX5_init_261 : decode cX5_init 261 = .ok (.putfield 101, 3) := by decide +kernel
theorem dX5_init_264 : decode cX5_init 264 = .ok (.aload_n 0, 1) := by decide +kernel
theorem dX5_init_265 : decode cX5_init 265 = .ok (.sipush 144, 3) := by decide +kernel
theorem dX5_init_268 : decode cX5_init 268 = .ok (.newarray .int, 2) := by decide +kernel
theorem dX5_init_270 : decode cX5_init 270 = .ok (.putfield 104, 3) := by decide +kernel
theorem dX5_init_273 : decode cX5_init 273 = .ok (.iload_n 1, 1) := by decide +kernel
theorem dX5_init_274 : decode cX5_init 274 = .ok (.bipush 8, 2) := by decide +kernel
theorem dX5_init_276 : decode cX5_init 276 = .ok (.if_icmp .ge 8, 3) := by decide +kernel
theorem dX5_init_279 : decode cX5_init 279 = .ok (.bipush 8, 2) := by decide +kernel
theorem dX5_init_281 : decode cX5_init 281 = .ok (.goto 15, 3) := by decide +kernel
theorem dX5_init_284 : decode cX5_init 284 = .ok (.iload_n 1, 1) := by decide +kernel
theorem dX5_init_285 : decode cX5_init 285 = .ok (.bipush 64, 2) := by decide +kernel
theorem dX5_init_287 : decode cX5_init 287 = .ok (.if_icmp .le 8, 3) := by decide +kernel
theorem dX5_init_290 : decode cX5_init 290 = .ok (.bipush 64, 2) := by decide +kernel
theorem dX5_init_292 : decode cX5_init 292 = .ok (.goto 4, 3) := by decide +kernel
theorem dX5_init_295 : decode cX5_init 295 = .ok (.iload_n 1, 1) := by decide +kernel
theorem dX5_init_296 : decode cX5_init 296 = .ok (.istore_n 2, 1) := by decide +kernel
theorem dX5_init_297 : decode cX5_init 297 = .ok (.aload_n 0, 1) := by decide +kernel
theorem dX5_init_298 : decode cX5_init 298 = .ok (.iload_n 2, 1) := by decide +kernel
theorem dX5_init_299 : decode cX5_init 299 = .ok (.i2d, 1) := by decide +kernel
theorem dX5_init_300 : decode cX5_init 300 = .ok (.ldc2_w 7, 3) := by decide +kernel
theorem dX5_init_303 : decode cX5_init 303 = .ok (.dmul, 1) := by decide +kernel
theorem dX5_init_304 : decode cX5_init 304 = .ok (.putfield 107, 3) := by decide +kernel
theorem dX5_init_307 : decode cX5_init 307 = .ok (.aload_n 0, 1) := by decide +kernel
theorem dX5_init_308 : decode cX5_init 308 = .ok (.aload_n 0, 1) := by decide +kernel
theorem dX5_init_309 : decode cX5_init 309 = .ok (.getfield 107, 3) := by decide +kernel
theorem dX5_init_312 : decode cX5_init 312 = .ok (.ldc2_w 110, 3) := by decide +kernel
theorem dX5_init_315 : decode cX5_init 315 = .ok (.dmul, 1) := by decide +kernel
theorem dX5_init_316 : decode cX5_init 316 = .ok (.putfield 112, 3) := by decide +kernel
theorem dX5_init_319 : decode cX5_init 319 = .ok (.return_, 1) := by decide +kernel
abbrev cX5_thrown : ByteArray := prog_10_method_2_code
def yX5_thrown : MethodName := ⟨RX5, "thrown", "()I"⟩
theorem dX5_thrown_0 : decode cX5_thrown 0 = .ok (.aload_n 0, 1) := by decide +kernel
theorem dX5_thrown_1 : decode cX5_thrown 1 = .ok (.getfield 115, 3) := by decide +kernel
theorem dX5_thrown_4 : decode cX5_thrown 4 = .ok (.ireturn, 1) := by decide +kernel
abbrev cX5_atom : ByteArray := prog_10_method_12_code
def yX5_atom : MethodName := ⟨RX5, "atom", "(DDDI)I"⟩
theorem dX5_atom_0 : decode cX5_atom 0 = .ok (.aload_n 0, 1) := by decide +kernel
theorem dX5_atom_1 : decode cX5_atom 1 = .ok (.dload_n 1, 1) := by decide +kernel
theorem dX5_atom_2 : decode cX5_atom 2 = .ok (.ldc2_w 142, 3) := by decide +kernel
theorem dX5_atom_5 : decode cX5_atom 5 = .ok (.ldc2_w 144, 3) := by decide +kernel
theorem dX5_atom_8 : decode cX5_atom 8 = .ok (.invokestatic 146, 3) := by decide +kernel
theorem dX5_atom_11 : decode cX5_atom 11 = .ok (.ifCond .eq 45, 3) := by decide +kernel
theorem dX5_atom_14 : decode cX5_atom 14 = .ok (.dload_n 3, 1) := by decide +kernel
theorem dX5_atom_15 : decode cX5_atom 15 = .ok (.ldc2_w 142, 3) := by decide +kernel
theorem dX5_atom_18 : decode cX5_atom 18 = .ok (.ldc2_w 144, 3) := by decide +kernel
theorem dX5_atom_21 : decode cX5_atom 21 = .ok (.invokestatic 146, 3) := by decide +kernel
theorem dX5_atom_24 : decode cX5_atom 24 = .ok (.ifCond .eq 32, 3) := by decide +kernel
theorem dX5_atom_27 : decode cX5_atom 27 = .ok (.dload 5, 2) := by decide +kernel
theorem dX5_atom_29 : decode cX5_atom 29 = .ok (.ldc2_w 150, 3) := by decide +kernel
theorem dX5_atom_32 : decode cX5_atom 32 = .ok (.ldc2_w 152, 3) := by decide +kernel
theorem dX5_atom_35 : decode cX5_atom 35 = .ok (.invokestatic 146, 3) := by decide +kernel
theorem dX5_atom_38 : decode cX5_atom 38 = .ok (.ifCond .eq 18, 3) := by decide +kernel
theorem dX5_atom_41 : decode cX5_atom 41 = .ok (.iload 7, 2) := by decide +kernel
theorem dX5_atom_43 : decode cX5_atom 43 = .ok (.ifCond .lt 13, 3) := by decide +kernel
theorem dX5_atom_46 : decode cX5_atom 46 = .ok (.iload 7, 2) := by decide +kernel
theorem dX5_atom_48 : decode cX5_atom 48 = .ok (.iconst 3, 1) := by decide +kernel
theorem dX5_atom_49 : decode cX5_atom 49 = .ok (.if_icmp .ge 7, 3) := by decide +kernel
theorem dX5_atom_52 : decode cX5_atom 52 = .ok (.iconst 1, 1) := by decide +kernel
theorem dX5_atom_53 : decode cX5_atom 53 = .ok (.goto 4, 3) := by decide +kernel
theorem dX5_atom_56 : decode cX5_atom 56 = .ok (.iconst 0, 1) := by decide +kernel
theorem dX5_atom_57 : decode cX5_atom 57 = .ok (.invokevirtual 154, 3) := by decide +kernel
theorem dX5_atom_60 : decode cX5_atom 60 = .ok (.ifCond .eq 5, 3) := by decide +kernel
theorem dX5_atom_63 : decode cX5_atom 63 = .ok (.iconst 0, 1) := by decide +kernel
theorem dX5_atom_64 : decode cX5_atom 64 = .ok (.ireturn, 1) := by decide +kernel
theorem dX5_atom_65 : decode cX5_atom 65 = .ok (.aload_n 0, 1) := by decide +kernel
theorem dX5_atom_66 : decode cX5_atom 66 = .ok (.getfield 119, 3) := by decide +kernel
theorem dX5_atom_69 : decode cX5_atom 69 = .ok (.bipush 10, 2) := by decide +kernel
theorem dX5_atom_71 : decode cX5_atom 71 = .ok (.if_icmp .ne 10, 3) := by decide +kernel
theorem dX5_atom_74 : decode cX5_atom 74 = .ok (.aload_n 0, 1) := by decide +kernel
theorem dX5_atom_75 : decode cX5_atom 75 = .ok (.iconst 2, 1) := by decide +kernel
theorem dX5_atom_76 : decode cX5_atom 76 = .ok (.putfield 115, 3) := by decide +kernel
theorem dX5_atom_79 : decode cX5_atom 79 = .ok (.iconst 0, 1) := by decide +kernel
theorem dX5_atom_80 : decode cX5_atom 80 = .ok (.ireturn, 1) := by decide +kernel
theorem dX5_atom_81 : decode cX5_atom 81 = .ok (.aload_n 0, 1) := by decide +kernel
theorem dX5_atom_82 : decode cX5_atom 82 = .ok (.getfield 20, 3) := by decide +kernel
theorem dX5_atom_85 : decode cX5_atom 85 = .ok (.aload_n 0, 1) := by decide +kernel
theorem dX5_atom_86 : decode cX5_atom 86 = .ok (.getfield 119, 3) := by decide +kernel
theorem dX5_atom_89 : decode cX5_atom 89 = .ok (.aload_n 0, 1) := by decide +kernel
theorem dX5_atom_90 : decode cX5_atom 90 = .ok (.dload_n 1, 1) := by decide +kernel
theorem dX5_atom_91 : decode cX5_atom 91 = .ok (.invokevirtual 158, 3) := by decide +kernel
theorem dX5_atom_94 : decode cX5_atom 94 = .ok (.dastore, 1) := by decide +kernel
theorem dX5_atom_95 : decode cX5_atom 95 = .ok (.aload_n 0, 1) := by decide +kernel
theorem dX5_atom_96 : decode cX5_atom 96 = .ok (.getfield 24, 3) := by decide +kernel
theorem dX5_atom_99 : decode cX5_atom 99 = .ok (.aload_n 0, 1) := by decide +kernel
theorem dX5_atom_100 : decode cX5_atom 100 = .ok (.getfield 119, 3) := by decide +kernel
theorem dX5_atom_103 : decode cX5_atom 103 = .ok (.aload_n 0, 1) := by decide +kernel
theorem dX5_atom_104 : decode cX5_atom 104 = .ok (.dload_n 3, 1) := by decide +kernel
theorem dX5_atom_105 : decode cX5_atom 105 = .ok (.invokevirtual 158, 3) := by decide +kernel
theorem dX5_atom_108 : decode cX5_atom 108 = .ok (.dastore, 1) := by decide +kernel
theorem dX5_atom_109 : decode cX5_atom 109 = .ok (.aload_n 0, 1) := by decide +kernel
theorem dX5_atom_110 : decode cX5_atom 110 = .ok (.getfield 27, 3) := by decide +kernel
theorem dX5_atom_113 : decode cX5_atom 113 = .ok (.aload_n 0, 1) := by decide +kernel
theorem dX5_atom_114 : decode cX5_atom 114 = .ok (.getfield 119, 3) := by decide +kernel
theorem dX5_atom_117 : decode cX5_atom 117 = .ok (.dconst 0, 1) := by decide +kernel
theorem dX5_atom_118 : decode cX5_atom 118 = .ok (.dastore, 1) := by decide +kernel
theorem dX5_atom_119 : decode cX5_atom 119 = .ok (.aload_n 0, 1) := by decide +kernel
theorem dX5_atom_120 : decode cX5_atom 120 = .ok (.getfield 30, 3) := by decide +kernel
theorem dX5_atom_123 : decode cX5_atom 123 = .ok (.aload_n 0, 1) := by decide +kernel
theorem dX5_atom_124 : decode cX5_atom 124 = .ok (.getfield 119, 3) := by decide +kernel
theorem dX5_atom_127 : decode cX5_atom 127 = .ok (.dconst 0, 1) := by decide +kernel
theorem dX5_atom_128 : decode cX5_atom 128 = .ok (.dastore, 1) := by decide +kernel
theorem dX5_atom_129 : decode cX5_atom 129 = .ok (.aload_n 0, 1) := by decide +kernel
theorem dX5_atom_130 : decode cX5_atom 130 = .ok (.getfield 33, 3) := by decide +kernel
theorem dX5_atom_133 : decode cX5_atom 133 = .ok (.aload_n 0, 1) := by decide +kernel
theorem dX5_atom_134 : decode cX5_atom 134 = .ok (.getfield 119, 3) := by decide +kernel
theorem dX5_atom_137 : decode cX5_atom 137 = .ok (.dload 5, 2) := by decide +kernel
theorem dX5_atom_139 : decode cX5_atom 139 = .ok (.dastore, 1) := by decide +kernel
theorem dX5_atom_140 : decode cX5_atom 140 = .ok (.aload_n 0, 1) := by decide +kernel
theorem dX5_atom_141 : decode cX5_atom 141 = .ok (.getfield 36, 3) := by decide +kernel
theorem dX5_atom_144 : decode cX5_atom 144 = .ok (.aload_n 0, 1) := by decide +kernel
theorem dX5_atom_145 : decode cX5_atom 145 = .ok (.getfield 119, 3) := by decide +kernel
theorem dX5_atom_148 : decode cX5_atom 148 = .ok (.iload 7, 2) := by decide +kernel
theorem dX5_atom_150 : decode cX5_atom 150 = .ok (.iastore, 1) := by decide +kernel
theorem dX5_atom_151 : decode cX5_atom 151 = .ok (.aload_n 0, 1) := by decide +kernel
theorem dX5_atom_152 : decode cX5_atom 152 = .ok (.getfield 40, 3) := by decide +kernel
theorem dX5_atom_155 : decode cX5_atom 155 = .ok (.aload_n 0, 1) := by decide +kernel
theorem dX5_atom_156 : decode cX5_atom 156 = .ok (.getfield 119, 3) := by decide +kernel
theorem dX5_atom_159 : decode cX5_atom 159 = .ok (.iconst 0, 1) := by decide +kernel
theorem dX5_atom_160 : decode cX5_atom 160 = .ok (.bastore, 1) := by decide +kernel
theorem dX5_atom_161 : decode cX5_atom 161 = .ok (.aload_n 0, 1) := by decide +kernel
theorem dX5_atom_162 : decode cX5_atom 162 = .ok (.iconst 0, 1) := by decide +kernel
theorem dX5_atom_163 : decode cX5_atom 163 = .ok (.putfield 161, 3) := by decide +kernel
theorem dX5_atom_166 : decode cX5_atom 166 = .ok (.aload_n 0, 1) := by decide +kernel
theorem dX5_atom_167 : decode cX5_atom 167 = .ok (.dup, 1) := by decide +kernel
theorem dX5_atom_168 : decode cX5_atom 168 = .ok (.getfield 119, 3) := by decide +kernel
theorem dX5_atom_171 : decode cX5_atom 171 = .ok (.iconst 1, 1) := by decide +kernel
theorem dX5_atom_172 : decode cX5_atom 172 = .ok (.iadd, 1) := by decide +kernel
theorem dX5_atom_173 : decode cX5_atom 173 = .ok (.putfield 119, 3) := by decide +kernel
theorem dX5_atom_176 : decode cX5_atom 176 = .ok (.aload_n 0, 1) := by decide +kernel
theorem dX5_atom_177 : decode cX5_atom 177 = .ok (.getfield 119, 3) := by decide +kernel
theorem dX5_atom_180 : decode cX5_atom 180 = .ok (.iconst 1, 1) := by decide +kernel
theorem dX5_atom_181 : decode cX5_atom 181 = .ok (.isub, 1) := by decide +kernel
theorem dX5_atom_182 : decode cX5_atom 182 = .ok (.ireturn, 1) := by decide +kernel
abbrev cX5_in : ByteArray := prog_10_method_3_code
def yX5_in : MethodName := ⟨RX5, "in", "(DDD)Z"⟩
theorem dX5_in_0 : decode cX5_in 0 = .ok (.dload_n 0, 1) := by decide +kernel
theorem dX5_in_1 : decode cX5_in 1 = .ok (.dload_n 2, 1) := by decide +kernel
theorem dX5_in_2 : decode cX5_in 2 = .ok (.dcmp .l, 1) := by decide +kernel
theorem dX5_in_3 : decode cX5_in 3 = .ok (.ifCond .lt 14, 3) := by decide +kernel
theorem dX5_in_6 : decode cX5_in 6 = .ok (.dload_n 0, 1) := by decide +kernel
theorem dX5_in_7 : decode cX5_in 7 = .ok (.dload 4, 2) := by decide +kernel
theorem dX5_in_9 : decode cX5_in 9 = .ok (.dcmp .g, 1) := by decide +kernel
theorem dX5_in_10 : decode cX5_in 10 = .ok (.ifCond .gt 7, 3) := by decide +kernel
theorem dX5_in_13 : decode cX5_in 13 = .ok (.iconst 1, 1) := by decide +kernel
theorem dX5_in_14 : decode cX5_in 14 = .ok (.goto 4, 3) := by decide +kernel
theorem dX5_in_17 : decode cX5_in 17 = .ok (.iconst 0, 1) := by decide +kernel
theorem dX5_in_18 : decode cX5_in 18 = .ok (.ireturn, 1) := by decide +kernel
abbrev cX5_bad : ByteArray := prog_10_method_4_code
def yX5_bad : MethodName := ⟨RX5, "bad", "(Z)Z"⟩
theorem dX5_bad_0 : decode cX5_bad 0 = .ok (.aload_n 0, 1) := by decide +kernel
theorem dX5_bad_1 : decode cX5_bad 1 = .ok (.iload_n 1, 1) := by decide +kernel
theorem dX5_bad_2 : decode cX5_bad 2 = .ok (.ifCond .eq 7, 3) := by decide +kernel
theorem dX5_bad_5 : decode cX5_bad 5 = .ok (.iconst 0, 1) := by decide +kernel
theorem dX5_bad_6 : decode cX5_bad 6 = .ok (.goto 4, 3) := by decide +kernel
theorem dX5_bad_9 : decode cX5_bad 9 = .ok (.iconst 1, 1) := by decide +kernel
theorem dX5_bad_10 : decode cX5_bad 10 = .ok (.putfield 115, 3) := by decide +kernel
theorem dX5_bad_13 : decode cX5_bad 13 = .ok (.iload_n 1, 1) := by decide +kernel
theorem dX5_bad_14 : decode cX5_bad 14 = .ok (.ifCond .ne 7, 3) := by decide +kernel
theorem dX5_bad_17 : decode cX5_bad 17 = .ok (.iconst 1, 1) := by decide +kernel
theorem dX5_bad_18 : decode cX5_bad 18 = .ok (.goto 4, 3) := by decide +kernel
theorem dX5_bad_21 : decode cX5_bad 21 = .ok (.iconst 0, 1) := by decide +kernel
theorem dX5_bad_22 : decode cX5_bad 22 = .ok (.ireturn, 1) := by decide +kernel
abbrev cX5_wrapped : ByteArray := prog_10_method_8_code
def yX5_wrapped : MethodName := ⟨RX5, "wrapped", "(D)D"⟩
theorem dX5_wrapped_0 : decode cX5_wrapped 0 = .ok (.dload_n 1, 1) := by decide +kernel
theorem dX5_wrapped_1 : decode cX5_wrapped 1 = .ok (.aload_n 0, 1) := by decide +kernel
theorem dX5_wrapped_2 : decode cX5_wrapped 2 = .ok (.getfield 107, 3) := by decide +kernel
theorem dX5_wrapped_5 : decode cX5_wrapped 5 = .ok (.dload_n 1, 1) := by decide +kernel
theorem dX5_wrapped_6 : decode cX5_wrapped 6 = .ok (.aload_n 0, 1) := by decide +kernel
theorem dX5_wrapped_7 : decode cX5_wrapped 7 = .ok (.getfield 107, 3) := by decide +kernel
theorem dX5_wrapped_10 : decode cX5_wrapped 10 = .ok (.ddiv, 1) := by decide +kernel
theorem dX5_wrapped_11 : decode cX5_wrapped 11 = .ok (.invokestatic 122, 3) := by decide +kernel
theorem dX5_wrapped_14 : decode cX5_wrapped 14 = .ok (.dmul, 1) := by decide +kernel
theorem dX5_wrapped_15 : decode cX5_wrapped 15 = .ok (.dsub, 1) := by decide +kernel
theorem dX5_wrapped_16 : decode cX5_wrapped 16 = .ok (.dstore_n 3, 1) := by decide +kernel
theorem dX5_wrapped_17 : decode cX5_wrapped 17 = .ok (.dload_n 3, 1) := by decide +kernel
theorem dX5_wrapped_18 : decode cX5_wrapped 18 = .ok (.aload_n 0, 1) := by decide +kernel
theorem dX5_wrapped_19 : decode cX5_wrapped 19 = .ok (.getfield 107, 3) := by decide +kernel
theorem dX5_wrapped_22 : decode cX5_wrapped 22 = .ok (.dcmp .l, 1) := by decide +kernel
theorem dX5_wrapped_23 : decode cX5_wrapped 23 = .ok (.ifCond .lt 7, 3) := by decide +kernel
theorem dX5_wrapped_26 : decode cX5_wrapped 26 = .ok (.dconst 0, 1) := by decide +kernel
theorem dX5_wrapped_27 : decode cX5_wrapped 27 = .ok (.goto 4, 3) := by decide +kernel
theorem dX5_wrapped_30 : decode cX5_wrapped 30 = .ok (.dload_n 3, 1) := by decide +kernel
theorem dX5_wrapped_31 : decode cX5_wrapped 31 = .ok (.dreturn, 1) := by decide +kernel
abbrev cX5_floor : ByteArray := prog_10_method_6_code
def yX5_floor : MethodName := ⟨RX5, "floor", "(D)D"⟩
theorem dX5_floor_0 : decode cX5_floor 0 = .ok (.dload_n 0, 1) := by decide +kernel
theorem dX5_floor_1 : decode cX5_floor 1 = .ok (.d2l, 1) := by decide +kernel
theorem dX5_floor_2 : decode cX5_floor 2 = .ok (.lstore_n 2, 1) := by decide +kernel
theorem dX5_floor_3 : decode cX5_floor 3 = .ok (.lload_n 2, 1) := by decide +kernel
theorem dX5_floor_4 : decode cX5_floor 4 = .ok (.l2d, 1) := by decide +kernel
theorem dX5_floor_5 : decode cX5_floor 5 = .ok (.dload_n 0, 1) := by decide +kernel
theorem dX5_floor_6 : decode cX5_floor 6 = .ok (.dcmp .l, 1) := by decide +kernel
theorem dX5_floor_7 : decode cX5_floor 7 = .ok (.ifCond .le 10, 3) := by decide +kernel
theorem dX5_floor_10 : decode cX5_floor 10 = .ok (.lload_n 2, 1) := by decide +kernel
theorem dX5_floor_11 : decode cX5_floor 11 = .ok (.lconst 1, 1) := by decide +kernel
theorem dX5_floor_12 : decode cX5_floor 12 = .ok (.lsub, 1) := by decide +kernel
theorem dX5_floor_13 : decode cX5_floor 13 = .ok (.l2d, 1) := by decide +kernel
theorem dX5_floor_14 : decode cX5_floor 14 = .ok (.goto 5, 3) := by decide +kernel
theorem dX5_floor_17 : decode cX5_floor 17 = .ok (.lload_n 2, 1) := by decide +kernel
theorem dX5_floor_18 : decode cX5_floor 18 = .ok (.l2d, 1) := by decide +kernel
theorem dX5_floor_19 : decode cX5_floor 19 = .ok (.dreturn, 1) := by decide +kernel
abbrev cX5_place : ByteArray := prog_10_method_13_code
def yX5_place : MethodName := ⟨RX5, "place", "(IDD)V"⟩
theorem dX5_place_0 : decode cX5_place 0 = .ok (.aload_n 0, 1) := by decide +kernel
theorem dX5_place_1 : decode cX5_place 1 = .ok (.aload_n 0, 1) := by decide +kernel
theorem dX5_place_2 : decode cX5_place 2 = .ok (.iload_n 1, 1) := by decide +kernel
theorem dX5_place_3 : decode cX5_place 3 = .ok (.invokevirtual 165, 3) := by decide +kernel
theorem dX5_place_6 : decode cX5_place 6 = .ok (.ifCond .eq 34, 3) := by decide +kernel
theorem dX5_place_9 : decode cX5_place 9 = .ok (.dload_n 2, 1) := by decide +kernel
theorem dX5_place_10 : decode cX5_place 10 = .ok (.ldc2_w 142, 3) := by decide +kernel
theorem dX5_place_13 : decode cX5_place 13 = .ok (.ldc2_w 144, 3) := by decide +kernel
theorem dX5_place_16 : decode cX5_place 16 = .ok (.invokestatic 146, 3) := by decide +kernel
theorem dX5_place_19 : decode cX5_place 19 = .ok (.ifCond .eq 21, 3) := by decide +kernel
theorem dX5_place_22 : decode cX5_place 22 = .ok (.dload 4, 2) := by decide +kernel
theorem dX5_place_24 : decode cX5_place 24 = .ok (.ldc2_w 142, 3) := by decide +kernel
theorem dX5_place_27 : decode cX5_place 27 = .ok (.ldc2_w 144, 3) := by decide +kernel
theorem dX5_place_30 : decode cX5_place 30 = .ok (.invokestatic 146, 3) := by decide +kernel
theorem dX5_place_33 : decode cX5_place 33 = .ok (.ifCond .eq 7, 3) := by decide +kernel
theorem dX5_place_36 : decode cX5_place 36 = .ok (.iconst 1, 1) := by decide +kernel
theorem dX5_place_37 : decode cX5_place 37 = .ok (.goto 4, 3) := by decide +kernel
theorem dX5_place_40 : decode cX5_place 40 = .ok (.iconst 0, 1) := by decide +kernel
theorem dX5_place_41 : decode cX5_place 41 = .ok (.invokevirtual 154, 3) := by decide +kernel
theorem dX5_place_44 : decode cX5_place 44 = .ok (.ifCond .eq 4, 3) := by decide +kernel
theorem dX5_place_47 : decode cX5_place 47 = .ok (.return_, 1) := by decide +kernel
theorem dX5_place_48 : decode cX5_place 48 = .ok (.aload_n 0, 1) := by decide +kernel
theorem dX5_place_49 : decode cX5_place 49 = .ok (.getfield 20, 3) := by decide +kernel
theorem dX5_place_52 : decode cX5_place 52 = .ok (.iload_n 1, 1) := by decide +kernel
theorem dX5_place_53 : decode cX5_place 53 = .ok (.aload_n 0, 1) := by decide +kernel
theorem dX5_place_54 : decode cX5_place 54 = .ok (.dload_n 2, 1) := by decide +kernel
theorem dX5_place_55 : decode cX5_place 55 = .ok (.invokevirtual 158, 3) := by decide +kernel
theorem dX5_place_58 : decode cX5_place 58 = .ok (.dastore, 1) := by decide +kernel
theorem dX5_place_59 : decode cX5_place 59 = .ok (.aload_n 0, 1) := by decide +kernel
theorem dX5_place_60 : decode cX5_place 60 = .ok (.getfield 24, 3) := by decide +kernel
theorem dX5_place_63 : decode cX5_place 63 = .ok (.iload_n 1, 1) := by decide +kernel
theorem dX5_place_64 : decode cX5_place 64 = .ok (.aload_n 0, 1) := by decide +kernel
theorem dX5_place_65 : decode cX5_place 65 = .ok (.dload 4, 2) := by decide +kernel
theorem dX5_place_67 : decode cX5_place 67 = .ok (.invokevirtual 158, 3) := by decide +kernel
theorem dX5_place_70 : decode cX5_place 70 = .ok (.dastore, 1) := by decide +kernel
theorem dX5_place_71 : decode cX5_place 71 = .ok (.aload_n 0, 1) := by decide +kernel
theorem dX5_place_72 : decode cX5_place 72 = .ok (.iconst 0, 1) := by decide +kernel
theorem dX5_place_73 : decode cX5_place 73 = .ok (.putfield 161, 3) := by decide +kernel
theorem dX5_place_76 : decode cX5_place 76 = .ok (.return_, 1) := by decide +kernel
abbrev cX5_isAtom : ByteArray := prog_10_method_5_code
def yX5_isAtom : MethodName := ⟨RX5, "isAtom", "(I)Z"⟩
theorem dX5_isAtom_0 : decode cX5_isAtom 0 = .ok (.iload_n 1, 1) := by decide +kernel
theorem dX5_isAtom_1 : decode cX5_isAtom 1 = .ok (.ifCond .lt 15, 3) := by decide +kernel
theorem dX5_isAtom_4 : decode cX5_isAtom 4 = .ok (.iload_n 1, 1) := by decide +kernel
theorem dX5_isAtom_5 : decode cX5_isAtom 5 = .ok (.aload_n 0, 1) := by decide +kernel
theorem dX5_isAtom_6 : decode cX5_isAtom 6 = .ok (.getfield 119, 3) := by decide +kernel
theorem dX5_isAtom_9 : decode cX5_isAtom 9 = .ok (.if_icmp .ge 7, 3) := by decide +kernel
theorem dX5_isAtom_12 : decode cX5_isAtom 12 = .ok (.iconst 1, 1) := by decide +kernel
theorem dX5_isAtom_13 : decode cX5_isAtom 13 = .ok (.goto 4, 3) := by decide +kernel
theorem dX5_isAtom_16 : decode cX5_isAtom 16 = .ok (.iconst 0, 1) := by decide +kernel
theorem dX5_isAtom_17 : decode cX5_isAtom 17 = .ok (.ireturn, 1) := by decide +kernel
abbrev cX5_speed : ByteArray := prog_10_method_14_code
def yX5_speed : MethodName := ⟨RX5, "speed", "(IDD)V"⟩
theorem dX5_speed_0 : decode cX5_speed 0 = .ok (.aload_n 0, 1) := by decide +kernel
theorem dX5_speed_1 : decode cX5_speed 1 = .ok (.aload_n 0, 1) := by decide +kernel
theorem dX5_speed_2 : decode cX5_speed 2 = .ok (.iload_n 1, 1) := by decide +kernel
theorem dX5_speed_3 : decode cX5_speed 3 = .ok (.invokevirtual 165, 3) := by decide +kernel
theorem dX5_speed_6 : decode cX5_speed 6 = .ok (.ifCond .eq 34, 3) := by decide +kernel
theorem dX5_speed_9 : decode cX5_speed 9 = .ok (.dload_n 2, 1) := by decide +kernel
theorem dX5_speed_10 : decode cX5_speed 10 = .ok (.ldc2_w 142, 3) := by decide +kernel
theorem dX5_speed_13 : decode cX5_speed 13 = .ok (.ldc2_w 144, 3) := by decide +kernel
theorem dX5_speed_16 : decode cX5_speed 16 = .ok (.invokestatic 146, 3) := by decide +kernel
theorem dX5_speed_19 : decode cX5_speed 19 = .ok (.ifCond .eq 21, 3) := by decide +kernel
theorem dX5_speed_22 : decode cX5_speed 22 = .ok (.dload 4, 2) := by decide +kernel
theorem dX5_speed_24 : decode cX5_speed 24 = .ok (.ldc2_w 142, 3) := by decide +kernel
theorem dX5_speed_27 : decode cX5_speed 27 = .ok (.ldc2_w 144, 3) := by decide +kernel
theorem dX5_speed_30 : decode cX5_speed 30 = .ok (.invokestatic 146, 3) := by decide +kernel
theorem dX5_speed_33 : decode cX5_speed 33 = .ok (.ifCond .eq 7, 3) := by decide +kernel
theorem dX5_speed_36 : decode cX5_speed 36 = .ok (.iconst 1, 1) := by decide +kernel
theorem dX5_speed_37 : decode cX5_speed 37 = .ok (.goto 4, 3) := by decide +kernel
theorem dX5_speed_40 : decode cX5_speed 40 = .ok (.iconst 0, 1) := by decide +kernel
theorem dX5_speed_41 : decode cX5_speed 41 = .ok (.invokevirtual 154, 3) := by decide +kernel
theorem dX5_speed_44 : decode cX5_speed 44 = .ok (.ifCond .eq 4, 3) := by decide +kernel
theorem dX5_speed_47 : decode cX5_speed 47 = .ok (.return_, 1) := by decide +kernel
theorem dX5_speed_48 : decode cX5_speed 48 = .ok (.aload_n 0, 1) := by decide +kernel
theorem dX5_speed_49 : decode cX5_speed 49 = .ok (.getfield 27, 3) := by decide +kernel
theorem dX5_speed_52 : decode cX5_speed 52 = .ok (.iload_n 1, 1) := by decide +kernel
theorem dX5_speed_53 : decode cX5_speed 53 = .ok (.dload_n 2, 1) := by decide +kernel
theorem dX5_speed_54 : decode cX5_speed 54 = .ok (.dastore, 1) := by decide +kernel
theorem dX5_speed_55 : decode cX5_speed 55 = .ok (.aload_n 0, 1) := by decide +kernel
theorem dX5_speed_56 : decode cX5_speed 56 = .ok (.getfield 30, 3) := by decide +kernel
theorem dX5_speed_59 : decode cX5_speed 59 = .ok (.iload_n 1, 1) := by decide +kernel
theorem dX5_speed_60 : decode cX5_speed 60 = .ok (.dload 4, 2) := by decide +kernel
theorem dX5_speed_62 : decode cX5_speed 62 = .ok (.dastore, 1) := by decide +kernel
theorem dX5_speed_63 : decode cX5_speed 63 = .ok (.return_, 1) := by decide +kernel
abbrev cX5_sort : ByteArray := prog_10_method_15_code
def yX5_sort : MethodName := ⟨RX5, "sort", "(IDDD)V"⟩
theorem dX5_sort_0 : decode cX5_sort 0 = .ok (.aload_n 0, 1) := by decide +kernel
theorem dX5_sort_1 : decode cX5_sort 1 = .ok (.iload_n 1, 1) := by decide +kernel
theorem dX5_sort_2 : decode cX5_sort 2 = .ok (.ifCond .lt 51, 3) := by decide +kernel
theorem dX5_sort_5 : decode cX5_sort 5 = .ok (.iload_n 1, 1) := by decide +kernel
theorem dX5_sort_6 : decode cX5_sort 6 = .ok (.iconst 3, 1) := by decide +kernel
theorem dX5_sort_7 : decode cX5_sort 7 = .ok (.if_icmp .ge 46, 3) := by decide +kernel
theorem dX5_sort_10 : decode cX5_sort 10 = .ok (.dload_n 2, 1) := by decide +kernel
theorem dX5_sort_11 : decode cX5_sort 11 = .ok (.ldc2_w 150, 3) := by decide +kernel
theorem dX5_sort_14 : decode cX5_sort 14 = .ok (.ldc2_w 169, 3) := by decide +kernel
theorem dX5_sort_17 : decode cX5_sort 17 = .ok (.invokestatic 146, 3) := by decide +kernel
theorem dX5_sort_20 : decode cX5_sort 20 = .ok (.ifCond .eq 33, 3) := by decide +kernel
theorem dX5_sort_23 : decode cX5_sort 23 = .ok (.dload 4, 2) := by decide +kernel
theorem dX5_sort_25 : decode cX5_sort 25 = .ok (.dconst 0, 1) := by decide +kernel
theorem dX5_sort_26 : decode cX5_sort 26 = .ok (.ldc2_w 152, 3) := by decide +kernel
theorem dX5_sort_29 : decode cX5_sort 29 = .ok (.invokestatic 146, 3) := by decide +kernel
theorem dX5_sort_32 : decode cX5_sort 32 = .ok (.ifCond .eq 21, 3) := by decide +kernel
theorem dX5_sort_35 : decode cX5_sort 35 = .ok (.dload 6, 2) := by decide +kernel
theorem dX5_sort_37 : decode cX5_sort 37 = .ok (.ldc2_w 171, 3) := by decide +kernel
theorem dX5_sort_40 : decode cX5_sort 40 = .ok (.ldc2_w 173, 3) := by decide +kernel
theorem dX5_sort_43 : decode cX5_sort 43 = .ok (.invokestatic 146, 3) := by decide +kernel
theorem dX5_sort_46 : decode cX5_sort 46 = .ok (.ifCond .eq 7, 3) := by decide +kernel
theorem dX5_sort_49 : decode cX5_sort 49 = .ok (.iconst 1, 1) := by decide +kernel
theorem dX5_sort_50 : decode cX5_sort 50 = .ok (.goto 4, 3) := by decide +kernel
theorem dX5_sort_53 : decode cX5_sort 53 = .ok (.iconst 0, 1) := by decide +kernel
theorem dX5_sort_54 : decode cX5_sort 54 = .ok (.invokevirtual 154, 3) := by decide +kernel
theorem dX5_sort_57 : decode cX5_sort 57 = .ok (.ifCond .eq 4, 3) := by decide +kernel
theorem dX5_sort_60 : decode cX5_sort 60 = .ok (.return_, 1) := by decide +kernel
theorem dX5_sort_61 : decode cX5_sort 61 = .ok (.aload_n 0, 1) := by decide +kernel
theorem dX5_sort_62 : decode cX5_sort 62 = .ok (.getfield 44, 3) := by decide +kernel
theorem dX5_sort_65 : decode cX5_sort 65 = .ok (.iload_n 1, 1) := by decide +kernel
theorem dX5_sort_66 : decode cX5_sort 66 = .ok (.dload_n 2, 1) := by decide +kernel
theorem dX5_sort_67 : decode cX5_sort 67 = .ok (.dastore, 1) := by decide +kernel
theorem dX5_sort_68 : decode cX5_sort 68 = .ok (.aload_n 0, 1) := by decide +kernel
theorem dX5_sort_69 : decode cX5_sort 69 = .ok (.getfield 47, 3) := by decide +kernel
theorem dX5_sort_72 : decode cX5_sort 72 = .ok (.iload_n 1, 1) := by decide +kernel
theorem dX5_sort_73 : decode cX5_sort 73 = .ok (.dload 4, 2) := by decide +kernel
theorem dX5_sort_75 : decode cX5_sort 75 = .ok (.dastore, 1) := by decide +kernel
theorem dX5_sort_76 : decode cX5_sort 76 = .ok (.aload_n 0, 1) := by decide +kernel
theorem dX5_sort_77 : decode cX5_sort 77 = .ok (.getfield 50, 3) := by decide +kernel
theorem dX5_sort_80 : decode cX5_sort 80 = .ok (.iload_n 1, 1) := by decide +kernel
theorem dX5_sort_81 : decode cX5_sort 81 = .ok (.dload 6, 2) := by decide +kernel
theorem dX5_sort_83 : decode cX5_sort 83 = .ok (.dastore, 1) := by decide +kernel
theorem dX5_sort_84 : decode cX5_sort 84 = .ok (.return_, 1) := by decide +kernel
