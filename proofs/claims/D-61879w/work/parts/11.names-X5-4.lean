set_option maxRecDepth 100000
abbrev cX5_root : ByteArray := prog_10_method_7_code
def yX5_root : MethodName := ⟨RX5, "root", "(D)D"⟩
theorem dX5_root_0 : decode cX5_root 0 = .ok (.dload_n 0, 1) := by decide +kernel
theorem dX5_root_1 : decode cX5_root 1 = .ok (.dconst 0, 1) := by decide +kernel
theorem dX5_root_2 : decode cX5_root 2 = .ok (.dcmp .l, 1) := by decide +kernel
theorem dX5_root_3 : decode cX5_root 3 = .ok (.ifCond .ne 5, 3) := by decide +kernel
theorem dX5_root_6 : decode cX5_root 6 = .ok (.dconst 0, 1) := by decide +kernel
theorem dX5_root_7 : decode cX5_root 7 = .ok (.dreturn, 1) := by decide +kernel
theorem dX5_root_8 : decode cX5_root 8 = .ok (.dload_n 0, 1) := by decide +kernel
theorem dX5_root_9 : decode cX5_root 9 = .ok (.dconst 1, 1) := by decide +kernel
theorem dX5_root_10 : decode cX5_root 10 = .ok (.dadd, 1) := by decide +kernel
theorem dX5_root_11 : decode cX5_root 11 = .ok (.ldc2_w 7, 3) := by decide +kernel
theorem dX5_root_14 : decode cX5_root 14 = .ok (.dmul, 1) := by decide +kernel
theorem dX5_root_15 : decode cX5_root 15 = .ok (.dstore_n 2, 1) := by decide +kernel
theorem dX5_root_16 : decode cX5_root 16 = .ok (.iconst 0, 1) := by decide +kernel
theorem dX5_root_17 : decode cX5_root 17 = .ok (.istore 4, 2) := by decide +kernel
theorem dX5_root_19 : decode cX5_root 19 = .ok (.iload 4, 2) := by decide +kernel
theorem dX5_root_21 : decode cX5_root 21 = .ok (.bipush 40, 2) := by decide +kernel
theorem dX5_root_23 : decode cX5_root 23 = .ok (.if_icmp .ge 19, 3) := by decide +kernel
theorem dX5_root_26 : decode cX5_root 26 = .ok (.dload_n 2, 1) := by decide +kernel
theorem dX5_root_27 : decode cX5_root 27 = .ok (.dload_n 0, 1) := by decide +kernel
theorem dX5_root_28 : decode cX5_root 28 = .ok (.dload_n 2, 1) := by decide +kernel
theorem dX5_root_29 : decode cX5_root 29 = .ok (.ddiv, 1) := by decide +kernel
theorem dX5_root_30 : decode cX5_root 30 = .ok (.dadd, 1) := by decide +kernel
theorem dX5_root_31 : decode cX5_root 31 = .ok (.ldc2_w 7, 3) := by decide +kernel
theorem dX5_root_34 : decode cX5_root 34 = .ok (.dmul, 1) := by decide +kernel
theorem dX5_root_35 : decode cX5_root 35 = .ok (.dstore_n 2, 1) := by decide +kernel
theorem dX5_root_36 : decode cX5_root 36 = .ok (.iinc 4 1, 3) := by decide +kernel
theorem dX5_root_39 : decode cX5_root 39 = .ok (.goto (-20), 3) := by decide +kernel
theorem dX5_root_42 : decode cX5_root 42 = .ok (.dload_n 2, 1) := by decide +kernel
theorem dX5_root_43 : decode cX5_root 43 = .ok (.dreturn, 1) := by decide +kernel
abbrev cX5_scale : ByteArray := prog_10_method_38_code
def yX5_scale : MethodName := ⟨RX5, "scale", "(D)D"⟩
theorem dX5_scale_0 : decode cX5_scale 0 = .ok (.aload_n 0, 1) := by decide +kernel
theorem dX5_scale_1 : decode cX5_scale 1 = .ok (.dload_n 1, 1) := by decide +kernel
theorem dX5_scale_2 : decode cX5_scale 2 = .ok (.dconst 0, 1) := by decide +kernel
theorem dX5_scale_3 : decode cX5_scale 3 = .ok (.ldc2_w 144, 3) := by decide +kernel
theorem dX5_scale_6 : decode cX5_scale 6 = .ok (.invokestatic 146, 3) := by decide +kernel
theorem dX5_scale_9 : decode cX5_scale 9 = .ok (.invokevirtual 154, 3) := by decide +kernel
theorem dX5_scale_12 : decode cX5_scale 12 = .ok (.ifCond .eq 5, 3) := by decide +kernel
theorem dX5_scale_15 : decode cX5_scale 15 = .ok (.dconst 0, 1) := by decide +kernel
theorem dX5_scale_16 : decode cX5_scale 16 = .ok (.dreturn, 1) := by decide +kernel
theorem dX5_scale_17 : decode cX5_scale 17 = .ok (.aload_n 0, 1) := by decide +kernel
theorem dX5_scale_18 : decode cX5_scale 18 = .ok (.dload_n 1, 1) := by decide +kernel
theorem dX5_scale_19 : decode cX5_scale 19 = .ok (.invokevirtual 265, 3) := by decide +kernel
theorem dX5_scale_22 : decode cX5_scale 22 = .ok (.dreturn, 1) := by decide +kernel
abbrev cX5_energy : ByteArray := prog_10_method_39_code
def yX5_energy : MethodName := ⟨RX5, "energy", "(I)D"⟩
theorem dX5_energy_0 : decode cX5_energy 0 = .ok (.aload_n 0, 1) := by decide +kernel
theorem dX5_energy_1 : decode cX5_energy 1 = .ok (.iload_n 1, 1) := by decide +kernel
theorem dX5_energy_2 : decode cX5_energy 2 = .ok (.ifCond .lt 12, 3) := by decide +kernel
theorem dX5_energy_5 : decode cX5_energy 5 = .ok (.iload_n 1, 1) := by decide +kernel
theorem dX5_energy_6 : decode cX5_energy 6 = .ok (.iconst 3, 1) := by decide +kernel
theorem dX5_energy_7 : decode cX5_energy 7 = .ok (.if_icmp .ge 7, 3) := by decide +kernel
theorem dX5_energy_10 : decode cX5_energy 10 = .ok (.iconst 1, 1) := by decide +kernel
theorem dX5_energy_11 : decode cX5_energy 11 = .ok (.goto 4, 3) := by decide +kernel
theorem dX5_energy_14 : decode cX5_energy 14 = .ok (.iconst 0, 1) := by decide +kernel
theorem dX5_energy_15 : decode cX5_energy 15 = .ok (.invokevirtual 154, 3) := by decide +kernel
theorem dX5_energy_18 : decode cX5_energy 18 = .ok (.ifCond .eq 5, 3) := by decide +kernel
theorem dX5_energy_21 : decode cX5_energy 21 = .ok (.dconst 0, 1) := by decide +kernel
theorem dX5_energy_22 : decode cX5_energy 22 = .ok (.dreturn, 1) := by decide +kernel
theorem dX5_energy_23 : decode cX5_energy 23 = .ok (.iload_n 1, 1) := by decide +kernel
theorem dX5_energy_24 : decode cX5_energy 24 = .ok (.iconst 2, 1) := by decide +kernel
theorem dX5_energy_25 : decode cX5_energy 25 = .ok (.if_icmp .ge 17, 3) := by decide +kernel
theorem dX5_energy_28 : decode cX5_energy 28 = .ok (.aload_n 0, 1) := by decide +kernel
theorem dX5_energy_29 : decode cX5_energy 29 = .ok (.invokevirtual 211, 3) := by decide +kernel
theorem dX5_energy_32 : decode cX5_energy 32 = .ok (.ifCond .eq 10, 3) := by decide +kernel
theorem dX5_energy_35 : decode cX5_energy 35 = .ok (.aload_n 0, 1) := by decide +kernel
theorem dX5_energy_36 : decode cX5_energy 36 = .ok (.iconst 2, 1) := by decide +kernel
theorem dX5_energy_37 : decode cX5_energy 37 = .ok (.putfield 115, 3) := by decide +kernel
theorem dX5_energy_40 : decode cX5_energy 40 = .ok (.dconst 0, 1) := by decide +kernel
theorem dX5_energy_41 : decode cX5_energy 41 = .ok (.dreturn, 1) := by decide +kernel
theorem dX5_energy_42 : decode cX5_energy 42 = .ok (.dconst 0, 1) := by decide +kernel
theorem dX5_energy_43 : decode cX5_energy 43 = .ok (.dstore_n 2, 1) := by decide +kernel
theorem dX5_energy_44 : decode cX5_energy 44 = .ok (.iconst 0, 1) := by decide +kernel
theorem dX5_energy_45 : decode cX5_energy 45 = .ok (.istore 4, 2) := by decide +kernel
theorem dX5_energy_47 : decode cX5_energy 47 = .ok (.iload 4, 2) := by decide +kernel
theorem dX5_energy_49 : decode cX5_energy 49 = .ok (.aload_n 0, 1) := by decide +kernel
theorem dX5_energy_50 : decode cX5_energy 50 = .ok (.getfield 119, 3) := by decide +kernel
theorem dX5_energy_53 : decode cX5_energy 53 = .ok (.if_icmp .ge 169, 3) := by decide +kernel
theorem dX5_energy_56 : decode cX5_energy 56 = .ok (.iload_n 1, 1) := by decide +kernel
theorem dX5_energy_57 : decode cX5_energy 57 = .ok (.iconst 2, 1) := by decide +kernel
theorem dX5_energy_58 : decode cX5_energy 58 = .ok (.if_icmp .ne 49, 3) := by decide +kernel
theorem dX5_energy_61 : decode cX5_energy 61 = .ok (.dload_n 2, 1) := by decide +kernel
theorem dX5_energy_62 : decode cX5_energy 62 = .ok (.ldc2_w 7, 3) := by decide +kernel
theorem dX5_energy_65 : decode cX5_energy 65 = .ok (.aload_n 0, 1) := by decide +kernel
theorem dX5_energy_66 : decode cX5_energy 66 = .ok (.getfield 33, 3) := by decide +kernel
theorem dX5_energy_69 : decode cX5_energy 69 = .ok (.iload 4, 2) := by decide +kernel
theorem dX5_energy_71 : decode cX5_energy 71 = .ok (.daload, 1) := by decide +kernel
theorem dX5_energy_72 : decode cX5_energy 72 = .ok (.dmul, 1) := by decide +kernel
theorem dX5_energy_73 : decode cX5_energy 73 = .ok (.aload_n 0, 1) := by decide +kernel
theorem dX5_energy_74 : decode cX5_energy 74 = .ok (.getfield 27, 3) := by decide +kernel
theorem dX5_energy_77 : decode cX5_energy 77 = .ok (.iload 4, 2) := by decide +kernel
theorem dX5_energy_79 : decode cX5_energy 79 = .ok (.daload, 1) := by decide +kernel
theorem dX5_energy_80 : decode cX5_energy 80 = .ok (.aload_n 0, 1) := by decide +kernel
theorem dX5_energy_81 : decode cX5_energy 81 = .ok (.getfield 27, 3) := by decide +kernel
theorem dX5_energy_84 : decode cX5_energy 84 = .ok (.iload 4, 2) := by decide +kernel
theorem dX5_energy_86 : decode cX5_energy 86 = .ok (.daload, 1) := by decide +kernel
theorem dX5_energy_87 : decode cX5_energy 87 = .ok (.dmul, 1) := by decide +kernel
theorem dX5_energy_88 : decode cX5_energy 88 = .ok (.aload_n 0, 1) := by decide +kernel
theorem dX5_energy_89 : decode cX5_energy 89 = .ok (.getfield 30, 3) := by decide +kernel
theorem dX5_energy_92 : decode cX5_energy 92 = .ok (.iload 4, 2) := by decide +kernel
theorem dX5_energy_94 : decode cX5_energy 94 = .ok (.daload, 1) := by decide +kernel
theorem dX5_energy_95 : decode cX5_energy 95 = .ok (.aload_n 0, 1) := by decide +kernel
theorem dX5_energy_96 : decode cX5_energy 96 = .ok (.getfield 30, 3) := by decide +kernel
theorem dX5_energy_99 : decode cX5_energy 99 = .ok (.iload 4, 2) := by decide +kernel
theorem dX5_energy_101 : decode cX5_energy 101 = .ok (.daload, 1) := by decide +kernel
theorem dX5_energy_102 : decode cX5_energy 102 = .ok (.dmul, 1) := by decide +kernel
theorem dX5_energy_103 : decode cX5_energy 103 = .ok (.dadd, 1) := by decide +kernel
theorem dX5_energy_104 : decode cX5_energy 104 = .ok (.dmul, 1) := by decide +kernel
theorem dX5_energy_105 : decode cX5_energy 105 = .ok (.dadd, 1) := by decide +kernel
theorem dX5_energy_106 : decode cX5_energy 106 = .ok (.dstore_n 2, 1) := by decide +kernel
theorem dX5_energy_107 : decode cX5_energy 107 = .ok (.iload 4, 2) := by decide +kernel
theorem dX5_energy_109 : decode cX5_energy 109 = .ok (.iconst 1, 1) := by decide +kernel
theorem dX5_energy_110 : decode cX5_energy 110 = .ok (.iadd, 1) := by decide +kernel
theorem dX5_energy_111 : decode cX5_energy 111 = .ok (.istore 5, 2) := by decide +kernel
theorem dX5_energy_113 : decode cX5_energy 113 = .ok (.iload 5, 2) := by decide +kernel
theorem dX5_energy_115 : decode cX5_energy 115 = .ok (.aload_n 0, 1) := by decide +kernel
theorem dX5_energy_116 : decode cX5_energy 116 = .ok (.getfield 119, 3) := by decide +kernel
theorem dX5_energy_119 : decode cX5_energy 119 = .ok (.if_icmp .ge 97, 3) := by decide +kernel
theorem dX5_energy_122 : decode cX5_energy 122 = .ok (.iload_n 1, 1) := by decide +kernel
theorem dX5_energy_123 : decode cX5_energy 123 = .ok (.ifCond .ne 93, 3) := by decide +kernel
theorem dX5_energy_126 : decode cX5_energy 126 = .ok (.aload_n 0, 1) := by decide +kernel
theorem dX5_energy_127 : decode cX5_energy 127 = .ok (.iload 4, 2) := by decide +kernel
theorem dX5_energy_129 : decode cX5_energy 129 = .ok (.iload 5, 2) := by decide +kernel
theorem dX5_energy_131 : decode cX5_energy 131 = .ok (.invokevirtual 187, 3) := by decide +kernel
theorem dX5_energy_134 : decode cX5_energy 134 = .ok (.ifCond .ne 6, 3) := by decide +kernel
theorem dX5_energy_137 : decode cX5_energy 137 = .ok (.goto 73, 3) := by decide +kernel
theorem dX5_energy_140 : decode cX5_energy 140 = .ok (.aload_n 0, 1) := by decide +kernel
theorem dX5_energy_141 : decode cX5_energy 141 = .ok (.iload 4, 2) := by decide +kernel
theorem dX5_energy_143 : decode cX5_energy 143 = .ok (.iload 5, 2) := by decide +kernel
theorem dX5_energy_145 : decode cX5_energy 145 = .ok (.invokevirtual 191, 3) := by decide +kernel
theorem dX5_energy_148 : decode cX5_energy 148 = .ok (.dstore 6, 2) := by decide +kernel
theorem dX5_energy_150 : decode cX5_energy 150 = .ok (.aload_n 0, 1) := by decide +kernel
theorem dX5_energy_151 : decode cX5_energy 151 = .ok (.iload 4, 2) := by decide +kernel
theorem dX5_energy_153 : decode cX5_energy 153 = .ok (.iload 5, 2) := by decide +kernel
theorem dX5_energy_155 : decode cX5_energy 155 = .ok (.invokevirtual 195, 3) := by decide +kernel
theorem dX5_energy_158 : decode cX5_energy 158 = .ok (.dstore 8, 2) := by decide +kernel
theorem dX5_energy_160 : decode cX5_energy 160 = .ok (.aload_n 0, 1) := by decide +kernel
theorem dX5_energy_161 : decode cX5_energy 161 = .ok (.iload 4, 2) := by decide +kernel
theorem dX5_energy_163 : decode cX5_energy 163 = .ok (.iload 5, 2) := by decide +kernel
theorem dX5_energy_165 : decode cX5_energy 165 = .ok (.invokevirtual 198, 3) := by decide +kernel
theorem dX5_energy_168 : decode cX5_energy 168 = .ok (.dstore 10, 2) := by decide +kernel
theorem dX5_energy_170 : decode cX5_energy 170 = .ok (.dload_n 2, 1) := by decide +kernel
theorem dX5_energy_171 : decode cX5_energy 171 = .ok (.ldc2_w 169, 3) := by decide +kernel
theorem dX5_energy_174 : decode cX5_energy 174 = .ok (.dload 6, 2) := by decide +kernel
theorem dX5_energy_176 : decode cX5_energy 176 = .ok (.dmul, 1) := by decide +kernel
theorem dX5_energy_177 : decode cX5_energy 177 = .ok (.dload 8, 2) := by decide +kernel
theorem dX5_energy_179 : decode cX5_energy 179 = .ok (.dload 8, 2) := by decide +kernel
theorem dX5_energy_181 : decode cX5_energy 181 = .ok (.dmul, 1) := by decide +kernel
theorem dX5_energy_182 : decode cX5_energy 182 = .ok (.dload 8, 2) := by decide +kernel
theorem dX5_energy_184 : decode cX5_energy 184 = .ok (.dsub, 1) := by decide +kernel
theorem dX5_energy_185 : decode cX5_energy 185 = .ok (.dmul, 1) := by decide +kernel
theorem dX5_energy_186 : decode cX5_energy 186 = .ok (.dload 10, 2) := by decide +kernel
theorem dX5_energy_188 : decode cX5_energy 188 = .ok (.dconst 1, 1) := by decide +kernel
theorem dX5_energy_189 : decode cX5_energy 189 = .ok (.aload_n 0, 1) := by decide +kernel
theorem dX5_energy_190 : decode cX5_energy 190 = .ok (.getfield 135, 3) := by decide +kernel
theorem dX5_energy_193 : decode cX5_energy 193 = .ok (.ddiv, 1) := by decide +kernel
theorem dX5_energy_194 : decode cX5_energy 194 = .ok (.dconst 1, 1) := by decide +kernel
theorem dX5_energy_195 : decode cX5_energy 195 = .ok (.aload_n 0, 1) := by decide +kernel
theorem dX5_energy_196 : decode cX5_energy 196 = .ok (.getfield 112, 3) := by decide +kernel
theorem dX5_energy_199 : decode cX5_energy 199 = .ok (.aload_n 0, 1) := by decide +kernel
theorem dX5_energy_200 : decode cX5_energy 200 = .ok (.getfield 112, 3) := by decide +kernel
theorem dX5_energy_203 : decode cX5_energy 203 = .ok (.dmul, 1) := by decide +kernel
theorem dX5_energy_204 : decode cX5_energy 204 = .ok (.ddiv, 1) := by decide +kernel
theorem dX5_energy_205 : decode cX5_energy 205 = .ok (.dsub, 1) := by decide +kernel
theorem dX5_energy_206 : decode cX5_energy 206 = .ok (.dmul, 1) := by decide +kernel
theorem dX5_energy_207 : decode cX5_energy 207 = .ok (.dadd, 1) := by decide +kernel
theorem dX5_energy_208 : decode cX5_energy 208 = .ok (.dadd, 1) := by decide +kernel
theorem dX5_energy_209 : decode cX5_energy 209 = .ok (.dstore_n 2, 1) := by decide +kernel
theorem dX5_energy_210 : decode cX5_energy 210 = .ok (.iinc 5 1, 3) := by decide +kernel
theorem dX5_energy_213 : decode cX5_energy 213 = .ok (.goto (-100), 3) := by decide +kernel
theorem dX5_energy_216 : decode cX5_energy 216 = .ok (.iinc 4 1, 3) := by decide +kernel
theorem dX5_energy_219 : decode cX5_energy 219 = .ok (.goto (-172), 3) := by decide +kernel
theorem dX5_energy_222 : decode cX5_energy 222 = .ok (.iconst 0, 1) := by decide +kernel
theorem dX5_energy_223 : decode cX5_energy 223 = .ok (.istore 4, 2) := by decide +kernel
theorem dX5_energy_225 : decode cX5_energy 225 = .ok (.iload 4, 2) := by decide +kernel
theorem dX5_energy_227 : decode cX5_energy 227 = .ok (.aload_n 0, 1) := by decide +kernel
theorem dX5_energy_228 : decode cX5_energy 228 = .ok (.getfield 175, 3) := by decide +kernel
theorem dX5_energy_231 : decode cX5_energy 231 = .ok (.if_icmp .ge 74, 3) := by decide +kernel
theorem dX5_energy_234 : decode cX5_energy 234 = .ok (.iload_n 1, 1) := by decide +kernel
theorem dX5_energy_235 : decode cX5_energy 235 = .ok (.iconst 1, 1) := by decide +kernel
theorem dX5_energy_236 : decode cX5_energy 236 = .ok (.if_icmp .ne 69, 3) := by decide +kernel
theorem dX5_energy_239 : decode cX5_energy 239 = .ok (.aload_n 0, 1) := by decide +kernel
theorem dX5_energy_240 : decode cX5_energy 240 = .ok (.aload_n 0, 1) := by decide +kernel
theorem dX5_energy_241 : decode cX5_energy 241 = .ok (.getfield 53, 3) := by decide +kernel
theorem dX5_energy_244 : decode cX5_energy 244 = .ok (.iload 4, 2) := by decide +kernel
theorem dX5_energy_246 : decode cX5_energy 246 = .ok (.iaload, 1) := by decide +kernel
theorem dX5_energy_247 : decode cX5_energy 247 = .ok (.aload_n 0, 1) := by decide +kernel
theorem dX5_energy_248 : decode cX5_energy 248 = .ok (.getfield 56, 3) := by decide +kernel
theorem dX5_energy_251 : decode cX5_energy 251 = .ok (.iload 4, 2) := by decide +kernel
theorem dX5_energy_253 : decode cX5_energy 253 = .ok (.iaload, 1) := by decide +kernel
theorem dX5_energy_254 : decode cX5_energy 254 = .ok (.invokevirtual 181, 3) := by decide +kernel
theorem dX5_energy_257 : decode cX5_energy 257 = .ok (.aload_n 0, 1) := by decide +kernel
theorem dX5_energy_258 : decode cX5_energy 258 = .ok (.getfield 135, 3) := by decide +kernel
theorem dX5_energy_261 : decode cX5_energy 261 = .ok (.aload_n 0, 1) := by decide +kernel
theorem dX5_energy_262 : decode cX5_energy 262 = .ok (.getfield 68, 3) := by decide +kernel
theorem dX5_energy_265 : decode cX5_energy 265 = .ok (.iload 4, 2) := by decide +kernel
theorem dX5_energy_267 : decode cX5_energy 267 = .ok (.daload, 1) := by decide +kernel
theorem dX5_energy_268 : decode cX5_energy 268 = .ok (.aload_n 0, 1) := by decide +kernel
theorem dX5_energy_269 : decode cX5_energy 269 = .ok (.getfield 68, 3) := by decide +kernel
theorem dX5_energy_272 : decode cX5_energy 272 = .ok (.iload 4, 2) := by decide +kernel
theorem dX5_energy_274 : decode cX5_energy 274 = .ok (.daload, 1) := by decide +kernel
theorem dX5_energy_275 : decode cX5_energy 275 = .ok (.dmul, 1) := by decide +kernel
theorem dX5_energy_276 : decode cX5_energy 276 = .ok (.dsub, 1) := by decide +kernel
theorem dX5_energy_277 : decode cX5_energy 277 = .ok (.dstore 5, 2) := by decide +kernel
theorem dX5_energy_279 : decode cX5_energy 279 = .ok (.dload_n 2, 1) := by decide +kernel
theorem dX5_energy_280 : decode cX5_energy 280 = .ok (.ldc2_w 110, 3) := by decide +kernel
theorem dX5_energy_283 : decode cX5_energy 283 = .ok (.aload_n 0, 1) := by decide +kernel
theorem dX5_energy_284 : decode cX5_energy 284 = .ok (.getfield 65, 3) := by decide +kernel
theorem dX5_energy_287 : decode cX5_energy 287 = .ok (.iload 4, 2) := by decide +kernel
theorem dX5_energy_289 : decode cX5_energy 289 = .ok (.daload, 1) := by decide +kernel
theorem dX5_energy_290 : decode cX5_energy 290 = .ok (.dmul, 1) := by decide +kernel
theorem dX5_energy_291 : decode cX5_energy 291 = .ok (.dload 5, 2) := by decide +kernel
theorem dX5_energy_293 : decode cX5_energy 293 = .ok (.dmul, 1) := by decide +kernel
theorem dX5_energy_294 : decode cX5_energy 294 = .ok (.dload 5, 2) := by decide +kernel
theorem dX5_energy_296 : decode cX5_energy 296 = .ok (.dmul, 1) := by decide +kernel
theorem dX5_energy_297 : decode cX5_energy 297 = .ok (.dadd, 1) := by decide +kernel
theorem dX5_energy_298 : decode cX5_energy 298 = .ok (.dstore_n 2, 1) := by decide +kernel
theorem dX5_energy_299 : decode cX5_energy 299 = .ok (.iinc 4 1, 3) := by decide +kernel
theorem dX5_energy_302 : decode cX5_energy 302 = .ok (.goto (-77), 3) := by decide +kernel
theorem dX5_energy_305 : decode cX5_energy 305 = .ok (.dload_n 2, 1) := by decide +kernel
theorem dX5_energy_306 : decode cX5_energy 306 = .ok (.dreturn, 1) := by decide +kernel
abbrev cX5_force : ByteArray := prog_10_method_40_code
def yX5_force : MethodName := ⟨RX5, "force", "(II)D"⟩
theorem dX5_force_0 : decode cX5_force 0 = .ok (.aload_n 0, 1) := by decide +kernel
theorem dX5_force_1 : decode cX5_force 1 = .ok (.aload_n 0, 1) := by decide +kernel
theorem dX5_force_2 : decode cX5_force 2 = .ok (.iload_n 1, 1) := by decide +kernel
theorem dX5_force_3 : decode cX5_force 3 = .ok (.invokevirtual 165, 3) := by decide +kernel
theorem dX5_force_6 : decode cX5_force 6 = .ok (.ifCond .eq 16, 3) := by decide +kernel
theorem dX5_force_9 : decode cX5_force 9 = .ok (.iload_n 2, 1) := by decide +kernel
theorem dX5_force_10 : decode cX5_force 10 = .ok (.ifCond .lt 12, 3) := by decide +kernel
theorem dX5_force_13 : decode cX5_force 13 = .ok (.iload_n 2, 1) := by decide +kernel
theorem dX5_force_14 : decode cX5_force 14 = .ok (.iconst 2, 1) := by decide +kernel
theorem dX5_force_15 : decode cX5_force 15 = .ok (.if_icmp .ge 7, 3) := by decide +kernel
theorem dX5_force_18 : decode cX5_force 18 = .ok (.iconst 1, 1) := by decide +kernel
theorem dX5_force_19 : decode cX5_force 19 = .ok (.goto 4, 3) := by decide +kernel
theorem dX5_force_22 : decode cX5_force 22 = .ok (.iconst 0, 1) := by decide +kernel
theorem dX5_force_23 : decode cX5_force 23 = .ok (.invokevirtual 154, 3) := by decide +kernel
theorem dX5_force_26 : decode cX5_force 26 = .ok (.ifCond .eq 5, 3) := by decide +kernel
theorem dX5_force_29 : decode cX5_force 29 = .ok (.dconst 0, 1) := by decide +kernel
theorem dX5_force_30 : decode cX5_force 30 = .ok (.dreturn, 1) := by decide +kernel
theorem dX5_force_31 : decode cX5_force 31 = .ok (.aload_n 0, 1) := by decide +kernel
theorem dX5_force_32 : decode cX5_force 32 = .ok (.invokevirtual 211, 3) := by decide +kernel
theorem dX5_force_35 : decode cX5_force 35 = .ok (.ifCond .eq 10, 3) := by decide +kernel
theorem dX5_force_38 : decode cX5_force 38 = .ok (.aload_n 0, 1) := by decide +kernel
theorem dX5_force_39 : decode cX5_force 39 = .ok (.iconst 2, 1) := by decide +kernel
theorem dX5_force_40 : decode cX5_force 40 = .ok (.putfield 115, 3) := by decide +kernel
theorem dX5_force_43 : decode cX5_force 43 = .ok (.dconst 0, 1) := by decide +kernel
theorem dX5_force_44 : decode cX5_force 44 = .ok (.dreturn, 1) := by decide +kernel
theorem dX5_force_45 : decode cX5_force 45 = .ok (.aload_n 0, 1) := by decide +kernel
theorem dX5_force_46 : decode cX5_force 46 = .ok (.iload_n 1, 1) := by decide +kernel
theorem dX5_force_47 : decode cX5_force 47 = .ok (.invokevirtual 215, 3) := by decide +kernel
theorem dX5_force_50 : decode cX5_force 50 = .ok (.iload_n 2, 1) := by decide +kernel
theorem dX5_force_51 : decode cX5_force 51 = .ok (.ifCond .ne 12, 3) := by decide +kernel
theorem dX5_force_54 : decode cX5_force 54 = .ok (.aload_n 0, 1) := by decide +kernel
theorem dX5_force_55 : decode cX5_force 55 = .ok (.getfield 98, 3) := by decide +kernel
theorem dX5_force_58 : decode cX5_force 58 = .ok (.iload_n 1, 1) := by decide +kernel
theorem dX5_force_59 : decode cX5_force 59 = .ok (.daload, 1) := by decide +kernel
theorem dX5_force_60 : decode cX5_force 60 = .ok (.goto 9, 3) := by decide +kernel
theorem dX5_force_63 : decode cX5_force 63 = .ok (.aload_n 0, 1) := by decide +kernel
theorem dX5_force_64 : decode cX5_force 64 = .ok (.getfield 101, 3) := by decide +kernel
theorem dX5_force_67 : decode cX5_force 67 = .ok (.iload_n 1, 1) := by decide +kernel
theorem dX5_force_68 : decode cX5_force 68 = .ok (.daload, 1) := by decide +kernel
theorem dX5_force_69 : decode cX5_force 69 = .ok (.dreturn, 1) := by decide +kernel
abbrev cX5_told : ByteArray := prog_10_method_41_code
def yX5_told : MethodName := ⟨RX5, "told", "(II)D"⟩
theorem dX5_told_0 : decode cX5_told 0 = .ok (.aload_n 0, 1) := by decide +kernel
theorem dX5_told_1 : decode cX5_told 1 = .ok (.aload_n 0, 1) := by decide +kernel
theorem dX5_told_2 : decode cX5_told 2 = .ok (.iload_n 1, 1) := by decide +kernel
theorem dX5_told_3 : decode cX5_told 3 = .ok (.invokevirtual 165, 3) := by decide +kernel
theorem dX5_told_6 : decode cX5_told 6 = .ok (.ifCond .eq 16, 3) := by decide +kernel
theorem dX5_told_9 : decode cX5_told 9 = .ok (.iload_n 2, 1) := by decide +kernel
theorem dX5_told_10 : decode cX5_told 10 = .ok (.ifCond .lt 12, 3) := by decide +kernel
theorem dX5_told_13 : decode cX5_told 13 = .ok (.iload_n 2, 1) := by decide +kernel
theorem dX5_told_14 : decode cX5_told 14 = .ok (.iconst 5, 1) := by decide +kernel
theorem dX5_told_15 : decode cX5_told 15 = .ok (.if_icmp .ge 7, 3) := by decide +kernel
theorem dX5_told_18 : decode cX5_told 18 = .ok (.iconst 1, 1) := by decide +kernel
theorem dX5_told_19 : decode cX5_told 19 = .ok (.goto 4, 3) := by decide +kernel
theorem dX5_told_22 : decode cX5_told 22 = .ok (.iconst 0, 1) := by decide +kernel
theorem dX5_told_23 : decode cX5_told 23 = .ok (.invokevirtual 154, 3) := by decide +kernel
theorem dX5_told_26 : decode cX5_told 26 = .ok (.ifCond .eq 5, 3) := by decide +kernel
theorem dX5_told_29 : decode cX5_told 29 = .ok (.dconst 0, 1) := by decide +kernel
theorem dX5_told_30 : decode cX5_told 30 = .ok (.dreturn, 1) := by decide +kernel
theorem dX5_told_31 : decode cX5_told 31 = .ok (.iload_n 2, 1) := by decide +kernel
theorem dX5_told_32 : decode cX5_told 32 = .ok (.iconst 2, 1) := by decide +kernel
theorem dX5_told_33 : decode cX5_told 33 = .ok (.if_icmp .ge 23, 3) := by decide +kernel
theorem dX5_told_36 : decode cX5_told 36 = .ok (.iload_n 2, 1) := by decide +kernel
theorem dX5_told_37 : decode cX5_told 37 = .ok (.ifCond .ne 12, 3) := by decide +kernel
theorem dX5_told_40 : decode cX5_told 40 = .ok (.aload_n 0, 1) := by decide +kernel
theorem dX5_told_41 : decode cX5_told 41 = .ok (.getfield 20, 3) := by decide +kernel
theorem dX5_told_44 : decode cX5_told 44 = .ok (.iload_n 1, 1) := by decide +kernel
theorem dX5_told_45 : decode cX5_told 45 = .ok (.daload, 1) := by decide +kernel
theorem dX5_told_46 : decode cX5_told 46 = .ok (.goto 9, 3) := by decide +kernel
theorem dX5_told_49 : decode cX5_told 49 = .ok (.aload_n 0, 1) := by decide +kernel
theorem dX5_told_50 : decode cX5_told 50 = .ok (.getfield 24, 3) := by decide +kernel
theorem dX5_told_53 : decode cX5_told 53 = .ok (.iload_n 1, 1) := by decide +kernel
theorem dX5_told_54 : decode cX5_told 54 = .ok (.daload, 1) := by decide +kernel
theorem dX5_told_55 : decode cX5_told 55 = .ok (.dreturn, 1) := by decide +kernel
theorem dX5_told_56 : decode cX5_told 56 = .ok (.iload_n 2, 1) := by decide +kernel
theorem dX5_told_57 : decode cX5_told 57 = .ok (.iconst 2, 1) := by decide +kernel
theorem dX5_told_58 : decode cX5_told 58 = .ok (.if_icmp .ne 12, 3) := by decide +kernel
theorem dX5_told_61 : decode cX5_told 61 = .ok (.aload_n 0, 1) := by decide +kernel
theorem dX5_told_62 : decode cX5_told 62 = .ok (.getfield 27, 3) := by decide +kernel
theorem dX5_told_65 : decode cX5_told 65 = .ok (.iload_n 1, 1) := by decide +kernel
theorem dX5_told_66 : decode cX5_told 66 = .ok (.daload, 1) := by decide +kernel
theorem dX5_told_67 : decode cX5_told 67 = .ok (.goto 23, 3) := by decide +kernel
theorem dX5_told_70 : decode cX5_told 70 = .ok (.iload_n 2, 1) := by decide +kernel
theorem dX5_told_71 : decode cX5_told 71 = .ok (.iconst 3, 1) := by decide +kernel
theorem dX5_told_72 : decode cX5_told 72 = .ok (.if_icmp .ne 12, 3) := by decide +kernel
theorem dX5_told_75 : decode cX5_told 75 = .ok (.aload_n 0, 1) := by decide +kernel
theorem dX5_told_76 : decode cX5_told 76 = .ok (.getfield 30, 3) := by decide +kernel
theorem dX5_told_79 : decode cX5_told 79 = .ok (.iload_n 1, 1) := by decide +kernel
theorem dX5_told_80 : decode cX5_told 80 = .ok (.daload, 1) := by decide +kernel
theorem dX5_told_81 : decode cX5_told 81 = .ok (.goto 9, 3) := by decide +kernel
theorem dX5_told_84 : decode cX5_told 84 = .ok (.aload_n 0, 1) := by decide +kernel
theorem dX5_told_85 : decode cX5_told 85 = .ok (.getfield 33, 3) := by decide +kernel
theorem dX5_told_88 : decode cX5_told 88 = .ok (.iload_n 1, 1) := by decide +kernel
theorem dX5_told_89 : decode cX5_told 89 = .ok (.daload, 1) := by decide +kernel
theorem dX5_told_90 : decode cX5_told 90 = .ok (.dreturn, 1) := by decide +kernel
abbrev cX5_temperature : ByteArray := prog_10_method_42_code
def yX5_temperature : MethodName := ⟨RX5, "temperature", "()D"⟩
theorem dX5_temperature_0 : decode cX5_temperature 0 = .ok (.aload_n 0, 1) := by decide +kernel
theorem dX5_temperature_1 : decode cX5_temperature 1 = .ok (.iconst 0, 1) := by decide +kernel
theorem dX5_temperature_2 : decode cX5_temperature 2 = .ok (.putfield 115, 3) := by decide +kernel
theorem dX5_temperature_5 : decode cX5_temperature 5 = .ok (.aload_n 0, 1) := by decide +kernel
theorem dX5_temperature_6 : decode cX5_temperature 6 = .ok (.invokevirtual 274, 3) := by decide +kernel
theorem dX5_temperature_9 : decode cX5_temperature 9 = .ok (.dreturn, 1) := by decide +kernel
abbrev cX5_sample : ByteArray := prog_10_method_44_code
def yX5_sample : MethodName := ⟨RX5, "sample", "()I"⟩
theorem dX5_sample_0 : decode cX5_sample 0 = .ok (.aload_n 0, 1) := by decide +kernel
theorem dX5_sample_1 : decode cX5_sample 1 = .ok (.iconst 0, 1) := by decide +kernel
theorem dX5_sample_2 : decode cX5_sample 2 = .ok (.putfield 115, 3) := by decide +kernel
theorem dX5_sample_5 : decode cX5_sample 5 = .ok (.iconst 0, 1) := by decide +kernel
theorem dX5_sample_6 : decode cX5_sample 6 = .ok (.istore_n 1, 1) := by decide +kernel
theorem dX5_sample_7 : decode cX5_sample 7 = .ok (.iconst 0, 1) := by decide +kernel
theorem dX5_sample_8 : decode cX5_sample 8 = .ok (.istore_n 2, 1) := by decide +kernel
theorem dX5_sample_9 : decode cX5_sample 9 = .ok (.iload_n 2, 1) := by decide +kernel
theorem dX5_sample_10 : decode cX5_sample 10 = .ok (.aload_n 0, 1) := by decide +kernel
theorem dX5_sample_11 : decode cX5_sample 11 = .ok (.getfield 119, 3) := by decide +kernel
theorem dX5_sample_14 : decode cX5_sample 14 = .ok (.if_icmp .ge 114, 3) := by decide +kernel
theorem dX5_sample_17 : decode cX5_sample 17 = .ok (.iload_n 2, 1) := by decide +kernel
theorem dX5_sample_18 : decode cX5_sample 18 = .ok (.iconst 1, 1) := by decide +kernel
theorem dX5_sample_19 : decode cX5_sample 19 = .ok (.iadd, 1) := by decide +kernel
theorem dX5_sample_20 : decode cX5_sample 20 = .ok (.istore_n 3, 1) := by decide +kernel
theorem dX5_sample_21 : decode cX5_sample 21 = .ok (.iload_n 3, 1) := by decide +kernel
theorem dX5_sample_22 : decode cX5_sample 22 = .ok (.aload_n 0, 1) := by decide +kernel
theorem dX5_sample_23 : decode cX5_sample 23 = .ok (.getfield 119, 3) := by decide +kernel
theorem dX5_sample_26 : decode cX5_sample 26 = .ok (.if_icmp .ge 96, 3) := by decide +kernel
theorem dX5_sample_29 : decode cX5_sample 29 = .ok (.aload_n 0, 1) := by decide +kernel
theorem dX5_sample_30 : decode cX5_sample 30 = .ok (.iload_n 2, 1) := by decide +kernel
theorem dX5_sample_31 : decode cX5_sample 31 = .ok (.iload_n 3, 1) := by decide +kernel
theorem dX5_sample_32 : decode cX5_sample 32 = .ok (.invokevirtual 187, 3) := by decide +kernel
theorem dX5_sample_35 : decode cX5_sample 35 = .ok (.ifCond .ne 6, 3) := by decide +kernel
theorem dX5_sample_38 : decode cX5_sample 38 = .ok (.goto 78, 3) := by decide +kernel
theorem dX5_sample_41 : decode cX5_sample 41 = .ok (.iinc 1 1, 3) := by decide +kernel
theorem dX5_sample_44 : decode cX5_sample 44 = .ok (.aload_n 0, 1) := by decide +kernel
theorem dX5_sample_45 : decode cX5_sample 45 = .ok (.getfield 135, 3) := by decide +kernel
theorem dX5_sample_48 : decode cX5_sample 48 = .ok (.aload_n 0, 1) := by decide +kernel
theorem dX5_sample_49 : decode cX5_sample 49 = .ok (.getfield 112, 3) := by decide +kernel
theorem dX5_sample_52 : decode cX5_sample 52 = .ok (.aload_n 0, 1) := by decide +kernel
theorem dX5_sample_53 : decode cX5_sample 53 = .ok (.getfield 112, 3) := by decide +kernel
theorem dX5_sample_56 : decode cX5_sample 56 = .ok (.dmul, 1) := by decide +kernel
theorem dX5_sample_57 : decode cX5_sample 57 = .ok (.ldc2_w 281, 3) := by decide +kernel
theorem dX5_sample_60 : decode cX5_sample 60 = .ok (.ddiv, 1) := by decide +kernel
theorem dX5_sample_61 : decode cX5_sample 61 = .ok (.ddiv, 1) := by decide +kernel
theorem dX5_sample_62 : decode cX5_sample 62 = .ok (.invokestatic 122, 3) := by decide +kernel
theorem dX5_sample_65 : decode cX5_sample 65 = .ok (.dstore 4, 2) := by decide +kernel
theorem dX5_sample_67 : decode cX5_sample 67 = .ok (.dload 4, 2) := by decide +kernel
theorem dX5_sample_69 : decode cX5_sample 69 = .ok (.ldc2_w 283, 3) := by decide +kernel
theorem dX5_sample_72 : decode cX5_sample 72 = .ok (.dcmp .l, 1) := by decide +kernel
theorem dX5_sample_73 : decode cX5_sample 73 = .ok (.ifCond .le 8, 3) := by decide +kernel
theorem dX5_sample_76 : decode cX5_sample 76 = .ok (.bipush 15, 2) := by decide +kernel
theorem dX5_sample_78 : decode cX5_sample 78 = .ok (.goto 6, 3) := by decide +kernel
theorem dX5_sample_81 : decode cX5_sample 81 = .ok (.dload 4, 2) := by decide +kernel
theorem dX5_sample_83 : decode cX5_sample 83 = .ok (.d2i, 1) := by decide +kernel
theorem dX5_sample_84 : decode cX5_sample 84 = .ok (.istore 6, 2) := by decide +kernel
theorem dX5_sample_86 : decode cX5_sample 86 = .ok (.aload_n 0, 1) := by decide +kernel
theorem dX5_sample_87 : decode cX5_sample 87 = .ok (.getfield 104, 3) := by decide +kernel
theorem dX5_sample_90 : decode cX5_sample 90 = .ok (.aload_n 0, 1) := by decide +kernel
theorem dX5_sample_91 : decode cX5_sample 91 = .ok (.getfield 36, 3) := by decide +kernel
theorem dX5_sample_94 : decode cX5_sample 94 = .ok (.iload_n 2, 1) := by decide +kernel
theorem dX5_sample_95 : decode cX5_sample 95 = .ok (.iaload, 1) := by decide +kernel
theorem dX5_sample_96 : decode cX5_sample 96 = .ok (.aload_n 0, 1) := by decide +kernel
theorem dX5_sample_97 : decode cX5_sample 97 = .ok (.getfield 36, 3) := by decide +kernel
theorem dX5_sample_100 : decode cX5_sample 100 = .ok (.iload_n 3, 1) := by decide +kernel
theorem dX5_sample_101 : decode cX5_sample 101 = .ok (.iaload, 1) := by decide +kernel
theorem dX5_sample_102 : decode cX5_sample 102 = .ok (.invokestatic 285, 3) := by decide +kernel
theorem dX5_sample_105 : decode cX5_sample 105 = .ok (.bipush 16, 2) := by decide +kernel
theorem dX5_sample_107 : decode cX5_sample 107 = .ok (.imul, 1) := by decide +kernel
theorem dX5_sample_108 : decode cX5_sample 108 = .ok (.iload 6, 2) := by decide +kernel
theorem dX5_sample_110 : decode cX5_sample 110 = .ok (.iadd, 1) := by decide +kernel
theorem dX5_sample_111 : decode cX5_sample 111 = .ok (.dup2, 1) := by decide +kernel
theorem dX5_sample_112 : decode cX5_sample 112 = .ok (.iaload, 1) := by decide +kernel
theorem dX5_sample_113 : decode cX5_sample 113 = .ok (.iconst 1, 1) := by decide +kernel
theorem dX5_sample_114 : decode cX5_sample 114 = .ok (.iadd, 1) := by decide +kernel
theorem dX5_sample_115 : decode cX5_sample 115 = .ok (.iastore, 1) := by decide +kernel
theorem dX5_sample_116 : decode cX5_sample 116 = .ok (.iinc 3 1, 3) := by decide +kernel
theorem dX5_sample_119 : decode cX5_sample 119 = .ok (.goto (-98), 3) := by decide +kernel
theorem dX5_sample_122 : decode cX5_sample 122 = .ok (.iinc 2 1, 3) := by decide +kernel
theorem dX5_sample_125 : decode cX5_sample 125 = .ok (.goto (-116), 3) := by decide +kernel
theorem dX5_sample_128 : decode cX5_sample 128 = .ok (.aload_n 0, 1) := by decide +kernel
theorem dX5_sample_129 : decode cX5_sample 129 = .ok (.dup, 1) := by decide +kernel
theorem dX5_sample_130 : decode cX5_sample 130 = .ok (.getfield 289, 3) := by decide +kernel
theorem dX5_sample_133 : decode cX5_sample 133 = .ok (.iconst 1, 1) := by decide +kernel
theorem dX5_sample_134 : decode cX5_sample 134 = .ok (.iadd, 1) := by decide +kernel
theorem dX5_sample_135 : decode cX5_sample 135 = .ok (.putfield 289, 3) := by decide +kernel
theorem dX5_sample_138 : decode cX5_sample 138 = .ok (.iload_n 1, 1) := by decide +kernel
theorem dX5_sample_139 : decode cX5_sample 139 = .ok (.ireturn, 1) := by decide +kernel
abbrev cX5_classOf : ByteArray := prog_10_method_43_code
def yX5_classOf : MethodName := ⟨RX5, "classOf", "(II)I"⟩
theorem dX5_classOf_0 : decode cX5_classOf 0 = .ok (.iload_n 0, 1) := by decide +kernel
theorem dX5_classOf_1 : decode cX5_classOf 1 = .ok (.iload_n 1, 1) := by decide +kernel
theorem dX5_classOf_2 : decode cX5_classOf 2 = .ok (.if_icmp .ge 11, 3) := by decide +kernel
theorem dX5_classOf_5 : decode cX5_classOf 5 = .ok (.iload_n 0, 1) := by decide +kernel
theorem dX5_classOf_6 : decode cX5_classOf 6 = .ok (.iconst 3, 1) := by decide +kernel
theorem dX5_classOf_7 : decode cX5_classOf 7 = .ok (.imul, 1) := by decide +kernel
theorem dX5_classOf_8 : decode cX5_classOf 8 = .ok (.iload_n 1, 1) := by decide +kernel
theorem dX5_classOf_9 : decode cX5_classOf 9 = .ok (.iadd, 1) := by decide +kernel
theorem dX5_classOf_10 : decode cX5_classOf 10 = .ok (.goto 8, 3) := by decide +kernel
theorem dX5_classOf_13 : decode cX5_classOf 13 = .ok (.iload_n 1, 1) := by decide +kernel
theorem dX5_classOf_14 : decode cX5_classOf 14 = .ok (.iconst 3, 1) := by decide +kernel
theorem dX5_classOf_15 : decode cX5_classOf 15 = .ok (.imul, 1) := by decide +kernel
theorem dX5_classOf_16 : decode cX5_classOf 16 = .ok (.iload_n 0, 1) := by decide +kernel
theorem dX5_classOf_17 : decode cX5_classOf 17 = .ok (.iadd, 1) := by decide +kernel
theorem dX5_classOf_18 : decode cX5_classOf 18 = .ok (.ireturn, 1) := by decide +kernel
abbrev cX5_bin : ByteArray := prog_10_method_45_code
def yX5_bin : MethodName := ⟨RX5, "bin", "(III)I"⟩
theorem dX5_bin_0 : decode cX5_bin 0 = .ok (.aload_n 0, 1) := by decide +kernel
theorem dX5_bin_1 : decode cX5_bin 1 = .ok (.iload_n 1, 1) := by decide +kernel
theorem dX5_bin_2 : decode cX5_bin 2 = .ok (.ifCond .lt 31, 3) := by decide +kernel
theorem dX5_bin_5 : decode cX5_bin 5 = .ok (.iload_n 1, 1) := by decide +kernel
theorem dX5_bin_6 : decode cX5_bin 6 = .ok (.iconst 3, 1) := by decide +kernel
theorem dX5_bin_7 : decode cX5_bin 7 = .ok (.if_icmp .ge 26, 3) := by decide +kernel
theorem dX5_bin_10 : decode cX5_bin 10 = .ok (.iload_n 2, 1) := by decide +kernel
theorem dX5_bin_11 : decode cX5_bin 11 = .ok (.ifCond .lt 22, 3) := by decide +kernel
theorem dX5_bin_14 : decode cX5_bin 14 = .ok (.iload_n 2, 1) := by decide +kernel
theorem dX5_bin_15 : decode cX5_bin 15 = .ok (.iconst 3, 1) := by decide +kernel
theorem dX5_bin_16 : decode cX5_bin 16 = .ok (.if_icmp .ge 17, 3) := by decide +kernel
theorem dX5_bin_19 : decode cX5_bin 19 = .ok (.iload_n 3, 1) := by decide +kernel
theorem dX5_bin_20 : decode cX5_bin 20 = .ok (.ifCond .lt 13, 3) := by decide +kernel
theorem dX5_bin_23 : decode cX5_bin 23 = .ok (.iload_n 3, 1) := by decide +kernel
theorem dX5_bin_24 : decode cX5_bin 24 = .ok (.bipush 16, 2) := by decide +kernel
theorem dX5_bin_26 : decode cX5_bin 26 = .ok (.if_icmp .ge 7, 3) := by decide +kernel
theorem dX5_bin_29 : decode cX5_bin 29 = .ok (.iconst 1, 1) := by decide +kernel
theorem dX5_bin_30 : decode cX5_bin 30 = .ok (.goto 4, 3) := by decide +kernel
theorem dX5_bin_33 : decode cX5_bin 33 = .ok (.iconst 0, 1) := by decide +kernel
theorem dX5_bin_34 : decode cX5_bin 34 = .ok (.invokevirtual 154, 3) := by decide +kernel
theorem dX5_bin_37 : decode cX5_bin 37 = .ok (.ifCond .eq 5, 3) := by decide +kernel
theorem dX5_bin_40 : decode cX5_bin 40 = .ok (.iconst 0, 1) := by decide +kernel
theorem dX5_bin_41 : decode cX5_bin 41 = .ok (.ireturn, 1) := by decide +kernel
theorem dX5_bin_42 : decode cX5_bin 42 = .ok (.aload_n 0, 1) := by decide +kernel
theorem dX5_bin_43 : decode cX5_bin 43 = .ok (.getfield 104, 3) := by decide +kernel
theorem dX5_bin_46 : decode cX5_bin 46 = .ok (.iload_n 1, 1) := by decide +kernel
theorem dX5_bin_47 : decode cX5_bin 47 = .ok (.iload_n 2, 1) := by decide +kernel
theorem dX5_bin_48 : decode cX5_bin 48 = .ok (.invokestatic 285, 3) := by decide +kernel
theorem dX5_bin_51 : decode cX5_bin 51 = .ok (.bipush 16, 2) := by decide +kernel
theorem dX5_bin_53 : decode cX5_bin 53 = .ok (.imul, 1) := by decide +kernel
theorem dX5_bin_54 : decode cX5_bin 54 = .ok (.iload_n 3, 1) := by decide +kernel
theorem dX5_bin_55 : decode cX5_bin 55 = .ok (.iadd, 1) := by decide +kernel
theorem dX5_bin_56 : decode cX5_bin 56 = .ok (.iaload, 1) := by decide +kernel
theorem dX5_bin_57 : decode cX5_bin 57 = .ok (.ireturn, 1) := by decide +kernel
abbrev cX5_count : ByteArray := prog_10_method_46_code
def yX5_count : MethodName := ⟨RX5, "count", "(I)I"⟩
theorem dX5_count_0 : decode cX5_count 0 = .ok (.aload_n 0, 1) := by decide +kernel
theorem dX5_count_1 : decode cX5_count 1 = .ok (.iconst 0, 1) := by decide +kernel
theorem dX5_count_2 : decode cX5_count 2 = .ok (.putfield 115, 3) := by decide +kernel
theorem dX5_count_5 : decode cX5_count 5 = .ok (.iload_n 1, 1) := by decide +kernel
theorem dX5_count_6 : decode cX5_count 6 = .ok (.tableswitch 104 0 9 #[54, 59, 64, 69, 74, 79, 84, 89, 94, 99], 54) := by decide +kernel
theorem dX5_count_60 : decode cX5_count 60 = .ok (.aload_n 0, 1) := by decide +kernel
theorem dX5_count_61 : decode cX5_count 61 = .ok (.getfield 119, 3) := by decide +kernel
theorem dX5_count_64 : decode cX5_count 64 = .ok (.ireturn, 1) := by decide +kernel
theorem dX5_count_65 : decode cX5_count 65 = .ok (.aload_n 0, 1) := by decide +kernel
theorem dX5_count_66 : decode cX5_count 66 = .ok (.getfield 175, 3) := by decide +kernel
theorem dX5_count_69 : decode cX5_count 69 = .ok (.ireturn, 1) := by decide +kernel
theorem dX5_count_70 : decode cX5_count 70 = .ok (.aload_n 0, 1) := by decide +kernel
theorem dX5_count_71 : decode cX5_count 71 = .ok (.getfield 178, 3) := by decide +kernel
theorem dX5_count_74 : decode cX5_count 74 = .ok (.ireturn, 1) := by decide +kernel
theorem dX5_count_75 : decode cX5_count 75 = .ok (.aload_n 0, 1) := by decide +kernel
theorem dX5_count_76 : decode cX5_count 76 = .ok (.getfield 268, 3) := by decide +kernel
theorem dX5_count_79 : decode cX5_count 79 = .ok (.ireturn, 1) := by decide +kernel
theorem dX5_count_80 : decode cX5_count 80 = .ok (.aload_n 0, 1) := by decide +kernel
theorem dX5_count_81 : decode cX5_count 81 = .ok (.getfield 205, 3) := by decide +kernel
theorem dX5_count_84 : decode cX5_count 84 = .ok (.ireturn, 1) := by decide +kernel
theorem dX5_count_85 : decode cX5_count 85 = .ok (.aload_n 0, 1) := by decide +kernel
theorem dX5_count_86 : decode cX5_count 86 = .ok (.getfield 271, 3) := by decide +kernel
theorem dX5_count_89 : decode cX5_count 89 = .ok (.ireturn, 1) := by decide +kernel
theorem dX5_count_90 : decode cX5_count 90 = .ok (.aload_n 0, 1) := by decide +kernel
theorem dX5_count_91 : decode cX5_count 91 = .ok (.getfield 289, 3) := by decide +kernel
theorem dX5_count_94 : decode cX5_count 94 = .ok (.ireturn, 1) := by decide +kernel
theorem dX5_count_95 : decode cX5_count 95 = .ok (.aload_n 0, 1) := by decide +kernel
theorem dX5_count_96 : decode cX5_count 96 = .ok (.getfield 256, 3) := by decide +kernel
theorem dX5_count_99 : decode cX5_count 99 = .ok (.ireturn, 1) := by decide +kernel
theorem dX5_count_100 : decode cX5_count 100 = .ok (.aload_n 0, 1) := by decide +kernel
theorem dX5_count_101 : decode cX5_count 101 = .ok (.getfield 259, 3) := by decide +kernel
theorem dX5_count_104 : decode cX5_count 104 = .ok (.ireturn, 1) := by decide +kernel
theorem dX5_count_105 : decode cX5_count 105 = .ok (.aload_n 0, 1) := by decide +kernel
theorem dX5_count_106 : decode cX5_count 106 = .ok (.getfield 262, 3) := by decide +kernel
theorem dX5_count_109 : decode cX5_count 109 = .ok (.ireturn, 1) := by decide +kernel
theorem dX5_count_110 : decode cX5_count 110 = .ok (.iconst (-1), 1) := by decide +kernel
theorem dX5_count_111 : decode cX5_count 111 = .ok (.ireturn, 1) := by decide +kernel
theorem q50 : (Jvm.Cond.initialized "ParticleBoxModel") ∈ lw_all := lw_g (lw_at lw_m1 6 rfl) rfl
theorem q732 : (Jvm.Cond.instantiable "ParticleBoxModel" (48 : Nat)) ∈ lw_all := lw_g (lw_at lw_m3 208 rfl) rfl
theorem q734 : (Jvm.Cond.instanceMethod ({ cls := "ParticleBoxModel", name := "<init>", desc := "(I)V" } : Jvm.MethodName)) ∈ lw_all := lw_g (lw_at lw_m3 210 rfl) rfl
theorem q735 : (Jvm.Cond.code ({ cls := "ParticleBoxModel", name := "<init>", desc := "(I)V" } : Jvm.MethodName) prog_10_method_1_code (3 : Nat) (Option.none : Option Jvm.ClassFile.FieldType)) ∈ lw_all := lw_g (lw_at lw_m3 211 rfl) rfl
theorem q736 : (Jvm.Cond.methodLink "ParticleBoxModel" (1 : Nat) ({ cls := "java/lang/Object", name := "<init>", desc := "()V" } : Jvm.MethodName)) ∈ lw_all := lw_g (lw_at lw_m3 212 rfl) rfl
theorem q737 : (Jvm.Cond.constantDouble "ParticleBoxModel" (7 : Nat) (4602678819172646912 : UInt64)) ∈ lw_all := lw_g (lw_at lw_m3 213 rfl) rfl
theorem q738 : (Jvm.Cond.constantDouble "ParticleBoxModel" (15 : Nat) (13830554455654793216 : UInt64)) ∈ lw_all := lw_g (lw_at lw_m3 214 rfl) rfl
theorem q739 : (Jvm.Cond.constantDouble "ParticleBoxModel" (110 : Nat) (4598175219545276416 : UInt64)) ∈ lw_all := lw_g (lw_at lw_m3 215 rfl) rfl
theorem q740 : (Jvm.Cond.fieldLink "ParticleBoxModel" (107 : Nat) "ParticleBoxModel" "side" "D") ∈ lw_all := lw_g (lw_at lw_m3 216 rfl) rfl
theorem q741 : (Jvm.Cond.fieldLink "ParticleBoxModel" (112 : Nat) "ParticleBoxModel" "cut" "D") ∈ lw_all := lw_g (lw_at lw_m3 217 rfl) rfl
theorem q742 : (Jvm.Cond.fieldLink "ParticleBoxModel" (9 : Nat) "ParticleBoxModel" "skin" "D") ∈ lw_all := lw_g (lw_at lw_m3 218 rfl) rfl
theorem q743 : (Jvm.Cond.fieldLink "ParticleBoxModel" (17 : Nat) "ParticleBoxModel" "heat" "D") ∈ lw_all := lw_g (lw_at lw_m3 219 rfl) rfl
theorem q744 : (Jvm.Cond.fieldLink "ParticleBoxModel" (20 : Nat) "ParticleBoxModel" "x" "[D") ∈ lw_all := lw_g (lw_at lw_m3 220 rfl) rfl
theorem q745 : (Jvm.Cond.fieldLink "ParticleBoxModel" (24 : Nat) "ParticleBoxModel" "y" "[D") ∈ lw_all := lw_g (lw_at lw_m3 221 rfl) rfl
theorem q746 : (Jvm.Cond.fieldLink "ParticleBoxModel" (27 : Nat) "ParticleBoxModel" "u" "[D") ∈ lw_all := lw_g (lw_at lw_m3 222 rfl) rfl
theorem q747 : (Jvm.Cond.fieldLink "ParticleBoxModel" (30 : Nat) "ParticleBoxModel" "v" "[D") ∈ lw_all := lw_g (lw_at lw_m3 223 rfl) rfl
theorem q748 : (Jvm.Cond.fieldLink "ParticleBoxModel" (33 : Nat) "ParticleBoxModel" "mass" "[D") ∈ lw_all := lw_g (lw_at lw_m3 224 rfl) rfl
theorem q749 : (Jvm.Cond.fieldLink "ParticleBoxModel" (36 : Nat) "ParticleBoxModel" "sort" "[I") ∈ lw_all := lw_g (lw_at lw_m3 225 rfl) rfl
theorem q750 : (Jvm.Cond.fieldLink "ParticleBoxModel" (40 : Nat) "ParticleBoxModel" "stuck" "[Z") ∈ lw_all := lw_g (lw_at lw_m3 226 rfl) rfl
theorem q751 : (Jvm.Cond.fieldLink "ParticleBoxModel" (44 : Nat) "ParticleBoxModel" "width" "[D") ∈ lw_all := lw_g (lw_at lw_m3 227 rfl) rfl
theorem q752 : (Jvm.Cond.fieldLink "ParticleBoxModel" (47 : Nat) "ParticleBoxModel" "depth" "[D") ∈ lw_all := lw_g (lw_at lw_m3 228 rfl) rfl
theorem q753 : (Jvm.Cond.fieldLink "ParticleBoxModel" (50 : Nat) "ParticleBoxModel" "charge" "[D") ∈ lw_all := lw_g (lw_at lw_m3 229 rfl) rfl
theorem q754 : (Jvm.Cond.fieldLink "ParticleBoxModel" (119 : Nat) "ParticleBoxModel" "atoms" "I") ∈ lw_all := lw_g (lw_at lw_m3 230 rfl) rfl
theorem q755 : (Jvm.Cond.fieldLink "ParticleBoxModel" (175 : Nat) "ParticleBoxModel" "bonds" "I") ∈ lw_all := lw_g (lw_at lw_m3 231 rfl) rfl
theorem q756 : (Jvm.Cond.fieldLink "ParticleBoxModel" (178 : Nat) "ParticleBoxModel" "rods" "I") ∈ lw_all := lw_g (lw_at lw_m3 232 rfl) rfl
theorem q757 : (Jvm.Cond.fieldLink "ParticleBoxModel" (53 : Nat) "ParticleBoxModel" "bondI" "[I") ∈ lw_all := lw_g (lw_at lw_m3 233 rfl) rfl
theorem q758 : (Jvm.Cond.fieldLink "ParticleBoxModel" (56 : Nat) "ParticleBoxModel" "bondJ" "[I") ∈ lw_all := lw_g (lw_at lw_m3 234 rfl) rfl
theorem q759 : (Jvm.Cond.fieldLink "ParticleBoxModel" (59 : Nat) "ParticleBoxModel" "rodI" "[I") ∈ lw_all := lw_g (lw_at lw_m3 235 rfl) rfl
theorem q760 : (Jvm.Cond.fieldLink "ParticleBoxModel" (62 : Nat) "ParticleBoxModel" "rodJ" "[I") ∈ lw_all := lw_g (lw_at lw_m3 236 rfl) rfl
theorem q761 : (Jvm.Cond.fieldLink "ParticleBoxModel" (65 : Nat) "ParticleBoxModel" "bondK" "[D") ∈ lw_all := lw_g (lw_at lw_m3 237 rfl) rfl
theorem q762 : (Jvm.Cond.fieldLink "ParticleBoxModel" (68 : Nat) "ParticleBoxModel" "bondL" "[D") ∈ lw_all := lw_g (lw_at lw_m3 238 rfl) rfl
theorem q763 : (Jvm.Cond.fieldLink "ParticleBoxModel" (71 : Nat) "ParticleBoxModel" "rodL" "[D") ∈ lw_all := lw_g (lw_at lw_m3 239 rfl) rfl
theorem q764 : (Jvm.Cond.fieldLink "ParticleBoxModel" (74 : Nat) "ParticleBoxModel" "listX" "[D") ∈ lw_all := lw_g (lw_at lw_m4 0 rfl) rfl
theorem q765 : (Jvm.Cond.fieldLink "ParticleBoxModel" (77 : Nat) "ParticleBoxModel" "listY" "[D") ∈ lw_all := lw_g (lw_at lw_m4 1 rfl) rfl
theorem q766 : (Jvm.Cond.fieldLink "ParticleBoxModel" (161 : Nat) "ParticleBoxModel" "listed" "Z") ∈ lw_all := lw_g (lw_at lw_m4 2 rfl) rfl
theorem q767 : (Jvm.Cond.fieldLink "ParticleBoxModel" (80 : Nat) "ParticleBoxModel" "oldX" "[D") ∈ lw_all := lw_g (lw_at lw_m4 3 rfl) rfl
theorem q768 : (Jvm.Cond.fieldLink "ParticleBoxModel" (83 : Nat) "ParticleBoxModel" "oldY" "[D") ∈ lw_all := lw_g (lw_at lw_m4 4 rfl) rfl
theorem q769 : (Jvm.Cond.fieldLink "ParticleBoxModel" (86 : Nat) "ParticleBoxModel" "oldU" "[D") ∈ lw_all := lw_g (lw_at lw_m4 5 rfl) rfl
theorem q770 : (Jvm.Cond.fieldLink "ParticleBoxModel" (89 : Nat) "ParticleBoxModel" "oldV" "[D") ∈ lw_all := lw_g (lw_at lw_m4 6 rfl) rfl
theorem q771 : (Jvm.Cond.fieldLink "ParticleBoxModel" (92 : Nat) "ParticleBoxModel" "newX" "[D") ∈ lw_all := lw_g (lw_at lw_m4 7 rfl) rfl
theorem q772 : (Jvm.Cond.fieldLink "ParticleBoxModel" (95 : Nat) "ParticleBoxModel" "newY" "[D") ∈ lw_all := lw_g (lw_at lw_m4 8 rfl) rfl
theorem q773 : (Jvm.Cond.fieldLink "ParticleBoxModel" (98 : Nat) "ParticleBoxModel" "fx" "[D") ∈ lw_all := lw_g (lw_at lw_m4 9 rfl) rfl
theorem q774 : (Jvm.Cond.fieldLink "ParticleBoxModel" (101 : Nat) "ParticleBoxModel" "fy" "[D") ∈ lw_all := lw_g (lw_at lw_m4 10 rfl) rfl
theorem q775 : (Jvm.Cond.fieldLink "ParticleBoxModel" (104 : Nat) "ParticleBoxModel" "bins" "[I") ∈ lw_all := lw_g (lw_at lw_m4 11 rfl) rfl
theorem q776 : (Jvm.Cond.fieldLink "ParticleBoxModel" (268 : Nat) "ParticleBoxModel" "steps" "I") ∈ lw_all := lw_g (lw_at lw_m4 12 rfl) rfl
theorem q777 : (Jvm.Cond.fieldLink "ParticleBoxModel" (205 : Nat) "ParticleBoxModel" "lists" "I") ∈ lw_all := lw_g (lw_at lw_m4 13 rfl) rfl
theorem q778 : (Jvm.Cond.fieldLink "ParticleBoxModel" (271 : Nat) "ParticleBoxModel" "rounds" "I") ∈ lw_all := lw_g (lw_at lw_m4 14 rfl) rfl
theorem q779 : (Jvm.Cond.fieldLink "ParticleBoxModel" (289 : Nat) "ParticleBoxModel" "samples" "I") ∈ lw_all := lw_g (lw_at lw_m4 15 rfl) rfl
theorem q780 : (Jvm.Cond.fieldLink "ParticleBoxModel" (256 : Nat) "ParticleBoxModel" "overlaps" "I") ∈ lw_all := lw_g (lw_at lw_m4 16 rfl) rfl
theorem q781 : (Jvm.Cond.fieldLink "ParticleBoxModel" (259 : Nat) "ParticleBoxModel" "stiffs" "I") ∈ lw_all := lw_g (lw_at lw_m4 17 rfl) rfl
theorem q782 : (Jvm.Cond.fieldLink "ParticleBoxModel" (262 : Nat) "ParticleBoxModel" "blowns" "I") ∈ lw_all := lw_g (lw_at lw_m4 18 rfl) rfl
theorem q783 : (Jvm.Cond.fieldLink "ParticleBoxModel" (115 : Nat) "ParticleBoxModel" "thrown" "I") ∈ lw_all := lw_g (lw_at lw_m4 19 rfl) rfl
theorem q784 : (Jvm.Cond.fieldLink "ParticleBoxModel" (227 : Nat) "ParticleBoxModel" "changed" "I") ∈ lw_all := lw_g (lw_at lw_m4 20 rfl) rfl
theorem q785 : (Jvm.Cond.fieldLink "ParticleBoxModel" (126 : Nat) "ParticleBoxModel" "a" "D") ∈ lw_all := lw_g (lw_at lw_m4 21 rfl) rfl
theorem q786 : (Jvm.Cond.fieldLink "ParticleBoxModel" (132 : Nat) "ParticleBoxModel" "b" "D") ∈ lw_all := lw_g (lw_at lw_m4 22 rfl) rfl
theorem q787 : (Jvm.Cond.fieldLink "ParticleBoxModel" (135 : Nat) "ParticleBoxModel" "r2" "D") ∈ lw_all := lw_g (lw_at lw_m4 23 rfl) rfl
theorem q788 : (Jvm.Cond.laysFinal "ParticleBoxModel" "ParticleBoxModel" "side" "D") ∈ lw_all := lw_g (lw_at lw_m4 24 rfl) rfl
theorem q789 : (Jvm.Cond.soleField "ParticleBoxModel" "side") ∈ lw_all := lw_g (lw_at lw_m4 25 rfl) rfl
theorem q790 : (Jvm.Cond.lays "ParticleBoxModel" "ParticleBoxModel" "cut" "D") ∈ lw_all := lw_g (lw_at lw_m4 26 rfl) rfl
theorem q791 : (Jvm.Cond.soleField "ParticleBoxModel" "cut") ∈ lw_all := lw_g (lw_at lw_m4 27 rfl) rfl
theorem q792 : (Jvm.Cond.lays "ParticleBoxModel" "ParticleBoxModel" "skin" "D") ∈ lw_all := lw_g (lw_at lw_m4 28 rfl) rfl
theorem q793 : (Jvm.Cond.soleField "ParticleBoxModel" "skin") ∈ lw_all := lw_g (lw_at lw_m4 29 rfl) rfl
theorem q794 : (Jvm.Cond.lays "ParticleBoxModel" "ParticleBoxModel" "heat" "D") ∈ lw_all := lw_g (lw_at lw_m4 30 rfl) rfl
theorem q795 : (Jvm.Cond.soleField "ParticleBoxModel" "heat") ∈ lw_all := lw_g (lw_at lw_m4 31 rfl) rfl
theorem q796 : (Jvm.Cond.laysFinal "ParticleBoxModel" "ParticleBoxModel" "x" "[D") ∈ lw_all := lw_g (lw_at lw_m4 32 rfl) rfl
theorem q797 : (Jvm.Cond.soleField "ParticleBoxModel" "x") ∈ lw_all := lw_g (lw_at lw_m4 33 rfl) rfl
theorem q798 : (Jvm.Cond.laysFinal "ParticleBoxModel" "ParticleBoxModel" "y" "[D") ∈ lw_all := lw_g (lw_at lw_m4 34 rfl) rfl
theorem q799 : (Jvm.Cond.soleField "ParticleBoxModel" "y") ∈ lw_all := lw_g (lw_at lw_m4 35 rfl) rfl
theorem q800 : (Jvm.Cond.laysFinal "ParticleBoxModel" "ParticleBoxModel" "u" "[D") ∈ lw_all := lw_g (lw_at lw_m4 36 rfl) rfl
theorem q801 : (Jvm.Cond.soleField "ParticleBoxModel" "u") ∈ lw_all := lw_g (lw_at lw_m4 37 rfl) rfl
theorem q802 : (Jvm.Cond.laysFinal "ParticleBoxModel" "ParticleBoxModel" "v" "[D") ∈ lw_all := lw_g (lw_at lw_m4 38 rfl) rfl
theorem q803 : (Jvm.Cond.soleField "ParticleBoxModel" "v") ∈ lw_all := lw_g (lw_at lw_m4 39 rfl) rfl
theorem q804 : (Jvm.Cond.laysFinal "ParticleBoxModel" "ParticleBoxModel" "mass" "[D") ∈ lw_all := lw_g (lw_at lw_m4 40 rfl) rfl
theorem q805 : (Jvm.Cond.soleField "ParticleBoxModel" "mass") ∈ lw_all := lw_g (lw_at lw_m4 41 rfl) rfl
theorem q806 : (Jvm.Cond.laysFinal "ParticleBoxModel" "ParticleBoxModel" "sort" "[I") ∈ lw_all := lw_g (lw_at lw_m4 42 rfl) rfl
theorem q807 : (Jvm.Cond.soleField "ParticleBoxModel" "sort") ∈ lw_all := lw_g (lw_at lw_m4 43 rfl) rfl
theorem q808 : (Jvm.Cond.laysFinal "ParticleBoxModel" "ParticleBoxModel" "stuck" "[Z") ∈ lw_all := lw_g (lw_at lw_m4 44 rfl) rfl
theorem q809 : (Jvm.Cond.soleField "ParticleBoxModel" "stuck") ∈ lw_all := lw_g (lw_at lw_m4 45 rfl) rfl
theorem q810 : (Jvm.Cond.laysFinal "ParticleBoxModel" "ParticleBoxModel" "width" "[D") ∈ lw_all := lw_g (lw_at lw_m4 46 rfl) rfl
theorem q811 : (Jvm.Cond.soleField "ParticleBoxModel" "width") ∈ lw_all := lw_g (lw_at lw_m4 47 rfl) rfl
theorem q812 : (Jvm.Cond.laysFinal "ParticleBoxModel" "ParticleBoxModel" "depth" "[D") ∈ lw_all := lw_g (lw_at lw_m4 48 rfl) rfl
theorem q813 : (Jvm.Cond.soleField "ParticleBoxModel" "depth") ∈ lw_all := lw_g (lw_at lw_m4 49 rfl) rfl
theorem q814 : (Jvm.Cond.laysFinal "ParticleBoxModel" "ParticleBoxModel" "charge" "[D") ∈ lw_all := lw_g (lw_at lw_m4 50 rfl) rfl
theorem q815 : (Jvm.Cond.soleField "ParticleBoxModel" "charge") ∈ lw_all := lw_g (lw_at lw_m4 51 rfl) rfl
theorem q816 : (Jvm.Cond.lays "ParticleBoxModel" "ParticleBoxModel" "atoms" "I") ∈ lw_all := lw_g (lw_at lw_m4 52 rfl) rfl
theorem q817 : (Jvm.Cond.soleField "ParticleBoxModel" "atoms") ∈ lw_all := lw_g (lw_at lw_m4 53 rfl) rfl
theorem q818 : (Jvm.Cond.lays "ParticleBoxModel" "ParticleBoxModel" "bonds" "I") ∈ lw_all := lw_g (lw_at lw_m4 54 rfl) rfl
theorem q819 : (Jvm.Cond.soleField "ParticleBoxModel" "bonds") ∈ lw_all := lw_g (lw_at lw_m4 55 rfl) rfl
theorem q820 : (Jvm.Cond.lays "ParticleBoxModel" "ParticleBoxModel" "rods" "I") ∈ lw_all := lw_g (lw_at lw_m4 56 rfl) rfl
theorem q821 : (Jvm.Cond.soleField "ParticleBoxModel" "rods") ∈ lw_all := lw_g (lw_at lw_m4 57 rfl) rfl
theorem q822 : (Jvm.Cond.laysFinal "ParticleBoxModel" "ParticleBoxModel" "bondI" "[I") ∈ lw_all := lw_g (lw_at lw_m4 58 rfl) rfl
theorem q823 : (Jvm.Cond.soleField "ParticleBoxModel" "bondI") ∈ lw_all := lw_g (lw_at lw_m4 59 rfl) rfl
theorem q824 : (Jvm.Cond.laysFinal "ParticleBoxModel" "ParticleBoxModel" "bondJ" "[I") ∈ lw_all := lw_g (lw_at lw_m4 60 rfl) rfl
theorem q825 : (Jvm.Cond.soleField "ParticleBoxModel" "bondJ") ∈ lw_all := lw_g (lw_at lw_m4 61 rfl) rfl
theorem q826 : (Jvm.Cond.laysFinal "ParticleBoxModel" "ParticleBoxModel" "rodI" "[I") ∈ lw_all := lw_g (lw_at lw_m4 62 rfl) rfl
theorem q827 : (Jvm.Cond.soleField "ParticleBoxModel" "rodI") ∈ lw_all := lw_g (lw_at lw_m4 63 rfl) rfl
theorem q828 : (Jvm.Cond.laysFinal "ParticleBoxModel" "ParticleBoxModel" "rodJ" "[I") ∈ lw_all := lw_g (lw_at lw_m4 64 rfl) rfl
theorem q829 : (Jvm.Cond.soleField "ParticleBoxModel" "rodJ") ∈ lw_all := lw_g (lw_at lw_m4 65 rfl) rfl
theorem q830 : (Jvm.Cond.laysFinal "ParticleBoxModel" "ParticleBoxModel" "bondK" "[D") ∈ lw_all := lw_g (lw_at lw_m4 66 rfl) rfl
theorem q831 : (Jvm.Cond.soleField "ParticleBoxModel" "bondK") ∈ lw_all := lw_g (lw_at lw_m4 67 rfl) rfl
theorem q832 : (Jvm.Cond.laysFinal "ParticleBoxModel" "ParticleBoxModel" "bondL" "[D") ∈ lw_all := lw_g (lw_at lw_m4 68 rfl) rfl
theorem q833 : (Jvm.Cond.soleField "ParticleBoxModel" "bondL") ∈ lw_all := lw_g (lw_at lw_m4 69 rfl) rfl
theorem q834 : (Jvm.Cond.laysFinal "ParticleBoxModel" "ParticleBoxModel" "rodL" "[D") ∈ lw_all := lw_g (lw_at lw_m4 70 rfl) rfl
theorem q835 : (Jvm.Cond.soleField "ParticleBoxModel" "rodL") ∈ lw_all := lw_g (lw_at lw_m4 71 rfl) rfl
theorem q836 : (Jvm.Cond.laysFinal "ParticleBoxModel" "ParticleBoxModel" "listX" "[D") ∈ lw_all := lw_g (lw_at lw_m4 72 rfl) rfl
theorem q837 : (Jvm.Cond.soleField "ParticleBoxModel" "listX") ∈ lw_all := lw_g (lw_at lw_m4 73 rfl) rfl
theorem q838 : (Jvm.Cond.laysFinal "ParticleBoxModel" "ParticleBoxModel" "listY" "[D") ∈ lw_all := lw_g (lw_at lw_m4 74 rfl) rfl
theorem q839 : (Jvm.Cond.soleField "ParticleBoxModel" "listY") ∈ lw_all := lw_g (lw_at lw_m4 75 rfl) rfl
theorem q840 : (Jvm.Cond.lays "ParticleBoxModel" "ParticleBoxModel" "listed" "Z") ∈ lw_all := lw_g (lw_at lw_m4 76 rfl) rfl
theorem q841 : (Jvm.Cond.soleField "ParticleBoxModel" "listed") ∈ lw_all := lw_g (lw_at lw_m4 77 rfl) rfl
theorem q842 : (Jvm.Cond.laysFinal "ParticleBoxModel" "ParticleBoxModel" "oldX" "[D") ∈ lw_all := lw_g (lw_at lw_m4 78 rfl) rfl
theorem q843 : (Jvm.Cond.soleField "ParticleBoxModel" "oldX") ∈ lw_all := lw_g (lw_at lw_m4 79 rfl) rfl
theorem q844 : (Jvm.Cond.laysFinal "ParticleBoxModel" "ParticleBoxModel" "oldY" "[D") ∈ lw_all := lw_g (lw_at lw_m4 80 rfl) rfl
theorem q845 : (Jvm.Cond.soleField "ParticleBoxModel" "oldY") ∈ lw_all := lw_g (lw_at lw_m4 81 rfl) rfl
theorem q846 : (Jvm.Cond.laysFinal "ParticleBoxModel" "ParticleBoxModel" "oldU" "[D") ∈ lw_all := lw_g (lw_at lw_m4 82 rfl) rfl
theorem q847 : (Jvm.Cond.soleField "ParticleBoxModel" "oldU") ∈ lw_all := lw_g (lw_at lw_m4 83 rfl) rfl
theorem q848 : (Jvm.Cond.laysFinal "ParticleBoxModel" "ParticleBoxModel" "oldV" "[D") ∈ lw_all := lw_g (lw_at lw_m4 84 rfl) rfl
theorem q849 : (Jvm.Cond.soleField "ParticleBoxModel" "oldV") ∈ lw_all := lw_g (lw_at lw_m4 85 rfl) rfl
theorem q850 : (Jvm.Cond.laysFinal "ParticleBoxModel" "ParticleBoxModel" "newX" "[D") ∈ lw_all := lw_g (lw_at lw_m4 86 rfl) rfl
theorem q851 : (Jvm.Cond.soleField "ParticleBoxModel" "newX") ∈ lw_all := lw_g (lw_at lw_m4 87 rfl) rfl
theorem q852 : (Jvm.Cond.laysFinal "ParticleBoxModel" "ParticleBoxModel" "newY" "[D") ∈ lw_all := lw_g (lw_at lw_m4 88 rfl) rfl
theorem q853 : (Jvm.Cond.soleField "ParticleBoxModel" "newY") ∈ lw_all := lw_g (lw_at lw_m4 89 rfl) rfl
theorem q854 : (Jvm.Cond.laysFinal "ParticleBoxModel" "ParticleBoxModel" "fx" "[D") ∈ lw_all := lw_g (lw_at lw_m4 90 rfl) rfl
theorem q855 : (Jvm.Cond.soleField "ParticleBoxModel" "fx") ∈ lw_all := lw_g (lw_at lw_m4 91 rfl) rfl
theorem q856 : (Jvm.Cond.laysFinal "ParticleBoxModel" "ParticleBoxModel" "fy" "[D") ∈ lw_all := lw_g (lw_at lw_m4 92 rfl) rfl
theorem q857 : (Jvm.Cond.soleField "ParticleBoxModel" "fy") ∈ lw_all := lw_g (lw_at lw_m4 93 rfl) rfl
theorem q858 : (Jvm.Cond.laysFinal "ParticleBoxModel" "ParticleBoxModel" "bins" "[I") ∈ lw_all := lw_g (lw_at lw_m4 94 rfl) rfl
theorem q859 : (Jvm.Cond.soleField "ParticleBoxModel" "bins") ∈ lw_all := lw_g (lw_at lw_m4 95 rfl) rfl
theorem q860 : (Jvm.Cond.lays "ParticleBoxModel" "ParticleBoxModel" "steps" "I") ∈ lw_all := lw_g (lw_at lw_m4 96 rfl) rfl
theorem q861 : (Jvm.Cond.soleField "ParticleBoxModel" "steps") ∈ lw_all := lw_g (lw_at lw_m4 97 rfl) rfl
theorem q862 : (Jvm.Cond.lays "ParticleBoxModel" "ParticleBoxModel" "lists" "I") ∈ lw_all := lw_g (lw_at lw_m4 98 rfl) rfl
theorem q863 : (Jvm.Cond.soleField "ParticleBoxModel" "lists") ∈ lw_all := lw_g (lw_at lw_m4 99 rfl) rfl
theorem q864 : (Jvm.Cond.lays "ParticleBoxModel" "ParticleBoxModel" "rounds" "I") ∈ lw_all := lw_g (lw_at lw_m4 100 rfl) rfl
theorem q865 : (Jvm.Cond.soleField "ParticleBoxModel" "rounds") ∈ lw_all := lw_g (lw_at lw_m4 101 rfl) rfl
theorem q866 : (Jvm.Cond.lays "ParticleBoxModel" "ParticleBoxModel" "samples" "I") ∈ lw_all := lw_g (lw_at lw_m4 102 rfl) rfl
theorem q867 : (Jvm.Cond.soleField "ParticleBoxModel" "samples") ∈ lw_all := lw_g (lw_at lw_m4 103 rfl) rfl
theorem q868 : (Jvm.Cond.lays "ParticleBoxModel" "ParticleBoxModel" "overlaps" "I") ∈ lw_all := lw_g (lw_at lw_m4 104 rfl) rfl
theorem q869 : (Jvm.Cond.soleField "ParticleBoxModel" "overlaps") ∈ lw_all := lw_g (lw_at lw_m4 105 rfl) rfl
theorem q870 : (Jvm.Cond.lays "ParticleBoxModel" "ParticleBoxModel" "stiffs" "I") ∈ lw_all := lw_g (lw_at lw_m4 106 rfl) rfl
theorem q871 : (Jvm.Cond.soleField "ParticleBoxModel" "stiffs") ∈ lw_all := lw_g (lw_at lw_m4 107 rfl) rfl
theorem q872 : (Jvm.Cond.lays "ParticleBoxModel" "ParticleBoxModel" "blowns" "I") ∈ lw_all := lw_g (lw_at lw_m4 108 rfl) rfl
theorem q873 : (Jvm.Cond.soleField "ParticleBoxModel" "blowns") ∈ lw_all := lw_g (lw_at lw_m4 109 rfl) rfl
theorem q874 : (Jvm.Cond.lays "ParticleBoxModel" "ParticleBoxModel" "thrown" "I") ∈ lw_all := lw_g (lw_at lw_m4 110 rfl) rfl
theorem q875 : (Jvm.Cond.soleField "ParticleBoxModel" "thrown") ∈ lw_all := lw_g (lw_at lw_m4 111 rfl) rfl
theorem q876 : (Jvm.Cond.lays "ParticleBoxModel" "ParticleBoxModel" "changed" "I") ∈ lw_all := lw_g (lw_at lw_m4 112 rfl) rfl
theorem q877 : (Jvm.Cond.soleField "ParticleBoxModel" "changed") ∈ lw_all := lw_g (lw_at lw_m4 113 rfl) rfl
theorem q878 : (Jvm.Cond.lays "ParticleBoxModel" "ParticleBoxModel" "a" "D") ∈ lw_all := lw_g (lw_at lw_m4 114 rfl) rfl
theorem q879 : (Jvm.Cond.soleField "ParticleBoxModel" "a") ∈ lw_all := lw_g (lw_at lw_m4 115 rfl) rfl
theorem q880 : (Jvm.Cond.lays "ParticleBoxModel" "ParticleBoxModel" "b" "D") ∈ lw_all := lw_g (lw_at lw_m4 116 rfl) rfl
theorem q881 : (Jvm.Cond.soleField "ParticleBoxModel" "b") ∈ lw_all := lw_g (lw_at lw_m4 117 rfl) rfl
theorem q882 : (Jvm.Cond.lays "ParticleBoxModel" "ParticleBoxModel" "r2" "D") ∈ lw_all := lw_g (lw_at lw_m4 118 rfl) rfl
theorem q883 : (Jvm.Cond.soleField "ParticleBoxModel" "r2") ∈ lw_all := lw_g (lw_at lw_m4 119 rfl) rfl
theorem q884 : (Jvm.Cond.superclass "ParticleBoxModel" "java/lang/Object") ∈ lw_all := lw_g (lw_at lw_m4 120 rfl) rfl
theorem q887 : (Jvm.Cond.instanceMethod ({ cls := "ParticleBoxModel", name := "thrown", desc := "()I" } : Jvm.MethodName)) ∈ lw_all := lw_g (lw_at lw_m4 123 rfl) rfl
theorem q888 : (Jvm.Cond.selects "ParticleBoxModel" ({ cls := "ParticleBoxModel", name := "thrown", desc := "()I" } : Jvm.MethodName) ({ cls := "ParticleBoxModel", name := "thrown", desc := "()I" } : Jvm.MethodName)) ∈ lw_all := lw_g (lw_at lw_m4 124 rfl) rfl
theorem q889 : (Jvm.Cond.code ({ cls := "ParticleBoxModel", name := "thrown", desc := "()I" } : Jvm.MethodName) prog_10_method_2_code (1 : Nat) (Option.some Jvm.ClassFile.FieldType.int)) ∈ lw_all := lw_g (lw_at lw_m4 125 rfl) rfl
theorem q891 : (Jvm.Cond.instanceMethod ({ cls := "ParticleBoxModel", name := "atom", desc := "(DDDI)I" } : Jvm.MethodName)) ∈ lw_all := lw_g (lw_at lw_m4 127 rfl) rfl
theorem q892 : (Jvm.Cond.selects "ParticleBoxModel" ({ cls := "ParticleBoxModel", name := "atom", desc := "(DDDI)I" } : Jvm.MethodName) ({ cls := "ParticleBoxModel", name := "atom", desc := "(DDDI)I" } : Jvm.MethodName)) ∈ lw_all := lw_g (lw_at lw_m4 128 rfl) rfl
theorem q893 : (Jvm.Cond.code ({ cls := "ParticleBoxModel", name := "atom", desc := "(DDDI)I" } : Jvm.MethodName) prog_10_method_12_code (8 : Nat) (Option.some Jvm.ClassFile.FieldType.int)) ∈ lw_all := lw_g (lw_at lw_m4 129 rfl) rfl
theorem q894 : (Jvm.Cond.constantDouble "ParticleBoxModel" (142 : Nat) (13875379345695965184 : UInt64)) ∈ lw_all := lw_g (lw_at lw_m4 130 rfl) rfl
theorem q895 : (Jvm.Cond.constantDouble "ParticleBoxModel" (144 : Nat) (4652007308841189376 : UInt64)) ∈ lw_all := lw_g (lw_at lw_m4 131 rfl) rfl
theorem q896 : (Jvm.Cond.methodLink "ParticleBoxModel" (146 : Nat) ({ cls := "ParticleBoxModel", name := "in", desc := "(DDD)Z" } : Jvm.MethodName)) ∈ lw_all := lw_g (lw_at lw_m4 132 rfl) rfl
theorem q897 : (Jvm.Cond.static ({ cls := "ParticleBoxModel", name := "in", desc := "(DDD)Z" } : Jvm.MethodName)) ∈ lw_all := lw_g (lw_at lw_m4 133 rfl) rfl
theorem q898 : (Jvm.Cond.code ({ cls := "ParticleBoxModel", name := "in", desc := "(DDD)Z" } : Jvm.MethodName) prog_10_method_3_code (6 : Nat) (Option.some Jvm.ClassFile.FieldType.boolean)) ∈ lw_all := lw_g (lw_at lw_m4 134 rfl) rfl
theorem q899 : (Jvm.Cond.constantDouble "ParticleBoxModel" (150 : Nat) (4593671619917905920 : UInt64)) ∈ lw_all := lw_g (lw_at lw_m4 135 rfl) rfl
theorem q900 : (Jvm.Cond.constantDouble "ParticleBoxModel" (152 : Nat) (4634204016564240384 : UInt64)) ∈ lw_all := lw_g (lw_at lw_m4 136 rfl) rfl
theorem q901 : (Jvm.Cond.methodLink "ParticleBoxModel" (154 : Nat) ({ cls := "ParticleBoxModel", name := "bad", desc := "(Z)Z" } : Jvm.MethodName)) ∈ lw_all := lw_g (lw_at lw_m4 137 rfl) rfl
theorem q902 : (Jvm.Cond.privateMethod ({ cls := "ParticleBoxModel", name := "bad", desc := "(Z)Z" } : Jvm.MethodName)) ∈ lw_tbl := lw_at lw_m4 138 rfl
theorem q903 : (Jvm.Cond.instanceMethod ({ cls := "ParticleBoxModel", name := "bad", desc := "(Z)Z" } : Jvm.MethodName)) ∈ lw_all := lw_g (lw_at lw_m4 139 rfl) rfl
theorem q904 : (Jvm.Cond.code ({ cls := "ParticleBoxModel", name := "bad", desc := "(Z)Z" } : Jvm.MethodName) prog_10_method_4_code (2 : Nat) (Option.some Jvm.ClassFile.FieldType.boolean)) ∈ lw_all := lw_g (lw_at lw_m4 140 rfl) rfl
theorem q905 : (Jvm.Cond.methodLink "ParticleBoxModel" (158 : Nat) ({ cls := "ParticleBoxModel", name := "wrapped", desc := "(D)D" } : Jvm.MethodName)) ∈ lw_all := lw_g (lw_at lw_m4 141 rfl) rfl
theorem q906 : (Jvm.Cond.privateMethod ({ cls := "ParticleBoxModel", name := "wrapped", desc := "(D)D" } : Jvm.MethodName)) ∈ lw_tbl := lw_at lw_m4 142 rfl
theorem q907 : (Jvm.Cond.instanceMethod ({ cls := "ParticleBoxModel", name := "wrapped", desc := "(D)D" } : Jvm.MethodName)) ∈ lw_all := lw_g (lw_at lw_m4 143 rfl) rfl
theorem q908 : (Jvm.Cond.code ({ cls := "ParticleBoxModel", name := "wrapped", desc := "(D)D" } : Jvm.MethodName) prog_10_method_8_code (5 : Nat) (Option.some Jvm.ClassFile.FieldType.double)) ∈ lw_all := lw_g (lw_at lw_m4 144 rfl) rfl
theorem q909 : (Jvm.Cond.methodLink "ParticleBoxModel" (122 : Nat) ({ cls := "ParticleBoxModel", name := "floor", desc := "(D)D" } : Jvm.MethodName)) ∈ lw_all := lw_g (lw_at lw_m4 145 rfl) rfl
theorem q910 : (Jvm.Cond.static ({ cls := "ParticleBoxModel", name := "floor", desc := "(D)D" } : Jvm.MethodName)) ∈ lw_all := lw_g (lw_at lw_m4 146 rfl) rfl
theorem q911 : (Jvm.Cond.code ({ cls := "ParticleBoxModel", name := "floor", desc := "(D)D" } : Jvm.MethodName) prog_10_method_6_code (4 : Nat) (Option.some Jvm.ClassFile.FieldType.double)) ∈ lw_all := lw_g (lw_at lw_m4 147 rfl) rfl
theorem q913 : (Jvm.Cond.instanceMethod ({ cls := "ParticleBoxModel", name := "place", desc := "(IDD)V" } : Jvm.MethodName)) ∈ lw_all := lw_g (lw_at lw_m4 149 rfl) rfl
theorem q914 : (Jvm.Cond.selects "ParticleBoxModel" ({ cls := "ParticleBoxModel", name := "place", desc := "(IDD)V" } : Jvm.MethodName) ({ cls := "ParticleBoxModel", name := "place", desc := "(IDD)V" } : Jvm.MethodName)) ∈ lw_all := lw_g (lw_at lw_m4 150 rfl) rfl
theorem q915 : (Jvm.Cond.code ({ cls := "ParticleBoxModel", name := "place", desc := "(IDD)V" } : Jvm.MethodName) prog_10_method_13_code (6 : Nat) (Option.none : Option Jvm.ClassFile.FieldType)) ∈ lw_all := lw_g (lw_at lw_m4 151 rfl) rfl
theorem q916 : (Jvm.Cond.methodLink "ParticleBoxModel" (165 : Nat) ({ cls := "ParticleBoxModel", name := "isAtom", desc := "(I)Z" } : Jvm.MethodName)) ∈ lw_all := lw_g (lw_at lw_m4 152 rfl) rfl
theorem q917 : (Jvm.Cond.privateMethod ({ cls := "ParticleBoxModel", name := "isAtom", desc := "(I)Z" } : Jvm.MethodName)) ∈ lw_tbl := lw_at lw_m4 153 rfl
theorem q918 : (Jvm.Cond.instanceMethod ({ cls := "ParticleBoxModel", name := "isAtom", desc := "(I)Z" } : Jvm.MethodName)) ∈ lw_all := lw_g (lw_at lw_m4 154 rfl) rfl
theorem q919 : (Jvm.Cond.code ({ cls := "ParticleBoxModel", name := "isAtom", desc := "(I)Z" } : Jvm.MethodName) prog_10_method_5_code (2 : Nat) (Option.some Jvm.ClassFile.FieldType.boolean)) ∈ lw_all := lw_g (lw_at lw_m4 155 rfl) rfl
theorem q921 : (Jvm.Cond.instanceMethod ({ cls := "ParticleBoxModel", name := "speed", desc := "(IDD)V" } : Jvm.MethodName)) ∈ lw_all := lw_g (lw_at lw_m4 157 rfl) rfl
theorem q922 : (Jvm.Cond.selects "ParticleBoxModel" ({ cls := "ParticleBoxModel", name := "speed", desc := "(IDD)V" } : Jvm.MethodName) ({ cls := "ParticleBoxModel", name := "speed", desc := "(IDD)V" } : Jvm.MethodName)) ∈ lw_all := lw_g (lw_at lw_m4 158 rfl) rfl
theorem q923 : (Jvm.Cond.code ({ cls := "ParticleBoxModel", name := "speed", desc := "(IDD)V" } : Jvm.MethodName) prog_10_method_14_code (6 : Nat) (Option.none : Option Jvm.ClassFile.FieldType)) ∈ lw_all := lw_g (lw_at lw_m4 159 rfl) rfl
theorem q925 : (Jvm.Cond.instanceMethod ({ cls := "ParticleBoxModel", name := "sort", desc := "(IDDD)V" } : Jvm.MethodName)) ∈ lw_all := lw_g (lw_at lw_m4 161 rfl) rfl
theorem q926 : (Jvm.Cond.selects "ParticleBoxModel" ({ cls := "ParticleBoxModel", name := "sort", desc := "(IDDD)V" } : Jvm.MethodName) ({ cls := "ParticleBoxModel", name := "sort", desc := "(IDDD)V" } : Jvm.MethodName)) ∈ lw_all := lw_g (lw_at lw_m4 162 rfl) rfl
theorem q927 : (Jvm.Cond.code ({ cls := "ParticleBoxModel", name := "sort", desc := "(IDDD)V" } : Jvm.MethodName) prog_10_method_15_code (8 : Nat) (Option.none : Option Jvm.ClassFile.FieldType)) ∈ lw_all := lw_g (lw_at lw_m4 163 rfl) rfl
theorem q928 : (Jvm.Cond.constantDouble "ParticleBoxModel" (169 : Nat) (4616189618054758400 : UInt64)) ∈ lw_all := lw_g (lw_at lw_m4 164 rfl) rfl
theorem q929 : (Jvm.Cond.constantDouble "ParticleBoxModel" (171 : Nat) (13844065254536904704 : UInt64)) ∈ lw_all := lw_g (lw_at lw_m4 165 rfl) rfl
theorem q930 : (Jvm.Cond.constantDouble "ParticleBoxModel" (173 : Nat) (4620693217682128896 : UInt64)) ∈ lw_all := lw_g (lw_at lw_m4 166 rfl) rfl
theorem q932 : (Jvm.Cond.instanceMethod ({ cls := "ParticleBoxModel", name := "cut", desc := "(DD)V" } : Jvm.MethodName)) ∈ lw_all := lw_g (lw_at lw_m4 168 rfl) rfl
theorem q933 : (Jvm.Cond.selects "ParticleBoxModel" ({ cls := "ParticleBoxModel", name := "cut", desc := "(DD)V" } : Jvm.MethodName) ({ cls := "ParticleBoxModel", name := "cut", desc := "(DD)V" } : Jvm.MethodName)) ∈ lw_all := lw_g (lw_at lw_m4 169 rfl) rfl
theorem q934 : (Jvm.Cond.code ({ cls := "ParticleBoxModel", name := "cut", desc := "(DD)V" } : Jvm.MethodName) prog_10_method_16_code (5 : Nat) (Option.none : Option Jvm.ClassFile.FieldType)) ∈ lw_all := lw_g (lw_at lw_m4 170 rfl) rfl
theorem q936 : (Jvm.Cond.instanceMethod ({ cls := "ParticleBoxModel", name := "bond", desc := "(IIDD)I" } : Jvm.MethodName)) ∈ lw_all := lw_g (lw_at lw_m4 172 rfl) rfl
theorem q937 : (Jvm.Cond.selects "ParticleBoxModel" ({ cls := "ParticleBoxModel", name := "bond", desc := "(IIDD)I" } : Jvm.MethodName) ({ cls := "ParticleBoxModel", name := "bond", desc := "(IIDD)I" } : Jvm.MethodName)) ∈ lw_all := lw_g (lw_at lw_m4 173 rfl) rfl
theorem q938 : (Jvm.Cond.code ({ cls := "ParticleBoxModel", name := "bond", desc := "(IIDD)I" } : Jvm.MethodName) prog_10_method_17_code (7 : Nat) (Option.some Jvm.ClassFile.FieldType.int)) ∈ lw_all := lw_g (lw_at lw_m4 174 rfl) rfl
theorem q940 : (Jvm.Cond.instanceMethod ({ cls := "ParticleBoxModel", name := "rod", desc := "(IID)I" } : Jvm.MethodName)) ∈ lw_all := lw_g (lw_at lw_m4 176 rfl) rfl
theorem q941 : (Jvm.Cond.selects "ParticleBoxModel" ({ cls := "ParticleBoxModel", name := "rod", desc := "(IID)I" } : Jvm.MethodName) ({ cls := "ParticleBoxModel", name := "rod", desc := "(IID)I" } : Jvm.MethodName)) ∈ lw_all := lw_g (lw_at lw_m4 177 rfl) rfl
theorem q942 : (Jvm.Cond.code ({ cls := "ParticleBoxModel", name := "rod", desc := "(IID)I" } : Jvm.MethodName) prog_10_method_18_code (5 : Nat) (Option.some Jvm.ClassFile.FieldType.int)) ∈ lw_all := lw_g (lw_at lw_m4 178 rfl) rfl
theorem q944 : (Jvm.Cond.instanceMethod ({ cls := "ParticleBoxModel", name := "stuck", desc := "(IZ)V" } : Jvm.MethodName)) ∈ lw_all := lw_g (lw_at lw_m4 180 rfl) rfl
theorem q945 : (Jvm.Cond.selects "ParticleBoxModel" ({ cls := "ParticleBoxModel", name := "stuck", desc := "(IZ)V" } : Jvm.MethodName) ({ cls := "ParticleBoxModel", name := "stuck", desc := "(IZ)V" } : Jvm.MethodName)) ∈ lw_all := lw_g (lw_at lw_m4 181 rfl) rfl
theorem q946 : (Jvm.Cond.code ({ cls := "ParticleBoxModel", name := "stuck", desc := "(IZ)V" } : Jvm.MethodName) prog_10_method_19_code (3 : Nat) (Option.none : Option Jvm.ClassFile.FieldType)) ∈ lw_all := lw_g (lw_at lw_m4 182 rfl) rfl
theorem q948 : (Jvm.Cond.instanceMethod ({ cls := "ParticleBoxModel", name := "thermostat", desc := "(D)V" } : Jvm.MethodName)) ∈ lw_all := lw_g (lw_at lw_m4 184 rfl) rfl
theorem q949 : (Jvm.Cond.selects "ParticleBoxModel" ({ cls := "ParticleBoxModel", name := "thermostat", desc := "(D)V" } : Jvm.MethodName) ({ cls := "ParticleBoxModel", name := "thermostat", desc := "(D)V" } : Jvm.MethodName)) ∈ lw_all := lw_g (lw_at lw_m4 185 rfl) rfl
theorem q950 : (Jvm.Cond.code ({ cls := "ParticleBoxModel", name := "thermostat", desc := "(D)V" } : Jvm.MethodName) prog_10_method_20_code (3 : Nat) (Option.none : Option Jvm.ClassFile.FieldType)) ∈ lw_all := lw_g (lw_at lw_m4 186 rfl) rfl
theorem q952 : (Jvm.Cond.instanceMethod ({ cls := "ParticleBoxModel", name := "step", desc := "(II)V" } : Jvm.MethodName)) ∈ lw_all := lw_g (lw_at lw_m4 188 rfl) rfl
theorem q953 : (Jvm.Cond.selects "ParticleBoxModel" ({ cls := "ParticleBoxModel", name := "step", desc := "(II)V" } : Jvm.MethodName) ({ cls := "ParticleBoxModel", name := "step", desc := "(II)V" } : Jvm.MethodName)) ∈ lw_all := lw_g (lw_at lw_m4 189 rfl) rfl
theorem q954 : (Jvm.Cond.code ({ cls := "ParticleBoxModel", name := "step", desc := "(II)V" } : Jvm.MethodName) prog_10_method_35_code (5 : Nat) (Option.none : Option Jvm.ClassFile.FieldType)) ∈ lw_all := lw_g (lw_at lw_m4 190 rfl) rfl
theorem q955 : (Jvm.Cond.constantDouble "ParticleBoxModel" (247 : Nat) (4652218415073722368 : UInt64)) ∈ lw_all := lw_g (lw_at lw_m4 191 rfl) rfl
theorem q956 : (Jvm.Cond.methodLink "ParticleBoxModel" (249 : Nat) ({ cls := "ParticleBoxModel", name := "oneStep", desc := "(D)I" } : Jvm.MethodName)) ∈ lw_all := lw_g (lw_at lw_m4 192 rfl) rfl
theorem q957 : (Jvm.Cond.privateMethod ({ cls := "ParticleBoxModel", name := "oneStep", desc := "(D)I" } : Jvm.MethodName)) ∈ lw_tbl := lw_at lw_m4 193 rfl
theorem q958 : (Jvm.Cond.instanceMethod ({ cls := "ParticleBoxModel", name := "oneStep", desc := "(D)I" } : Jvm.MethodName)) ∈ lw_all := lw_g (lw_at lw_m4 194 rfl) rfl
theorem q959 : (Jvm.Cond.code ({ cls := "ParticleBoxModel", name := "oneStep", desc := "(D)I" } : Jvm.MethodName) prog_10_method_33_code (4 : Nat) (Option.some Jvm.ClassFile.FieldType.int)) ∈ lw_all := lw_g (lw_at lw_m4 195 rfl) rfl
theorem q960 : (Jvm.Cond.methodLink "ParticleBoxModel" (234 : Nat) ({ cls := "ParticleBoxModel", name := "forces", desc := "()Z" } : Jvm.MethodName)) ∈ lw_all := lw_g (lw_at lw_m4 196 rfl) rfl
theorem q961 : (Jvm.Cond.privateMethod ({ cls := "ParticleBoxModel", name := "forces", desc := "()Z" } : Jvm.MethodName)) ∈ lw_tbl := lw_at lw_m4 197 rfl
theorem q962 : (Jvm.Cond.instanceMethod ({ cls := "ParticleBoxModel", name := "forces", desc := "()Z" } : Jvm.MethodName)) ∈ lw_all := lw_g (lw_at lw_m4 198 rfl) rfl
theorem q963 : (Jvm.Cond.code ({ cls := "ParticleBoxModel", name := "forces", desc := "()Z" } : Jvm.MethodName) prog_10_method_28_code (2 : Nat) (Option.some Jvm.ClassFile.FieldType.boolean)) ∈ lw_all := lw_g (lw_at lw_m4 199 rfl) rfl
theorem q964 : (Jvm.Cond.methodLink "ParticleBoxModel" (208 : Nat) ({ cls := "ParticleBoxModel", name := "neighbours", desc := "()V" } : Jvm.MethodName)) ∈ lw_all := lw_g (lw_at lw_m4 200 rfl) rfl
theorem q965 : (Jvm.Cond.privateMethod ({ cls := "ParticleBoxModel", name := "neighbours", desc := "()V" } : Jvm.MethodName)) ∈ lw_tbl := lw_at lw_m4 201 rfl
theorem q966 : (Jvm.Cond.instanceMethod ({ cls := "ParticleBoxModel", name := "neighbours", desc := "()V" } : Jvm.MethodName)) ∈ lw_all := lw_g (lw_at lw_m4 202 rfl) rfl
theorem q967 : (Jvm.Cond.code ({ cls := "ParticleBoxModel", name := "neighbours", desc := "()V" } : Jvm.MethodName) prog_10_method_27_code (3 : Nat) (Option.none : Option Jvm.ClassFile.FieldType)) ∈ lw_all := lw_g (lw_at lw_m4 203 rfl) rfl
theorem q968 : (Jvm.Cond.methodLink "ParticleBoxModel" (138 : Nat) ({ cls := "ParticleBoxModel", name := "way", desc := "(DDDD)V" } : Jvm.MethodName)) ∈ lw_all := lw_g (lw_at lw_m4 204 rfl) rfl
theorem q969 : (Jvm.Cond.privateMethod ({ cls := "ParticleBoxModel", name := "way", desc := "(DDDD)V" } : Jvm.MethodName)) ∈ lw_tbl := lw_at lw_m4 205 rfl
theorem q970 : (Jvm.Cond.instanceMethod ({ cls := "ParticleBoxModel", name := "way", desc := "(DDDD)V" } : Jvm.MethodName)) ∈ lw_all := lw_g (lw_at lw_m4 206 rfl) rfl
theorem q971 : (Jvm.Cond.code ({ cls := "ParticleBoxModel", name := "way", desc := "(DDDD)V" } : Jvm.MethodName) prog_10_method_10_code (9 : Nat) (Option.none : Option Jvm.ClassFile.FieldType)) ∈ lw_all := lw_g (lw_at lw_m4 207 rfl) rfl
theorem q972 : (Jvm.Cond.methodLink "ParticleBoxModel" (129 : Nat) ({ cls := "ParticleBoxModel", name := "nearest", desc := "(D)D" } : Jvm.MethodName)) ∈ lw_all := lw_g (lw_at lw_m4 208 rfl) rfl
theorem q973 : (Jvm.Cond.privateMethod ({ cls := "ParticleBoxModel", name := "nearest", desc := "(D)D" } : Jvm.MethodName)) ∈ lw_tbl := lw_at lw_m4 209 rfl
theorem q974 : (Jvm.Cond.instanceMethod ({ cls := "ParticleBoxModel", name := "nearest", desc := "(D)D" } : Jvm.MethodName)) ∈ lw_all := lw_g (lw_at lw_m4 210 rfl) rfl
theorem q975 : (Jvm.Cond.code ({ cls := "ParticleBoxModel", name := "nearest", desc := "(D)D" } : Jvm.MethodName) prog_10_method_9_code (3 : Nat) (Option.some Jvm.ClassFile.FieldType.double)) ∈ lw_all := lw_g (lw_at lw_m4 211 rfl) rfl
theorem q976 : (Jvm.Cond.methodLink "ParticleBoxModel" (211 : Nat) ({ cls := "ParticleBoxModel", name := "overlap", desc := "()Z" } : Jvm.MethodName)) ∈ lw_all := lw_g (lw_at lw_m4 212 rfl) rfl
theorem q977 : (Jvm.Cond.privateMethod ({ cls := "ParticleBoxModel", name := "overlap", desc := "()Z" } : Jvm.MethodName)) ∈ lw_tbl := lw_at lw_m4 213 rfl
theorem q978 : (Jvm.Cond.instanceMethod ({ cls := "ParticleBoxModel", name := "overlap", desc := "()Z" } : Jvm.MethodName)) ∈ lw_all := lw_g (lw_at lw_m4 214 rfl) rfl
theorem q979 : (Jvm.Cond.code ({ cls := "ParticleBoxModel", name := "overlap", desc := "()Z" } : Jvm.MethodName) prog_10_method_21_code (3 : Nat) (Option.some Jvm.ClassFile.FieldType.boolean)) ∈ lw_all := lw_g (lw_at lw_m4 215 rfl) rfl
theorem q980 : (Jvm.Cond.methodLink "ParticleBoxModel" (181 : Nat) ({ cls := "ParticleBoxModel", name := "between", desc := "(II)V" } : Jvm.MethodName)) ∈ lw_all := lw_g (lw_at lw_m4 216 rfl) rfl
theorem q981 : (Jvm.Cond.privateMethod ({ cls := "ParticleBoxModel", name := "between", desc := "(II)V" } : Jvm.MethodName)) ∈ lw_tbl := lw_at lw_m4 217 rfl
theorem q982 : (Jvm.Cond.instanceMethod ({ cls := "ParticleBoxModel", name := "between", desc := "(II)V" } : Jvm.MethodName)) ∈ lw_all := lw_g (lw_at lw_m4 218 rfl) rfl
theorem q983 : (Jvm.Cond.code ({ cls := "ParticleBoxModel", name := "between", desc := "(II)V" } : Jvm.MethodName) prog_10_method_11_code (3 : Nat) (Option.none : Option Jvm.ClassFile.FieldType)) ∈ lw_all := lw_g (lw_at lw_m4 219 rfl) rfl
theorem q984 : (Jvm.Cond.constantDouble "ParticleBoxModel" (185 : Nat) (4562146422526312448 : UInt64)) ∈ lw_all := lw_g (lw_at lw_m4 220 rfl) rfl
theorem q985 : (Jvm.Cond.methodLink "ParticleBoxModel" (215 : Nat) ({ cls := "ParticleBoxModel", name := "findForce", desc := "(I)V" } : Jvm.MethodName)) ∈ lw_all := lw_g (lw_at lw_m4 221 rfl) rfl
theorem q986 : (Jvm.Cond.privateMethod ({ cls := "ParticleBoxModel", name := "findForce", desc := "(I)V" } : Jvm.MethodName)) ∈ lw_tbl := lw_at lw_m4 222 rfl
theorem q987 : (Jvm.Cond.instanceMethod ({ cls := "ParticleBoxModel", name := "findForce", desc := "(I)V" } : Jvm.MethodName)) ∈ lw_all := lw_g (lw_at lw_m4 223 rfl) rfl
theorem q988 : (Jvm.Cond.code ({ cls := "ParticleBoxModel", name := "findForce", desc := "(I)V" } : Jvm.MethodName) prog_10_method_26_code (11 : Nat) (Option.none : Option Jvm.ClassFile.FieldType)) ∈ lw_all := lw_g (lw_at lw_m4 224 rfl) rfl
theorem q989 : (Jvm.Cond.methodLink "ParticleBoxModel" (187 : Nat) ({ cls := "ParticleBoxModel", name := "isPair", desc := "(II)Z" } : Jvm.MethodName)) ∈ lw_all := lw_g (lw_at lw_m4 225 rfl) rfl
theorem q990 : (Jvm.Cond.privateMethod ({ cls := "ParticleBoxModel", name := "isPair", desc := "(II)Z" } : Jvm.MethodName)) ∈ lw_tbl := lw_at lw_m4 226 rfl
theorem q991 : (Jvm.Cond.instanceMethod ({ cls := "ParticleBoxModel", name := "isPair", desc := "(II)Z" } : Jvm.MethodName)) ∈ lw_all := lw_g (lw_at lw_m4 227 rfl) rfl
theorem q992 : (Jvm.Cond.code ({ cls := "ParticleBoxModel", name := "isPair", desc := "(II)Z" } : Jvm.MethodName) prog_10_method_22_code (3 : Nat) (Option.some Jvm.ClassFile.FieldType.boolean)) ∈ lw_all := lw_g (lw_at lw_m4 228 rfl) rfl
theorem q993 : (Jvm.Cond.methodLink "ParticleBoxModel" (191 : Nat) ({ cls := "ParticleBoxModel", name := "deep", desc := "(II)D" } : Jvm.MethodName)) ∈ lw_all := lw_g (lw_at lw_m4 229 rfl) rfl
theorem q994 : (Jvm.Cond.privateMethod ({ cls := "ParticleBoxModel", name := "deep", desc := "(II)D" } : Jvm.MethodName)) ∈ lw_tbl := lw_at lw_m4 230 rfl
theorem q995 : (Jvm.Cond.instanceMethod ({ cls := "ParticleBoxModel", name := "deep", desc := "(II)D" } : Jvm.MethodName)) ∈ lw_all := lw_g (lw_at lw_m4 231 rfl) rfl
theorem q996 : (Jvm.Cond.code ({ cls := "ParticleBoxModel", name := "deep", desc := "(II)D" } : Jvm.MethodName) prog_10_method_24_code (3 : Nat) (Option.some Jvm.ClassFile.FieldType.double)) ∈ lw_all := lw_g (lw_at lw_m4 232 rfl) rfl
theorem q997 : (Jvm.Cond.methodLink "ParticleBoxModel" (195 : Nat) ({ cls := "ParticleBoxModel", name := "sixth", desc := "(II)D" } : Jvm.MethodName)) ∈ lw_all := lw_g (lw_at lw_m4 233 rfl) rfl
theorem q998 : (Jvm.Cond.privateMethod ({ cls := "ParticleBoxModel", name := "sixth", desc := "(II)D" } : Jvm.MethodName)) ∈ lw_tbl := lw_at lw_m4 234 rfl
theorem q999 : (Jvm.Cond.instanceMethod ({ cls := "ParticleBoxModel", name := "sixth", desc := "(II)D" } : Jvm.MethodName)) ∈ lw_all := lw_g (lw_at lw_m4 235 rfl) rfl
theorem q1000 : (Jvm.Cond.code ({ cls := "ParticleBoxModel", name := "sixth", desc := "(II)D" } : Jvm.MethodName) prog_10_method_23_code (7 : Nat) (Option.some Jvm.ClassFile.FieldType.double)) ∈ lw_all := lw_g (lw_at lw_m4 236 rfl) rfl
theorem q1001 : (Jvm.Cond.methodLink "ParticleBoxModel" (198 : Nat) ({ cls := "ParticleBoxModel", name := "charges", desc := "(II)D" } : Jvm.MethodName)) ∈ lw_all := lw_g (lw_at lw_m4 237 rfl) rfl
theorem q1002 : (Jvm.Cond.privateMethod ({ cls := "ParticleBoxModel", name := "charges", desc := "(II)D" } : Jvm.MethodName)) ∈ lw_tbl := lw_at lw_m4 238 rfl
theorem q1003 : (Jvm.Cond.instanceMethod ({ cls := "ParticleBoxModel", name := "charges", desc := "(II)D" } : Jvm.MethodName)) ∈ lw_all := lw_g (lw_at lw_m4 239 rfl) rfl
theorem q1004 : (Jvm.Cond.code ({ cls := "ParticleBoxModel", name := "charges", desc := "(II)D" } : Jvm.MethodName) prog_10_method_25_code (3 : Nat) (Option.some Jvm.ClassFile.FieldType.double)) ∈ lw_all := lw_g (lw_at lw_m5 0 rfl) rfl
theorem q1005 : (Jvm.Cond.constantDouble "ParticleBoxModel" (201 : Nat) (4627448617123184640 : UInt64)) ∈ lw_all := lw_g (lw_at lw_m5 1 rfl) rfl
theorem q1006 : (Jvm.Cond.constantDouble "ParticleBoxModel" (203 : Nat) (4611686018427387904 : UInt64)) ∈ lw_all := lw_g (lw_at lw_m5 2 rfl) rfl
theorem q1007 : (Jvm.Cond.methodLink "ParticleBoxModel" (237 : Nat) ({ cls := "ParticleBoxModel", name := "kick", desc := "(D)V" } : Jvm.MethodName)) ∈ lw_all := lw_g (lw_at lw_m5 3 rfl) rfl
theorem q1008 : (Jvm.Cond.privateMethod ({ cls := "ParticleBoxModel", name := "kick", desc := "(D)V" } : Jvm.MethodName)) ∈ lw_tbl := lw_at lw_m5 4 rfl
theorem q1009 : (Jvm.Cond.instanceMethod ({ cls := "ParticleBoxModel", name := "kick", desc := "(D)V" } : Jvm.MethodName)) ∈ lw_all := lw_g (lw_at lw_m5 5 rfl) rfl
theorem q1010 : (Jvm.Cond.code ({ cls := "ParticleBoxModel", name := "kick", desc := "(D)V" } : Jvm.MethodName) prog_10_method_29_code (4 : Nat) (Option.none : Option Jvm.ClassFile.FieldType)) ∈ lw_all := lw_g (lw_at lw_m5 6 rfl) rfl
theorem q1011 : (Jvm.Cond.methodLink "ParticleBoxModel" (241 : Nat) ({ cls := "ParticleBoxModel", name := "blown", desc := "()Z" } : Jvm.MethodName)) ∈ lw_all := lw_g (lw_at lw_m5 7 rfl) rfl
theorem q1012 : (Jvm.Cond.privateMethod ({ cls := "ParticleBoxModel", name := "blown", desc := "()Z" } : Jvm.MethodName)) ∈ lw_tbl := lw_at lw_m5 8 rfl
theorem q1013 : (Jvm.Cond.instanceMethod ({ cls := "ParticleBoxModel", name := "blown", desc := "()Z" } : Jvm.MethodName)) ∈ lw_all := lw_g (lw_at lw_m5 9 rfl) rfl
theorem q1014 : (Jvm.Cond.code ({ cls := "ParticleBoxModel", name := "blown", desc := "()Z" } : Jvm.MethodName) prog_10_method_30_code (2 : Nat) (Option.some Jvm.ClassFile.FieldType.boolean)) ∈ lw_all := lw_g (lw_at lw_m5 10 rfl) rfl
theorem q1015 : (Jvm.Cond.constantDouble "ParticleBoxModel" (219 : Nat) (13920209183539462144 : UInt64)) ∈ lw_all := lw_g (lw_at lw_m5 11 rfl) rfl
theorem q1016 : (Jvm.Cond.constantDouble "ParticleBoxModel" (221 : Nat) (4696837146684686336 : UInt64)) ∈ lw_all := lw_g (lw_at lw_m5 12 rfl) rfl
theorem q1017 : (Jvm.Cond.methodLink "ParticleBoxModel" (244 : Nat) ({ cls := "ParticleBoxModel", name := "keepRods", desc := "()Z" } : Jvm.MethodName)) ∈ lw_all := lw_g (lw_at lw_m5 13 rfl) rfl
theorem q1018 : (Jvm.Cond.privateMethod ({ cls := "ParticleBoxModel", name := "keepRods", desc := "()Z" } : Jvm.MethodName)) ∈ lw_tbl := lw_at lw_m5 14 rfl
theorem q1019 : (Jvm.Cond.instanceMethod ({ cls := "ParticleBoxModel", name := "keepRods", desc := "()Z" } : Jvm.MethodName)) ∈ lw_all := lw_g (lw_at lw_m5 15 rfl) rfl
theorem q1020 : (Jvm.Cond.code ({ cls := "ParticleBoxModel", name := "keepRods", desc := "()Z" } : Jvm.MethodName) prog_10_method_32_code (4 : Nat) (Option.some Jvm.ClassFile.FieldType.boolean)) ∈ lw_all := lw_g (lw_at lw_m5 16 rfl) rfl
theorem q1021 : (Jvm.Cond.methodLink "ParticleBoxModel" (230 : Nat) ({ cls := "ParticleBoxModel", name := "turn", desc := "(I)I" } : Jvm.MethodName)) ∈ lw_all := lw_g (lw_at lw_m5 17 rfl) rfl
theorem q1022 : (Jvm.Cond.privateMethod ({ cls := "ParticleBoxModel", name := "turn", desc := "(I)I" } : Jvm.MethodName)) ∈ lw_tbl := lw_at lw_m5 18 rfl
theorem q1023 : (Jvm.Cond.instanceMethod ({ cls := "ParticleBoxModel", name := "turn", desc := "(I)I" } : Jvm.MethodName)) ∈ lw_all := lw_g (lw_at lw_m5 19 rfl) rfl
theorem q1024 : (Jvm.Cond.code ({ cls := "ParticleBoxModel", name := "turn", desc := "(I)I" } : Jvm.MethodName) prog_10_method_31_code (22 : Nat) (Option.some Jvm.ClassFile.FieldType.int)) ∈ lw_all := lw_g (lw_at lw_m5 20 rfl) rfl
theorem q1025 : (Jvm.Cond.constantDouble "ParticleBoxModel" (223 : Nat) (4517329193108106637 : UInt64)) ∈ lw_all := lw_g (lw_at lw_m5 21 rfl) rfl
theorem q1026 : (Jvm.Cond.constantDouble "ParticleBoxModel" (225 : Nat) (13740701229962882445 : UInt64)) ∈ lw_all := lw_g (lw_at lw_m5 22 rfl) rfl
theorem q1027 : (Jvm.Cond.methodLink "ParticleBoxModel" (253 : Nat) ({ cls := "ParticleBoxModel", name := "undo", desc := "()V" } : Jvm.MethodName)) ∈ lw_all := lw_g (lw_at lw_m5 23 rfl) rfl
theorem q1028 : (Jvm.Cond.privateMethod ({ cls := "ParticleBoxModel", name := "undo", desc := "()V" } : Jvm.MethodName)) ∈ lw_tbl := lw_at lw_m5 24 rfl
theorem q1029 : (Jvm.Cond.instanceMethod ({ cls := "ParticleBoxModel", name := "undo", desc := "()V" } : Jvm.MethodName)) ∈ lw_all := lw_g (lw_at lw_m5 25 rfl) rfl
theorem q1030 : (Jvm.Cond.code ({ cls := "ParticleBoxModel", name := "undo", desc := "()V" } : Jvm.MethodName) prog_10_method_34_code (2 : Nat) (Option.none : Option Jvm.ClassFile.FieldType)) ∈ lw_all := lw_g (lw_at lw_m5 26 rfl) rfl
theorem q1031 : (Jvm.Cond.methodLink "ParticleBoxModel" (265 : Nat) ({ cls := "ParticleBoxModel", name := "warm", desc := "(D)D" } : Jvm.MethodName)) ∈ lw_all := lw_g (lw_at lw_m5 27 rfl) rfl
theorem q1032 : (Jvm.Cond.privateMethod ({ cls := "ParticleBoxModel", name := "warm", desc := "(D)D" } : Jvm.MethodName)) ∈ lw_tbl := lw_at lw_m5 28 rfl
theorem q1033 : (Jvm.Cond.instanceMethod ({ cls := "ParticleBoxModel", name := "warm", desc := "(D)D" } : Jvm.MethodName)) ∈ lw_all := lw_g (lw_at lw_m5 29 rfl) rfl
theorem q1034 : (Jvm.Cond.code ({ cls := "ParticleBoxModel", name := "warm", desc := "(D)D" } : Jvm.MethodName) prog_10_method_37_code (8 : Nat) (Option.some Jvm.ClassFile.FieldType.double)) ∈ lw_all := lw_g (lw_at lw_m5 30 rfl) rfl
theorem q1035 : (Jvm.Cond.methodLink "ParticleBoxModel" (274 : Nat) ({ cls := "ParticleBoxModel", name := "findTemperature", desc := "()D" } : Jvm.MethodName)) ∈ lw_all := lw_g (lw_at lw_m5 31 rfl) rfl
theorem q1036 : (Jvm.Cond.privateMethod ({ cls := "ParticleBoxModel", name := "findTemperature", desc := "()D" } : Jvm.MethodName)) ∈ lw_tbl := lw_at lw_m5 32 rfl
theorem q1037 : (Jvm.Cond.instanceMethod ({ cls := "ParticleBoxModel", name := "findTemperature", desc := "()D" } : Jvm.MethodName)) ∈ lw_all := lw_g (lw_at lw_m5 33 rfl) rfl
theorem q1038 : (Jvm.Cond.code ({ cls := "ParticleBoxModel", name := "findTemperature", desc := "()D" } : Jvm.MethodName) prog_10_method_36_code (5 : Nat) (Option.some Jvm.ClassFile.FieldType.double)) ∈ lw_all := lw_g (lw_at lw_m5 34 rfl) rfl
theorem q1039 : (Jvm.Cond.methodLink "ParticleBoxModel" (278 : Nat) ({ cls := "ParticleBoxModel", name := "root", desc := "(D)D" } : Jvm.MethodName)) ∈ lw_all := lw_g (lw_at lw_m5 35 rfl) rfl
theorem q1040 : (Jvm.Cond.static ({ cls := "ParticleBoxModel", name := "root", desc := "(D)D" } : Jvm.MethodName)) ∈ lw_all := lw_g (lw_at lw_m5 36 rfl) rfl
theorem q1041 : (Jvm.Cond.code ({ cls := "ParticleBoxModel", name := "root", desc := "(D)D" } : Jvm.MethodName) prog_10_method_7_code (5 : Nat) (Option.some Jvm.ClassFile.FieldType.double)) ∈ lw_all := lw_g (lw_at lw_m5 37 rfl) rfl
theorem q1043 : (Jvm.Cond.instanceMethod ({ cls := "ParticleBoxModel", name := "scale", desc := "(D)D" } : Jvm.MethodName)) ∈ lw_all := lw_g (lw_at lw_m5 39 rfl) rfl
theorem q1044 : (Jvm.Cond.selects "ParticleBoxModel" ({ cls := "ParticleBoxModel", name := "scale", desc := "(D)D" } : Jvm.MethodName) ({ cls := "ParticleBoxModel", name := "scale", desc := "(D)D" } : Jvm.MethodName)) ∈ lw_all := lw_g (lw_at lw_m5 40 rfl) rfl
theorem q1045 : (Jvm.Cond.code ({ cls := "ParticleBoxModel", name := "scale", desc := "(D)D" } : Jvm.MethodName) prog_10_method_38_code (3 : Nat) (Option.some Jvm.ClassFile.FieldType.double)) ∈ lw_all := lw_g (lw_at lw_m5 41 rfl) rfl
theorem q1047 : (Jvm.Cond.instanceMethod ({ cls := "ParticleBoxModel", name := "energy", desc := "(I)D" } : Jvm.MethodName)) ∈ lw_all := lw_g (lw_at lw_m5 43 rfl) rfl
theorem q1048 : (Jvm.Cond.selects "ParticleBoxModel" ({ cls := "ParticleBoxModel", name := "energy", desc := "(I)D" } : Jvm.MethodName) ({ cls := "ParticleBoxModel", name := "energy", desc := "(I)D" } : Jvm.MethodName)) ∈ lw_all := lw_g (lw_at lw_m5 44 rfl) rfl
theorem q1049 : (Jvm.Cond.code ({ cls := "ParticleBoxModel", name := "energy", desc := "(I)D" } : Jvm.MethodName) prog_10_method_39_code (12 : Nat) (Option.some Jvm.ClassFile.FieldType.double)) ∈ lw_all := lw_g (lw_at lw_m5 45 rfl) rfl
theorem q1051 : (Jvm.Cond.instanceMethod ({ cls := "ParticleBoxModel", name := "force", desc := "(II)D" } : Jvm.MethodName)) ∈ lw_all := lw_g (lw_at lw_m5 47 rfl) rfl
theorem q1052 : (Jvm.Cond.selects "ParticleBoxModel" ({ cls := "ParticleBoxModel", name := "force", desc := "(II)D" } : Jvm.MethodName) ({ cls := "ParticleBoxModel", name := "force", desc := "(II)D" } : Jvm.MethodName)) ∈ lw_all := lw_g (lw_at lw_m5 48 rfl) rfl
theorem q1053 : (Jvm.Cond.code ({ cls := "ParticleBoxModel", name := "force", desc := "(II)D" } : Jvm.MethodName) prog_10_method_40_code (3 : Nat) (Option.some Jvm.ClassFile.FieldType.double)) ∈ lw_all := lw_g (lw_at lw_m5 49 rfl) rfl
theorem q1055 : (Jvm.Cond.instanceMethod ({ cls := "ParticleBoxModel", name := "told", desc := "(II)D" } : Jvm.MethodName)) ∈ lw_all := lw_g (lw_at lw_m5 51 rfl) rfl
theorem q1056 : (Jvm.Cond.selects "ParticleBoxModel" ({ cls := "ParticleBoxModel", name := "told", desc := "(II)D" } : Jvm.MethodName) ({ cls := "ParticleBoxModel", name := "told", desc := "(II)D" } : Jvm.MethodName)) ∈ lw_all := lw_g (lw_at lw_m5 52 rfl) rfl
theorem q1057 : (Jvm.Cond.code ({ cls := "ParticleBoxModel", name := "told", desc := "(II)D" } : Jvm.MethodName) prog_10_method_41_code (3 : Nat) (Option.some Jvm.ClassFile.FieldType.double)) ∈ lw_all := lw_g (lw_at lw_m5 53 rfl) rfl
theorem q1059 : (Jvm.Cond.instanceMethod ({ cls := "ParticleBoxModel", name := "temperature", desc := "()D" } : Jvm.MethodName)) ∈ lw_all := lw_g (lw_at lw_m5 55 rfl) rfl
theorem q1060 : (Jvm.Cond.selects "ParticleBoxModel" ({ cls := "ParticleBoxModel", name := "temperature", desc := "()D" } : Jvm.MethodName) ({ cls := "ParticleBoxModel", name := "temperature", desc := "()D" } : Jvm.MethodName)) ∈ lw_all := lw_g (lw_at lw_m5 56 rfl) rfl
theorem q1061 : (Jvm.Cond.code ({ cls := "ParticleBoxModel", name := "temperature", desc := "()D" } : Jvm.MethodName) prog_10_method_42_code (1 : Nat) (Option.some Jvm.ClassFile.FieldType.double)) ∈ lw_all := lw_g (lw_at lw_m5 57 rfl) rfl
theorem q1063 : (Jvm.Cond.instanceMethod ({ cls := "ParticleBoxModel", name := "sample", desc := "()I" } : Jvm.MethodName)) ∈ lw_all := lw_g (lw_at lw_m5 59 rfl) rfl
theorem q1064 : (Jvm.Cond.selects "ParticleBoxModel" ({ cls := "ParticleBoxModel", name := "sample", desc := "()I" } : Jvm.MethodName) ({ cls := "ParticleBoxModel", name := "sample", desc := "()I" } : Jvm.MethodName)) ∈ lw_all := lw_g (lw_at lw_m5 60 rfl) rfl
theorem q1065 : (Jvm.Cond.code ({ cls := "ParticleBoxModel", name := "sample", desc := "()I" } : Jvm.MethodName) prog_10_method_44_code (7 : Nat) (Option.some Jvm.ClassFile.FieldType.int)) ∈ lw_all := lw_g (lw_at lw_m5 61 rfl) rfl
theorem q1066 : (Jvm.Cond.constantDouble "ParticleBoxModel" (281 : Nat) (4625196817309499392 : UInt64)) ∈ lw_all := lw_g (lw_at lw_m5 62 rfl) rfl
theorem q1067 : (Jvm.Cond.constantDouble "ParticleBoxModel" (283 : Nat) (4624633867356078080 : UInt64)) ∈ lw_all := lw_g (lw_at lw_m5 63 rfl) rfl
theorem q1068 : (Jvm.Cond.methodLink "ParticleBoxModel" (285 : Nat) ({ cls := "ParticleBoxModel", name := "classOf", desc := "(II)I" } : Jvm.MethodName)) ∈ lw_all := lw_g (lw_at lw_m5 64 rfl) rfl
theorem q1069 : (Jvm.Cond.static ({ cls := "ParticleBoxModel", name := "classOf", desc := "(II)I" } : Jvm.MethodName)) ∈ lw_all := lw_g (lw_at lw_m5 65 rfl) rfl
theorem q1070 : (Jvm.Cond.code ({ cls := "ParticleBoxModel", name := "classOf", desc := "(II)I" } : Jvm.MethodName) prog_10_method_43_code (2 : Nat) (Option.some Jvm.ClassFile.FieldType.int)) ∈ lw_all := lw_g (lw_at lw_m5 66 rfl) rfl
theorem q1072 : (Jvm.Cond.instanceMethod ({ cls := "ParticleBoxModel", name := "bin", desc := "(III)I" } : Jvm.MethodName)) ∈ lw_all := lw_g (lw_at lw_m5 68 rfl) rfl
theorem q1073 : (Jvm.Cond.selects "ParticleBoxModel" ({ cls := "ParticleBoxModel", name := "bin", desc := "(III)I" } : Jvm.MethodName) ({ cls := "ParticleBoxModel", name := "bin", desc := "(III)I" } : Jvm.MethodName)) ∈ lw_all := lw_g (lw_at lw_m5 69 rfl) rfl
theorem q1074 : (Jvm.Cond.code ({ cls := "ParticleBoxModel", name := "bin", desc := "(III)I" } : Jvm.MethodName) prog_10_method_45_code (4 : Nat) (Option.some Jvm.ClassFile.FieldType.int)) ∈ lw_all := lw_g (lw_at lw_m5 70 rfl) rfl
theorem q1076 : (Jvm.Cond.instanceMethod ({ cls := "ParticleBoxModel", name := "count", desc := "(I)I" } : Jvm.MethodName)) ∈ lw_all := lw_g (lw_at lw_m5 72 rfl) rfl
theorem q1077 : (Jvm.Cond.selects "ParticleBoxModel" ({ cls := "ParticleBoxModel", name := "count", desc := "(I)I" } : Jvm.MethodName) ({ cls := "ParticleBoxModel", name := "count", desc := "(I)I" } : Jvm.MethodName)) ∈ lw_all := lw_g (lw_at lw_m5 73 rfl) rfl
theorem q1078 : (Jvm.Cond.code ({ cls := "ParticleBoxModel", name := "count", desc := "(I)I" } : Jvm.MethodName) prog_10_method_46_code (2 : Nat) (Option.some Jvm.ClassFile.FieldType.int)) ∈ lw_all := lw_g (lw_at lw_m5 74 rfl) rfl
theorem in_X5 : ∀ w ∈ wsX50, w ∈ lw_all := lw_in wsX50 [788, 790, 792, 794, 796, 798, 800, 802, 804, 806, 808, 810, 812, 814, 816, 818, 820, 822, 824, 826, 828, 830, 832, 834, 836, 838, 840, 842, 844, 846, 848, 850, 852, 854, 856, 858, 860, 862, 864, 866, 868, 870, 872, 874, 876, 878, 880, 882] (by decide +kernel) (by decide +kernel)
