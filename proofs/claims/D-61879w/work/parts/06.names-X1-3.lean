set_option maxRecDepth 100000
abbrev cX1_rescale : ByteArray := prog_1_method_31_code
def yX1_rescale : MethodName := ⟨RX1, "rescale", "(D)V"⟩
theorem dX1_rescale_0 : decode cX1_rescale 0 = .ok (.aload_n 0, 1) := by decide +kernel
theorem dX1_rescale_1 : decode cX1_rescale 1 = .ok (.invokevirtual 333, 3) := by decide +kernel
theorem dX1_rescale_4 : decode cX1_rescale 4 = .ok (.dstore_n 3, 1) := by decide +kernel
theorem dX1_rescale_5 : decode cX1_rescale 5 = .ok (.dload_n 3, 1) := by decide +kernel
theorem dX1_rescale_6 : decode cX1_rescale 6 = .ok (.ldc2_w 277, 3) := by decide +kernel
theorem dX1_rescale_9 : decode cX1_rescale 9 = .ok (.dcmp .g, 1) := by decide +kernel
theorem dX1_rescale_10 : decode cX1_rescale 10 = .ok (.ifCond .ge 4, 3) := by decide +kernel
theorem dX1_rescale_13 : decode cX1_rescale 13 = .ok (.return_, 1) := by decide +kernel
theorem dX1_rescale_14 : decode cX1_rescale 14 = .ok (.dload_n 1, 1) := by decide +kernel
theorem dX1_rescale_15 : decode cX1_rescale 15 = .ok (.dload_n 3, 1) := by decide +kernel
theorem dX1_rescale_16 : decode cX1_rescale 16 = .ok (.ddiv, 1) := by decide +kernel
theorem dX1_rescale_17 : decode cX1_rescale 17 = .ok (.invokestatic 336, 3) := by decide +kernel
theorem dX1_rescale_20 : decode cX1_rescale 20 = .ok (.dstore 5, 2) := by decide +kernel
theorem dX1_rescale_22 : decode cX1_rescale 22 = .ok (.iconst 0, 1) := by decide +kernel
theorem dX1_rescale_23 : decode cX1_rescale 23 = .ok (.istore 7, 2) := by decide +kernel
theorem dX1_rescale_25 : decode cX1_rescale 25 = .ok (.iload 7, 2) := by decide +kernel
theorem dX1_rescale_27 : decode cX1_rescale 27 = .ok (.aload_n 0, 1) := by decide +kernel
theorem dX1_rescale_28 : decode cX1_rescale 28 = .ok (.getfield 102, 3) := by decide +kernel
theorem dX1_rescale_31 : decode cX1_rescale 31 = .ok (.if_icmp .ge 50, 3) := by decide +kernel
theorem dX1_rescale_34 : decode cX1_rescale 34 = .ok (.aload_n 0, 1) := by decide +kernel
theorem dX1_rescale_35 : decode cX1_rescale 35 = .ok (.getfield 29, 3) := by decide +kernel
theorem dX1_rescale_38 : decode cX1_rescale 38 = .ok (.iload 7, 2) := by decide +kernel
theorem dX1_rescale_40 : decode cX1_rescale 40 = .ok (.aaload, 1) := by decide +kernel
theorem dX1_rescale_41 : decode cX1_rescale 41 = .ok (.astore 8, 2) := by decide +kernel
theorem dX1_rescale_43 : decode cX1_rescale 43 = .ok (.aload 8, 2) := by decide +kernel
theorem dX1_rescale_45 : decode cX1_rescale 45 = .ok (.getfield 195, 3) := by decide +kernel
theorem dX1_rescale_48 : decode cX1_rescale 48 = .ok (.ifCond .ne 27, 3) := by decide +kernel
theorem dX1_rescale_51 : decode cX1_rescale 51 = .ok (.aload 8, 2) := by decide +kernel
theorem dX1_rescale_53 : decode cX1_rescale 53 = .ok (.dup, 1) := by decide +kernel
theorem dX1_rescale_54 : decode cX1_rescale 54 = .ok (.getfield 162, 3) := by decide +kernel
theorem dX1_rescale_57 : decode cX1_rescale 57 = .ok (.dload 5, 2) := by decide +kernel
theorem dX1_rescale_59 : decode cX1_rescale 59 = .ok (.dmul, 1) := by decide +kernel
theorem dX1_rescale_60 : decode cX1_rescale 60 = .ok (.putfield 162, 3) := by decide +kernel
theorem dX1_rescale_63 : decode cX1_rescale 63 = .ok (.aload 8, 2) := by decide +kernel
theorem dX1_rescale_65 : decode cX1_rescale 65 = .ok (.dup, 1) := by decide +kernel
theorem dX1_rescale_66 : decode cX1_rescale 66 = .ok (.getfield 165, 3) := by decide +kernel
theorem dX1_rescale_69 : decode cX1_rescale 69 = .ok (.dload 5, 2) := by decide +kernel
theorem dX1_rescale_71 : decode cX1_rescale 71 = .ok (.dmul, 1) := by decide +kernel
theorem dX1_rescale_72 : decode cX1_rescale 72 = .ok (.putfield 165, 3) := by decide +kernel
theorem dX1_rescale_75 : decode cX1_rescale 75 = .ok (.iinc 7 1, 3) := by decide +kernel
theorem dX1_rescale_78 : decode cX1_rescale 78 = .ok (.goto (-53), 3) := by decide +kernel
theorem dX1_rescale_81 : decode cX1_rescale 81 = .ok (.return_, 1) := by decide +kernel
abbrev cX1_root : ByteArray := prog_1_method_6_code
def yX1_root : MethodName := ⟨RX1, "root", "(D)D"⟩
theorem dX1_root_0 : decode cX1_root 0 = .ok (.dload_n 0, 1) := by decide +kernel
theorem dX1_root_1 : decode cX1_root 1 = .ok (.dconst 0, 1) := by decide +kernel
theorem dX1_root_2 : decode cX1_root 2 = .ok (.dcmp .l, 1) := by decide +kernel
theorem dX1_root_3 : decode cX1_root 3 = .ok (.ifCond .ne 5, 3) := by decide +kernel
theorem dX1_root_6 : decode cX1_root 6 = .ok (.dconst 0, 1) := by decide +kernel
theorem dX1_root_7 : decode cX1_root 7 = .ok (.dreturn, 1) := by decide +kernel
theorem dX1_root_8 : decode cX1_root 8 = .ok (.dload_n 0, 1) := by decide +kernel
theorem dX1_root_9 : decode cX1_root 9 = .ok (.dconst 1, 1) := by decide +kernel
theorem dX1_root_10 : decode cX1_root 10 = .ok (.dadd, 1) := by decide +kernel
theorem dX1_root_11 : decode cX1_root 11 = .ok (.ldc2_w 7, 3) := by decide +kernel
theorem dX1_root_14 : decode cX1_root 14 = .ok (.dmul, 1) := by decide +kernel
theorem dX1_root_15 : decode cX1_root 15 = .ok (.dstore_n 2, 1) := by decide +kernel
theorem dX1_root_16 : decode cX1_root 16 = .ok (.iconst 0, 1) := by decide +kernel
theorem dX1_root_17 : decode cX1_root 17 = .ok (.istore 4, 2) := by decide +kernel
theorem dX1_root_19 : decode cX1_root 19 = .ok (.iload 4, 2) := by decide +kernel
theorem dX1_root_21 : decode cX1_root 21 = .ok (.bipush 40, 2) := by decide +kernel
theorem dX1_root_23 : decode cX1_root 23 = .ok (.if_icmp .ge 19, 3) := by decide +kernel
theorem dX1_root_26 : decode cX1_root 26 = .ok (.dload_n 2, 1) := by decide +kernel
theorem dX1_root_27 : decode cX1_root 27 = .ok (.dload_n 0, 1) := by decide +kernel
theorem dX1_root_28 : decode cX1_root 28 = .ok (.dload_n 2, 1) := by decide +kernel
theorem dX1_root_29 : decode cX1_root 29 = .ok (.ddiv, 1) := by decide +kernel
theorem dX1_root_30 : decode cX1_root 30 = .ok (.dadd, 1) := by decide +kernel
theorem dX1_root_31 : decode cX1_root 31 = .ok (.ldc2_w 7, 3) := by decide +kernel
theorem dX1_root_34 : decode cX1_root 34 = .ok (.dmul, 1) := by decide +kernel
theorem dX1_root_35 : decode cX1_root 35 = .ok (.dstore_n 2, 1) := by decide +kernel
theorem dX1_root_36 : decode cX1_root 36 = .ok (.iinc 4 1, 3) := by decide +kernel
theorem dX1_root_39 : decode cX1_root 39 = .ok (.goto (-20), 3) := by decide +kernel
theorem dX1_root_42 : decode cX1_root 42 = .ok (.dload_n 2, 1) := by decide +kernel
theorem dX1_root_43 : decode cX1_root 43 = .ok (.dreturn, 1) := by decide +kernel
abbrev cX1_scale : ByteArray := prog_1_method_32_code
def yX1_scale : MethodName := ⟨RX1, "scale", "(D)D"⟩
theorem dX1_scale_0 : decode cX1_scale 0 = .ok (.dload_n 1, 1) := by decide +kernel
theorem dX1_scale_1 : decode cX1_scale 1 = .ok (.dconst 0, 1) := by decide +kernel
theorem dX1_scale_2 : decode cX1_scale 2 = .ok (.ldc2_w 131, 3) := by decide +kernel
theorem dX1_scale_5 : decode cX1_scale 5 = .ok (.invokestatic 133, 3) := by decide +kernel
theorem dX1_scale_8 : decode cX1_scale 8 = .ok (.invokestatic 106, 3) := by decide +kernel
theorem dX1_scale_11 : decode cX1_scale 11 = .ok (.aload_n 0, 1) := by decide +kernel
theorem dX1_scale_12 : decode cX1_scale 12 = .ok (.invokevirtual 333, 3) := by decide +kernel
theorem dX1_scale_15 : decode cX1_scale 15 = .ok (.dstore_n 3, 1) := by decide +kernel
theorem dX1_scale_16 : decode cX1_scale 16 = .ok (.aload_n 0, 1) := by decide +kernel
theorem dX1_scale_17 : decode cX1_scale 17 = .ok (.dload_n 1, 1) := by decide +kernel
theorem dX1_scale_18 : decode cX1_scale 18 = .ok (.invokevirtual 310, 3) := by decide +kernel
theorem dX1_scale_21 : decode cX1_scale 21 = .ok (.dload_n 3, 1) := by decide +kernel
theorem dX1_scale_22 : decode cX1_scale 22 = .ok (.dreturn, 1) := by decide +kernel
abbrev cX1_energy : ByteArray := prog_1_method_35_code
def yX1_energy : MethodName := ⟨RX1, "energy", "(I)D"⟩
theorem dX1_energy_0 : decode cX1_energy 0 = .ok (.iload_n 1, 1) := by decide +kernel
theorem dX1_energy_1 : decode cX1_energy 1 = .ok (.ifCond .lt 12, 3) := by decide +kernel
theorem dX1_energy_4 : decode cX1_energy 4 = .ok (.iload_n 1, 1) := by decide +kernel
theorem dX1_energy_5 : decode cX1_energy 5 = .ok (.iconst 3, 1) := by decide +kernel
theorem dX1_energy_6 : decode cX1_energy 6 = .ok (.if_icmp .ge 7, 3) := by decide +kernel
theorem dX1_energy_9 : decode cX1_energy 9 = .ok (.iconst 1, 1) := by decide +kernel
theorem dX1_energy_10 : decode cX1_energy 10 = .ok (.goto 4, 3) := by decide +kernel
theorem dX1_energy_13 : decode cX1_energy 13 = .ok (.iconst 0, 1) := by decide +kernel
theorem dX1_energy_14 : decode cX1_energy 14 = .ok (.invokestatic 106, 3) := by decide +kernel
theorem dX1_energy_17 : decode cX1_energy 17 = .ok (.iload_n 1, 1) := by decide +kernel
theorem dX1_energy_18 : decode cX1_energy 18 = .ok (.iconst 2, 1) := by decide +kernel
theorem dX1_energy_19 : decode cX1_energy 19 = .ok (.if_icmp .ge 7, 3) := by decide +kernel
theorem dX1_energy_22 : decode cX1_energy 22 = .ok (.aload_n 0, 1) := by decide +kernel
theorem dX1_energy_23 : decode cX1_energy 23 = .ok (.invokevirtual 342, 3) := by decide +kernel
theorem dX1_energy_26 : decode cX1_energy 26 = .ok (.iload_n 1, 1) := by decide +kernel
theorem dX1_energy_27 : decode cX1_energy 27 = .ok (.ifCond .ne 8, 3) := by decide +kernel
theorem dX1_energy_30 : decode cX1_energy 30 = .ok (.aload_n 0, 1) := by decide +kernel
theorem dX1_energy_31 : decode cX1_energy 31 = .ok (.invokevirtual 345, 3) := by decide +kernel
theorem dX1_energy_34 : decode cX1_energy 34 = .ok (.dreturn, 1) := by decide +kernel
theorem dX1_energy_35 : decode cX1_energy 35 = .ok (.dconst 0, 1) := by decide +kernel
theorem dX1_energy_36 : decode cX1_energy 36 = .ok (.dstore_n 2, 1) := by decide +kernel
theorem dX1_energy_37 : decode cX1_energy 37 = .ok (.iload_n 1, 1) := by decide +kernel
theorem dX1_energy_38 : decode cX1_energy 38 = .ok (.iconst 1, 1) := by decide +kernel
theorem dX1_energy_39 : decode cX1_energy 39 = .ok (.if_icmp .ne 68, 3) := by decide +kernel
theorem dX1_energy_42 : decode cX1_energy 42 = .ok (.iconst 0, 1) := by decide +kernel
theorem dX1_energy_43 : decode cX1_energy 43 = .ok (.istore 4, 2) := by decide +kernel
theorem dX1_energy_45 : decode cX1_energy 45 = .ok (.iload 4, 2) := by decide +kernel
theorem dX1_energy_47 : decode cX1_energy 47 = .ok (.aload_n 0, 1) := by decide +kernel
theorem dX1_energy_48 : decode cX1_energy 48 = .ok (.getfield 183, 3) := by decide +kernel
theorem dX1_energy_51 : decode cX1_energy 51 = .ok (.if_icmp .ge 53, 3) := by decide +kernel
theorem dX1_energy_54 : decode cX1_energy 54 = .ok (.aload_n 0, 1) := by decide +kernel
theorem dX1_energy_55 : decode cX1_energy 55 = .ok (.aload_n 0, 1) := by decide +kernel
theorem dX1_energy_56 : decode cX1_energy 56 = .ok (.getfield 35, 3) := by decide +kernel
theorem dX1_energy_59 : decode cX1_energy 59 = .ok (.iload 4, 2) := by decide +kernel
theorem dX1_energy_61 : decode cX1_energy 61 = .ok (.aaload, 1) := by decide +kernel
theorem dX1_energy_62 : decode cX1_energy 62 = .ok (.getfield 252, 3) := by decide +kernel
theorem dX1_energy_65 : decode cX1_energy 65 = .ok (.aload_n 0, 1) := by decide +kernel
theorem dX1_energy_66 : decode cX1_energy 66 = .ok (.getfield 35, 3) := by decide +kernel
theorem dX1_energy_69 : decode cX1_energy 69 = .ok (.iload 4, 2) := by decide +kernel
theorem dX1_energy_71 : decode cX1_energy 71 = .ok (.aaload, 1) := by decide +kernel
theorem dX1_energy_72 : decode cX1_energy 72 = .ok (.getfield 256, 3) := by decide +kernel
theorem dX1_energy_75 : decode cX1_energy 75 = .ok (.invokevirtual 214, 3) := by decide +kernel
theorem dX1_energy_78 : decode cX1_energy 78 = .ok (.dload_n 2, 1) := by decide +kernel
theorem dX1_energy_79 : decode cX1_energy 79 = .ok (.aload_n 0, 1) := by decide +kernel
theorem dX1_energy_80 : decode cX1_energy 80 = .ok (.getfield 35, 3) := by decide +kernel
theorem dX1_energy_83 : decode cX1_energy 83 = .ok (.iload 4, 2) := by decide +kernel
theorem dX1_energy_85 : decode cX1_energy 85 = .ok (.aaload, 1) := by decide +kernel
theorem dX1_energy_86 : decode cX1_energy 86 = .ok (.aload_n 0, 1) := by decide +kernel
theorem dX1_energy_87 : decode cX1_energy 87 = .ok (.getfield 55, 3) := by decide +kernel
theorem dX1_energy_90 : decode cX1_energy 90 = .ok (.invokevirtual 204, 3) := by decide +kernel
theorem dX1_energy_93 : decode cX1_energy 93 = .ok (.invokevirtual 348, 3) := by decide +kernel
theorem dX1_energy_96 : decode cX1_energy 96 = .ok (.dadd, 1) := by decide +kernel
theorem dX1_energy_97 : decode cX1_energy 97 = .ok (.dstore_n 2, 1) := by decide +kernel
theorem dX1_energy_98 : decode cX1_energy 98 = .ok (.iinc 4 1, 3) := by decide +kernel
theorem dX1_energy_101 : decode cX1_energy 101 = .ok (.goto (-56), 3) := by decide +kernel
theorem dX1_energy_104 : decode cX1_energy 104 = .ok (.goto 82, 3) := by decide +kernel
theorem dX1_energy_107 : decode cX1_energy 107 = .ok (.iconst 0, 1) := by decide +kernel
theorem dX1_energy_108 : decode cX1_energy 108 = .ok (.istore 4, 2) := by decide +kernel
theorem dX1_energy_110 : decode cX1_energy 110 = .ok (.iload 4, 2) := by decide +kernel
theorem dX1_energy_112 : decode cX1_energy 112 = .ok (.aload_n 0, 1) := by decide +kernel
theorem dX1_energy_113 : decode cX1_energy 113 = .ok (.getfield 102, 3) := by decide +kernel
theorem dX1_energy_116 : decode cX1_energy 116 = .ok (.if_icmp .ge 70, 3) := by decide +kernel
theorem dX1_energy_119 : decode cX1_energy 119 = .ok (.dload_n 2, 1) := by decide +kernel
theorem dX1_energy_120 : decode cX1_energy 120 = .ok (.ldc2_w 7, 3) := by decide +kernel
theorem dX1_energy_123 : decode cX1_energy 123 = .ok (.aload_n 0, 1) := by decide +kernel
theorem dX1_energy_124 : decode cX1_energy 124 = .ok (.getfield 29, 3) := by decide +kernel
theorem dX1_energy_127 : decode cX1_energy 127 = .ok (.iload 4, 2) := by decide +kernel
theorem dX1_energy_129 : decode cX1_energy 129 = .ok (.aaload, 1) := by decide +kernel
theorem dX1_energy_130 : decode cX1_energy 130 = .ok (.getfield 349, 3) := by decide +kernel
theorem dX1_energy_133 : decode cX1_energy 133 = .ok (.dmul, 1) := by decide +kernel
theorem dX1_energy_134 : decode cX1_energy 134 = .ok (.aload_n 0, 1) := by decide +kernel
theorem dX1_energy_135 : decode cX1_energy 135 = .ok (.getfield 29, 3) := by decide +kernel
theorem dX1_energy_138 : decode cX1_energy 138 = .ok (.iload 4, 2) := by decide +kernel
theorem dX1_energy_140 : decode cX1_energy 140 = .ok (.aaload, 1) := by decide +kernel
theorem dX1_energy_141 : decode cX1_energy 141 = .ok (.getfield 162, 3) := by decide +kernel
theorem dX1_energy_144 : decode cX1_energy 144 = .ok (.aload_n 0, 1) := by decide +kernel
theorem dX1_energy_145 : decode cX1_energy 145 = .ok (.getfield 29, 3) := by decide +kernel
theorem dX1_energy_148 : decode cX1_energy 148 = .ok (.iload 4, 2) := by decide +kernel
theorem dX1_energy_150 : decode cX1_energy 150 = .ok (.aaload, 1) := by decide +kernel
theorem dX1_energy_151 : decode cX1_energy 151 = .ok (.getfield 162, 3) := by decide +kernel
theorem dX1_energy_154 : decode cX1_energy 154 = .ok (.dmul, 1) := by decide +kernel
theorem dX1_energy_155 : decode cX1_energy 155 = .ok (.aload_n 0, 1) := by decide +kernel
theorem dX1_energy_156 : decode cX1_energy 156 = .ok (.getfield 29, 3) := by decide +kernel
theorem dX1_energy_159 : decode cX1_energy 159 = .ok (.iload 4, 2) := by decide +kernel
theorem dX1_energy_161 : decode cX1_energy 161 = .ok (.aaload, 1) := by decide +kernel
theorem dX1_energy_162 : decode cX1_energy 162 = .ok (.getfield 165, 3) := by decide +kernel
theorem dX1_energy_165 : decode cX1_energy 165 = .ok (.aload_n 0, 1) := by decide +kernel
theorem dX1_energy_166 : decode cX1_energy 166 = .ok (.getfield 29, 3) := by decide +kernel
theorem dX1_energy_169 : decode cX1_energy 169 = .ok (.iload 4, 2) := by decide +kernel
theorem dX1_energy_171 : decode cX1_energy 171 = .ok (.aaload, 1) := by decide +kernel
theorem dX1_energy_172 : decode cX1_energy 172 = .ok (.getfield 165, 3) := by decide +kernel
theorem dX1_energy_175 : decode cX1_energy 175 = .ok (.dmul, 1) := by decide +kernel
theorem dX1_energy_176 : decode cX1_energy 176 = .ok (.dadd, 1) := by decide +kernel
theorem dX1_energy_177 : decode cX1_energy 177 = .ok (.dmul, 1) := by decide +kernel
theorem dX1_energy_178 : decode cX1_energy 178 = .ok (.dadd, 1) := by decide +kernel
theorem dX1_energy_179 : decode cX1_energy 179 = .ok (.dstore_n 2, 1) := by decide +kernel
theorem dX1_energy_180 : decode cX1_energy 180 = .ok (.iinc 4 1, 3) := by decide +kernel
theorem dX1_energy_183 : decode cX1_energy 183 = .ok (.goto (-73), 3) := by decide +kernel
theorem dX1_energy_186 : decode cX1_energy 186 = .ok (.dload_n 2, 1) := by decide +kernel
theorem dX1_energy_187 : decode cX1_energy 187 = .ok (.dreturn, 1) := by decide +kernel
abbrev cX1_checkOverlap : ByteArray := prog_1_method_34_code
def yX1_checkOverlap : MethodName := ⟨RX1, "checkOverlap", "()V"⟩
theorem dX1_checkOverlap_0 : decode cX1_checkOverlap 0 = .ok (.iconst 0, 1) := by decide +kernel
theorem dX1_checkOverlap_1 : decode cX1_checkOverlap 1 = .ok (.istore_n 1, 1) := by decide +kernel
theorem dX1_checkOverlap_2 : decode cX1_checkOverlap 2 = .ok (.iload_n 1, 1) := by decide +kernel
theorem dX1_checkOverlap_3 : decode cX1_checkOverlap 3 = .ok (.aload_n 0, 1) := by decide +kernel
theorem dX1_checkOverlap_4 : decode cX1_checkOverlap 4 = .ok (.getfield 102, 3) := by decide +kernel
theorem dX1_checkOverlap_7 : decode cX1_checkOverlap 7 = .ok (.if_icmp .ge 65, 3) := by decide +kernel
theorem dX1_checkOverlap_10 : decode cX1_checkOverlap 10 = .ok (.iload_n 1, 1) := by decide +kernel
theorem dX1_checkOverlap_11 : decode cX1_checkOverlap 11 = .ok (.iconst 1, 1) := by decide +kernel
theorem dX1_checkOverlap_12 : decode cX1_checkOverlap 12 = .ok (.iadd, 1) := by decide +kernel
theorem dX1_checkOverlap_13 : decode cX1_checkOverlap 13 = .ok (.istore_n 2, 1) := by decide +kernel
theorem dX1_checkOverlap_14 : decode cX1_checkOverlap 14 = .ok (.iload_n 2, 1) := by decide +kernel
theorem dX1_checkOverlap_15 : decode cX1_checkOverlap 15 = .ok (.aload_n 0, 1) := by decide +kernel
theorem dX1_checkOverlap_16 : decode cX1_checkOverlap 16 = .ok (.getfield 102, 3) := by decide +kernel
theorem dX1_checkOverlap_19 : decode cX1_checkOverlap 19 = .ok (.if_icmp .ge 47, 3) := by decide +kernel
theorem dX1_checkOverlap_22 : decode cX1_checkOverlap 22 = .ok (.aload_n 0, 1) := by decide +kernel
theorem dX1_checkOverlap_23 : decode cX1_checkOverlap 23 = .ok (.aload_n 0, 1) := by decide +kernel
theorem dX1_checkOverlap_24 : decode cX1_checkOverlap 24 = .ok (.getfield 29, 3) := by decide +kernel
theorem dX1_checkOverlap_27 : decode cX1_checkOverlap 27 = .ok (.iload_n 1, 1) := by decide +kernel
theorem dX1_checkOverlap_28 : decode cX1_checkOverlap 28 = .ok (.aaload, 1) := by decide +kernel
theorem dX1_checkOverlap_29 : decode cX1_checkOverlap 29 = .ok (.aload_n 0, 1) := by decide +kernel
theorem dX1_checkOverlap_30 : decode cX1_checkOverlap 30 = .ok (.getfield 29, 3) := by decide +kernel
theorem dX1_checkOverlap_33 : decode cX1_checkOverlap 33 = .ok (.iload_n 2, 1) := by decide +kernel
theorem dX1_checkOverlap_34 : decode cX1_checkOverlap 34 = .ok (.aaload, 1) := by decide +kernel
theorem dX1_checkOverlap_35 : decode cX1_checkOverlap 35 = .ok (.invokevirtual 214, 3) := by decide +kernel
theorem dX1_checkOverlap_38 : decode cX1_checkOverlap 38 = .ok (.aload_n 0, 1) := by decide +kernel
theorem dX1_checkOverlap_39 : decode cX1_checkOverlap 39 = .ok (.getfield 55, 3) := by decide +kernel
theorem dX1_checkOverlap_42 : decode cX1_checkOverlap 42 = .ok (.invokevirtual 204, 3) := by decide +kernel
theorem dX1_checkOverlap_45 : decode cX1_checkOverlap 45 = .ok (.ldc2_w 238, 3) := by decide +kernel
theorem dX1_checkOverlap_48 : decode cX1_checkOverlap 48 = .ok (.dcmp .g, 1) := by decide +kernel
theorem dX1_checkOverlap_49 : decode cX1_checkOverlap 49 = .ok (.ifCond .ge 11, 3) := by decide +kernel
theorem dX1_checkOverlap_52 : decode cX1_checkOverlap 52 = .ok (.new 224, 3) := by decide +kernel
theorem dX1_checkOverlap_55 : decode cX1_checkOverlap 55 = .ok (.dup, 1) := by decide +kernel
theorem dX1_checkOverlap_56 : decode cX1_checkOverlap 56 = .ok (.invokespecial 226, 3) := by decide +kernel
theorem dX1_checkOverlap_59 : decode cX1_checkOverlap 59 = .ok (.athrow, 1) := by decide +kernel
theorem dX1_checkOverlap_60 : decode cX1_checkOverlap 60 = .ok (.iinc 2 1, 3) := by decide +kernel
theorem dX1_checkOverlap_63 : decode cX1_checkOverlap 63 = .ok (.goto (-49), 3) := by decide +kernel
theorem dX1_checkOverlap_66 : decode cX1_checkOverlap 66 = .ok (.iinc 1 1, 3) := by decide +kernel
theorem dX1_checkOverlap_69 : decode cX1_checkOverlap 69 = .ok (.goto (-67), 3) := by decide +kernel
theorem dX1_checkOverlap_72 : decode cX1_checkOverlap 72 = .ok (.return_, 1) := by decide +kernel
abbrev cX1_pairEnergy : ByteArray := prog_1_method_33_code
def yX1_pairEnergy : MethodName := ⟨RX1, "pairEnergy", "()D"⟩
theorem dX1_pairEnergy_0 : decode cX1_pairEnergy 0 = .ok (.dconst 0, 1) := by decide +kernel
theorem dX1_pairEnergy_1 : decode cX1_pairEnergy 1 = .ok (.dstore_n 1, 1) := by decide +kernel
theorem dX1_pairEnergy_2 : decode cX1_pairEnergy 2 = .ok (.iconst 0, 1) := by decide +kernel
theorem dX1_pairEnergy_3 : decode cX1_pairEnergy 3 = .ok (.istore_n 3, 1) := by decide +kernel
theorem dX1_pairEnergy_4 : decode cX1_pairEnergy 4 = .ok (.iload_n 3, 1) := by decide +kernel
theorem dX1_pairEnergy_5 : decode cX1_pairEnergy 5 = .ok (.aload_n 0, 1) := by decide +kernel
theorem dX1_pairEnergy_6 : decode cX1_pairEnergy 6 = .ok (.getfield 102, 3) := by decide +kernel
theorem dX1_pairEnergy_9 : decode cX1_pairEnergy 9 = .ok (.if_icmp .ge 105, 3) := by decide +kernel
theorem dX1_pairEnergy_12 : decode cX1_pairEnergy 12 = .ok (.iload_n 3, 1) := by decide +kernel
theorem dX1_pairEnergy_13 : decode cX1_pairEnergy 13 = .ok (.iconst 1, 1) := by decide +kernel
theorem dX1_pairEnergy_14 : decode cX1_pairEnergy 14 = .ok (.iadd, 1) := by decide +kernel
theorem dX1_pairEnergy_15 : decode cX1_pairEnergy 15 = .ok (.istore 4, 2) := by decide +kernel
theorem dX1_pairEnergy_17 : decode cX1_pairEnergy 17 = .ok (.iload 4, 2) := by decide +kernel
theorem dX1_pairEnergy_19 : decode cX1_pairEnergy 19 = .ok (.aload_n 0, 1) := by decide +kernel
theorem dX1_pairEnergy_20 : decode cX1_pairEnergy 20 = .ok (.getfield 102, 3) := by decide +kernel
theorem dX1_pairEnergy_23 : decode cX1_pairEnergy 23 = .ok (.if_icmp .ge 85, 3) := by decide +kernel
theorem dX1_pairEnergy_26 : decode cX1_pairEnergy 26 = .ok (.aload_n 0, 1) := by decide +kernel
theorem dX1_pairEnergy_27 : decode cX1_pairEnergy 27 = .ok (.aload_n 0, 1) := by decide +kernel
theorem dX1_pairEnergy_28 : decode cX1_pairEnergy 28 = .ok (.getfield 29, 3) := by decide +kernel
theorem dX1_pairEnergy_31 : decode cX1_pairEnergy 31 = .ok (.iload_n 3, 1) := by decide +kernel
theorem dX1_pairEnergy_32 : decode cX1_pairEnergy 32 = .ok (.aaload, 1) := by decide +kernel
theorem dX1_pairEnergy_33 : decode cX1_pairEnergy 33 = .ok (.aload_n 0, 1) := by decide +kernel
theorem dX1_pairEnergy_34 : decode cX1_pairEnergy 34 = .ok (.getfield 29, 3) := by decide +kernel
theorem dX1_pairEnergy_37 : decode cX1_pairEnergy 37 = .ok (.iload 4, 2) := by decide +kernel
theorem dX1_pairEnergy_39 : decode cX1_pairEnergy 39 = .ok (.aaload, 1) := by decide +kernel
theorem dX1_pairEnergy_40 : decode cX1_pairEnergy 40 = .ok (.invokevirtual 214, 3) := by decide +kernel
theorem dX1_pairEnergy_43 : decode cX1_pairEnergy 43 = .ok (.aload_n 0, 1) := by decide +kernel
theorem dX1_pairEnergy_44 : decode cX1_pairEnergy 44 = .ok (.getfield 55, 3) := by decide +kernel
theorem dX1_pairEnergy_47 : decode cX1_pairEnergy 47 = .ok (.invokevirtual 204, 3) := by decide +kernel
theorem dX1_pairEnergy_50 : decode cX1_pairEnergy 50 = .ok (.aload_n 0, 1) := by decide +kernel
theorem dX1_pairEnergy_51 : decode cX1_pairEnergy 51 = .ok (.getfield 96, 3) := by decide +kernel
theorem dX1_pairEnergy_54 : decode cX1_pairEnergy 54 = .ok (.aload_n 0, 1) := by decide +kernel
theorem dX1_pairEnergy_55 : decode cX1_pairEnergy 55 = .ok (.getfield 96, 3) := by decide +kernel
theorem dX1_pairEnergy_58 : decode cX1_pairEnergy 58 = .ok (.dmul, 1) := by decide +kernel
theorem dX1_pairEnergy_59 : decode cX1_pairEnergy 59 = .ok (.dcmp .g, 1) := by decide +kernel
theorem dX1_pairEnergy_60 : decode cX1_pairEnergy 60 = .ok (.ifCond .ge 42, 3) := by decide +kernel
theorem dX1_pairEnergy_63 : decode cX1_pairEnergy 63 = .ok (.dload_n 1, 1) := by decide +kernel
theorem dX1_pairEnergy_64 : decode cX1_pairEnergy 64 = .ok (.aload_n 0, 1) := by decide +kernel
theorem dX1_pairEnergy_65 : decode cX1_pairEnergy 65 = .ok (.getfield 48, 3) := by decide +kernel
theorem dX1_pairEnergy_68 : decode cX1_pairEnergy 68 = .ok (.aload_n 0, 1) := by decide +kernel
theorem dX1_pairEnergy_69 : decode cX1_pairEnergy 69 = .ok (.getfield 29, 3) := by decide +kernel
theorem dX1_pairEnergy_72 : decode cX1_pairEnergy 72 = .ok (.iload_n 3, 1) := by decide +kernel
theorem dX1_pairEnergy_73 : decode cX1_pairEnergy 73 = .ok (.aaload, 1) := by decide +kernel
theorem dX1_pairEnergy_74 : decode cX1_pairEnergy 74 = .ok (.aload_n 0, 1) := by decide +kernel
theorem dX1_pairEnergy_75 : decode cX1_pairEnergy 75 = .ok (.getfield 29, 3) := by decide +kernel
theorem dX1_pairEnergy_78 : decode cX1_pairEnergy 78 = .ok (.iload 4, 2) := by decide +kernel
theorem dX1_pairEnergy_80 : decode cX1_pairEnergy 80 = .ok (.aaload, 1) := by decide +kernel
theorem dX1_pairEnergy_81 : decode cX1_pairEnergy 81 = .ok (.aload_n 0, 1) := by decide +kernel
theorem dX1_pairEnergy_82 : decode cX1_pairEnergy 82 = .ok (.getfield 96, 3) := by decide +kernel
theorem dX1_pairEnergy_85 : decode cX1_pairEnergy 85 = .ok (.invokevirtual 244, 3) := by decide +kernel
theorem dX1_pairEnergy_88 : decode cX1_pairEnergy 88 = .ok (.aload_n 0, 1) := by decide +kernel
theorem dX1_pairEnergy_89 : decode cX1_pairEnergy 89 = .ok (.getfield 55, 3) := by decide +kernel
theorem dX1_pairEnergy_92 : decode cX1_pairEnergy 92 = .ok (.invokevirtual 204, 3) := by decide +kernel
theorem dX1_pairEnergy_95 : decode cX1_pairEnergy 95 = .ok (.invokeinterface 339 3, 5) := by decide +kernel
theorem dX1_pairEnergy_100 : decode cX1_pairEnergy 100 = .ok (.dadd, 1) := by decide +kernel
theorem dX1_pairEnergy_101 : decode cX1_pairEnergy 101 = .ok (.dstore_n 1, 1) := by decide +kernel
theorem dX1_pairEnergy_102 : decode cX1_pairEnergy 102 = .ok (.iinc 4 1, 3) := by decide +kernel
theorem dX1_pairEnergy_105 : decode cX1_pairEnergy 105 = .ok (.goto (-88), 3) := by decide +kernel
theorem dX1_pairEnergy_108 : decode cX1_pairEnergy 108 = .ok (.iinc 3 1, 3) := by decide +kernel
theorem dX1_pairEnergy_111 : decode cX1_pairEnergy 111 = .ok (.goto (-107), 3) := by decide +kernel
theorem dX1_pairEnergy_114 : decode cX1_pairEnergy 114 = .ok (.dload_n 1, 1) := by decide +kernel
theorem dX1_pairEnergy_115 : decode cX1_pairEnergy 115 = .ok (.dreturn, 1) := by decide +kernel
abbrev cX1_force : ByteArray := prog_1_method_36_code
def yX1_force : MethodName := ⟨RX1, "force", "(II)D"⟩
theorem dX1_force_0 : decode cX1_force 0 = .ok (.aload_n 0, 1) := by decide +kernel
theorem dX1_force_1 : decode cX1_force 1 = .ok (.iload_n 1, 1) := by decide +kernel
theorem dX1_force_2 : decode cX1_force 2 = .ok (.invokevirtual 158, 3) := by decide +kernel
theorem dX1_force_5 : decode cX1_force 5 = .ok (.astore_n 3, 1) := by decide +kernel
theorem dX1_force_6 : decode cX1_force 6 = .ok (.iload_n 2, 1) := by decide +kernel
theorem dX1_force_7 : decode cX1_force 7 = .ok (.ifCond .eq 8, 3) := by decide +kernel
theorem dX1_force_10 : decode cX1_force 10 = .ok (.iload_n 2, 1) := by decide +kernel
theorem dX1_force_11 : decode cX1_force 11 = .ok (.iconst 1, 1) := by decide +kernel
theorem dX1_force_12 : decode cX1_force 12 = .ok (.if_icmp .ne 7, 3) := by decide +kernel
theorem dX1_force_15 : decode cX1_force 15 = .ok (.iconst 1, 1) := by decide +kernel
theorem dX1_force_16 : decode cX1_force 16 = .ok (.goto 4, 3) := by decide +kernel
theorem dX1_force_19 : decode cX1_force 19 = .ok (.iconst 0, 1) := by decide +kernel
theorem dX1_force_20 : decode cX1_force 20 = .ok (.invokestatic 106, 3) := by decide +kernel
theorem dX1_force_23 : decode cX1_force 23 = .ok (.aload_n 0, 1) := by decide +kernel
theorem dX1_force_24 : decode cX1_force 24 = .ok (.invokevirtual 342, 3) := by decide +kernel
theorem dX1_force_27 : decode cX1_force 27 = .ok (.bipush 10, 2) := by decide +kernel
theorem dX1_force_29 : decode cX1_force 29 = .ok (.newarray .int, 2) := by decide +kernel
theorem dX1_force_31 : decode cX1_force 31 = .ok (.astore 4, 2) := by decide +kernel
theorem dX1_force_33 : decode cX1_force 33 = .ok (.iconst 0, 1) := by decide +kernel
theorem dX1_force_34 : decode cX1_force 34 = .ok (.istore 5, 2) := by decide +kernel
theorem dX1_force_36 : decode cX1_force 36 = .ok (.iconst 0, 1) := by decide +kernel
theorem dX1_force_37 : decode cX1_force 37 = .ok (.istore 6, 2) := by decide +kernel
theorem dX1_force_39 : decode cX1_force 39 = .ok (.iload 6, 2) := by decide +kernel
theorem dX1_force_41 : decode cX1_force 41 = .ok (.aload_n 0, 1) := by decide +kernel
theorem dX1_force_42 : decode cX1_force 42 = .ok (.getfield 102, 3) := by decide +kernel
theorem dX1_force_45 : decode cX1_force 45 = .ok (.if_icmp .ge 25, 3) := by decide +kernel
theorem dX1_force_48 : decode cX1_force 48 = .ok (.iload 6, 2) := by decide +kernel
theorem dX1_force_50 : decode cX1_force 50 = .ok (.iload_n 1, 1) := by decide +kernel
theorem dX1_force_51 : decode cX1_force 51 = .ok (.if_icmp .eq 13, 3) := by decide +kernel
theorem dX1_force_54 : decode cX1_force 54 = .ok (.aload 4, 2) := by decide +kernel
theorem dX1_force_56 : decode cX1_force 56 = .ok (.iload 5, 2) := by decide +kernel
theorem dX1_force_58 : decode cX1_force 58 = .ok (.iinc 5 1, 3) := by decide +kernel
theorem dX1_force_61 : decode cX1_force 61 = .ok (.iload 6, 2) := by decide +kernel
theorem dX1_force_63 : decode cX1_force 63 = .ok (.iastore, 1) := by decide +kernel
theorem dX1_force_64 : decode cX1_force 64 = .ok (.iinc 6 1, 3) := by decide +kernel
theorem dX1_force_67 : decode cX1_force 67 = .ok (.goto (-28), 3) := by decide +kernel
theorem dX1_force_70 : decode cX1_force 70 = .ok (.aload_n 0, 1) := by decide +kernel
theorem dX1_force_71 : decode cX1_force 71 = .ok (.aload_n 3, 1) := by decide +kernel
theorem dX1_force_72 : decode cX1_force 72 = .ok (.aload 4, 2) := by decide +kernel
theorem dX1_force_74 : decode cX1_force 74 = .ok (.iload 5, 2) := by decide +kernel
theorem dX1_force_76 : decode cX1_force 76 = .ok (.invokevirtual 262, 3) := by decide +kernel
theorem dX1_force_79 : decode cX1_force 79 = .ok (.iload_n 2, 1) := by decide +kernel
theorem dX1_force_80 : decode cX1_force 80 = .ok (.ifCond .ne 10, 3) := by decide +kernel
theorem dX1_force_83 : decode cX1_force 83 = .ok (.aload_n 3, 1) := by decide +kernel
theorem dX1_force_84 : decode cX1_force 84 = .ok (.getfield 232, 3) := by decide +kernel
theorem dX1_force_87 : decode cX1_force 87 = .ok (.goto 7, 3) := by decide +kernel
theorem dX1_force_90 : decode cX1_force 90 = .ok (.aload_n 3, 1) := by decide +kernel
theorem dX1_force_91 : decode cX1_force 91 = .ok (.getfield 235, 3) := by decide +kernel
theorem dX1_force_94 : decode cX1_force 94 = .ok (.dreturn, 1) := by decide +kernel
abbrev cX1_told : ByteArray := prog_1_method_37_code
def yX1_told : MethodName := ⟨RX1, "told", "(II)D"⟩
theorem dX1_told_0 : decode cX1_told 0 = .ok (.aload_n 0, 1) := by decide +kernel
theorem dX1_told_1 : decode cX1_told 1 = .ok (.iload_n 1, 1) := by decide +kernel
theorem dX1_told_2 : decode cX1_told 2 = .ok (.invokevirtual 158, 3) := by decide +kernel
theorem dX1_told_5 : decode cX1_told 5 = .ok (.astore_n 3, 1) := by decide +kernel
theorem dX1_told_6 : decode cX1_told 6 = .ok (.iload_n 2, 1) := by decide +kernel
theorem dX1_told_7 : decode cX1_told 7 = .ok (.ifCond .lt 12, 3) := by decide +kernel
theorem dX1_told_10 : decode cX1_told 10 = .ok (.iload_n 2, 1) := by decide +kernel
theorem dX1_told_11 : decode cX1_told 11 = .ok (.iconst 5, 1) := by decide +kernel
theorem dX1_told_12 : decode cX1_told 12 = .ok (.if_icmp .ge 7, 3) := by decide +kernel
theorem dX1_told_15 : decode cX1_told 15 = .ok (.iconst 1, 1) := by decide +kernel
theorem dX1_told_16 : decode cX1_told 16 = .ok (.goto 4, 3) := by decide +kernel
theorem dX1_told_19 : decode cX1_told 19 = .ok (.iconst 0, 1) := by decide +kernel
theorem dX1_told_20 : decode cX1_told 20 = .ok (.invokestatic 106, 3) := by decide +kernel
theorem dX1_told_23 : decode cX1_told 23 = .ok (.iload_n 2, 1) := by decide +kernel
theorem dX1_told_24 : decode cX1_told 24 = .ok (.tableswitch 52 0 3 #[32, 37, 42, 47], 32) := by decide +kernel
theorem dX1_told_56 : decode cX1_told 56 = .ok (.aload_n 3, 1) := by decide +kernel
theorem dX1_told_57 : decode cX1_told 57 = .ok (.getfield 114, 3) := by decide +kernel
theorem dX1_told_60 : decode cX1_told 60 = .ok (.dreturn, 1) := by decide +kernel
theorem dX1_told_61 : decode cX1_told 61 = .ok (.aload_n 3, 1) := by decide +kernel
theorem dX1_told_62 : decode cX1_told 62 = .ok (.getfield 123, 3) := by decide +kernel
theorem dX1_told_65 : decode cX1_told 65 = .ok (.dreturn, 1) := by decide +kernel
theorem dX1_told_66 : decode cX1_told 66 = .ok (.aload_n 3, 1) := by decide +kernel
theorem dX1_told_67 : decode cX1_told 67 = .ok (.getfield 162, 3) := by decide +kernel
theorem dX1_told_70 : decode cX1_told 70 = .ok (.dreturn, 1) := by decide +kernel
theorem dX1_told_71 : decode cX1_told 71 = .ok (.aload_n 3, 1) := by decide +kernel
theorem dX1_told_72 : decode cX1_told 72 = .ok (.getfield 165, 3) := by decide +kernel
theorem dX1_told_75 : decode cX1_told 75 = .ok (.dreturn, 1) := by decide +kernel
theorem dX1_told_76 : decode cX1_told 76 = .ok (.aload_n 3, 1) := by decide +kernel
theorem dX1_told_77 : decode cX1_told 77 = .ok (.getfield 349, 3) := by decide +kernel
theorem dX1_told_80 : decode cX1_told 80 = .ok (.dreturn, 1) := by decide +kernel
abbrev cX1_bin : ByteArray := prog_1_method_41_code
def yX1_bin : MethodName := ⟨RX1, "bin", "(III)I"⟩
theorem dX1_bin_0 : decode cX1_bin 0 = .ok (.iload_n 1, 1) := by decide +kernel
theorem dX1_bin_1 : decode cX1_bin 1 = .ok (.ifCond .lt 31, 3) := by decide +kernel
theorem dX1_bin_4 : decode cX1_bin 4 = .ok (.iload_n 1, 1) := by decide +kernel
theorem dX1_bin_5 : decode cX1_bin 5 = .ok (.iconst 3, 1) := by decide +kernel
theorem dX1_bin_6 : decode cX1_bin 6 = .ok (.if_icmp .ge 26, 3) := by decide +kernel
theorem dX1_bin_9 : decode cX1_bin 9 = .ok (.iload_n 2, 1) := by decide +kernel
theorem dX1_bin_10 : decode cX1_bin 10 = .ok (.ifCond .lt 22, 3) := by decide +kernel
theorem dX1_bin_13 : decode cX1_bin 13 = .ok (.iload_n 2, 1) := by decide +kernel
theorem dX1_bin_14 : decode cX1_bin 14 = .ok (.iconst 3, 1) := by decide +kernel
theorem dX1_bin_15 : decode cX1_bin 15 = .ok (.if_icmp .ge 17, 3) := by decide +kernel
theorem dX1_bin_18 : decode cX1_bin 18 = .ok (.iload_n 3, 1) := by decide +kernel
theorem dX1_bin_19 : decode cX1_bin 19 = .ok (.ifCond .lt 13, 3) := by decide +kernel
theorem dX1_bin_22 : decode cX1_bin 22 = .ok (.iload_n 3, 1) := by decide +kernel
theorem dX1_bin_23 : decode cX1_bin 23 = .ok (.bipush 16, 2) := by decide +kernel
theorem dX1_bin_25 : decode cX1_bin 25 = .ok (.if_icmp .ge 7, 3) := by decide +kernel
theorem dX1_bin_28 : decode cX1_bin 28 = .ok (.iconst 1, 1) := by decide +kernel
theorem dX1_bin_29 : decode cX1_bin 29 = .ok (.goto 4, 3) := by decide +kernel
theorem dX1_bin_32 : decode cX1_bin 32 = .ok (.iconst 0, 1) := by decide +kernel
theorem dX1_bin_33 : decode cX1_bin 33 = .ok (.invokestatic 106, 3) := by decide +kernel
theorem dX1_bin_36 : decode cX1_bin 36 = .ok (.aload_n 0, 1) := by decide +kernel
theorem dX1_bin_37 : decode cX1_bin 37 = .ok (.getfield 76, 3) := by decide +kernel
theorem dX1_bin_40 : decode cX1_bin 40 = .ok (.iload_n 1, 1) := by decide +kernel
theorem dX1_bin_41 : decode cX1_bin 41 = .ok (.iload_n 2, 1) := by decide +kernel
theorem dX1_bin_42 : decode cX1_bin 42 = .ok (.invokestatic 82, 3) := by decide +kernel
theorem dX1_bin_45 : decode cX1_bin 45 = .ok (.iconst 3, 1) := by decide +kernel
theorem dX1_bin_46 : decode cX1_bin 46 = .ok (.imul, 1) := by decide +kernel
theorem dX1_bin_47 : decode cX1_bin 47 = .ok (.iload_n 1, 1) := by decide +kernel
theorem dX1_bin_48 : decode cX1_bin 48 = .ok (.iload_n 2, 1) := by decide +kernel
theorem dX1_bin_49 : decode cX1_bin 49 = .ok (.invokestatic 88, 3) := by decide +kernel
theorem dX1_bin_52 : decode cX1_bin 52 = .ok (.iadd, 1) := by decide +kernel
theorem dX1_bin_53 : decode cX1_bin 53 = .ok (.aaload, 1) := by decide +kernel
theorem dX1_bin_54 : decode cX1_bin 54 = .ok (.iload_n 3, 1) := by decide +kernel
theorem dX1_bin_55 : decode cX1_bin 55 = .ok (.iaload, 1) := by decide +kernel
theorem dX1_bin_56 : decode cX1_bin 56 = .ok (.ireturn, 1) := by decide +kernel
theorem q45 : (Jvm.Cond.initialized "ParticleBox") ∈ lw_all := lw_g (lw_at lw_m1 1 rfl) rfl
theorem q62 : (Jvm.Cond.instantiable "ParticleBox" (25 : Nat)) ∈ lw_all := lw_g (lw_at lw_m1 18 rfl) rfl
theorem q64 : (Jvm.Cond.instanceMethod ({ cls := "ParticleBox", name := "<init>", desc := "(I)V" } : Jvm.MethodName)) ∈ lw_all := lw_g (lw_at lw_m1 20 rfl) rfl
theorem q65 : (Jvm.Cond.code ({ cls := "ParticleBox", name := "<init>", desc := "(I)V" } : Jvm.MethodName) prog_1_method_1_code (2 : Nat) (Option.none : Option Jvm.ClassFile.FieldType)) ∈ lw_all := lw_g (lw_at lw_m1 21 rfl) rfl
theorem q66 : (Jvm.Cond.methodLink "ParticleBox" (1 : Nat) ({ cls := "java/lang/Object", name := "<init>", desc := "()V" } : Jvm.MethodName)) ∈ lw_all := lw_g (lw_at lw_m1 22 rfl) rfl
theorem q69 : (Jvm.Cond.constantDouble "ParticleBox" (7 : Nat) (4602678819172646912 : UInt64)) ∈ lw_all := lw_g (lw_at lw_m1 25 rfl) rfl
theorem q70 : (Jvm.Cond.constantDouble "ParticleBox" (15 : Nat) (13830554455654793216 : UInt64)) ∈ lw_all := lw_g (lw_at lw_m1 26 rfl) rfl
theorem q71 : (Jvm.Cond.classLink "ParticleBox" (20 : Nat) "ParticleBox$Sort") ∈ lw_all := lw_g (lw_at lw_m1 27 rfl) rfl
theorem q74 : (Jvm.Cond.methodLinkNest "ParticleBox" (22 : Nat) ({ cls := "ParticleBox$Sort", name := "<init>", desc := "()V" } : Jvm.MethodName) "ParticleBox") ∈ lw_tbl := lw_at lw_m1 30 rfl
theorem q80 : (Jvm.Cond.fieldLink "ParticleBox" (174 : Nat) "ParticleBox$Sort" "width" "D") ∈ lw_all := lw_g (lw_at lw_m1 36 rfl) rfl
theorem q83 : (Jvm.Cond.fieldLink "ParticleBox" (177 : Nat) "ParticleBox$Sort" "depth" "D") ∈ lw_all := lw_g (lw_at lw_m1 39 rfl) rfl
theorem q85 : (Jvm.Cond.fieldLink "ParticleBox" (180 : Nat) "ParticleBox$Sort" "charge" "D") ∈ lw_all := lw_g (lw_at lw_m1 41 rfl) rfl
theorem q93 : (Jvm.Cond.classLink "ParticleBox" (27 : Nat) "ParticleBox$Atom") ∈ lw_all := lw_g (lw_at lw_m1 49 rfl) rfl
theorem q95 : (Jvm.Cond.classLink "ParticleBox" (33 : Nat) "ParticleBox$Bond") ∈ lw_all := lw_g (lw_at lw_m1 51 rfl) rfl
theorem q97 : (Jvm.Cond.classLink "ParticleBox" (39 : Nat) "ParticleBox$Rod") ∈ lw_all := lw_g (lw_at lw_m1 53 rfl) rfl
theorem q99 : (Jvm.Cond.classLink "ParticleBox" (45 : Nat) "ParticleBox$Neighbourhood") ∈ lw_all := lw_g (lw_at lw_m1 55 rfl) rfl
theorem q101 : (Jvm.Cond.methodLinkNest "ParticleBox" (47 : Nat) ({ cls := "ParticleBox$Neighbourhood", name := "<init>", desc := "()V" } : Jvm.MethodName) "ParticleBox") ∈ lw_tbl := lw_at lw_m1 57 rfl
theorem q115 : (Jvm.Cond.classLink "ParticleBox" (52 : Nat) "ParticleBox$Way") ∈ lw_all := lw_g (lw_at lw_m1 71 rfl) rfl
theorem q117 : (Jvm.Cond.methodLinkNest "ParticleBox" (54 : Nat) ({ cls := "ParticleBox$Way", name := "<init>", desc := "()V" } : Jvm.MethodName) "ParticleBox") ∈ lw_tbl := lw_at lw_m1 73 rfl
theorem q122 : (Jvm.Cond.fieldLink "ParticleBox" (120 : Nat) "ParticleBox$Way" "a" "D") ∈ lw_all := lw_g (lw_at lw_m1 78 rfl) rfl
theorem q124 : (Jvm.Cond.fieldLink "ParticleBox" (126 : Nat) "ParticleBox$Way" "b" "D") ∈ lw_all := lw_g (lw_at lw_m1 80 rfl) rfl
theorem q130 : (Jvm.Cond.classLink "ParticleBox" (62 : Nat) "[[I") ∈ lw_all := lw_g (lw_at lw_m1 86 rfl) rfl
theorem q132 : (Jvm.Cond.classLink "ParticleBox" (71 : Nat) "[[D") ∈ lw_all := lw_g (lw_at lw_m1 88 rfl) rfl
theorem q134 : (Jvm.Cond.methodLink "ParticleBox" (82 : Nat) ({ cls := "java/lang/Math", name := "min", desc := "(II)I" } : Jvm.MethodName)) ∈ lw_all := lw_g (lw_at lw_m1 90 rfl) rfl
theorem q137 : (Jvm.Cond.methodLink "ParticleBox" (88 : Nat) ({ cls := "java/lang/Math", name := "max", desc := "(II)I" } : Jvm.MethodName)) ∈ lw_all := lw_g (lw_at lw_m1 93 rfl) rfl
theorem q140 : (Jvm.Cond.constantDouble "ParticleBox" (94 : Nat) (4598175219545276416 : UInt64)) ∈ lw_all := lw_g (lw_at lw_m1 96 rfl) rfl
theorem q141 : (Jvm.Cond.fieldLink "ParticleBox" (91 : Nat) "ParticleBox" "side" "D") ∈ lw_all := lw_g (lw_at lw_m1 97 rfl) rfl
theorem q142 : (Jvm.Cond.fieldLink "ParticleBox" (96 : Nat) "ParticleBox" "cut" "D") ∈ lw_all := lw_g (lw_at lw_m1 98 rfl) rfl
theorem q143 : (Jvm.Cond.fieldLink "ParticleBox" (9 : Nat) "ParticleBox" "skin" "D") ∈ lw_all := lw_g (lw_at lw_m1 99 rfl) rfl
theorem q144 : (Jvm.Cond.fieldLink "ParticleBox" (17 : Nat) "ParticleBox" "warmth" "D") ∈ lw_all := lw_g (lw_at lw_m1 100 rfl) rfl
theorem q145 : (Jvm.Cond.fieldLink "ParticleBox" (23 : Nat) "ParticleBox" "sorts" "[LParticleBox$Sort;") ∈ lw_all := lw_g (lw_at lw_m1 101 rfl) rfl
theorem q146 : (Jvm.Cond.fieldLink "ParticleBox" (29 : Nat) "ParticleBox" "atoms" "[LParticleBox$Atom;") ∈ lw_all := lw_g (lw_at lw_m1 102 rfl) rfl
theorem q147 : (Jvm.Cond.fieldLink "ParticleBox" (35 : Nat) "ParticleBox" "bonds" "[LParticleBox$Bond;") ∈ lw_all := lw_g (lw_at lw_m1 103 rfl) rfl
theorem q148 : (Jvm.Cond.fieldLink "ParticleBox" (41 : Nat) "ParticleBox" "rods" "[LParticleBox$Rod;") ∈ lw_all := lw_g (lw_at lw_m1 104 rfl) rfl
theorem q149 : (Jvm.Cond.fieldLink "ParticleBox" (102 : Nat) "ParticleBox" "atomCount" "I") ∈ lw_all := lw_g (lw_at lw_m1 105 rfl) rfl
theorem q150 : (Jvm.Cond.fieldLink "ParticleBox" (183 : Nat) "ParticleBox" "bondCount" "I") ∈ lw_all := lw_g (lw_at lw_m1 106 rfl) rfl
theorem q151 : (Jvm.Cond.fieldLink "ParticleBox" (189 : Nat) "ParticleBox" "rodCount" "I") ∈ lw_all := lw_g (lw_at lw_m1 107 rfl) rfl
theorem q152 : (Jvm.Cond.fieldLink "ParticleBox" (48 : Nat) "ParticleBox" "near" "LParticleBox$Neighbourhood;") ∈ lw_all := lw_g (lw_at lw_m1 108 rfl) rfl
theorem q153 : (Jvm.Cond.fieldLink "ParticleBox" (55 : Nat) "ParticleBox" "way" "LParticleBox$Way;") ∈ lw_all := lw_g (lw_at lw_m1 109 rfl) rfl
theorem q154 : (Jvm.Cond.fieldLink "ParticleBox" (59 : Nat) "ParticleBox" "before" "LParticleBox$Way;") ∈ lw_all := lw_g (lw_at lw_m1 110 rfl) rfl
theorem q155 : (Jvm.Cond.fieldLink "ParticleBox" (64 : Nat) "ParticleBox" "neighbours" "[[I") ∈ lw_all := lw_g (lw_at lw_m1 111 rfl) rfl
theorem q156 : (Jvm.Cond.fieldLink "ParticleBox" (67 : Nat) "ParticleBox" "neighbourCount" "[I") ∈ lw_all := lw_g (lw_at lw_m1 112 rfl) rfl
theorem q157 : (Jvm.Cond.fieldLink "ParticleBox" (154 : Nat) "ParticleBox" "listed" "Z") ∈ lw_all := lw_g (lw_at lw_m1 113 rfl) rfl
theorem q158 : (Jvm.Cond.fieldLink "ParticleBox" (73 : Nat) "ParticleBox" "saved" "[[D") ∈ lw_all := lw_g (lw_at lw_m1 114 rfl) rfl
theorem q159 : (Jvm.Cond.fieldLink "ParticleBox" (76 : Nat) "ParticleBox" "histogram" "[[I") ∈ lw_all := lw_g (lw_at lw_m1 115 rfl) rfl
theorem q160 : (Jvm.Cond.fieldLink "ParticleBox" (327 : Nat) "ParticleBox" "steps" "I") ∈ lw_all := lw_g (lw_at lw_m1 116 rfl) rfl
theorem q161 : (Jvm.Cond.fieldLink "ParticleBox" (218 : Nat) "ParticleBox" "lists" "I") ∈ lw_all := lw_g (lw_at lw_m1 117 rfl) rfl
theorem q162 : (Jvm.Cond.fieldLink "ParticleBox" (318 : Nat) "ParticleBox" "rounds" "I") ∈ lw_all := lw_g (lw_at lw_m1 118 rfl) rfl
theorem q163 : (Jvm.Cond.fieldLink "ParticleBox" (362 : Nat) "ParticleBox" "samples" "I") ∈ lw_all := lw_g (lw_at lw_m1 119 rfl) rfl
theorem q164 : (Jvm.Cond.fieldLink "ParticleBox" (79 : Nat) "ParticleBox" "failures" "[I") ∈ lw_all := lw_g (lw_at lw_m1 120 rfl) rfl
theorem q165 : (Jvm.Cond.fieldLink "ParticleBox" (221 : Nat) "ParticleBox" "failing" "I") ∈ lw_all := lw_g (lw_at lw_m1 121 rfl) rfl
theorem q166 : (Jvm.Cond.laysFinal "ParticleBox" "ParticleBox" "side" "D") ∈ lw_all := lw_g (lw_at lw_m1 122 rfl) rfl
theorem q167 : (Jvm.Cond.soleField "ParticleBox" "side") ∈ lw_all := lw_g (lw_at lw_m1 123 rfl) rfl
theorem q168 : (Jvm.Cond.lays "ParticleBox" "ParticleBox" "cut" "D") ∈ lw_all := lw_g (lw_at lw_m1 124 rfl) rfl
theorem q169 : (Jvm.Cond.soleField "ParticleBox" "cut") ∈ lw_all := lw_g (lw_at lw_m1 125 rfl) rfl
theorem q170 : (Jvm.Cond.lays "ParticleBox" "ParticleBox" "skin" "D") ∈ lw_all := lw_g (lw_at lw_m1 126 rfl) rfl
theorem q171 : (Jvm.Cond.soleField "ParticleBox" "skin") ∈ lw_all := lw_g (lw_at lw_m1 127 rfl) rfl
theorem q172 : (Jvm.Cond.lays "ParticleBox" "ParticleBox" "warmth" "D") ∈ lw_all := lw_g (lw_at lw_m1 128 rfl) rfl
theorem q173 : (Jvm.Cond.soleField "ParticleBox" "warmth") ∈ lw_all := lw_g (lw_at lw_m1 129 rfl) rfl
theorem q174 : (Jvm.Cond.laysFinal "ParticleBox" "ParticleBox" "sorts" "[LParticleBox$Sort;") ∈ lw_all := lw_g (lw_at lw_m1 130 rfl) rfl
theorem q175 : (Jvm.Cond.soleField "ParticleBox" "sorts") ∈ lw_all := lw_g (lw_at lw_m1 131 rfl) rfl
theorem q176 : (Jvm.Cond.laysFinal "ParticleBox" "ParticleBox" "atoms" "[LParticleBox$Atom;") ∈ lw_all := lw_g (lw_at lw_m1 132 rfl) rfl
theorem q177 : (Jvm.Cond.soleField "ParticleBox" "atoms") ∈ lw_all := lw_g (lw_at lw_m1 133 rfl) rfl
theorem q178 : (Jvm.Cond.laysFinal "ParticleBox" "ParticleBox" "bonds" "[LParticleBox$Bond;") ∈ lw_all := lw_g (lw_at lw_m1 134 rfl) rfl
theorem q179 : (Jvm.Cond.soleField "ParticleBox" "bonds") ∈ lw_all := lw_g (lw_at lw_m1 135 rfl) rfl
theorem q180 : (Jvm.Cond.laysFinal "ParticleBox" "ParticleBox" "rods" "[LParticleBox$Rod;") ∈ lw_all := lw_g (lw_at lw_m1 136 rfl) rfl
theorem q181 : (Jvm.Cond.soleField "ParticleBox" "rods") ∈ lw_all := lw_g (lw_at lw_m1 137 rfl) rfl
theorem q182 : (Jvm.Cond.lays "ParticleBox" "ParticleBox" "atomCount" "I") ∈ lw_all := lw_g (lw_at lw_m1 138 rfl) rfl
theorem q183 : (Jvm.Cond.soleField "ParticleBox" "atomCount") ∈ lw_all := lw_g (lw_at lw_m1 139 rfl) rfl
theorem q184 : (Jvm.Cond.lays "ParticleBox" "ParticleBox" "bondCount" "I") ∈ lw_all := lw_g (lw_at lw_m1 140 rfl) rfl
theorem q185 : (Jvm.Cond.soleField "ParticleBox" "bondCount") ∈ lw_all := lw_g (lw_at lw_m1 141 rfl) rfl
theorem q186 : (Jvm.Cond.lays "ParticleBox" "ParticleBox" "rodCount" "I") ∈ lw_all := lw_g (lw_at lw_m1 142 rfl) rfl
theorem q187 : (Jvm.Cond.soleField "ParticleBox" "rodCount") ∈ lw_all := lw_g (lw_at lw_m1 143 rfl) rfl
theorem q188 : (Jvm.Cond.laysFinal "ParticleBox" "ParticleBox" "near" "LParticleBox$Neighbourhood;") ∈ lw_all := lw_g (lw_at lw_m1 144 rfl) rfl
theorem q189 : (Jvm.Cond.soleField "ParticleBox" "near") ∈ lw_all := lw_g (lw_at lw_m1 145 rfl) rfl
theorem q190 : (Jvm.Cond.laysFinal "ParticleBox" "ParticleBox" "way" "LParticleBox$Way;") ∈ lw_all := lw_g (lw_at lw_m1 146 rfl) rfl
theorem q191 : (Jvm.Cond.soleField "ParticleBox" "way") ∈ lw_all := lw_g (lw_at lw_m1 147 rfl) rfl
theorem q192 : (Jvm.Cond.laysFinal "ParticleBox" "ParticleBox" "before" "LParticleBox$Way;") ∈ lw_all := lw_g (lw_at lw_m1 148 rfl) rfl
theorem q193 : (Jvm.Cond.soleField "ParticleBox" "before") ∈ lw_all := lw_g (lw_at lw_m1 149 rfl) rfl
theorem q194 : (Jvm.Cond.laysFinal "ParticleBox" "ParticleBox" "neighbours" "[[I") ∈ lw_all := lw_g (lw_at lw_m1 150 rfl) rfl
theorem q195 : (Jvm.Cond.soleField "ParticleBox" "neighbours") ∈ lw_all := lw_g (lw_at lw_m1 151 rfl) rfl
theorem q196 : (Jvm.Cond.laysFinal "ParticleBox" "ParticleBox" "neighbourCount" "[I") ∈ lw_all := lw_g (lw_at lw_m1 152 rfl) rfl
theorem q197 : (Jvm.Cond.soleField "ParticleBox" "neighbourCount") ∈ lw_all := lw_g (lw_at lw_m1 153 rfl) rfl
theorem q198 : (Jvm.Cond.lays "ParticleBox" "ParticleBox" "listed" "Z") ∈ lw_all := lw_g (lw_at lw_m1 154 rfl) rfl
theorem q199 : (Jvm.Cond.soleField "ParticleBox" "listed") ∈ lw_all := lw_g (lw_at lw_m1 155 rfl) rfl
theorem q200 : (Jvm.Cond.laysFinal "ParticleBox" "ParticleBox" "saved" "[[D") ∈ lw_all := lw_g (lw_at lw_m1 156 rfl) rfl
theorem q201 : (Jvm.Cond.soleField "ParticleBox" "saved") ∈ lw_all := lw_g (lw_at lw_m1 157 rfl) rfl
theorem q202 : (Jvm.Cond.laysFinal "ParticleBox" "ParticleBox" "histogram" "[[I") ∈ lw_all := lw_g (lw_at lw_m1 158 rfl) rfl
theorem q203 : (Jvm.Cond.soleField "ParticleBox" "histogram") ∈ lw_all := lw_g (lw_at lw_m1 159 rfl) rfl
theorem q204 : (Jvm.Cond.lays "ParticleBox" "ParticleBox" "steps" "I") ∈ lw_all := lw_g (lw_at lw_m1 160 rfl) rfl
theorem q205 : (Jvm.Cond.soleField "ParticleBox" "steps") ∈ lw_all := lw_g (lw_at lw_m1 161 rfl) rfl
theorem q206 : (Jvm.Cond.lays "ParticleBox" "ParticleBox" "lists" "I") ∈ lw_all := lw_g (lw_at lw_m1 162 rfl) rfl
theorem q207 : (Jvm.Cond.soleField "ParticleBox" "lists") ∈ lw_all := lw_g (lw_at lw_m1 163 rfl) rfl
theorem q208 : (Jvm.Cond.lays "ParticleBox" "ParticleBox" "rounds" "I") ∈ lw_all := lw_g (lw_at lw_m1 164 rfl) rfl
theorem q209 : (Jvm.Cond.soleField "ParticleBox" "rounds") ∈ lw_all := lw_g (lw_at lw_m1 165 rfl) rfl
theorem q210 : (Jvm.Cond.lays "ParticleBox" "ParticleBox" "samples" "I") ∈ lw_all := lw_g (lw_at lw_m1 166 rfl) rfl
theorem q211 : (Jvm.Cond.soleField "ParticleBox" "samples") ∈ lw_all := lw_g (lw_at lw_m1 167 rfl) rfl
theorem q212 : (Jvm.Cond.laysFinal "ParticleBox" "ParticleBox" "failures" "[I") ∈ lw_all := lw_g (lw_at lw_m1 168 rfl) rfl
theorem q213 : (Jvm.Cond.soleField "ParticleBox" "failures") ∈ lw_all := lw_g (lw_at lw_m1 169 rfl) rfl
theorem q214 : (Jvm.Cond.lays "ParticleBox" "ParticleBox" "failing" "I") ∈ lw_all := lw_g (lw_at lw_m1 170 rfl) rfl
theorem q215 : (Jvm.Cond.soleField "ParticleBox" "failing") ∈ lw_all := lw_g (lw_at lw_m1 171 rfl) rfl
theorem q216 : (Jvm.Cond.superclass "ParticleBox" "java/lang/Object") ∈ lw_all := lw_g (lw_at lw_m1 172 rfl) rfl
theorem q220 : (Jvm.Cond.instanceMethod ({ cls := "ParticleBox", name := "temperature", desc := "()D" } : Jvm.MethodName)) ∈ lw_all := lw_g (lw_at lw_m1 176 rfl) rfl
theorem q221 : (Jvm.Cond.selects "ParticleBox" ({ cls := "ParticleBox", name := "temperature", desc := "()D" } : Jvm.MethodName) ({ cls := "ParticleBox", name := "temperature", desc := "()D" } : Jvm.MethodName)) ∈ lw_all := lw_g (lw_at lw_m1 177 rfl) rfl
theorem q222 : (Jvm.Cond.code ({ cls := "ParticleBox", name := "temperature", desc := "()D" } : Jvm.MethodName) prog_1_method_38_code (6 : Nat) (Option.some Jvm.ClassFile.FieldType.double)) ∈ lw_all := lw_g (lw_at lw_m1 178 rfl) rfl
theorem q223 : (Jvm.Cond.constantDouble "ParticleBox" (282 : Nat) (4611686018427387904 : UInt64)) ∈ lw_all := lw_g (lw_at lw_m1 179 rfl) rfl
theorem q225 : (Jvm.Cond.instanceMethod ({ cls := "ParticleBox", name := "sample", desc := "()I" } : Jvm.MethodName)) ∈ lw_all := lw_g (lw_at lw_m1 181 rfl) rfl
theorem q226 : (Jvm.Cond.selects "ParticleBox" ({ cls := "ParticleBox", name := "sample", desc := "()I" } : Jvm.MethodName) ({ cls := "ParticleBox", name := "sample", desc := "()I" } : Jvm.MethodName)) ∈ lw_all := lw_g (lw_at lw_m1 182 rfl) rfl
theorem q227 : (Jvm.Cond.code ({ cls := "ParticleBox", name := "sample", desc := "()I" } : Jvm.MethodName) prog_1_method_40_code (5 : Nat) (Option.some Jvm.ClassFile.FieldType.int)) ∈ lw_all := lw_g (lw_at lw_m1 183 rfl) rfl
theorem q228 : (Jvm.Cond.methodLink "ParticleBox" (214 : Nat) ({ cls := "ParticleBox", name := "from", desc := "(LParticleBox$Atom;LParticleBox$Atom;)V" } : Jvm.MethodName)) ∈ lw_all := lw_g (lw_at lw_m1 184 rfl) rfl
theorem q229 : (Jvm.Cond.privateMethod ({ cls := "ParticleBox", name := "from", desc := "(LParticleBox$Atom;LParticleBox$Atom;)V" } : Jvm.MethodName)) ∈ lw_tbl := lw_at lw_m1 185 rfl
theorem q230 : (Jvm.Cond.instanceMethod ({ cls := "ParticleBox", name := "from", desc := "(LParticleBox$Atom;LParticleBox$Atom;)V" } : Jvm.MethodName)) ∈ lw_all := lw_g (lw_at lw_m1 186 rfl) rfl
theorem q231 : (Jvm.Cond.code ({ cls := "ParticleBox", name := "from", desc := "(LParticleBox$Atom;LParticleBox$Atom;)V" } : Jvm.MethodName) prog_1_method_9_code (3 : Nat) (Option.none : Option Jvm.ClassFile.FieldType)) ∈ lw_all := lw_g (lw_at lw_m1 187 rfl) rfl
theorem q232 : (Jvm.Cond.methodLink "ParticleBox" (117 : Nat) ({ cls := "ParticleBox", name := "shortest", desc := "(D)D" } : Jvm.MethodName)) ∈ lw_all := lw_g (lw_at lw_m1 188 rfl) rfl
theorem q233 : (Jvm.Cond.privateMethod ({ cls := "ParticleBox", name := "shortest", desc := "(D)D" } : Jvm.MethodName)) ∈ lw_tbl := lw_at lw_m1 189 rfl
theorem q234 : (Jvm.Cond.instanceMethod ({ cls := "ParticleBox", name := "shortest", desc := "(D)D" } : Jvm.MethodName)) ∈ lw_all := lw_g (lw_at lw_m1 190 rfl) rfl
theorem q235 : (Jvm.Cond.code ({ cls := "ParticleBox", name := "shortest", desc := "(D)D" } : Jvm.MethodName) prog_1_method_8_code (3 : Nat) (Option.some Jvm.ClassFile.FieldType.double)) ∈ lw_all := lw_g (lw_at lw_m1 191 rfl) rfl
theorem q236 : (Jvm.Cond.methodLink "ParticleBox" (110 : Nat) ({ cls := "ParticleBox", name := "floor", desc := "(D)D" } : Jvm.MethodName)) ∈ lw_all := lw_g (lw_at lw_m1 192 rfl) rfl
theorem q237 : (Jvm.Cond.static ({ cls := "ParticleBox", name := "floor", desc := "(D)D" } : Jvm.MethodName)) ∈ lw_all := lw_g (lw_at lw_m1 193 rfl) rfl
theorem q238 : (Jvm.Cond.code ({ cls := "ParticleBox", name := "floor", desc := "(D)D" } : Jvm.MethodName) prog_1_method_5_code (4 : Nat) (Option.some Jvm.ClassFile.FieldType.double)) ∈ lw_all := lw_g (lw_at lw_m1 194 rfl) rfl
theorem q239 : (Jvm.Cond.methodLink "ParticleBox" (204 : Nat) ({ cls := "ParticleBox$Way", name := "square", desc := "()D" } : Jvm.MethodName)) ∈ lw_all := lw_g (lw_at lw_m1 195 rfl) rfl
theorem q243 : (Jvm.Cond.constantDouble "ParticleBox" (352 : Nat) (4625196817309499392 : UInt64)) ∈ lw_all := lw_g (lw_at lw_m1 199 rfl) rfl
theorem q244 : (Jvm.Cond.methodLink "ParticleBox" (358 : Nat) ({ cls := "ParticleBox", name := "classOf", desc := "(LParticleBox$Sort;LParticleBox$Sort;)I" } : Jvm.MethodName)) ∈ lw_all := lw_g (lw_at lw_m1 200 rfl) rfl
theorem q245 : (Jvm.Cond.privateMethod ({ cls := "ParticleBox", name := "classOf", desc := "(LParticleBox$Sort;LParticleBox$Sort;)I" } : Jvm.MethodName)) ∈ lw_tbl := lw_at lw_m1 201 rfl
theorem q246 : (Jvm.Cond.instanceMethod ({ cls := "ParticleBox", name := "classOf", desc := "(LParticleBox$Sort;LParticleBox$Sort;)I" } : Jvm.MethodName)) ∈ lw_all := lw_g (lw_at lw_m1 202 rfl) rfl
theorem q247 : (Jvm.Cond.code ({ cls := "ParticleBox", name := "classOf", desc := "(LParticleBox$Sort;LParticleBox$Sort;)I" } : Jvm.MethodName) prog_1_method_39_code (6 : Nat) (Option.some Jvm.ClassFile.FieldType.int)) ∈ lw_all := lw_g (lw_at lw_m1 203 rfl) rfl
theorem q249 : (Jvm.Cond.instanceMethod ({ cls := "ParticleBox", name := "count", desc := "(I)I" } : Jvm.MethodName)) ∈ lw_all := lw_g (lw_at lw_m1 205 rfl) rfl
theorem q250 : (Jvm.Cond.selects "ParticleBox" ({ cls := "ParticleBox", name := "count", desc := "(I)I" } : Jvm.MethodName) ({ cls := "ParticleBox", name := "count", desc := "(I)I" } : Jvm.MethodName)) ∈ lw_all := lw_g (lw_at lw_m1 206 rfl) rfl
theorem q251 : (Jvm.Cond.code ({ cls := "ParticleBox", name := "count", desc := "(I)I" } : Jvm.MethodName) prog_1_method_42_code (2 : Nat) (Option.some Jvm.ClassFile.FieldType.int)) ∈ lw_all := lw_g (lw_at lw_m1 207 rfl) rfl
theorem q261 : (Jvm.Cond.instanceMethod ({ cls := "ParticleBox", name := "atom", desc := "(DDDI)I" } : Jvm.MethodName)) ∈ lw_all := lw_g (lw_at lw_m1 217 rfl) rfl
theorem q262 : (Jvm.Cond.selects "ParticleBox" ({ cls := "ParticleBox", name := "atom", desc := "(DDDI)I" } : Jvm.MethodName) ({ cls := "ParticleBox", name := "atom", desc := "(DDDI)I" } : Jvm.MethodName)) ∈ lw_all := lw_g (lw_at lw_m1 218 rfl) rfl
theorem q263 : (Jvm.Cond.code ({ cls := "ParticleBox", name := "atom", desc := "(DDDI)I" } : Jvm.MethodName) prog_1_method_10_code (9 : Nat) (Option.some Jvm.ClassFile.FieldType.int)) ∈ lw_all := lw_g (lw_at lw_m1 219 rfl) rfl
theorem q264 : (Jvm.Cond.constantDouble "ParticleBox" (129 : Nat) (13875379345695965184 : UInt64)) ∈ lw_all := lw_g (lw_at lw_m1 220 rfl) rfl
theorem q265 : (Jvm.Cond.constantDouble "ParticleBox" (131 : Nat) (4652007308841189376 : UInt64)) ∈ lw_all := lw_g (lw_at lw_m1 221 rfl) rfl
theorem q266 : (Jvm.Cond.methodLink "ParticleBox" (133 : Nat) ({ cls := "ParticleBox", name := "within", desc := "(DDD)Z" } : Jvm.MethodName)) ∈ lw_all := lw_g (lw_at lw_m1 222 rfl) rfl
theorem q267 : (Jvm.Cond.static ({ cls := "ParticleBox", name := "within", desc := "(DDD)Z" } : Jvm.MethodName)) ∈ lw_all := lw_g (lw_at lw_m1 223 rfl) rfl
theorem q268 : (Jvm.Cond.code ({ cls := "ParticleBox", name := "within", desc := "(DDD)Z" } : Jvm.MethodName) prog_1_method_3_code (6 : Nat) (Option.some Jvm.ClassFile.FieldType.boolean)) ∈ lw_all := lw_g (lw_at lw_m1 224 rfl) rfl
theorem q269 : (Jvm.Cond.constantDouble "ParticleBox" (137 : Nat) (4593671619917905920 : UInt64)) ∈ lw_all := lw_g (lw_at lw_m1 225 rfl) rfl
theorem q270 : (Jvm.Cond.constantDouble "ParticleBox" (139 : Nat) (4634204016564240384 : UInt64)) ∈ lw_all := lw_g (lw_at lw_m1 226 rfl) rfl
theorem q271 : (Jvm.Cond.methodLink "ParticleBox" (106 : Nat) ({ cls := "ParticleBox", name := "check", desc := "(Z)V" } : Jvm.MethodName)) ∈ lw_all := lw_g (lw_at lw_m1 227 rfl) rfl
theorem q272 : (Jvm.Cond.static ({ cls := "ParticleBox", name := "check", desc := "(Z)V" } : Jvm.MethodName)) ∈ lw_all := lw_g (lw_at lw_m1 228 rfl) rfl
theorem q273 : (Jvm.Cond.code ({ cls := "ParticleBox", name := "check", desc := "(Z)V" } : Jvm.MethodName) prog_1_method_2_code (1 : Nat) (Option.none : Option Jvm.ClassFile.FieldType)) ∈ lw_all := lw_g (lw_at lw_m1 229 rfl) rfl
theorem q274 : (Jvm.Cond.classLink "ParticleBox" (99 : Nat) "java/lang/IllegalArgumentException") ∈ lw_all := lw_g (lw_at lw_m1 230 rfl) rfl
theorem q315 : (Jvm.Cond.methodLink "ParticleBox" (101 : Nat) ({ cls := "java/lang/IllegalArgumentException", name := "<init>", desc := "()V" } : Jvm.MethodName)) ∈ lw_all := lw_g (lw_at lw_m2 31 rfl) rfl
theorem q338 : (Jvm.Cond.classLink "ParticleBox" (141 : Nat) "java/lang/IllegalStateException") ∈ lw_all := lw_g (lw_at lw_m2 54 rfl) rfl
theorem q347 : (Jvm.Cond.stringRef "ParticleBox" (143 : Nat) "no room") ∈ lw_tbl := lw_at lw_m2 63 rfl
theorem q348 : (Jvm.Cond.methodLink "ParticleBox" (145 : Nat) ({ cls := "java/lang/IllegalStateException", name := "<init>", desc := "(Ljava/lang/String;)V" } : Jvm.MethodName)) ∈ lw_all := lw_g (lw_at lw_m2 64 rfl) rfl
theorem q364 : (Jvm.Cond.methodLink "ParticleBox" (148 : Nat) ({ cls := "ParticleBox$Atom", name := "<init>", desc := "(IDLParticleBox$Sort;)V" } : Jvm.MethodName)) ∈ lw_all := lw_g (lw_at lw_m2 80 rfl) rfl
theorem q369 : (Jvm.Cond.fieldLink "ParticleBox" (349 : Nat) "ParticleBox$Atom" "mass" "D") ∈ lw_all := lw_g (lw_at lw_m2 85 rfl) rfl
theorem q372 : (Jvm.Cond.fieldLink "ParticleBox" (354 : Nat) "ParticleBox$Atom" "sort" "LParticleBox$Sort;") ∈ lw_all := lw_g (lw_at lw_m2 88 rfl) rfl
theorem q375 : (Jvm.Cond.fieldLink "ParticleBox" (114 : Nat) "ParticleBox$Atom" "x" "D") ∈ lw_all := lw_g (lw_at lw_m2 91 rfl) rfl
theorem q377 : (Jvm.Cond.fieldLink "ParticleBox" (123 : Nat) "ParticleBox$Atom" "y" "D") ∈ lw_all := lw_g (lw_at lw_m2 93 rfl) rfl
theorem q379 : (Jvm.Cond.fieldLink "ParticleBox" (162 : Nat) "ParticleBox$Atom" "u" "D") ∈ lw_all := lw_g (lw_at lw_m2 95 rfl) rfl
theorem q381 : (Jvm.Cond.fieldLink "ParticleBox" (165 : Nat) "ParticleBox$Atom" "v" "D") ∈ lw_all := lw_g (lw_at lw_m2 97 rfl) rfl
theorem q383 : (Jvm.Cond.fieldLink "ParticleBox" (232 : Nat) "ParticleBox$Atom" "forceX" "D") ∈ lw_all := lw_g (lw_at lw_m2 99 rfl) rfl
theorem q385 : (Jvm.Cond.fieldLink "ParticleBox" (235 : Nat) "ParticleBox$Atom" "forceY" "D") ∈ lw_all := lw_g (lw_at lw_m2 101 rfl) rfl
theorem q387 : (Jvm.Cond.fieldLink "ParticleBox" (195 : Nat) "ParticleBox$Atom" "stuck" "Z") ∈ lw_all := lw_g (lw_at lw_m2 103 rfl) rfl
theorem q388 : (Jvm.Cond.fieldLink "ParticleBox" (268 : Nat) "ParticleBox$Atom" "nextX" "D") ∈ lw_all := lw_g (lw_at lw_m2 104 rfl) rfl
theorem q389 : (Jvm.Cond.fieldLink "ParticleBox" (271 : Nat) "ParticleBox$Atom" "nextY" "D") ∈ lw_all := lw_g (lw_at lw_m2 105 rfl) rfl
theorem q390 : (Jvm.Cond.fieldLink "ParticleBox" (198 : Nat) "ParticleBox$Atom" "listX" "D") ∈ lw_all := lw_g (lw_at lw_m2 106 rfl) rfl
theorem q391 : (Jvm.Cond.fieldLink "ParticleBox" (201 : Nat) "ParticleBox$Atom" "listY" "D") ∈ lw_all := lw_g (lw_at lw_m2 107 rfl) rfl
theorem q421 : (Jvm.Cond.methodLink "ParticleBox" (151 : Nat) ({ cls := "ParticleBox", name := "wrapped", desc := "(D)D" } : Jvm.MethodName)) ∈ lw_all := lw_g (lw_at lw_m2 137 rfl) rfl
theorem q422 : (Jvm.Cond.privateMethod ({ cls := "ParticleBox", name := "wrapped", desc := "(D)D" } : Jvm.MethodName)) ∈ lw_tbl := lw_at lw_m2 138 rfl
theorem q423 : (Jvm.Cond.instanceMethod ({ cls := "ParticleBox", name := "wrapped", desc := "(D)D" } : Jvm.MethodName)) ∈ lw_all := lw_g (lw_at lw_m2 139 rfl) rfl
theorem q424 : (Jvm.Cond.code ({ cls := "ParticleBox", name := "wrapped", desc := "(D)D" } : Jvm.MethodName) prog_1_method_7_code (5 : Nat) (Option.some Jvm.ClassFile.FieldType.double)) ∈ lw_all := lw_g (lw_at lw_m2 140 rfl) rfl
theorem q429 : (Jvm.Cond.instanceMethod ({ cls := "ParticleBox", name := "place", desc := "(IDD)V" } : Jvm.MethodName)) ∈ lw_all := lw_g (lw_at lw_m2 145 rfl) rfl
theorem q430 : (Jvm.Cond.selects "ParticleBox" ({ cls := "ParticleBox", name := "place", desc := "(IDD)V" } : Jvm.MethodName) ({ cls := "ParticleBox", name := "place", desc := "(IDD)V" } : Jvm.MethodName)) ∈ lw_all := lw_g (lw_at lw_m2 146 rfl) rfl
theorem q431 : (Jvm.Cond.code ({ cls := "ParticleBox", name := "place", desc := "(IDD)V" } : Jvm.MethodName) prog_1_method_11_code (7 : Nat) (Option.none : Option Jvm.ClassFile.FieldType)) ∈ lw_all := lw_g (lw_at lw_m2 147 rfl) rfl
theorem q432 : (Jvm.Cond.methodLink "ParticleBox" (158 : Nat) ({ cls := "ParticleBox", name := "at", desc := "(I)LParticleBox$Atom;" } : Jvm.MethodName)) ∈ lw_all := lw_g (lw_at lw_m2 148 rfl) rfl
theorem q433 : (Jvm.Cond.privateMethod ({ cls := "ParticleBox", name := "at", desc := "(I)LParticleBox$Atom;" } : Jvm.MethodName)) ∈ lw_tbl := lw_at lw_m2 149 rfl
theorem q434 : (Jvm.Cond.instanceMethod ({ cls := "ParticleBox", name := "at", desc := "(I)LParticleBox$Atom;" } : Jvm.MethodName)) ∈ lw_all := lw_g (lw_at lw_m2 150 rfl) rfl
theorem q435 : (Jvm.Cond.code ({ cls := "ParticleBox", name := "at", desc := "(I)LParticleBox$Atom;" } : Jvm.MethodName) prog_1_method_4_code (2 : Nat) (Option.some (Jvm.ClassFile.FieldType.object "ParticleBox$Atom"))) ∈ lw_all := lw_g (lw_at lw_m2 151 rfl) rfl
theorem q440 : (Jvm.Cond.instanceMethod ({ cls := "ParticleBox", name := "speed", desc := "(IDD)V" } : Jvm.MethodName)) ∈ lw_all := lw_g (lw_at lw_m2 156 rfl) rfl
theorem q441 : (Jvm.Cond.selects "ParticleBox" ({ cls := "ParticleBox", name := "speed", desc := "(IDD)V" } : Jvm.MethodName) ({ cls := "ParticleBox", name := "speed", desc := "(IDD)V" } : Jvm.MethodName)) ∈ lw_all := lw_g (lw_at lw_m2 157 rfl) rfl
theorem q442 : (Jvm.Cond.code ({ cls := "ParticleBox", name := "speed", desc := "(IDD)V" } : Jvm.MethodName) prog_1_method_12_code (7 : Nat) (Option.none : Option Jvm.ClassFile.FieldType)) ∈ lw_all := lw_g (lw_at lw_m2 158 rfl) rfl
theorem q447 : (Jvm.Cond.instanceMethod ({ cls := "ParticleBox", name := "sort", desc := "(IDDD)V" } : Jvm.MethodName)) ∈ lw_all := lw_g (lw_at lw_m2 163 rfl) rfl
theorem q448 : (Jvm.Cond.selects "ParticleBox" ({ cls := "ParticleBox", name := "sort", desc := "(IDDD)V" } : Jvm.MethodName) ({ cls := "ParticleBox", name := "sort", desc := "(IDDD)V" } : Jvm.MethodName)) ∈ lw_all := lw_g (lw_at lw_m2 164 rfl) rfl
theorem q449 : (Jvm.Cond.code ({ cls := "ParticleBox", name := "sort", desc := "(IDDD)V" } : Jvm.MethodName) prog_1_method_13_code (8 : Nat) (Option.none : Option Jvm.ClassFile.FieldType)) ∈ lw_all := lw_g (lw_at lw_m2 165 rfl) rfl
theorem q450 : (Jvm.Cond.constantDouble "ParticleBox" (168 : Nat) (4616189618054758400 : UInt64)) ∈ lw_all := lw_g (lw_at lw_m2 166 rfl) rfl
theorem q451 : (Jvm.Cond.constantDouble "ParticleBox" (170 : Nat) (13844065254536904704 : UInt64)) ∈ lw_all := lw_g (lw_at lw_m2 167 rfl) rfl
theorem q452 : (Jvm.Cond.constantDouble "ParticleBox" (172 : Nat) (4620693217682128896 : UInt64)) ∈ lw_all := lw_g (lw_at lw_m2 168 rfl) rfl
theorem q457 : (Jvm.Cond.instanceMethod ({ cls := "ParticleBox", name := "cut", desc := "(DD)V" } : Jvm.MethodName)) ∈ lw_all := lw_g (lw_at lw_m2 173 rfl) rfl
theorem q458 : (Jvm.Cond.selects "ParticleBox" ({ cls := "ParticleBox", name := "cut", desc := "(DD)V" } : Jvm.MethodName) ({ cls := "ParticleBox", name := "cut", desc := "(DD)V" } : Jvm.MethodName)) ∈ lw_all := lw_g (lw_at lw_m2 174 rfl) rfl
theorem q459 : (Jvm.Cond.code ({ cls := "ParticleBox", name := "cut", desc := "(DD)V" } : Jvm.MethodName) prog_1_method_14_code (5 : Nat) (Option.none : Option Jvm.ClassFile.FieldType)) ∈ lw_all := lw_g (lw_at lw_m2 175 rfl) rfl
theorem q464 : (Jvm.Cond.instanceMethod ({ cls := "ParticleBox", name := "bond", desc := "(IIDD)I" } : Jvm.MethodName)) ∈ lw_all := lw_g (lw_at lw_m2 180 rfl) rfl
theorem q465 : (Jvm.Cond.selects "ParticleBox" ({ cls := "ParticleBox", name := "bond", desc := "(IIDD)I" } : Jvm.MethodName) ({ cls := "ParticleBox", name := "bond", desc := "(IIDD)I" } : Jvm.MethodName)) ∈ lw_all := lw_g (lw_at lw_m2 181 rfl) rfl
theorem q466 : (Jvm.Cond.code ({ cls := "ParticleBox", name := "bond", desc := "(IIDD)I" } : Jvm.MethodName) prog_1_method_15_code (9 : Nat) (Option.some Jvm.ClassFile.FieldType.int)) ∈ lw_all := lw_g (lw_at lw_m2 182 rfl) rfl
theorem q468 : (Jvm.Cond.methodLink "ParticleBox" (186 : Nat) ({ cls := "ParticleBox$Bond", name := "<init>", desc := "(LParticleBox$Atom;LParticleBox$Atom;DD)V" } : Jvm.MethodName)) ∈ lw_all := lw_g (lw_at lw_m2 184 rfl) rfl
theorem q473 : (Jvm.Cond.fieldLink "ParticleBox" (252 : Nat) "ParticleBox$Bond" "one" "LParticleBox$Atom;") ∈ lw_all := lw_g (lw_at lw_m2 189 rfl) rfl
theorem q475 : (Jvm.Cond.fieldLink "ParticleBox" (256 : Nat) "ParticleBox$Bond" "other" "LParticleBox$Atom;") ∈ lw_all := lw_g (lw_at lw_m2 191 rfl) rfl
theorem q491 : (Jvm.Cond.instanceMethod ({ cls := "ParticleBox", name := "rod", desc := "(IID)I" } : Jvm.MethodName)) ∈ lw_all := lw_g (lw_at lw_m2 207 rfl) rfl
theorem q492 : (Jvm.Cond.selects "ParticleBox" ({ cls := "ParticleBox", name := "rod", desc := "(IID)I" } : Jvm.MethodName) ({ cls := "ParticleBox", name := "rod", desc := "(IID)I" } : Jvm.MethodName)) ∈ lw_all := lw_g (lw_at lw_m2 208 rfl) rfl
theorem q493 : (Jvm.Cond.code ({ cls := "ParticleBox", name := "rod", desc := "(IID)I" } : Jvm.MethodName) prog_1_method_16_code (7 : Nat) (Option.some Jvm.ClassFile.FieldType.int)) ∈ lw_all := lw_g (lw_at lw_m2 209 rfl) rfl
theorem q495 : (Jvm.Cond.methodLink "ParticleBox" (192 : Nat) ({ cls := "ParticleBox$Rod", name := "<init>", desc := "(LParticleBox$Atom;LParticleBox$Atom;D)V" } : Jvm.MethodName)) ∈ lw_all := lw_g (lw_at lw_m2 211 rfl) rfl
theorem q500 : (Jvm.Cond.fieldLink "ParticleBox" (266 : Nat) "ParticleBox$Rod" "one" "LParticleBox$Atom;") ∈ lw_all := lw_g (lw_at lw_m2 216 rfl) rfl
theorem q502 : (Jvm.Cond.fieldLink "ParticleBox" (267 : Nat) "ParticleBox$Rod" "other" "LParticleBox$Atom;") ∈ lw_all := lw_g (lw_at lw_m2 218 rfl) rfl
theorem q504 : (Jvm.Cond.fieldLink "ParticleBox" (274 : Nat) "ParticleBox$Rod" "length" "D") ∈ lw_all := lw_g (lw_at lw_m2 220 rfl) rfl
theorem q516 : (Jvm.Cond.instanceMethod ({ cls := "ParticleBox", name := "stuck", desc := "(IZ)V" } : Jvm.MethodName)) ∈ lw_all := lw_g (lw_at lw_m2 232 rfl) rfl
theorem q517 : (Jvm.Cond.selects "ParticleBox" ({ cls := "ParticleBox", name := "stuck", desc := "(IZ)V" } : Jvm.MethodName) ({ cls := "ParticleBox", name := "stuck", desc := "(IZ)V" } : Jvm.MethodName)) ∈ lw_all := lw_g (lw_at lw_m2 233 rfl) rfl
theorem q518 : (Jvm.Cond.code ({ cls := "ParticleBox", name := "stuck", desc := "(IZ)V" } : Jvm.MethodName) prog_1_method_17_code (4 : Nat) (Option.none : Option Jvm.ClassFile.FieldType)) ∈ lw_all := lw_g (lw_at lw_m2 234 rfl) rfl
theorem q523 : (Jvm.Cond.instanceMethod ({ cls := "ParticleBox", name := "thermostat", desc := "(D)V" } : Jvm.MethodName)) ∈ lw_all := lw_g (lw_at lw_m2 239 rfl) rfl
theorem q524 : (Jvm.Cond.selects "ParticleBox" ({ cls := "ParticleBox", name := "thermostat", desc := "(D)V" } : Jvm.MethodName) ({ cls := "ParticleBox", name := "thermostat", desc := "(D)V" } : Jvm.MethodName)) ∈ lw_all := lw_g (lw_at lw_m3 0 rfl) rfl
theorem q525 : (Jvm.Cond.code ({ cls := "ParticleBox", name := "thermostat", desc := "(D)V" } : Jvm.MethodName) prog_1_method_18_code (3 : Nat) (Option.none : Option Jvm.ClassFile.FieldType)) ∈ lw_all := lw_g (lw_at lw_m3 1 rfl) rfl
theorem q549 : (Jvm.Cond.instanceMethod ({ cls := "ParticleBox", name := "step", desc := "(II)V" } : Jvm.MethodName)) ∈ lw_all := lw_g (lw_at lw_m3 25 rfl) rfl
theorem q550 : (Jvm.Cond.selects "ParticleBox" ({ cls := "ParticleBox", name := "step", desc := "(II)V" } : Jvm.MethodName) ({ cls := "ParticleBox", name := "step", desc := "(II)V" } : Jvm.MethodName)) ∈ lw_all := lw_g (lw_at lw_m3 26 rfl) rfl
theorem q551 : (Jvm.Cond.codeWith ({ cls := "ParticleBox", name := "step", desc := "(II)V" } : Jvm.MethodName) prog_1_method_30_code (6 : Nat) (Option.none : Option Jvm.ClassFile.FieldType) [((88 : Nat), (117 : Nat), (120 : Nat), (224 : Nat))]) ∈ lw_all := lw_g (lw_at lw_m3 27 rfl) rfl
theorem q552 : (Jvm.Cond.classLink "ParticleBox" (224 : Nat) "java/lang/ArithmeticException") ∈ lw_all := lw_g (lw_at lw_m3 28 rfl) rfl
theorem q553 : (Jvm.Cond.methodLink "ParticleBox" (313 : Nat) ({ cls := "java/lang/IllegalStateException", name := "<init>", desc := "()V" } : Jvm.MethodName)) ∈ lw_all := lw_g (lw_at lw_m3 29 rfl) rfl
theorem q557 : (Jvm.Cond.methodLink "ParticleBox" (314 : Nat) ({ cls := "ParticleBox$Atom", name := "save", desc := "([D)V" } : Jvm.MethodName)) ∈ lw_all := lw_g (lw_at lw_m3 33 rfl) rfl
theorem q561 : (Jvm.Cond.constantDouble "ParticleBox" (321 : Nat) (4652218415073722368 : UInt64)) ∈ lw_all := lw_g (lw_at lw_m3 37 rfl) rfl
theorem q562 : (Jvm.Cond.methodLink "ParticleBox" (323 : Nat) ({ cls := "ParticleBox", name := "advance", desc := "(D)I" } : Jvm.MethodName)) ∈ lw_all := lw_g (lw_at lw_m3 38 rfl) rfl
theorem q563 : (Jvm.Cond.privateMethod ({ cls := "ParticleBox", name := "advance", desc := "(D)I" } : Jvm.MethodName)) ∈ lw_tbl := lw_at lw_m3 39 rfl
theorem q564 : (Jvm.Cond.instanceMethod ({ cls := "ParticleBox", name := "advance", desc := "(D)I" } : Jvm.MethodName)) ∈ lw_all := lw_g (lw_at lw_m3 40 rfl) rfl
theorem q565 : (Jvm.Cond.code ({ cls := "ParticleBox", name := "advance", desc := "(D)I" } : Jvm.MethodName) prog_1_method_29_code (6 : Nat) (Option.some Jvm.ClassFile.FieldType.int)) ∈ lw_all := lw_g (lw_at lw_m3 41 rfl) rfl
theorem q566 : (Jvm.Cond.methodLink "ParticleBox" (297 : Nat) ({ cls := "ParticleBox", name := "forces", desc := "()V" } : Jvm.MethodName)) ∈ lw_all := lw_g (lw_at lw_m3 42 rfl) rfl
theorem q567 : (Jvm.Cond.privateMethod ({ cls := "ParticleBox", name := "forces", desc := "()V" } : Jvm.MethodName)) ∈ lw_tbl := lw_at lw_m3 43 rfl
theorem q568 : (Jvm.Cond.instanceMethod ({ cls := "ParticleBox", name := "forces", desc := "()V" } : Jvm.MethodName)) ∈ lw_all := lw_g (lw_at lw_m3 44 rfl) rfl
theorem q569 : (Jvm.Cond.code ({ cls := "ParticleBox", name := "forces", desc := "()V" } : Jvm.MethodName) prog_1_method_24_code (2 : Nat) (Option.none : Option Jvm.ClassFile.FieldType)) ∈ lw_all := lw_g (lw_at lw_m3 45 rfl) rfl
theorem q570 : (Jvm.Cond.methodLink "ParticleBox" (259 : Nat) ({ cls := "ParticleBox", name := "list", desc := "()V" } : Jvm.MethodName)) ∈ lw_all := lw_g (lw_at lw_m3 46 rfl) rfl
theorem q571 : (Jvm.Cond.privateMethod ({ cls := "ParticleBox", name := "list", desc := "()V" } : Jvm.MethodName)) ∈ lw_tbl := lw_at lw_m3 47 rfl
theorem q572 : (Jvm.Cond.instanceMethod ({ cls := "ParticleBox", name := "list", desc := "()V" } : Jvm.MethodName)) ∈ lw_all := lw_g (lw_at lw_m3 48 rfl) rfl
theorem q573 : (Jvm.Cond.code ({ cls := "ParticleBox", name := "list", desc := "()V" } : Jvm.MethodName) prog_1_method_20_code (5 : Nat) (Option.none : Option Jvm.ClassFile.FieldType)) ∈ lw_all := lw_g (lw_at lw_m3 49 rfl) rfl
theorem q574 : (Jvm.Cond.methodLink "ParticleBox" (208 : Nat) ({ cls := "ParticleBox", name := "outdated", desc := "()Z" } : Jvm.MethodName)) ∈ lw_all := lw_g (lw_at lw_m3 50 rfl) rfl
theorem q575 : (Jvm.Cond.privateMethod ({ cls := "ParticleBox", name := "outdated", desc := "()Z" } : Jvm.MethodName)) ∈ lw_tbl := lw_at lw_m3 51 rfl
theorem q576 : (Jvm.Cond.instanceMethod ({ cls := "ParticleBox", name := "outdated", desc := "()Z" } : Jvm.MethodName)) ∈ lw_all := lw_g (lw_at lw_m3 52 rfl) rfl
theorem q577 : (Jvm.Cond.code ({ cls := "ParticleBox", name := "outdated", desc := "()Z" } : Jvm.MethodName) prog_1_method_19_code (5 : Nat) (Option.some Jvm.ClassFile.FieldType.boolean)) ∈ lw_all := lw_g (lw_at lw_m3 53 rfl) rfl
theorem q578 : (Jvm.Cond.constantDouble "ParticleBox" (212 : Nat) (4562254508917369340 : UInt64)) ∈ lw_all := lw_g (lw_at lw_m3 54 rfl) rfl
theorem q579 : (Jvm.Cond.methodLink "ParticleBox" (262 : Nat) ({ cls := "ParticleBox", name := "forceOn", desc := "(LParticleBox$Atom;[II)V" } : Jvm.MethodName)) ∈ lw_all := lw_g (lw_at lw_m3 55 rfl) rfl
theorem q580 : (Jvm.Cond.privateMethod ({ cls := "ParticleBox", name := "forceOn", desc := "(LParticleBox$Atom;[II)V" } : Jvm.MethodName)) ∈ lw_tbl := lw_at lw_m3 56 rfl
theorem q581 : (Jvm.Cond.instanceMethod ({ cls := "ParticleBox", name := "forceOn", desc := "(LParticleBox$Atom;[II)V" } : Jvm.MethodName)) ∈ lw_all := lw_g (lw_at lw_m3 57 rfl) rfl
theorem q582 : (Jvm.Cond.code ({ cls := "ParticleBox", name := "forceOn", desc := "(LParticleBox$Atom;[II)V" } : Jvm.MethodName) prog_1_method_23_code (6 : Nat) (Option.none : Option Jvm.ClassFile.FieldType)) ∈ lw_all := lw_g (lw_at lw_m3 58 rfl) rfl
theorem q583 : (Jvm.Cond.constantDouble "ParticleBox" (238 : Nat) (4562146422526312448 : UInt64)) ∈ lw_all := lw_g (lw_at lw_m3 59 rfl) rfl
theorem q584 : (Jvm.Cond.methodLink "ParticleBox" (240 : Nat) ({ cls := "ParticleBox", name := "failure", desc := "(I)Ljava/lang/ArithmeticException;" } : Jvm.MethodName)) ∈ lw_all := lw_g (lw_at lw_m3 60 rfl) rfl
theorem q585 : (Jvm.Cond.privateMethod ({ cls := "ParticleBox", name := "failure", desc := "(I)Ljava/lang/ArithmeticException;" } : Jvm.MethodName)) ∈ lw_tbl := lw_at lw_m3 61 rfl
theorem q586 : (Jvm.Cond.instanceMethod ({ cls := "ParticleBox", name := "failure", desc := "(I)Ljava/lang/ArithmeticException;" } : Jvm.MethodName)) ∈ lw_all := lw_g (lw_at lw_m3 62 rfl) rfl
theorem q587 : (Jvm.Cond.code ({ cls := "ParticleBox", name := "failure", desc := "(I)Ljava/lang/ArithmeticException;" } : Jvm.MethodName) prog_1_method_21_code (2 : Nat) (Option.some (Jvm.ClassFile.FieldType.object "java/lang/ArithmeticException"))) ∈ lw_all := lw_g (lw_at lw_m3 63 rfl) rfl
theorem q588 : (Jvm.Cond.methodLink "ParticleBox" (226 : Nat) ({ cls := "java/lang/ArithmeticException", name := "<init>", desc := "()V" } : Jvm.MethodName)) ∈ lw_all := lw_g (lw_at lw_m3 64 rfl) rfl
theorem q592 : (Jvm.Cond.methodLink "ParticleBox" (244 : Nat) ({ cls := "ParticleBox$Neighbourhood", name := "of", desc := "(LParticleBox$Atom;LParticleBox$Atom;D)LParticleBox$Tie;" } : Jvm.MethodName)) ∈ lw_all := lw_g (lw_at lw_m3 68 rfl) rfl
theorem q596 : (Jvm.Cond.methodLink "ParticleBox" (248 : Nat) ({ cls := "ParticleBox", name := "pull", desc := "(LParticleBox$Atom;LParticleBox$Tie;)V" } : Jvm.MethodName)) ∈ lw_all := lw_g (lw_at lw_m3 72 rfl) rfl
theorem q597 : (Jvm.Cond.privateMethod ({ cls := "ParticleBox", name := "pull", desc := "(LParticleBox$Atom;LParticleBox$Tie;)V" } : Jvm.MethodName)) ∈ lw_tbl := lw_at lw_m3 73 rfl
theorem q598 : (Jvm.Cond.instanceMethod ({ cls := "ParticleBox", name := "pull", desc := "(LParticleBox$Atom;LParticleBox$Tie;)V" } : Jvm.MethodName)) ∈ lw_all := lw_g (lw_at lw_m3 74 rfl) rfl
theorem q599 : (Jvm.Cond.code ({ cls := "ParticleBox", name := "pull", desc := "(LParticleBox$Atom;LParticleBox$Tie;)V" } : Jvm.MethodName) prog_1_method_22_code (5 : Nat) (Option.none : Option Jvm.ClassFile.FieldType)) ∈ lw_all := lw_g (lw_at lw_m3 75 rfl) rfl
theorem q600 : (Jvm.Cond.interfaceEntry "ParticleBox" (227 : Nat)) ∈ lw_tbl := lw_at lw_m3 76 rfl
theorem q601 : (Jvm.Cond.methodLink "ParticleBox" (227 : Nat) ({ cls := "ParticleBox$Tie", name := "factor", desc := "(D)D" } : Jvm.MethodName)) ∈ lw_all := lw_g (lw_at lw_m3 77 rfl) rfl
theorem q627 : (Jvm.Cond.methodLink "ParticleBox" (300 : Nat) ({ cls := "ParticleBox", name := "pushAll", desc := "(D)V" } : Jvm.MethodName)) ∈ lw_all := lw_g (lw_at lw_m3 103 rfl) rfl
theorem q628 : (Jvm.Cond.privateMethod ({ cls := "ParticleBox", name := "pushAll", desc := "(D)V" } : Jvm.MethodName)) ∈ lw_tbl := lw_at lw_m3 104 rfl
theorem q629 : (Jvm.Cond.instanceMethod ({ cls := "ParticleBox", name := "pushAll", desc := "(D)V" } : Jvm.MethodName)) ∈ lw_all := lw_g (lw_at lw_m3 105 rfl) rfl
theorem q630 : (Jvm.Cond.code ({ cls := "ParticleBox", name := "pushAll", desc := "(D)V" } : Jvm.MethodName) prog_1_method_28_code (4 : Nat) (Option.none : Option Jvm.ClassFile.FieldType)) ∈ lw_all := lw_g (lw_at lw_m3 106 rfl) rfl
theorem q631 : (Jvm.Cond.methodLink "ParticleBox" (293 : Nat) ({ cls := "ParticleBox$Atom", name := "push", desc := "(D)V" } : Jvm.MethodName)) ∈ lw_all := lw_g (lw_at lw_m3 107 rfl) rfl
theorem q635 : (Jvm.Cond.methodLink "ParticleBox" (303 : Nat) ({ cls := "ParticleBox", name := "checkSpeeds", desc := "()V" } : Jvm.MethodName)) ∈ lw_all := lw_g (lw_at lw_m3 111 rfl) rfl
theorem q636 : (Jvm.Cond.privateMethod ({ cls := "ParticleBox", name := "checkSpeeds", desc := "()V" } : Jvm.MethodName)) ∈ lw_tbl := lw_at lw_m3 112 rfl
theorem q637 : (Jvm.Cond.instanceMethod ({ cls := "ParticleBox", name := "checkSpeeds", desc := "()V" } : Jvm.MethodName)) ∈ lw_all := lw_g (lw_at lw_m3 113 rfl) rfl
theorem q638 : (Jvm.Cond.code ({ cls := "ParticleBox", name := "checkSpeeds", desc := "()V" } : Jvm.MethodName) prog_1_method_27_code (2 : Nat) (Option.none : Option Jvm.ClassFile.FieldType)) ∈ lw_all := lw_g (lw_at lw_m3 114 rfl) rfl
theorem q639 : (Jvm.Cond.methodLink "ParticleBox" (290 : Nat) ({ cls := "ParticleBox$Atom", name := "tooFast", desc := "()Z" } : Jvm.MethodName)) ∈ lw_all := lw_g (lw_at lw_m3 115 rfl) rfl
theorem q645 : (Jvm.Cond.methodLink "ParticleBox" (306 : Nat) ({ cls := "ParticleBox", name := "straightenAll", desc := "()I" } : Jvm.MethodName)) ∈ lw_all := lw_g (lw_at lw_m3 121 rfl) rfl
theorem q646 : (Jvm.Cond.privateMethod ({ cls := "ParticleBox", name := "straightenAll", desc := "()I" } : Jvm.MethodName)) ∈ lw_tbl := lw_at lw_m3 122 rfl
theorem q647 : (Jvm.Cond.instanceMethod ({ cls := "ParticleBox", name := "straightenAll", desc := "()I" } : Jvm.MethodName)) ∈ lw_all := lw_g (lw_at lw_m3 123 rfl) rfl
theorem q648 : (Jvm.Cond.code ({ cls := "ParticleBox", name := "straightenAll", desc := "()I" } : Jvm.MethodName) prog_1_method_26_code (4 : Nat) (Option.some Jvm.ClassFile.FieldType.int)) ∈ lw_all := lw_g (lw_at lw_m3 124 rfl) rfl
theorem q649 : (Jvm.Cond.methodLink "ParticleBox" (286 : Nat) ({ cls := "ParticleBox", name := "straighten", desc := "(LParticleBox$Rod;)Z" } : Jvm.MethodName)) ∈ lw_all := lw_g (lw_at lw_m3 125 rfl) rfl
theorem q650 : (Jvm.Cond.privateMethod ({ cls := "ParticleBox", name := "straighten", desc := "(LParticleBox$Rod;)Z" } : Jvm.MethodName)) ∈ lw_tbl := lw_at lw_m3 126 rfl
theorem q651 : (Jvm.Cond.instanceMethod ({ cls := "ParticleBox", name := "straighten", desc := "(LParticleBox$Rod;)Z" } : Jvm.MethodName)) ∈ lw_all := lw_g (lw_at lw_m3 127 rfl) rfl
theorem q652 : (Jvm.Cond.code ({ cls := "ParticleBox", name := "straighten", desc := "(LParticleBox$Rod;)Z" } : Jvm.MethodName) prog_1_method_25_code (16 : Nat) (Option.some Jvm.ClassFile.FieldType.boolean)) ∈ lw_all := lw_g (lw_at lw_m3 128 rfl) rfl
theorem q653 : (Jvm.Cond.constantDouble "ParticleBox" (277 : Nat) (4517329193108106637 : UInt64)) ∈ lw_all := lw_g (lw_at lw_m3 129 rfl) rfl
theorem q654 : (Jvm.Cond.methodLink "ParticleBox" (279 : Nat) ({ cls := "ParticleBox$Atom", name := "ease", desc := "()D" } : Jvm.MethodName)) ∈ lw_all := lw_g (lw_at lw_m3 130 rfl) rfl
theorem q658 : (Jvm.Cond.constantDouble "ParticleBox" (284 : Nat) (13740701229962882445 : UInt64)) ∈ lw_all := lw_g (lw_at lw_m3 134 rfl) rfl
theorem q659 : (Jvm.Cond.methodLink "ParticleBox" (310 : Nat) ({ cls := "ParticleBox", name := "rescale", desc := "(D)V" } : Jvm.MethodName)) ∈ lw_all := lw_g (lw_at lw_m3 135 rfl) rfl
theorem q660 : (Jvm.Cond.privateMethod ({ cls := "ParticleBox", name := "rescale", desc := "(D)V" } : Jvm.MethodName)) ∈ lw_tbl := lw_at lw_m3 136 rfl
theorem q661 : (Jvm.Cond.instanceMethod ({ cls := "ParticleBox", name := "rescale", desc := "(D)V" } : Jvm.MethodName)) ∈ lw_all := lw_g (lw_at lw_m3 137 rfl) rfl
theorem q662 : (Jvm.Cond.code ({ cls := "ParticleBox", name := "rescale", desc := "(D)V" } : Jvm.MethodName) prog_1_method_31_code (9 : Nat) (Option.none : Option Jvm.ClassFile.FieldType)) ∈ lw_all := lw_g (lw_at lw_m3 138 rfl) rfl
theorem q663 : (Jvm.Cond.methodLink "ParticleBox" (333 : Nat) ({ cls := "ParticleBox", name := "temperature", desc := "()D" } : Jvm.MethodName)) ∈ lw_all := lw_g (lw_at lw_m3 139 rfl) rfl
theorem q664 : (Jvm.Cond.methodLink "ParticleBox" (336 : Nat) ({ cls := "ParticleBox", name := "root", desc := "(D)D" } : Jvm.MethodName)) ∈ lw_all := lw_g (lw_at lw_m3 140 rfl) rfl
theorem q665 : (Jvm.Cond.static ({ cls := "ParticleBox", name := "root", desc := "(D)D" } : Jvm.MethodName)) ∈ lw_all := lw_g (lw_at lw_m3 141 rfl) rfl
theorem q666 : (Jvm.Cond.code ({ cls := "ParticleBox", name := "root", desc := "(D)D" } : Jvm.MethodName) prog_1_method_6_code (5 : Nat) (Option.some Jvm.ClassFile.FieldType.double)) ∈ lw_all := lw_g (lw_at lw_m3 142 rfl) rfl
theorem q667 : (Jvm.Cond.methodLink "ParticleBox" (330 : Nat) ({ cls := "ParticleBox$Atom", name := "restore", desc := "([D)V" } : Jvm.MethodName)) ∈ lw_all := lw_g (lw_at lw_m3 143 rfl) rfl
theorem q675 : (Jvm.Cond.instanceMethod ({ cls := "ParticleBox", name := "scale", desc := "(D)D" } : Jvm.MethodName)) ∈ lw_all := lw_g (lw_at lw_m3 151 rfl) rfl
theorem q676 : (Jvm.Cond.selects "ParticleBox" ({ cls := "ParticleBox", name := "scale", desc := "(D)D" } : Jvm.MethodName) ({ cls := "ParticleBox", name := "scale", desc := "(D)D" } : Jvm.MethodName)) ∈ lw_all := lw_g (lw_at lw_m3 152 rfl) rfl
theorem q677 : (Jvm.Cond.code ({ cls := "ParticleBox", name := "scale", desc := "(D)D" } : Jvm.MethodName) prog_1_method_32_code (5 : Nat) (Option.some Jvm.ClassFile.FieldType.double)) ∈ lw_all := lw_g (lw_at lw_m3 153 rfl) rfl
theorem q682 : (Jvm.Cond.instanceMethod ({ cls := "ParticleBox", name := "energy", desc := "(I)D" } : Jvm.MethodName)) ∈ lw_all := lw_g (lw_at lw_m3 158 rfl) rfl
theorem q683 : (Jvm.Cond.selects "ParticleBox" ({ cls := "ParticleBox", name := "energy", desc := "(I)D" } : Jvm.MethodName) ({ cls := "ParticleBox", name := "energy", desc := "(I)D" } : Jvm.MethodName)) ∈ lw_all := lw_g (lw_at lw_m3 159 rfl) rfl
theorem q684 : (Jvm.Cond.code ({ cls := "ParticleBox", name := "energy", desc := "(I)D" } : Jvm.MethodName) prog_1_method_35_code (5 : Nat) (Option.some Jvm.ClassFile.FieldType.double)) ∈ lw_all := lw_g (lw_at lw_m3 160 rfl) rfl
theorem q685 : (Jvm.Cond.methodLink "ParticleBox" (342 : Nat) ({ cls := "ParticleBox", name := "checkOverlap", desc := "()V" } : Jvm.MethodName)) ∈ lw_all := lw_g (lw_at lw_m3 161 rfl) rfl
theorem q686 : (Jvm.Cond.privateMethod ({ cls := "ParticleBox", name := "checkOverlap", desc := "()V" } : Jvm.MethodName)) ∈ lw_tbl := lw_at lw_m3 162 rfl
theorem q687 : (Jvm.Cond.instanceMethod ({ cls := "ParticleBox", name := "checkOverlap", desc := "()V" } : Jvm.MethodName)) ∈ lw_all := lw_g (lw_at lw_m3 163 rfl) rfl
theorem q688 : (Jvm.Cond.code ({ cls := "ParticleBox", name := "checkOverlap", desc := "()V" } : Jvm.MethodName) prog_1_method_34_code (3 : Nat) (Option.none : Option Jvm.ClassFile.FieldType)) ∈ lw_all := lw_g (lw_at lw_m3 164 rfl) rfl
theorem q689 : (Jvm.Cond.methodLink "ParticleBox" (345 : Nat) ({ cls := "ParticleBox", name := "pairEnergy", desc := "()D" } : Jvm.MethodName)) ∈ lw_all := lw_g (lw_at lw_m3 165 rfl) rfl
theorem q690 : (Jvm.Cond.privateMethod ({ cls := "ParticleBox", name := "pairEnergy", desc := "()D" } : Jvm.MethodName)) ∈ lw_tbl := lw_at lw_m3 166 rfl
theorem q691 : (Jvm.Cond.instanceMethod ({ cls := "ParticleBox", name := "pairEnergy", desc := "()D" } : Jvm.MethodName)) ∈ lw_all := lw_g (lw_at lw_m3 167 rfl) rfl
theorem q692 : (Jvm.Cond.code ({ cls := "ParticleBox", name := "pairEnergy", desc := "()D" } : Jvm.MethodName) prog_1_method_33_code (5 : Nat) (Option.some Jvm.ClassFile.FieldType.double)) ∈ lw_all := lw_g (lw_at lw_m3 168 rfl) rfl
theorem q693 : (Jvm.Cond.interfaceEntry "ParticleBox" (339 : Nat)) ∈ lw_tbl := lw_at lw_m3 169 rfl
theorem q694 : (Jvm.Cond.methodLink "ParticleBox" (339 : Nat) ({ cls := "ParticleBox$Tie", name := "energy", desc := "(D)D" } : Jvm.MethodName)) ∈ lw_all := lw_g (lw_at lw_m3 170 rfl) rfl
theorem q709 : (Jvm.Cond.methodLink "ParticleBox" (348 : Nat) ({ cls := "ParticleBox$Bond", name := "energy", desc := "(D)D" } : Jvm.MethodName)) ∈ lw_all := lw_g (lw_at lw_m3 185 rfl) rfl
theorem q714 : (Jvm.Cond.instanceMethod ({ cls := "ParticleBox", name := "force", desc := "(II)D" } : Jvm.MethodName)) ∈ lw_all := lw_g (lw_at lw_m3 190 rfl) rfl
theorem q715 : (Jvm.Cond.selects "ParticleBox" ({ cls := "ParticleBox", name := "force", desc := "(II)D" } : Jvm.MethodName) ({ cls := "ParticleBox", name := "force", desc := "(II)D" } : Jvm.MethodName)) ∈ lw_all := lw_g (lw_at lw_m3 191 rfl) rfl
theorem q716 : (Jvm.Cond.code ({ cls := "ParticleBox", name := "force", desc := "(II)D" } : Jvm.MethodName) prog_1_method_36_code (7 : Nat) (Option.some Jvm.ClassFile.FieldType.double)) ∈ lw_all := lw_g (lw_at lw_m3 192 rfl) rfl
theorem q721 : (Jvm.Cond.instanceMethod ({ cls := "ParticleBox", name := "told", desc := "(II)D" } : Jvm.MethodName)) ∈ lw_all := lw_g (lw_at lw_m3 197 rfl) rfl
theorem q722 : (Jvm.Cond.selects "ParticleBox" ({ cls := "ParticleBox", name := "told", desc := "(II)D" } : Jvm.MethodName) ({ cls := "ParticleBox", name := "told", desc := "(II)D" } : Jvm.MethodName)) ∈ lw_all := lw_g (lw_at lw_m3 198 rfl) rfl
theorem q723 : (Jvm.Cond.code ({ cls := "ParticleBox", name := "told", desc := "(II)D" } : Jvm.MethodName) prog_1_method_37_code (4 : Nat) (Option.some Jvm.ClassFile.FieldType.double)) ∈ lw_all := lw_g (lw_at lw_m3 199 rfl) rfl
theorem q728 : (Jvm.Cond.instanceMethod ({ cls := "ParticleBox", name := "bin", desc := "(III)I" } : Jvm.MethodName)) ∈ lw_all := lw_g (lw_at lw_m3 204 rfl) rfl
theorem q729 : (Jvm.Cond.selects "ParticleBox" ({ cls := "ParticleBox", name := "bin", desc := "(III)I" } : Jvm.MethodName) ({ cls := "ParticleBox", name := "bin", desc := "(III)I" } : Jvm.MethodName)) ∈ lw_all := lw_g (lw_at lw_m3 205 rfl) rfl
theorem q730 : (Jvm.Cond.code ({ cls := "ParticleBox", name := "bin", desc := "(III)I" } : Jvm.MethodName) prog_1_method_41_code (4 : Nat) (Option.some Jvm.ClassFile.FieldType.int)) ∈ lw_all := lw_g (lw_at lw_m3 206 rfl) rfl
theorem in_X1 : ∀ w ∈ wsX10, w ∈ lw_all := lw_in wsX10 [166, 168, 170, 172, 174, 176, 178, 180, 182, 184, 186, 188, 190, 192, 194, 196, 198, 200, 202, 204, 206, 208, 210, 212, 214] (by decide +kernel) (by decide +kernel)
