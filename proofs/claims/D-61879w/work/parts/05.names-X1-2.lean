set_option maxRecDepth 100000
abbrev cX1_forces : ByteArray := prog_1_method_24_code
def yX1_forces : MethodName := ⟨RX1, "forces", "()V"⟩
theorem dX1_forces_0 : decode cX1_forces 0 = .ok (.aload_n 0, 1) := by decide +kernel
theorem dX1_forces_1 : decode cX1_forces 1 = .ok (.invokevirtual 259, 3) := by decide +kernel
theorem dX1_forces_4 : decode cX1_forces 4 = .ok (.iconst 0, 1) := by decide +kernel
theorem dX1_forces_5 : decode cX1_forces 5 = .ok (.istore_n 1, 1) := by decide +kernel
theorem dX1_forces_6 : decode cX1_forces 6 = .ok (.iload_n 1, 1) := by decide +kernel
theorem dX1_forces_7 : decode cX1_forces 7 = .ok (.aload_n 0, 1) := by decide +kernel
theorem dX1_forces_8 : decode cX1_forces 8 = .ok (.getfield 102, 3) := by decide +kernel
theorem dX1_forces_11 : decode cX1_forces 11 = .ok (.if_icmp .ge 31, 3) := by decide +kernel
theorem dX1_forces_14 : decode cX1_forces 14 = .ok (.aload_n 0, 1) := by decide +kernel
theorem dX1_forces_15 : decode cX1_forces 15 = .ok (.aload_n 0, 1) := by decide +kernel
theorem dX1_forces_16 : decode cX1_forces 16 = .ok (.getfield 29, 3) := by decide +kernel
theorem dX1_forces_19 : decode cX1_forces 19 = .ok (.iload_n 1, 1) := by decide +kernel
theorem dX1_forces_20 : decode cX1_forces 20 = .ok (.aaload, 1) := by decide +kernel
theorem dX1_forces_21 : decode cX1_forces 21 = .ok (.aload_n 0, 1) := by decide +kernel
theorem dX1_forces_22 : decode cX1_forces 22 = .ok (.getfield 64, 3) := by decide +kernel
theorem dX1_forces_25 : decode cX1_forces 25 = .ok (.iload_n 1, 1) := by decide +kernel
theorem dX1_forces_26 : decode cX1_forces 26 = .ok (.aaload, 1) := by decide +kernel
theorem dX1_forces_27 : decode cX1_forces 27 = .ok (.aload_n 0, 1) := by decide +kernel
theorem dX1_forces_28 : decode cX1_forces 28 = .ok (.getfield 67, 3) := by decide +kernel
theorem dX1_forces_31 : decode cX1_forces 31 = .ok (.iload_n 1, 1) := by decide +kernel
theorem dX1_forces_32 : decode cX1_forces 32 = .ok (.iaload, 1) := by decide +kernel
theorem dX1_forces_33 : decode cX1_forces 33 = .ok (.invokevirtual 262, 3) := by decide +kernel
theorem dX1_forces_36 : decode cX1_forces 36 = .ok (.iinc 1 1, 3) := by decide +kernel
theorem dX1_forces_39 : decode cX1_forces 39 = .ok (.goto (-33), 3) := by decide +kernel
theorem dX1_forces_42 : decode cX1_forces 42 = .ok (.return_, 1) := by decide +kernel
abbrev cX1_list : ByteArray := prog_1_method_20_code
def yX1_list : MethodName := ⟨RX1, "list", "()V"⟩
theorem dX1_list_0 : decode cX1_list 0 = .ok (.aload_n 0, 1) := by decide +kernel
theorem dX1_list_1 : decode cX1_list 1 = .ok (.invokevirtual 208, 3) := by decide +kernel
theorem dX1_list_4 : decode cX1_list 4 = .ok (.ifCond .ne 4, 3) := by decide +kernel
theorem dX1_list_7 : decode cX1_list 7 = .ok (.return_, 1) := by decide +kernel
theorem dX1_list_8 : decode cX1_list 8 = .ok (.aload_n 0, 1) := by decide +kernel
theorem dX1_list_9 : decode cX1_list 9 = .ok (.getfield 96, 3) := by decide +kernel
theorem dX1_list_12 : decode cX1_list 12 = .ok (.aload_n 0, 1) := by decide +kernel
theorem dX1_list_13 : decode cX1_list 13 = .ok (.getfield 9, 3) := by decide +kernel
theorem dX1_list_16 : decode cX1_list 16 = .ok (.dadd, 1) := by decide +kernel
theorem dX1_list_17 : decode cX1_list 17 = .ok (.ldc2_w 212, 3) := by decide +kernel
theorem dX1_list_20 : decode cX1_list 20 = .ok (.dadd, 1) := by decide +kernel
theorem dX1_list_21 : decode cX1_list 21 = .ok (.dstore_n 1, 1) := by decide +kernel
theorem dX1_list_22 : decode cX1_list 22 = .ok (.iconst 0, 1) := by decide +kernel
theorem dX1_list_23 : decode cX1_list 23 = .ok (.istore_n 3, 1) := by decide +kernel
theorem dX1_list_24 : decode cX1_list 24 = .ok (.iload_n 3, 1) := by decide +kernel
theorem dX1_list_25 : decode cX1_list 25 = .ok (.aload_n 0, 1) := by decide +kernel
theorem dX1_list_26 : decode cX1_list 26 = .ok (.getfield 102, 3) := by decide +kernel
theorem dX1_list_29 : decode cX1_list 29 = .ok (.if_icmp .ge 127, 3) := by decide +kernel
theorem dX1_list_32 : decode cX1_list 32 = .ok (.aload_n 0, 1) := by decide +kernel
theorem dX1_list_33 : decode cX1_list 33 = .ok (.getfield 67, 3) := by decide +kernel
theorem dX1_list_36 : decode cX1_list 36 = .ok (.iload_n 3, 1) := by decide +kernel
theorem dX1_list_37 : decode cX1_list 37 = .ok (.iconst 0, 1) := by decide +kernel
theorem dX1_list_38 : decode cX1_list 38 = .ok (.iastore, 1) := by decide +kernel
theorem dX1_list_39 : decode cX1_list 39 = .ok (.aload_n 0, 1) := by decide +kernel
theorem dX1_list_40 : decode cX1_list 40 = .ok (.getfield 29, 3) := by decide +kernel
theorem dX1_list_43 : decode cX1_list 43 = .ok (.iload_n 3, 1) := by decide +kernel
theorem dX1_list_44 : decode cX1_list 44 = .ok (.aaload, 1) := by decide +kernel
theorem dX1_list_45 : decode cX1_list 45 = .ok (.aload_n 0, 1) := by decide +kernel
theorem dX1_list_46 : decode cX1_list 46 = .ok (.getfield 29, 3) := by decide +kernel
theorem dX1_list_49 : decode cX1_list 49 = .ok (.iload_n 3, 1) := by decide +kernel
theorem dX1_list_50 : decode cX1_list 50 = .ok (.aaload, 1) := by decide +kernel
theorem dX1_list_51 : decode cX1_list 51 = .ok (.getfield 114, 3) := by decide +kernel
theorem dX1_list_54 : decode cX1_list 54 = .ok (.putfield 198, 3) := by decide +kernel
theorem dX1_list_57 : decode cX1_list 57 = .ok (.aload_n 0, 1) := by decide +kernel
theorem dX1_list_58 : decode cX1_list 58 = .ok (.getfield 29, 3) := by decide +kernel
theorem dX1_list_61 : decode cX1_list 61 = .ok (.iload_n 3, 1) := by decide +kernel
theorem dX1_list_62 : decode cX1_list 62 = .ok (.aaload, 1) := by decide +kernel
theorem dX1_list_63 : decode cX1_list 63 = .ok (.aload_n 0, 1) := by decide +kernel
theorem dX1_list_64 : decode cX1_list 64 = .ok (.getfield 29, 3) := by decide +kernel
theorem dX1_list_67 : decode cX1_list 67 = .ok (.iload_n 3, 1) := by decide +kernel
theorem dX1_list_68 : decode cX1_list 68 = .ok (.aaload, 1) := by decide +kernel
theorem dX1_list_69 : decode cX1_list 69 = .ok (.getfield 123, 3) := by decide +kernel
theorem dX1_list_72 : decode cX1_list 72 = .ok (.putfield 201, 3) := by decide +kernel
theorem dX1_list_75 : decode cX1_list 75 = .ok (.iconst 0, 1) := by decide +kernel
theorem dX1_list_76 : decode cX1_list 76 = .ok (.istore 4, 2) := by decide +kernel
theorem dX1_list_78 : decode cX1_list 78 = .ok (.iload 4, 2) := by decide +kernel
theorem dX1_list_80 : decode cX1_list 80 = .ok (.aload_n 0, 1) := by decide +kernel
theorem dX1_list_81 : decode cX1_list 81 = .ok (.getfield 102, 3) := by decide +kernel
theorem dX1_list_84 : decode cX1_list 84 = .ok (.if_icmp .ge 66, 3) := by decide +kernel
theorem dX1_list_87 : decode cX1_list 87 = .ok (.aload_n 0, 1) := by decide +kernel
theorem dX1_list_88 : decode cX1_list 88 = .ok (.aload_n 0, 1) := by decide +kernel
theorem dX1_list_89 : decode cX1_list 89 = .ok (.getfield 29, 3) := by decide +kernel
theorem dX1_list_92 : decode cX1_list 92 = .ok (.iload_n 3, 1) := by decide +kernel
theorem dX1_list_93 : decode cX1_list 93 = .ok (.aaload, 1) := by decide +kernel
theorem dX1_list_94 : decode cX1_list 94 = .ok (.aload_n 0, 1) := by decide +kernel
theorem dX1_list_95 : decode cX1_list 95 = .ok (.getfield 29, 3) := by decide +kernel
theorem dX1_list_98 : decode cX1_list 98 = .ok (.iload 4, 2) := by decide +kernel
theorem dX1_list_100 : decode cX1_list 100 = .ok (.aaload, 1) := by decide +kernel
theorem dX1_list_101 : decode cX1_list 101 = .ok (.invokevirtual 214, 3) := by decide +kernel
theorem dX1_list_104 : decode cX1_list 104 = .ok (.iload 4, 2) := by decide +kernel
theorem dX1_list_106 : decode cX1_list 106 = .ok (.iload_n 3, 1) := by decide +kernel
theorem dX1_list_107 : decode cX1_list 107 = .ok (.if_icmp .eq 37, 3) := by decide +kernel
theorem dX1_list_110 : decode cX1_list 110 = .ok (.aload_n 0, 1) := by decide +kernel
theorem dX1_list_111 : decode cX1_list 111 = .ok (.getfield 55, 3) := by decide +kernel
theorem dX1_list_114 : decode cX1_list 114 = .ok (.invokevirtual 204, 3) := by decide +kernel
theorem dX1_list_117 : decode cX1_list 117 = .ok (.dload_n 1, 1) := by decide +kernel
theorem dX1_list_118 : decode cX1_list 118 = .ok (.dload_n 1, 1) := by decide +kernel
theorem dX1_list_119 : decode cX1_list 119 = .ok (.dmul, 1) := by decide +kernel
theorem dX1_list_120 : decode cX1_list 120 = .ok (.dcmp .g, 1) := by decide +kernel
theorem dX1_list_121 : decode cX1_list 121 = .ok (.ifCond .ge 23, 3) := by decide +kernel
theorem dX1_list_124 : decode cX1_list 124 = .ok (.aload_n 0, 1) := by decide +kernel
theorem dX1_list_125 : decode cX1_list 125 = .ok (.getfield 64, 3) := by decide +kernel
theorem dX1_list_128 : decode cX1_list 128 = .ok (.iload_n 3, 1) := by decide +kernel
theorem dX1_list_129 : decode cX1_list 129 = .ok (.aaload, 1) := by decide +kernel
theorem dX1_list_130 : decode cX1_list 130 = .ok (.aload_n 0, 1) := by decide +kernel
theorem dX1_list_131 : decode cX1_list 131 = .ok (.getfield 67, 3) := by decide +kernel
theorem dX1_list_134 : decode cX1_list 134 = .ok (.iload_n 3, 1) := by decide +kernel
theorem dX1_list_135 : decode cX1_list 135 = .ok (.dup2, 1) := by decide +kernel
theorem dX1_list_136 : decode cX1_list 136 = .ok (.iaload, 1) := by decide +kernel
theorem dX1_list_137 : decode cX1_list 137 = .ok (.dup_x2, 1) := by decide +kernel
theorem dX1_list_138 : decode cX1_list 138 = .ok (.iconst 1, 1) := by decide +kernel
theorem dX1_list_139 : decode cX1_list 139 = .ok (.iadd, 1) := by decide +kernel
theorem dX1_list_140 : decode cX1_list 140 = .ok (.iastore, 1) := by decide +kernel
theorem dX1_list_141 : decode cX1_list 141 = .ok (.iload 4, 2) := by decide +kernel
theorem dX1_list_143 : decode cX1_list 143 = .ok (.iastore, 1) := by decide +kernel
theorem dX1_list_144 : decode cX1_list 144 = .ok (.iinc 4 1, 3) := by decide +kernel
theorem dX1_list_147 : decode cX1_list 147 = .ok (.goto (-69), 3) := by decide +kernel
theorem dX1_list_150 : decode cX1_list 150 = .ok (.iinc 3 1, 3) := by decide +kernel
theorem dX1_list_153 : decode cX1_list 153 = .ok (.goto (-129), 3) := by decide +kernel
theorem dX1_list_156 : decode cX1_list 156 = .ok (.aload_n 0, 1) := by decide +kernel
theorem dX1_list_157 : decode cX1_list 157 = .ok (.iconst 1, 1) := by decide +kernel
theorem dX1_list_158 : decode cX1_list 158 = .ok (.putfield 154, 3) := by decide +kernel
theorem dX1_list_161 : decode cX1_list 161 = .ok (.aload_n 0, 1) := by decide +kernel
theorem dX1_list_162 : decode cX1_list 162 = .ok (.dup, 1) := by decide +kernel
theorem dX1_list_163 : decode cX1_list 163 = .ok (.getfield 218, 3) := by decide +kernel
theorem dX1_list_166 : decode cX1_list 166 = .ok (.iconst 1, 1) := by decide +kernel
theorem dX1_list_167 : decode cX1_list 167 = .ok (.iadd, 1) := by decide +kernel
theorem dX1_list_168 : decode cX1_list 168 = .ok (.putfield 218, 3) := by decide +kernel
theorem dX1_list_171 : decode cX1_list 171 = .ok (.return_, 1) := by decide +kernel
abbrev cX1_outdated : ByteArray := prog_1_method_19_code
def yX1_outdated : MethodName := ⟨RX1, "outdated", "()Z"⟩
theorem dX1_outdated_0 : decode cX1_outdated 0 = .ok (.aload_n 0, 1) := by decide +kernel
theorem dX1_outdated_1 : decode cX1_outdated 1 = .ok (.getfield 154, 3) := by decide +kernel
theorem dX1_outdated_4 : decode cX1_outdated 4 = .ok (.ifCond .ne 5, 3) := by decide +kernel
theorem dX1_outdated_7 : decode cX1_outdated 7 = .ok (.iconst 1, 1) := by decide +kernel
theorem dX1_outdated_8 : decode cX1_outdated 8 = .ok (.ireturn, 1) := by decide +kernel
theorem dX1_outdated_9 : decode cX1_outdated 9 = .ok (.aload_n 0, 1) := by decide +kernel
theorem dX1_outdated_10 : decode cX1_outdated 10 = .ok (.getfield 9, 3) := by decide +kernel
theorem dX1_outdated_13 : decode cX1_outdated 13 = .ok (.ldc2_w 7, 3) := by decide +kernel
theorem dX1_outdated_16 : decode cX1_outdated 16 = .ok (.dmul, 1) := by decide +kernel
theorem dX1_outdated_17 : decode cX1_outdated 17 = .ok (.aload_n 0, 1) := by decide +kernel
theorem dX1_outdated_18 : decode cX1_outdated 18 = .ok (.getfield 9, 3) := by decide +kernel
theorem dX1_outdated_21 : decode cX1_outdated 21 = .ok (.ldc2_w 7, 3) := by decide +kernel
theorem dX1_outdated_24 : decode cX1_outdated 24 = .ok (.dmul, 1) := by decide +kernel
theorem dX1_outdated_25 : decode cX1_outdated 25 = .ok (.dmul, 1) := by decide +kernel
theorem dX1_outdated_26 : decode cX1_outdated 26 = .ok (.dstore_n 1, 1) := by decide +kernel
theorem dX1_outdated_27 : decode cX1_outdated 27 = .ok (.iconst 0, 1) := by decide +kernel
theorem dX1_outdated_28 : decode cX1_outdated 28 = .ok (.istore_n 3, 1) := by decide +kernel
theorem dX1_outdated_29 : decode cX1_outdated 29 = .ok (.iload_n 3, 1) := by decide +kernel
theorem dX1_outdated_30 : decode cX1_outdated 30 = .ok (.aload_n 0, 1) := by decide +kernel
theorem dX1_outdated_31 : decode cX1_outdated 31 = .ok (.getfield 102, 3) := by decide +kernel
theorem dX1_outdated_34 : decode cX1_outdated 34 = .ok (.if_icmp .ge 75, 3) := by decide +kernel
theorem dX1_outdated_37 : decode cX1_outdated 37 = .ok (.aload_n 0, 1) := by decide +kernel
theorem dX1_outdated_38 : decode cX1_outdated 38 = .ok (.getfield 29, 3) := by decide +kernel
theorem dX1_outdated_41 : decode cX1_outdated 41 = .ok (.iload_n 3, 1) := by decide +kernel
theorem dX1_outdated_42 : decode cX1_outdated 42 = .ok (.aaload, 1) := by decide +kernel
theorem dX1_outdated_43 : decode cX1_outdated 43 = .ok (.astore 4, 2) := by decide +kernel
theorem dX1_outdated_45 : decode cX1_outdated 45 = .ok (.aload_n 0, 1) := by decide +kernel
theorem dX1_outdated_46 : decode cX1_outdated 46 = .ok (.getfield 55, 3) := by decide +kernel
theorem dX1_outdated_49 : decode cX1_outdated 49 = .ok (.aload_n 0, 1) := by decide +kernel
theorem dX1_outdated_50 : decode cX1_outdated 50 = .ok (.aload 4, 2) := by decide +kernel
theorem dX1_outdated_52 : decode cX1_outdated 52 = .ok (.getfield 114, 3) := by decide +kernel
theorem dX1_outdated_55 : decode cX1_outdated 55 = .ok (.aload 4, 2) := by decide +kernel
theorem dX1_outdated_57 : decode cX1_outdated 57 = .ok (.getfield 198, 3) := by decide +kernel
theorem dX1_outdated_60 : decode cX1_outdated 60 = .ok (.dsub, 1) := by decide +kernel
theorem dX1_outdated_61 : decode cX1_outdated 61 = .ok (.invokevirtual 117, 3) := by decide +kernel
theorem dX1_outdated_64 : decode cX1_outdated 64 = .ok (.putfield 120, 3) := by decide +kernel
theorem dX1_outdated_67 : decode cX1_outdated 67 = .ok (.aload_n 0, 1) := by decide +kernel
theorem dX1_outdated_68 : decode cX1_outdated 68 = .ok (.getfield 55, 3) := by decide +kernel
theorem dX1_outdated_71 : decode cX1_outdated 71 = .ok (.aload_n 0, 1) := by decide +kernel
theorem dX1_outdated_72 : decode cX1_outdated 72 = .ok (.aload 4, 2) := by decide +kernel
theorem dX1_outdated_74 : decode cX1_outdated 74 = .ok (.getfield 123, 3) := by decide +kernel
theorem dX1_outdated_77 : decode cX1_outdated 77 = .ok (.aload 4, 2) := by decide +kernel
theorem dX1_outdated_79 : decode cX1_outdated 79 = .ok (.getfield 201, 3) := by decide +kernel
theorem dX1_outdated_82 : decode cX1_outdated 82 = .ok (.dsub, 1) := by decide +kernel
theorem dX1_outdated_83 : decode cX1_outdated 83 = .ok (.invokevirtual 117, 3) := by decide +kernel
theorem dX1_outdated_86 : decode cX1_outdated 86 = .ok (.putfield 126, 3) := by decide +kernel
theorem dX1_outdated_89 : decode cX1_outdated 89 = .ok (.aload_n 0, 1) := by decide +kernel
theorem dX1_outdated_90 : decode cX1_outdated 90 = .ok (.getfield 55, 3) := by decide +kernel
theorem dX1_outdated_93 : decode cX1_outdated 93 = .ok (.invokevirtual 204, 3) := by decide +kernel
theorem dX1_outdated_96 : decode cX1_outdated 96 = .ok (.dload_n 1, 1) := by decide +kernel
theorem dX1_outdated_97 : decode cX1_outdated 97 = .ok (.dcmp .l, 1) := by decide +kernel
theorem dX1_outdated_98 : decode cX1_outdated 98 = .ok (.ifCond .le 5, 3) := by decide +kernel
theorem dX1_outdated_101 : decode cX1_outdated 101 = .ok (.iconst 1, 1) := by decide +kernel
theorem dX1_outdated_102 : decode cX1_outdated 102 = .ok (.ireturn, 1) := by decide +kernel
theorem dX1_outdated_103 : decode cX1_outdated 103 = .ok (.iinc 3 1, 3) := by decide +kernel
theorem dX1_outdated_106 : decode cX1_outdated 106 = .ok (.goto (-77), 3) := by decide +kernel
theorem dX1_outdated_109 : decode cX1_outdated 109 = .ok (.iconst 0, 1) := by decide +kernel
theorem dX1_outdated_110 : decode cX1_outdated 110 = .ok (.ireturn, 1) := by decide +kernel
abbrev cX1_forceOn : ByteArray := prog_1_method_23_code
def yX1_forceOn : MethodName := ⟨RX1, "forceOn", "(LParticleBox$Atom;[II)V"⟩
theorem dX1_forceOn_0 : decode cX1_forceOn 0 = .ok (.aload_n 1, 1) := by decide +kernel
theorem dX1_forceOn_1 : decode cX1_forceOn 1 = .ok (.dconst 0, 1) := by decide +kernel
theorem dX1_forceOn_2 : decode cX1_forceOn 2 = .ok (.putfield 232, 3) := by decide +kernel
theorem dX1_forceOn_5 : decode cX1_forceOn 5 = .ok (.aload_n 1, 1) := by decide +kernel
theorem dX1_forceOn_6 : decode cX1_forceOn 6 = .ok (.dconst 0, 1) := by decide +kernel
theorem dX1_forceOn_7 : decode cX1_forceOn 7 = .ok (.putfield 235, 3) := by decide +kernel
theorem dX1_forceOn_10 : decode cX1_forceOn 10 = .ok (.iconst 0, 1) := by decide +kernel
theorem dX1_forceOn_11 : decode cX1_forceOn 11 = .ok (.istore 4, 2) := by decide +kernel
theorem dX1_forceOn_13 : decode cX1_forceOn 13 = .ok (.iload 4, 2) := by decide +kernel
theorem dX1_forceOn_15 : decode cX1_forceOn 15 = .ok (.iload_n 3, 1) := by decide +kernel
theorem dX1_forceOn_16 : decode cX1_forceOn 16 = .ok (.if_icmp .ge 86, 3) := by decide +kernel
theorem dX1_forceOn_19 : decode cX1_forceOn 19 = .ok (.aload_n 0, 1) := by decide +kernel
theorem dX1_forceOn_20 : decode cX1_forceOn 20 = .ok (.getfield 29, 3) := by decide +kernel
theorem dX1_forceOn_23 : decode cX1_forceOn 23 = .ok (.aload_n 2, 1) := by decide +kernel
theorem dX1_forceOn_24 : decode cX1_forceOn 24 = .ok (.iload 4, 2) := by decide +kernel
theorem dX1_forceOn_26 : decode cX1_forceOn 26 = .ok (.iaload, 1) := by decide +kernel
theorem dX1_forceOn_27 : decode cX1_forceOn 27 = .ok (.aaload, 1) := by decide +kernel
theorem dX1_forceOn_28 : decode cX1_forceOn 28 = .ok (.astore 5, 2) := by decide +kernel
theorem dX1_forceOn_30 : decode cX1_forceOn 30 = .ok (.aload_n 0, 1) := by decide +kernel
theorem dX1_forceOn_31 : decode cX1_forceOn 31 = .ok (.aload_n 1, 1) := by decide +kernel
theorem dX1_forceOn_32 : decode cX1_forceOn 32 = .ok (.aload 5, 2) := by decide +kernel
theorem dX1_forceOn_34 : decode cX1_forceOn 34 = .ok (.invokevirtual 214, 3) := by decide +kernel
theorem dX1_forceOn_37 : decode cX1_forceOn 37 = .ok (.aload_n 0, 1) := by decide +kernel
theorem dX1_forceOn_38 : decode cX1_forceOn 38 = .ok (.getfield 55, 3) := by decide +kernel
theorem dX1_forceOn_41 : decode cX1_forceOn 41 = .ok (.invokevirtual 204, 3) := by decide +kernel
theorem dX1_forceOn_44 : decode cX1_forceOn 44 = .ok (.ldc2_w 238, 3) := by decide +kernel
theorem dX1_forceOn_47 : decode cX1_forceOn 47 = .ok (.dcmp .g, 1) := by decide +kernel
theorem dX1_forceOn_48 : decode cX1_forceOn 48 = .ok (.ifCond .ge 9, 3) := by decide +kernel
theorem dX1_forceOn_51 : decode cX1_forceOn 51 = .ok (.aload_n 0, 1) := by decide +kernel
theorem dX1_forceOn_52 : decode cX1_forceOn 52 = .ok (.iconst 0, 1) := by decide +kernel
theorem dX1_forceOn_53 : decode cX1_forceOn 53 = .ok (.invokevirtual 240, 3) := by decide +kernel
theorem dX1_forceOn_56 : decode cX1_forceOn 56 = .ok (.athrow, 1) := by decide +kernel
theorem dX1_forceOn_57 : decode cX1_forceOn 57 = .ok (.aload_n 0, 1) := by decide +kernel
theorem dX1_forceOn_58 : decode cX1_forceOn 58 = .ok (.getfield 55, 3) := by decide +kernel
theorem dX1_forceOn_61 : decode cX1_forceOn 61 = .ok (.invokevirtual 204, 3) := by decide +kernel
theorem dX1_forceOn_64 : decode cX1_forceOn 64 = .ok (.aload_n 0, 1) := by decide +kernel
theorem dX1_forceOn_65 : decode cX1_forceOn 65 = .ok (.getfield 96, 3) := by decide +kernel
theorem dX1_forceOn_68 : decode cX1_forceOn 68 = .ok (.aload_n 0, 1) := by decide +kernel
theorem dX1_forceOn_69 : decode cX1_forceOn 69 = .ok (.getfield 96, 3) := by decide +kernel
theorem dX1_forceOn_72 : decode cX1_forceOn 72 = .ok (.dmul, 1) := by decide +kernel
theorem dX1_forceOn_73 : decode cX1_forceOn 73 = .ok (.dcmp .g, 1) := by decide +kernel
theorem dX1_forceOn_74 : decode cX1_forceOn 74 = .ok (.ifCond .ge 22, 3) := by decide +kernel
theorem dX1_forceOn_77 : decode cX1_forceOn 77 = .ok (.aload_n 0, 1) := by decide +kernel
theorem dX1_forceOn_78 : decode cX1_forceOn 78 = .ok (.aload_n 1, 1) := by decide +kernel
theorem dX1_forceOn_79 : decode cX1_forceOn 79 = .ok (.aload_n 0, 1) := by decide +kernel
theorem dX1_forceOn_80 : decode cX1_forceOn 80 = .ok (.getfield 48, 3) := by decide +kernel
theorem dX1_forceOn_83 : decode cX1_forceOn 83 = .ok (.aload_n 1, 1) := by decide +kernel
theorem dX1_forceOn_84 : decode cX1_forceOn 84 = .ok (.aload 5, 2) := by decide +kernel
theorem dX1_forceOn_86 : decode cX1_forceOn 86 = .ok (.aload_n 0, 1) := by decide +kernel
theorem dX1_forceOn_87 : decode cX1_forceOn 87 = .ok (.getfield 96, 3) := by decide +kernel
theorem dX1_forceOn_90 : decode cX1_forceOn 90 = .ok (.invokevirtual 244, 3) := by decide +kernel
theorem dX1_forceOn_93 : decode cX1_forceOn 93 = .ok (.invokevirtual 248, 3) := by decide +kernel
theorem dX1_forceOn_96 : decode cX1_forceOn 96 = .ok (.iinc 4 1, 3) := by decide +kernel
theorem dX1_forceOn_99 : decode cX1_forceOn 99 = .ok (.goto (-86), 3) := by decide +kernel
theorem dX1_forceOn_102 : decode cX1_forceOn 102 = .ok (.iconst 0, 1) := by decide +kernel
theorem dX1_forceOn_103 : decode cX1_forceOn 103 = .ok (.istore 4, 2) := by decide +kernel
theorem dX1_forceOn_105 : decode cX1_forceOn 105 = .ok (.iload 4, 2) := by decide +kernel
theorem dX1_forceOn_107 : decode cX1_forceOn 107 = .ok (.aload_n 0, 1) := by decide +kernel
theorem dX1_forceOn_108 : decode cX1_forceOn 108 = .ok (.getfield 183, 3) := by decide +kernel
theorem dX1_forceOn_111 : decode cX1_forceOn 111 = .ok (.if_icmp .ge 70, 3) := by decide +kernel
theorem dX1_forceOn_114 : decode cX1_forceOn 114 = .ok (.aload_n 0, 1) := by decide +kernel
theorem dX1_forceOn_115 : decode cX1_forceOn 115 = .ok (.getfield 35, 3) := by decide +kernel
theorem dX1_forceOn_118 : decode cX1_forceOn 118 = .ok (.iload 4, 2) := by decide +kernel
theorem dX1_forceOn_120 : decode cX1_forceOn 120 = .ok (.aaload, 1) := by decide +kernel
theorem dX1_forceOn_121 : decode cX1_forceOn 121 = .ok (.astore 5, 2) := by decide +kernel
theorem dX1_forceOn_123 : decode cX1_forceOn 123 = .ok (.aload 5, 2) := by decide +kernel
theorem dX1_forceOn_125 : decode cX1_forceOn 125 = .ok (.getfield 252, 3) := by decide +kernel
theorem dX1_forceOn_128 : decode cX1_forceOn 128 = .ok (.aload_n 1, 1) := by decide +kernel
theorem dX1_forceOn_129 : decode cX1_forceOn 129 = .ok (.if_acmp .eq 12, 3) := by decide +kernel
theorem dX1_forceOn_132 : decode cX1_forceOn 132 = .ok (.aload 5, 2) := by decide +kernel
theorem dX1_forceOn_134 : decode cX1_forceOn 134 = .ok (.getfield 256, 3) := by decide +kernel
theorem dX1_forceOn_137 : decode cX1_forceOn 137 = .ok (.aload_n 1, 1) := by decide +kernel
theorem dX1_forceOn_138 : decode cX1_forceOn 138 = .ok (.if_acmp .ne 37, 3) := by decide +kernel
theorem dX1_forceOn_141 : decode cX1_forceOn 141 = .ok (.aload_n 0, 1) := by decide +kernel
theorem dX1_forceOn_142 : decode cX1_forceOn 142 = .ok (.aload_n 1, 1) := by decide +kernel
theorem dX1_forceOn_143 : decode cX1_forceOn 143 = .ok (.aload 5, 2) := by decide +kernel
theorem dX1_forceOn_145 : decode cX1_forceOn 145 = .ok (.getfield 252, 3) := by decide +kernel
theorem dX1_forceOn_148 : decode cX1_forceOn 148 = .ok (.aload_n 1, 1) := by decide +kernel
theorem dX1_forceOn_149 : decode cX1_forceOn 149 = .ok (.if_acmp .ne 11, 3) := by decide +kernel
theorem dX1_forceOn_152 : decode cX1_forceOn 152 = .ok (.aload 5, 2) := by decide +kernel
theorem dX1_forceOn_154 : decode cX1_forceOn 154 = .ok (.getfield 256, 3) := by decide +kernel
theorem dX1_forceOn_157 : decode cX1_forceOn 157 = .ok (.goto 8, 3) := by decide +kernel
theorem dX1_forceOn_160 : decode cX1_forceOn 160 = .ok (.aload 5, 2) := by decide +kernel
theorem dX1_forceOn_162 : decode cX1_forceOn 162 = .ok (.getfield 252, 3) := by decide +kernel
theorem dX1_forceOn_165 : decode cX1_forceOn 165 = .ok (.invokevirtual 214, 3) := by decide +kernel
theorem dX1_forceOn_168 : decode cX1_forceOn 168 = .ok (.aload_n 0, 1) := by decide +kernel
theorem dX1_forceOn_169 : decode cX1_forceOn 169 = .ok (.aload_n 1, 1) := by decide +kernel
theorem dX1_forceOn_170 : decode cX1_forceOn 170 = .ok (.aload 5, 2) := by decide +kernel
theorem dX1_forceOn_172 : decode cX1_forceOn 172 = .ok (.invokevirtual 248, 3) := by decide +kernel
theorem dX1_forceOn_175 : decode cX1_forceOn 175 = .ok (.iinc 4 1, 3) := by decide +kernel
theorem dX1_forceOn_178 : decode cX1_forceOn 178 = .ok (.goto (-73), 3) := by decide +kernel
theorem dX1_forceOn_181 : decode cX1_forceOn 181 = .ok (.return_, 1) := by decide +kernel
abbrev cX1_failure : ByteArray := prog_1_method_21_code
def yX1_failure : MethodName := ⟨RX1, "failure", "(I)Ljava/lang/ArithmeticException;"⟩
theorem dX1_failure_0 : decode cX1_failure 0 = .ok (.aload_n 0, 1) := by decide +kernel
theorem dX1_failure_1 : decode cX1_failure 1 = .ok (.iload_n 1, 1) := by decide +kernel
theorem dX1_failure_2 : decode cX1_failure 2 = .ok (.putfield 221, 3) := by decide +kernel
theorem dX1_failure_5 : decode cX1_failure 5 = .ok (.new 224, 3) := by decide +kernel
theorem dX1_failure_8 : decode cX1_failure 8 = .ok (.dup, 1) := by decide +kernel
theorem dX1_failure_9 : decode cX1_failure 9 = .ok (.invokespecial 226, 3) := by decide +kernel
theorem dX1_failure_12 : decode cX1_failure 12 = .ok (.areturn, 1) := by decide +kernel
abbrev cX1_pull : ByteArray := prog_1_method_22_code
def yX1_pull : MethodName := ⟨RX1, "pull", "(LParticleBox$Atom;LParticleBox$Tie;)V"⟩
theorem dX1_pull_0 : decode cX1_pull 0 = .ok (.aload_n 2, 1) := by decide +kernel
theorem dX1_pull_1 : decode cX1_pull 1 = .ok (.aload_n 0, 1) := by decide +kernel
theorem dX1_pull_2 : decode cX1_pull 2 = .ok (.getfield 55, 3) := by decide +kernel
theorem dX1_pull_5 : decode cX1_pull 5 = .ok (.invokevirtual 204, 3) := by decide +kernel
theorem dX1_pull_8 : decode cX1_pull 8 = .ok (.invokeinterface 227 3, 5) := by decide +kernel
theorem dX1_pull_13 : decode cX1_pull 13 = .ok (.dstore_n 3, 1) := by decide +kernel
theorem dX1_pull_14 : decode cX1_pull 14 = .ok (.aload_n 1, 1) := by decide +kernel
theorem dX1_pull_15 : decode cX1_pull 15 = .ok (.aload_n 1, 1) := by decide +kernel
theorem dX1_pull_16 : decode cX1_pull 16 = .ok (.getfield 232, 3) := by decide +kernel
theorem dX1_pull_19 : decode cX1_pull 19 = .ok (.dload_n 3, 1) := by decide +kernel
theorem dX1_pull_20 : decode cX1_pull 20 = .ok (.aload_n 0, 1) := by decide +kernel
theorem dX1_pull_21 : decode cX1_pull 21 = .ok (.getfield 55, 3) := by decide +kernel
theorem dX1_pull_24 : decode cX1_pull 24 = .ok (.getfield 120, 3) := by decide +kernel
theorem dX1_pull_27 : decode cX1_pull 27 = .ok (.dmul, 1) := by decide +kernel
theorem dX1_pull_28 : decode cX1_pull 28 = .ok (.dadd, 1) := by decide +kernel
theorem dX1_pull_29 : decode cX1_pull 29 = .ok (.putfield 232, 3) := by decide +kernel
theorem dX1_pull_32 : decode cX1_pull 32 = .ok (.aload_n 1, 1) := by decide +kernel
theorem dX1_pull_33 : decode cX1_pull 33 = .ok (.aload_n 1, 1) := by decide +kernel
theorem dX1_pull_34 : decode cX1_pull 34 = .ok (.getfield 235, 3) := by decide +kernel
theorem dX1_pull_37 : decode cX1_pull 37 = .ok (.dload_n 3, 1) := by decide +kernel
theorem dX1_pull_38 : decode cX1_pull 38 = .ok (.aload_n 0, 1) := by decide +kernel
theorem dX1_pull_39 : decode cX1_pull 39 = .ok (.getfield 55, 3) := by decide +kernel
theorem dX1_pull_42 : decode cX1_pull 42 = .ok (.getfield 126, 3) := by decide +kernel
theorem dX1_pull_45 : decode cX1_pull 45 = .ok (.dmul, 1) := by decide +kernel
theorem dX1_pull_46 : decode cX1_pull 46 = .ok (.dadd, 1) := by decide +kernel
theorem dX1_pull_47 : decode cX1_pull 47 = .ok (.putfield 235, 3) := by decide +kernel
theorem dX1_pull_50 : decode cX1_pull 50 = .ok (.return_, 1) := by decide +kernel
abbrev cX1_pushAll : ByteArray := prog_1_method_28_code
def yX1_pushAll : MethodName := ⟨RX1, "pushAll", "(D)V"⟩
theorem dX1_pushAll_0 : decode cX1_pushAll 0 = .ok (.iconst 0, 1) := by decide +kernel
theorem dX1_pushAll_1 : decode cX1_pushAll 1 = .ok (.istore_n 3, 1) := by decide +kernel
theorem dX1_pushAll_2 : decode cX1_pushAll 2 = .ok (.iload_n 3, 1) := by decide +kernel
theorem dX1_pushAll_3 : decode cX1_pushAll 3 = .ok (.aload_n 0, 1) := by decide +kernel
theorem dX1_pushAll_4 : decode cX1_pushAll 4 = .ok (.getfield 102, 3) := by decide +kernel
theorem dX1_pushAll_7 : decode cX1_pushAll 7 = .ok (.if_icmp .ge 19, 3) := by decide +kernel
theorem dX1_pushAll_10 : decode cX1_pushAll 10 = .ok (.aload_n 0, 1) := by decide +kernel
theorem dX1_pushAll_11 : decode cX1_pushAll 11 = .ok (.getfield 29, 3) := by decide +kernel
theorem dX1_pushAll_14 : decode cX1_pushAll 14 = .ok (.iload_n 3, 1) := by decide +kernel
theorem dX1_pushAll_15 : decode cX1_pushAll 15 = .ok (.aaload, 1) := by decide +kernel
theorem dX1_pushAll_16 : decode cX1_pushAll 16 = .ok (.dload_n 1, 1) := by decide +kernel
theorem dX1_pushAll_17 : decode cX1_pushAll 17 = .ok (.invokevirtual 293, 3) := by decide +kernel
theorem dX1_pushAll_20 : decode cX1_pushAll 20 = .ok (.iinc 3 1, 3) := by decide +kernel
theorem dX1_pushAll_23 : decode cX1_pushAll 23 = .ok (.goto (-21), 3) := by decide +kernel
theorem dX1_pushAll_26 : decode cX1_pushAll 26 = .ok (.return_, 1) := by decide +kernel
abbrev cX1_checkSpeeds : ByteArray := prog_1_method_27_code
def yX1_checkSpeeds : MethodName := ⟨RX1, "checkSpeeds", "()V"⟩
theorem dX1_checkSpeeds_0 : decode cX1_checkSpeeds 0 = .ok (.iconst 0, 1) := by decide +kernel
theorem dX1_checkSpeeds_1 : decode cX1_checkSpeeds 1 = .ok (.istore_n 1, 1) := by decide +kernel
theorem dX1_checkSpeeds_2 : decode cX1_checkSpeeds 2 = .ok (.iload_n 1, 1) := by decide +kernel
theorem dX1_checkSpeeds_3 : decode cX1_checkSpeeds 3 = .ok (.aload_n 0, 1) := by decide +kernel
theorem dX1_checkSpeeds_4 : decode cX1_checkSpeeds 4 = .ok (.getfield 102, 3) := by decide +kernel
theorem dX1_checkSpeeds_7 : decode cX1_checkSpeeds 7 = .ok (.if_icmp .ge 27, 3) := by decide +kernel
theorem dX1_checkSpeeds_10 : decode cX1_checkSpeeds 10 = .ok (.aload_n 0, 1) := by decide +kernel
theorem dX1_checkSpeeds_11 : decode cX1_checkSpeeds 11 = .ok (.getfield 29, 3) := by decide +kernel
theorem dX1_checkSpeeds_14 : decode cX1_checkSpeeds 14 = .ok (.iload_n 1, 1) := by decide +kernel
theorem dX1_checkSpeeds_15 : decode cX1_checkSpeeds 15 = .ok (.aaload, 1) := by decide +kernel
theorem dX1_checkSpeeds_16 : decode cX1_checkSpeeds 16 = .ok (.invokevirtual 290, 3) := by decide +kernel
theorem dX1_checkSpeeds_19 : decode cX1_checkSpeeds 19 = .ok (.ifCond .eq 9, 3) := by decide +kernel
theorem dX1_checkSpeeds_22 : decode cX1_checkSpeeds 22 = .ok (.aload_n 0, 1) := by decide +kernel
theorem dX1_checkSpeeds_23 : decode cX1_checkSpeeds 23 = .ok (.iconst 2, 1) := by decide +kernel
theorem dX1_checkSpeeds_24 : decode cX1_checkSpeeds 24 = .ok (.invokevirtual 240, 3) := by decide +kernel
theorem dX1_checkSpeeds_27 : decode cX1_checkSpeeds 27 = .ok (.athrow, 1) := by decide +kernel
theorem dX1_checkSpeeds_28 : decode cX1_checkSpeeds 28 = .ok (.iinc 1 1, 3) := by decide +kernel
theorem dX1_checkSpeeds_31 : decode cX1_checkSpeeds 31 = .ok (.goto (-29), 3) := by decide +kernel
theorem dX1_checkSpeeds_34 : decode cX1_checkSpeeds 34 = .ok (.return_, 1) := by decide +kernel
abbrev cX1_straightenAll : ByteArray := prog_1_method_26_code
def yX1_straightenAll : MethodName := ⟨RX1, "straightenAll", "()I"⟩
theorem dX1_straightenAll_0 : decode cX1_straightenAll 0 = .ok (.iconst 0, 1) := by decide +kernel
theorem dX1_straightenAll_1 : decode cX1_straightenAll 1 = .ok (.istore_n 1, 1) := by decide +kernel
theorem dX1_straightenAll_2 : decode cX1_straightenAll 2 = .ok (.iload_n 1, 1) := by decide +kernel
theorem dX1_straightenAll_3 : decode cX1_straightenAll 3 = .ok (.bipush 40, 2) := by decide +kernel
theorem dX1_straightenAll_5 : decode cX1_straightenAll 5 = .ok (.if_icmp .ge 46, 3) := by decide +kernel
theorem dX1_straightenAll_8 : decode cX1_straightenAll 8 = .ok (.iconst 0, 1) := by decide +kernel
theorem dX1_straightenAll_9 : decode cX1_straightenAll 9 = .ok (.istore_n 2, 1) := by decide +kernel
theorem dX1_straightenAll_10 : decode cX1_straightenAll 10 = .ok (.iconst 0, 1) := by decide +kernel
theorem dX1_straightenAll_11 : decode cX1_straightenAll 11 = .ok (.istore_n 3, 1) := by decide +kernel
theorem dX1_straightenAll_12 : decode cX1_straightenAll 12 = .ok (.iload_n 3, 1) := by decide +kernel
theorem dX1_straightenAll_13 : decode cX1_straightenAll 13 = .ok (.aload_n 0, 1) := by decide +kernel
theorem dX1_straightenAll_14 : decode cX1_straightenAll 14 = .ok (.getfield 189, 3) := by decide +kernel
theorem dX1_straightenAll_17 : decode cX1_straightenAll 17 = .ok (.if_icmp .ge 22, 3) := by decide +kernel
theorem dX1_straightenAll_20 : decode cX1_straightenAll 20 = .ok (.iload_n 2, 1) := by decide +kernel
theorem dX1_straightenAll_21 : decode cX1_straightenAll 21 = .ok (.aload_n 0, 1) := by decide +kernel
theorem dX1_straightenAll_22 : decode cX1_straightenAll 22 = .ok (.aload_n 0, 1) := by decide +kernel
theorem dX1_straightenAll_23 : decode cX1_straightenAll 23 = .ok (.getfield 41, 3) := by decide +kernel
theorem dX1_straightenAll_26 : decode cX1_straightenAll 26 = .ok (.iload_n 3, 1) := by decide +kernel
theorem dX1_straightenAll_27 : decode cX1_straightenAll 27 = .ok (.aaload, 1) := by decide +kernel
theorem dX1_straightenAll_28 : decode cX1_straightenAll 28 = .ok (.invokevirtual 286, 3) := by decide +kernel
theorem dX1_straightenAll_31 : decode cX1_straightenAll 31 = .ok (.ior, 1) := by decide +kernel
theorem dX1_straightenAll_32 : decode cX1_straightenAll 32 = .ok (.istore_n 2, 1) := by decide +kernel
theorem dX1_straightenAll_33 : decode cX1_straightenAll 33 = .ok (.iinc 3 1, 3) := by decide +kernel
theorem dX1_straightenAll_36 : decode cX1_straightenAll 36 = .ok (.goto (-24), 3) := by decide +kernel
theorem dX1_straightenAll_39 : decode cX1_straightenAll 39 = .ok (.iload_n 2, 1) := by decide +kernel
theorem dX1_straightenAll_40 : decode cX1_straightenAll 40 = .ok (.ifCond .ne 5, 3) := by decide +kernel
theorem dX1_straightenAll_43 : decode cX1_straightenAll 43 = .ok (.iload_n 1, 1) := by decide +kernel
theorem dX1_straightenAll_44 : decode cX1_straightenAll 44 = .ok (.ireturn, 1) := by decide +kernel
theorem dX1_straightenAll_45 : decode cX1_straightenAll 45 = .ok (.iinc 1 1, 3) := by decide +kernel
theorem dX1_straightenAll_48 : decode cX1_straightenAll 48 = .ok (.goto (-46), 3) := by decide +kernel
theorem dX1_straightenAll_51 : decode cX1_straightenAll 51 = .ok (.aload_n 0, 1) := by decide +kernel
theorem dX1_straightenAll_52 : decode cX1_straightenAll 52 = .ok (.iconst 1, 1) := by decide +kernel
theorem dX1_straightenAll_53 : decode cX1_straightenAll 53 = .ok (.invokevirtual 240, 3) := by decide +kernel
theorem dX1_straightenAll_56 : decode cX1_straightenAll 56 = .ok (.athrow, 1) := by decide +kernel
abbrev cX1_straighten : ByteArray := prog_1_method_25_code
def yX1_straighten : MethodName := ⟨RX1, "straighten", "(LParticleBox$Rod;)Z"⟩
theorem dX1_straighten_0 : decode cX1_straighten 0 = .ok (.aload_n 1, 1) := by decide +kernel
theorem dX1_straighten_1 : decode cX1_straighten 1 = .ok (.getfield 266, 3) := by decide +kernel
theorem dX1_straighten_4 : decode cX1_straighten 4 = .ok (.astore_n 2, 1) := by decide +kernel
theorem dX1_straighten_5 : decode cX1_straighten 5 = .ok (.aload_n 1, 1) := by decide +kernel
theorem dX1_straighten_6 : decode cX1_straighten 6 = .ok (.getfield 267, 3) := by decide +kernel
theorem dX1_straighten_9 : decode cX1_straighten 9 = .ok (.astore_n 3, 1) := by decide +kernel
theorem dX1_straighten_10 : decode cX1_straighten 10 = .ok (.aload_n 0, 1) := by decide +kernel
theorem dX1_straighten_11 : decode cX1_straighten 11 = .ok (.aload_n 2, 1) := by decide +kernel
theorem dX1_straighten_12 : decode cX1_straighten 12 = .ok (.aload_n 3, 1) := by decide +kernel
theorem dX1_straighten_13 : decode cX1_straighten 13 = .ok (.invokevirtual 214, 3) := by decide +kernel
theorem dX1_straighten_16 : decode cX1_straighten 16 = .ok (.aload_n 0, 1) := by decide +kernel
theorem dX1_straighten_17 : decode cX1_straighten 17 = .ok (.getfield 59, 3) := by decide +kernel
theorem dX1_straighten_20 : decode cX1_straighten 20 = .ok (.aload_n 0, 1) := by decide +kernel
theorem dX1_straighten_21 : decode cX1_straighten 21 = .ok (.getfield 55, 3) := by decide +kernel
theorem dX1_straighten_24 : decode cX1_straighten 24 = .ok (.getfield 120, 3) := by decide +kernel
theorem dX1_straighten_27 : decode cX1_straighten 27 = .ok (.putfield 120, 3) := by decide +kernel
theorem dX1_straighten_30 : decode cX1_straighten 30 = .ok (.aload_n 0, 1) := by decide +kernel
theorem dX1_straighten_31 : decode cX1_straighten 31 = .ok (.getfield 59, 3) := by decide +kernel
theorem dX1_straighten_34 : decode cX1_straighten 34 = .ok (.aload_n 0, 1) := by decide +kernel
theorem dX1_straighten_35 : decode cX1_straighten 35 = .ok (.getfield 55, 3) := by decide +kernel
theorem dX1_straighten_38 : decode cX1_straighten 38 = .ok (.getfield 126, 3) := by decide +kernel
theorem dX1_straighten_41 : decode cX1_straighten 41 = .ok (.putfield 126, 3) := by decide +kernel
theorem dX1_straighten_44 : decode cX1_straighten 44 = .ok (.aload_n 0, 1) := by decide +kernel
theorem dX1_straighten_45 : decode cX1_straighten 45 = .ok (.getfield 55, 3) := by decide +kernel
theorem dX1_straighten_48 : decode cX1_straighten 48 = .ok (.aload_n 0, 1) := by decide +kernel
theorem dX1_straighten_49 : decode cX1_straighten 49 = .ok (.aload_n 3, 1) := by decide +kernel
theorem dX1_straighten_50 : decode cX1_straighten 50 = .ok (.getfield 268, 3) := by decide +kernel
theorem dX1_straighten_53 : decode cX1_straighten 53 = .ok (.aload_n 2, 1) := by decide +kernel
theorem dX1_straighten_54 : decode cX1_straighten 54 = .ok (.getfield 268, 3) := by decide +kernel
theorem dX1_straighten_57 : decode cX1_straighten 57 = .ok (.dsub, 1) := by decide +kernel
theorem dX1_straighten_58 : decode cX1_straighten 58 = .ok (.invokevirtual 117, 3) := by decide +kernel
theorem dX1_straighten_61 : decode cX1_straighten 61 = .ok (.putfield 120, 3) := by decide +kernel
theorem dX1_straighten_64 : decode cX1_straighten 64 = .ok (.aload_n 0, 1) := by decide +kernel
theorem dX1_straighten_65 : decode cX1_straighten 65 = .ok (.getfield 55, 3) := by decide +kernel
theorem dX1_straighten_68 : decode cX1_straighten 68 = .ok (.aload_n 0, 1) := by decide +kernel
theorem dX1_straighten_69 : decode cX1_straighten 69 = .ok (.aload_n 3, 1) := by decide +kernel
theorem dX1_straighten_70 : decode cX1_straighten 70 = .ok (.getfield 271, 3) := by decide +kernel
theorem dX1_straighten_73 : decode cX1_straighten 73 = .ok (.aload_n 2, 1) := by decide +kernel
theorem dX1_straighten_74 : decode cX1_straighten 74 = .ok (.getfield 271, 3) := by decide +kernel
theorem dX1_straighten_77 : decode cX1_straighten 77 = .ok (.dsub, 1) := by decide +kernel
theorem dX1_straighten_78 : decode cX1_straighten 78 = .ok (.invokevirtual 117, 3) := by decide +kernel
theorem dX1_straighten_81 : decode cX1_straighten 81 = .ok (.putfield 126, 3) := by decide +kernel
theorem dX1_straighten_84 : decode cX1_straighten 84 = .ok (.aload_n 0, 1) := by decide +kernel
theorem dX1_straighten_85 : decode cX1_straighten 85 = .ok (.getfield 55, 3) := by decide +kernel
theorem dX1_straighten_88 : decode cX1_straighten 88 = .ok (.invokevirtual 204, 3) := by decide +kernel
theorem dX1_straighten_91 : decode cX1_straighten 91 = .ok (.aload_n 1, 1) := by decide +kernel
theorem dX1_straighten_92 : decode cX1_straighten 92 = .ok (.getfield 274, 3) := by decide +kernel
theorem dX1_straighten_95 : decode cX1_straighten 95 = .ok (.aload_n 1, 1) := by decide +kernel
theorem dX1_straighten_96 : decode cX1_straighten 96 = .ok (.getfield 274, 3) := by decide +kernel
theorem dX1_straighten_99 : decode cX1_straighten 99 = .ok (.dmul, 1) := by decide +kernel
theorem dX1_straighten_100 : decode cX1_straighten 100 = .ok (.dsub, 1) := by decide +kernel
theorem dX1_straighten_101 : decode cX1_straighten 101 = .ok (.dstore 4, 2) := by decide +kernel
theorem dX1_straighten_103 : decode cX1_straighten 103 = .ok (.dload 4, 2) := by decide +kernel
theorem dX1_straighten_105 : decode cX1_straighten 105 = .ok (.dconst 0, 1) := by decide +kernel
theorem dX1_straighten_106 : decode cX1_straighten 106 = .ok (.dcmp .g, 1) := by decide +kernel
theorem dX1_straighten_107 : decode cX1_straighten 107 = .ok (.ifCond .ge 9, 3) := by decide +kernel
theorem dX1_straighten_110 : decode cX1_straighten 110 = .ok (.dload 4, 2) := by decide +kernel
theorem dX1_straighten_112 : decode cX1_straighten 112 = .ok (.dneg, 1) := by decide +kernel
theorem dX1_straighten_113 : decode cX1_straighten 113 = .ok (.goto 5, 3) := by decide +kernel
theorem dX1_straighten_116 : decode cX1_straighten 116 = .ok (.dload 4, 2) := by decide +kernel
theorem dX1_straighten_118 : decode cX1_straighten 118 = .ok (.ldc2_w 277, 3) := by decide +kernel
theorem dX1_straighten_121 : decode cX1_straighten 121 = .ok (.aload_n 1, 1) := by decide +kernel
theorem dX1_straighten_122 : decode cX1_straighten 122 = .ok (.getfield 274, 3) := by decide +kernel
theorem dX1_straighten_125 : decode cX1_straighten 125 = .ok (.dmul, 1) := by decide +kernel
theorem dX1_straighten_126 : decode cX1_straighten 126 = .ok (.aload_n 1, 1) := by decide +kernel
theorem dX1_straighten_127 : decode cX1_straighten 127 = .ok (.getfield 274, 3) := by decide +kernel
theorem dX1_straighten_130 : decode cX1_straighten 130 = .ok (.dmul, 1) := by decide +kernel
theorem dX1_straighten_131 : decode cX1_straighten 131 = .ok (.dcmp .g, 1) := by decide +kernel
theorem dX1_straighten_132 : decode cX1_straighten 132 = .ok (.ifCond .gt 5, 3) := by decide +kernel
theorem dX1_straighten_135 : decode cX1_straighten 135 = .ok (.iconst 0, 1) := by decide +kernel
theorem dX1_straighten_136 : decode cX1_straighten 136 = .ok (.ireturn, 1) := by decide +kernel
theorem dX1_straighten_137 : decode cX1_straighten 137 = .ok (.aload_n 2, 1) := by decide +kernel
theorem dX1_straighten_138 : decode cX1_straighten 138 = .ok (.invokevirtual 279, 3) := by decide +kernel
theorem dX1_straighten_141 : decode cX1_straighten 141 = .ok (.dstore 6, 2) := by decide +kernel
theorem dX1_straighten_143 : decode cX1_straighten 143 = .ok (.aload_n 3, 1) := by decide +kernel
theorem dX1_straighten_144 : decode cX1_straighten 144 = .ok (.invokevirtual 279, 3) := by decide +kernel
theorem dX1_straighten_147 : decode cX1_straighten 147 = .ok (.dstore 8, 2) := by decide +kernel
theorem dX1_straighten_149 : decode cX1_straighten 149 = .ok (.aload_n 0, 1) := by decide +kernel
theorem dX1_straighten_150 : decode cX1_straighten 150 = .ok (.getfield 55, 3) := by decide +kernel
theorem dX1_straighten_153 : decode cX1_straighten 153 = .ok (.getfield 120, 3) := by decide +kernel
theorem dX1_straighten_156 : decode cX1_straighten 156 = .ok (.aload_n 0, 1) := by decide +kernel
theorem dX1_straighten_157 : decode cX1_straighten 157 = .ok (.getfield 59, 3) := by decide +kernel
theorem dX1_straighten_160 : decode cX1_straighten 160 = .ok (.getfield 120, 3) := by decide +kernel
theorem dX1_straighten_163 : decode cX1_straighten 163 = .ok (.dmul, 1) := by decide +kernel
theorem dX1_straighten_164 : decode cX1_straighten 164 = .ok (.aload_n 0, 1) := by decide +kernel
theorem dX1_straighten_165 : decode cX1_straighten 165 = .ok (.getfield 55, 3) := by decide +kernel
theorem dX1_straighten_168 : decode cX1_straighten 168 = .ok (.getfield 126, 3) := by decide +kernel
theorem dX1_straighten_171 : decode cX1_straighten 171 = .ok (.aload_n 0, 1) := by decide +kernel
theorem dX1_straighten_172 : decode cX1_straighten 172 = .ok (.getfield 59, 3) := by decide +kernel
theorem dX1_straighten_175 : decode cX1_straighten 175 = .ok (.getfield 126, 3) := by decide +kernel
theorem dX1_straighten_178 : decode cX1_straighten 178 = .ok (.dmul, 1) := by decide +kernel
theorem dX1_straighten_179 : decode cX1_straighten 179 = .ok (.dadd, 1) := by decide +kernel
theorem dX1_straighten_180 : decode cX1_straighten 180 = .ok (.dstore 10, 2) := by decide +kernel
theorem dX1_straighten_182 : decode cX1_straighten 182 = .ok (.ldc2_w 282, 3) := by decide +kernel
theorem dX1_straighten_185 : decode cX1_straighten 185 = .ok (.dload 10, 2) := by decide +kernel
theorem dX1_straighten_187 : decode cX1_straighten 187 = .ok (.dmul, 1) := by decide +kernel
theorem dX1_straighten_188 : decode cX1_straighten 188 = .ok (.dload 6, 2) := by decide +kernel
theorem dX1_straighten_190 : decode cX1_straighten 190 = .ok (.dload 8, 2) := by decide +kernel
theorem dX1_straighten_192 : decode cX1_straighten 192 = .ok (.dadd, 1) := by decide +kernel
theorem dX1_straighten_193 : decode cX1_straighten 193 = .ok (.dmul, 1) := by decide +kernel
theorem dX1_straighten_194 : decode cX1_straighten 194 = .ok (.dstore 12, 2) := by decide +kernel
theorem dX1_straighten_196 : decode cX1_straighten 196 = .ok (.dload 12, 2) := by decide +kernel
theorem dX1_straighten_198 : decode cX1_straighten 198 = .ok (.ldc2_w 284, 3) := by decide +kernel
theorem dX1_straighten_201 : decode cX1_straighten 201 = .ok (.dcmp .l, 1) := by decide +kernel
theorem dX1_straighten_202 : decode cX1_straighten 202 = .ok (.ifCond .le 18, 3) := by decide +kernel
theorem dX1_straighten_205 : decode cX1_straighten 205 = .ok (.dload 12, 2) := by decide +kernel
theorem dX1_straighten_207 : decode cX1_straighten 207 = .ok (.ldc2_w 277, 3) := by decide +kernel
theorem dX1_straighten_210 : decode cX1_straighten 210 = .ok (.dcmp .g, 1) := by decide +kernel
theorem dX1_straighten_211 : decode cX1_straighten 211 = .ok (.ifCond .ge 9, 3) := by decide +kernel
theorem dX1_straighten_214 : decode cX1_straighten 214 = .ok (.aload_n 0, 1) := by decide +kernel
theorem dX1_straighten_215 : decode cX1_straighten 215 = .ok (.iconst 1, 1) := by decide +kernel
theorem dX1_straighten_216 : decode cX1_straighten 216 = .ok (.invokevirtual 240, 3) := by decide +kernel
theorem dX1_straighten_219 : decode cX1_straighten 219 = .ok (.athrow, 1) := by decide +kernel
theorem dX1_straighten_220 : decode cX1_straighten 220 = .ok (.dload 4, 2) := by decide +kernel
theorem dX1_straighten_222 : decode cX1_straighten 222 = .ok (.dload 12, 2) := by decide +kernel
theorem dX1_straighten_224 : decode cX1_straighten 224 = .ok (.ddiv, 1) := by decide +kernel
theorem dX1_straighten_225 : decode cX1_straighten 225 = .ok (.dstore 14, 2) := by decide +kernel
theorem dX1_straighten_227 : decode cX1_straighten 227 = .ok (.aload_n 2, 1) := by decide +kernel
theorem dX1_straighten_228 : decode cX1_straighten 228 = .ok (.aload_n 2, 1) := by decide +kernel
theorem dX1_straighten_229 : decode cX1_straighten 229 = .ok (.getfield 268, 3) := by decide +kernel
theorem dX1_straighten_232 : decode cX1_straighten 232 = .ok (.dload 14, 2) := by decide +kernel
theorem dX1_straighten_234 : decode cX1_straighten 234 = .ok (.dload 6, 2) := by decide +kernel
theorem dX1_straighten_236 : decode cX1_straighten 236 = .ok (.dmul, 1) := by decide +kernel
theorem dX1_straighten_237 : decode cX1_straighten 237 = .ok (.aload_n 0, 1) := by decide +kernel
theorem dX1_straighten_238 : decode cX1_straighten 238 = .ok (.getfield 59, 3) := by decide +kernel
theorem dX1_straighten_241 : decode cX1_straighten 241 = .ok (.getfield 120, 3) := by decide +kernel
theorem dX1_straighten_244 : decode cX1_straighten 244 = .ok (.dmul, 1) := by decide +kernel
theorem dX1_straighten_245 : decode cX1_straighten 245 = .ok (.dadd, 1) := by decide +kernel
theorem dX1_straighten_246 : decode cX1_straighten 246 = .ok (.putfield 268, 3) := by decide +kernel
theorem dX1_straighten_249 : decode cX1_straighten 249 = .ok (.aload_n 2, 1) := by decide +kernel
theorem dX1_straighten_250 : decode cX1_straighten 250 = .ok (.aload_n 2, 1) := by decide +kernel
theorem dX1_straighten_251 : decode cX1_straighten 251 = .ok (.getfield 271, 3) := by decide +kernel
theorem dX1_straighten_254 : decode cX1_straighten 254 = .ok (.dload 14, 2) := by decide +kernel
theorem dX1_straighten_256 : decode cX1_straighten 256 = .ok (.dload 6, 2) := by decide +kernel
theorem dX1_straighten_258 : decode cX1_straighten 258 = .ok (.dmul, 1) := by decide +kernel
theorem dX1_straighten_259 : decode cX1_straighten 259 = .ok (.aload_n 0, 1) := by decide +kernel
theorem dX1_straighten_260 : decode cX1_straighten 260 = .ok (.getfield 59, 3) := by decide +kernel
theorem dX1_straighten_263 : decode cX1_straighten 263 = .ok (.getfield 126, 3) := by decide +kernel
theorem dX1_straighten_266 : decode cX1_straighten 266 = .ok (.dmul, 1) := by decide +kernel
theorem dX1_straighten_267 : decode cX1_straighten 267 = .ok (.dadd, 1) := by decide +kernel
theorem dX1_straighten_268 : decode cX1_straighten 268 = .ok (.putfield 271, 3) := by decide +kernel
theorem dX1_straighten_271 : decode cX1_straighten 271 = .ok (.aload_n 3, 1) := by decide +kernel
theorem dX1_straighten_272 : decode cX1_straighten 272 = .ok (.aload_n 3, 1) := by decide +kernel
theorem dX1_straighten_273 : decode cX1_straighten 273 = .ok (.getfield 268, 3) := by decide +kernel
theorem dX1_straighten_276 : decode cX1_straighten 276 = .ok (.dload 14, 2) := by decide +kernel
theorem dX1_straighten_278 : decode cX1_straighten 278 = .ok (.dload 8, 2) := by decide +kernel
theorem dX1_straighten_280 : decode cX1_straighten 280 = .ok (.dmul, 1) := by decide +kernel
theorem dX1_straighten_281 : decode cX1_straighten 281 = .ok (.aload_n 0, 1) := by decide +kernel
theorem dX1_straighten_282 : decode cX1_straighten 282 = .ok (.getfield 59, 3) := by decide +kernel
theorem dX1_straighten_285 : decode cX1_straighten 285 = .ok (.getfield 120, 3) := by decide +kernel
theorem dX1_straighten_288 : decode cX1_straighten 288 = .ok (.dmul, 1) := by decide +kernel
theorem dX1_straighten_289 : decode cX1_straighten 289 = .ok (.dsub, 1) := by decide +kernel
theorem dX1_straighten_290 : decode cX1_straighten 290 = .ok (.putfield 268, 3) := by decide +kernel
theorem dX1_straighten_293 : decode cX1_straighten 293 = .ok (.aload_n 3, 1) := by decide +kernel
theorem dX1_straighten_294 : decode cX1_straighten 294 = .ok (.aload_n 3, 1) := by decide +kernel
theorem dX1_straighten_295 : decode cX1_straighten 295 = .ok (.getfield 271, 3) := by decide +kernel
theorem dX1_straighten_298 : decode cX1_straighten 298 = .ok (.dload 14, 2) := by decide +kernel
theorem dX1_straighten_300 : decode cX1_straighten 300 = .ok (.dload 8, 2) := by decide +kernel
theorem dX1_straighten_302 : decode cX1_straighten 302 = .ok (.dmul, 1) := by decide +kernel
theorem dX1_straighten_303 : decode cX1_straighten 303 = .ok (.aload_n 0, 1) := by decide +kernel
theorem dX1_straighten_304 : decode cX1_straighten 304 = .ok (.getfield 59, 3) := by decide +kernel
theorem dX1_straighten_307 : decode cX1_straighten 307 = .ok (.getfield 126, 3) := by decide +kernel
theorem dX1_straighten_310 : decode cX1_straighten 310 = .ok (.dmul, 1) := by decide +kernel
theorem dX1_straighten_311 : decode cX1_straighten 311 = .ok (.dsub, 1) := by decide +kernel
theorem dX1_straighten_312 : decode cX1_straighten 312 = .ok (.putfield 271, 3) := by decide +kernel
theorem dX1_straighten_315 : decode cX1_straighten 315 = .ok (.iconst 1, 1) := by decide +kernel
theorem dX1_straighten_316 : decode cX1_straighten 316 = .ok (.ireturn, 1) := by decide +kernel
