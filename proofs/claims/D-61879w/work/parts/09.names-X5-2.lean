set_option maxRecDepth 100000
abbrev cX5_forces : ByteArray := prog_10_method_28_code
def yX5_forces : MethodName := ⟨RX5, "forces", "()Z"⟩
theorem dX5_forces_0 : decode cX5_forces 0 = .ok (.aload_n 0, 1) := by decide +kernel
theorem dX5_forces_1 : decode cX5_forces 1 = .ok (.invokevirtual 208, 3) := by decide +kernel
theorem dX5_forces_4 : decode cX5_forces 4 = .ok (.aload_n 0, 1) := by decide +kernel
theorem dX5_forces_5 : decode cX5_forces 5 = .ok (.invokevirtual 211, 3) := by decide +kernel
theorem dX5_forces_8 : decode cX5_forces 8 = .ok (.ifCond .eq 5, 3) := by decide +kernel
theorem dX5_forces_11 : decode cX5_forces 11 = .ok (.iconst 0, 1) := by decide +kernel
theorem dX5_forces_12 : decode cX5_forces 12 = .ok (.ireturn, 1) := by decide +kernel
theorem dX5_forces_13 : decode cX5_forces 13 = .ok (.iconst 0, 1) := by decide +kernel
theorem dX5_forces_14 : decode cX5_forces 14 = .ok (.istore_n 1, 1) := by decide +kernel
theorem dX5_forces_15 : decode cX5_forces 15 = .ok (.iload_n 1, 1) := by decide +kernel
theorem dX5_forces_16 : decode cX5_forces 16 = .ok (.aload_n 0, 1) := by decide +kernel
theorem dX5_forces_17 : decode cX5_forces 17 = .ok (.getfield 119, 3) := by decide +kernel
theorem dX5_forces_20 : decode cX5_forces 20 = .ok (.if_icmp .ge 14, 3) := by decide +kernel
theorem dX5_forces_23 : decode cX5_forces 23 = .ok (.aload_n 0, 1) := by decide +kernel
theorem dX5_forces_24 : decode cX5_forces 24 = .ok (.iload_n 1, 1) := by decide +kernel
theorem dX5_forces_25 : decode cX5_forces 25 = .ok (.invokevirtual 215, 3) := by decide +kernel
theorem dX5_forces_28 : decode cX5_forces 28 = .ok (.iinc 1 1, 3) := by decide +kernel
theorem dX5_forces_31 : decode cX5_forces 31 = .ok (.goto (-16), 3) := by decide +kernel
theorem dX5_forces_34 : decode cX5_forces 34 = .ok (.iconst 1, 1) := by decide +kernel
theorem dX5_forces_35 : decode cX5_forces 35 = .ok (.ireturn, 1) := by decide +kernel
abbrev cX5_neighbours : ByteArray := prog_10_method_27_code
def yX5_neighbours : MethodName := ⟨RX5, "neighbours", "()V"⟩
theorem dX5_neighbours_0 : decode cX5_neighbours 0 = .ok (.aload_n 0, 1) := by decide +kernel
theorem dX5_neighbours_1 : decode cX5_neighbours 1 = .ok (.getfield 161, 3) := by decide +kernel
theorem dX5_neighbours_4 : decode cX5_neighbours 4 = .ok (.ifCond .ne 7, 3) := by decide +kernel
theorem dX5_neighbours_7 : decode cX5_neighbours 7 = .ok (.iconst 1, 1) := by decide +kernel
theorem dX5_neighbours_8 : decode cX5_neighbours 8 = .ok (.goto 4, 3) := by decide +kernel
theorem dX5_neighbours_11 : decode cX5_neighbours 11 = .ok (.iconst 0, 1) := by decide +kernel
theorem dX5_neighbours_12 : decode cX5_neighbours 12 = .ok (.istore_n 1, 1) := by decide +kernel
theorem dX5_neighbours_13 : decode cX5_neighbours 13 = .ok (.iconst 0, 1) := by decide +kernel
theorem dX5_neighbours_14 : decode cX5_neighbours 14 = .ok (.istore_n 2, 1) := by decide +kernel
theorem dX5_neighbours_15 : decode cX5_neighbours 15 = .ok (.iload_n 2, 1) := by decide +kernel
theorem dX5_neighbours_16 : decode cX5_neighbours 16 = .ok (.aload_n 0, 1) := by decide +kernel
theorem dX5_neighbours_17 : decode cX5_neighbours 17 = .ok (.getfield 119, 3) := by decide +kernel
theorem dX5_neighbours_20 : decode cX5_neighbours 20 = .ok (.if_icmp .ge 68, 3) := by decide +kernel
theorem dX5_neighbours_23 : decode cX5_neighbours 23 = .ok (.iload_n 1, 1) := by decide +kernel
theorem dX5_neighbours_24 : decode cX5_neighbours 24 = .ok (.ifCond .ne 64, 3) := by decide +kernel
theorem dX5_neighbours_27 : decode cX5_neighbours 27 = .ok (.aload_n 0, 1) := by decide +kernel
theorem dX5_neighbours_28 : decode cX5_neighbours 28 = .ok (.aload_n 0, 1) := by decide +kernel
theorem dX5_neighbours_29 : decode cX5_neighbours 29 = .ok (.getfield 74, 3) := by decide +kernel
theorem dX5_neighbours_32 : decode cX5_neighbours 32 = .ok (.iload_n 2, 1) := by decide +kernel
theorem dX5_neighbours_33 : decode cX5_neighbours 33 = .ok (.daload, 1) := by decide +kernel
theorem dX5_neighbours_34 : decode cX5_neighbours 34 = .ok (.aload_n 0, 1) := by decide +kernel
theorem dX5_neighbours_35 : decode cX5_neighbours 35 = .ok (.getfield 77, 3) := by decide +kernel
theorem dX5_neighbours_38 : decode cX5_neighbours 38 = .ok (.iload_n 2, 1) := by decide +kernel
theorem dX5_neighbours_39 : decode cX5_neighbours 39 = .ok (.daload, 1) := by decide +kernel
theorem dX5_neighbours_40 : decode cX5_neighbours 40 = .ok (.aload_n 0, 1) := by decide +kernel
theorem dX5_neighbours_41 : decode cX5_neighbours 41 = .ok (.getfield 20, 3) := by decide +kernel
theorem dX5_neighbours_44 : decode cX5_neighbours 44 = .ok (.iload_n 2, 1) := by decide +kernel
theorem dX5_neighbours_45 : decode cX5_neighbours 45 = .ok (.daload, 1) := by decide +kernel
theorem dX5_neighbours_46 : decode cX5_neighbours 46 = .ok (.aload_n 0, 1) := by decide +kernel
theorem dX5_neighbours_47 : decode cX5_neighbours 47 = .ok (.getfield 24, 3) := by decide +kernel
theorem dX5_neighbours_50 : decode cX5_neighbours 50 = .ok (.iload_n 2, 1) := by decide +kernel
theorem dX5_neighbours_51 : decode cX5_neighbours 51 = .ok (.daload, 1) := by decide +kernel
theorem dX5_neighbours_52 : decode cX5_neighbours 52 = .ok (.invokevirtual 138, 3) := by decide +kernel
theorem dX5_neighbours_55 : decode cX5_neighbours 55 = .ok (.aload_n 0, 1) := by decide +kernel
theorem dX5_neighbours_56 : decode cX5_neighbours 56 = .ok (.getfield 135, 3) := by decide +kernel
theorem dX5_neighbours_59 : decode cX5_neighbours 59 = .ok (.aload_n 0, 1) := by decide +kernel
theorem dX5_neighbours_60 : decode cX5_neighbours 60 = .ok (.getfield 9, 3) := by decide +kernel
theorem dX5_neighbours_63 : decode cX5_neighbours 63 = .ok (.ldc2_w 7, 3) := by decide +kernel
theorem dX5_neighbours_66 : decode cX5_neighbours 66 = .ok (.dmul, 1) := by decide +kernel
theorem dX5_neighbours_67 : decode cX5_neighbours 67 = .ok (.aload_n 0, 1) := by decide +kernel
theorem dX5_neighbours_68 : decode cX5_neighbours 68 = .ok (.getfield 9, 3) := by decide +kernel
theorem dX5_neighbours_71 : decode cX5_neighbours 71 = .ok (.ldc2_w 7, 3) := by decide +kernel
theorem dX5_neighbours_74 : decode cX5_neighbours 74 = .ok (.dmul, 1) := by decide +kernel
theorem dX5_neighbours_75 : decode cX5_neighbours 75 = .ok (.dmul, 1) := by decide +kernel
theorem dX5_neighbours_76 : decode cX5_neighbours 76 = .ok (.dcmp .l, 1) := by decide +kernel
theorem dX5_neighbours_77 : decode cX5_neighbours 77 = .ok (.ifCond .le 5, 3) := by decide +kernel
theorem dX5_neighbours_80 : decode cX5_neighbours 80 = .ok (.iconst 1, 1) := by decide +kernel
theorem dX5_neighbours_81 : decode cX5_neighbours 81 = .ok (.istore_n 1, 1) := by decide +kernel
theorem dX5_neighbours_82 : decode cX5_neighbours 82 = .ok (.iinc 2 1, 3) := by decide +kernel
theorem dX5_neighbours_85 : decode cX5_neighbours 85 = .ok (.goto (-70), 3) := by decide +kernel
theorem dX5_neighbours_88 : decode cX5_neighbours 88 = .ok (.iload_n 1, 1) := by decide +kernel
theorem dX5_neighbours_89 : decode cX5_neighbours 89 = .ok (.ifCond .ne 4, 3) := by decide +kernel
theorem dX5_neighbours_92 : decode cX5_neighbours 92 = .ok (.return_, 1) := by decide +kernel
theorem dX5_neighbours_93 : decode cX5_neighbours 93 = .ok (.aload_n 0, 1) := by decide +kernel
theorem dX5_neighbours_94 : decode cX5_neighbours 94 = .ok (.dup, 1) := by decide +kernel
theorem dX5_neighbours_95 : decode cX5_neighbours 95 = .ok (.getfield 205, 3) := by decide +kernel
theorem dX5_neighbours_98 : decode cX5_neighbours 98 = .ok (.iconst 1, 1) := by decide +kernel
theorem dX5_neighbours_99 : decode cX5_neighbours 99 = .ok (.iadd, 1) := by decide +kernel
theorem dX5_neighbours_100 : decode cX5_neighbours 100 = .ok (.putfield 205, 3) := by decide +kernel
theorem dX5_neighbours_103 : decode cX5_neighbours 103 = .ok (.aload_n 0, 1) := by decide +kernel
theorem dX5_neighbours_104 : decode cX5_neighbours 104 = .ok (.iconst 1, 1) := by decide +kernel
theorem dX5_neighbours_105 : decode cX5_neighbours 105 = .ok (.putfield 161, 3) := by decide +kernel
theorem dX5_neighbours_108 : decode cX5_neighbours 108 = .ok (.iconst 0, 1) := by decide +kernel
theorem dX5_neighbours_109 : decode cX5_neighbours 109 = .ok (.istore_n 2, 1) := by decide +kernel
theorem dX5_neighbours_110 : decode cX5_neighbours 110 = .ok (.iload_n 2, 1) := by decide +kernel
theorem dX5_neighbours_111 : decode cX5_neighbours 111 = .ok (.aload_n 0, 1) := by decide +kernel
theorem dX5_neighbours_112 : decode cX5_neighbours 112 = .ok (.getfield 119, 3) := by decide +kernel
theorem dX5_neighbours_115 : decode cX5_neighbours 115 = .ok (.if_icmp .ge 33, 3) := by decide +kernel
theorem dX5_neighbours_118 : decode cX5_neighbours 118 = .ok (.aload_n 0, 1) := by decide +kernel
theorem dX5_neighbours_119 : decode cX5_neighbours 119 = .ok (.getfield 74, 3) := by decide +kernel
theorem dX5_neighbours_122 : decode cX5_neighbours 122 = .ok (.iload_n 2, 1) := by decide +kernel
theorem dX5_neighbours_123 : decode cX5_neighbours 123 = .ok (.aload_n 0, 1) := by decide +kernel
theorem dX5_neighbours_124 : decode cX5_neighbours 124 = .ok (.getfield 20, 3) := by decide +kernel
theorem dX5_neighbours_127 : decode cX5_neighbours 127 = .ok (.iload_n 2, 1) := by decide +kernel
theorem dX5_neighbours_128 : decode cX5_neighbours 128 = .ok (.daload, 1) := by decide +kernel
theorem dX5_neighbours_129 : decode cX5_neighbours 129 = .ok (.dastore, 1) := by decide +kernel
theorem dX5_neighbours_130 : decode cX5_neighbours 130 = .ok (.aload_n 0, 1) := by decide +kernel
theorem dX5_neighbours_131 : decode cX5_neighbours 131 = .ok (.getfield 77, 3) := by decide +kernel
theorem dX5_neighbours_134 : decode cX5_neighbours 134 = .ok (.iload_n 2, 1) := by decide +kernel
theorem dX5_neighbours_135 : decode cX5_neighbours 135 = .ok (.aload_n 0, 1) := by decide +kernel
theorem dX5_neighbours_136 : decode cX5_neighbours 136 = .ok (.getfield 24, 3) := by decide +kernel
theorem dX5_neighbours_139 : decode cX5_neighbours 139 = .ok (.iload_n 2, 1) := by decide +kernel
theorem dX5_neighbours_140 : decode cX5_neighbours 140 = .ok (.daload, 1) := by decide +kernel
theorem dX5_neighbours_141 : decode cX5_neighbours 141 = .ok (.dastore, 1) := by decide +kernel
theorem dX5_neighbours_142 : decode cX5_neighbours 142 = .ok (.iinc 2 1, 3) := by decide +kernel
theorem dX5_neighbours_145 : decode cX5_neighbours 145 = .ok (.goto (-35), 3) := by decide +kernel
theorem dX5_neighbours_148 : decode cX5_neighbours 148 = .ok (.return_, 1) := by decide +kernel
abbrev cX5_way : ByteArray := prog_10_method_10_code
def yX5_way : MethodName := ⟨RX5, "way", "(DDDD)V"⟩
theorem dX5_way_0 : decode cX5_way 0 = .ok (.aload_n 0, 1) := by decide +kernel
theorem dX5_way_1 : decode cX5_way 1 = .ok (.dload 5, 2) := by decide +kernel
theorem dX5_way_3 : decode cX5_way 3 = .ok (.dload_n 1, 1) := by decide +kernel
theorem dX5_way_4 : decode cX5_way 4 = .ok (.dsub, 1) := by decide +kernel
theorem dX5_way_5 : decode cX5_way 5 = .ok (.putfield 126, 3) := by decide +kernel
theorem dX5_way_8 : decode cX5_way 8 = .ok (.aload_n 0, 1) := by decide +kernel
theorem dX5_way_9 : decode cX5_way 9 = .ok (.aload_n 0, 1) := by decide +kernel
theorem dX5_way_10 : decode cX5_way 10 = .ok (.aload_n 0, 1) := by decide +kernel
theorem dX5_way_11 : decode cX5_way 11 = .ok (.getfield 126, 3) := by decide +kernel
theorem dX5_way_14 : decode cX5_way 14 = .ok (.invokevirtual 129, 3) := by decide +kernel
theorem dX5_way_17 : decode cX5_way 17 = .ok (.putfield 126, 3) := by decide +kernel
theorem dX5_way_20 : decode cX5_way 20 = .ok (.aload_n 0, 1) := by decide +kernel
theorem dX5_way_21 : decode cX5_way 21 = .ok (.dload 7, 2) := by decide +kernel
theorem dX5_way_23 : decode cX5_way 23 = .ok (.dload_n 3, 1) := by decide +kernel
theorem dX5_way_24 : decode cX5_way 24 = .ok (.dsub, 1) := by decide +kernel
theorem dX5_way_25 : decode cX5_way 25 = .ok (.putfield 132, 3) := by decide +kernel
theorem dX5_way_28 : decode cX5_way 28 = .ok (.aload_n 0, 1) := by decide +kernel
theorem dX5_way_29 : decode cX5_way 29 = .ok (.aload_n 0, 1) := by decide +kernel
theorem dX5_way_30 : decode cX5_way 30 = .ok (.aload_n 0, 1) := by decide +kernel
theorem dX5_way_31 : decode cX5_way 31 = .ok (.getfield 132, 3) := by decide +kernel
theorem dX5_way_34 : decode cX5_way 34 = .ok (.invokevirtual 129, 3) := by decide +kernel
theorem dX5_way_37 : decode cX5_way 37 = .ok (.putfield 132, 3) := by decide +kernel
theorem dX5_way_40 : decode cX5_way 40 = .ok (.aload_n 0, 1) := by decide +kernel
theorem dX5_way_41 : decode cX5_way 41 = .ok (.aload_n 0, 1) := by decide +kernel
theorem dX5_way_42 : decode cX5_way 42 = .ok (.getfield 126, 3) := by decide +kernel
theorem dX5_way_45 : decode cX5_way 45 = .ok (.aload_n 0, 1) := by decide +kernel
theorem dX5_way_46 : decode cX5_way 46 = .ok (.getfield 126, 3) := by decide +kernel
theorem dX5_way_49 : decode cX5_way 49 = .ok (.dmul, 1) := by decide +kernel
theorem dX5_way_50 : decode cX5_way 50 = .ok (.aload_n 0, 1) := by decide +kernel
theorem dX5_way_51 : decode cX5_way 51 = .ok (.getfield 132, 3) := by decide +kernel
theorem dX5_way_54 : decode cX5_way 54 = .ok (.aload_n 0, 1) := by decide +kernel
theorem dX5_way_55 : decode cX5_way 55 = .ok (.getfield 132, 3) := by decide +kernel
theorem dX5_way_58 : decode cX5_way 58 = .ok (.dmul, 1) := by decide +kernel
theorem dX5_way_59 : decode cX5_way 59 = .ok (.dadd, 1) := by decide +kernel
theorem dX5_way_60 : decode cX5_way 60 = .ok (.putfield 135, 3) := by decide +kernel
theorem dX5_way_63 : decode cX5_way 63 = .ok (.return_, 1) := by decide +kernel
abbrev cX5_nearest : ByteArray := prog_10_method_9_code
def yX5_nearest : MethodName := ⟨RX5, "nearest", "(D)D"⟩
theorem dX5_nearest_0 : decode cX5_nearest 0 = .ok (.dload_n 1, 1) := by decide +kernel
theorem dX5_nearest_1 : decode cX5_nearest 1 = .ok (.aload_n 0, 1) := by decide +kernel
theorem dX5_nearest_2 : decode cX5_nearest 2 = .ok (.getfield 107, 3) := by decide +kernel
theorem dX5_nearest_5 : decode cX5_nearest 5 = .ok (.dload_n 1, 1) := by decide +kernel
theorem dX5_nearest_6 : decode cX5_nearest 6 = .ok (.aload_n 0, 1) := by decide +kernel
theorem dX5_nearest_7 : decode cX5_nearest 7 = .ok (.getfield 107, 3) := by decide +kernel
theorem dX5_nearest_10 : decode cX5_nearest 10 = .ok (.ddiv, 1) := by decide +kernel
theorem dX5_nearest_11 : decode cX5_nearest 11 = .ok (.ldc2_w 7, 3) := by decide +kernel
theorem dX5_nearest_14 : decode cX5_nearest 14 = .ok (.dadd, 1) := by decide +kernel
theorem dX5_nearest_15 : decode cX5_nearest 15 = .ok (.invokestatic 122, 3) := by decide +kernel
theorem dX5_nearest_18 : decode cX5_nearest 18 = .ok (.dmul, 1) := by decide +kernel
theorem dX5_nearest_19 : decode cX5_nearest 19 = .ok (.dsub, 1) := by decide +kernel
theorem dX5_nearest_20 : decode cX5_nearest 20 = .ok (.dreturn, 1) := by decide +kernel
abbrev cX5_overlap : ByteArray := prog_10_method_21_code
def yX5_overlap : MethodName := ⟨RX5, "overlap", "()Z"⟩
theorem dX5_overlap_0 : decode cX5_overlap 0 = .ok (.iconst 0, 1) := by decide +kernel
theorem dX5_overlap_1 : decode cX5_overlap 1 = .ok (.istore_n 1, 1) := by decide +kernel
theorem dX5_overlap_2 : decode cX5_overlap 2 = .ok (.iload_n 1, 1) := by decide +kernel
theorem dX5_overlap_3 : decode cX5_overlap 3 = .ok (.aload_n 0, 1) := by decide +kernel
theorem dX5_overlap_4 : decode cX5_overlap 4 = .ok (.getfield 119, 3) := by decide +kernel
theorem dX5_overlap_7 : decode cX5_overlap 7 = .ok (.if_icmp .ge 46, 3) := by decide +kernel
theorem dX5_overlap_10 : decode cX5_overlap 10 = .ok (.iload_n 1, 1) := by decide +kernel
theorem dX5_overlap_11 : decode cX5_overlap 11 = .ok (.iconst 1, 1) := by decide +kernel
theorem dX5_overlap_12 : decode cX5_overlap 12 = .ok (.iadd, 1) := by decide +kernel
theorem dX5_overlap_13 : decode cX5_overlap 13 = .ok (.istore_n 2, 1) := by decide +kernel
theorem dX5_overlap_14 : decode cX5_overlap 14 = .ok (.iload_n 2, 1) := by decide +kernel
theorem dX5_overlap_15 : decode cX5_overlap 15 = .ok (.aload_n 0, 1) := by decide +kernel
theorem dX5_overlap_16 : decode cX5_overlap 16 = .ok (.getfield 119, 3) := by decide +kernel
theorem dX5_overlap_19 : decode cX5_overlap 19 = .ok (.if_icmp .ge 28, 3) := by decide +kernel
theorem dX5_overlap_22 : decode cX5_overlap 22 = .ok (.aload_n 0, 1) := by decide +kernel
theorem dX5_overlap_23 : decode cX5_overlap 23 = .ok (.iload_n 1, 1) := by decide +kernel
theorem dX5_overlap_24 : decode cX5_overlap 24 = .ok (.iload_n 2, 1) := by decide +kernel
theorem dX5_overlap_25 : decode cX5_overlap 25 = .ok (.invokevirtual 181, 3) := by decide +kernel
theorem dX5_overlap_28 : decode cX5_overlap 28 = .ok (.aload_n 0, 1) := by decide +kernel
theorem dX5_overlap_29 : decode cX5_overlap 29 = .ok (.getfield 135, 3) := by decide +kernel
theorem dX5_overlap_32 : decode cX5_overlap 32 = .ok (.ldc2_w 185, 3) := by decide +kernel
theorem dX5_overlap_35 : decode cX5_overlap 35 = .ok (.dcmp .g, 1) := by decide +kernel
theorem dX5_overlap_36 : decode cX5_overlap 36 = .ok (.ifCond .ge 5, 3) := by decide +kernel
theorem dX5_overlap_39 : decode cX5_overlap 39 = .ok (.iconst 1, 1) := by decide +kernel
theorem dX5_overlap_40 : decode cX5_overlap 40 = .ok (.ireturn, 1) := by decide +kernel
theorem dX5_overlap_41 : decode cX5_overlap 41 = .ok (.iinc 2 1, 3) := by decide +kernel
theorem dX5_overlap_44 : decode cX5_overlap 44 = .ok (.goto (-30), 3) := by decide +kernel
theorem dX5_overlap_47 : decode cX5_overlap 47 = .ok (.iinc 1 1, 3) := by decide +kernel
theorem dX5_overlap_50 : decode cX5_overlap 50 = .ok (.goto (-48), 3) := by decide +kernel
theorem dX5_overlap_53 : decode cX5_overlap 53 = .ok (.iconst 0, 1) := by decide +kernel
theorem dX5_overlap_54 : decode cX5_overlap 54 = .ok (.ireturn, 1) := by decide +kernel
abbrev cX5_between : ByteArray := prog_10_method_11_code
def yX5_between : MethodName := ⟨RX5, "between", "(II)V"⟩
theorem dX5_between_0 : decode cX5_between 0 = .ok (.aload_n 0, 1) := by decide +kernel
theorem dX5_between_1 : decode cX5_between 1 = .ok (.aload_n 0, 1) := by decide +kernel
theorem dX5_between_2 : decode cX5_between 2 = .ok (.getfield 20, 3) := by decide +kernel
theorem dX5_between_5 : decode cX5_between 5 = .ok (.iload_n 1, 1) := by decide +kernel
theorem dX5_between_6 : decode cX5_between 6 = .ok (.daload, 1) := by decide +kernel
theorem dX5_between_7 : decode cX5_between 7 = .ok (.aload_n 0, 1) := by decide +kernel
theorem dX5_between_8 : decode cX5_between 8 = .ok (.getfield 24, 3) := by decide +kernel
theorem dX5_between_11 : decode cX5_between 11 = .ok (.iload_n 1, 1) := by decide +kernel
theorem dX5_between_12 : decode cX5_between 12 = .ok (.daload, 1) := by decide +kernel
theorem dX5_between_13 : decode cX5_between 13 = .ok (.aload_n 0, 1) := by decide +kernel
theorem dX5_between_14 : decode cX5_between 14 = .ok (.getfield 20, 3) := by decide +kernel
theorem dX5_between_17 : decode cX5_between 17 = .ok (.iload_n 2, 1) := by decide +kernel
theorem dX5_between_18 : decode cX5_between 18 = .ok (.daload, 1) := by decide +kernel
theorem dX5_between_19 : decode cX5_between 19 = .ok (.aload_n 0, 1) := by decide +kernel
theorem dX5_between_20 : decode cX5_between 20 = .ok (.getfield 24, 3) := by decide +kernel
theorem dX5_between_23 : decode cX5_between 23 = .ok (.iload_n 2, 1) := by decide +kernel
theorem dX5_between_24 : decode cX5_between 24 = .ok (.daload, 1) := by decide +kernel
theorem dX5_between_25 : decode cX5_between 25 = .ok (.invokevirtual 138, 3) := by decide +kernel
theorem dX5_between_28 : decode cX5_between 28 = .ok (.return_, 1) := by decide +kernel
abbrev cX5_findForce : ByteArray := prog_10_method_26_code
def yX5_findForce : MethodName := ⟨RX5, "findForce", "(I)V"⟩
theorem dX5_findForce_0 : decode cX5_findForce 0 = .ok (.aload_n 0, 1) := by decide +kernel
theorem dX5_findForce_1 : decode cX5_findForce 1 = .ok (.getfield 98, 3) := by decide +kernel
theorem dX5_findForce_4 : decode cX5_findForce 4 = .ok (.iload_n 1, 1) := by decide +kernel
theorem dX5_findForce_5 : decode cX5_findForce 5 = .ok (.dconst 0, 1) := by decide +kernel
theorem dX5_findForce_6 : decode cX5_findForce 6 = .ok (.dastore, 1) := by decide +kernel
theorem dX5_findForce_7 : decode cX5_findForce 7 = .ok (.aload_n 0, 1) := by decide +kernel
theorem dX5_findForce_8 : decode cX5_findForce 8 = .ok (.getfield 101, 3) := by decide +kernel
theorem dX5_findForce_11 : decode cX5_findForce 11 = .ok (.iload_n 1, 1) := by decide +kernel
theorem dX5_findForce_12 : decode cX5_findForce 12 = .ok (.dconst 0, 1) := by decide +kernel
theorem dX5_findForce_13 : decode cX5_findForce 13 = .ok (.dastore, 1) := by decide +kernel
theorem dX5_findForce_14 : decode cX5_findForce 14 = .ok (.iconst 0, 1) := by decide +kernel
theorem dX5_findForce_15 : decode cX5_findForce 15 = .ok (.istore_n 2, 1) := by decide +kernel
theorem dX5_findForce_16 : decode cX5_findForce 16 = .ok (.iload_n 2, 1) := by decide +kernel
theorem dX5_findForce_17 : decode cX5_findForce 17 = .ok (.aload_n 0, 1) := by decide +kernel
theorem dX5_findForce_18 : decode cX5_findForce 18 = .ok (.getfield 119, 3) := by decide +kernel
theorem dX5_findForce_21 : decode cX5_findForce 21 = .ok (.if_icmp .ge 131, 3) := by decide +kernel
theorem dX5_findForce_24 : decode cX5_findForce 24 = .ok (.iload_n 2, 1) := by decide +kernel
theorem dX5_findForce_25 : decode cX5_findForce 25 = .ok (.iload_n 1, 1) := by decide +kernel
theorem dX5_findForce_26 : decode cX5_findForce 26 = .ok (.if_icmp .eq 120, 3) := by decide +kernel
theorem dX5_findForce_29 : decode cX5_findForce 29 = .ok (.aload_n 0, 1) := by decide +kernel
theorem dX5_findForce_30 : decode cX5_findForce 30 = .ok (.iload_n 1, 1) := by decide +kernel
theorem dX5_findForce_31 : decode cX5_findForce 31 = .ok (.iload_n 2, 1) := by decide +kernel
theorem dX5_findForce_32 : decode cX5_findForce 32 = .ok (.invokevirtual 187, 3) := by decide +kernel
theorem dX5_findForce_35 : decode cX5_findForce 35 = .ok (.ifCond .ne 6, 3) := by decide +kernel
theorem dX5_findForce_38 : decode cX5_findForce 38 = .ok (.goto 108, 3) := by decide +kernel
theorem dX5_findForce_41 : decode cX5_findForce 41 = .ok (.aload_n 0, 1) := by decide +kernel
theorem dX5_findForce_42 : decode cX5_findForce 42 = .ok (.iload_n 1, 1) := by decide +kernel
theorem dX5_findForce_43 : decode cX5_findForce 43 = .ok (.iload_n 2, 1) := by decide +kernel
theorem dX5_findForce_44 : decode cX5_findForce 44 = .ok (.invokevirtual 191, 3) := by decide +kernel
theorem dX5_findForce_47 : decode cX5_findForce 47 = .ok (.dstore_n 3, 1) := by decide +kernel
theorem dX5_findForce_48 : decode cX5_findForce 48 = .ok (.aload_n 0, 1) := by decide +kernel
theorem dX5_findForce_49 : decode cX5_findForce 49 = .ok (.iload_n 1, 1) := by decide +kernel
theorem dX5_findForce_50 : decode cX5_findForce 50 = .ok (.iload_n 2, 1) := by decide +kernel
theorem dX5_findForce_51 : decode cX5_findForce 51 = .ok (.invokevirtual 195, 3) := by decide +kernel
theorem dX5_findForce_54 : decode cX5_findForce 54 = .ok (.dstore 5, 2) := by decide +kernel
theorem dX5_findForce_56 : decode cX5_findForce 56 = .ok (.aload_n 0, 1) := by decide +kernel
theorem dX5_findForce_57 : decode cX5_findForce 57 = .ok (.iload_n 1, 1) := by decide +kernel
theorem dX5_findForce_58 : decode cX5_findForce 58 = .ok (.iload_n 2, 1) := by decide +kernel
theorem dX5_findForce_59 : decode cX5_findForce 59 = .ok (.invokevirtual 198, 3) := by decide +kernel
theorem dX5_findForce_62 : decode cX5_findForce 62 = .ok (.dstore 7, 2) := by decide +kernel
theorem dX5_findForce_64 : decode cX5_findForce 64 = .ok (.ldc2_w 201, 3) := by decide +kernel
theorem dX5_findForce_67 : decode cX5_findForce 67 = .ok (.dload_n 3, 1) := by decide +kernel
theorem dX5_findForce_68 : decode cX5_findForce 68 = .ok (.dmul, 1) := by decide +kernel
theorem dX5_findForce_69 : decode cX5_findForce 69 = .ok (.dload 5, 2) := by decide +kernel
theorem dX5_findForce_71 : decode cX5_findForce 71 = .ok (.ldc2_w 203, 3) := by decide +kernel
theorem dX5_findForce_74 : decode cX5_findForce 74 = .ok (.dload 5, 2) := by decide +kernel
theorem dX5_findForce_76 : decode cX5_findForce 76 = .ok (.dmul, 1) := by decide +kernel
theorem dX5_findForce_77 : decode cX5_findForce 77 = .ok (.dload 5, 2) := by decide +kernel
theorem dX5_findForce_79 : decode cX5_findForce 79 = .ok (.dmul, 1) := by decide +kernel
theorem dX5_findForce_80 : decode cX5_findForce 80 = .ok (.dsub, 1) := by decide +kernel
theorem dX5_findForce_81 : decode cX5_findForce 81 = .ok (.dmul, 1) := by decide +kernel
theorem dX5_findForce_82 : decode cX5_findForce 82 = .ok (.aload_n 0, 1) := by decide +kernel
theorem dX5_findForce_83 : decode cX5_findForce 83 = .ok (.getfield 135, 3) := by decide +kernel
theorem dX5_findForce_86 : decode cX5_findForce 86 = .ok (.ddiv, 1) := by decide +kernel
theorem dX5_findForce_87 : decode cX5_findForce 87 = .ok (.ldc2_w 203, 3) := by decide +kernel
theorem dX5_findForce_90 : decode cX5_findForce 90 = .ok (.dload 7, 2) := by decide +kernel
theorem dX5_findForce_92 : decode cX5_findForce 92 = .ok (.dmul, 1) := by decide +kernel
theorem dX5_findForce_93 : decode cX5_findForce 93 = .ok (.aload_n 0, 1) := by decide +kernel
theorem dX5_findForce_94 : decode cX5_findForce 94 = .ok (.getfield 135, 3) := by decide +kernel
theorem dX5_findForce_97 : decode cX5_findForce 97 = .ok (.aload_n 0, 1) := by decide +kernel
theorem dX5_findForce_98 : decode cX5_findForce 98 = .ok (.getfield 135, 3) := by decide +kernel
theorem dX5_findForce_101 : decode cX5_findForce 101 = .ok (.dmul, 1) := by decide +kernel
theorem dX5_findForce_102 : decode cX5_findForce 102 = .ok (.ddiv, 1) := by decide +kernel
theorem dX5_findForce_103 : decode cX5_findForce 103 = .ok (.dsub, 1) := by decide +kernel
theorem dX5_findForce_104 : decode cX5_findForce 104 = .ok (.dstore 9, 2) := by decide +kernel
theorem dX5_findForce_106 : decode cX5_findForce 106 = .ok (.aload_n 0, 1) := by decide +kernel
theorem dX5_findForce_107 : decode cX5_findForce 107 = .ok (.getfield 98, 3) := by decide +kernel
theorem dX5_findForce_110 : decode cX5_findForce 110 = .ok (.iload_n 1, 1) := by decide +kernel
theorem dX5_findForce_111 : decode cX5_findForce 111 = .ok (.aload_n 0, 1) := by decide +kernel
theorem dX5_findForce_112 : decode cX5_findForce 112 = .ok (.getfield 98, 3) := by decide +kernel
theorem dX5_findForce_115 : decode cX5_findForce 115 = .ok (.iload_n 1, 1) := by decide +kernel
theorem dX5_findForce_116 : decode cX5_findForce 116 = .ok (.daload, 1) := by decide +kernel
theorem dX5_findForce_117 : decode cX5_findForce 117 = .ok (.dload 9, 2) := by decide +kernel
theorem dX5_findForce_119 : decode cX5_findForce 119 = .ok (.aload_n 0, 1) := by decide +kernel
theorem dX5_findForce_120 : decode cX5_findForce 120 = .ok (.getfield 126, 3) := by decide +kernel
theorem dX5_findForce_123 : decode cX5_findForce 123 = .ok (.dmul, 1) := by decide +kernel
theorem dX5_findForce_124 : decode cX5_findForce 124 = .ok (.dadd, 1) := by decide +kernel
theorem dX5_findForce_125 : decode cX5_findForce 125 = .ok (.dastore, 1) := by decide +kernel
theorem dX5_findForce_126 : decode cX5_findForce 126 = .ok (.aload_n 0, 1) := by decide +kernel
theorem dX5_findForce_127 : decode cX5_findForce 127 = .ok (.getfield 101, 3) := by decide +kernel
theorem dX5_findForce_130 : decode cX5_findForce 130 = .ok (.iload_n 1, 1) := by decide +kernel
theorem dX5_findForce_131 : decode cX5_findForce 131 = .ok (.aload_n 0, 1) := by decide +kernel
theorem dX5_findForce_132 : decode cX5_findForce 132 = .ok (.getfield 101, 3) := by decide +kernel
theorem dX5_findForce_135 : decode cX5_findForce 135 = .ok (.iload_n 1, 1) := by decide +kernel
theorem dX5_findForce_136 : decode cX5_findForce 136 = .ok (.daload, 1) := by decide +kernel
theorem dX5_findForce_137 : decode cX5_findForce 137 = .ok (.dload 9, 2) := by decide +kernel
theorem dX5_findForce_139 : decode cX5_findForce 139 = .ok (.aload_n 0, 1) := by decide +kernel
theorem dX5_findForce_140 : decode cX5_findForce 140 = .ok (.getfield 132, 3) := by decide +kernel
theorem dX5_findForce_143 : decode cX5_findForce 143 = .ok (.dmul, 1) := by decide +kernel
theorem dX5_findForce_144 : decode cX5_findForce 144 = .ok (.dadd, 1) := by decide +kernel
theorem dX5_findForce_145 : decode cX5_findForce 145 = .ok (.dastore, 1) := by decide +kernel
theorem dX5_findForce_146 : decode cX5_findForce 146 = .ok (.iinc 2 1, 3) := by decide +kernel
theorem dX5_findForce_149 : decode cX5_findForce 149 = .ok (.goto (-133), 3) := by decide +kernel
theorem dX5_findForce_152 : decode cX5_findForce 152 = .ok (.iconst 0, 1) := by decide +kernel
theorem dX5_findForce_153 : decode cX5_findForce 153 = .ok (.istore_n 2, 1) := by decide +kernel
theorem dX5_findForce_154 : decode cX5_findForce 154 = .ok (.iload_n 2, 1) := by decide +kernel
theorem dX5_findForce_155 : decode cX5_findForce 155 = .ok (.aload_n 0, 1) := by decide +kernel
theorem dX5_findForce_156 : decode cX5_findForce 156 = .ok (.getfield 175, 3) := by decide +kernel
theorem dX5_findForce_159 : decode cX5_findForce 159 = .ok (.if_icmp .ge 133, 3) := by decide +kernel
theorem dX5_findForce_162 : decode cX5_findForce 162 = .ok (.aload_n 0, 1) := by decide +kernel
theorem dX5_findForce_163 : decode cX5_findForce 163 = .ok (.getfield 53, 3) := by decide +kernel
theorem dX5_findForce_166 : decode cX5_findForce 166 = .ok (.iload_n 2, 1) := by decide +kernel
theorem dX5_findForce_167 : decode cX5_findForce 167 = .ok (.iaload, 1) := by decide +kernel
theorem dX5_findForce_168 : decode cX5_findForce 168 = .ok (.iload_n 1, 1) := by decide +kernel
theorem dX5_findForce_169 : decode cX5_findForce 169 = .ok (.if_icmp .eq 16, 3) := by decide +kernel
theorem dX5_findForce_172 : decode cX5_findForce 172 = .ok (.aload_n 0, 1) := by decide +kernel
theorem dX5_findForce_173 : decode cX5_findForce 173 = .ok (.getfield 56, 3) := by decide +kernel
theorem dX5_findForce_176 : decode cX5_findForce 176 = .ok (.iload_n 2, 1) := by decide +kernel
theorem dX5_findForce_177 : decode cX5_findForce 177 = .ok (.iaload, 1) := by decide +kernel
theorem dX5_findForce_178 : decode cX5_findForce 178 = .ok (.iload_n 1, 1) := by decide +kernel
theorem dX5_findForce_179 : decode cX5_findForce 179 = .ok (.if_icmp .eq 6, 3) := by decide +kernel
theorem dX5_findForce_182 : decode cX5_findForce 182 = .ok (.goto 104, 3) := by decide +kernel
theorem dX5_findForce_185 : decode cX5_findForce 185 = .ok (.aload_n 0, 1) := by decide +kernel
theorem dX5_findForce_186 : decode cX5_findForce 186 = .ok (.iload_n 1, 1) := by decide +kernel
theorem dX5_findForce_187 : decode cX5_findForce 187 = .ok (.aload_n 0, 1) := by decide +kernel
theorem dX5_findForce_188 : decode cX5_findForce 188 = .ok (.getfield 53, 3) := by decide +kernel
theorem dX5_findForce_191 : decode cX5_findForce 191 = .ok (.iload_n 2, 1) := by decide +kernel
theorem dX5_findForce_192 : decode cX5_findForce 192 = .ok (.iaload, 1) := by decide +kernel
theorem dX5_findForce_193 : decode cX5_findForce 193 = .ok (.iload_n 1, 1) := by decide +kernel
theorem dX5_findForce_194 : decode cX5_findForce 194 = .ok (.if_icmp .ne 12, 3) := by decide +kernel
theorem dX5_findForce_197 : decode cX5_findForce 197 = .ok (.aload_n 0, 1) := by decide +kernel
theorem dX5_findForce_198 : decode cX5_findForce 198 = .ok (.getfield 56, 3) := by decide +kernel
theorem dX5_findForce_201 : decode cX5_findForce 201 = .ok (.iload_n 2, 1) := by decide +kernel
theorem dX5_findForce_202 : decode cX5_findForce 202 = .ok (.iaload, 1) := by decide +kernel
theorem dX5_findForce_203 : decode cX5_findForce 203 = .ok (.goto 9, 3) := by decide +kernel
theorem dX5_findForce_206 : decode cX5_findForce 206 = .ok (.aload_n 0, 1) := by decide +kernel
theorem dX5_findForce_207 : decode cX5_findForce 207 = .ok (.getfield 53, 3) := by decide +kernel
theorem dX5_findForce_210 : decode cX5_findForce 210 = .ok (.iload_n 2, 1) := by decide +kernel
theorem dX5_findForce_211 : decode cX5_findForce 211 = .ok (.iaload, 1) := by decide +kernel
theorem dX5_findForce_212 : decode cX5_findForce 212 = .ok (.invokevirtual 181, 3) := by decide +kernel
theorem dX5_findForce_215 : decode cX5_findForce 215 = .ok (.aload_n 0, 1) := by decide +kernel
theorem dX5_findForce_216 : decode cX5_findForce 216 = .ok (.getfield 135, 3) := by decide +kernel
theorem dX5_findForce_219 : decode cX5_findForce 219 = .ok (.aload_n 0, 1) := by decide +kernel
theorem dX5_findForce_220 : decode cX5_findForce 220 = .ok (.getfield 68, 3) := by decide +kernel
theorem dX5_findForce_223 : decode cX5_findForce 223 = .ok (.iload_n 2, 1) := by decide +kernel
theorem dX5_findForce_224 : decode cX5_findForce 224 = .ok (.daload, 1) := by decide +kernel
theorem dX5_findForce_225 : decode cX5_findForce 225 = .ok (.aload_n 0, 1) := by decide +kernel
theorem dX5_findForce_226 : decode cX5_findForce 226 = .ok (.getfield 68, 3) := by decide +kernel
theorem dX5_findForce_229 : decode cX5_findForce 229 = .ok (.iload_n 2, 1) := by decide +kernel
theorem dX5_findForce_230 : decode cX5_findForce 230 = .ok (.daload, 1) := by decide +kernel
theorem dX5_findForce_231 : decode cX5_findForce 231 = .ok (.dmul, 1) := by decide +kernel
theorem dX5_findForce_232 : decode cX5_findForce 232 = .ok (.dsub, 1) := by decide +kernel
theorem dX5_findForce_233 : decode cX5_findForce 233 = .ok (.dstore_n 3, 1) := by decide +kernel
theorem dX5_findForce_234 : decode cX5_findForce 234 = .ok (.aload_n 0, 1) := by decide +kernel
theorem dX5_findForce_235 : decode cX5_findForce 235 = .ok (.getfield 98, 3) := by decide +kernel
theorem dX5_findForce_238 : decode cX5_findForce 238 = .ok (.iload_n 1, 1) := by decide +kernel
theorem dX5_findForce_239 : decode cX5_findForce 239 = .ok (.aload_n 0, 1) := by decide +kernel
theorem dX5_findForce_240 : decode cX5_findForce 240 = .ok (.getfield 98, 3) := by decide +kernel
theorem dX5_findForce_243 : decode cX5_findForce 243 = .ok (.iload_n 1, 1) := by decide +kernel
theorem dX5_findForce_244 : decode cX5_findForce 244 = .ok (.daload, 1) := by decide +kernel
theorem dX5_findForce_245 : decode cX5_findForce 245 = .ok (.aload_n 0, 1) := by decide +kernel
theorem dX5_findForce_246 : decode cX5_findForce 246 = .ok (.getfield 65, 3) := by decide +kernel
theorem dX5_findForce_249 : decode cX5_findForce 249 = .ok (.iload_n 2, 1) := by decide +kernel
theorem dX5_findForce_250 : decode cX5_findForce 250 = .ok (.daload, 1) := by decide +kernel
theorem dX5_findForce_251 : decode cX5_findForce 251 = .ok (.dload_n 3, 1) := by decide +kernel
theorem dX5_findForce_252 : decode cX5_findForce 252 = .ok (.dmul, 1) := by decide +kernel
theorem dX5_findForce_253 : decode cX5_findForce 253 = .ok (.aload_n 0, 1) := by decide +kernel
theorem dX5_findForce_254 : decode cX5_findForce 254 = .ok (.getfield 126, 3) := by decide +kernel
theorem dX5_findForce_257 : decode cX5_findForce 257 = .ok (.dmul, 1) := by decide +kernel
theorem dX5_findForce_258 : decode cX5_findForce 258 = .ok (.dadd, 1) := by decide +kernel
theorem dX5_findForce_259 : decode cX5_findForce 259 = .ok (.dastore, 1) := by decide +kernel
theorem dX5_findForce_260 : decode cX5_findForce 260 = .ok (.aload_n 0, 1) := by decide +kernel
theorem dX5_findForce_261 : decode cX5_findForce 261 = .ok (.getfield 101, 3) := by decide +kernel
theorem dX5_findForce_264 : decode cX5_findForce 264 = .ok (.iload_n 1, 1) := by decide +kernel
theorem dX5_findForce_265 : decode cX5_findForce 265 = .ok (.aload_n 0, 1) := by decide +kernel
theorem dX5_findForce_266 : decode cX5_findForce 266 = .ok (.getfield 101, 3) := by decide +kernel
theorem dX5_findForce_269 : decode cX5_findForce 269 = .ok (.iload_n 1, 1) := by decide +kernel
theorem dX5_findForce_270 : decode cX5_findForce 270 = .ok (.daload, 1) := by decide +kernel
theorem dX5_findForce_271 : decode cX5_findForce 271 = .ok (.aload_n 0, 1) := by decide +kernel
theorem dX5_findForce_272 : decode cX5_findForce 272 = .ok (.getfield 65, 3) := by decide +kernel
theorem dX5_findForce_275 : decode cX5_findForce 275 = .ok (.iload_n 2, 1) := by decide +kernel
theorem dX5_findForce_276 : decode cX5_findForce 276 = .ok (.daload, 1) := by decide +kernel
theorem dX5_findForce_277 : decode cX5_findForce 277 = .ok (.dload_n 3, 1) := by decide +kernel
theorem dX5_findForce_278 : decode cX5_findForce 278 = .ok (.dmul, 1) := by decide +kernel
theorem dX5_findForce_279 : decode cX5_findForce 279 = .ok (.aload_n 0, 1) := by decide +kernel
theorem dX5_findForce_280 : decode cX5_findForce 280 = .ok (.getfield 132, 3) := by decide +kernel
theorem dX5_findForce_283 : decode cX5_findForce 283 = .ok (.dmul, 1) := by decide +kernel
theorem dX5_findForce_284 : decode cX5_findForce 284 = .ok (.dadd, 1) := by decide +kernel
theorem dX5_findForce_285 : decode cX5_findForce 285 = .ok (.dastore, 1) := by decide +kernel
theorem dX5_findForce_286 : decode cX5_findForce 286 = .ok (.iinc 2 1, 3) := by decide +kernel
theorem dX5_findForce_289 : decode cX5_findForce 289 = .ok (.goto (-135), 3) := by decide +kernel
theorem dX5_findForce_292 : decode cX5_findForce 292 = .ok (.return_, 1) := by decide +kernel
abbrev cX5_isPair : ByteArray := prog_10_method_22_code
def yX5_isPair : MethodName := ⟨RX5, "isPair", "(II)Z"⟩
theorem dX5_isPair_0 : decode cX5_isPair 0 = .ok (.aload_n 0, 1) := by decide +kernel
theorem dX5_isPair_1 : decode cX5_isPair 1 = .ok (.iload_n 1, 1) := by decide +kernel
theorem dX5_isPair_2 : decode cX5_isPair 2 = .ok (.iload_n 2, 1) := by decide +kernel
theorem dX5_isPair_3 : decode cX5_isPair 3 = .ok (.invokevirtual 181, 3) := by decide +kernel
theorem dX5_isPair_6 : decode cX5_isPair 6 = .ok (.aload_n 0, 1) := by decide +kernel
theorem dX5_isPair_7 : decode cX5_isPair 7 = .ok (.getfield 135, 3) := by decide +kernel
theorem dX5_isPair_10 : decode cX5_isPair 10 = .ok (.aload_n 0, 1) := by decide +kernel
theorem dX5_isPair_11 : decode cX5_isPair 11 = .ok (.getfield 112, 3) := by decide +kernel
theorem dX5_isPair_14 : decode cX5_isPair 14 = .ok (.aload_n 0, 1) := by decide +kernel
theorem dX5_isPair_15 : decode cX5_isPair 15 = .ok (.getfield 112, 3) := by decide +kernel
theorem dX5_isPair_18 : decode cX5_isPair 18 = .ok (.dmul, 1) := by decide +kernel
theorem dX5_isPair_19 : decode cX5_isPair 19 = .ok (.dcmp .g, 1) := by decide +kernel
theorem dX5_isPair_20 : decode cX5_isPair 20 = .ok (.ifCond .ge 7, 3) := by decide +kernel
theorem dX5_isPair_23 : decode cX5_isPair 23 = .ok (.iconst 1, 1) := by decide +kernel
theorem dX5_isPair_24 : decode cX5_isPair 24 = .ok (.goto 4, 3) := by decide +kernel
theorem dX5_isPair_27 : decode cX5_isPair 27 = .ok (.iconst 0, 1) := by decide +kernel
theorem dX5_isPair_28 : decode cX5_isPair 28 = .ok (.ireturn, 1) := by decide +kernel
abbrev cX5_deep : ByteArray := prog_10_method_24_code
def yX5_deep : MethodName := ⟨RX5, "deep", "(II)D"⟩
theorem dX5_deep_0 : decode cX5_deep 0 = .ok (.aload_n 0, 1) := by decide +kernel
theorem dX5_deep_1 : decode cX5_deep 1 = .ok (.getfield 47, 3) := by decide +kernel
theorem dX5_deep_4 : decode cX5_deep 4 = .ok (.aload_n 0, 1) := by decide +kernel
theorem dX5_deep_5 : decode cX5_deep 5 = .ok (.getfield 36, 3) := by decide +kernel
theorem dX5_deep_8 : decode cX5_deep 8 = .ok (.iload_n 1, 1) := by decide +kernel
theorem dX5_deep_9 : decode cX5_deep 9 = .ok (.iaload, 1) := by decide +kernel
theorem dX5_deep_10 : decode cX5_deep 10 = .ok (.daload, 1) := by decide +kernel
theorem dX5_deep_11 : decode cX5_deep 11 = .ok (.aload_n 0, 1) := by decide +kernel
theorem dX5_deep_12 : decode cX5_deep 12 = .ok (.getfield 47, 3) := by decide +kernel
theorem dX5_deep_15 : decode cX5_deep 15 = .ok (.aload_n 0, 1) := by decide +kernel
theorem dX5_deep_16 : decode cX5_deep 16 = .ok (.getfield 36, 3) := by decide +kernel
theorem dX5_deep_19 : decode cX5_deep 19 = .ok (.iload_n 2, 1) := by decide +kernel
theorem dX5_deep_20 : decode cX5_deep 20 = .ok (.iaload, 1) := by decide +kernel
theorem dX5_deep_21 : decode cX5_deep 21 = .ok (.daload, 1) := by decide +kernel
theorem dX5_deep_22 : decode cX5_deep 22 = .ok (.dadd, 1) := by decide +kernel
theorem dX5_deep_23 : decode cX5_deep 23 = .ok (.ldc2_w 7, 3) := by decide +kernel
theorem dX5_deep_26 : decode cX5_deep 26 = .ok (.dmul, 1) := by decide +kernel
theorem dX5_deep_27 : decode cX5_deep 27 = .ok (.dreturn, 1) := by decide +kernel
abbrev cX5_sixth : ByteArray := prog_10_method_23_code
def yX5_sixth : MethodName := ⟨RX5, "sixth", "(II)D"⟩
theorem dX5_sixth_0 : decode cX5_sixth 0 = .ok (.aload_n 0, 1) := by decide +kernel
theorem dX5_sixth_1 : decode cX5_sixth 1 = .ok (.getfield 44, 3) := by decide +kernel
theorem dX5_sixth_4 : decode cX5_sixth 4 = .ok (.aload_n 0, 1) := by decide +kernel
theorem dX5_sixth_5 : decode cX5_sixth 5 = .ok (.getfield 36, 3) := by decide +kernel
theorem dX5_sixth_8 : decode cX5_sixth 8 = .ok (.iload_n 1, 1) := by decide +kernel
theorem dX5_sixth_9 : decode cX5_sixth 9 = .ok (.iaload, 1) := by decide +kernel
theorem dX5_sixth_10 : decode cX5_sixth 10 = .ok (.daload, 1) := by decide +kernel
theorem dX5_sixth_11 : decode cX5_sixth 11 = .ok (.aload_n 0, 1) := by decide +kernel
theorem dX5_sixth_12 : decode cX5_sixth 12 = .ok (.getfield 44, 3) := by decide +kernel
theorem dX5_sixth_15 : decode cX5_sixth 15 = .ok (.aload_n 0, 1) := by decide +kernel
theorem dX5_sixth_16 : decode cX5_sixth 16 = .ok (.getfield 36, 3) := by decide +kernel
theorem dX5_sixth_19 : decode cX5_sixth 19 = .ok (.iload_n 2, 1) := by decide +kernel
theorem dX5_sixth_20 : decode cX5_sixth 20 = .ok (.iaload, 1) := by decide +kernel
theorem dX5_sixth_21 : decode cX5_sixth 21 = .ok (.daload, 1) := by decide +kernel
theorem dX5_sixth_22 : decode cX5_sixth 22 = .ok (.dadd, 1) := by decide +kernel
theorem dX5_sixth_23 : decode cX5_sixth 23 = .ok (.ldc2_w 7, 3) := by decide +kernel
theorem dX5_sixth_26 : decode cX5_sixth 26 = .ok (.dmul, 1) := by decide +kernel
theorem dX5_sixth_27 : decode cX5_sixth 27 = .ok (.dstore_n 3, 1) := by decide +kernel
theorem dX5_sixth_28 : decode cX5_sixth 28 = .ok (.dload_n 3, 1) := by decide +kernel
theorem dX5_sixth_29 : decode cX5_sixth 29 = .ok (.dload_n 3, 1) := by decide +kernel
theorem dX5_sixth_30 : decode cX5_sixth 30 = .ok (.dmul, 1) := by decide +kernel
theorem dX5_sixth_31 : decode cX5_sixth 31 = .ok (.aload_n 0, 1) := by decide +kernel
theorem dX5_sixth_32 : decode cX5_sixth 32 = .ok (.getfield 135, 3) := by decide +kernel
theorem dX5_sixth_35 : decode cX5_sixth 35 = .ok (.ddiv, 1) := by decide +kernel
theorem dX5_sixth_36 : decode cX5_sixth 36 = .ok (.dstore 5, 2) := by decide +kernel
theorem dX5_sixth_38 : decode cX5_sixth 38 = .ok (.dload 5, 2) := by decide +kernel
theorem dX5_sixth_40 : decode cX5_sixth 40 = .ok (.dload 5, 2) := by decide +kernel
theorem dX5_sixth_42 : decode cX5_sixth 42 = .ok (.dmul, 1) := by decide +kernel
theorem dX5_sixth_43 : decode cX5_sixth 43 = .ok (.dload 5, 2) := by decide +kernel
theorem dX5_sixth_45 : decode cX5_sixth 45 = .ok (.dmul, 1) := by decide +kernel
theorem dX5_sixth_46 : decode cX5_sixth 46 = .ok (.dreturn, 1) := by decide +kernel
