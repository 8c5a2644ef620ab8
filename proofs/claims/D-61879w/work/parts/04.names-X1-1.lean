set_option maxRecDepth 100000
abbrev cX1_place : ByteArray := prog_1_method_11_code
def yX1_place : MethodName := ⟨RX1, "place", "(IDD)V"⟩
theorem dX1_place_0 : decode cX1_place 0 = .ok (.aload_n 0, 1) := by decide +kernel
theorem dX1_place_1 : decode cX1_place 1 = .ok (.iload_n 1, 1) := by decide +kernel
theorem dX1_place_2 : decode cX1_place 2 = .ok (.invokevirtual 158, 3) := by decide +kernel
theorem dX1_place_5 : decode cX1_place 5 = .ok (.astore 6, 2) := by decide +kernel
theorem dX1_place_7 : decode cX1_place 7 = .ok (.dload_n 2, 1) := by decide +kernel
theorem dX1_place_8 : decode cX1_place 8 = .ok (.ldc2_w 129, 3) := by decide +kernel
theorem dX1_place_11 : decode cX1_place 11 = .ok (.ldc2_w 131, 3) := by decide +kernel
theorem dX1_place_14 : decode cX1_place 14 = .ok (.invokestatic 133, 3) := by decide +kernel
theorem dX1_place_17 : decode cX1_place 17 = .ok (.ifCond .eq 21, 3) := by decide +kernel
theorem dX1_place_20 : decode cX1_place 20 = .ok (.dload 4, 2) := by decide +kernel
theorem dX1_place_22 : decode cX1_place 22 = .ok (.ldc2_w 129, 3) := by decide +kernel
theorem dX1_place_25 : decode cX1_place 25 = .ok (.ldc2_w 131, 3) := by decide +kernel
theorem dX1_place_28 : decode cX1_place 28 = .ok (.invokestatic 133, 3) := by decide +kernel
theorem dX1_place_31 : decode cX1_place 31 = .ok (.ifCond .eq 7, 3) := by decide +kernel
theorem dX1_place_34 : decode cX1_place 34 = .ok (.iconst 1, 1) := by decide +kernel
theorem dX1_place_35 : decode cX1_place 35 = .ok (.goto 4, 3) := by decide +kernel
theorem dX1_place_38 : decode cX1_place 38 = .ok (.iconst 0, 1) := by decide +kernel
theorem dX1_place_39 : decode cX1_place 39 = .ok (.invokestatic 106, 3) := by decide +kernel
theorem dX1_place_42 : decode cX1_place 42 = .ok (.aload 6, 2) := by decide +kernel
theorem dX1_place_44 : decode cX1_place 44 = .ok (.aload_n 0, 1) := by decide +kernel
theorem dX1_place_45 : decode cX1_place 45 = .ok (.dload_n 2, 1) := by decide +kernel
theorem dX1_place_46 : decode cX1_place 46 = .ok (.invokevirtual 151, 3) := by decide +kernel
theorem dX1_place_49 : decode cX1_place 49 = .ok (.putfield 114, 3) := by decide +kernel
theorem dX1_place_52 : decode cX1_place 52 = .ok (.aload 6, 2) := by decide +kernel
theorem dX1_place_54 : decode cX1_place 54 = .ok (.aload_n 0, 1) := by decide +kernel
theorem dX1_place_55 : decode cX1_place 55 = .ok (.dload 4, 2) := by decide +kernel
theorem dX1_place_57 : decode cX1_place 57 = .ok (.invokevirtual 151, 3) := by decide +kernel
theorem dX1_place_60 : decode cX1_place 60 = .ok (.putfield 123, 3) := by decide +kernel
theorem dX1_place_63 : decode cX1_place 63 = .ok (.aload_n 0, 1) := by decide +kernel
theorem dX1_place_64 : decode cX1_place 64 = .ok (.iconst 0, 1) := by decide +kernel
theorem dX1_place_65 : decode cX1_place 65 = .ok (.putfield 154, 3) := by decide +kernel
theorem dX1_place_68 : decode cX1_place 68 = .ok (.return_, 1) := by decide +kernel
abbrev cX1_at : ByteArray := prog_1_method_4_code
def yX1_at : MethodName := ⟨RX1, "at", "(I)LParticleBox$Atom;"⟩
theorem dX1_at_0 : decode cX1_at 0 = .ok (.iload_n 1, 1) := by decide +kernel
theorem dX1_at_1 : decode cX1_at 1 = .ok (.ifCond .lt 15, 3) := by decide +kernel
theorem dX1_at_4 : decode cX1_at 4 = .ok (.iload_n 1, 1) := by decide +kernel
theorem dX1_at_5 : decode cX1_at 5 = .ok (.aload_n 0, 1) := by decide +kernel
theorem dX1_at_6 : decode cX1_at 6 = .ok (.getfield 102, 3) := by decide +kernel
theorem dX1_at_9 : decode cX1_at 9 = .ok (.if_icmp .ge 7, 3) := by decide +kernel
theorem dX1_at_12 : decode cX1_at 12 = .ok (.iconst 1, 1) := by decide +kernel
theorem dX1_at_13 : decode cX1_at 13 = .ok (.goto 4, 3) := by decide +kernel
theorem dX1_at_16 : decode cX1_at 16 = .ok (.iconst 0, 1) := by decide +kernel
theorem dX1_at_17 : decode cX1_at 17 = .ok (.invokestatic 106, 3) := by decide +kernel
theorem dX1_at_20 : decode cX1_at 20 = .ok (.aload_n 0, 1) := by decide +kernel
theorem dX1_at_21 : decode cX1_at 21 = .ok (.getfield 29, 3) := by decide +kernel
theorem dX1_at_24 : decode cX1_at 24 = .ok (.iload_n 1, 1) := by decide +kernel
theorem dX1_at_25 : decode cX1_at 25 = .ok (.aaload, 1) := by decide +kernel
theorem dX1_at_26 : decode cX1_at 26 = .ok (.areturn, 1) := by decide +kernel
abbrev cX1_speed : ByteArray := prog_1_method_12_code
def yX1_speed : MethodName := ⟨RX1, "speed", "(IDD)V"⟩
theorem dX1_speed_0 : decode cX1_speed 0 = .ok (.aload_n 0, 1) := by decide +kernel
theorem dX1_speed_1 : decode cX1_speed 1 = .ok (.iload_n 1, 1) := by decide +kernel
theorem dX1_speed_2 : decode cX1_speed 2 = .ok (.invokevirtual 158, 3) := by decide +kernel
theorem dX1_speed_5 : decode cX1_speed 5 = .ok (.astore 6, 2) := by decide +kernel
theorem dX1_speed_7 : decode cX1_speed 7 = .ok (.dload_n 2, 1) := by decide +kernel
theorem dX1_speed_8 : decode cX1_speed 8 = .ok (.ldc2_w 129, 3) := by decide +kernel
theorem dX1_speed_11 : decode cX1_speed 11 = .ok (.ldc2_w 131, 3) := by decide +kernel
theorem dX1_speed_14 : decode cX1_speed 14 = .ok (.invokestatic 133, 3) := by decide +kernel
theorem dX1_speed_17 : decode cX1_speed 17 = .ok (.ifCond .eq 21, 3) := by decide +kernel
theorem dX1_speed_20 : decode cX1_speed 20 = .ok (.dload 4, 2) := by decide +kernel
theorem dX1_speed_22 : decode cX1_speed 22 = .ok (.ldc2_w 129, 3) := by decide +kernel
theorem dX1_speed_25 : decode cX1_speed 25 = .ok (.ldc2_w 131, 3) := by decide +kernel
theorem dX1_speed_28 : decode cX1_speed 28 = .ok (.invokestatic 133, 3) := by decide +kernel
theorem dX1_speed_31 : decode cX1_speed 31 = .ok (.ifCond .eq 7, 3) := by decide +kernel
theorem dX1_speed_34 : decode cX1_speed 34 = .ok (.iconst 1, 1) := by decide +kernel
theorem dX1_speed_35 : decode cX1_speed 35 = .ok (.goto 4, 3) := by decide +kernel
theorem dX1_speed_38 : decode cX1_speed 38 = .ok (.iconst 0, 1) := by decide +kernel
theorem dX1_speed_39 : decode cX1_speed 39 = .ok (.invokestatic 106, 3) := by decide +kernel
theorem dX1_speed_42 : decode cX1_speed 42 = .ok (.aload 6, 2) := by decide +kernel
theorem dX1_speed_44 : decode cX1_speed 44 = .ok (.dload_n 2, 1) := by decide +kernel
theorem dX1_speed_45 : decode cX1_speed 45 = .ok (.putfield 162, 3) := by decide +kernel
theorem dX1_speed_48 : decode cX1_speed 48 = .ok (.aload 6, 2) := by decide +kernel
theorem dX1_speed_50 : decode cX1_speed 50 = .ok (.dload 4, 2) := by decide +kernel
theorem dX1_speed_52 : decode cX1_speed 52 = .ok (.putfield 165, 3) := by decide +kernel
theorem dX1_speed_55 : decode cX1_speed 55 = .ok (.return_, 1) := by decide +kernel
abbrev cX1_sort : ByteArray := prog_1_method_13_code
def yX1_sort : MethodName := ⟨RX1, "sort", "(IDDD)V"⟩
theorem dX1_sort_0 : decode cX1_sort 0 = .ok (.iload_n 1, 1) := by decide +kernel
theorem dX1_sort_1 : decode cX1_sort 1 = .ok (.ifCond .lt 51, 3) := by decide +kernel
theorem dX1_sort_4 : decode cX1_sort 4 = .ok (.iload_n 1, 1) := by decide +kernel
theorem dX1_sort_5 : decode cX1_sort 5 = .ok (.iconst 3, 1) := by decide +kernel
theorem dX1_sort_6 : decode cX1_sort 6 = .ok (.if_icmp .ge 46, 3) := by decide +kernel
theorem dX1_sort_9 : decode cX1_sort 9 = .ok (.dload_n 2, 1) := by decide +kernel
theorem dX1_sort_10 : decode cX1_sort 10 = .ok (.ldc2_w 137, 3) := by decide +kernel
theorem dX1_sort_13 : decode cX1_sort 13 = .ok (.ldc2_w 168, 3) := by decide +kernel
theorem dX1_sort_16 : decode cX1_sort 16 = .ok (.invokestatic 133, 3) := by decide +kernel
theorem dX1_sort_19 : decode cX1_sort 19 = .ok (.ifCond .eq 33, 3) := by decide +kernel
theorem dX1_sort_22 : decode cX1_sort 22 = .ok (.dload 4, 2) := by decide +kernel
theorem dX1_sort_24 : decode cX1_sort 24 = .ok (.dconst 0, 1) := by decide +kernel
theorem dX1_sort_25 : decode cX1_sort 25 = .ok (.ldc2_w 139, 3) := by decide +kernel
theorem dX1_sort_28 : decode cX1_sort 28 = .ok (.invokestatic 133, 3) := by decide +kernel
theorem dX1_sort_31 : decode cX1_sort 31 = .ok (.ifCond .eq 21, 3) := by decide +kernel
theorem dX1_sort_34 : decode cX1_sort 34 = .ok (.dload 6, 2) := by decide +kernel
theorem dX1_sort_36 : decode cX1_sort 36 = .ok (.ldc2_w 170, 3) := by decide +kernel
theorem dX1_sort_39 : decode cX1_sort 39 = .ok (.ldc2_w 172, 3) := by decide +kernel
theorem dX1_sort_42 : decode cX1_sort 42 = .ok (.invokestatic 133, 3) := by decide +kernel
theorem dX1_sort_45 : decode cX1_sort 45 = .ok (.ifCond .eq 7, 3) := by decide +kernel
theorem dX1_sort_48 : decode cX1_sort 48 = .ok (.iconst 1, 1) := by decide +kernel
theorem dX1_sort_49 : decode cX1_sort 49 = .ok (.goto 4, 3) := by decide +kernel
theorem dX1_sort_52 : decode cX1_sort 52 = .ok (.iconst 0, 1) := by decide +kernel
theorem dX1_sort_53 : decode cX1_sort 53 = .ok (.invokestatic 106, 3) := by decide +kernel
theorem dX1_sort_56 : decode cX1_sort 56 = .ok (.aload_n 0, 1) := by decide +kernel
theorem dX1_sort_57 : decode cX1_sort 57 = .ok (.getfield 23, 3) := by decide +kernel
theorem dX1_sort_60 : decode cX1_sort 60 = .ok (.iload_n 1, 1) := by decide +kernel
theorem dX1_sort_61 : decode cX1_sort 61 = .ok (.aaload, 1) := by decide +kernel
theorem dX1_sort_62 : decode cX1_sort 62 = .ok (.dload_n 2, 1) := by decide +kernel
theorem dX1_sort_63 : decode cX1_sort 63 = .ok (.putfield 174, 3) := by decide +kernel
theorem dX1_sort_66 : decode cX1_sort 66 = .ok (.aload_n 0, 1) := by decide +kernel
theorem dX1_sort_67 : decode cX1_sort 67 = .ok (.getfield 23, 3) := by decide +kernel
theorem dX1_sort_70 : decode cX1_sort 70 = .ok (.iload_n 1, 1) := by decide +kernel
theorem dX1_sort_71 : decode cX1_sort 71 = .ok (.aaload, 1) := by decide +kernel
theorem dX1_sort_72 : decode cX1_sort 72 = .ok (.dload 4, 2) := by decide +kernel
theorem dX1_sort_74 : decode cX1_sort 74 = .ok (.putfield 177, 3) := by decide +kernel
theorem dX1_sort_77 : decode cX1_sort 77 = .ok (.aload_n 0, 1) := by decide +kernel
theorem dX1_sort_78 : decode cX1_sort 78 = .ok (.getfield 23, 3) := by decide +kernel
theorem dX1_sort_81 : decode cX1_sort 81 = .ok (.iload_n 1, 1) := by decide +kernel
theorem dX1_sort_82 : decode cX1_sort 82 = .ok (.aaload, 1) := by decide +kernel
theorem dX1_sort_83 : decode cX1_sort 83 = .ok (.dload 6, 2) := by decide +kernel
theorem dX1_sort_85 : decode cX1_sort 85 = .ok (.putfield 180, 3) := by decide +kernel
theorem dX1_sort_88 : decode cX1_sort 88 = .ok (.return_, 1) := by decide +kernel
abbrev cX1_cut : ByteArray := prog_1_method_14_code
def yX1_cut : MethodName := ⟨RX1, "cut", "(DD)V"⟩
theorem dX1_cut_0 : decode cX1_cut 0 = .ok (.dload_n 1, 1) := by decide +kernel
theorem dX1_cut_1 : decode cX1_cut 1 = .ok (.ldc2_w 7, 3) := by decide +kernel
theorem dX1_cut_4 : decode cX1_cut 4 = .ok (.aload_n 0, 1) := by decide +kernel
theorem dX1_cut_5 : decode cX1_cut 5 = .ok (.getfield 91, 3) := by decide +kernel
theorem dX1_cut_8 : decode cX1_cut 8 = .ok (.ldc2_w 7, 3) := by decide +kernel
theorem dX1_cut_11 : decode cX1_cut 11 = .ok (.dmul, 1) := by decide +kernel
theorem dX1_cut_12 : decode cX1_cut 12 = .ok (.invokestatic 133, 3) := by decide +kernel
theorem dX1_cut_15 : decode cX1_cut 15 = .ok (.ifCond .eq 18, 3) := by decide +kernel
theorem dX1_cut_18 : decode cX1_cut 18 = .ok (.dload_n 3, 1) := by decide +kernel
theorem dX1_cut_19 : decode cX1_cut 19 = .ok (.dconst 0, 1) := by decide +kernel
theorem dX1_cut_20 : decode cX1_cut 20 = .ok (.ldc2_w 168, 3) := by decide +kernel
theorem dX1_cut_23 : decode cX1_cut 23 = .ok (.invokestatic 133, 3) := by decide +kernel
theorem dX1_cut_26 : decode cX1_cut 26 = .ok (.ifCond .eq 7, 3) := by decide +kernel
theorem dX1_cut_29 : decode cX1_cut 29 = .ok (.iconst 1, 1) := by decide +kernel
theorem dX1_cut_30 : decode cX1_cut 30 = .ok (.goto 4, 3) := by decide +kernel
theorem dX1_cut_33 : decode cX1_cut 33 = .ok (.iconst 0, 1) := by decide +kernel
theorem dX1_cut_34 : decode cX1_cut 34 = .ok (.invokestatic 106, 3) := by decide +kernel
theorem dX1_cut_37 : decode cX1_cut 37 = .ok (.aload_n 0, 1) := by decide +kernel
theorem dX1_cut_38 : decode cX1_cut 38 = .ok (.dload_n 1, 1) := by decide +kernel
theorem dX1_cut_39 : decode cX1_cut 39 = .ok (.putfield 96, 3) := by decide +kernel
theorem dX1_cut_42 : decode cX1_cut 42 = .ok (.aload_n 0, 1) := by decide +kernel
theorem dX1_cut_43 : decode cX1_cut 43 = .ok (.dload_n 3, 1) := by decide +kernel
theorem dX1_cut_44 : decode cX1_cut 44 = .ok (.putfield 9, 3) := by decide +kernel
theorem dX1_cut_47 : decode cX1_cut 47 = .ok (.aload_n 0, 1) := by decide +kernel
theorem dX1_cut_48 : decode cX1_cut 48 = .ok (.iconst 0, 1) := by decide +kernel
theorem dX1_cut_49 : decode cX1_cut 49 = .ok (.putfield 154, 3) := by decide +kernel
theorem dX1_cut_52 : decode cX1_cut 52 = .ok (.return_, 1) := by decide +kernel
abbrev cX1_bond : ByteArray := prog_1_method_15_code
def yX1_bond : MethodName := ⟨RX1, "bond", "(IIDD)I"⟩
theorem dX1_bond_0 : decode cX1_bond 0 = .ok (.aload_n 0, 1) := by decide +kernel
theorem dX1_bond_1 : decode cX1_bond 1 = .ok (.iload_n 1, 1) := by decide +kernel
theorem dX1_bond_2 : decode cX1_bond 2 = .ok (.invokevirtual 158, 3) := by decide +kernel
theorem dX1_bond_5 : decode cX1_bond 5 = .ok (.astore 7, 2) := by decide +kernel
theorem dX1_bond_7 : decode cX1_bond 7 = .ok (.aload_n 0, 1) := by decide +kernel
theorem dX1_bond_8 : decode cX1_bond 8 = .ok (.iload_n 2, 1) := by decide +kernel
theorem dX1_bond_9 : decode cX1_bond 9 = .ok (.invokevirtual 158, 3) := by decide +kernel
theorem dX1_bond_12 : decode cX1_bond 12 = .ok (.astore 8, 2) := by decide +kernel
theorem dX1_bond_14 : decode cX1_bond 14 = .ok (.aload 7, 2) := by decide +kernel
theorem dX1_bond_16 : decode cX1_bond 16 = .ok (.aload 8, 2) := by decide +kernel
theorem dX1_bond_18 : decode cX1_bond 18 = .ok (.if_acmp .eq 37, 3) := by decide +kernel
theorem dX1_bond_21 : decode cX1_bond 21 = .ok (.dload_n 3, 1) := by decide +kernel
theorem dX1_bond_22 : decode cX1_bond 22 = .ok (.dconst 0, 1) := by decide +kernel
theorem dX1_bond_23 : decode cX1_bond 23 = .ok (.ldc2_w 139, 3) := by decide +kernel
theorem dX1_bond_26 : decode cX1_bond 26 = .ok (.invokestatic 133, 3) := by decide +kernel
theorem dX1_bond_29 : decode cX1_bond 29 = .ok (.ifCond .eq 26, 3) := by decide +kernel
theorem dX1_bond_32 : decode cX1_bond 32 = .ok (.dload 5, 2) := by decide +kernel
theorem dX1_bond_34 : decode cX1_bond 34 = .ok (.ldc2_w 137, 3) := by decide +kernel
theorem dX1_bond_37 : decode cX1_bond 37 = .ok (.aload_n 0, 1) := by decide +kernel
theorem dX1_bond_38 : decode cX1_bond 38 = .ok (.getfield 91, 3) := by decide +kernel
theorem dX1_bond_41 : decode cX1_bond 41 = .ok (.ldc2_w 7, 3) := by decide +kernel
theorem dX1_bond_44 : decode cX1_bond 44 = .ok (.dmul, 1) := by decide +kernel
theorem dX1_bond_45 : decode cX1_bond 45 = .ok (.invokestatic 133, 3) := by decide +kernel
theorem dX1_bond_48 : decode cX1_bond 48 = .ok (.ifCond .eq 7, 3) := by decide +kernel
theorem dX1_bond_51 : decode cX1_bond 51 = .ok (.iconst 1, 1) := by decide +kernel
theorem dX1_bond_52 : decode cX1_bond 52 = .ok (.goto 4, 3) := by decide +kernel
theorem dX1_bond_55 : decode cX1_bond 55 = .ok (.iconst 0, 1) := by decide +kernel
theorem dX1_bond_56 : decode cX1_bond 56 = .ok (.invokestatic 106, 3) := by decide +kernel
theorem dX1_bond_59 : decode cX1_bond 59 = .ok (.aload_n 0, 1) := by decide +kernel
theorem dX1_bond_60 : decode cX1_bond 60 = .ok (.getfield 183, 3) := by decide +kernel
theorem dX1_bond_63 : decode cX1_bond 63 = .ok (.bipush 8, 2) := by decide +kernel
theorem dX1_bond_65 : decode cX1_bond 65 = .ok (.if_icmp .ne 13, 3) := by decide +kernel
theorem dX1_bond_68 : decode cX1_bond 68 = .ok (.new 141, 3) := by decide +kernel
theorem dX1_bond_71 : decode cX1_bond 71 = .ok (.dup, 1) := by decide +kernel
theorem dX1_bond_72 : decode cX1_bond 72 = .ok (.ldc 143, 2) := by decide +kernel
theorem dX1_bond_74 : decode cX1_bond 74 = .ok (.invokespecial 145, 3) := by decide +kernel
theorem dX1_bond_77 : decode cX1_bond 77 = .ok (.athrow, 1) := by decide +kernel
theorem dX1_bond_78 : decode cX1_bond 78 = .ok (.aload_n 0, 1) := by decide +kernel
theorem dX1_bond_79 : decode cX1_bond 79 = .ok (.getfield 35, 3) := by decide +kernel
theorem dX1_bond_82 : decode cX1_bond 82 = .ok (.aload_n 0, 1) := by decide +kernel
theorem dX1_bond_83 : decode cX1_bond 83 = .ok (.getfield 183, 3) := by decide +kernel
theorem dX1_bond_86 : decode cX1_bond 86 = .ok (.new 33, 3) := by decide +kernel
theorem dX1_bond_89 : decode cX1_bond 89 = .ok (.dup, 1) := by decide +kernel
theorem dX1_bond_90 : decode cX1_bond 90 = .ok (.aload 7, 2) := by decide +kernel
theorem dX1_bond_92 : decode cX1_bond 92 = .ok (.aload 8, 2) := by decide +kernel
theorem dX1_bond_94 : decode cX1_bond 94 = .ok (.dload_n 3, 1) := by decide +kernel
theorem dX1_bond_95 : decode cX1_bond 95 = .ok (.dload 5, 2) := by decide +kernel
theorem dX1_bond_97 : decode cX1_bond 97 = .ok (.invokespecial 186, 3) := by decide +kernel
theorem dX1_bond_100 : decode cX1_bond 100 = .ok (.aastore, 1) := by decide +kernel
theorem dX1_bond_101 : decode cX1_bond 101 = .ok (.aload_n 0, 1) := by decide +kernel
theorem dX1_bond_102 : decode cX1_bond 102 = .ok (.dup, 1) := by decide +kernel
theorem dX1_bond_103 : decode cX1_bond 103 = .ok (.getfield 183, 3) := by decide +kernel
theorem dX1_bond_106 : decode cX1_bond 106 = .ok (.iconst 1, 1) := by decide +kernel
theorem dX1_bond_107 : decode cX1_bond 107 = .ok (.iadd, 1) := by decide +kernel
theorem dX1_bond_108 : decode cX1_bond 108 = .ok (.putfield 183, 3) := by decide +kernel
theorem dX1_bond_111 : decode cX1_bond 111 = .ok (.aload_n 0, 1) := by decide +kernel
theorem dX1_bond_112 : decode cX1_bond 112 = .ok (.getfield 183, 3) := by decide +kernel
theorem dX1_bond_115 : decode cX1_bond 115 = .ok (.ireturn, 1) := by decide +kernel
abbrev cX1_rod : ByteArray := prog_1_method_16_code
def yX1_rod : MethodName := ⟨RX1, "rod", "(IID)I"⟩
theorem dX1_rod_0 : decode cX1_rod 0 = .ok (.aload_n 0, 1) := by decide +kernel
theorem dX1_rod_1 : decode cX1_rod 1 = .ok (.iload_n 1, 1) := by decide +kernel
theorem dX1_rod_2 : decode cX1_rod 2 = .ok (.invokevirtual 158, 3) := by decide +kernel
theorem dX1_rod_5 : decode cX1_rod 5 = .ok (.astore 5, 2) := by decide +kernel
theorem dX1_rod_7 : decode cX1_rod 7 = .ok (.aload_n 0, 1) := by decide +kernel
theorem dX1_rod_8 : decode cX1_rod 8 = .ok (.iload_n 2, 1) := by decide +kernel
theorem dX1_rod_9 : decode cX1_rod 9 = .ok (.invokevirtual 158, 3) := by decide +kernel
theorem dX1_rod_12 : decode cX1_rod 12 = .ok (.astore 6, 2) := by decide +kernel
theorem dX1_rod_14 : decode cX1_rod 14 = .ok (.aload 5, 2) := by decide +kernel
theorem dX1_rod_16 : decode cX1_rod 16 = .ok (.aload 6, 2) := by decide +kernel
theorem dX1_rod_18 : decode cX1_rod 18 = .ok (.if_acmp .eq 25, 3) := by decide +kernel
theorem dX1_rod_21 : decode cX1_rod 21 = .ok (.dload_n 3, 1) := by decide +kernel
theorem dX1_rod_22 : decode cX1_rod 22 = .ok (.ldc2_w 137, 3) := by decide +kernel
theorem dX1_rod_25 : decode cX1_rod 25 = .ok (.aload_n 0, 1) := by decide +kernel
theorem dX1_rod_26 : decode cX1_rod 26 = .ok (.getfield 91, 3) := by decide +kernel
theorem dX1_rod_29 : decode cX1_rod 29 = .ok (.ldc2_w 7, 3) := by decide +kernel
theorem dX1_rod_32 : decode cX1_rod 32 = .ok (.dmul, 1) := by decide +kernel
theorem dX1_rod_33 : decode cX1_rod 33 = .ok (.invokestatic 133, 3) := by decide +kernel
theorem dX1_rod_36 : decode cX1_rod 36 = .ok (.ifCond .eq 7, 3) := by decide +kernel
theorem dX1_rod_39 : decode cX1_rod 39 = .ok (.iconst 1, 1) := by decide +kernel
theorem dX1_rod_40 : decode cX1_rod 40 = .ok (.goto 4, 3) := by decide +kernel
theorem dX1_rod_43 : decode cX1_rod 43 = .ok (.iconst 0, 1) := by decide +kernel
theorem dX1_rod_44 : decode cX1_rod 44 = .ok (.invokestatic 106, 3) := by decide +kernel
theorem dX1_rod_47 : decode cX1_rod 47 = .ok (.aload_n 0, 1) := by decide +kernel
theorem dX1_rod_48 : decode cX1_rod 48 = .ok (.getfield 189, 3) := by decide +kernel
theorem dX1_rod_51 : decode cX1_rod 51 = .ok (.iconst 4, 1) := by decide +kernel
theorem dX1_rod_52 : decode cX1_rod 52 = .ok (.if_icmp .ne 13, 3) := by decide +kernel
theorem dX1_rod_55 : decode cX1_rod 55 = .ok (.new 141, 3) := by decide +kernel
theorem dX1_rod_58 : decode cX1_rod 58 = .ok (.dup, 1) := by decide +kernel
theorem dX1_rod_59 : decode cX1_rod 59 = .ok (.ldc 143, 2) := by decide +kernel
theorem dX1_rod_61 : decode cX1_rod 61 = .ok (.invokespecial 145, 3) := by decide +kernel
theorem dX1_rod_64 : decode cX1_rod 64 = .ok (.athrow, 1) := by decide +kernel
theorem dX1_rod_65 : decode cX1_rod 65 = .ok (.aload_n 0, 1) := by decide +kernel
theorem dX1_rod_66 : decode cX1_rod 66 = .ok (.getfield 41, 3) := by decide +kernel
theorem dX1_rod_69 : decode cX1_rod 69 = .ok (.aload_n 0, 1) := by decide +kernel
theorem dX1_rod_70 : decode cX1_rod 70 = .ok (.getfield 189, 3) := by decide +kernel
theorem dX1_rod_73 : decode cX1_rod 73 = .ok (.new 39, 3) := by decide +kernel
theorem dX1_rod_76 : decode cX1_rod 76 = .ok (.dup, 1) := by decide +kernel
theorem dX1_rod_77 : decode cX1_rod 77 = .ok (.aload 5, 2) := by decide +kernel
theorem dX1_rod_79 : decode cX1_rod 79 = .ok (.aload 6, 2) := by decide +kernel
theorem dX1_rod_81 : decode cX1_rod 81 = .ok (.dload_n 3, 1) := by decide +kernel
theorem dX1_rod_82 : decode cX1_rod 82 = .ok (.invokespecial 192, 3) := by decide +kernel
theorem dX1_rod_85 : decode cX1_rod 85 = .ok (.aastore, 1) := by decide +kernel
theorem dX1_rod_86 : decode cX1_rod 86 = .ok (.aload_n 0, 1) := by decide +kernel
theorem dX1_rod_87 : decode cX1_rod 87 = .ok (.dup, 1) := by decide +kernel
theorem dX1_rod_88 : decode cX1_rod 88 = .ok (.getfield 189, 3) := by decide +kernel
theorem dX1_rod_91 : decode cX1_rod 91 = .ok (.iconst 1, 1) := by decide +kernel
theorem dX1_rod_92 : decode cX1_rod 92 = .ok (.iadd, 1) := by decide +kernel
theorem dX1_rod_93 : decode cX1_rod 93 = .ok (.putfield 189, 3) := by decide +kernel
theorem dX1_rod_96 : decode cX1_rod 96 = .ok (.aload_n 0, 1) := by decide +kernel
theorem dX1_rod_97 : decode cX1_rod 97 = .ok (.getfield 189, 3) := by decide +kernel
theorem dX1_rod_100 : decode cX1_rod 100 = .ok (.ireturn, 1) := by decide +kernel
abbrev cX1_stuck : ByteArray := prog_1_method_17_code
def yX1_stuck : MethodName := ⟨RX1, "stuck", "(IZ)V"⟩
theorem dX1_stuck_0 : decode cX1_stuck 0 = .ok (.aload_n 0, 1) := by decide +kernel
theorem dX1_stuck_1 : decode cX1_stuck 1 = .ok (.iload_n 1, 1) := by decide +kernel
theorem dX1_stuck_2 : decode cX1_stuck 2 = .ok (.invokevirtual 158, 3) := by decide +kernel
theorem dX1_stuck_5 : decode cX1_stuck 5 = .ok (.astore_n 3, 1) := by decide +kernel
theorem dX1_stuck_6 : decode cX1_stuck 6 = .ok (.aload_n 3, 1) := by decide +kernel
theorem dX1_stuck_7 : decode cX1_stuck 7 = .ok (.iload_n 2, 1) := by decide +kernel
theorem dX1_stuck_8 : decode cX1_stuck 8 = .ok (.putfield 195, 3) := by decide +kernel
theorem dX1_stuck_11 : decode cX1_stuck 11 = .ok (.iload_n 2, 1) := by decide +kernel
theorem dX1_stuck_12 : decode cX1_stuck 12 = .ok (.ifCond .ne 4, 3) := by decide +kernel
theorem dX1_stuck_15 : decode cX1_stuck 15 = .ok (.return_, 1) := by decide +kernel
theorem dX1_stuck_16 : decode cX1_stuck 16 = .ok (.aload_n 3, 1) := by decide +kernel
theorem dX1_stuck_17 : decode cX1_stuck 17 = .ok (.dconst 0, 1) := by decide +kernel
theorem dX1_stuck_18 : decode cX1_stuck 18 = .ok (.putfield 162, 3) := by decide +kernel
theorem dX1_stuck_21 : decode cX1_stuck 21 = .ok (.aload_n 3, 1) := by decide +kernel
theorem dX1_stuck_22 : decode cX1_stuck 22 = .ok (.dconst 0, 1) := by decide +kernel
theorem dX1_stuck_23 : decode cX1_stuck 23 = .ok (.putfield 165, 3) := by decide +kernel
theorem dX1_stuck_26 : decode cX1_stuck 26 = .ok (.return_, 1) := by decide +kernel
abbrev cX1_thermostat : ByteArray := prog_1_method_18_code
def yX1_thermostat : MethodName := ⟨RX1, "thermostat", "(D)V"⟩
theorem dX1_thermostat_0 : decode cX1_thermostat 0 = .ok (.dload_n 1, 1) := by decide +kernel
theorem dX1_thermostat_1 : decode cX1_thermostat 1 = .ok (.ldc2_w 131, 3) := by decide +kernel
theorem dX1_thermostat_4 : decode cX1_thermostat 4 = .ok (.dcmp .g, 1) := by decide +kernel
theorem dX1_thermostat_5 : decode cX1_thermostat 5 = .ok (.ifCond .gt 7, 3) := by decide +kernel
theorem dX1_thermostat_8 : decode cX1_thermostat 8 = .ok (.iconst 1, 1) := by decide +kernel
theorem dX1_thermostat_9 : decode cX1_thermostat 9 = .ok (.goto 4, 3) := by decide +kernel
theorem dX1_thermostat_12 : decode cX1_thermostat 12 = .ok (.iconst 0, 1) := by decide +kernel
theorem dX1_thermostat_13 : decode cX1_thermostat 13 = .ok (.invokestatic 106, 3) := by decide +kernel
theorem dX1_thermostat_16 : decode cX1_thermostat 16 = .ok (.aload_n 0, 1) := by decide +kernel
theorem dX1_thermostat_17 : decode cX1_thermostat 17 = .ok (.dload_n 1, 1) := by decide +kernel
theorem dX1_thermostat_18 : decode cX1_thermostat 18 = .ok (.putfield 17, 3) := by decide +kernel
theorem dX1_thermostat_21 : decode cX1_thermostat 21 = .ok (.return_, 1) := by decide +kernel
abbrev cX1_step : ByteArray := prog_1_method_30_code
def yX1_step : MethodName := ⟨RX1, "step", "(II)V"⟩
theorem dX1_step_0 : decode cX1_step 0 = .ok (.iload_n 1, 1) := by decide +kernel
theorem dX1_step_1 : decode cX1_step 1 = .ok (.iconst 1, 1) := by decide +kernel
theorem dX1_step_2 : decode cX1_step 2 = .ok (.if_icmp .lt 25, 3) := by decide +kernel
theorem dX1_step_5 : decode cX1_step 5 = .ok (.iload_n 1, 1) := by decide +kernel
theorem dX1_step_6 : decode cX1_step 6 = .ok (.bipush 50, 2) := by decide +kernel
theorem dX1_step_8 : decode cX1_step 8 = .ok (.if_icmp .gt 19, 3) := by decide +kernel
theorem dX1_step_11 : decode cX1_step 11 = .ok (.iload_n 2, 1) := by decide +kernel
theorem dX1_step_12 : decode cX1_step 12 = .ok (.iconst 1, 1) := by decide +kernel
theorem dX1_step_13 : decode cX1_step 13 = .ok (.if_icmp .lt 14, 3) := by decide +kernel
theorem dX1_step_16 : decode cX1_step 16 = .ok (.iload_n 2, 1) := by decide +kernel
theorem dX1_step_17 : decode cX1_step 17 = .ok (.sipush 128, 3) := by decide +kernel
theorem dX1_step_20 : decode cX1_step 20 = .ok (.if_icmp .gt 7, 3) := by decide +kernel
theorem dX1_step_23 : decode cX1_step 23 = .ok (.iconst 1, 1) := by decide +kernel
theorem dX1_step_24 : decode cX1_step 24 = .ok (.goto 4, 3) := by decide +kernel
theorem dX1_step_27 : decode cX1_step 27 = .ok (.iconst 0, 1) := by decide +kernel
theorem dX1_step_28 : decode cX1_step 28 = .ok (.invokestatic 106, 3) := by decide +kernel
theorem dX1_step_31 : decode cX1_step 31 = .ok (.aload_n 0, 1) := by decide +kernel
theorem dX1_step_32 : decode cX1_step 32 = .ok (.getfield 102, 3) := by decide +kernel
theorem dX1_step_35 : decode cX1_step 35 = .ok (.ifCond .ne 11, 3) := by decide +kernel
theorem dX1_step_38 : decode cX1_step 38 = .ok (.new 141, 3) := by decide +kernel
theorem dX1_step_41 : decode cX1_step 41 = .ok (.dup, 1) := by decide +kernel
theorem dX1_step_42 : decode cX1_step 42 = .ok (.invokespecial 313, 3) := by decide +kernel
theorem dX1_step_45 : decode cX1_step 45 = .ok (.athrow, 1) := by decide +kernel
theorem dX1_step_46 : decode cX1_step 46 = .ok (.iconst 0, 1) := by decide +kernel
theorem dX1_step_47 : decode cX1_step 47 = .ok (.istore_n 3, 1) := by decide +kernel
theorem dX1_step_48 : decode cX1_step 48 = .ok (.iload_n 3, 1) := by decide +kernel
theorem dX1_step_49 : decode cX1_step 49 = .ok (.iload_n 1, 1) := by decide +kernel
theorem dX1_step_50 : decode cX1_step 50 = .ok (.if_icmp .ge 134, 3) := by decide +kernel
theorem dX1_step_53 : decode cX1_step 53 = .ok (.iconst 0, 1) := by decide +kernel
theorem dX1_step_54 : decode cX1_step 54 = .ok (.istore 4, 2) := by decide +kernel
theorem dX1_step_56 : decode cX1_step 56 = .ok (.iload 4, 2) := by decide +kernel
theorem dX1_step_58 : decode cX1_step 58 = .ok (.aload_n 0, 1) := by decide +kernel
theorem dX1_step_59 : decode cX1_step 59 = .ok (.getfield 102, 3) := by decide +kernel
theorem dX1_step_62 : decode cX1_step 62 = .ok (.if_icmp .ge 26, 3) := by decide +kernel
theorem dX1_step_65 : decode cX1_step 65 = .ok (.aload_n 0, 1) := by decide +kernel
theorem dX1_step_66 : decode cX1_step 66 = .ok (.getfield 29, 3) := by decide +kernel
theorem dX1_step_69 : decode cX1_step 69 = .ok (.iload 4, 2) := by decide +kernel
theorem dX1_step_71 : decode cX1_step 71 = .ok (.aaload, 1) := by decide +kernel
theorem dX1_step_72 : decode cX1_step 72 = .ok (.aload_n 0, 1) := by decide +kernel
theorem dX1_step_73 : decode cX1_step 73 = .ok (.getfield 73, 3) := by decide +kernel
theorem dX1_step_76 : decode cX1_step 76 = .ok (.iload 4, 2) := by decide +kernel
theorem dX1_step_78 : decode cX1_step 78 = .ok (.aaload, 1) := by decide +kernel
theorem dX1_step_79 : decode cX1_step 79 = .ok (.invokevirtual 314, 3) := by decide +kernel
theorem dX1_step_82 : decode cX1_step 82 = .ok (.iinc 4 1, 3) := by decide +kernel
theorem dX1_step_85 : decode cX1_step 85 = .ok (.goto (-29), 3) := by decide +kernel
theorem dX1_step_88 : decode cX1_step 88 = .ok (.aload_n 0, 1) := by decide +kernel
theorem dX1_step_89 : decode cX1_step 89 = .ok (.dup, 1) := by decide +kernel
theorem dX1_step_90 : decode cX1_step 90 = .ok (.getfield 318, 3) := by decide +kernel
theorem dX1_step_93 : decode cX1_step 93 = .ok (.aload_n 0, 1) := by decide +kernel
theorem dX1_step_94 : decode cX1_step 94 = .ok (.iload_n 2, 1) := by decide +kernel
theorem dX1_step_95 : decode cX1_step 95 = .ok (.i2d, 1) := by decide +kernel
theorem dX1_step_96 : decode cX1_step 96 = .ok (.ldc2_w 321, 3) := by decide +kernel
theorem dX1_step_99 : decode cX1_step 99 = .ok (.ddiv, 1) := by decide +kernel
theorem dX1_step_100 : decode cX1_step 100 = .ok (.invokevirtual 323, 3) := by decide +kernel
theorem dX1_step_103 : decode cX1_step 103 = .ok (.iadd, 1) := by decide +kernel
theorem dX1_step_104 : decode cX1_step 104 = .ok (.putfield 318, 3) := by decide +kernel
theorem dX1_step_107 : decode cX1_step 107 = .ok (.aload_n 0, 1) := by decide +kernel
theorem dX1_step_108 : decode cX1_step 108 = .ok (.dup, 1) := by decide +kernel
theorem dX1_step_109 : decode cX1_step 109 = .ok (.getfield 327, 3) := by decide +kernel
theorem dX1_step_112 : decode cX1_step 112 = .ok (.iconst 1, 1) := by decide +kernel
theorem dX1_step_113 : decode cX1_step 113 = .ok (.iadd, 1) := by decide +kernel
theorem dX1_step_114 : decode cX1_step 114 = .ok (.putfield 327, 3) := by decide +kernel
theorem dX1_step_117 : decode cX1_step 117 = .ok (.goto 61, 3) := by decide +kernel
theorem dX1_step_120 : decode cX1_step 120 = .ok (.astore 4, 2) := by decide +kernel
theorem dX1_step_122 : decode cX1_step 122 = .ok (.iconst 0, 1) := by decide +kernel
theorem dX1_step_123 : decode cX1_step 123 = .ok (.istore 5, 2) := by decide +kernel
theorem dX1_step_125 : decode cX1_step 125 = .ok (.iload 5, 2) := by decide +kernel
theorem dX1_step_127 : decode cX1_step 127 = .ok (.aload_n 0, 1) := by decide +kernel
theorem dX1_step_128 : decode cX1_step 128 = .ok (.getfield 102, 3) := by decide +kernel
theorem dX1_step_131 : decode cX1_step 131 = .ok (.if_icmp .ge 26, 3) := by decide +kernel
theorem dX1_step_134 : decode cX1_step 134 = .ok (.aload_n 0, 1) := by decide +kernel
theorem dX1_step_135 : decode cX1_step 135 = .ok (.getfield 29, 3) := by decide +kernel
theorem dX1_step_138 : decode cX1_step 138 = .ok (.iload 5, 2) := by decide +kernel
theorem dX1_step_140 : decode cX1_step 140 = .ok (.aaload, 1) := by decide +kernel
theorem dX1_step_141 : decode cX1_step 141 = .ok (.aload_n 0, 1) := by decide +kernel
theorem dX1_step_142 : decode cX1_step 142 = .ok (.getfield 73, 3) := by decide +kernel
theorem dX1_step_145 : decode cX1_step 145 = .ok (.iload 5, 2) := by decide +kernel
theorem dX1_step_147 : decode cX1_step 147 = .ok (.aaload, 1) := by decide +kernel
theorem dX1_step_148 : decode cX1_step 148 = .ok (.invokevirtual 330, 3) := by decide +kernel
theorem dX1_step_151 : decode cX1_step 151 = .ok (.iinc 5 1, 3) := by decide +kernel
theorem dX1_step_154 : decode cX1_step 154 = .ok (.goto (-29), 3) := by decide +kernel
theorem dX1_step_157 : decode cX1_step 157 = .ok (.aload_n 0, 1) := by decide +kernel
theorem dX1_step_158 : decode cX1_step 158 = .ok (.iconst 0, 1) := by decide +kernel
theorem dX1_step_159 : decode cX1_step 159 = .ok (.putfield 154, 3) := by decide +kernel
theorem dX1_step_162 : decode cX1_step 162 = .ok (.aload_n 0, 1) := by decide +kernel
theorem dX1_step_163 : decode cX1_step 163 = .ok (.getfield 79, 3) := by decide +kernel
theorem dX1_step_166 : decode cX1_step 166 = .ok (.aload_n 0, 1) := by decide +kernel
theorem dX1_step_167 : decode cX1_step 167 = .ok (.getfield 221, 3) := by decide +kernel
theorem dX1_step_170 : decode cX1_step 170 = .ok (.dup2, 1) := by decide +kernel
theorem dX1_step_171 : decode cX1_step 171 = .ok (.iaload, 1) := by decide +kernel
theorem dX1_step_172 : decode cX1_step 172 = .ok (.iconst 1, 1) := by decide +kernel
theorem dX1_step_173 : decode cX1_step 173 = .ok (.iadd, 1) := by decide +kernel
theorem dX1_step_174 : decode cX1_step 174 = .ok (.iastore, 1) := by decide +kernel
theorem dX1_step_175 : decode cX1_step 175 = .ok (.aload 4, 2) := by decide +kernel
theorem dX1_step_177 : decode cX1_step 177 = .ok (.athrow, 1) := by decide +kernel
theorem dX1_step_178 : decode cX1_step 178 = .ok (.iinc 3 1, 3) := by decide +kernel
theorem dX1_step_181 : decode cX1_step 181 = .ok (.goto (-133), 3) := by decide +kernel
theorem dX1_step_184 : decode cX1_step 184 = .ok (.return_, 1) := by decide +kernel
abbrev cX1_advance : ByteArray := prog_1_method_29_code
def yX1_advance : MethodName := ⟨RX1, "advance", "(D)I"⟩
theorem dX1_advance_0 : decode cX1_advance 0 = .ok (.aload_n 0, 1) := by decide +kernel
theorem dX1_advance_1 : decode cX1_advance 1 = .ok (.invokevirtual 297, 3) := by decide +kernel
theorem dX1_advance_4 : decode cX1_advance 4 = .ok (.aload_n 0, 1) := by decide +kernel
theorem dX1_advance_5 : decode cX1_advance 5 = .ok (.ldc2_w 7, 3) := by decide +kernel
theorem dX1_advance_8 : decode cX1_advance 8 = .ok (.dload_n 1, 1) := by decide +kernel
theorem dX1_advance_9 : decode cX1_advance 9 = .ok (.dmul, 1) := by decide +kernel
theorem dX1_advance_10 : decode cX1_advance 10 = .ok (.invokevirtual 300, 3) := by decide +kernel
theorem dX1_advance_13 : decode cX1_advance 13 = .ok (.aload_n 0, 1) := by decide +kernel
theorem dX1_advance_14 : decode cX1_advance 14 = .ok (.invokevirtual 303, 3) := by decide +kernel
theorem dX1_advance_17 : decode cX1_advance 17 = .ok (.iconst 0, 1) := by decide +kernel
theorem dX1_advance_18 : decode cX1_advance 18 = .ok (.istore_n 3, 1) := by decide +kernel
theorem dX1_advance_19 : decode cX1_advance 19 = .ok (.iload_n 3, 1) := by decide +kernel
theorem dX1_advance_20 : decode cX1_advance 20 = .ok (.aload_n 0, 1) := by decide +kernel
theorem dX1_advance_21 : decode cX1_advance 21 = .ok (.getfield 102, 3) := by decide +kernel
theorem dX1_advance_24 : decode cX1_advance 24 = .ok (.if_icmp .ge 85, 3) := by decide +kernel
theorem dX1_advance_27 : decode cX1_advance 27 = .ok (.aload_n 0, 1) := by decide +kernel
theorem dX1_advance_28 : decode cX1_advance 28 = .ok (.getfield 29, 3) := by decide +kernel
theorem dX1_advance_31 : decode cX1_advance 31 = .ok (.iload_n 3, 1) := by decide +kernel
theorem dX1_advance_32 : decode cX1_advance 32 = .ok (.aaload, 1) := by decide +kernel
theorem dX1_advance_33 : decode cX1_advance 33 = .ok (.astore 4, 2) := by decide +kernel
theorem dX1_advance_35 : decode cX1_advance 35 = .ok (.aload 4, 2) := by decide +kernel
theorem dX1_advance_37 : decode cX1_advance 37 = .ok (.aload 4, 2) := by decide +kernel
theorem dX1_advance_39 : decode cX1_advance 39 = .ok (.getfield 195, 3) := by decide +kernel
theorem dX1_advance_42 : decode cX1_advance 42 = .ok (.ifCond .eq 11, 3) := by decide +kernel
theorem dX1_advance_45 : decode cX1_advance 45 = .ok (.aload 4, 2) := by decide +kernel
theorem dX1_advance_47 : decode cX1_advance 47 = .ok (.getfield 114, 3) := by decide +kernel
theorem dX1_advance_50 : decode cX1_advance 50 = .ok (.goto 16, 3) := by decide +kernel
theorem dX1_advance_53 : decode cX1_advance 53 = .ok (.aload 4, 2) := by decide +kernel
theorem dX1_advance_55 : decode cX1_advance 55 = .ok (.getfield 114, 3) := by decide +kernel
theorem dX1_advance_58 : decode cX1_advance 58 = .ok (.dload_n 1, 1) := by decide +kernel
theorem dX1_advance_59 : decode cX1_advance 59 = .ok (.aload 4, 2) := by decide +kernel
theorem dX1_advance_61 : decode cX1_advance 61 = .ok (.getfield 162, 3) := by decide +kernel
theorem dX1_advance_64 : decode cX1_advance 64 = .ok (.dmul, 1) := by decide +kernel
theorem dX1_advance_65 : decode cX1_advance 65 = .ok (.dadd, 1) := by decide +kernel
theorem dX1_advance_66 : decode cX1_advance 66 = .ok (.putfield 268, 3) := by decide +kernel
theorem dX1_advance_69 : decode cX1_advance 69 = .ok (.aload 4, 2) := by decide +kernel
theorem dX1_advance_71 : decode cX1_advance 71 = .ok (.aload 4, 2) := by decide +kernel
theorem dX1_advance_73 : decode cX1_advance 73 = .ok (.getfield 195, 3) := by decide +kernel
theorem dX1_advance_76 : decode cX1_advance 76 = .ok (.ifCond .eq 11, 3) := by decide +kernel
theorem dX1_advance_79 : decode cX1_advance 79 = .ok (.aload 4, 2) := by decide +kernel
theorem dX1_advance_81 : decode cX1_advance 81 = .ok (.getfield 123, 3) := by decide +kernel
theorem dX1_advance_84 : decode cX1_advance 84 = .ok (.goto 16, 3) := by decide +kernel
theorem dX1_advance_87 : decode cX1_advance 87 = .ok (.aload 4, 2) := by decide +kernel
theorem dX1_advance_89 : decode cX1_advance 89 = .ok (.getfield 123, 3) := by decide +kernel
theorem dX1_advance_92 : decode cX1_advance 92 = .ok (.dload_n 1, 1) := by decide +kernel
theorem dX1_advance_93 : decode cX1_advance 93 = .ok (.aload 4, 2) := by decide +kernel
theorem dX1_advance_95 : decode cX1_advance 95 = .ok (.getfield 165, 3) := by decide +kernel
theorem dX1_advance_98 : decode cX1_advance 98 = .ok (.dmul, 1) := by decide +kernel
theorem dX1_advance_99 : decode cX1_advance 99 = .ok (.dadd, 1) := by decide +kernel
theorem dX1_advance_100 : decode cX1_advance 100 = .ok (.putfield 271, 3) := by decide +kernel
theorem dX1_advance_103 : decode cX1_advance 103 = .ok (.iinc 3 1, 3) := by decide +kernel
theorem dX1_advance_106 : decode cX1_advance 106 = .ok (.goto (-87), 3) := by decide +kernel
theorem dX1_advance_109 : decode cX1_advance 109 = .ok (.aload_n 0, 1) := by decide +kernel
theorem dX1_advance_110 : decode cX1_advance 110 = .ok (.invokevirtual 306, 3) := by decide +kernel
theorem dX1_advance_113 : decode cX1_advance 113 = .ok (.istore_n 3, 1) := by decide +kernel
theorem dX1_advance_114 : decode cX1_advance 114 = .ok (.iconst 0, 1) := by decide +kernel
theorem dX1_advance_115 : decode cX1_advance 115 = .ok (.istore 4, 2) := by decide +kernel
theorem dX1_advance_117 : decode cX1_advance 117 = .ok (.iload 4, 2) := by decide +kernel
theorem dX1_advance_119 : decode cX1_advance 119 = .ok (.aload_n 0, 1) := by decide +kernel
theorem dX1_advance_120 : decode cX1_advance 120 = .ok (.getfield 102, 3) := by decide +kernel
theorem dX1_advance_123 : decode cX1_advance 123 = .ok (.if_icmp .ge 69, 3) := by decide +kernel
theorem dX1_advance_126 : decode cX1_advance 126 = .ok (.aload_n 0, 1) := by decide +kernel
theorem dX1_advance_127 : decode cX1_advance 127 = .ok (.getfield 29, 3) := by decide +kernel
theorem dX1_advance_130 : decode cX1_advance 130 = .ok (.iload 4, 2) := by decide +kernel
theorem dX1_advance_132 : decode cX1_advance 132 = .ok (.aaload, 1) := by decide +kernel
theorem dX1_advance_133 : decode cX1_advance 133 = .ok (.astore 5, 2) := by decide +kernel
theorem dX1_advance_135 : decode cX1_advance 135 = .ok (.aload_n 0, 1) := by decide +kernel
theorem dX1_advance_136 : decode cX1_advance 136 = .ok (.getfield 189, 3) := by decide +kernel
theorem dX1_advance_139 : decode cX1_advance 139 = .ok (.ifCond .le 47, 3) := by decide +kernel
theorem dX1_advance_142 : decode cX1_advance 142 = .ok (.aload 5, 2) := by decide +kernel
theorem dX1_advance_144 : decode cX1_advance 144 = .ok (.getfield 195, 3) := by decide +kernel
theorem dX1_advance_147 : decode cX1_advance 147 = .ok (.ifCond .ne 39, 3) := by decide +kernel
theorem dX1_advance_150 : decode cX1_advance 150 = .ok (.aload 5, 2) := by decide +kernel
theorem dX1_advance_152 : decode cX1_advance 152 = .ok (.aload 5, 2) := by decide +kernel
theorem dX1_advance_154 : decode cX1_advance 154 = .ok (.getfield 268, 3) := by decide +kernel
theorem dX1_advance_157 : decode cX1_advance 157 = .ok (.aload 5, 2) := by decide +kernel
theorem dX1_advance_159 : decode cX1_advance 159 = .ok (.getfield 114, 3) := by decide +kernel
theorem dX1_advance_162 : decode cX1_advance 162 = .ok (.dsub, 1) := by decide +kernel
theorem dX1_advance_163 : decode cX1_advance 163 = .ok (.dload_n 1, 1) := by decide +kernel
theorem dX1_advance_164 : decode cX1_advance 164 = .ok (.ddiv, 1) := by decide +kernel
theorem dX1_advance_165 : decode cX1_advance 165 = .ok (.putfield 162, 3) := by decide +kernel
theorem dX1_advance_168 : decode cX1_advance 168 = .ok (.aload 5, 2) := by decide +kernel
theorem dX1_advance_170 : decode cX1_advance 170 = .ok (.aload 5, 2) := by decide +kernel
theorem dX1_advance_172 : decode cX1_advance 172 = .ok (.getfield 271, 3) := by decide +kernel
theorem dX1_advance_175 : decode cX1_advance 175 = .ok (.aload 5, 2) := by decide +kernel
theorem dX1_advance_177 : decode cX1_advance 177 = .ok (.getfield 123, 3) := by decide +kernel
theorem dX1_advance_180 : decode cX1_advance 180 = .ok (.dsub, 1) := by decide +kernel
theorem dX1_advance_181 : decode cX1_advance 181 = .ok (.dload_n 1, 1) := by decide +kernel
theorem dX1_advance_182 : decode cX1_advance 182 = .ok (.ddiv, 1) := by decide +kernel
theorem dX1_advance_183 : decode cX1_advance 183 = .ok (.putfield 165, 3) := by decide +kernel
theorem dX1_advance_186 : decode cX1_advance 186 = .ok (.iinc 4 1, 3) := by decide +kernel
theorem dX1_advance_189 : decode cX1_advance 189 = .ok (.goto (-72), 3) := by decide +kernel
theorem dX1_advance_192 : decode cX1_advance 192 = .ok (.aload_n 0, 1) := by decide +kernel
theorem dX1_advance_193 : decode cX1_advance 193 = .ok (.invokevirtual 303, 3) := by decide +kernel
theorem dX1_advance_196 : decode cX1_advance 196 = .ok (.iconst 0, 1) := by decide +kernel
theorem dX1_advance_197 : decode cX1_advance 197 = .ok (.istore 4, 2) := by decide +kernel
theorem dX1_advance_199 : decode cX1_advance 199 = .ok (.iload 4, 2) := by decide +kernel
theorem dX1_advance_201 : decode cX1_advance 201 = .ok (.aload_n 0, 1) := by decide +kernel
theorem dX1_advance_202 : decode cX1_advance 202 = .ok (.getfield 102, 3) := by decide +kernel
theorem dX1_advance_205 : decode cX1_advance 205 = .ok (.if_icmp .ge 57, 3) := by decide +kernel
theorem dX1_advance_208 : decode cX1_advance 208 = .ok (.aload_n 0, 1) := by decide +kernel
theorem dX1_advance_209 : decode cX1_advance 209 = .ok (.getfield 29, 3) := by decide +kernel
theorem dX1_advance_212 : decode cX1_advance 212 = .ok (.iload 4, 2) := by decide +kernel
theorem dX1_advance_214 : decode cX1_advance 214 = .ok (.aaload, 1) := by decide +kernel
theorem dX1_advance_215 : decode cX1_advance 215 = .ok (.aload_n 0, 1) := by decide +kernel
theorem dX1_advance_216 : decode cX1_advance 216 = .ok (.aload_n 0, 1) := by decide +kernel
theorem dX1_advance_217 : decode cX1_advance 217 = .ok (.getfield 29, 3) := by decide +kernel
theorem dX1_advance_220 : decode cX1_advance 220 = .ok (.iload 4, 2) := by decide +kernel
theorem dX1_advance_222 : decode cX1_advance 222 = .ok (.aaload, 1) := by decide +kernel
theorem dX1_advance_223 : decode cX1_advance 223 = .ok (.getfield 268, 3) := by decide +kernel
theorem dX1_advance_226 : decode cX1_advance 226 = .ok (.invokevirtual 151, 3) := by decide +kernel
theorem dX1_advance_229 : decode cX1_advance 229 = .ok (.putfield 114, 3) := by decide +kernel
theorem dX1_advance_232 : decode cX1_advance 232 = .ok (.aload_n 0, 1) := by decide +kernel
theorem dX1_advance_233 : decode cX1_advance 233 = .ok (.getfield 29, 3) := by decide +kernel
theorem dX1_advance_236 : decode cX1_advance 236 = .ok (.iload 4, 2) := by decide +kernel
theorem dX1_advance_238 : decode cX1_advance 238 = .ok (.aaload, 1) := by decide +kernel
theorem dX1_advance_239 : decode cX1_advance 239 = .ok (.aload_n 0, 1) := by decide +kernel
theorem dX1_advance_240 : decode cX1_advance 240 = .ok (.aload_n 0, 1) := by decide +kernel
theorem dX1_advance_241 : decode cX1_advance 241 = .ok (.getfield 29, 3) := by decide +kernel
theorem dX1_advance_244 : decode cX1_advance 244 = .ok (.iload 4, 2) := by decide +kernel
theorem dX1_advance_246 : decode cX1_advance 246 = .ok (.aaload, 1) := by decide +kernel
theorem dX1_advance_247 : decode cX1_advance 247 = .ok (.getfield 271, 3) := by decide +kernel
theorem dX1_advance_250 : decode cX1_advance 250 = .ok (.invokevirtual 151, 3) := by decide +kernel
theorem dX1_advance_253 : decode cX1_advance 253 = .ok (.putfield 123, 3) := by decide +kernel
theorem dX1_advance_256 : decode cX1_advance 256 = .ok (.iinc 4 1, 3) := by decide +kernel
theorem dX1_advance_259 : decode cX1_advance 259 = .ok (.goto (-60), 3) := by decide +kernel
theorem dX1_advance_262 : decode cX1_advance 262 = .ok (.aload_n 0, 1) := by decide +kernel
theorem dX1_advance_263 : decode cX1_advance 263 = .ok (.invokevirtual 297, 3) := by decide +kernel
theorem dX1_advance_266 : decode cX1_advance 266 = .ok (.aload_n 0, 1) := by decide +kernel
theorem dX1_advance_267 : decode cX1_advance 267 = .ok (.ldc2_w 7, 3) := by decide +kernel
theorem dX1_advance_270 : decode cX1_advance 270 = .ok (.dload_n 1, 1) := by decide +kernel
theorem dX1_advance_271 : decode cX1_advance 271 = .ok (.dmul, 1) := by decide +kernel
theorem dX1_advance_272 : decode cX1_advance 272 = .ok (.invokevirtual 300, 3) := by decide +kernel
theorem dX1_advance_275 : decode cX1_advance 275 = .ok (.aload_n 0, 1) := by decide +kernel
theorem dX1_advance_276 : decode cX1_advance 276 = .ok (.invokevirtual 303, 3) := by decide +kernel
theorem dX1_advance_279 : decode cX1_advance 279 = .ok (.aload_n 0, 1) := by decide +kernel
theorem dX1_advance_280 : decode cX1_advance 280 = .ok (.getfield 17, 3) := by decide +kernel
theorem dX1_advance_283 : decode cX1_advance 283 = .ok (.dconst 0, 1) := by decide +kernel
theorem dX1_advance_284 : decode cX1_advance 284 = .ok (.dcmp .l, 1) := by decide +kernel
theorem dX1_advance_285 : decode cX1_advance 285 = .ok (.ifCond .lt 11, 3) := by decide +kernel
theorem dX1_advance_288 : decode cX1_advance 288 = .ok (.aload_n 0, 1) := by decide +kernel
theorem dX1_advance_289 : decode cX1_advance 289 = .ok (.aload_n 0, 1) := by decide +kernel
theorem dX1_advance_290 : decode cX1_advance 290 = .ok (.getfield 17, 3) := by decide +kernel
theorem dX1_advance_293 : decode cX1_advance 293 = .ok (.invokevirtual 310, 3) := by decide +kernel
theorem dX1_advance_296 : decode cX1_advance 296 = .ok (.iload_n 3, 1) := by decide +kernel
theorem dX1_advance_297 : decode cX1_advance 297 = .ok (.ireturn, 1) := by decide +kernel
