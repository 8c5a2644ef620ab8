set_option maxRecDepth 100000
abbrev cX5_charges : ByteArray := prog_10_method_25_code
def yX5_charges : MethodName := ⟨RX5, "charges", "(II)D"⟩
theorem dX5_charges_0 : decode cX5_charges 0 = .ok (.aload_n 0, 1) := by decide +kernel
theorem dX5_charges_1 : decode cX5_charges 1 = .ok (.getfield 50, 3) := by decide +kernel
theorem dX5_charges_4 : decode cX5_charges 4 = .ok (.aload_n 0, 1) := by decide +kernel
theorem dX5_charges_5 : decode cX5_charges 5 = .ok (.getfield 36, 3) := by decide +kernel
theorem dX5_charges_8 : decode cX5_charges 8 = .ok (.iload_n 1, 1) := by decide +kernel
theorem dX5_charges_9 : decode cX5_charges 9 = .ok (.iaload, 1) := by decide +kernel
theorem dX5_charges_10 : decode cX5_charges 10 = .ok (.daload, 1) := by decide +kernel
theorem dX5_charges_11 : decode cX5_charges 11 = .ok (.aload_n 0, 1) := by decide +kernel
theorem dX5_charges_12 : decode cX5_charges 12 = .ok (.getfield 50, 3) := by decide +kernel
theorem dX5_charges_15 : decode cX5_charges 15 = .ok (.aload_n 0, 1) := by decide +kernel
theorem dX5_charges_16 : decode cX5_charges 16 = .ok (.getfield 36, 3) := by decide +kernel
theorem dX5_charges_19 : decode cX5_charges 19 = .ok (.iload_n 2, 1) := by decide +kernel
theorem dX5_charges_20 : decode cX5_charges 20 = .ok (.iaload, 1) := by decide +kernel
theorem dX5_charges_21 : decode cX5_charges 21 = .ok (.daload, 1) := by decide +kernel
theorem dX5_charges_22 : decode cX5_charges 22 = .ok (.dmul, 1) := by decide +kernel
theorem dX5_charges_23 : decode cX5_charges 23 = .ok (.dreturn, 1) := by decide +kernel
abbrev cX5_kick : ByteArray := prog_10_method_29_code
def yX5_kick : MethodName := ⟨RX5, "kick", "(D)V"⟩
theorem dX5_kick_0 : decode cX5_kick 0 = .ok (.iconst 0, 1) := by decide +kernel
theorem dX5_kick_1 : decode cX5_kick 1 = .ok (.istore_n 3, 1) := by decide +kernel
theorem dX5_kick_2 : decode cX5_kick 2 = .ok (.iload_n 3, 1) := by decide +kernel
theorem dX5_kick_3 : decode cX5_kick 3 = .ok (.aload_n 0, 1) := by decide +kernel
theorem dX5_kick_4 : decode cX5_kick 4 = .ok (.getfield 119, 3) := by decide +kernel
theorem dX5_kick_7 : decode cX5_kick 7 = .ok (.if_icmp .ge 85, 3) := by decide +kernel
theorem dX5_kick_10 : decode cX5_kick 10 = .ok (.aload_n 0, 1) := by decide +kernel
theorem dX5_kick_11 : decode cX5_kick 11 = .ok (.getfield 40, 3) := by decide +kernel
theorem dX5_kick_14 : decode cX5_kick 14 = .ok (.iload_n 3, 1) := by decide +kernel
theorem dX5_kick_15 : decode cX5_kick 15 = .ok (.baload, 1) := by decide +kernel
theorem dX5_kick_16 : decode cX5_kick 16 = .ok (.ifCond .eq 6, 3) := by decide +kernel
theorem dX5_kick_19 : decode cX5_kick 19 = .ok (.goto 67, 3) := by decide +kernel
theorem dX5_kick_22 : decode cX5_kick 22 = .ok (.aload_n 0, 1) := by decide +kernel
theorem dX5_kick_23 : decode cX5_kick 23 = .ok (.getfield 27, 3) := by decide +kernel
theorem dX5_kick_26 : decode cX5_kick 26 = .ok (.iload_n 3, 1) := by decide +kernel
theorem dX5_kick_27 : decode cX5_kick 27 = .ok (.aload_n 0, 1) := by decide +kernel
theorem dX5_kick_28 : decode cX5_kick 28 = .ok (.getfield 27, 3) := by decide +kernel
theorem dX5_kick_31 : decode cX5_kick 31 = .ok (.iload_n 3, 1) := by decide +kernel
theorem dX5_kick_32 : decode cX5_kick 32 = .ok (.daload, 1) := by decide +kernel
theorem dX5_kick_33 : decode cX5_kick 33 = .ok (.ldc2_w 7, 3) := by decide +kernel
theorem dX5_kick_36 : decode cX5_kick 36 = .ok (.dload_n 1, 1) := by decide +kernel
theorem dX5_kick_37 : decode cX5_kick 37 = .ok (.dmul, 1) := by decide +kernel
theorem dX5_kick_38 : decode cX5_kick 38 = .ok (.aload_n 0, 1) := by decide +kernel
theorem dX5_kick_39 : decode cX5_kick 39 = .ok (.getfield 98, 3) := by decide +kernel
theorem dX5_kick_42 : decode cX5_kick 42 = .ok (.iload_n 3, 1) := by decide +kernel
theorem dX5_kick_43 : decode cX5_kick 43 = .ok (.daload, 1) := by decide +kernel
theorem dX5_kick_44 : decode cX5_kick 44 = .ok (.aload_n 0, 1) := by decide +kernel
theorem dX5_kick_45 : decode cX5_kick 45 = .ok (.getfield 33, 3) := by decide +kernel
theorem dX5_kick_48 : decode cX5_kick 48 = .ok (.iload_n 3, 1) := by decide +kernel
theorem dX5_kick_49 : decode cX5_kick 49 = .ok (.daload, 1) := by decide +kernel
theorem dX5_kick_50 : decode cX5_kick 50 = .ok (.ddiv, 1) := by decide +kernel
theorem dX5_kick_51 : decode cX5_kick 51 = .ok (.dmul, 1) := by decide +kernel
theorem dX5_kick_52 : decode cX5_kick 52 = .ok (.dadd, 1) := by decide +kernel
theorem dX5_kick_53 : decode cX5_kick 53 = .ok (.dastore, 1) := by decide +kernel
theorem dX5_kick_54 : decode cX5_kick 54 = .ok (.aload_n 0, 1) := by decide +kernel
theorem dX5_kick_55 : decode cX5_kick 55 = .ok (.getfield 30, 3) := by decide +kernel
theorem dX5_kick_58 : decode cX5_kick 58 = .ok (.iload_n 3, 1) := by decide +kernel
theorem dX5_kick_59 : decode cX5_kick 59 = .ok (.aload_n 0, 1) := by decide +kernel
theorem dX5_kick_60 : decode cX5_kick 60 = .ok (.getfield 30, 3) := by decide +kernel
theorem dX5_kick_63 : decode cX5_kick 63 = .ok (.iload_n 3, 1) := by decide +kernel
theorem dX5_kick_64 : decode cX5_kick 64 = .ok (.daload, 1) := by decide +kernel
theorem dX5_kick_65 : decode cX5_kick 65 = .ok (.ldc2_w 7, 3) := by decide +kernel
theorem dX5_kick_68 : decode cX5_kick 68 = .ok (.dload_n 1, 1) := by decide +kernel
theorem dX5_kick_69 : decode cX5_kick 69 = .ok (.dmul, 1) := by decide +kernel
theorem dX5_kick_70 : decode cX5_kick 70 = .ok (.aload_n 0, 1) := by decide +kernel
theorem dX5_kick_71 : decode cX5_kick 71 = .ok (.getfield 101, 3) := by decide +kernel
theorem dX5_kick_74 : decode cX5_kick 74 = .ok (.iload_n 3, 1) := by decide +kernel
theorem dX5_kick_75 : decode cX5_kick 75 = .ok (.daload, 1) := by decide +kernel
theorem dX5_kick_76 : decode cX5_kick 76 = .ok (.aload_n 0, 1) := by decide +kernel
theorem dX5_kick_77 : decode cX5_kick 77 = .ok (.getfield 33, 3) := by decide +kernel
theorem dX5_kick_80 : decode cX5_kick 80 = .ok (.iload_n 3, 1) := by decide +kernel
theorem dX5_kick_81 : decode cX5_kick 81 = .ok (.daload, 1) := by decide +kernel
theorem dX5_kick_82 : decode cX5_kick 82 = .ok (.ddiv, 1) := by decide +kernel
theorem dX5_kick_83 : decode cX5_kick 83 = .ok (.dmul, 1) := by decide +kernel
theorem dX5_kick_84 : decode cX5_kick 84 = .ok (.dadd, 1) := by decide +kernel
theorem dX5_kick_85 : decode cX5_kick 85 = .ok (.dastore, 1) := by decide +kernel
theorem dX5_kick_86 : decode cX5_kick 86 = .ok (.iinc 3 1, 3) := by decide +kernel
theorem dX5_kick_89 : decode cX5_kick 89 = .ok (.goto (-87), 3) := by decide +kernel
theorem dX5_kick_92 : decode cX5_kick 92 = .ok (.return_, 1) := by decide +kernel
abbrev cX5_blown : ByteArray := prog_10_method_30_code
def yX5_blown : MethodName := ⟨RX5, "blown", "()Z"⟩
theorem dX5_blown_0 : decode cX5_blown 0 = .ok (.iconst 0, 1) := by decide +kernel
theorem dX5_blown_1 : decode cX5_blown 1 = .ok (.istore_n 1, 1) := by decide +kernel
theorem dX5_blown_2 : decode cX5_blown 2 = .ok (.iload_n 1, 1) := by decide +kernel
theorem dX5_blown_3 : decode cX5_blown 3 = .ok (.aload_n 0, 1) := by decide +kernel
theorem dX5_blown_4 : decode cX5_blown 4 = .ok (.getfield 119, 3) := by decide +kernel
theorem dX5_blown_7 : decode cX5_blown 7 = .ok (.if_icmp .ge 47, 3) := by decide +kernel
theorem dX5_blown_10 : decode cX5_blown 10 = .ok (.aload_n 0, 1) := by decide +kernel
theorem dX5_blown_11 : decode cX5_blown 11 = .ok (.getfield 27, 3) := by decide +kernel
theorem dX5_blown_14 : decode cX5_blown 14 = .ok (.iload_n 1, 1) := by decide +kernel
theorem dX5_blown_15 : decode cX5_blown 15 = .ok (.daload, 1) := by decide +kernel
theorem dX5_blown_16 : decode cX5_blown 16 = .ok (.ldc2_w 219, 3) := by decide +kernel
theorem dX5_blown_19 : decode cX5_blown 19 = .ok (.ldc2_w 221, 3) := by decide +kernel
theorem dX5_blown_22 : decode cX5_blown 22 = .ok (.invokestatic 146, 3) := by decide +kernel
theorem dX5_blown_25 : decode cX5_blown 25 = .ok (.ifCond .eq 21, 3) := by decide +kernel
theorem dX5_blown_28 : decode cX5_blown 28 = .ok (.aload_n 0, 1) := by decide +kernel
theorem dX5_blown_29 : decode cX5_blown 29 = .ok (.getfield 30, 3) := by decide +kernel
theorem dX5_blown_32 : decode cX5_blown 32 = .ok (.iload_n 1, 1) := by decide +kernel
theorem dX5_blown_33 : decode cX5_blown 33 = .ok (.daload, 1) := by decide +kernel
theorem dX5_blown_34 : decode cX5_blown 34 = .ok (.ldc2_w 219, 3) := by decide +kernel
theorem dX5_blown_37 : decode cX5_blown 37 = .ok (.ldc2_w 221, 3) := by decide +kernel
theorem dX5_blown_40 : decode cX5_blown 40 = .ok (.invokestatic 146, 3) := by decide +kernel
theorem dX5_blown_43 : decode cX5_blown 43 = .ok (.ifCond .ne 5, 3) := by decide +kernel
theorem dX5_blown_46 : decode cX5_blown 46 = .ok (.iconst 1, 1) := by decide +kernel
theorem dX5_blown_47 : decode cX5_blown 47 = .ok (.ireturn, 1) := by decide +kernel
theorem dX5_blown_48 : decode cX5_blown 48 = .ok (.iinc 1 1, 3) := by decide +kernel
theorem dX5_blown_51 : decode cX5_blown 51 = .ok (.goto (-49), 3) := by decide +kernel
theorem dX5_blown_54 : decode cX5_blown 54 = .ok (.iconst 0, 1) := by decide +kernel
theorem dX5_blown_55 : decode cX5_blown 55 = .ok (.ireturn, 1) := by decide +kernel
abbrev cX5_keepRods : ByteArray := prog_10_method_32_code
def yX5_keepRods : MethodName := ⟨RX5, "keepRods", "()Z"⟩
theorem dX5_keepRods_0 : decode cX5_keepRods 0 = .ok (.aload_n 0, 1) := by decide +kernel
theorem dX5_keepRods_1 : decode cX5_keepRods 1 = .ok (.iconst 0, 1) := by decide +kernel
theorem dX5_keepRods_2 : decode cX5_keepRods 2 = .ok (.putfield 227, 3) := by decide +kernel
theorem dX5_keepRods_5 : decode cX5_keepRods 5 = .ok (.aload_n 0, 1) := by decide +kernel
theorem dX5_keepRods_6 : decode cX5_keepRods 6 = .ok (.getfield 227, 3) := by decide +kernel
theorem dX5_keepRods_9 : decode cX5_keepRods 9 = .ok (.bipush 40, 2) := by decide +kernel
theorem dX5_keepRods_11 : decode cX5_keepRods 11 = .ok (.if_icmp .ge 60, 3) := by decide +kernel
theorem dX5_keepRods_14 : decode cX5_keepRods 14 = .ok (.iconst 0, 1) := by decide +kernel
theorem dX5_keepRods_15 : decode cX5_keepRods 15 = .ok (.istore_n 1, 1) := by decide +kernel
theorem dX5_keepRods_16 : decode cX5_keepRods 16 = .ok (.iconst 0, 1) := by decide +kernel
theorem dX5_keepRods_17 : decode cX5_keepRods 17 = .ok (.istore_n 2, 1) := by decide +kernel
theorem dX5_keepRods_18 : decode cX5_keepRods 18 = .ok (.iload_n 2, 1) := by decide +kernel
theorem dX5_keepRods_19 : decode cX5_keepRods 19 = .ok (.aload_n 0, 1) := by decide +kernel
theorem dX5_keepRods_20 : decode cX5_keepRods 20 = .ok (.getfield 178, 3) := by decide +kernel
theorem dX5_keepRods_23 : decode cX5_keepRods 23 = .ok (.if_icmp .ge 29, 3) := by decide +kernel
theorem dX5_keepRods_26 : decode cX5_keepRods 26 = .ok (.aload_n 0, 1) := by decide +kernel
theorem dX5_keepRods_27 : decode cX5_keepRods 27 = .ok (.iload_n 2, 1) := by decide +kernel
theorem dX5_keepRods_28 : decode cX5_keepRods 28 = .ok (.invokevirtual 230, 3) := by decide +kernel
theorem dX5_keepRods_31 : decode cX5_keepRods 31 = .ok (.istore_n 3, 1) := by decide +kernel
theorem dX5_keepRods_32 : decode cX5_keepRods 32 = .ok (.iload_n 3, 1) := by decide +kernel
theorem dX5_keepRods_33 : decode cX5_keepRods 33 = .ok (.iconst 2, 1) := by decide +kernel
theorem dX5_keepRods_34 : decode cX5_keepRods 34 = .ok (.if_icmp .ne 5, 3) := by decide +kernel
theorem dX5_keepRods_37 : decode cX5_keepRods 37 = .ok (.iconst 0, 1) := by decide +kernel
theorem dX5_keepRods_38 : decode cX5_keepRods 38 = .ok (.ireturn, 1) := by decide +kernel
theorem dX5_keepRods_39 : decode cX5_keepRods 39 = .ok (.iload_n 3, 1) := by decide +kernel
theorem dX5_keepRods_40 : decode cX5_keepRods 40 = .ok (.iconst 1, 1) := by decide +kernel
theorem dX5_keepRods_41 : decode cX5_keepRods 41 = .ok (.if_icmp .ne 5, 3) := by decide +kernel
theorem dX5_keepRods_44 : decode cX5_keepRods 44 = .ok (.iconst 1, 1) := by decide +kernel
theorem dX5_keepRods_45 : decode cX5_keepRods 45 = .ok (.istore_n 1, 1) := by decide +kernel
theorem dX5_keepRods_46 : decode cX5_keepRods 46 = .ok (.iinc 2 1, 3) := by decide +kernel
theorem dX5_keepRods_49 : decode cX5_keepRods 49 = .ok (.goto (-31), 3) := by decide +kernel
theorem dX5_keepRods_52 : decode cX5_keepRods 52 = .ok (.iload_n 1, 1) := by decide +kernel
theorem dX5_keepRods_53 : decode cX5_keepRods 53 = .ok (.ifCond .ne 5, 3) := by decide +kernel
theorem dX5_keepRods_56 : decode cX5_keepRods 56 = .ok (.iconst 1, 1) := by decide +kernel
theorem dX5_keepRods_57 : decode cX5_keepRods 57 = .ok (.ireturn, 1) := by decide +kernel
theorem dX5_keepRods_58 : decode cX5_keepRods 58 = .ok (.aload_n 0, 1) := by decide +kernel
theorem dX5_keepRods_59 : decode cX5_keepRods 59 = .ok (.dup, 1) := by decide +kernel
theorem dX5_keepRods_60 : decode cX5_keepRods 60 = .ok (.getfield 227, 3) := by decide +kernel
theorem dX5_keepRods_63 : decode cX5_keepRods 63 = .ok (.iconst 1, 1) := by decide +kernel
theorem dX5_keepRods_64 : decode cX5_keepRods 64 = .ok (.iadd, 1) := by decide +kernel
theorem dX5_keepRods_65 : decode cX5_keepRods 65 = .ok (.putfield 227, 3) := by decide +kernel
theorem dX5_keepRods_68 : decode cX5_keepRods 68 = .ok (.goto (-63), 3) := by decide +kernel
theorem dX5_keepRods_71 : decode cX5_keepRods 71 = .ok (.iconst 0, 1) := by decide +kernel
theorem dX5_keepRods_72 : decode cX5_keepRods 72 = .ok (.ireturn, 1) := by decide +kernel
abbrev cX5_turn : ByteArray := prog_10_method_31_code
def yX5_turn : MethodName := ⟨RX5, "turn", "(I)I"⟩
theorem dX5_turn_0 : decode cX5_turn 0 = .ok (.aload_n 0, 1) := by decide +kernel
theorem dX5_turn_1 : decode cX5_turn 1 = .ok (.getfield 59, 3) := by decide +kernel
theorem dX5_turn_4 : decode cX5_turn 4 = .ok (.iload_n 1, 1) := by decide +kernel
theorem dX5_turn_5 : decode cX5_turn 5 = .ok (.iaload, 1) := by decide +kernel
theorem dX5_turn_6 : decode cX5_turn 6 = .ok (.istore_n 2, 1) := by decide +kernel
theorem dX5_turn_7 : decode cX5_turn 7 = .ok (.aload_n 0, 1) := by decide +kernel
theorem dX5_turn_8 : decode cX5_turn 8 = .ok (.getfield 62, 3) := by decide +kernel
theorem dX5_turn_11 : decode cX5_turn 11 = .ok (.iload_n 1, 1) := by decide +kernel
theorem dX5_turn_12 : decode cX5_turn 12 = .ok (.iaload, 1) := by decide +kernel
theorem dX5_turn_13 : decode cX5_turn 13 = .ok (.istore_n 3, 1) := by decide +kernel
theorem dX5_turn_14 : decode cX5_turn 14 = .ok (.aload_n 0, 1) := by decide +kernel
theorem dX5_turn_15 : decode cX5_turn 15 = .ok (.getfield 71, 3) := by decide +kernel
theorem dX5_turn_18 : decode cX5_turn 18 = .ok (.iload_n 1, 1) := by decide +kernel
theorem dX5_turn_19 : decode cX5_turn 19 = .ok (.daload, 1) := by decide +kernel
theorem dX5_turn_20 : decode cX5_turn 20 = .ok (.dstore 4, 2) := by decide +kernel
theorem dX5_turn_22 : decode cX5_turn 22 = .ok (.aload_n 0, 1) := by decide +kernel
theorem dX5_turn_23 : decode cX5_turn 23 = .ok (.aload_n 0, 1) := by decide +kernel
theorem dX5_turn_24 : decode cX5_turn 24 = .ok (.getfield 80, 3) := by decide +kernel
theorem dX5_turn_27 : decode cX5_turn 27 = .ok (.iload_n 2, 1) := by decide +kernel
theorem dX5_turn_28 : decode cX5_turn 28 = .ok (.daload, 1) := by decide +kernel
theorem dX5_turn_29 : decode cX5_turn 29 = .ok (.aload_n 0, 1) := by decide +kernel
theorem dX5_turn_30 : decode cX5_turn 30 = .ok (.getfield 83, 3) := by decide +kernel
theorem dX5_turn_33 : decode cX5_turn 33 = .ok (.iload_n 2, 1) := by decide +kernel
theorem dX5_turn_34 : decode cX5_turn 34 = .ok (.daload, 1) := by decide +kernel
theorem dX5_turn_35 : decode cX5_turn 35 = .ok (.aload_n 0, 1) := by decide +kernel
theorem dX5_turn_36 : decode cX5_turn 36 = .ok (.getfield 80, 3) := by decide +kernel
theorem dX5_turn_39 : decode cX5_turn 39 = .ok (.iload_n 3, 1) := by decide +kernel
theorem dX5_turn_40 : decode cX5_turn 40 = .ok (.daload, 1) := by decide +kernel
theorem dX5_turn_41 : decode cX5_turn 41 = .ok (.aload_n 0, 1) := by decide +kernel
theorem dX5_turn_42 : decode cX5_turn 42 = .ok (.getfield 83, 3) := by decide +kernel
theorem dX5_turn_45 : decode cX5_turn 45 = .ok (.iload_n 3, 1) := by decide +kernel
theorem dX5_turn_46 : decode cX5_turn 46 = .ok (.daload, 1) := by decide +kernel
theorem dX5_turn_47 : decode cX5_turn 47 = .ok (.invokevirtual 138, 3) := by decide +kernel
theorem dX5_turn_50 : decode cX5_turn 50 = .ok (.aload_n 0, 1) := by decide +kernel
theorem dX5_turn_51 : decode cX5_turn 51 = .ok (.getfield 126, 3) := by decide +kernel
theorem dX5_turn_54 : decode cX5_turn 54 = .ok (.dstore 6, 2) := by decide +kernel
theorem dX5_turn_56 : decode cX5_turn 56 = .ok (.aload_n 0, 1) := by decide +kernel
theorem dX5_turn_57 : decode cX5_turn 57 = .ok (.getfield 132, 3) := by decide +kernel
theorem dX5_turn_60 : decode cX5_turn 60 = .ok (.dstore 8, 2) := by decide +kernel
theorem dX5_turn_62 : decode cX5_turn 62 = .ok (.aload_n 0, 1) := by decide +kernel
theorem dX5_turn_63 : decode cX5_turn 63 = .ok (.aload_n 0, 1) := by decide +kernel
theorem dX5_turn_64 : decode cX5_turn 64 = .ok (.getfield 92, 3) := by decide +kernel
theorem dX5_turn_67 : decode cX5_turn 67 = .ok (.iload_n 2, 1) := by decide +kernel
theorem dX5_turn_68 : decode cX5_turn 68 = .ok (.daload, 1) := by decide +kernel
theorem dX5_turn_69 : decode cX5_turn 69 = .ok (.aload_n 0, 1) := by decide +kernel
theorem dX5_turn_70 : decode cX5_turn 70 = .ok (.getfield 95, 3) := by decide +kernel
theorem dX5_turn_73 : decode cX5_turn 73 = .ok (.iload_n 2, 1) := by decide +kernel
theorem dX5_turn_74 : decode cX5_turn 74 = .ok (.daload, 1) := by decide +kernel
theorem dX5_turn_75 : decode cX5_turn 75 = .ok (.aload_n 0, 1) := by decide +kernel
theorem dX5_turn_76 : decode cX5_turn 76 = .ok (.getfield 92, 3) := by decide +kernel
theorem dX5_turn_79 : decode cX5_turn 79 = .ok (.iload_n 3, 1) := by decide +kernel
theorem dX5_turn_80 : decode cX5_turn 80 = .ok (.daload, 1) := by decide +kernel
theorem dX5_turn_81 : decode cX5_turn 81 = .ok (.aload_n 0, 1) := by decide +kernel
theorem dX5_turn_82 : decode cX5_turn 82 = .ok (.getfield 95, 3) := by decide +kernel
theorem dX5_turn_85 : decode cX5_turn 85 = .ok (.iload_n 3, 1) := by decide +kernel
theorem dX5_turn_86 : decode cX5_turn 86 = .ok (.daload, 1) := by decide +kernel
theorem dX5_turn_87 : decode cX5_turn 87 = .ok (.invokevirtual 138, 3) := by decide +kernel
theorem dX5_turn_90 : decode cX5_turn 90 = .ok (.aload_n 0, 1) := by decide +kernel
theorem dX5_turn_91 : decode cX5_turn 91 = .ok (.getfield 40, 3) := by decide +kernel
theorem dX5_turn_94 : decode cX5_turn 94 = .ok (.iload_n 2, 1) := by decide +kernel
theorem dX5_turn_95 : decode cX5_turn 95 = .ok (.baload, 1) := by decide +kernel
theorem dX5_turn_96 : decode cX5_turn 96 = .ok (.ifCond .eq 7, 3) := by decide +kernel
theorem dX5_turn_99 : decode cX5_turn 99 = .ok (.dconst 0, 1) := by decide +kernel
theorem dX5_turn_100 : decode cX5_turn 100 = .ok (.goto 11, 3) := by decide +kernel
theorem dX5_turn_103 : decode cX5_turn 103 = .ok (.dconst 1, 1) := by decide +kernel
theorem dX5_turn_104 : decode cX5_turn 104 = .ok (.aload_n 0, 1) := by decide +kernel
theorem dX5_turn_105 : decode cX5_turn 105 = .ok (.getfield 33, 3) := by decide +kernel
theorem dX5_turn_108 : decode cX5_turn 108 = .ok (.iload_n 2, 1) := by decide +kernel
theorem dX5_turn_109 : decode cX5_turn 109 = .ok (.daload, 1) := by decide +kernel
theorem dX5_turn_110 : decode cX5_turn 110 = .ok (.ddiv, 1) := by decide +kernel
theorem dX5_turn_111 : decode cX5_turn 111 = .ok (.dstore 10, 2) := by decide +kernel
theorem dX5_turn_113 : decode cX5_turn 113 = .ok (.aload_n 0, 1) := by decide +kernel
theorem dX5_turn_114 : decode cX5_turn 114 = .ok (.getfield 40, 3) := by decide +kernel
theorem dX5_turn_117 : decode cX5_turn 117 = .ok (.iload_n 3, 1) := by decide +kernel
theorem dX5_turn_118 : decode cX5_turn 118 = .ok (.baload, 1) := by decide +kernel
theorem dX5_turn_119 : decode cX5_turn 119 = .ok (.ifCond .eq 7, 3) := by decide +kernel
theorem dX5_turn_122 : decode cX5_turn 122 = .ok (.dconst 0, 1) := by decide +kernel
theorem dX5_turn_123 : decode cX5_turn 123 = .ok (.goto 11, 3) := by decide +kernel
theorem dX5_turn_126 : decode cX5_turn 126 = .ok (.dconst 1, 1) := by decide +kernel
theorem dX5_turn_127 : decode cX5_turn 127 = .ok (.aload_n 0, 1) := by decide +kernel
theorem dX5_turn_128 : decode cX5_turn 128 = .ok (.getfield 33, 3) := by decide +kernel
theorem dX5_turn_131 : decode cX5_turn 131 = .ok (.iload_n 3, 1) := by decide +kernel
theorem dX5_turn_132 : decode cX5_turn 132 = .ok (.daload, 1) := by decide +kernel
theorem dX5_turn_133 : decode cX5_turn 133 = .ok (.ddiv, 1) := by decide +kernel
theorem dX5_turn_134 : decode cX5_turn 134 = .ok (.dstore 12, 2) := by decide +kernel
theorem dX5_turn_136 : decode cX5_turn 136 = .ok (.aload_n 0, 1) := by decide +kernel
theorem dX5_turn_137 : decode cX5_turn 137 = .ok (.getfield 135, 3) := by decide +kernel
theorem dX5_turn_140 : decode cX5_turn 140 = .ok (.dload 4, 2) := by decide +kernel
theorem dX5_turn_142 : decode cX5_turn 142 = .ok (.dload 4, 2) := by decide +kernel
theorem dX5_turn_144 : decode cX5_turn 144 = .ok (.dmul, 1) := by decide +kernel
theorem dX5_turn_145 : decode cX5_turn 145 = .ok (.dsub, 1) := by decide +kernel
theorem dX5_turn_146 : decode cX5_turn 146 = .ok (.dstore 14, 2) := by decide +kernel
theorem dX5_turn_148 : decode cX5_turn 148 = .ok (.dload 14, 2) := by decide +kernel
theorem dX5_turn_150 : decode cX5_turn 150 = .ok (.dconst 0, 1) := by decide +kernel
theorem dX5_turn_151 : decode cX5_turn 151 = .ok (.dcmp .g, 1) := by decide +kernel
theorem dX5_turn_152 : decode cX5_turn 152 = .ok (.ifCond .ge 9, 3) := by decide +kernel
theorem dX5_turn_155 : decode cX5_turn 155 = .ok (.dload 14, 2) := by decide +kernel
theorem dX5_turn_157 : decode cX5_turn 157 = .ok (.dneg, 1) := by decide +kernel
theorem dX5_turn_158 : decode cX5_turn 158 = .ok (.goto 5, 3) := by decide +kernel
theorem dX5_turn_161 : decode cX5_turn 161 = .ok (.dload 14, 2) := by decide +kernel
theorem dX5_turn_163 : decode cX5_turn 163 = .ok (.ldc2_w 223, 3) := by decide +kernel
theorem dX5_turn_166 : decode cX5_turn 166 = .ok (.dload 4, 2) := by decide +kernel
theorem dX5_turn_168 : decode cX5_turn 168 = .ok (.dmul, 1) := by decide +kernel
theorem dX5_turn_169 : decode cX5_turn 169 = .ok (.dload 4, 2) := by decide +kernel
theorem dX5_turn_171 : decode cX5_turn 171 = .ok (.dmul, 1) := by decide +kernel
theorem dX5_turn_172 : decode cX5_turn 172 = .ok (.dcmp .g, 1) := by decide +kernel
theorem dX5_turn_173 : decode cX5_turn 173 = .ok (.ifCond .gt 5, 3) := by decide +kernel
theorem dX5_turn_176 : decode cX5_turn 176 = .ok (.iconst 0, 1) := by decide +kernel
theorem dX5_turn_177 : decode cX5_turn 177 = .ok (.ireturn, 1) := by decide +kernel
theorem dX5_turn_178 : decode cX5_turn 178 = .ok (.aload_n 0, 1) := by decide +kernel
theorem dX5_turn_179 : decode cX5_turn 179 = .ok (.getfield 126, 3) := by decide +kernel
theorem dX5_turn_182 : decode cX5_turn 182 = .ok (.dload 6, 2) := by decide +kernel
theorem dX5_turn_184 : decode cX5_turn 184 = .ok (.dmul, 1) := by decide +kernel
theorem dX5_turn_185 : decode cX5_turn 185 = .ok (.aload_n 0, 1) := by decide +kernel
theorem dX5_turn_186 : decode cX5_turn 186 = .ok (.getfield 132, 3) := by decide +kernel
theorem dX5_turn_189 : decode cX5_turn 189 = .ok (.dload 8, 2) := by decide +kernel
theorem dX5_turn_191 : decode cX5_turn 191 = .ok (.dmul, 1) := by decide +kernel
theorem dX5_turn_192 : decode cX5_turn 192 = .ok (.dadd, 1) := by decide +kernel
theorem dX5_turn_193 : decode cX5_turn 193 = .ok (.dstore 16, 2) := by decide +kernel
theorem dX5_turn_195 : decode cX5_turn 195 = .ok (.ldc2_w 203, 3) := by decide +kernel
theorem dX5_turn_198 : decode cX5_turn 198 = .ok (.dload 16, 2) := by decide +kernel
theorem dX5_turn_200 : decode cX5_turn 200 = .ok (.dmul, 1) := by decide +kernel
theorem dX5_turn_201 : decode cX5_turn 201 = .ok (.dload 10, 2) := by decide +kernel
theorem dX5_turn_203 : decode cX5_turn 203 = .ok (.dload 12, 2) := by decide +kernel
theorem dX5_turn_205 : decode cX5_turn 205 = .ok (.dadd, 1) := by decide +kernel
theorem dX5_turn_206 : decode cX5_turn 206 = .ok (.dmul, 1) := by decide +kernel
theorem dX5_turn_207 : decode cX5_turn 207 = .ok (.dstore 18, 2) := by decide +kernel
theorem dX5_turn_209 : decode cX5_turn 209 = .ok (.dload 18, 2) := by decide +kernel
theorem dX5_turn_211 : decode cX5_turn 211 = .ok (.ldc2_w 225, 3) := by decide +kernel
theorem dX5_turn_214 : decode cX5_turn 214 = .ok (.dcmp .l, 1) := by decide +kernel
theorem dX5_turn_215 : decode cX5_turn 215 = .ok (.ifCond .le 14, 3) := by decide +kernel
theorem dX5_turn_218 : decode cX5_turn 218 = .ok (.dload 18, 2) := by decide +kernel
theorem dX5_turn_220 : decode cX5_turn 220 = .ok (.ldc2_w 223, 3) := by decide +kernel
theorem dX5_turn_223 : decode cX5_turn 223 = .ok (.dcmp .g, 1) := by decide +kernel
theorem dX5_turn_224 : decode cX5_turn 224 = .ok (.ifCond .ge 5, 3) := by decide +kernel
theorem dX5_turn_227 : decode cX5_turn 227 = .ok (.iconst 2, 1) := by decide +kernel
theorem dX5_turn_228 : decode cX5_turn 228 = .ok (.ireturn, 1) := by decide +kernel
theorem dX5_turn_229 : decode cX5_turn 229 = .ok (.dload 14, 2) := by decide +kernel
theorem dX5_turn_231 : decode cX5_turn 231 = .ok (.dload 18, 2) := by decide +kernel
theorem dX5_turn_233 : decode cX5_turn 233 = .ok (.ddiv, 1) := by decide +kernel
theorem dX5_turn_234 : decode cX5_turn 234 = .ok (.dstore 20, 2) := by decide +kernel
theorem dX5_turn_236 : decode cX5_turn 236 = .ok (.aload_n 0, 1) := by decide +kernel
theorem dX5_turn_237 : decode cX5_turn 237 = .ok (.getfield 92, 3) := by decide +kernel
theorem dX5_turn_240 : decode cX5_turn 240 = .ok (.iload_n 2, 1) := by decide +kernel
theorem dX5_turn_241 : decode cX5_turn 241 = .ok (.aload_n 0, 1) := by decide +kernel
theorem dX5_turn_242 : decode cX5_turn 242 = .ok (.getfield 92, 3) := by decide +kernel
theorem dX5_turn_245 : decode cX5_turn 245 = .ok (.iload_n 2, 1) := by decide +kernel
theorem dX5_turn_246 : decode cX5_turn 246 = .ok (.daload, 1) := by decide +kernel
theorem dX5_turn_247 : decode cX5_turn 247 = .ok (.dload 20, 2) := by decide +kernel
theorem dX5_turn_249 : decode cX5_turn 249 = .ok (.dload 10, 2) := by decide +kernel
theorem dX5_turn_251 : decode cX5_turn 251 = .ok (.dmul, 1) := by decide +kernel
theorem dX5_turn_252 : decode cX5_turn 252 = .ok (.dload 6, 2) := by decide +kernel
theorem dX5_turn_254 : decode cX5_turn 254 = .ok (.dmul, 1) := by decide +kernel
theorem dX5_turn_255 : decode cX5_turn 255 = .ok (.dadd, 1) := by decide +kernel
theorem dX5_turn_256 : decode cX5_turn 256 = .ok (.dastore, 1) := by decide +kernel
theorem dX5_turn_257 : decode cX5_turn 257 = .ok (.aload_n 0, 1) := by decide +kernel
theorem dX5_turn_258 : decode cX5_turn 258 = .ok (.getfield 95, 3) := by decide +kernel
theorem dX5_turn_261 : decode cX5_turn 261 = .ok (.iload_n 2, 1) := by decide +kernel
theorem dX5_turn_262 : decode cX5_turn 262 = .ok (.aload_n 0, 1) := by decide +kernel
theorem dX5_turn_263 : decode cX5_turn 263 = .ok (.getfield 95, 3) := by decide +kernel
theorem dX5_turn_266 : decode cX5_turn 266 = .ok (.iload_n 2, 1) := by decide +kernel
theorem dX5_turn_267 : decode cX5_turn 267 = .ok (.daload, 1) := by decide +kernel
theorem dX5_turn_268 : decode cX5_turn 268 = .ok (.dload 20, 2) := by decide +kernel
theorem dX5_turn_270 : decode cX5_turn 270 = .ok (.dload 10, 2) := by decide +kernel
theorem dX5_turn_272 : decode cX5_turn 272 = .ok (.dmul, 1) := by decide +kernel
theorem dX5_turn_273 : decode cX5_turn 273 = .ok (.dload 8, 2) := by decide +kernel
theorem dX5_turn_275 : decode cX5_turn 275 = .ok (.dmul, 1) := by decide +kernel
theorem dX5_turn_276 : decode cX5_turn 276 = .ok (.dadd, 1) := by decide +kernel
theorem dX5_turn_277 : decode cX5_turn 277 = .ok (.dastore, 1) := by decide +kernel
theorem dX5_turn_278 : decode cX5_turn 278 = .ok (.aload_n 0, 1) := by decide +kernel
theorem dX5_turn_279 : decode cX5_turn 279 = .ok (.getfield 92, 3) := by decide +kernel
theorem dX5_turn_282 : decode cX5_turn 282 = .ok (.iload_n 3, 1) := by decide +kernel
theorem dX5_turn_283 : decode cX5_turn 283 = .ok (.aload_n 0, 1) := by decide +kernel
theorem dX5_turn_284 : decode cX5_turn 284 = .ok (.getfield 92, 3) := by decide +kernel
theorem dX5_turn_287 : decode cX5_turn 287 = .ok (.iload_n 3, 1) := by decide +kernel
theorem dX5_turn_288 : decode cX5_turn 288 = .ok (.daload, 1) := by decide +kernel
theorem dX5_turn_289 : decode cX5_turn 289 = .ok (.dload 20, 2) := by decide +kernel
theorem dX5_turn_291 : decode cX5_turn 291 = .ok (.dload 12, 2) := by decide +kernel
theorem dX5_turn_293 : decode cX5_turn 293 = .ok (.dmul, 1) := by decide +kernel
theorem dX5_turn_294 : decode cX5_turn 294 = .ok (.dload 6, 2) := by decide +kernel
theorem dX5_turn_296 : decode cX5_turn 296 = .ok (.dmul, 1) := by decide +kernel
theorem dX5_turn_297 : decode cX5_turn 297 = .ok (.dsub, 1) := by decide +kernel
theorem dX5_turn_298 : decode cX5_turn 298 = .ok (.dastore, 1) := by decide +kernel
theorem dX5_turn_299 : decode cX5_turn 299 = .ok (.aload_n 0, 1) := by decide +kernel
theorem dX5_turn_300 : decode cX5_turn 300 = .ok (.getfield 95, 3) := by decide +kernel
theorem dX5_turn_303 : decode cX5_turn 303 = .ok (.iload_n 3, 1) := by decide +kernel
theorem dX5_turn_304 : decode cX5_turn 304 = .ok (.aload_n 0, 1) := by decide +kernel
theorem dX5_turn_305 : decode cX5_turn 305 = .ok (.getfield 95, 3) := by decide +kernel
theorem dX5_turn_308 : decode cX5_turn 308 = .ok (.iload_n 3, 1) := by decide +kernel
theorem dX5_turn_309 : decode cX5_turn 309 = .ok (.daload, 1) := by decide +kernel
theorem dX5_turn_310 : decode cX5_turn 310 = .ok (.dload 20, 2) := by decide +kernel
theorem dX5_turn_312 : decode cX5_turn 312 = .ok (.dload 12, 2) := by decide +kernel
theorem dX5_turn_314 : decode cX5_turn 314 = .ok (.dmul, 1) := by decide +kernel
theorem dX5_turn_315 : decode cX5_turn 315 = .ok (.dload 8, 2) := by decide +kernel
theorem dX5_turn_317 : decode cX5_turn 317 = .ok (.dmul, 1) := by decide +kernel
theorem dX5_turn_318 : decode cX5_turn 318 = .ok (.dsub, 1) := by decide +kernel
theorem dX5_turn_319 : decode cX5_turn 319 = .ok (.dastore, 1) := by decide +kernel
theorem dX5_turn_320 : decode cX5_turn 320 = .ok (.iconst 1, 1) := by decide +kernel
theorem dX5_turn_321 : decode cX5_turn 321 = .ok (.ireturn, 1) := by decide +kernel
abbrev cX5_undo : ByteArray := prog_10_method_34_code
def yX5_undo : MethodName := ⟨RX5, "undo", "()V"⟩
theorem dX5_undo_0 : decode cX5_undo 0 = .ok (.iconst 0, 1) := by decide +kernel
theorem dX5_undo_1 : decode cX5_undo 1 = .ok (.istore_n 1, 1) := by decide +kernel
theorem dX5_undo_2 : decode cX5_undo 2 = .ok (.iload_n 1, 1) := by decide +kernel
theorem dX5_undo_3 : decode cX5_undo 3 = .ok (.aload_n 0, 1) := by decide +kernel
theorem dX5_undo_4 : decode cX5_undo 4 = .ok (.getfield 119, 3) := by decide +kernel
theorem dX5_undo_7 : decode cX5_undo 7 = .ok (.if_icmp .ge 57, 3) := by decide +kernel
theorem dX5_undo_10 : decode cX5_undo 10 = .ok (.aload_n 0, 1) := by decide +kernel
theorem dX5_undo_11 : decode cX5_undo 11 = .ok (.getfield 20, 3) := by decide +kernel
theorem dX5_undo_14 : decode cX5_undo 14 = .ok (.iload_n 1, 1) := by decide +kernel
theorem dX5_undo_15 : decode cX5_undo 15 = .ok (.aload_n 0, 1) := by decide +kernel
theorem dX5_undo_16 : decode cX5_undo 16 = .ok (.getfield 80, 3) := by decide +kernel
theorem dX5_undo_19 : decode cX5_undo 19 = .ok (.iload_n 1, 1) := by decide +kernel
theorem dX5_undo_20 : decode cX5_undo 20 = .ok (.daload, 1) := by decide +kernel
theorem dX5_undo_21 : decode cX5_undo 21 = .ok (.dastore, 1) := by decide +kernel
theorem dX5_undo_22 : decode cX5_undo 22 = .ok (.aload_n 0, 1) := by decide +kernel
theorem dX5_undo_23 : decode cX5_undo 23 = .ok (.getfield 24, 3) := by decide +kernel
theorem dX5_undo_26 : decode cX5_undo 26 = .ok (.iload_n 1, 1) := by decide +kernel
theorem dX5_undo_27 : decode cX5_undo 27 = .ok (.aload_n 0, 1) := by decide +kernel
theorem dX5_undo_28 : decode cX5_undo 28 = .ok (.getfield 83, 3) := by decide +kernel
theorem dX5_undo_31 : decode cX5_undo 31 = .ok (.iload_n 1, 1) := by decide +kernel
theorem dX5_undo_32 : decode cX5_undo 32 = .ok (.daload, 1) := by decide +kernel
theorem dX5_undo_33 : decode cX5_undo 33 = .ok (.dastore, 1) := by decide +kernel
theorem dX5_undo_34 : decode cX5_undo 34 = .ok (.aload_n 0, 1) := by decide +kernel
theorem dX5_undo_35 : decode cX5_undo 35 = .ok (.getfield 27, 3) := by decide +kernel
theorem dX5_undo_38 : decode cX5_undo 38 = .ok (.iload_n 1, 1) := by decide +kernel
theorem dX5_undo_39 : decode cX5_undo 39 = .ok (.aload_n 0, 1) := by decide +kernel
theorem dX5_undo_40 : decode cX5_undo 40 = .ok (.getfield 86, 3) := by decide +kernel
theorem dX5_undo_43 : decode cX5_undo 43 = .ok (.iload_n 1, 1) := by decide +kernel
theorem dX5_undo_44 : decode cX5_undo 44 = .ok (.daload, 1) := by decide +kernel
theorem dX5_undo_45 : decode cX5_undo 45 = .ok (.dastore, 1) := by decide +kernel
theorem dX5_undo_46 : decode cX5_undo 46 = .ok (.aload_n 0, 1) := by decide +kernel
theorem dX5_undo_47 : decode cX5_undo 47 = .ok (.getfield 30, 3) := by decide +kernel
theorem dX5_undo_50 : decode cX5_undo 50 = .ok (.iload_n 1, 1) := by decide +kernel
theorem dX5_undo_51 : decode cX5_undo 51 = .ok (.aload_n 0, 1) := by decide +kernel
theorem dX5_undo_52 : decode cX5_undo 52 = .ok (.getfield 89, 3) := by decide +kernel
theorem dX5_undo_55 : decode cX5_undo 55 = .ok (.iload_n 1, 1) := by decide +kernel
theorem dX5_undo_56 : decode cX5_undo 56 = .ok (.daload, 1) := by decide +kernel
theorem dX5_undo_57 : decode cX5_undo 57 = .ok (.dastore, 1) := by decide +kernel
theorem dX5_undo_58 : decode cX5_undo 58 = .ok (.iinc 1 1, 3) := by decide +kernel
theorem dX5_undo_61 : decode cX5_undo 61 = .ok (.goto (-59), 3) := by decide +kernel
theorem dX5_undo_64 : decode cX5_undo 64 = .ok (.aload_n 0, 1) := by decide +kernel
theorem dX5_undo_65 : decode cX5_undo 65 = .ok (.iconst 0, 1) := by decide +kernel
theorem dX5_undo_66 : decode cX5_undo 66 = .ok (.putfield 161, 3) := by decide +kernel
theorem dX5_undo_69 : decode cX5_undo 69 = .ok (.return_, 1) := by decide +kernel
abbrev cX5_warm : ByteArray := prog_10_method_37_code
def yX5_warm : MethodName := ⟨RX5, "warm", "(D)D"⟩
theorem dX5_warm_0 : decode cX5_warm 0 = .ok (.aload_n 0, 1) := by decide +kernel
theorem dX5_warm_1 : decode cX5_warm 1 = .ok (.invokevirtual 274, 3) := by decide +kernel
theorem dX5_warm_4 : decode cX5_warm 4 = .ok (.dstore_n 3, 1) := by decide +kernel
theorem dX5_warm_5 : decode cX5_warm 5 = .ok (.dload_n 3, 1) := by decide +kernel
theorem dX5_warm_6 : decode cX5_warm 6 = .ok (.ldc2_w 223, 3) := by decide +kernel
theorem dX5_warm_9 : decode cX5_warm 9 = .ok (.dcmp .g, 1) := by decide +kernel
theorem dX5_warm_10 : decode cX5_warm 10 = .ok (.ifCond .ge 5, 3) := by decide +kernel
theorem dX5_warm_13 : decode cX5_warm 13 = .ok (.dload_n 3, 1) := by decide +kernel
theorem dX5_warm_14 : decode cX5_warm 14 = .ok (.dreturn, 1) := by decide +kernel
theorem dX5_warm_15 : decode cX5_warm 15 = .ok (.dload_n 1, 1) := by decide +kernel
theorem dX5_warm_16 : decode cX5_warm 16 = .ok (.dload_n 3, 1) := by decide +kernel
theorem dX5_warm_17 : decode cX5_warm 17 = .ok (.ddiv, 1) := by decide +kernel
theorem dX5_warm_18 : decode cX5_warm 18 = .ok (.invokestatic 278, 3) := by decide +kernel
theorem dX5_warm_21 : decode cX5_warm 21 = .ok (.dstore 5, 2) := by decide +kernel
theorem dX5_warm_23 : decode cX5_warm 23 = .ok (.iconst 0, 1) := by decide +kernel
theorem dX5_warm_24 : decode cX5_warm 24 = .ok (.istore 7, 2) := by decide +kernel
theorem dX5_warm_26 : decode cX5_warm 26 = .ok (.iload 7, 2) := by decide +kernel
theorem dX5_warm_28 : decode cX5_warm 28 = .ok (.aload_n 0, 1) := by decide +kernel
theorem dX5_warm_29 : decode cX5_warm 29 = .ok (.getfield 119, 3) := by decide +kernel
theorem dX5_warm_32 : decode cX5_warm 32 = .ok (.if_icmp .ge 56, 3) := by decide +kernel
theorem dX5_warm_35 : decode cX5_warm 35 = .ok (.aload_n 0, 1) := by decide +kernel
theorem dX5_warm_36 : decode cX5_warm 36 = .ok (.getfield 40, 3) := by decide +kernel
theorem dX5_warm_39 : decode cX5_warm 39 = .ok (.iload 7, 2) := by decide +kernel
theorem dX5_warm_41 : decode cX5_warm 41 = .ok (.baload, 1) := by decide +kernel
theorem dX5_warm_42 : decode cX5_warm 42 = .ok (.ifCond .eq 6, 3) := by decide +kernel
theorem dX5_warm_45 : decode cX5_warm 45 = .ok (.goto 37, 3) := by decide +kernel
theorem dX5_warm_48 : decode cX5_warm 48 = .ok (.aload_n 0, 1) := by decide +kernel
theorem dX5_warm_49 : decode cX5_warm 49 = .ok (.getfield 27, 3) := by decide +kernel
theorem dX5_warm_52 : decode cX5_warm 52 = .ok (.iload 7, 2) := by decide +kernel
theorem dX5_warm_54 : decode cX5_warm 54 = .ok (.aload_n 0, 1) := by decide +kernel
theorem dX5_warm_55 : decode cX5_warm 55 = .ok (.getfield 27, 3) := by decide +kernel
theorem dX5_warm_58 : decode cX5_warm 58 = .ok (.iload 7, 2) := by decide +kernel
theorem dX5_warm_60 : decode cX5_warm 60 = .ok (.daload, 1) := by decide +kernel
theorem dX5_warm_61 : decode cX5_warm 61 = .ok (.dload 5, 2) := by decide +kernel
theorem dX5_warm_63 : decode cX5_warm 63 = .ok (.dmul, 1) := by decide +kernel
theorem dX5_warm_64 : decode cX5_warm 64 = .ok (.dastore, 1) := by decide +kernel
theorem dX5_warm_65 : decode cX5_warm 65 = .ok (.aload_n 0, 1) := by decide +kernel
theorem dX5_warm_66 : decode cX5_warm 66 = .ok (.getfield 30, 3) := by decide +kernel
theorem dX5_warm_69 : decode cX5_warm 69 = .ok (.iload 7, 2) := by decide +kernel
theorem dX5_warm_71 : decode cX5_warm 71 = .ok (.aload_n 0, 1) := by decide +kernel
theorem dX5_warm_72 : decode cX5_warm 72 = .ok (.getfield 30, 3) := by decide +kernel
theorem dX5_warm_75 : decode cX5_warm 75 = .ok (.iload 7, 2) := by decide +kernel
theorem dX5_warm_77 : decode cX5_warm 77 = .ok (.daload, 1) := by decide +kernel
theorem dX5_warm_78 : decode cX5_warm 78 = .ok (.dload 5, 2) := by decide +kernel
theorem dX5_warm_80 : decode cX5_warm 80 = .ok (.dmul, 1) := by decide +kernel
theorem dX5_warm_81 : decode cX5_warm 81 = .ok (.dastore, 1) := by decide +kernel
theorem dX5_warm_82 : decode cX5_warm 82 = .ok (.iinc 7 1, 3) := by decide +kernel
theorem dX5_warm_85 : decode cX5_warm 85 = .ok (.goto (-59), 3) := by decide +kernel
theorem dX5_warm_88 : decode cX5_warm 88 = .ok (.dload_n 3, 1) := by decide +kernel
theorem dX5_warm_89 : decode cX5_warm 89 = .ok (.dreturn, 1) := by decide +kernel
abbrev cX5_findTemperature : ByteArray := prog_10_method_36_code
def yX5_findTemperature : MethodName := ⟨RX5, "findTemperature", "()D"⟩
theorem dX5_findTemperature_0 : decode cX5_findTemperature 0 = .ok (.dconst 0, 1) := by decide +kernel
theorem dX5_findTemperature_1 : decode cX5_findTemperature 1 = .ok (.dstore_n 1, 1) := by decide +kernel
theorem dX5_findTemperature_2 : decode cX5_findTemperature 2 = .ok (.iconst 0, 1) := by decide +kernel
theorem dX5_findTemperature_3 : decode cX5_findTemperature 3 = .ok (.istore_n 3, 1) := by decide +kernel
theorem dX5_findTemperature_4 : decode cX5_findTemperature 4 = .ok (.iconst 0, 1) := by decide +kernel
theorem dX5_findTemperature_5 : decode cX5_findTemperature 5 = .ok (.istore 4, 2) := by decide +kernel
theorem dX5_findTemperature_7 : decode cX5_findTemperature 7 = .ok (.iload 4, 2) := by decide +kernel
theorem dX5_findTemperature_9 : decode cX5_findTemperature 9 = .ok (.aload_n 0, 1) := by decide +kernel
theorem dX5_findTemperature_10 : decode cX5_findTemperature 10 = .ok (.getfield 119, 3) := by decide +kernel
theorem dX5_findTemperature_13 : decode cX5_findTemperature 13 = .ok (.if_icmp .ge 64, 3) := by decide +kernel
theorem dX5_findTemperature_16 : decode cX5_findTemperature 16 = .ok (.dload_n 1, 1) := by decide +kernel
theorem dX5_findTemperature_17 : decode cX5_findTemperature 17 = .ok (.aload_n 0, 1) := by decide +kernel
theorem dX5_findTemperature_18 : decode cX5_findTemperature 18 = .ok (.getfield 33, 3) := by decide +kernel
theorem dX5_findTemperature_21 : decode cX5_findTemperature 21 = .ok (.iload 4, 2) := by decide +kernel
theorem dX5_findTemperature_23 : decode cX5_findTemperature 23 = .ok (.daload, 1) := by decide +kernel
theorem dX5_findTemperature_24 : decode cX5_findTemperature 24 = .ok (.aload_n 0, 1) := by decide +kernel
theorem dX5_findTemperature_25 : decode cX5_findTemperature 25 = .ok (.getfield 27, 3) := by decide +kernel
theorem dX5_findTemperature_28 : decode cX5_findTemperature 28 = .ok (.iload 4, 2) := by decide +kernel
theorem dX5_findTemperature_30 : decode cX5_findTemperature 30 = .ok (.daload, 1) := by decide +kernel
theorem dX5_findTemperature_31 : decode cX5_findTemperature 31 = .ok (.aload_n 0, 1) := by decide +kernel
theorem dX5_findTemperature_32 : decode cX5_findTemperature 32 = .ok (.getfield 27, 3) := by decide +kernel
theorem dX5_findTemperature_35 : decode cX5_findTemperature 35 = .ok (.iload 4, 2) := by decide +kernel
theorem dX5_findTemperature_37 : decode cX5_findTemperature 37 = .ok (.daload, 1) := by decide +kernel
theorem dX5_findTemperature_38 : decode cX5_findTemperature 38 = .ok (.dmul, 1) := by decide +kernel
theorem dX5_findTemperature_39 : decode cX5_findTemperature 39 = .ok (.aload_n 0, 1) := by decide +kernel
theorem dX5_findTemperature_40 : decode cX5_findTemperature 40 = .ok (.getfield 30, 3) := by decide +kernel
theorem dX5_findTemperature_43 : decode cX5_findTemperature 43 = .ok (.iload 4, 2) := by decide +kernel
theorem dX5_findTemperature_45 : decode cX5_findTemperature 45 = .ok (.daload, 1) := by decide +kernel
theorem dX5_findTemperature_46 : decode cX5_findTemperature 46 = .ok (.aload_n 0, 1) := by decide +kernel
theorem dX5_findTemperature_47 : decode cX5_findTemperature 47 = .ok (.getfield 30, 3) := by decide +kernel
theorem dX5_findTemperature_50 : decode cX5_findTemperature 50 = .ok (.iload 4, 2) := by decide +kernel
theorem dX5_findTemperature_52 : decode cX5_findTemperature 52 = .ok (.daload, 1) := by decide +kernel
theorem dX5_findTemperature_53 : decode cX5_findTemperature 53 = .ok (.dmul, 1) := by decide +kernel
theorem dX5_findTemperature_54 : decode cX5_findTemperature 54 = .ok (.dadd, 1) := by decide +kernel
theorem dX5_findTemperature_55 : decode cX5_findTemperature 55 = .ok (.dmul, 1) := by decide +kernel
theorem dX5_findTemperature_56 : decode cX5_findTemperature 56 = .ok (.dadd, 1) := by decide +kernel
theorem dX5_findTemperature_57 : decode cX5_findTemperature 57 = .ok (.dstore_n 1, 1) := by decide +kernel
theorem dX5_findTemperature_58 : decode cX5_findTemperature 58 = .ok (.aload_n 0, 1) := by decide +kernel
theorem dX5_findTemperature_59 : decode cX5_findTemperature 59 = .ok (.getfield 40, 3) := by decide +kernel
theorem dX5_findTemperature_62 : decode cX5_findTemperature 62 = .ok (.iload 4, 2) := by decide +kernel
theorem dX5_findTemperature_64 : decode cX5_findTemperature 64 = .ok (.baload, 1) := by decide +kernel
theorem dX5_findTemperature_65 : decode cX5_findTemperature 65 = .ok (.ifCond .ne 6, 3) := by decide +kernel
theorem dX5_findTemperature_68 : decode cX5_findTemperature 68 = .ok (.iinc 3 1, 3) := by decide +kernel
theorem dX5_findTemperature_71 : decode cX5_findTemperature 71 = .ok (.iinc 4 1, 3) := by decide +kernel
theorem dX5_findTemperature_74 : decode cX5_findTemperature 74 = .ok (.goto (-67), 3) := by decide +kernel
theorem dX5_findTemperature_77 : decode cX5_findTemperature 77 = .ok (.iload_n 3, 1) := by decide +kernel
theorem dX5_findTemperature_78 : decode cX5_findTemperature 78 = .ok (.ifCond .ne 7, 3) := by decide +kernel
theorem dX5_findTemperature_81 : decode cX5_findTemperature 81 = .ok (.dconst 0, 1) := by decide +kernel
theorem dX5_findTemperature_82 : decode cX5_findTemperature 82 = .ok (.goto 11, 3) := by decide +kernel
theorem dX5_findTemperature_85 : decode cX5_findTemperature 85 = .ok (.dload_n 1, 1) := by decide +kernel
theorem dX5_findTemperature_86 : decode cX5_findTemperature 86 = .ok (.ldc2_w 203, 3) := by decide +kernel
theorem dX5_findTemperature_89 : decode cX5_findTemperature 89 = .ok (.iload_n 3, 1) := by decide +kernel
theorem dX5_findTemperature_90 : decode cX5_findTemperature 90 = .ok (.i2d, 1) := by decide +kernel
theorem dX5_findTemperature_91 : decode cX5_findTemperature 91 = .ok (.dmul, 1) := by decide +kernel
theorem dX5_findTemperature_92 : decode cX5_findTemperature 92 = .ok (.ddiv, 1) := by decide +kernel
theorem dX5_findTemperature_93 : decode cX5_findTemperature 93 = .ok (.dreturn, 1) := by decide +kernel
