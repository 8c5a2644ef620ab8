set_option maxRecDepth 100000
abbrev cX5_cut : ByteArray := prog_10_method_16_code
def yX5_cut : MethodName := ⟨RX5, "cut", "(DD)V"⟩
theorem dX5_cut_0 : decode cX5_cut 0 = .ok (.aload_n 0, 1) := by decide +kernel
theorem dX5_cut_1 : decode cX5_cut 1 = .ok (.dload_n 1, 1) := by decide +kernel
theorem dX5_cut_2 : decode cX5_cut 2 = .ok (.ldc2_w 7, 3) := by decide +kernel
theorem dX5_cut_5 : decode cX5_cut 5 = .ok (.aload_n 0, 1) := by decide +kernel
theorem dX5_cut_6 : decode cX5_cut 6 = .ok (.getfield 107, 3) := by decide +kernel
theorem dX5_cut_9 : decode cX5_cut 9 = .ok (.ldc2_w 7, 3) := by decide +kernel
theorem dX5_cut_12 : decode cX5_cut 12 = .ok (.dmul, 1) := by decide +kernel
theorem dX5_cut_13 : decode cX5_cut 13 = .ok (.invokestatic 146, 3) := by decide +kernel
theorem dX5_cut_16 : decode cX5_cut 16 = .ok (.ifCond .eq 18, 3) := by decide +kernel
theorem dX5_cut_19 : decode cX5_cut 19 = .ok (.dload_n 3, 1) := by decide +kernel
theorem dX5_cut_20 : decode cX5_cut 20 = .ok (.dconst 0, 1) := by decide +kernel
theorem dX5_cut_21 : decode cX5_cut 21 = .ok (.ldc2_w 169, 3) := by decide +kernel
theorem dX5_cut_24 : decode cX5_cut 24 = .ok (.invokestatic 146, 3) := by decide +kernel
theorem dX5_cut_27 : decode cX5_cut 27 = .ok (.ifCond .eq 7, 3) := by decide +kernel
theorem dX5_cut_30 : decode cX5_cut 30 = .ok (.iconst 1, 1) := by decide +kernel
theorem dX5_cut_31 : decode cX5_cut 31 = .ok (.goto 4, 3) := by decide +kernel
theorem dX5_cut_34 : decode cX5_cut 34 = .ok (.iconst 0, 1) := by decide +kernel
theorem dX5_cut_35 : decode cX5_cut 35 = .ok (.invokevirtual 154, 3) := by decide +kernel
theorem dX5_cut_38 : decode cX5_cut 38 = .ok (.ifCond .eq 4, 3) := by decide +kernel
theorem dX5_cut_41 : decode cX5_cut 41 = .ok (.return_, 1) := by decide +kernel
theorem dX5_cut_42 : decode cX5_cut 42 = .ok (.aload_n 0, 1) := by decide +kernel
theorem dX5_cut_43 : decode cX5_cut 43 = .ok (.dload_n 1, 1) := by decide +kernel
theorem dX5_cut_44 : decode cX5_cut 44 = .ok (.putfield 112, 3) := by decide +kernel
theorem dX5_cut_47 : decode cX5_cut 47 = .ok (.aload_n 0, 1) := by decide +kernel
theorem dX5_cut_48 : decode cX5_cut 48 = .ok (.dload_n 3, 1) := by decide +kernel
theorem dX5_cut_49 : decode cX5_cut 49 = .ok (.putfield 9, 3) := by decide +kernel
theorem dX5_cut_52 : decode cX5_cut 52 = .ok (.aload_n 0, 1) := by decide +kernel
theorem dX5_cut_53 : decode cX5_cut 53 = .ok (.iconst 0, 1) := by decide +kernel
theorem dX5_cut_54 : decode cX5_cut 54 = .ok (.putfield 161, 3) := by decide +kernel
theorem dX5_cut_57 : decode cX5_cut 57 = .ok (.return_, 1) := by decide +kernel
abbrev cX5_bond : ByteArray := prog_10_method_17_code
def yX5_bond : MethodName := ⟨RX5, "bond", "(IIDD)I"⟩
theorem dX5_bond_0 : decode cX5_bond 0 = .ok (.aload_n 0, 1) := by decide +kernel
theorem dX5_bond_1 : decode cX5_bond 1 = .ok (.aload_n 0, 1) := by decide +kernel
theorem dX5_bond_2 : decode cX5_bond 2 = .ok (.iload_n 1, 1) := by decide +kernel
theorem dX5_bond_3 : decode cX5_bond 3 = .ok (.invokevirtual 165, 3) := by decide +kernel
theorem dX5_bond_6 : decode cX5_bond 6 = .ok (.ifCond .eq 50, 3) := by decide +kernel
theorem dX5_bond_9 : decode cX5_bond 9 = .ok (.aload_n 0, 1) := by decide +kernel
theorem dX5_bond_10 : decode cX5_bond 10 = .ok (.iload_n 2, 1) := by decide +kernel
theorem dX5_bond_11 : decode cX5_bond 11 = .ok (.invokevirtual 165, 3) := by decide +kernel
theorem dX5_bond_14 : decode cX5_bond 14 = .ok (.ifCond .eq 42, 3) := by decide +kernel
theorem dX5_bond_17 : decode cX5_bond 17 = .ok (.iload_n 1, 1) := by decide +kernel
theorem dX5_bond_18 : decode cX5_bond 18 = .ok (.iload_n 2, 1) := by decide +kernel
theorem dX5_bond_19 : decode cX5_bond 19 = .ok (.if_icmp .eq 37, 3) := by decide +kernel
theorem dX5_bond_22 : decode cX5_bond 22 = .ok (.dload_n 3, 1) := by decide +kernel
theorem dX5_bond_23 : decode cX5_bond 23 = .ok (.dconst 0, 1) := by decide +kernel
theorem dX5_bond_24 : decode cX5_bond 24 = .ok (.ldc2_w 152, 3) := by decide +kernel
theorem dX5_bond_27 : decode cX5_bond 27 = .ok (.invokestatic 146, 3) := by decide +kernel
theorem dX5_bond_30 : decode cX5_bond 30 = .ok (.ifCond .eq 26, 3) := by decide +kernel
theorem dX5_bond_33 : decode cX5_bond 33 = .ok (.dload 5, 2) := by decide +kernel
theorem dX5_bond_35 : decode cX5_bond 35 = .ok (.ldc2_w 150, 3) := by decide +kernel
theorem dX5_bond_38 : decode cX5_bond 38 = .ok (.aload_n 0, 1) := by decide +kernel
theorem dX5_bond_39 : decode cX5_bond 39 = .ok (.getfield 107, 3) := by decide +kernel
theorem dX5_bond_42 : decode cX5_bond 42 = .ok (.ldc2_w 7, 3) := by decide +kernel
theorem dX5_bond_45 : decode cX5_bond 45 = .ok (.dmul, 1) := by decide +kernel
theorem dX5_bond_46 : decode cX5_bond 46 = .ok (.invokestatic 146, 3) := by decide +kernel
theorem dX5_bond_49 : decode cX5_bond 49 = .ok (.ifCond .eq 7, 3) := by decide +kernel
theorem dX5_bond_52 : decode cX5_bond 52 = .ok (.iconst 1, 1) := by decide +kernel
theorem dX5_bond_53 : decode cX5_bond 53 = .ok (.goto 4, 3) := by decide +kernel
theorem dX5_bond_56 : decode cX5_bond 56 = .ok (.iconst 0, 1) := by decide +kernel
theorem dX5_bond_57 : decode cX5_bond 57 = .ok (.invokevirtual 154, 3) := by decide +kernel
theorem dX5_bond_60 : decode cX5_bond 60 = .ok (.ifCond .eq 5, 3) := by decide +kernel
theorem dX5_bond_63 : decode cX5_bond 63 = .ok (.iconst 0, 1) := by decide +kernel
theorem dX5_bond_64 : decode cX5_bond 64 = .ok (.ireturn, 1) := by decide +kernel
theorem dX5_bond_65 : decode cX5_bond 65 = .ok (.aload_n 0, 1) := by decide +kernel
theorem dX5_bond_66 : decode cX5_bond 66 = .ok (.getfield 175, 3) := by decide +kernel
theorem dX5_bond_69 : decode cX5_bond 69 = .ok (.bipush 8, 2) := by decide +kernel
theorem dX5_bond_71 : decode cX5_bond 71 = .ok (.if_icmp .ne 10, 3) := by decide +kernel
theorem dX5_bond_74 : decode cX5_bond 74 = .ok (.aload_n 0, 1) := by decide +kernel
theorem dX5_bond_75 : decode cX5_bond 75 = .ok (.iconst 2, 1) := by decide +kernel
theorem dX5_bond_76 : decode cX5_bond 76 = .ok (.putfield 115, 3) := by decide +kernel
theorem dX5_bond_79 : decode cX5_bond 79 = .ok (.iconst 0, 1) := by decide +kernel
theorem dX5_bond_80 : decode cX5_bond 80 = .ok (.ireturn, 1) := by decide +kernel
theorem dX5_bond_81 : decode cX5_bond 81 = .ok (.aload_n 0, 1) := by decide +kernel
theorem dX5_bond_82 : decode cX5_bond 82 = .ok (.getfield 53, 3) := by decide +kernel
theorem dX5_bond_85 : decode cX5_bond 85 = .ok (.aload_n 0, 1) := by decide +kernel
theorem dX5_bond_86 : decode cX5_bond 86 = .ok (.getfield 175, 3) := by decide +kernel
theorem dX5_bond_89 : decode cX5_bond 89 = .ok (.iload_n 1, 1) := by decide +kernel
theorem dX5_bond_90 : decode cX5_bond 90 = .ok (.iastore, 1) := by decide +kernel
theorem dX5_bond_91 : decode cX5_bond 91 = .ok (.aload_n 0, 1) := by decide +kernel
theorem dX5_bond_92 : decode cX5_bond 92 = .ok (.getfield 56, 3) := by decide +kernel
theorem dX5_bond_95 : decode cX5_bond 95 = .ok (.aload_n 0, 1) := by decide +kernel
theorem dX5_bond_96 : decode cX5_bond 96 = .ok (.getfield 175, 3) := by decide +kernel
theorem dX5_bond_99 : decode cX5_bond 99 = .ok (.iload_n 2, 1) := by decide +kernel
theorem dX5_bond_100 : decode cX5_bond 100 = .ok (.iastore, 1) := by decide +kernel
theorem dX5_bond_101 : decode cX5_bond 101 = .ok (.aload_n 0, 1) := by decide +kernel
theorem dX5_bond_102 : decode cX5_bond 102 = .ok (.getfield 65, 3) := by decide +kernel
theorem dX5_bond_105 : decode cX5_bond 105 = .ok (.aload_n 0, 1) := by decide +kernel
theorem dX5_bond_106 : decode cX5_bond 106 = .ok (.getfield 175, 3) := by decide +kernel
theorem dX5_bond_109 : decode cX5_bond 109 = .ok (.dload_n 3, 1) := by decide +kernel
theorem dX5_bond_110 : decode cX5_bond 110 = .ok (.dastore, 1) := by decide +kernel
theorem dX5_bond_111 : decode cX5_bond 111 = .ok (.aload_n 0, 1) := by decide +kernel
theorem dX5_bond_112 : decode cX5_bond 112 = .ok (.getfield 68, 3) := by decide +kernel
theorem dX5_bond_115 : decode cX5_bond 115 = .ok (.aload_n 0, 1) := by decide +kernel
theorem dX5_bond_116 : decode cX5_bond 116 = .ok (.getfield 175, 3) := by decide +kernel
theorem dX5_bond_119 : decode cX5_bond 119 = .ok (.dload 5, 2) := by decide +kernel
theorem dX5_bond_121 : decode cX5_bond 121 = .ok (.dastore, 1) := by decide +kernel
theorem dX5_bond_122 : decode cX5_bond 122 = .ok (.aload_n 0, 1) := by decide +kernel
theorem dX5_bond_123 : decode cX5_bond 123 = .ok (.dup, 1) := by decide +kernel
theorem dX5_bond_124 : decode cX5_bond 124 = .ok (.getfield 175, 3) := by decide +kernel
theorem dX5_bond_127 : decode cX5_bond 127 = .ok (.iconst 1, 1) := by decide +kernel
theorem dX5_bond_128 : decode cX5_bond 128 = .ok (.iadd, 1) := by decide +kernel
theorem dX5_bond_129 : decode cX5_bond 129 = .ok (.putfield 175, 3) := by decide +kernel
theorem dX5_bond_132 : decode cX5_bond 132 = .ok (.aload_n 0, 1) := by decide +kernel
theorem dX5_bond_133 : decode cX5_bond 133 = .ok (.getfield 175, 3) := by decide +kernel
theorem dX5_bond_136 : decode cX5_bond 136 = .ok (.ireturn, 1) := by decide +kernel
abbrev cX5_rod : ByteArray := prog_10_method_18_code
def yX5_rod : MethodName := ⟨RX5, "rod", "(IID)I"⟩
theorem dX5_rod_0 : decode cX5_rod 0 = .ok (.aload_n 0, 1) := by decide +kernel
theorem dX5_rod_1 : decode cX5_rod 1 = .ok (.aload_n 0, 1) := by decide +kernel
theorem dX5_rod_2 : decode cX5_rod 2 = .ok (.iload_n 1, 1) := by decide +kernel
theorem dX5_rod_3 : decode cX5_rod 3 = .ok (.invokevirtual 165, 3) := by decide +kernel
theorem dX5_rod_6 : decode cX5_rod 6 = .ok (.ifCond .eq 38, 3) := by decide +kernel
theorem dX5_rod_9 : decode cX5_rod 9 = .ok (.aload_n 0, 1) := by decide +kernel
theorem dX5_rod_10 : decode cX5_rod 10 = .ok (.iload_n 2, 1) := by decide +kernel
theorem dX5_rod_11 : decode cX5_rod 11 = .ok (.invokevirtual 165, 3) := by decide +kernel
theorem dX5_rod_14 : decode cX5_rod 14 = .ok (.ifCond .eq 30, 3) := by decide +kernel
theorem dX5_rod_17 : decode cX5_rod 17 = .ok (.iload_n 1, 1) := by decide +kernel
theorem dX5_rod_18 : decode cX5_rod 18 = .ok (.iload_n 2, 1) := by decide +kernel
theorem dX5_rod_19 : decode cX5_rod 19 = .ok (.if_icmp .eq 25, 3) := by decide +kernel
theorem dX5_rod_22 : decode cX5_rod 22 = .ok (.dload_n 3, 1) := by decide +kernel
theorem dX5_rod_23 : decode cX5_rod 23 = .ok (.ldc2_w 150, 3) := by decide +kernel
theorem dX5_rod_26 : decode cX5_rod 26 = .ok (.aload_n 0, 1) := by decide +kernel
theorem dX5_rod_27 : decode cX5_rod 27 = .ok (.getfield 107, 3) := by decide +kernel
theorem dX5_rod_30 : decode cX5_rod 30 = .ok (.ldc2_w 7, 3) := by decide +kernel
theorem dX5_rod_33 : decode cX5_rod 33 = .ok (.dmul, 1) := by decide +kernel
theorem dX5_rod_34 : decode cX5_rod 34 = .ok (.invokestatic 146, 3) := by decide +kernel
theorem dX5_rod_37 : decode cX5_rod 37 = .ok (.ifCond .eq 7, 3) := by decide +kernel
theorem dX5_rod_40 : decode cX5_rod 40 = .ok (.iconst 1, 1) := by decide +kernel
theorem dX5_rod_41 : decode cX5_rod 41 = .ok (.goto 4, 3) := by decide +kernel
theorem dX5_rod_44 : decode cX5_rod 44 = .ok (.iconst 0, 1) := by decide +kernel
theorem dX5_rod_45 : decode cX5_rod 45 = .ok (.invokevirtual 154, 3) := by decide +kernel
theorem dX5_rod_48 : decode cX5_rod 48 = .ok (.ifCond .eq 5, 3) := by decide +kernel
theorem dX5_rod_51 : decode cX5_rod 51 = .ok (.iconst 0, 1) := by decide +kernel
theorem dX5_rod_52 : decode cX5_rod 52 = .ok (.ireturn, 1) := by decide +kernel
theorem dX5_rod_53 : decode cX5_rod 53 = .ok (.aload_n 0, 1) := by decide +kernel
theorem dX5_rod_54 : decode cX5_rod 54 = .ok (.getfield 178, 3) := by decide +kernel
theorem dX5_rod_57 : decode cX5_rod 57 = .ok (.iconst 4, 1) := by decide +kernel
theorem dX5_rod_58 : decode cX5_rod 58 = .ok (.if_icmp .ne 10, 3) := by decide +kernel
theorem dX5_rod_61 : decode cX5_rod 61 = .ok (.aload_n 0, 1) := by decide +kernel
theorem dX5_rod_62 : decode cX5_rod 62 = .ok (.iconst 2, 1) := by decide +kernel
theorem dX5_rod_63 : decode cX5_rod 63 = .ok (.putfield 115, 3) := by decide +kernel
theorem dX5_rod_66 : decode cX5_rod 66 = .ok (.iconst 0, 1) := by decide +kernel
theorem dX5_rod_67 : decode cX5_rod 67 = .ok (.ireturn, 1) := by decide +kernel
theorem dX5_rod_68 : decode cX5_rod 68 = .ok (.aload_n 0, 1) := by decide +kernel
theorem dX5_rod_69 : decode cX5_rod 69 = .ok (.getfield 59, 3) := by decide +kernel
theorem dX5_rod_72 : decode cX5_rod 72 = .ok (.aload_n 0, 1) := by decide +kernel
theorem dX5_rod_73 : decode cX5_rod 73 = .ok (.getfield 178, 3) := by decide +kernel
theorem dX5_rod_76 : decode cX5_rod 76 = .ok (.iload_n 1, 1) := by decide +kernel
theorem dX5_rod_77 : decode cX5_rod 77 = .ok (.iastore, 1) := by decide +kernel
theorem dX5_rod_78 : decode cX5_rod 78 = .ok (.aload_n 0, 1) := by decide +kernel
theorem dX5_rod_79 : decode cX5_rod 79 = .ok (.getfield 62, 3) := by decide +kernel
theorem dX5_rod_82 : decode cX5_rod 82 = .ok (.aload_n 0, 1) := by decide +kernel
theorem dX5_rod_83 : decode cX5_rod 83 = .ok (.getfield 178, 3) := by decide +kernel
theorem dX5_rod_86 : decode cX5_rod 86 = .ok (.iload_n 2, 1) := by decide +kernel
theorem dX5_rod_87 : decode cX5_rod 87 = .ok (.iastore, 1) := by decide +kernel
theorem dX5_rod_88 : decode cX5_rod 88 = .ok (.aload_n 0, 1) := by decide +kernel
theorem dX5_rod_89 : decode cX5_rod 89 = .ok (.getfield 71, 3) := by decide +kernel
theorem dX5_rod_92 : decode cX5_rod 92 = .ok (.aload_n 0, 1) := by decide +kernel
theorem dX5_rod_93 : decode cX5_rod 93 = .ok (.getfield 178, 3) := by decide +kernel
theorem dX5_rod_96 : decode cX5_rod 96 = .ok (.dload_n 3, 1) := by decide +kernel
theorem dX5_rod_97 : decode cX5_rod 97 = .ok (.dastore, 1) := by decide +kernel
theorem dX5_rod_98 : decode cX5_rod 98 = .ok (.aload_n 0, 1) := by decide +kernel
theorem dX5_rod_99 : decode cX5_rod 99 = .ok (.dup, 1) := by decide +kernel
theorem dX5_rod_100 : decode cX5_rod 100 = .ok (.getfield 178, 3) := by decide +kernel
theorem dX5_rod_103 : decode cX5_rod 103 = .ok (.iconst 1, 1) := by decide +kernel
theorem dX5_rod_104 : decode cX5_rod 104 = .ok (.iadd, 1) := by decide +kernel
theorem dX5_rod_105 : decode cX5_rod 105 = .ok (.putfield 178, 3) := by decide +kernel
theorem dX5_rod_108 : decode cX5_rod 108 = .ok (.aload_n 0, 1) := by decide +kernel
theorem dX5_rod_109 : decode cX5_rod 109 = .ok (.getfield 178, 3) := by decide +kernel
theorem dX5_rod_112 : decode cX5_rod 112 = .ok (.ireturn, 1) := by decide +kernel
abbrev cX5_stuck : ByteArray := prog_10_method_19_code
def yX5_stuck : MethodName := ⟨RX5, "stuck", "(IZ)V"⟩
theorem dX5_stuck_0 : decode cX5_stuck 0 = .ok (.aload_n 0, 1) := by decide +kernel
theorem dX5_stuck_1 : decode cX5_stuck 1 = .ok (.aload_n 0, 1) := by decide +kernel
theorem dX5_stuck_2 : decode cX5_stuck 2 = .ok (.iload_n 1, 1) := by decide +kernel
theorem dX5_stuck_3 : decode cX5_stuck 3 = .ok (.invokevirtual 165, 3) := by decide +kernel
theorem dX5_stuck_6 : decode cX5_stuck 6 = .ok (.invokevirtual 154, 3) := by decide +kernel
theorem dX5_stuck_9 : decode cX5_stuck 9 = .ok (.ifCond .eq 4, 3) := by decide +kernel
theorem dX5_stuck_12 : decode cX5_stuck 12 = .ok (.return_, 1) := by decide +kernel
theorem dX5_stuck_13 : decode cX5_stuck 13 = .ok (.aload_n 0, 1) := by decide +kernel
theorem dX5_stuck_14 : decode cX5_stuck 14 = .ok (.getfield 40, 3) := by decide +kernel
theorem dX5_stuck_17 : decode cX5_stuck 17 = .ok (.iload_n 1, 1) := by decide +kernel
theorem dX5_stuck_18 : decode cX5_stuck 18 = .ok (.iload_n 2, 1) := by decide +kernel
theorem dX5_stuck_19 : decode cX5_stuck 19 = .ok (.bastore, 1) := by decide +kernel
theorem dX5_stuck_20 : decode cX5_stuck 20 = .ok (.iload_n 2, 1) := by decide +kernel
theorem dX5_stuck_21 : decode cX5_stuck 21 = .ok (.ifCond .ne 4, 3) := by decide +kernel
theorem dX5_stuck_24 : decode cX5_stuck 24 = .ok (.return_, 1) := by decide +kernel
theorem dX5_stuck_25 : decode cX5_stuck 25 = .ok (.aload_n 0, 1) := by decide +kernel
theorem dX5_stuck_26 : decode cX5_stuck 26 = .ok (.getfield 27, 3) := by decide +kernel
theorem dX5_stuck_29 : decode cX5_stuck 29 = .ok (.iload_n 1, 1) := by decide +kernel
theorem dX5_stuck_30 : decode cX5_stuck 30 = .ok (.dconst 0, 1) := by decide +kernel
theorem dX5_stuck_31 : decode cX5_stuck 31 = .ok (.dastore, 1) := by decide +kernel
theorem dX5_stuck_32 : decode cX5_stuck 32 = .ok (.aload_n 0, 1) := by decide +kernel
theorem dX5_stuck_33 : decode cX5_stuck 33 = .ok (.getfield 30, 3) := by decide +kernel
theorem dX5_stuck_36 : decode cX5_stuck 36 = .ok (.iload_n 1, 1) := by decide +kernel
theorem dX5_stuck_37 : decode cX5_stuck 37 = .ok (.dconst 0, 1) := by decide +kernel
theorem dX5_stuck_38 : decode cX5_stuck 38 = .ok (.dastore, 1) := by decide +kernel
theorem dX5_stuck_39 : decode cX5_stuck 39 = .ok (.return_, 1) := by decide +kernel
abbrev cX5_thermostat : ByteArray := prog_10_method_20_code
def yX5_thermostat : MethodName := ⟨RX5, "thermostat", "(D)V"⟩
theorem dX5_thermostat_0 : decode cX5_thermostat 0 = .ok (.aload_n 0, 1) := by decide +kernel
theorem dX5_thermostat_1 : decode cX5_thermostat 1 = .ok (.dload_n 1, 1) := by decide +kernel
theorem dX5_thermostat_2 : decode cX5_thermostat 2 = .ok (.ldc2_w 144, 3) := by decide +kernel
theorem dX5_thermostat_5 : decode cX5_thermostat 5 = .ok (.dcmp .g, 1) := by decide +kernel
theorem dX5_thermostat_6 : decode cX5_thermostat 6 = .ok (.ifCond .gt 7, 3) := by decide +kernel
theorem dX5_thermostat_9 : decode cX5_thermostat 9 = .ok (.iconst 1, 1) := by decide +kernel
theorem dX5_thermostat_10 : decode cX5_thermostat 10 = .ok (.goto 4, 3) := by decide +kernel
theorem dX5_thermostat_13 : decode cX5_thermostat 13 = .ok (.iconst 0, 1) := by decide +kernel
theorem dX5_thermostat_14 : decode cX5_thermostat 14 = .ok (.invokevirtual 154, 3) := by decide +kernel
theorem dX5_thermostat_17 : decode cX5_thermostat 17 = .ok (.ifCond .eq 4, 3) := by decide +kernel
theorem dX5_thermostat_20 : decode cX5_thermostat 20 = .ok (.return_, 1) := by decide +kernel
theorem dX5_thermostat_21 : decode cX5_thermostat 21 = .ok (.aload_n 0, 1) := by decide +kernel
theorem dX5_thermostat_22 : decode cX5_thermostat 22 = .ok (.dload_n 1, 1) := by decide +kernel
theorem dX5_thermostat_23 : decode cX5_thermostat 23 = .ok (.dconst 0, 1) := by decide +kernel
theorem dX5_thermostat_24 : decode cX5_thermostat 24 = .ok (.dcmp .g, 1) := by decide +kernel
theorem dX5_thermostat_25 : decode cX5_thermostat 25 = .ok (.ifCond .ge 9, 3) := by decide +kernel
theorem dX5_thermostat_28 : decode cX5_thermostat 28 = .ok (.ldc2_w 15, 3) := by decide +kernel
theorem dX5_thermostat_31 : decode cX5_thermostat 31 = .ok (.goto 4, 3) := by decide +kernel
theorem dX5_thermostat_34 : decode cX5_thermostat 34 = .ok (.dload_n 1, 1) := by decide +kernel
theorem dX5_thermostat_35 : decode cX5_thermostat 35 = .ok (.putfield 17, 3) := by decide +kernel
theorem dX5_thermostat_38 : decode cX5_thermostat 38 = .ok (.return_, 1) := by decide +kernel
abbrev cX5_step : ByteArray := prog_10_method_35_code
def yX5_step : MethodName := ⟨RX5, "step", "(II)V"⟩
theorem dX5_step_0 : decode cX5_step 0 = .ok (.aload_n 0, 1) := by decide +kernel
theorem dX5_step_1 : decode cX5_step 1 = .ok (.iload_n 1, 1) := by decide +kernel
theorem dX5_step_2 : decode cX5_step 2 = .ok (.iconst 1, 1) := by decide +kernel
theorem dX5_step_3 : decode cX5_step 3 = .ok (.if_icmp .lt 25, 3) := by decide +kernel
theorem dX5_step_6 : decode cX5_step 6 = .ok (.iload_n 1, 1) := by decide +kernel
theorem dX5_step_7 : decode cX5_step 7 = .ok (.bipush 50, 2) := by decide +kernel
theorem dX5_step_9 : decode cX5_step 9 = .ok (.if_icmp .gt 19, 3) := by decide +kernel
theorem dX5_step_12 : decode cX5_step 12 = .ok (.iload_n 2, 1) := by decide +kernel
theorem dX5_step_13 : decode cX5_step 13 = .ok (.iconst 1, 1) := by decide +kernel
theorem dX5_step_14 : decode cX5_step 14 = .ok (.if_icmp .lt 14, 3) := by decide +kernel
theorem dX5_step_17 : decode cX5_step 17 = .ok (.iload_n 2, 1) := by decide +kernel
theorem dX5_step_18 : decode cX5_step 18 = .ok (.sipush 128, 3) := by decide +kernel
theorem dX5_step_21 : decode cX5_step 21 = .ok (.if_icmp .gt 7, 3) := by decide +kernel
theorem dX5_step_24 : decode cX5_step 24 = .ok (.iconst 1, 1) := by decide +kernel
theorem dX5_step_25 : decode cX5_step 25 = .ok (.goto 4, 3) := by decide +kernel
theorem dX5_step_28 : decode cX5_step 28 = .ok (.iconst 0, 1) := by decide +kernel
theorem dX5_step_29 : decode cX5_step 29 = .ok (.invokevirtual 154, 3) := by decide +kernel
theorem dX5_step_32 : decode cX5_step 32 = .ok (.ifCond .eq 4, 3) := by decide +kernel
theorem dX5_step_35 : decode cX5_step 35 = .ok (.return_, 1) := by decide +kernel
theorem dX5_step_36 : decode cX5_step 36 = .ok (.aload_n 0, 1) := by decide +kernel
theorem dX5_step_37 : decode cX5_step 37 = .ok (.getfield 119, 3) := by decide +kernel
theorem dX5_step_40 : decode cX5_step 40 = .ok (.ifCond .ne 9, 3) := by decide +kernel
theorem dX5_step_43 : decode cX5_step 43 = .ok (.aload_n 0, 1) := by decide +kernel
theorem dX5_step_44 : decode cX5_step 44 = .ok (.iconst 2, 1) := by decide +kernel
theorem dX5_step_45 : decode cX5_step 45 = .ok (.putfield 115, 3) := by decide +kernel
theorem dX5_step_48 : decode cX5_step 48 = .ok (.return_, 1) := by decide +kernel
theorem dX5_step_49 : decode cX5_step 49 = .ok (.iconst 0, 1) := by decide +kernel
theorem dX5_step_50 : decode cX5_step 50 = .ok (.istore_n 3, 1) := by decide +kernel
theorem dX5_step_51 : decode cX5_step 51 = .ok (.iload_n 3, 1) := by decide +kernel
theorem dX5_step_52 : decode cX5_step 52 = .ok (.iload_n 1, 1) := by decide +kernel
theorem dX5_step_53 : decode cX5_step 53 = .ok (.if_icmp .ge 125, 3) := by decide +kernel
theorem dX5_step_56 : decode cX5_step 56 = .ok (.aload_n 0, 1) := by decide +kernel
theorem dX5_step_57 : decode cX5_step 57 = .ok (.iload_n 2, 1) := by decide +kernel
theorem dX5_step_58 : decode cX5_step 58 = .ok (.i2d, 1) := by decide +kernel
theorem dX5_step_59 : decode cX5_step 59 = .ok (.ldc2_w 247, 3) := by decide +kernel
theorem dX5_step_62 : decode cX5_step 62 = .ok (.ddiv, 1) := by decide +kernel
theorem dX5_step_63 : decode cX5_step 63 = .ok (.invokevirtual 249, 3) := by decide +kernel
theorem dX5_step_66 : decode cX5_step 66 = .ok (.istore 4, 2) := by decide +kernel
theorem dX5_step_68 : decode cX5_step 68 = .ok (.iload 4, 2) := by decide +kernel
theorem dX5_step_70 : decode cX5_step 70 = .ok (.ifCond .le 61, 3) := by decide +kernel
theorem dX5_step_73 : decode cX5_step 73 = .ok (.aload_n 0, 1) := by decide +kernel
theorem dX5_step_74 : decode cX5_step 74 = .ok (.invokevirtual 253, 3) := by decide +kernel
theorem dX5_step_77 : decode cX5_step 77 = .ok (.iload 4, 2) := by decide +kernel
theorem dX5_step_79 : decode cX5_step 79 = .ok (.iconst 1, 1) := by decide +kernel
theorem dX5_step_80 : decode cX5_step 80 = .ok (.if_icmp .ne 16, 3) := by decide +kernel
theorem dX5_step_83 : decode cX5_step 83 = .ok (.aload_n 0, 1) := by decide +kernel
theorem dX5_step_84 : decode cX5_step 84 = .ok (.dup, 1) := by decide +kernel
theorem dX5_step_85 : decode cX5_step 85 = .ok (.getfield 256, 3) := by decide +kernel
theorem dX5_step_88 : decode cX5_step 88 = .ok (.iconst 1, 1) := by decide +kernel
theorem dX5_step_89 : decode cX5_step 89 = .ok (.iadd, 1) := by decide +kernel
theorem dX5_step_90 : decode cX5_step 90 = .ok (.putfield 256, 3) := by decide +kernel
theorem dX5_step_93 : decode cX5_step 93 = .ok (.goto 32, 3) := by decide +kernel
theorem dX5_step_96 : decode cX5_step 96 = .ok (.iload 4, 2) := by decide +kernel
theorem dX5_step_98 : decode cX5_step 98 = .ok (.iconst 2, 1) := by decide +kernel
theorem dX5_step_99 : decode cX5_step 99 = .ok (.if_icmp .ne 16, 3) := by decide +kernel
theorem dX5_step_102 : decode cX5_step 102 = .ok (.aload_n 0, 1) := by decide +kernel
theorem dX5_step_103 : decode cX5_step 103 = .ok (.dup, 1) := by decide +kernel
theorem dX5_step_104 : decode cX5_step 104 = .ok (.getfield 259, 3) := by decide +kernel
theorem dX5_step_107 : decode cX5_step 107 = .ok (.iconst 1, 1) := by decide +kernel
theorem dX5_step_108 : decode cX5_step 108 = .ok (.iadd, 1) := by decide +kernel
theorem dX5_step_109 : decode cX5_step 109 = .ok (.putfield 259, 3) := by decide +kernel
theorem dX5_step_112 : decode cX5_step 112 = .ok (.goto 13, 3) := by decide +kernel
theorem dX5_step_115 : decode cX5_step 115 = .ok (.aload_n 0, 1) := by decide +kernel
theorem dX5_step_116 : decode cX5_step 116 = .ok (.dup, 1) := by decide +kernel
theorem dX5_step_117 : decode cX5_step 117 = .ok (.getfield 262, 3) := by decide +kernel
theorem dX5_step_120 : decode cX5_step 120 = .ok (.iconst 1, 1) := by decide +kernel
theorem dX5_step_121 : decode cX5_step 121 = .ok (.iadd, 1) := by decide +kernel
theorem dX5_step_122 : decode cX5_step 122 = .ok (.putfield 262, 3) := by decide +kernel
theorem dX5_step_125 : decode cX5_step 125 = .ok (.aload_n 0, 1) := by decide +kernel
theorem dX5_step_126 : decode cX5_step 126 = .ok (.iconst 3, 1) := by decide +kernel
theorem dX5_step_127 : decode cX5_step 127 = .ok (.putfield 115, 3) := by decide +kernel
theorem dX5_step_130 : decode cX5_step 130 = .ok (.return_, 1) := by decide +kernel
theorem dX5_step_131 : decode cX5_step 131 = .ok (.aload_n 0, 1) := by decide +kernel
theorem dX5_step_132 : decode cX5_step 132 = .ok (.getfield 17, 3) := by decide +kernel
theorem dX5_step_135 : decode cX5_step 135 = .ok (.dconst 0, 1) := by decide +kernel
theorem dX5_step_136 : decode cX5_step 136 = .ok (.dcmp .l, 1) := by decide +kernel
theorem dX5_step_137 : decode cX5_step 137 = .ok (.ifCond .lt 12, 3) := by decide +kernel
theorem dX5_step_140 : decode cX5_step 140 = .ok (.aload_n 0, 1) := by decide +kernel
theorem dX5_step_141 : decode cX5_step 141 = .ok (.aload_n 0, 1) := by decide +kernel
theorem dX5_step_142 : decode cX5_step 142 = .ok (.getfield 17, 3) := by decide +kernel
theorem dX5_step_145 : decode cX5_step 145 = .ok (.invokevirtual 265, 3) := by decide +kernel
theorem dX5_step_148 : decode cX5_step 148 = .ok (.pop2, 1) := by decide +kernel
theorem dX5_step_149 : decode cX5_step 149 = .ok (.aload_n 0, 1) := by decide +kernel
theorem dX5_step_150 : decode cX5_step 150 = .ok (.dup, 1) := by decide +kernel
theorem dX5_step_151 : decode cX5_step 151 = .ok (.getfield 268, 3) := by decide +kernel
theorem dX5_step_154 : decode cX5_step 154 = .ok (.iconst 1, 1) := by decide +kernel
theorem dX5_step_155 : decode cX5_step 155 = .ok (.iadd, 1) := by decide +kernel
theorem dX5_step_156 : decode cX5_step 156 = .ok (.putfield 268, 3) := by decide +kernel
theorem dX5_step_159 : decode cX5_step 159 = .ok (.aload_n 0, 1) := by decide +kernel
theorem dX5_step_160 : decode cX5_step 160 = .ok (.dup, 1) := by decide +kernel
theorem dX5_step_161 : decode cX5_step 161 = .ok (.getfield 271, 3) := by decide +kernel
theorem dX5_step_164 : decode cX5_step 164 = .ok (.aload_n 0, 1) := by decide +kernel
theorem dX5_step_165 : decode cX5_step 165 = .ok (.getfield 227, 3) := by decide +kernel
theorem dX5_step_168 : decode cX5_step 168 = .ok (.iadd, 1) := by decide +kernel
theorem dX5_step_169 : decode cX5_step 169 = .ok (.putfield 271, 3) := by decide +kernel
theorem dX5_step_172 : decode cX5_step 172 = .ok (.iinc 3 1, 3) := by decide +kernel
theorem dX5_step_175 : decode cX5_step 175 = .ok (.goto (-124), 3) := by decide +kernel
theorem dX5_step_178 : decode cX5_step 178 = .ok (.return_, 1) := by decide +kernel
abbrev cX5_oneStep : ByteArray := prog_10_method_33_code
def yX5_oneStep : MethodName := ⟨RX5, "oneStep", "(D)I"⟩
theorem dX5_oneStep_0 : decode cX5_oneStep 0 = .ok (.iconst 0, 1) := by decide +kernel
theorem dX5_oneStep_1 : decode cX5_oneStep 1 = .ok (.istore_n 3, 1) := by decide +kernel
theorem dX5_oneStep_2 : decode cX5_oneStep 2 = .ok (.iload_n 3, 1) := by decide +kernel
theorem dX5_oneStep_3 : decode cX5_oneStep 3 = .ok (.aload_n 0, 1) := by decide +kernel
theorem dX5_oneStep_4 : decode cX5_oneStep 4 = .ok (.getfield 119, 3) := by decide +kernel
theorem dX5_oneStep_7 : decode cX5_oneStep 7 = .ok (.if_icmp .ge 57, 3) := by decide +kernel
theorem dX5_oneStep_10 : decode cX5_oneStep 10 = .ok (.aload_n 0, 1) := by decide +kernel
theorem dX5_oneStep_11 : decode cX5_oneStep 11 = .ok (.getfield 80, 3) := by decide +kernel
theorem dX5_oneStep_14 : decode cX5_oneStep 14 = .ok (.iload_n 3, 1) := by decide +kernel
theorem dX5_oneStep_15 : decode cX5_oneStep 15 = .ok (.aload_n 0, 1) := by decide +kernel
theorem dX5_oneStep_16 : decode cX5_oneStep 16 = .ok (.getfield 20, 3) := by decide +kernel
theorem dX5_oneStep_19 : decode cX5_oneStep 19 = .ok (.iload_n 3, 1) := by decide +kernel
theorem dX5_oneStep_20 : decode cX5_oneStep 20 = .ok (.daload, 1) := by decide +kernel
theorem dX5_oneStep_21 : decode cX5_oneStep 21 = .ok (.dastore, 1) := by decide +kernel
theorem dX5_oneStep_22 : decode cX5_oneStep 22 = .ok (.aload_n 0, 1) := by decide +kernel
theorem dX5_oneStep_23 : decode cX5_oneStep 23 = .ok (.getfield 83, 3) := by decide +kernel
theorem dX5_oneStep_26 : decode cX5_oneStep 26 = .ok (.iload_n 3, 1) := by decide +kernel
theorem dX5_oneStep_27 : decode cX5_oneStep 27 = .ok (.aload_n 0, 1) := by decide +kernel
theorem dX5_oneStep_28 : decode cX5_oneStep 28 = .ok (.getfield 24, 3) := by decide +kernel
theorem dX5_oneStep_31 : decode cX5_oneStep 31 = .ok (.iload_n 3, 1) := by decide +kernel
theorem dX5_oneStep_32 : decode cX5_oneStep 32 = .ok (.daload, 1) := by decide +kernel
theorem dX5_oneStep_33 : decode cX5_oneStep 33 = .ok (.dastore, 1) := by decide +kernel
theorem dX5_oneStep_34 : decode cX5_oneStep 34 = .ok (.aload_n 0, 1) := by decide +kernel
theorem dX5_oneStep_35 : decode cX5_oneStep 35 = .ok (.getfield 86, 3) := by decide +kernel
theorem dX5_oneStep_38 : decode cX5_oneStep 38 = .ok (.iload_n 3, 1) := by decide +kernel
theorem dX5_oneStep_39 : decode cX5_oneStep 39 = .ok (.aload_n 0, 1) := by decide +kernel
theorem dX5_oneStep_40 : decode cX5_oneStep 40 = .ok (.getfield 27, 3) := by decide +kernel
theorem dX5_oneStep_43 : decode cX5_oneStep 43 = .ok (.iload_n 3, 1) := by decide +kernel
theorem dX5_oneStep_44 : decode cX5_oneStep 44 = .ok (.daload, 1) := by decide +kernel
theorem dX5_oneStep_45 : decode cX5_oneStep 45 = .ok (.dastore, 1) := by decide +kernel
theorem dX5_oneStep_46 : decode cX5_oneStep 46 = .ok (.aload_n 0, 1) := by decide +kernel
theorem dX5_oneStep_47 : decode cX5_oneStep 47 = .ok (.getfield 89, 3) := by decide +kernel
theorem dX5_oneStep_50 : decode cX5_oneStep 50 = .ok (.iload_n 3, 1) := by decide +kernel
theorem dX5_oneStep_51 : decode cX5_oneStep 51 = .ok (.aload_n 0, 1) := by decide +kernel
theorem dX5_oneStep_52 : decode cX5_oneStep 52 = .ok (.getfield 30, 3) := by decide +kernel
theorem dX5_oneStep_55 : decode cX5_oneStep 55 = .ok (.iload_n 3, 1) := by decide +kernel
theorem dX5_oneStep_56 : decode cX5_oneStep 56 = .ok (.daload, 1) := by decide +kernel
theorem dX5_oneStep_57 : decode cX5_oneStep 57 = .ok (.dastore, 1) := by decide +kernel
theorem dX5_oneStep_58 : decode cX5_oneStep 58 = .ok (.iinc 3 1, 3) := by decide +kernel
theorem dX5_oneStep_61 : decode cX5_oneStep 61 = .ok (.goto (-59), 3) := by decide +kernel
theorem dX5_oneStep_64 : decode cX5_oneStep 64 = .ok (.aload_n 0, 1) := by decide +kernel
theorem dX5_oneStep_65 : decode cX5_oneStep 65 = .ok (.invokevirtual 234, 3) := by decide +kernel
theorem dX5_oneStep_68 : decode cX5_oneStep 68 = .ok (.ifCond .ne 5, 3) := by decide +kernel
theorem dX5_oneStep_71 : decode cX5_oneStep 71 = .ok (.iconst 1, 1) := by decide +kernel
theorem dX5_oneStep_72 : decode cX5_oneStep 72 = .ok (.ireturn, 1) := by decide +kernel
theorem dX5_oneStep_73 : decode cX5_oneStep 73 = .ok (.aload_n 0, 1) := by decide +kernel
theorem dX5_oneStep_74 : decode cX5_oneStep 74 = .ok (.dload_n 1, 1) := by decide +kernel
theorem dX5_oneStep_75 : decode cX5_oneStep 75 = .ok (.invokevirtual 237, 3) := by decide +kernel
theorem dX5_oneStep_78 : decode cX5_oneStep 78 = .ok (.aload_n 0, 1) := by decide +kernel
theorem dX5_oneStep_79 : decode cX5_oneStep 79 = .ok (.invokevirtual 241, 3) := by decide +kernel
theorem dX5_oneStep_82 : decode cX5_oneStep 82 = .ok (.ifCond .eq 5, 3) := by decide +kernel
theorem dX5_oneStep_85 : decode cX5_oneStep 85 = .ok (.iconst 3, 1) := by decide +kernel
theorem dX5_oneStep_86 : decode cX5_oneStep 86 = .ok (.ireturn, 1) := by decide +kernel
theorem dX5_oneStep_87 : decode cX5_oneStep 87 = .ok (.iconst 0, 1) := by decide +kernel
theorem dX5_oneStep_88 : decode cX5_oneStep 88 = .ok (.istore_n 3, 1) := by decide +kernel
theorem dX5_oneStep_89 : decode cX5_oneStep 89 = .ok (.iload_n 3, 1) := by decide +kernel
theorem dX5_oneStep_90 : decode cX5_oneStep 90 = .ok (.aload_n 0, 1) := by decide +kernel
theorem dX5_oneStep_91 : decode cX5_oneStep 91 = .ok (.getfield 119, 3) := by decide +kernel
theorem dX5_oneStep_94 : decode cX5_oneStep 94 = .ok (.if_icmp .ge 87, 3) := by decide +kernel
theorem dX5_oneStep_97 : decode cX5_oneStep 97 = .ok (.aload_n 0, 1) := by decide +kernel
theorem dX5_oneStep_98 : decode cX5_oneStep 98 = .ok (.getfield 92, 3) := by decide +kernel
theorem dX5_oneStep_101 : decode cX5_oneStep 101 = .ok (.iload_n 3, 1) := by decide +kernel
theorem dX5_oneStep_102 : decode cX5_oneStep 102 = .ok (.aload_n 0, 1) := by decide +kernel
theorem dX5_oneStep_103 : decode cX5_oneStep 103 = .ok (.getfield 40, 3) := by decide +kernel
theorem dX5_oneStep_106 : decode cX5_oneStep 106 = .ok (.iload_n 3, 1) := by decide +kernel
theorem dX5_oneStep_107 : decode cX5_oneStep 107 = .ok (.baload, 1) := by decide +kernel
theorem dX5_oneStep_108 : decode cX5_oneStep 108 = .ok (.ifCond .eq 12, 3) := by decide +kernel
theorem dX5_oneStep_111 : decode cX5_oneStep 111 = .ok (.aload_n 0, 1) := by decide +kernel
theorem dX5_oneStep_112 : decode cX5_oneStep 112 = .ok (.getfield 20, 3) := by decide +kernel
theorem dX5_oneStep_115 : decode cX5_oneStep 115 = .ok (.iload_n 3, 1) := by decide +kernel
theorem dX5_oneStep_116 : decode cX5_oneStep 116 = .ok (.daload, 1) := by decide +kernel
theorem dX5_oneStep_117 : decode cX5_oneStep 117 = .ok (.goto 18, 3) := by decide +kernel
theorem dX5_oneStep_120 : decode cX5_oneStep 120 = .ok (.aload_n 0, 1) := by decide +kernel
theorem dX5_oneStep_121 : decode cX5_oneStep 121 = .ok (.getfield 20, 3) := by decide +kernel
theorem dX5_oneStep_124 : decode cX5_oneStep 124 = .ok (.iload_n 3, 1) := by decide +kernel
theorem dX5_oneStep_125 : decode cX5_oneStep 125 = .ok (.daload, 1) := by decide +kernel
theorem dX5_oneStep_126 : decode cX5_oneStep 126 = .ok (.dload_n 1, 1) := by decide +kernel
theorem dX5_oneStep_127 : decode cX5_oneStep 127 = .ok (.aload_n 0, 1) := by decide +kernel
theorem dX5_oneStep_128 : decode cX5_oneStep 128 = .ok (.getfield 27, 3) := by decide +kernel
theorem dX5_oneStep_131 : decode cX5_oneStep 131 = .ok (.iload_n 3, 1) := by decide +kernel
theorem dX5_oneStep_132 : decode cX5_oneStep 132 = .ok (.daload, 1) := by decide +kernel
theorem dX5_oneStep_133 : decode cX5_oneStep 133 = .ok (.dmul, 1) := by decide +kernel
theorem dX5_oneStep_134 : decode cX5_oneStep 134 = .ok (.dadd, 1) := by decide +kernel
theorem dX5_oneStep_135 : decode cX5_oneStep 135 = .ok (.dastore, 1) := by decide +kernel
theorem dX5_oneStep_136 : decode cX5_oneStep 136 = .ok (.aload_n 0, 1) := by decide +kernel
theorem dX5_oneStep_137 : decode cX5_oneStep 137 = .ok (.getfield 95, 3) := by decide +kernel
theorem dX5_oneStep_140 : decode cX5_oneStep 140 = .ok (.iload_n 3, 1) := by decide +kernel
theorem dX5_oneStep_141 : decode cX5_oneStep 141 = .ok (.aload_n 0, 1) := by decide +kernel
theorem dX5_oneStep_142 : decode cX5_oneStep 142 = .ok (.getfield 40, 3) := by decide +kernel
theorem dX5_oneStep_145 : decode cX5_oneStep 145 = .ok (.iload_n 3, 1) := by decide +kernel
theorem dX5_oneStep_146 : decode cX5_oneStep 146 = .ok (.baload, 1) := by decide +kernel
theorem dX5_oneStep_147 : decode cX5_oneStep 147 = .ok (.ifCond .eq 12, 3) := by decide +kernel
theorem dX5_oneStep_150 : decode cX5_oneStep 150 = .ok (.aload_n 0, 1) := by decide +kernel
theorem dX5_oneStep_151 : decode cX5_oneStep 151 = .ok (.getfield 24, 3) := by decide +kernel
theorem dX5_oneStep_154 : decode cX5_oneStep 154 = .ok (.iload_n 3, 1) := by decide +kernel
theorem dX5_oneStep_155 : decode cX5_oneStep 155 = .ok (.daload, 1) := by decide +kernel
theorem dX5_oneStep_156 : decode cX5_oneStep 156 = .ok (.goto 18, 3) := by decide +kernel
theorem dX5_oneStep_159 : decode cX5_oneStep 159 = .ok (.aload_n 0, 1) := by decide +kernel
theorem dX5_oneStep_160 : decode cX5_oneStep 160 = .ok (.getfield 24, 3) := by decide +kernel
theorem dX5_oneStep_163 : decode cX5_oneStep 163 = .ok (.iload_n 3, 1) := by decide +kernel
theorem dX5_oneStep_164 : decode cX5_oneStep 164 = .ok (.daload, 1) := by decide +kernel
theorem dX5_oneStep_165 : decode cX5_oneStep 165 = .ok (.dload_n 1, 1) := by decide +kernel
theorem dX5_oneStep_166 : decode cX5_oneStep 166 = .ok (.aload_n 0, 1) := by decide +kernel
theorem dX5_oneStep_167 : decode cX5_oneStep 167 = .ok (.getfield 30, 3) := by decide +kernel
theorem dX5_oneStep_170 : decode cX5_oneStep 170 = .ok (.iload_n 3, 1) := by decide +kernel
theorem dX5_oneStep_171 : decode cX5_oneStep 171 = .ok (.daload, 1) := by decide +kernel
theorem dX5_oneStep_172 : decode cX5_oneStep 172 = .ok (.dmul, 1) := by decide +kernel
theorem dX5_oneStep_173 : decode cX5_oneStep 173 = .ok (.dadd, 1) := by decide +kernel
theorem dX5_oneStep_174 : decode cX5_oneStep 174 = .ok (.dastore, 1) := by decide +kernel
theorem dX5_oneStep_175 : decode cX5_oneStep 175 = .ok (.iinc 3 1, 3) := by decide +kernel
theorem dX5_oneStep_178 : decode cX5_oneStep 178 = .ok (.goto (-89), 3) := by decide +kernel
theorem dX5_oneStep_181 : decode cX5_oneStep 181 = .ok (.aload_n 0, 1) := by decide +kernel
theorem dX5_oneStep_182 : decode cX5_oneStep 182 = .ok (.invokevirtual 244, 3) := by decide +kernel
theorem dX5_oneStep_185 : decode cX5_oneStep 185 = .ok (.ifCond .ne 5, 3) := by decide +kernel
theorem dX5_oneStep_188 : decode cX5_oneStep 188 = .ok (.iconst 2, 1) := by decide +kernel
theorem dX5_oneStep_189 : decode cX5_oneStep 189 = .ok (.ireturn, 1) := by decide +kernel
theorem dX5_oneStep_190 : decode cX5_oneStep 190 = .ok (.iconst 0, 1) := by decide +kernel
theorem dX5_oneStep_191 : decode cX5_oneStep 191 = .ok (.istore_n 3, 1) := by decide +kernel
theorem dX5_oneStep_192 : decode cX5_oneStep 192 = .ok (.iload_n 3, 1) := by decide +kernel
theorem dX5_oneStep_193 : decode cX5_oneStep 193 = .ok (.aload_n 0, 1) := by decide +kernel
theorem dX5_oneStep_194 : decode cX5_oneStep 194 = .ok (.getfield 119, 3) := by decide +kernel
theorem dX5_oneStep_197 : decode cX5_oneStep 197 = .ok (.if_icmp .ge 70, 3) := by decide +kernel
theorem dX5_oneStep_200 : decode cX5_oneStep 200 = .ok (.aload_n 0, 1) := by decide +kernel
theorem dX5_oneStep_201 : decode cX5_oneStep 201 = .ok (.getfield 178, 3) := by decide +kernel
theorem dX5_oneStep_204 : decode cX5_oneStep 204 = .ok (.ifCond .le 63, 3) := by decide +kernel
theorem dX5_oneStep_207 : decode cX5_oneStep 207 = .ok (.aload_n 0, 1) := by decide +kernel
theorem dX5_oneStep_208 : decode cX5_oneStep 208 = .ok (.getfield 40, 3) := by decide +kernel
theorem dX5_oneStep_211 : decode cX5_oneStep 211 = .ok (.iload_n 3, 1) := by decide +kernel
theorem dX5_oneStep_212 : decode cX5_oneStep 212 = .ok (.baload, 1) := by decide +kernel
theorem dX5_oneStep_213 : decode cX5_oneStep 213 = .ok (.ifCond .eq 6, 3) := by decide +kernel
theorem dX5_oneStep_216 : decode cX5_oneStep 216 = .ok (.goto 45, 3) := by decide +kernel
theorem dX5_oneStep_219 : decode cX5_oneStep 219 = .ok (.aload_n 0, 1) := by decide +kernel
theorem dX5_oneStep_220 : decode cX5_oneStep 220 = .ok (.getfield 27, 3) := by decide +kernel
theorem dX5_oneStep_223 : decode cX5_oneStep 223 = .ok (.iload_n 3, 1) := by decide +kernel
theorem dX5_oneStep_224 : decode cX5_oneStep 224 = .ok (.aload_n 0, 1) := by decide +kernel
theorem dX5_oneStep_225 : decode cX5_oneStep 225 = .ok (.getfield 92, 3) := by decide +kernel
theorem dX5_oneStep_228 : decode cX5_oneStep 228 = .ok (.iload_n 3, 1) := by decide +kernel
theorem dX5_oneStep_229 : decode cX5_oneStep 229 = .ok (.daload, 1) := by decide +kernel
theorem dX5_oneStep_230 : decode cX5_oneStep 230 = .ok (.aload_n 0, 1) := by decide +kernel
theorem dX5_oneStep_231 : decode cX5_oneStep 231 = .ok (.getfield 20, 3) := by decide +kernel
theorem dX5_oneStep_234 : decode cX5_oneStep 234 = .ok (.iload_n 3, 1) := by decide +kernel
theorem dX5_oneStep_235 : decode cX5_oneStep 235 = .ok (.daload, 1) := by decide +kernel
theorem dX5_oneStep_236 : decode cX5_oneStep 236 = .ok (.dsub, 1) := by decide +kernel
theorem dX5_oneStep_237 : decode cX5_oneStep 237 = .ok (.dload_n 1, 1) := by decide +kernel
theorem dX5_oneStep_238 : decode cX5_oneStep 238 = .ok (.ddiv, 1) := by decide +kernel
theorem dX5_oneStep_239 : decode cX5_oneStep 239 = .ok (.dastore, 1) := by decide +kernel
theorem dX5_oneStep_240 : decode cX5_oneStep 240 = .ok (.aload_n 0, 1) := by decide +kernel
theorem dX5_oneStep_241 : decode cX5_oneStep 241 = .ok (.getfield 30, 3) := by decide +kernel
theorem dX5_oneStep_244 : decode cX5_oneStep 244 = .ok (.iload_n 3, 1) := by decide +kernel
theorem dX5_oneStep_245 : decode cX5_oneStep 245 = .ok (.aload_n 0, 1) := by decide +kernel
theorem dX5_oneStep_246 : decode cX5_oneStep 246 = .ok (.getfield 95, 3) := by decide +kernel
theorem dX5_oneStep_249 : decode cX5_oneStep 249 = .ok (.iload_n 3, 1) := by decide +kernel
theorem dX5_oneStep_250 : decode cX5_oneStep 250 = .ok (.daload, 1) := by decide +kernel
theorem dX5_oneStep_251 : decode cX5_oneStep 251 = .ok (.aload_n 0, 1) := by decide +kernel
theorem dX5_oneStep_252 : decode cX5_oneStep 252 = .ok (.getfield 24, 3) := by decide +kernel
theorem dX5_oneStep_255 : decode cX5_oneStep 255 = .ok (.iload_n 3, 1) := by decide +kernel
theorem dX5_oneStep_256 : decode cX5_oneStep 256 = .ok (.daload, 1) := by decide +kernel
theorem dX5_oneStep_257 : decode cX5_oneStep 257 = .ok (.dsub, 1) := by decide +kernel
theorem dX5_oneStep_258 : decode cX5_oneStep 258 = .ok (.dload_n 1, 1) := by decide +kernel
theorem dX5_oneStep_259 : decode cX5_oneStep 259 = .ok (.ddiv, 1) := by decide +kernel
theorem dX5_oneStep_260 : decode cX5_oneStep 260 = .ok (.dastore, 1) := by decide +kernel
theorem dX5_oneStep_261 : decode cX5_oneStep 261 = .ok (.iinc 3 1, 3) := by decide +kernel
theorem dX5_oneStep_264 : decode cX5_oneStep 264 = .ok (.goto (-72), 3) := by decide +kernel
theorem dX5_oneStep_267 : decode cX5_oneStep 267 = .ok (.aload_n 0, 1) := by decide +kernel
theorem dX5_oneStep_268 : decode cX5_oneStep 268 = .ok (.invokevirtual 241, 3) := by decide +kernel
theorem dX5_oneStep_271 : decode cX5_oneStep 271 = .ok (.ifCond .eq 5, 3) := by decide +kernel
theorem dX5_oneStep_274 : decode cX5_oneStep 274 = .ok (.iconst 3, 1) := by decide +kernel
theorem dX5_oneStep_275 : decode cX5_oneStep 275 = .ok (.ireturn, 1) := by decide +kernel
theorem dX5_oneStep_276 : decode cX5_oneStep 276 = .ok (.iconst 0, 1) := by decide +kernel
theorem dX5_oneStep_277 : decode cX5_oneStep 277 = .ok (.istore_n 3, 1) := by decide +kernel
theorem dX5_oneStep_278 : decode cX5_oneStep 278 = .ok (.iload_n 3, 1) := by decide +kernel
theorem dX5_oneStep_279 : decode cX5_oneStep 279 = .ok (.aload_n 0, 1) := by decide +kernel
theorem dX5_oneStep_280 : decode cX5_oneStep 280 = .ok (.getfield 119, 3) := by decide +kernel
theorem dX5_oneStep_283 : decode cX5_oneStep 283 = .ok (.if_icmp .ge 41, 3) := by decide +kernel
theorem dX5_oneStep_286 : decode cX5_oneStep 286 = .ok (.aload_n 0, 1) := by decide +kernel
theorem dX5_oneStep_287 : decode cX5_oneStep 287 = .ok (.getfield 20, 3) := by decide +kernel
theorem dX5_oneStep_290 : decode cX5_oneStep 290 = .ok (.iload_n 3, 1) := by decide +kernel
theorem dX5_oneStep_291 : decode cX5_oneStep 291 = .ok (.aload_n 0, 1) := by decide +kernel
theorem dX5_oneStep_292 : decode cX5_oneStep 292 = .ok (.aload_n 0, 1) := by decide +kernel
theorem dX5_oneStep_293 : decode cX5_oneStep 293 = .ok (.getfield 92, 3) := by decide +kernel
theorem dX5_oneStep_296 : decode cX5_oneStep 296 = .ok (.iload_n 3, 1) := by decide +kernel
theorem dX5_oneStep_297 : decode cX5_oneStep 297 = .ok (.daload, 1) := by decide +kernel
theorem dX5_oneStep_298 : decode cX5_oneStep 298 = .ok (.invokevirtual 158, 3) := by decide +kernel
theorem dX5_oneStep_301 : decode cX5_oneStep 301 = .ok (.dastore, 1) := by decide +kernel
theorem dX5_oneStep_302 : decode cX5_oneStep 302 = .ok (.aload_n 0, 1) := by decide +kernel
theorem dX5_oneStep_303 : decode cX5_oneStep 303 = .ok (.getfield 24, 3) := by decide +kernel
theorem dX5_oneStep_306 : decode cX5_oneStep 306 = .ok (.iload_n 3, 1) := by decide +kernel
theorem dX5_oneStep_307 : decode cX5_oneStep 307 = .ok (.aload_n 0, 1) := by decide +kernel
theorem dX5_oneStep_308 : decode cX5_oneStep 308 = .ok (.aload_n 0, 1) := by decide +kernel
theorem dX5_oneStep_309 : decode cX5_oneStep 309 = .ok (.getfield 95, 3) := by decide +kernel
theorem dX5_oneStep_312 : decode cX5_oneStep 312 = .ok (.iload_n 3, 1) := by decide +kernel
theorem dX5_oneStep_313 : decode cX5_oneStep 313 = .ok (.daload, 1) := by decide +kernel
theorem dX5_oneStep_314 : decode cX5_oneStep 314 = .ok (.invokevirtual 158, 3) := by decide +kernel
theorem dX5_oneStep_317 : decode cX5_oneStep 317 = .ok (.dastore, 1) := by decide +kernel
theorem dX5_oneStep_318 : decode cX5_oneStep 318 = .ok (.iinc 3 1, 3) := by decide +kernel
theorem dX5_oneStep_321 : decode cX5_oneStep 321 = .ok (.goto (-43), 3) := by decide +kernel
theorem dX5_oneStep_324 : decode cX5_oneStep 324 = .ok (.aload_n 0, 1) := by decide +kernel
theorem dX5_oneStep_325 : decode cX5_oneStep 325 = .ok (.invokevirtual 234, 3) := by decide +kernel
theorem dX5_oneStep_328 : decode cX5_oneStep 328 = .ok (.ifCond .ne 5, 3) := by decide +kernel
theorem dX5_oneStep_331 : decode cX5_oneStep 331 = .ok (.iconst 1, 1) := by decide +kernel
theorem dX5_oneStep_332 : decode cX5_oneStep 332 = .ok (.ireturn, 1) := by decide +kernel
theorem dX5_oneStep_333 : decode cX5_oneStep 333 = .ok (.aload_n 0, 1) := by decide +kernel
theorem dX5_oneStep_334 : decode cX5_oneStep 334 = .ok (.dload_n 1, 1) := by decide +kernel
theorem dX5_oneStep_335 : decode cX5_oneStep 335 = .ok (.invokevirtual 237, 3) := by decide +kernel
theorem dX5_oneStep_338 : decode cX5_oneStep 338 = .ok (.aload_n 0, 1) := by decide +kernel
theorem dX5_oneStep_339 : decode cX5_oneStep 339 = .ok (.invokevirtual 241, 3) := by decide +kernel
theorem dX5_oneStep_342 : decode cX5_oneStep 342 = .ok (.ifCond .eq 7, 3) := by decide +kernel
theorem dX5_oneStep_345 : decode cX5_oneStep 345 = .ok (.iconst 3, 1) := by decide +kernel
theorem dX5_oneStep_346 : decode cX5_oneStep 346 = .ok (.goto 4, 3) := by decide +kernel
theorem dX5_oneStep_349 : decode cX5_oneStep 349 = .ok (.iconst 0, 1) := by decide +kernel
theorem dX5_oneStep_350 : decode cX5_oneStep 350 = .ok (.ireturn, 1) := by decide +kernel
