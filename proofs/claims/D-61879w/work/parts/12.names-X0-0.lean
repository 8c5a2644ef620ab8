/-! ParticleBoxLaw -/
set_option maxRecDepth 100000
def RX0 : String := "ParticleBoxLaw"
abbrev cX0_cell : ByteArray := method_2_code
def yX0_cell : MethodName := ⟨RX0, "cell", "([II)I"⟩
theorem dX0_cell_0 : decode cX0_cell 0 = .ok (.iload_n 1, 1) := by decide +kernel
theorem dX0_cell_1 : decode cX0_cell 1 = .ok (.aload_n 0, 1) := by decide +kernel
theorem dX0_cell_2 : decode cX0_cell 2 = .ok (.arraylength, 1) := by decide +kernel
theorem dX0_cell_3 : decode cX0_cell 3 = .ok (.if_icmp .ge 9, 3) := by decide +kernel
theorem dX0_cell_6 : decode cX0_cell 6 = .ok (.aload_n 0, 1) := by decide +kernel
theorem dX0_cell_7 : decode cX0_cell 7 = .ok (.iload_n 1, 1) := by decide +kernel
theorem dX0_cell_8 : decode cX0_cell 8 = .ok (.iaload, 1) := by decide +kernel
theorem dX0_cell_9 : decode cX0_cell 9 = .ok (.goto 4, 3) := by decide +kernel
theorem dX0_cell_12 : decode cX0_cell 12 = .ok (.iconst 0, 1) := by decide +kernel
theorem dX0_cell_13 : decode cX0_cell 13 = .ok (.ireturn, 1) := by decide +kernel
abbrev cX0_atom : ByteArray := method_3_code
def yX0_atom : MethodName := ⟨RX0, "atom", "(LParticleBox;DDDI[J)I"⟩
theorem dX0_atom_0 : decode cX0_atom 0 = .ok (.aload 8, 2) := by decide +kernel
theorem dX0_atom_2 : decode cX0_atom 2 = .ok (.iconst 0, 1) := by decide +kernel
theorem dX0_atom_3 : decode cX0_atom 3 = .ok (.aload_n 0, 1) := by decide +kernel
theorem dX0_atom_4 : decode cX0_atom 4 = .ok (.dload_n 1, 1) := by decide +kernel
theorem dX0_atom_5 : decode cX0_atom 5 = .ok (.dload_n 3, 1) := by decide +kernel
theorem dX0_atom_6 : decode cX0_atom 6 = .ok (.dload 5, 2) := by decide +kernel
theorem dX0_atom_8 : decode cX0_atom 8 = .ok (.iload 7, 2) := by decide +kernel
theorem dX0_atom_10 : decode cX0_atom 10 = .ok (.invokevirtual 7, 3) := by decide +kernel
theorem dX0_atom_13 : decode cX0_atom 13 = .ok (.i2l, 1) := by decide +kernel
theorem dX0_atom_14 : decode cX0_atom 14 = .ok (.lastore, 1) := by decide +kernel
theorem dX0_atom_15 : decode cX0_atom 15 = .ok (.goto 11, 3) := by decide +kernel
theorem dX0_atom_18 : decode cX0_atom 18 = .ok (.astore 9, 2) := by decide +kernel
theorem dX0_atom_20 : decode cX0_atom 20 = .ok (.iconst 1, 1) := by decide +kernel
theorem dX0_atom_21 : decode cX0_atom 21 = .ok (.ireturn, 1) := by decide +kernel
theorem dX0_atom_22 : decode cX0_atom 22 = .ok (.astore 9, 2) := by decide +kernel
theorem dX0_atom_24 : decode cX0_atom 24 = .ok (.iconst 2, 1) := by decide +kernel
theorem dX0_atom_25 : decode cX0_atom 25 = .ok (.ireturn, 1) := by decide +kernel
theorem dX0_atom_26 : decode cX0_atom 26 = .ok (.iconst 0, 1) := by decide +kernel
theorem dX0_atom_27 : decode cX0_atom 27 = .ok (.ireturn, 1) := by decide +kernel
abbrev cX0_place : ByteArray := method_4_code
def yX0_place : MethodName := ⟨RX0, "place", "(LParticleBox;IDD)I"⟩
theorem dX0_place_0 : decode cX0_place 0 = .ok (.aload_n 0, 1) := by decide +kernel
theorem dX0_place_1 : decode cX0_place 1 = .ok (.iload_n 1, 1) := by decide +kernel
theorem dX0_place_2 : decode cX0_place 2 = .ok (.dload_n 2, 1) := by decide +kernel
theorem dX0_place_3 : decode cX0_place 3 = .ok (.dload 4, 2) := by decide +kernel
theorem dX0_place_5 : decode cX0_place 5 = .ok (.invokevirtual 17, 3) := by decide +kernel
theorem dX0_place_8 : decode cX0_place 8 = .ok (.goto 7, 3) := by decide +kernel
theorem dX0_place_11 : decode cX0_place 11 = .ok (.astore 6, 2) := by decide +kernel
theorem dX0_place_13 : decode cX0_place 13 = .ok (.iconst 1, 1) := by decide +kernel
theorem dX0_place_14 : decode cX0_place 14 = .ok (.ireturn, 1) := by decide +kernel
theorem dX0_place_15 : decode cX0_place 15 = .ok (.iconst 0, 1) := by decide +kernel
theorem dX0_place_16 : decode cX0_place 16 = .ok (.ireturn, 1) := by decide +kernel
abbrev cX0_speed : ByteArray := method_5_code
def yX0_speed : MethodName := ⟨RX0, "speed", "(LParticleBox;IDD)I"⟩
theorem dX0_speed_0 : decode cX0_speed 0 = .ok (.aload_n 0, 1) := by decide +kernel
theorem dX0_speed_1 : decode cX0_speed 1 = .ok (.iload_n 1, 1) := by decide +kernel
theorem dX0_speed_2 : decode cX0_speed 2 = .ok (.dload_n 2, 1) := by decide +kernel
theorem dX0_speed_3 : decode cX0_speed 3 = .ok (.dload 4, 2) := by decide +kernel
theorem dX0_speed_5 : decode cX0_speed 5 = .ok (.invokevirtual 21, 3) := by decide +kernel
theorem dX0_speed_8 : decode cX0_speed 8 = .ok (.goto 7, 3) := by decide +kernel
theorem dX0_speed_11 : decode cX0_speed 11 = .ok (.astore 6, 2) := by decide +kernel
theorem dX0_speed_13 : decode cX0_speed 13 = .ok (.iconst 1, 1) := by decide +kernel
theorem dX0_speed_14 : decode cX0_speed 14 = .ok (.ireturn, 1) := by decide +kernel
theorem dX0_speed_15 : decode cX0_speed 15 = .ok (.iconst 0, 1) := by decide +kernel
theorem dX0_speed_16 : decode cX0_speed 16 = .ok (.ireturn, 1) := by decide +kernel
abbrev cX0_sort : ByteArray := method_6_code
def yX0_sort : MethodName := ⟨RX0, "sort", "(LParticleBox;IDDD)I"⟩
theorem dX0_sort_0 : decode cX0_sort 0 = .ok (.aload_n 0, 1) := by decide +kernel
theorem dX0_sort_1 : decode cX0_sort 1 = .ok (.iload_n 1, 1) := by decide +kernel
theorem dX0_sort_2 : decode cX0_sort 2 = .ok (.dload_n 2, 1) := by decide +kernel
theorem dX0_sort_3 : decode cX0_sort 3 = .ok (.dload 4, 2) := by decide +kernel
theorem dX0_sort_5 : decode cX0_sort 5 = .ok (.dload 6, 2) := by decide +kernel
theorem dX0_sort_7 : decode cX0_sort 7 = .ok (.invokevirtual 24, 3) := by decide +kernel
theorem dX0_sort_10 : decode cX0_sort 10 = .ok (.goto 7, 3) := by decide +kernel
theorem dX0_sort_13 : decode cX0_sort 13 = .ok (.astore 8, 2) := by decide +kernel
theorem dX0_sort_15 : decode cX0_sort 15 = .ok (.iconst 1, 1) := by decide +kernel
theorem dX0_sort_16 : decode cX0_sort 16 = .ok (.ireturn, 1) := by decide +kernel
theorem dX0_sort_17 : decode cX0_sort 17 = .ok (.iconst 0, 1) := by decide +kernel
theorem dX0_sort_18 : decode cX0_sort 18 = .ok (.ireturn, 1) := by decide +kernel
abbrev cX0_cut : ByteArray := method_7_code
def yX0_cut : MethodName := ⟨RX0, "cut", "(LParticleBox;DD)I"⟩
theorem dX0_cut_0 : decode cX0_cut 0 = .ok (.aload_n 0, 1) := by decide +kernel
theorem dX0_cut_1 : decode cX0_cut 1 = .ok (.dload_n 1, 1) := by decide +kernel
theorem dX0_cut_2 : decode cX0_cut 2 = .ok (.dload_n 3, 1) := by decide +kernel
theorem dX0_cut_3 : decode cX0_cut 3 = .ok (.invokevirtual 28, 3) := by decide +kernel
theorem dX0_cut_6 : decode cX0_cut 6 = .ok (.goto 7, 3) := by decide +kernel
theorem dX0_cut_9 : decode cX0_cut 9 = .ok (.astore 5, 2) := by decide +kernel
theorem dX0_cut_11 : decode cX0_cut 11 = .ok (.iconst 1, 1) := by decide +kernel
theorem dX0_cut_12 : decode cX0_cut 12 = .ok (.ireturn, 1) := by decide +kernel
theorem dX0_cut_13 : decode cX0_cut 13 = .ok (.iconst 0, 1) := by decide +kernel
theorem dX0_cut_14 : decode cX0_cut 14 = .ok (.ireturn, 1) := by decide +kernel
abbrev cX0_bond : ByteArray := method_8_code
def yX0_bond : MethodName := ⟨RX0, "bond", "(LParticleBox;IIDD[J)I"⟩
theorem dX0_bond_0 : decode cX0_bond 0 = .ok (.aload 7, 2) := by decide +kernel
theorem dX0_bond_2 : decode cX0_bond 2 = .ok (.iconst 0, 1) := by decide +kernel
theorem dX0_bond_3 : decode cX0_bond 3 = .ok (.aload_n 0, 1) := by decide +kernel
theorem dX0_bond_4 : decode cX0_bond 4 = .ok (.iload_n 1, 1) := by decide +kernel
theorem dX0_bond_5 : decode cX0_bond 5 = .ok (.iload_n 2, 1) := by decide +kernel
theorem dX0_bond_6 : decode cX0_bond 6 = .ok (.dload_n 3, 1) := by decide +kernel
theorem dX0_bond_7 : decode cX0_bond 7 = .ok (.dload 5, 2) := by decide +kernel
theorem dX0_bond_9 : decode cX0_bond 9 = .ok (.invokevirtual 32, 3) := by decide +kernel
theorem dX0_bond_12 : decode cX0_bond 12 = .ok (.i2l, 1) := by decide +kernel
theorem dX0_bond_13 : decode cX0_bond 13 = .ok (.lastore, 1) := by decide +kernel
theorem dX0_bond_14 : decode cX0_bond 14 = .ok (.goto 11, 3) := by decide +kernel
theorem dX0_bond_17 : decode cX0_bond 17 = .ok (.astore 8, 2) := by decide +kernel
theorem dX0_bond_19 : decode cX0_bond 19 = .ok (.iconst 1, 1) := by decide +kernel
theorem dX0_bond_20 : decode cX0_bond 20 = .ok (.ireturn, 1) := by decide +kernel
theorem dX0_bond_21 : decode cX0_bond 21 = .ok (.astore 8, 2) := by decide +kernel
theorem dX0_bond_23 : decode cX0_bond 23 = .ok (.iconst 2, 1) := by decide +kernel
theorem dX0_bond_24 : decode cX0_bond 24 = .ok (.ireturn, 1) := by decide +kernel
theorem dX0_bond_25 : decode cX0_bond 25 = .ok (.iconst 0, 1) := by decide +kernel
theorem dX0_bond_26 : decode cX0_bond 26 = .ok (.ireturn, 1) := by decide +kernel
abbrev cX0_rod : ByteArray := method_9_code
def yX0_rod : MethodName := ⟨RX0, "rod", "(LParticleBox;IID[J)I"⟩
theorem dX0_rod_0 : decode cX0_rod 0 = .ok (.aload 5, 2) := by decide +kernel
theorem dX0_rod_2 : decode cX0_rod 2 = .ok (.iconst 0, 1) := by decide +kernel
theorem dX0_rod_3 : decode cX0_rod 3 = .ok (.aload_n 0, 1) := by decide +kernel
theorem dX0_rod_4 : decode cX0_rod 4 = .ok (.iload_n 1, 1) := by decide +kernel
theorem dX0_rod_5 : decode cX0_rod 5 = .ok (.iload_n 2, 1) := by decide +kernel
theorem dX0_rod_6 : decode cX0_rod 6 = .ok (.dload_n 3, 1) := by decide +kernel
theorem dX0_rod_7 : decode cX0_rod 7 = .ok (.invokevirtual 36, 3) := by decide +kernel
theorem dX0_rod_10 : decode cX0_rod 10 = .ok (.i2l, 1) := by decide +kernel
theorem dX0_rod_11 : decode cX0_rod 11 = .ok (.lastore, 1) := by decide +kernel
theorem dX0_rod_12 : decode cX0_rod 12 = .ok (.goto 11, 3) := by decide +kernel
theorem dX0_rod_15 : decode cX0_rod 15 = .ok (.astore 6, 2) := by decide +kernel
theorem dX0_rod_17 : decode cX0_rod 17 = .ok (.iconst 1, 1) := by decide +kernel
theorem dX0_rod_18 : decode cX0_rod 18 = .ok (.ireturn, 1) := by decide +kernel
theorem dX0_rod_19 : decode cX0_rod 19 = .ok (.astore 6, 2) := by decide +kernel
theorem dX0_rod_21 : decode cX0_rod 21 = .ok (.iconst 2, 1) := by decide +kernel
theorem dX0_rod_22 : decode cX0_rod 22 = .ok (.ireturn, 1) := by decide +kernel
theorem dX0_rod_23 : decode cX0_rod 23 = .ok (.iconst 0, 1) := by decide +kernel
theorem dX0_rod_24 : decode cX0_rod 24 = .ok (.ireturn, 1) := by decide +kernel
abbrev cX0_stuck : ByteArray := method_10_code
def yX0_stuck : MethodName := ⟨RX0, "stuck", "(LParticleBox;IZ)I"⟩
theorem dX0_stuck_0 : decode cX0_stuck 0 = .ok (.aload_n 0, 1) := by decide +kernel
theorem dX0_stuck_1 : decode cX0_stuck 1 = .ok (.iload_n 1, 1) := by decide +kernel
theorem dX0_stuck_2 : decode cX0_stuck 2 = .ok (.iload_n 2, 1) := by decide +kernel
theorem dX0_stuck_3 : decode cX0_stuck 3 = .ok (.invokevirtual 40, 3) := by decide +kernel
theorem dX0_stuck_6 : decode cX0_stuck 6 = .ok (.goto 6, 3) := by decide +kernel
theorem dX0_stuck_9 : decode cX0_stuck 9 = .ok (.astore_n 3, 1) := by decide +kernel
theorem dX0_stuck_10 : decode cX0_stuck 10 = .ok (.iconst 1, 1) := by decide +kernel
theorem dX0_stuck_11 : decode cX0_stuck 11 = .ok (.ireturn, 1) := by decide +kernel
theorem dX0_stuck_12 : decode cX0_stuck 12 = .ok (.iconst 0, 1) := by decide +kernel
theorem dX0_stuck_13 : decode cX0_stuck 13 = .ok (.ireturn, 1) := by decide +kernel
abbrev cX0_thermostat : ByteArray := method_11_code
def yX0_thermostat : MethodName := ⟨RX0, "thermostat", "(LParticleBox;D)I"⟩
theorem dX0_thermostat_0 : decode cX0_thermostat 0 = .ok (.aload_n 0, 1) := by decide +kernel
theorem dX0_thermostat_1 : decode cX0_thermostat 1 = .ok (.dload_n 1, 1) := by decide +kernel
theorem dX0_thermostat_2 : decode cX0_thermostat 2 = .ok (.invokevirtual 44, 3) := by decide +kernel
theorem dX0_thermostat_5 : decode cX0_thermostat 5 = .ok (.goto 6, 3) := by decide +kernel
theorem dX0_thermostat_8 : decode cX0_thermostat 8 = .ok (.astore_n 3, 1) := by decide +kernel
theorem dX0_thermostat_9 : decode cX0_thermostat 9 = .ok (.iconst 1, 1) := by decide +kernel
theorem dX0_thermostat_10 : decode cX0_thermostat 10 = .ok (.ireturn, 1) := by decide +kernel
theorem dX0_thermostat_11 : decode cX0_thermostat 11 = .ok (.iconst 0, 1) := by decide +kernel
theorem dX0_thermostat_12 : decode cX0_thermostat 12 = .ok (.ireturn, 1) := by decide +kernel
abbrev cX0_step : ByteArray := method_12_code
def yX0_step : MethodName := ⟨RX0, "step", "(LParticleBox;II)I"⟩
theorem dX0_step_0 : decode cX0_step 0 = .ok (.aload_n 0, 1) := by decide +kernel
theorem dX0_step_1 : decode cX0_step 1 = .ok (.iload_n 1, 1) := by decide +kernel
theorem dX0_step_2 : decode cX0_step 2 = .ok (.iload_n 2, 1) := by decide +kernel
theorem dX0_step_3 : decode cX0_step 3 = .ok (.invokevirtual 48, 3) := by decide +kernel
theorem dX0_step_6 : decode cX0_step 6 = .ok (.goto 12, 3) := by decide +kernel
theorem dX0_step_9 : decode cX0_step 9 = .ok (.astore_n 3, 1) := by decide +kernel
theorem dX0_step_10 : decode cX0_step 10 = .ok (.iconst 1, 1) := by decide +kernel
theorem dX0_step_11 : decode cX0_step 11 = .ok (.ireturn, 1) := by decide +kernel
theorem dX0_step_12 : decode cX0_step 12 = .ok (.astore_n 3, 1) := by decide +kernel
theorem dX0_step_13 : decode cX0_step 13 = .ok (.iconst 2, 1) := by decide +kernel
theorem dX0_step_14 : decode cX0_step 14 = .ok (.ireturn, 1) := by decide +kernel
theorem dX0_step_15 : decode cX0_step 15 = .ok (.astore_n 3, 1) := by decide +kernel
theorem dX0_step_16 : decode cX0_step 16 = .ok (.iconst 3, 1) := by decide +kernel
theorem dX0_step_17 : decode cX0_step 17 = .ok (.ireturn, 1) := by decide +kernel
theorem dX0_step_18 : decode cX0_step 18 = .ok (.iconst 0, 1) := by decide +kernel
theorem dX0_step_19 : decode cX0_step 19 = .ok (.ireturn, 1) := by decide +kernel
abbrev cX0_scale : ByteArray := method_13_code
def yX0_scale : MethodName := ⟨RX0, "scale", "(LParticleBox;D[D)I"⟩
theorem dX0_scale_0 : decode cX0_scale 0 = .ok (.aload_n 3, 1) := by decide +kernel
theorem dX0_scale_1 : decode cX0_scale 1 = .ok (.iconst 0, 1) := by decide +kernel
theorem dX0_scale_2 : decode cX0_scale 2 = .ok (.aload_n 0, 1) := by decide +kernel
theorem dX0_scale_3 : decode cX0_scale 3 = .ok (.dload_n 1, 1) := by decide +kernel
theorem dX0_scale_4 : decode cX0_scale 4 = .ok (.invokevirtual 54, 3) := by decide +kernel
theorem dX0_scale_7 : decode cX0_scale 7 = .ok (.dastore, 1) := by decide +kernel
theorem dX0_scale_8 : decode cX0_scale 8 = .ok (.goto 7, 3) := by decide +kernel
theorem dX0_scale_11 : decode cX0_scale 11 = .ok (.astore 4, 2) := by decide +kernel
theorem dX0_scale_13 : decode cX0_scale 13 = .ok (.iconst 1, 1) := by decide +kernel
theorem dX0_scale_14 : decode cX0_scale 14 = .ok (.ireturn, 1) := by decide +kernel
theorem dX0_scale_15 : decode cX0_scale 15 = .ok (.iconst 0, 1) := by decide +kernel
theorem dX0_scale_16 : decode cX0_scale 16 = .ok (.ireturn, 1) := by decide +kernel
abbrev cX0_energy : ByteArray := method_14_code
def yX0_energy : MethodName := ⟨RX0, "energy", "(LParticleBox;I[D)I"⟩
theorem dX0_energy_0 : decode cX0_energy 0 = .ok (.aload_n 2, 1) := by decide +kernel
theorem dX0_energy_1 : decode cX0_energy 1 = .ok (.iconst 0, 1) := by decide +kernel
theorem dX0_energy_2 : decode cX0_energy 2 = .ok (.aload_n 0, 1) := by decide +kernel
theorem dX0_energy_3 : decode cX0_energy 3 = .ok (.iload_n 1, 1) := by decide +kernel
theorem dX0_energy_4 : decode cX0_energy 4 = .ok (.invokevirtual 58, 3) := by decide +kernel
theorem dX0_energy_7 : decode cX0_energy 7 = .ok (.dastore, 1) := by decide +kernel
theorem dX0_energy_8 : decode cX0_energy 8 = .ok (.goto 9, 3) := by decide +kernel
theorem dX0_energy_11 : decode cX0_energy 11 = .ok (.astore_n 3, 1) := by decide +kernel
theorem dX0_energy_12 : decode cX0_energy 12 = .ok (.iconst 1, 1) := by decide +kernel
theorem dX0_energy_13 : decode cX0_energy 13 = .ok (.ireturn, 1) := by decide +kernel
theorem dX0_energy_14 : decode cX0_energy 14 = .ok (.astore_n 3, 1) := by decide +kernel
theorem dX0_energy_15 : decode cX0_energy 15 = .ok (.iconst 2, 1) := by decide +kernel
theorem dX0_energy_16 : decode cX0_energy 16 = .ok (.ireturn, 1) := by decide +kernel
theorem dX0_energy_17 : decode cX0_energy 17 = .ok (.iconst 0, 1) := by decide +kernel
theorem dX0_energy_18 : decode cX0_energy 18 = .ok (.ireturn, 1) := by decide +kernel
abbrev cX0_force : ByteArray := method_15_code
def yX0_force : MethodName := ⟨RX0, "force", "(LParticleBox;II[D)I"⟩
theorem dX0_force_0 : decode cX0_force 0 = .ok (.aload_n 3, 1) := by decide +kernel
theorem dX0_force_1 : decode cX0_force 1 = .ok (.iconst 0, 1) := by decide +kernel
theorem dX0_force_2 : decode cX0_force 2 = .ok (.aload_n 0, 1) := by decide +kernel
theorem dX0_force_3 : decode cX0_force 3 = .ok (.iload_n 1, 1) := by decide +kernel
theorem dX0_force_4 : decode cX0_force 4 = .ok (.iload_n 2, 1) := by decide +kernel
theorem dX0_force_5 : decode cX0_force 5 = .ok (.invokevirtual 62, 3) := by decide +kernel
theorem dX0_force_8 : decode cX0_force 8 = .ok (.dastore, 1) := by decide +kernel
theorem dX0_force_9 : decode cX0_force 9 = .ok (.goto 11, 3) := by decide +kernel
theorem dX0_force_12 : decode cX0_force 12 = .ok (.astore 4, 2) := by decide +kernel
theorem dX0_force_14 : decode cX0_force 14 = .ok (.iconst 1, 1) := by decide +kernel
theorem dX0_force_15 : decode cX0_force 15 = .ok (.ireturn, 1) := by decide +kernel
theorem dX0_force_16 : decode cX0_force 16 = .ok (.astore 4, 2) := by decide +kernel
theorem dX0_force_18 : decode cX0_force 18 = .ok (.iconst 2, 1) := by decide +kernel
theorem dX0_force_19 : decode cX0_force 19 = .ok (.ireturn, 1) := by decide +kernel
theorem dX0_force_20 : decode cX0_force 20 = .ok (.iconst 0, 1) := by decide +kernel
theorem dX0_force_21 : decode cX0_force 21 = .ok (.ireturn, 1) := by decide +kernel
abbrev cX0_told : ByteArray := method_16_code
def yX0_told : MethodName := ⟨RX0, "told", "(LParticleBox;II[D)I"⟩
theorem dX0_told_0 : decode cX0_told 0 = .ok (.aload_n 3, 1) := by decide +kernel
theorem dX0_told_1 : decode cX0_told 1 = .ok (.iconst 0, 1) := by decide +kernel
theorem dX0_told_2 : decode cX0_told 2 = .ok (.aload_n 0, 1) := by decide +kernel
theorem dX0_told_3 : decode cX0_told 3 = .ok (.iload_n 1, 1) := by decide +kernel
theorem dX0_told_4 : decode cX0_told 4 = .ok (.iload_n 2, 1) := by decide +kernel
theorem dX0_told_5 : decode cX0_told 5 = .ok (.invokevirtual 66, 3) := by decide +kernel
theorem dX0_told_8 : decode cX0_told 8 = .ok (.dastore, 1) := by decide +kernel
theorem dX0_told_9 : decode cX0_told 9 = .ok (.goto 7, 3) := by decide +kernel
theorem dX0_told_12 : decode cX0_told 12 = .ok (.astore 4, 2) := by decide +kernel
theorem dX0_told_14 : decode cX0_told 14 = .ok (.iconst 1, 1) := by decide +kernel
theorem dX0_told_15 : decode cX0_told 15 = .ok (.ireturn, 1) := by decide +kernel
theorem dX0_told_16 : decode cX0_told 16 = .ok (.iconst 0, 1) := by decide +kernel
theorem dX0_told_17 : decode cX0_told 17 = .ok (.ireturn, 1) := by decide +kernel
abbrev cX0_bin : ByteArray := method_17_code
def yX0_bin : MethodName := ⟨RX0, "bin", "(LParticleBox;III[J)I"⟩
theorem dX0_bin_0 : decode cX0_bin 0 = .ok (.aload 4, 2) := by decide +kernel
theorem dX0_bin_2 : decode cX0_bin 2 = .ok (.iconst 0, 1) := by decide +kernel
theorem dX0_bin_3 : decode cX0_bin 3 = .ok (.aload_n 0, 1) := by decide +kernel
theorem dX0_bin_4 : decode cX0_bin 4 = .ok (.iload_n 1, 1) := by decide +kernel
theorem dX0_bin_5 : decode cX0_bin 5 = .ok (.iload_n 2, 1) := by decide +kernel
theorem dX0_bin_6 : decode cX0_bin 6 = .ok (.iload_n 3, 1) := by decide +kernel
theorem dX0_bin_7 : decode cX0_bin 7 = .ok (.invokevirtual 69, 3) := by decide +kernel
theorem dX0_bin_10 : decode cX0_bin 10 = .ok (.i2l, 1) := by decide +kernel
theorem dX0_bin_11 : decode cX0_bin 11 = .ok (.lastore, 1) := by decide +kernel
theorem dX0_bin_12 : decode cX0_bin 12 = .ok (.goto 7, 3) := by decide +kernel
theorem dX0_bin_15 : decode cX0_bin 15 = .ok (.astore 5, 2) := by decide +kernel
theorem dX0_bin_17 : decode cX0_bin 17 = .ok (.iconst 1, 1) := by decide +kernel
theorem dX0_bin_18 : decode cX0_bin 18 = .ok (.ireturn, 1) := by decide +kernel
theorem dX0_bin_19 : decode cX0_bin 19 = .ok (.iconst 0, 1) := by decide +kernel
theorem dX0_bin_20 : decode cX0_bin 20 = .ok (.ireturn, 1) := by decide +kernel
theorem q44 : (Jvm.Cond.initialized "ParticleBoxLaw") ∈ lw_all := lw_g (lw_at lw_m1 0 rfl) rfl
theorem q61 : (Jvm.Cond.classLink "ParticleBoxLaw" (8 : Nat) "ParticleBox") ∈ lw_all := lw_g (lw_at lw_m1 17 rfl) rfl
theorem q63 : (Jvm.Cond.methodLink "ParticleBoxLaw" (79 : Nat) ({ cls := "ParticleBox", name := "<init>", desc := "(I)V" } : Jvm.MethodName)) ∈ lw_all := lw_g (lw_at lw_m1 19 rfl) rfl
theorem q219 : (Jvm.Cond.methodLink "ParticleBoxLaw" (145 : Nat) ({ cls := "ParticleBox", name := "temperature", desc := "()D" } : Jvm.MethodName)) ∈ lw_all := lw_g (lw_at lw_m1 175 rfl) rfl
theorem q224 : (Jvm.Cond.methodLink "ParticleBoxLaw" (150 : Nat) ({ cls := "ParticleBox", name := "sample", desc := "()I" } : Jvm.MethodName)) ∈ lw_all := lw_g (lw_at lw_m1 180 rfl) rfl
theorem q248 : (Jvm.Cond.methodLink "ParticleBoxLaw" (158 : Nat) ({ cls := "ParticleBox", name := "count", desc := "(I)I" } : Jvm.MethodName)) ∈ lw_all := lw_g (lw_at lw_m1 204 rfl) rfl
theorem q252 : (Jvm.Cond.methodLink "ParticleBoxLaw" (73 : Nat) ({ cls := "ParticleBoxLaw", name := "cell", desc := "([II)I" } : Jvm.MethodName)) ∈ lw_all := lw_g (lw_at lw_m1 208 rfl) rfl
theorem q253 : (Jvm.Cond.static ({ cls := "ParticleBoxLaw", name := "cell", desc := "([II)I" } : Jvm.MethodName)) ∈ lw_all := lw_g (lw_at lw_m1 209 rfl) rfl
theorem q254 : (Jvm.Cond.code ({ cls := "ParticleBoxLaw", name := "cell", desc := "([II)I" } : Jvm.MethodName) method_2_code (2 : Nat) (Option.some Jvm.ClassFile.FieldType.int)) ∈ lw_all := lw_g (lw_at lw_m1 210 rfl) rfl
theorem q255 : (Jvm.Cond.methodLink "ParticleBoxLaw" (87 : Nat) ({ cls := "ParticleBoxLaw", name := "atom", desc := "(LParticleBox;DDDI[J)I" } : Jvm.MethodName)) ∈ lw_all := lw_g (lw_at lw_m1 211 rfl) rfl
theorem q256 : (Jvm.Cond.static ({ cls := "ParticleBoxLaw", name := "atom", desc := "(LParticleBox;DDDI[J)I" } : Jvm.MethodName)) ∈ lw_all := lw_g (lw_at lw_m1 212 rfl) rfl
theorem q257 : (Jvm.Cond.codeWith ({ cls := "ParticleBoxLaw", name := "atom", desc := "(LParticleBox;DDDI[J)I" } : Jvm.MethodName) method_3_code (10 : Nat) (Option.some Jvm.ClassFile.FieldType.int) [((0 : Nat), (15 : Nat), (18 : Nat), (13 : Nat)), ((0 : Nat), (15 : Nat), (22 : Nat), (15 : Nat))]) ∈ lw_all := lw_g (lw_at lw_m1 213 rfl) rfl
theorem q258 : (Jvm.Cond.classLink "ParticleBoxLaw" (13 : Nat) "java/lang/IllegalArgumentException") ∈ lw_all := lw_g (lw_at lw_m1 214 rfl) rfl
theorem q259 : (Jvm.Cond.classLink "ParticleBoxLaw" (15 : Nat) "java/lang/IllegalStateException") ∈ lw_all := lw_g (lw_at lw_m1 215 rfl) rfl
theorem q260 : (Jvm.Cond.methodLink "ParticleBoxLaw" (7 : Nat) ({ cls := "ParticleBox", name := "atom", desc := "(DDDI)I" } : Jvm.MethodName)) ∈ lw_all := lw_g (lw_at lw_m1 216 rfl) rfl
theorem q425 : (Jvm.Cond.methodLink "ParticleBoxLaw" (95 : Nat) ({ cls := "ParticleBoxLaw", name := "place", desc := "(LParticleBox;IDD)I" } : Jvm.MethodName)) ∈ lw_all := lw_g (lw_at lw_m2 141 rfl) rfl
theorem q426 : (Jvm.Cond.static ({ cls := "ParticleBoxLaw", name := "place", desc := "(LParticleBox;IDD)I" } : Jvm.MethodName)) ∈ lw_all := lw_g (lw_at lw_m2 142 rfl) rfl
theorem q427 : (Jvm.Cond.codeWith ({ cls := "ParticleBoxLaw", name := "place", desc := "(LParticleBox;IDD)I" } : Jvm.MethodName) method_4_code (7 : Nat) (Option.some Jvm.ClassFile.FieldType.int) [((0 : Nat), (8 : Nat), (11 : Nat), (13 : Nat))]) ∈ lw_all := lw_g (lw_at lw_m2 143 rfl) rfl
theorem q428 : (Jvm.Cond.methodLink "ParticleBoxLaw" (17 : Nat) ({ cls := "ParticleBox", name := "place", desc := "(IDD)V" } : Jvm.MethodName)) ∈ lw_all := lw_g (lw_at lw_m2 144 rfl) rfl
theorem q436 : (Jvm.Cond.methodLink "ParticleBoxLaw" (99 : Nat) ({ cls := "ParticleBoxLaw", name := "speed", desc := "(LParticleBox;IDD)I" } : Jvm.MethodName)) ∈ lw_all := lw_g (lw_at lw_m2 152 rfl) rfl
theorem q437 : (Jvm.Cond.static ({ cls := "ParticleBoxLaw", name := "speed", desc := "(LParticleBox;IDD)I" } : Jvm.MethodName)) ∈ lw_all := lw_g (lw_at lw_m2 153 rfl) rfl
theorem q438 : (Jvm.Cond.codeWith ({ cls := "ParticleBoxLaw", name := "speed", desc := "(LParticleBox;IDD)I" } : Jvm.MethodName) method_5_code (7 : Nat) (Option.some Jvm.ClassFile.FieldType.int) [((0 : Nat), (8 : Nat), (11 : Nat), (13 : Nat))]) ∈ lw_all := lw_g (lw_at lw_m2 154 rfl) rfl
theorem q439 : (Jvm.Cond.methodLink "ParticleBoxLaw" (21 : Nat) ({ cls := "ParticleBox", name := "speed", desc := "(IDD)V" } : Jvm.MethodName)) ∈ lw_all := lw_g (lw_at lw_m2 155 rfl) rfl
theorem q443 : (Jvm.Cond.methodLink "ParticleBoxLaw" (102 : Nat) ({ cls := "ParticleBoxLaw", name := "sort", desc := "(LParticleBox;IDDD)I" } : Jvm.MethodName)) ∈ lw_all := lw_g (lw_at lw_m2 159 rfl) rfl
theorem q444 : (Jvm.Cond.static ({ cls := "ParticleBoxLaw", name := "sort", desc := "(LParticleBox;IDDD)I" } : Jvm.MethodName)) ∈ lw_all := lw_g (lw_at lw_m2 160 rfl) rfl
theorem q445 : (Jvm.Cond.codeWith ({ cls := "ParticleBoxLaw", name := "sort", desc := "(LParticleBox;IDDD)I" } : Jvm.MethodName) method_6_code (9 : Nat) (Option.some Jvm.ClassFile.FieldType.int) [((0 : Nat), (10 : Nat), (13 : Nat), (13 : Nat))]) ∈ lw_all := lw_g (lw_at lw_m2 161 rfl) rfl
theorem q446 : (Jvm.Cond.methodLink "ParticleBoxLaw" (24 : Nat) ({ cls := "ParticleBox", name := "sort", desc := "(IDDD)V" } : Jvm.MethodName)) ∈ lw_all := lw_g (lw_at lw_m2 162 rfl) rfl
theorem q453 : (Jvm.Cond.methodLink "ParticleBoxLaw" (106 : Nat) ({ cls := "ParticleBoxLaw", name := "cut", desc := "(LParticleBox;DD)I" } : Jvm.MethodName)) ∈ lw_all := lw_g (lw_at lw_m2 169 rfl) rfl
theorem q454 : (Jvm.Cond.static ({ cls := "ParticleBoxLaw", name := "cut", desc := "(LParticleBox;DD)I" } : Jvm.MethodName)) ∈ lw_all := lw_g (lw_at lw_m2 170 rfl) rfl
theorem q455 : (Jvm.Cond.codeWith ({ cls := "ParticleBoxLaw", name := "cut", desc := "(LParticleBox;DD)I" } : Jvm.MethodName) method_7_code (6 : Nat) (Option.some Jvm.ClassFile.FieldType.int) [((0 : Nat), (6 : Nat), (9 : Nat), (13 : Nat))]) ∈ lw_all := lw_g (lw_at lw_m2 171 rfl) rfl
theorem q456 : (Jvm.Cond.methodLink "ParticleBoxLaw" (28 : Nat) ({ cls := "ParticleBox", name := "cut", desc := "(DD)V" } : Jvm.MethodName)) ∈ lw_all := lw_g (lw_at lw_m2 172 rfl) rfl
theorem q460 : (Jvm.Cond.methodLink "ParticleBoxLaw" (110 : Nat) ({ cls := "ParticleBoxLaw", name := "bond", desc := "(LParticleBox;IIDD[J)I" } : Jvm.MethodName)) ∈ lw_all := lw_g (lw_at lw_m2 176 rfl) rfl
theorem q461 : (Jvm.Cond.static ({ cls := "ParticleBoxLaw", name := "bond", desc := "(LParticleBox;IIDD[J)I" } : Jvm.MethodName)) ∈ lw_all := lw_g (lw_at lw_m2 177 rfl) rfl
theorem q462 : (Jvm.Cond.codeWith ({ cls := "ParticleBoxLaw", name := "bond", desc := "(LParticleBox;IIDD[J)I" } : Jvm.MethodName) method_8_code (9 : Nat) (Option.some Jvm.ClassFile.FieldType.int) [((0 : Nat), (14 : Nat), (17 : Nat), (13 : Nat)), ((0 : Nat), (14 : Nat), (21 : Nat), (15 : Nat))]) ∈ lw_all := lw_g (lw_at lw_m2 178 rfl) rfl
theorem q463 : (Jvm.Cond.methodLink "ParticleBoxLaw" (32 : Nat) ({ cls := "ParticleBox", name := "bond", desc := "(IIDD)I" } : Jvm.MethodName)) ∈ lw_all := lw_g (lw_at lw_m2 179 rfl) rfl
theorem q487 : (Jvm.Cond.methodLink "ParticleBoxLaw" (114 : Nat) ({ cls := "ParticleBoxLaw", name := "rod", desc := "(LParticleBox;IID[J)I" } : Jvm.MethodName)) ∈ lw_all := lw_g (lw_at lw_m2 203 rfl) rfl
theorem q488 : (Jvm.Cond.static ({ cls := "ParticleBoxLaw", name := "rod", desc := "(LParticleBox;IID[J)I" } : Jvm.MethodName)) ∈ lw_all := lw_g (lw_at lw_m2 204 rfl) rfl
theorem q489 : (Jvm.Cond.codeWith ({ cls := "ParticleBoxLaw", name := "rod", desc := "(LParticleBox;IID[J)I" } : Jvm.MethodName) method_9_code (7 : Nat) (Option.some Jvm.ClassFile.FieldType.int) [((0 : Nat), (12 : Nat), (15 : Nat), (13 : Nat)), ((0 : Nat), (12 : Nat), (19 : Nat), (15 : Nat))]) ∈ lw_all := lw_g (lw_at lw_m2 205 rfl) rfl
theorem q490 : (Jvm.Cond.methodLink "ParticleBoxLaw" (36 : Nat) ({ cls := "ParticleBox", name := "rod", desc := "(IID)I" } : Jvm.MethodName)) ∈ lw_all := lw_g (lw_at lw_m2 206 rfl) rfl
theorem q512 : (Jvm.Cond.methodLink "ParticleBoxLaw" (118 : Nat) ({ cls := "ParticleBoxLaw", name := "stuck", desc := "(LParticleBox;IZ)I" } : Jvm.MethodName)) ∈ lw_all := lw_g (lw_at lw_m2 228 rfl) rfl
theorem q513 : (Jvm.Cond.static ({ cls := "ParticleBoxLaw", name := "stuck", desc := "(LParticleBox;IZ)I" } : Jvm.MethodName)) ∈ lw_all := lw_g (lw_at lw_m2 229 rfl) rfl
theorem q514 : (Jvm.Cond.codeWith ({ cls := "ParticleBoxLaw", name := "stuck", desc := "(LParticleBox;IZ)I" } : Jvm.MethodName) method_10_code (4 : Nat) (Option.some Jvm.ClassFile.FieldType.int) [((0 : Nat), (6 : Nat), (9 : Nat), (13 : Nat))]) ∈ lw_all := lw_g (lw_at lw_m2 230 rfl) rfl
theorem q515 : (Jvm.Cond.methodLink "ParticleBoxLaw" (40 : Nat) ({ cls := "ParticleBox", name := "stuck", desc := "(IZ)V" } : Jvm.MethodName)) ∈ lw_all := lw_g (lw_at lw_m2 231 rfl) rfl
theorem q519 : (Jvm.Cond.methodLink "ParticleBoxLaw" (122 : Nat) ({ cls := "ParticleBoxLaw", name := "thermostat", desc := "(LParticleBox;D)I" } : Jvm.MethodName)) ∈ lw_all := lw_g (lw_at lw_m2 235 rfl) rfl
theorem q520 : (Jvm.Cond.static ({ cls := "ParticleBoxLaw", name := "thermostat", desc := "(LParticleBox;D)I" } : Jvm.MethodName)) ∈ lw_all := lw_g (lw_at lw_m2 236 rfl) rfl
theorem q521 : (Jvm.Cond.codeWith ({ cls := "ParticleBoxLaw", name := "thermostat", desc := "(LParticleBox;D)I" } : Jvm.MethodName) method_11_code (4 : Nat) (Option.some Jvm.ClassFile.FieldType.int) [((0 : Nat), (5 : Nat), (8 : Nat), (13 : Nat))]) ∈ lw_all := lw_g (lw_at lw_m2 237 rfl) rfl
theorem q522 : (Jvm.Cond.methodLink "ParticleBoxLaw" (44 : Nat) ({ cls := "ParticleBox", name := "thermostat", desc := "(D)V" } : Jvm.MethodName)) ∈ lw_all := lw_g (lw_at lw_m2 238 rfl) rfl
theorem q526 : (Jvm.Cond.methodLink "ParticleBoxLaw" (126 : Nat) ({ cls := "ParticleBoxLaw", name := "step", desc := "(LParticleBox;II)I" } : Jvm.MethodName)) ∈ lw_all := lw_g (lw_at lw_m3 2 rfl) rfl
theorem q527 : (Jvm.Cond.static ({ cls := "ParticleBoxLaw", name := "step", desc := "(LParticleBox;II)I" } : Jvm.MethodName)) ∈ lw_all := lw_g (lw_at lw_m3 3 rfl) rfl
theorem q528 : (Jvm.Cond.codeWith ({ cls := "ParticleBoxLaw", name := "step", desc := "(LParticleBox;II)I" } : Jvm.MethodName) method_12_code (4 : Nat) (Option.some Jvm.ClassFile.FieldType.int) [((0 : Nat), (6 : Nat), (9 : Nat), (13 : Nat)), ((0 : Nat), (6 : Nat), (12 : Nat), (15 : Nat)), ((0 : Nat), (6 : Nat), (15 : Nat), (52 : Nat))]) ∈ lw_all := lw_g (lw_at lw_m3 4 rfl) rfl
theorem q529 : (Jvm.Cond.classLink "ParticleBoxLaw" (52 : Nat) "java/lang/ArithmeticException") ∈ lw_all := lw_g (lw_at lw_m3 5 rfl) rfl
theorem q548 : (Jvm.Cond.methodLink "ParticleBoxLaw" (48 : Nat) ({ cls := "ParticleBox", name := "step", desc := "(II)V" } : Jvm.MethodName)) ∈ lw_all := lw_g (lw_at lw_m3 24 rfl) rfl
theorem q671 : (Jvm.Cond.methodLink "ParticleBoxLaw" (130 : Nat) ({ cls := "ParticleBoxLaw", name := "scale", desc := "(LParticleBox;D[D)I" } : Jvm.MethodName)) ∈ lw_all := lw_g (lw_at lw_m3 147 rfl) rfl
theorem q672 : (Jvm.Cond.static ({ cls := "ParticleBoxLaw", name := "scale", desc := "(LParticleBox;D[D)I" } : Jvm.MethodName)) ∈ lw_all := lw_g (lw_at lw_m3 148 rfl) rfl
theorem q673 : (Jvm.Cond.codeWith ({ cls := "ParticleBoxLaw", name := "scale", desc := "(LParticleBox;D[D)I" } : Jvm.MethodName) method_13_code (5 : Nat) (Option.some Jvm.ClassFile.FieldType.int) [((0 : Nat), (8 : Nat), (11 : Nat), (13 : Nat))]) ∈ lw_all := lw_g (lw_at lw_m3 149 rfl) rfl
theorem q674 : (Jvm.Cond.methodLink "ParticleBoxLaw" (54 : Nat) ({ cls := "ParticleBox", name := "scale", desc := "(D)D" } : Jvm.MethodName)) ∈ lw_all := lw_g (lw_at lw_m3 150 rfl) rfl
theorem q678 : (Jvm.Cond.methodLink "ParticleBoxLaw" (134 : Nat) ({ cls := "ParticleBoxLaw", name := "energy", desc := "(LParticleBox;I[D)I" } : Jvm.MethodName)) ∈ lw_all := lw_g (lw_at lw_m3 154 rfl) rfl
theorem q679 : (Jvm.Cond.static ({ cls := "ParticleBoxLaw", name := "energy", desc := "(LParticleBox;I[D)I" } : Jvm.MethodName)) ∈ lw_all := lw_g (lw_at lw_m3 155 rfl) rfl
theorem q680 : (Jvm.Cond.codeWith ({ cls := "ParticleBoxLaw", name := "energy", desc := "(LParticleBox;I[D)I" } : Jvm.MethodName) method_14_code (4 : Nat) (Option.some Jvm.ClassFile.FieldType.int) [((0 : Nat), (8 : Nat), (11 : Nat), (13 : Nat)), ((0 : Nat), (8 : Nat), (14 : Nat), (52 : Nat))]) ∈ lw_all := lw_g (lw_at lw_m3 156 rfl) rfl
theorem q681 : (Jvm.Cond.methodLink "ParticleBoxLaw" (58 : Nat) ({ cls := "ParticleBox", name := "energy", desc := "(I)D" } : Jvm.MethodName)) ∈ lw_all := lw_g (lw_at lw_m3 157 rfl) rfl
theorem q710 : (Jvm.Cond.methodLink "ParticleBoxLaw" (138 : Nat) ({ cls := "ParticleBoxLaw", name := "force", desc := "(LParticleBox;II[D)I" } : Jvm.MethodName)) ∈ lw_all := lw_g (lw_at lw_m3 186 rfl) rfl
theorem q711 : (Jvm.Cond.static ({ cls := "ParticleBoxLaw", name := "force", desc := "(LParticleBox;II[D)I" } : Jvm.MethodName)) ∈ lw_all := lw_g (lw_at lw_m3 187 rfl) rfl
theorem q712 : (Jvm.Cond.codeWith ({ cls := "ParticleBoxLaw", name := "force", desc := "(LParticleBox;II[D)I" } : Jvm.MethodName) method_15_code (5 : Nat) (Option.some Jvm.ClassFile.FieldType.int) [((0 : Nat), (9 : Nat), (12 : Nat), (13 : Nat)), ((0 : Nat), (9 : Nat), (16 : Nat), (52 : Nat))]) ∈ lw_all := lw_g (lw_at lw_m3 188 rfl) rfl
theorem q713 : (Jvm.Cond.methodLink "ParticleBoxLaw" (62 : Nat) ({ cls := "ParticleBox", name := "force", desc := "(II)D" } : Jvm.MethodName)) ∈ lw_all := lw_g (lw_at lw_m3 189 rfl) rfl
theorem q717 : (Jvm.Cond.methodLink "ParticleBoxLaw" (142 : Nat) ({ cls := "ParticleBoxLaw", name := "told", desc := "(LParticleBox;II[D)I" } : Jvm.MethodName)) ∈ lw_all := lw_g (lw_at lw_m3 193 rfl) rfl
theorem q718 : (Jvm.Cond.static ({ cls := "ParticleBoxLaw", name := "told", desc := "(LParticleBox;II[D)I" } : Jvm.MethodName)) ∈ lw_all := lw_g (lw_at lw_m3 194 rfl) rfl
theorem q719 : (Jvm.Cond.codeWith ({ cls := "ParticleBoxLaw", name := "told", desc := "(LParticleBox;II[D)I" } : Jvm.MethodName) method_16_code (5 : Nat) (Option.some Jvm.ClassFile.FieldType.int) [((0 : Nat), (9 : Nat), (12 : Nat), (13 : Nat))]) ∈ lw_all := lw_g (lw_at lw_m3 195 rfl) rfl
theorem q720 : (Jvm.Cond.methodLink "ParticleBoxLaw" (66 : Nat) ({ cls := "ParticleBox", name := "told", desc := "(II)D" } : Jvm.MethodName)) ∈ lw_all := lw_g (lw_at lw_m3 196 rfl) rfl
theorem q724 : (Jvm.Cond.methodLink "ParticleBoxLaw" (154 : Nat) ({ cls := "ParticleBoxLaw", name := "bin", desc := "(LParticleBox;III[J)I" } : Jvm.MethodName)) ∈ lw_all := lw_g (lw_at lw_m3 200 rfl) rfl
theorem q725 : (Jvm.Cond.static ({ cls := "ParticleBoxLaw", name := "bin", desc := "(LParticleBox;III[J)I" } : Jvm.MethodName)) ∈ lw_all := lw_g (lw_at lw_m3 201 rfl) rfl
theorem q726 : (Jvm.Cond.codeWith ({ cls := "ParticleBoxLaw", name := "bin", desc := "(LParticleBox;III[J)I" } : Jvm.MethodName) method_17_code (6 : Nat) (Option.some Jvm.ClassFile.FieldType.int) [((0 : Nat), (12 : Nat), (15 : Nat), (13 : Nat))]) ∈ lw_all := lw_g (lw_at lw_m3 202 rfl) rfl
theorem q727 : (Jvm.Cond.methodLink "ParticleBoxLaw" (69 : Nat) ({ cls := "ParticleBox", name := "bin", desc := "(III)I" } : Jvm.MethodName)) ∈ lw_all := lw_g (lw_at lw_m3 203 rfl) rfl
theorem q731 : (Jvm.Cond.classLink "ParticleBoxLaw" (82 : Nat) "ParticleBoxModel") ∈ lw_all := lw_g (lw_at lw_m3 207 rfl) rfl
theorem q733 : (Jvm.Cond.methodLink "ParticleBoxLaw" (84 : Nat) ({ cls := "ParticleBoxModel", name := "<init>", desc := "(I)V" } : Jvm.MethodName)) ∈ lw_all := lw_g (lw_at lw_m3 209 rfl) rfl
theorem q886 : (Jvm.Cond.methodLink "ParticleBoxLaw" (91 : Nat) ({ cls := "ParticleBoxModel", name := "thrown", desc := "()I" } : Jvm.MethodName)) ∈ lw_all := lw_g (lw_at lw_m4 122 rfl) rfl
theorem q890 : (Jvm.Cond.methodLink "ParticleBoxLaw" (90 : Nat) ({ cls := "ParticleBoxModel", name := "atom", desc := "(DDDI)I" } : Jvm.MethodName)) ∈ lw_all := lw_g (lw_at lw_m4 126 rfl) rfl
theorem q912 : (Jvm.Cond.methodLink "ParticleBoxLaw" (98 : Nat) ({ cls := "ParticleBoxModel", name := "place", desc := "(IDD)V" } : Jvm.MethodName)) ∈ lw_all := lw_g (lw_at lw_m4 148 rfl) rfl
theorem q920 : (Jvm.Cond.methodLink "ParticleBoxLaw" (101 : Nat) ({ cls := "ParticleBoxModel", name := "speed", desc := "(IDD)V" } : Jvm.MethodName)) ∈ lw_all := lw_g (lw_at lw_m4 156 rfl) rfl
theorem q924 : (Jvm.Cond.methodLink "ParticleBoxLaw" (105 : Nat) ({ cls := "ParticleBoxModel", name := "sort", desc := "(IDDD)V" } : Jvm.MethodName)) ∈ lw_all := lw_g (lw_at lw_m4 160 rfl) rfl
theorem q931 : (Jvm.Cond.methodLink "ParticleBoxLaw" (109 : Nat) ({ cls := "ParticleBoxModel", name := "cut", desc := "(DD)V" } : Jvm.MethodName)) ∈ lw_all := lw_g (lw_at lw_m4 167 rfl) rfl
theorem q935 : (Jvm.Cond.methodLink "ParticleBoxLaw" (113 : Nat) ({ cls := "ParticleBoxModel", name := "bond", desc := "(IIDD)I" } : Jvm.MethodName)) ∈ lw_all := lw_g (lw_at lw_m4 171 rfl) rfl
theorem q939 : (Jvm.Cond.methodLink "ParticleBoxLaw" (117 : Nat) ({ cls := "ParticleBoxModel", name := "rod", desc := "(IID)I" } : Jvm.MethodName)) ∈ lw_all := lw_g (lw_at lw_m4 175 rfl) rfl
theorem q943 : (Jvm.Cond.methodLink "ParticleBoxLaw" (121 : Nat) ({ cls := "ParticleBoxModel", name := "stuck", desc := "(IZ)V" } : Jvm.MethodName)) ∈ lw_all := lw_g (lw_at lw_m4 179 rfl) rfl
theorem q947 : (Jvm.Cond.methodLink "ParticleBoxLaw" (125 : Nat) ({ cls := "ParticleBoxModel", name := "thermostat", desc := "(D)V" } : Jvm.MethodName)) ∈ lw_all := lw_g (lw_at lw_m4 183 rfl) rfl
theorem q951 : (Jvm.Cond.methodLink "ParticleBoxLaw" (129 : Nat) ({ cls := "ParticleBoxModel", name := "step", desc := "(II)V" } : Jvm.MethodName)) ∈ lw_all := lw_g (lw_at lw_m4 187 rfl) rfl
theorem q1042 : (Jvm.Cond.methodLink "ParticleBoxLaw" (133 : Nat) ({ cls := "ParticleBoxModel", name := "scale", desc := "(D)D" } : Jvm.MethodName)) ∈ lw_all := lw_g (lw_at lw_m5 38 rfl) rfl
theorem q1046 : (Jvm.Cond.methodLink "ParticleBoxLaw" (137 : Nat) ({ cls := "ParticleBoxModel", name := "energy", desc := "(I)D" } : Jvm.MethodName)) ∈ lw_all := lw_g (lw_at lw_m5 42 rfl) rfl
theorem q1050 : (Jvm.Cond.methodLink "ParticleBoxLaw" (141 : Nat) ({ cls := "ParticleBoxModel", name := "force", desc := "(II)D" } : Jvm.MethodName)) ∈ lw_all := lw_g (lw_at lw_m5 46 rfl) rfl
theorem q1054 : (Jvm.Cond.methodLink "ParticleBoxLaw" (144 : Nat) ({ cls := "ParticleBoxModel", name := "told", desc := "(II)D" } : Jvm.MethodName)) ∈ lw_all := lw_g (lw_at lw_m5 50 rfl) rfl
theorem q1058 : (Jvm.Cond.methodLink "ParticleBoxLaw" (149 : Nat) ({ cls := "ParticleBoxModel", name := "temperature", desc := "()D" } : Jvm.MethodName)) ∈ lw_all := lw_g (lw_at lw_m5 54 rfl) rfl
theorem q1062 : (Jvm.Cond.methodLink "ParticleBoxLaw" (153 : Nat) ({ cls := "ParticleBoxModel", name := "sample", desc := "()I" } : Jvm.MethodName)) ∈ lw_all := lw_g (lw_at lw_m5 58 rfl) rfl
theorem q1071 : (Jvm.Cond.methodLink "ParticleBoxLaw" (157 : Nat) ({ cls := "ParticleBoxModel", name := "bin", desc := "(III)I" } : Jvm.MethodName)) ∈ lw_all := lw_g (lw_at lw_m5 67 rfl) rfl
theorem q1075 : (Jvm.Cond.methodLink "ParticleBoxLaw" (162 : Nat) ({ cls := "ParticleBoxModel", name := "count", desc := "(I)I" } : Jvm.MethodName)) ∈ lw_all := lw_g (lw_at lw_m5 71 rfl) rfl
theorem q1079 : (Jvm.Cond.constantDouble "ParticleBoxLaw" (85 : Nat) (4593671619917905920 : UInt64)) ∈ lw_all := lw_g (lw_at lw_m5 75 rfl) rfl
