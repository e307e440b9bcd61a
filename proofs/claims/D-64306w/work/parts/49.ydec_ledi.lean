theorem d_Ins_values_0 : decode prog_4_method_1_code 0 = .ok (.getstatic 96, 3) := by decide +kernel
theorem d_Ins_values_3 : decode prog_4_method_1_code 3 = .ok (.invokevirtual 100, 3) := by decide +kernel
theorem d_Ins_values_6 : decode prog_4_method_1_code 6 = .ok (.checkcast 101, 3) := by decide +kernel
theorem d_Ins_values_9 : decode prog_4_method_1_code 9 = .ok (.areturn, 1) := by decide +kernel
theorem d_Led_init_0 : decode prog_1_method_1_code 0 = .ok (.aload_n 0, 1) := by decide +kernel
theorem d_Led_init_1 : decode prog_1_method_1_code 1 = .ok (.invokespecial 1, 3) := by decide +kernel
theorem d_Led_init_4 : decode prog_1_method_1_code 4 = .ok (.aload_n 0, 1) := by decide +kernel
theorem d_Led_init_5 : decode prog_1_method_1_code 5 = .ok (.new 7, 3) := by decide +kernel
theorem d_Led_init_8 : decode prog_1_method_1_code 8 = .ok (.dup, 1) := by decide +kernel
theorem d_Led_init_9 : decode prog_1_method_1_code 9 = .ok (.invokespecial 9, 3) := by decide +kernel
theorem d_Led_init_12 : decode prog_1_method_1_code 12 = .ok (.putfield 10, 3) := by decide +kernel
theorem d_Led_init_15 : decode prog_1_method_1_code 15 = .ok (.aload_n 0, 1) := by decide +kernel
theorem d_Led_init_16 : decode prog_1_method_1_code 16 = .ok (.invokestatic 16, 3) := by decide +kernel
theorem d_Led_init_19 : decode prog_1_method_1_code 19 = .ok (.putfield 22, 3) := by decide +kernel
theorem d_Led_init_22 : decode prog_1_method_1_code 22 = .ok (.aload_n 0, 1) := by decide +kernel
theorem d_Led_init_23 : decode prog_1_method_1_code 23 = .ok (.bipush 8, 2) := by decide +kernel
theorem d_Led_init_25 : decode prog_1_method_1_code 25 = .ok (.anewarray 26, 3) := by decide +kernel
theorem d_Led_init_28 : decode prog_1_method_1_code 28 = .ok (.putfield 28, 3) := by decide +kernel
theorem d_Led_init_31 : decode prog_1_method_1_code 31 = .ok (.aload_n 0, 1) := by decide +kernel
theorem d_Led_init_32 : decode prog_1_method_1_code 32 = .ok (.bipush 8, 2) := by decide +kernel
theorem d_Led_init_34 : decode prog_1_method_1_code 34 = .ok (.newarray .int, 2) := by decide +kernel
theorem d_Led_init_36 : decode prog_1_method_1_code 36 = .ok (.putfield 32, 3) := by decide +kernel
theorem d_Led_init_39 : decode prog_1_method_1_code 39 = .ok (.iconst 0, 1) := by decide +kernel
theorem d_Led_init_40 : decode prog_1_method_1_code 40 = .ok (.istore_n 1, 1) := by decide +kernel
theorem d_Led_init_41 : decode prog_1_method_1_code 41 = .ok (.iload_n 1, 1) := by decide +kernel
theorem d_Led_init_42 : decode prog_1_method_1_code 42 = .ok (.bipush 8, 2) := by decide +kernel
theorem d_Led_init_44 : decode prog_1_method_1_code 44 = .ok (.if_icmp .ge 35, 3) := by decide +kernel
theorem d_Led_init_47 : decode prog_1_method_1_code 47 = .ok (.aload_n 0, 1) := by decide +kernel
theorem d_Led_init_48 : decode prog_1_method_1_code 48 = .ok (.getfield 28, 3) := by decide +kernel
theorem d_Led_init_51 : decode prog_1_method_1_code 51 = .ok (.iload_n 1, 1) := by decide +kernel
theorem d_Led_init_52 : decode prog_1_method_1_code 52 = .ok (.new 26, 3) := by decide +kernel
theorem d_Led_init_55 : decode prog_1_method_1_code 55 = .ok (.dup, 1) := by decide +kernel
theorem d_Led_init_56 : decode prog_1_method_1_code 56 = .ok (.aload_n 0, 1) := by decide +kernel
theorem d_Led_init_57 : decode prog_1_method_1_code 57 = .ok (.getfield 10, 3) := by decide +kernel
theorem d_Led_init_60 : decode prog_1_method_1_code 60 = .ok (.aload_n 0, 1) := by decide +kernel
theorem d_Led_init_61 : decode prog_1_method_1_code 61 = .ok (.getfield 22, 3) := by decide +kernel
theorem d_Led_init_64 : decode prog_1_method_1_code 64 = .ok (.aload_n 0, 1) := by decide +kernel
theorem d_Led_init_65 : decode prog_1_method_1_code 65 = .ok (.getfield 28, 3) := by decide +kernel
theorem d_Led_init_68 : decode prog_1_method_1_code 68 = .ok (.iload_n 1, 1) := by decide +kernel
theorem d_Led_init_69 : decode prog_1_method_1_code 69 = .ok (.invokespecial 36, 3) := by decide +kernel
theorem d_Led_init_72 : decode prog_1_method_1_code 72 = .ok (.aastore, 1) := by decide +kernel
theorem d_Led_init_73 : decode prog_1_method_1_code 73 = .ok (.iinc 1 1, 3) := by decide +kernel
theorem d_Led_init_76 : decode prog_1_method_1_code 76 = .ok (.goto (-35), 3) := by decide +kernel
theorem d_Led_init_79 : decode prog_1_method_1_code 79 = .ok (.return_, 1) := by decide +kernel
