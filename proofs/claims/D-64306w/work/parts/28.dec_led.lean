theorem d_Led_account_0 : decode prog_1_method_2_code 0 = .ok (.aload_n 0, 1) := by decide +kernel
theorem d_Led_account_1 : decode prog_1_method_2_code 1 = .ok (.getfield 10, 3) := by decide +kernel
theorem d_Led_account_4 : decode prog_1_method_2_code 4 = .ok (.iload_n 1, 1) := by decide +kernel
theorem d_Led_account_5 : decode prog_1_method_2_code 5 = .ok (.invokevirtual 39, 3) := by decide +kernel
theorem d_Led_account_8 : decode prog_1_method_2_code 8 = .ok (.ifCond .ne 13, 3) := by decide +kernel
theorem d_Led_account_11 : decode prog_1_method_2_code 11 = .ok (.new 43, 3) := by decide +kernel
theorem d_Led_account_14 : decode prog_1_method_2_code 14 = .ok (.dup, 1) := by decide +kernel
theorem d_Led_account_15 : decode prog_1_method_2_code 15 = .ok (.ldc 45, 2) := by decide +kernel
theorem d_Led_account_17 : decode prog_1_method_2_code 17 = .ok (.invokespecial 47, 3) := by decide +kernel
theorem d_Led_account_20 : decode prog_1_method_2_code 20 = .ok (.athrow, 1) := by decide +kernel
theorem d_Led_account_21 : decode prog_1_method_2_code 21 = .ok (.aload_n 0, 1) := by decide +kernel
theorem d_Led_account_22 : decode prog_1_method_2_code 22 = .ok (.getfield 10, 3) := by decide +kernel
theorem d_Led_account_25 : decode prog_1_method_2_code 25 = .ok (.getfield 50, 3) := by decide +kernel
theorem d_Led_account_28 : decode prog_1_method_2_code 28 = .ok (.iload_n 1, 1) := by decide +kernel
theorem d_Led_account_29 : decode prog_1_method_2_code 29 = .ok (.invokeinterface 54 2, 5) := by decide +kernel
theorem d_Led_account_34 : decode prog_1_method_2_code 34 = .ok (.checkcast 60, 3) := by decide +kernel
theorem d_Led_account_37 : decode prog_1_method_2_code 37 = .ok (.areturn, 1) := by decide +kernel
theorem d_Led_fits_0 : decode prog_1_method_3_code 0 = .ok (.iload_n 0, 1) := by decide +kernel
theorem d_Led_fits_1 : decode prog_1_method_3_code 1 = .ok (.ifCond .ne 13, 3) := by decide +kernel
theorem d_Led_fits_4 : decode prog_1_method_3_code 4 = .ok (.new 62, 3) := by decide +kernel
theorem d_Led_fits_7 : decode prog_1_method_3_code 7 = .ok (.dup, 1) := by decide +kernel
theorem d_Led_fits_8 : decode prog_1_method_3_code 8 = .ok (.ldc 64, 2) := by decide +kernel
theorem d_Led_fits_10 : decode prog_1_method_3_code 10 = .ok (.invokespecial 66, 3) := by decide +kernel
theorem d_Led_fits_13 : decode prog_1_method_3_code 13 = .ok (.athrow, 1) := by decide +kernel
theorem d_Led_fits_14 : decode prog_1_method_3_code 14 = .ok (.return_, 1) := by decide +kernel
theorem d_Led_isOpen_0 : decode prog_1_method_4_code 0 = .ok (.aload_n 0, 1) := by decide +kernel
theorem d_Led_isOpen_1 : decode prog_1_method_4_code 1 = .ok (.getfield 67, 3) := by decide +kernel
theorem d_Led_isOpen_4 : decode prog_1_method_4_code 4 = .ok (.ifCond .eq 13, 3) := by decide +kernel
theorem d_Led_isOpen_7 : decode prog_1_method_4_code 7 = .ok (.new 71, 3) := by decide +kernel
theorem d_Led_isOpen_10 : decode prog_1_method_4_code 10 = .ok (.dup, 1) := by decide +kernel
theorem d_Led_isOpen_11 : decode prog_1_method_4_code 11 = .ok (.ldc 73, 2) := by decide +kernel
theorem d_Led_isOpen_13 : decode prog_1_method_4_code 13 = .ok (.invokespecial 75, 3) := by decide +kernel
theorem d_Led_isOpen_16 : decode prog_1_method_4_code 16 = .ok (.athrow, 1) := by decide +kernel
theorem d_Led_isOpen_17 : decode prog_1_method_4_code 17 = .ok (.return_, 1) := by decide +kernel
theorem d_Led_code_0 : decode prog_1_method_6_code 0 = .ok (.aload_n 0, 1) := by decide +kernel
theorem d_Led_code_1 : decode prog_1_method_6_code 1 = .ok (.iload_n 1, 1) := by decide +kernel
theorem d_Led_code_2 : decode prog_1_method_6_code 2 = .ok (.invokevirtual 96, 3) := by decide +kernel
theorem d_Led_code_5 : decode prog_1_method_6_code 5 = .ok (.astore_n 3, 1) := by decide +kernel
theorem d_Led_code_6 : decode prog_1_method_6_code 6 = .ok (.aload_n 3, 1) := by decide +kernel
theorem d_Led_code_7 : decode prog_1_method_6_code 7 = .ok (.invokestatic 100, 3) := by decide +kernel
theorem d_Led_code_10 : decode prog_1_method_6_code 10 = .ok (.aload_n 3, 1) := by decide +kernel
theorem d_Led_code_11 : decode prog_1_method_6_code 11 = .ok (.getfield 104, 3) := by decide +kernel
theorem d_Led_code_14 : decode prog_1_method_6_code 14 = .ok (.sipush 160, 3) := by decide +kernel
theorem d_Led_code_17 : decode prog_1_method_6_code 17 = .ok (.if_icmp .ne 5, 3) := by decide +kernel
theorem d_Led_code_20 : decode prog_1_method_6_code 20 = .ok (.iconst (-1), 1) := by decide +kernel
theorem d_Led_code_21 : decode prog_1_method_6_code 21 = .ok (.ireturn, 1) := by decide +kernel
theorem d_Led_code_22 : decode prog_1_method_6_code 22 = .ok (.aload_n 3, 1) := by decide +kernel
theorem d_Led_code_23 : decode prog_1_method_6_code 23 = .ok (.getfield 107, 3) := by decide +kernel
theorem d_Led_code_26 : decode prog_1_method_6_code 26 = .ok (.aload_n 3, 1) := by decide +kernel
theorem d_Led_code_27 : decode prog_1_method_6_code 27 = .ok (.getfield 104, 3) := by decide +kernel
theorem d_Led_code_30 : decode prog_1_method_6_code 30 = .ok (.iload_n 2, 1) := by decide +kernel
theorem d_Led_code_31 : decode prog_1_method_6_code 31 = .ok (.iastore, 1) := by decide +kernel
theorem d_Led_code_32 : decode prog_1_method_6_code 32 = .ok (.aload_n 3, 1) := by decide +kernel
theorem d_Led_code_33 : decode prog_1_method_6_code 33 = .ok (.dup, 1) := by decide +kernel
theorem d_Led_code_34 : decode prog_1_method_6_code 34 = .ok (.getfield 104, 3) := by decide +kernel
theorem d_Led_code_37 : decode prog_1_method_6_code 37 = .ok (.iconst 1, 1) := by decide +kernel
theorem d_Led_code_38 : decode prog_1_method_6_code 38 = .ok (.iadd, 1) := by decide +kernel
theorem d_Led_code_39 : decode prog_1_method_6_code 39 = .ok (.putfield 104, 3) := by decide +kernel
theorem d_Led_code_42 : decode prog_1_method_6_code 42 = .ok (.aload_n 3, 1) := by decide +kernel
theorem d_Led_code_43 : decode prog_1_method_6_code 43 = .ok (.getfield 104, 3) := by decide +kernel
theorem d_Led_code_46 : decode prog_1_method_6_code 46 = .ok (.ireturn, 1) := by decide +kernel
theorem d_Led_seal_0 : decode prog_1_method_7_code 0 = .ok (.aload_n 0, 1) := by decide +kernel
theorem d_Led_seal_1 : decode prog_1_method_7_code 1 = .ok (.iload_n 1, 1) := by decide +kernel
theorem d_Led_seal_2 : decode prog_1_method_7_code 2 = .ok (.invokevirtual 96, 3) := by decide +kernel
theorem d_Led_seal_5 : decode prog_1_method_7_code 5 = .ok (.astore_n 2, 1) := by decide +kernel
theorem d_Led_seal_6 : decode prog_1_method_7_code 6 = .ok (.aload_n 2, 1) := by decide +kernel
theorem d_Led_seal_7 : decode prog_1_method_7_code 7 = .ok (.invokestatic 100, 3) := by decide +kernel
theorem d_Led_seal_10 : decode prog_1_method_7_code 10 = .ok (.iconst 0, 1) := by decide +kernel
theorem d_Led_seal_11 : decode prog_1_method_7_code 11 = .ok (.istore_n 3, 1) := by decide +kernel
theorem d_Led_seal_12 : decode prog_1_method_7_code 12 = .ok (.iload_n 3, 1) := by decide +kernel
theorem d_Led_seal_13 : decode prog_1_method_7_code 13 = .ok (.aload_n 2, 1) := by decide +kernel
theorem d_Led_seal_14 : decode prog_1_method_7_code 14 = .ok (.getfield 104, 3) := by decide +kernel
theorem d_Led_seal_17 : decode prog_1_method_7_code 17 = .ok (.if_icmp .ge 64, 3) := by decide +kernel
theorem d_Led_seal_20 : decode prog_1_method_7_code 20 = .ok (.aload_n 2, 1) := by decide +kernel
theorem d_Led_seal_21 : decode prog_1_method_7_code 21 = .ok (.getfield 107, 3) := by decide +kernel
theorem d_Led_seal_24 : decode prog_1_method_7_code 24 = .ok (.iload_n 3, 1) := by decide +kernel
theorem d_Led_seal_25 : decode prog_1_method_7_code 25 = .ok (.iaload, 1) := by decide +kernel
theorem d_Led_seal_26 : decode prog_1_method_7_code 26 = .ok (.sipush 255, 3) := by decide +kernel
theorem d_Led_seal_29 : decode prog_1_method_7_code 29 = .ok (.iand, 1) := by decide +kernel
theorem d_Led_seal_30 : decode prog_1_method_7_code 30 = .ok (.istore 4, 2) := by decide +kernel
theorem d_Led_seal_32 : decode prog_1_method_7_code 32 = .ok (.iload 4, 2) := by decide +kernel
theorem d_Led_seal_34 : decode prog_1_method_7_code 34 = .ok (.aload_n 0, 1) := by decide +kernel
theorem d_Led_seal_35 : decode prog_1_method_7_code 35 = .ok (.getfield 22, 3) := by decide +kernel
theorem d_Led_seal_38 : decode prog_1_method_7_code 38 = .ok (.arraylength, 1) := by decide +kernel
theorem d_Led_seal_39 : decode prog_1_method_7_code 39 = .ok (.if_icmp .ge 29, 3) := by decide +kernel
theorem d_Led_seal_42 : decode prog_1_method_7_code 42 = .ok (.aload_n 0, 1) := by decide +kernel
theorem d_Led_seal_43 : decode prog_1_method_7_code 43 = .ok (.getfield 22, 3) := by decide +kernel
theorem d_Led_seal_46 : decode prog_1_method_7_code 46 = .ok (.iload 4, 2) := by decide +kernel
theorem d_Led_seal_48 : decode prog_1_method_7_code 48 = .ok (.aaload, 1) := by decide +kernel
theorem d_Led_seal_49 : decode prog_1_method_7_code 49 = .ok (.aload_n 2, 1) := by decide +kernel
theorem d_Led_seal_50 : decode prog_1_method_7_code 50 = .ok (.getfield 107, 3) := by decide +kernel
theorem d_Led_seal_53 : decode prog_1_method_7_code 53 = .ok (.iload_n 3, 1) := by decide +kernel
theorem d_Led_seal_54 : decode prog_1_method_7_code 54 = .ok (.iaload, 1) := by decide +kernel
theorem d_Led_seal_55 : decode prog_1_method_7_code 55 = .ok (.bipush 8, 2) := by decide +kernel
theorem d_Led_seal_57 : decode prog_1_method_7_code 57 = .ok (.ishr, 1) := by decide +kernel
theorem d_Led_seal_58 : decode prog_1_method_7_code 58 = .ok (.aload_n 2, 1) := by decide +kernel
theorem d_Led_seal_59 : decode prog_1_method_7_code 59 = .ok (.getfield 104, 3) := by decide +kernel
theorem d_Led_seal_62 : decode prog_1_method_7_code 62 = .ok (.invokevirtual 110, 3) := by decide +kernel
theorem d_Led_seal_65 : decode prog_1_method_7_code 65 = .ok (.ifCond .ne 10, 3) := by decide +kernel
theorem d_Led_seal_68 : decode prog_1_method_7_code 68 = .ok (.aload_n 2, 1) := by decide +kernel
theorem d_Led_seal_69 : decode prog_1_method_7_code 69 = .ok (.iconst 0, 1) := by decide +kernel
theorem d_Led_seal_70 : decode prog_1_method_7_code 70 = .ok (.putfield 104, 3) := by decide +kernel
theorem d_Led_seal_73 : decode prog_1_method_7_code 73 = .ok (.iload_n 3, 1) := by decide +kernel
theorem d_Led_seal_74 : decode prog_1_method_7_code 74 = .ok (.ireturn, 1) := by decide +kernel
theorem d_Led_seal_75 : decode prog_1_method_7_code 75 = .ok (.iinc 3 1, 3) := by decide +kernel
theorem d_Led_seal_78 : decode prog_1_method_7_code 78 = .ok (.goto (-66), 3) := by decide +kernel
theorem d_Led_seal_81 : decode prog_1_method_7_code 81 = .ok (.aload_n 2, 1) := by decide +kernel
theorem d_Led_seal_82 : decode prog_1_method_7_code 82 = .ok (.iconst 1, 1) := by decide +kernel
theorem d_Led_seal_83 : decode prog_1_method_7_code 83 = .ok (.putfield 67, 3) := by decide +kernel
theorem d_Led_seal_86 : decode prog_1_method_7_code 86 = .ok (.iconst (-1), 1) := by decide +kernel
theorem d_Led_seal_87 : decode prog_1_method_7_code 87 = .ok (.ireturn, 1) := by decide +kernel
theorem d_Led_balance_0 : decode prog_1_method_12_code 0 = .ok (.aload_n 0, 1) := by decide +kernel
theorem d_Led_balance_1 : decode prog_1_method_12_code 1 = .ok (.iload_n 1, 1) := by decide +kernel
theorem d_Led_balance_2 : decode prog_1_method_12_code 2 = .ok (.invokevirtual 96, 3) := by decide +kernel
theorem d_Led_balance_5 : decode prog_1_method_12_code 5 = .ok (.getfield 117, 3) := by decide +kernel
theorem d_Led_balance_8 : decode prog_1_method_12_code 8 = .ok (.ireturn, 1) := by decide +kernel
theorem d_Led_storage_0 : decode prog_1_method_13_code 0 = .ok (.aload_n 0, 1) := by decide +kernel
theorem d_Led_storage_1 : decode prog_1_method_13_code 1 = .ok (.iload_n 1, 1) := by decide +kernel
theorem d_Led_storage_2 : decode prog_1_method_13_code 2 = .ok (.invokevirtual 96, 3) := by decide +kernel
theorem d_Led_storage_5 : decode prog_1_method_13_code 5 = .ok (.pop, 1) := by decide +kernel
theorem d_Led_storage_6 : decode prog_1_method_13_code 6 = .ok (.aload_n 0, 1) := by decide +kernel
theorem d_Led_storage_7 : decode prog_1_method_13_code 7 = .ok (.getfield 10, 3) := by decide +kernel
theorem d_Led_storage_10 : decode prog_1_method_13_code 10 = .ok (.iload_n 1, 1) := by decide +kernel
theorem d_Led_storage_11 : decode prog_1_method_13_code 11 = .ok (.iload_n 2, 1) := by decide +kernel
theorem d_Led_storage_12 : decode prog_1_method_13_code 12 = .ok (.invokevirtual 154, 3) := by decide +kernel
theorem d_Led_storage_15 : decode prog_1_method_13_code 15 = .ok (.ireturn, 1) := by decide +kernel
theorem d_Led_log_0 : decode prog_1_method_16_code 0 = .ok (.iload_n 1, 1) := by decide +kernel
theorem d_Led_log_1 : decode prog_1_method_16_code 1 = .ok (.ifCond .lt 14, 3) := by decide +kernel
theorem d_Led_log_4 : decode prog_1_method_16_code 4 = .ok (.iload_n 1, 1) := by decide +kernel
theorem d_Led_log_5 : decode prog_1_method_16_code 5 = .ok (.aload_n 0, 1) := by decide +kernel
theorem d_Led_log_6 : decode prog_1_method_16_code 6 = .ok (.getfield 10, 3) := by decide +kernel
theorem d_Led_log_9 : decode prog_1_method_16_code 9 = .ok (.getfield 165, 3) := by decide +kernel
theorem d_Led_log_12 : decode prog_1_method_16_code 12 = .ok (.if_icmp .lt 13, 3) := by decide +kernel
theorem d_Led_log_15 : decode prog_1_method_16_code 15 = .ok (.new 43, 3) := by decide +kernel
theorem d_Led_log_18 : decode prog_1_method_16_code 18 = .ok (.dup, 1) := by decide +kernel
theorem d_Led_log_19 : decode prog_1_method_16_code 19 = .ok (.ldc 168, 2) := by decide +kernel
theorem d_Led_log_21 : decode prog_1_method_16_code 21 = .ok (.invokespecial 47, 3) := by decide +kernel
theorem d_Led_log_24 : decode prog_1_method_16_code 24 = .ok (.athrow, 1) := by decide +kernel
theorem d_Led_log_25 : decode prog_1_method_16_code 25 = .ok (.aload_n 0, 1) := by decide +kernel
theorem d_Led_log_26 : decode prog_1_method_16_code 26 = .ok (.getfield 10, 3) := by decide +kernel
theorem d_Led_log_29 : decode prog_1_method_16_code 29 = .ok (.getfield 170, 3) := by decide +kernel
theorem d_Led_log_32 : decode prog_1_method_16_code 32 = .ok (.iload_n 1, 1) := by decide +kernel
theorem d_Led_log_33 : decode prog_1_method_16_code 33 = .ok (.iaload, 1) := by decide +kernel
theorem d_Led_log_34 : decode prog_1_method_16_code 34 = .ok (.ireturn, 1) := by decide +kernel
