theorem d_Law_code_0 : decode method_4_code 0 = .ok (.aload_n 3, 1) := by decide +kernel
theorem d_Law_code_1 : decode method_4_code 1 = .ok (.iconst 0, 1) := by decide +kernel
theorem d_Law_code_2 : decode method_4_code 2 = .ok (.aload_n 0, 1) := by decide +kernel
theorem d_Law_code_3 : decode method_4_code 3 = .ok (.iload_n 1, 1) := by decide +kernel
theorem d_Law_code_4 : decode method_4_code 4 = .ok (.iload_n 2, 1) := by decide +kernel
theorem d_Law_code_5 : decode method_4_code 5 = .ok (.invokevirtual 15, 3) := by decide +kernel
theorem d_Law_code_8 : decode method_4_code 8 = .ok (.i2l, 1) := by decide +kernel
theorem d_Law_code_9 : decode method_4_code 9 = .ok (.lastore, 1) := by decide +kernel
theorem d_Law_code_10 : decode method_4_code 10 = .ok (.goto 11, 3) := by decide +kernel
theorem d_Law_code_13 : decode method_4_code 13 = .ok (.astore 4, 2) := by decide +kernel
theorem d_Law_code_15 : decode method_4_code 15 = .ok (.iconst 1, 1) := by decide +kernel
theorem d_Law_code_16 : decode method_4_code 16 = .ok (.ireturn, 1) := by decide +kernel
theorem d_Law_code_17 : decode method_4_code 17 = .ok (.astore 4, 2) := by decide +kernel
theorem d_Law_code_19 : decode method_4_code 19 = .ok (.iconst 2, 1) := by decide +kernel
theorem d_Law_code_20 : decode method_4_code 20 = .ok (.ireturn, 1) := by decide +kernel
theorem d_Law_code_21 : decode method_4_code 21 = .ok (.iconst 0, 1) := by decide +kernel
theorem d_Law_code_22 : decode method_4_code 22 = .ok (.ireturn, 1) := by decide +kernel
theorem d_Law_seal_0 : decode method_5_code 0 = .ok (.aload_n 2, 1) := by decide +kernel
theorem d_Law_seal_1 : decode method_5_code 1 = .ok (.iconst 0, 1) := by decide +kernel
theorem d_Law_seal_2 : decode method_5_code 2 = .ok (.aload_n 0, 1) := by decide +kernel
theorem d_Law_seal_3 : decode method_5_code 3 = .ok (.iload_n 1, 1) := by decide +kernel
theorem d_Law_seal_4 : decode method_5_code 4 = .ok (.invokevirtual 23, 3) := by decide +kernel
theorem d_Law_seal_7 : decode method_5_code 7 = .ok (.i2l, 1) := by decide +kernel
theorem d_Law_seal_8 : decode method_5_code 8 = .ok (.lastore, 1) := by decide +kernel
theorem d_Law_seal_9 : decode method_5_code 9 = .ok (.goto 9, 3) := by decide +kernel
theorem d_Law_seal_12 : decode method_5_code 12 = .ok (.astore_n 3, 1) := by decide +kernel
theorem d_Law_seal_13 : decode method_5_code 13 = .ok (.iconst 1, 1) := by decide +kernel
theorem d_Law_seal_14 : decode method_5_code 14 = .ok (.ireturn, 1) := by decide +kernel
theorem d_Law_seal_15 : decode method_5_code 15 = .ok (.astore_n 3, 1) := by decide +kernel
theorem d_Law_seal_16 : decode method_5_code 16 = .ok (.iconst 2, 1) := by decide +kernel
theorem d_Law_seal_17 : decode method_5_code 17 = .ok (.ireturn, 1) := by decide +kernel
theorem d_Law_seal_18 : decode method_5_code 18 = .ok (.iconst 0, 1) := by decide +kernel
theorem d_Law_seal_19 : decode method_5_code 19 = .ok (.ireturn, 1) := by decide +kernel
theorem d_Law_transact_0 : decode method_6_code 0 = .ok (.aload 5, 2) := by decide +kernel
theorem d_Law_transact_2 : decode method_6_code 2 = .ok (.iconst 0, 1) := by decide +kernel
theorem d_Law_transact_3 : decode method_6_code 3 = .ok (.aload_n 0, 1) := by decide +kernel
theorem d_Law_transact_4 : decode method_6_code 4 = .ok (.iload_n 1, 1) := by decide +kernel
theorem d_Law_transact_5 : decode method_6_code 5 = .ok (.iload_n 2, 1) := by decide +kernel
theorem d_Law_transact_6 : decode method_6_code 6 = .ok (.iload_n 3, 1) := by decide +kernel
theorem d_Law_transact_7 : decode method_6_code 7 = .ok (.iload 4, 2) := by decide +kernel
theorem d_Law_transact_9 : decode method_6_code 9 = .ok (.invokevirtual 26, 3) := by decide +kernel
theorem d_Law_transact_12 : decode method_6_code 12 = .ok (.i2l, 1) := by decide +kernel
theorem d_Law_transact_13 : decode method_6_code 13 = .ok (.lastore, 1) := by decide +kernel
theorem d_Law_transact_14 : decode method_6_code 14 = .ok (.goto 11, 3) := by decide +kernel
theorem d_Law_transact_17 : decode method_6_code 17 = .ok (.astore 6, 2) := by decide +kernel
theorem d_Law_transact_19 : decode method_6_code 19 = .ok (.iconst 1, 1) := by decide +kernel
theorem d_Law_transact_20 : decode method_6_code 20 = .ok (.ireturn, 1) := by decide +kernel
theorem d_Law_transact_21 : decode method_6_code 21 = .ok (.astore 6, 2) := by decide +kernel
theorem d_Law_transact_23 : decode method_6_code 23 = .ok (.iconst 2, 1) := by decide +kernel
theorem d_Law_transact_24 : decode method_6_code 24 = .ok (.ireturn, 1) := by decide +kernel
theorem d_Law_transact_25 : decode method_6_code 25 = .ok (.iconst 0, 1) := by decide +kernel
theorem d_Law_transact_26 : decode method_6_code 26 = .ok (.ireturn, 1) := by decide +kernel
theorem d_Law_balance_0 : decode method_7_code 0 = .ok (.aload_n 2, 1) := by decide +kernel
theorem d_Law_balance_1 : decode method_7_code 1 = .ok (.iconst 0, 1) := by decide +kernel
theorem d_Law_balance_2 : decode method_7_code 2 = .ok (.aload_n 0, 1) := by decide +kernel
theorem d_Law_balance_3 : decode method_7_code 3 = .ok (.iload_n 1, 1) := by decide +kernel
theorem d_Law_balance_4 : decode method_7_code 4 = .ok (.invokevirtual 30, 3) := by decide +kernel
theorem d_Law_balance_7 : decode method_7_code 7 = .ok (.i2l, 1) := by decide +kernel
theorem d_Law_balance_8 : decode method_7_code 8 = .ok (.lastore, 1) := by decide +kernel
theorem d_Law_balance_9 : decode method_7_code 9 = .ok (.goto 6, 3) := by decide +kernel
theorem d_Law_balance_12 : decode method_7_code 12 = .ok (.astore_n 3, 1) := by decide +kernel
theorem d_Law_balance_13 : decode method_7_code 13 = .ok (.iconst 1, 1) := by decide +kernel
theorem d_Law_balance_14 : decode method_7_code 14 = .ok (.ireturn, 1) := by decide +kernel
theorem d_Law_balance_15 : decode method_7_code 15 = .ok (.iconst 0, 1) := by decide +kernel
theorem d_Law_balance_16 : decode method_7_code 16 = .ok (.ireturn, 1) := by decide +kernel
theorem d_Law_storage_0 : decode method_8_code 0 = .ok (.aload_n 3, 1) := by decide +kernel
theorem d_Law_storage_1 : decode method_8_code 1 = .ok (.iconst 0, 1) := by decide +kernel
theorem d_Law_storage_2 : decode method_8_code 2 = .ok (.aload_n 0, 1) := by decide +kernel
theorem d_Law_storage_3 : decode method_8_code 3 = .ok (.iload_n 1, 1) := by decide +kernel
theorem d_Law_storage_4 : decode method_8_code 4 = .ok (.iload_n 2, 1) := by decide +kernel
theorem d_Law_storage_5 : decode method_8_code 5 = .ok (.invokevirtual 33, 3) := by decide +kernel
theorem d_Law_storage_8 : decode method_8_code 8 = .ok (.i2l, 1) := by decide +kernel
theorem d_Law_storage_9 : decode method_8_code 9 = .ok (.lastore, 1) := by decide +kernel
theorem d_Law_storage_10 : decode method_8_code 10 = .ok (.goto 7, 3) := by decide +kernel
theorem d_Law_storage_13 : decode method_8_code 13 = .ok (.astore 4, 2) := by decide +kernel
theorem d_Law_storage_15 : decode method_8_code 15 = .ok (.iconst 1, 1) := by decide +kernel
theorem d_Law_storage_16 : decode method_8_code 16 = .ok (.ireturn, 1) := by decide +kernel
theorem d_Law_storage_17 : decode method_8_code 17 = .ok (.iconst 0, 1) := by decide +kernel
theorem d_Law_storage_18 : decode method_8_code 18 = .ok (.ireturn, 1) := by decide +kernel
theorem d_Law_log_0 : decode method_9_code 0 = .ok (.aload_n 2, 1) := by decide +kernel
theorem d_Law_log_1 : decode method_9_code 1 = .ok (.iconst 0, 1) := by decide +kernel
theorem d_Law_log_2 : decode method_9_code 2 = .ok (.aload_n 0, 1) := by decide +kernel
theorem d_Law_log_3 : decode method_9_code 3 = .ok (.iload_n 1, 1) := by decide +kernel
theorem d_Law_log_4 : decode method_9_code 4 = .ok (.invokevirtual 36, 3) := by decide +kernel
theorem d_Law_log_7 : decode method_9_code 7 = .ok (.i2l, 1) := by decide +kernel
theorem d_Law_log_8 : decode method_9_code 8 = .ok (.lastore, 1) := by decide +kernel
theorem d_Law_log_9 : decode method_9_code 9 = .ok (.goto 6, 3) := by decide +kernel
theorem d_Law_log_12 : decode method_9_code 12 = .ok (.astore_n 3, 1) := by decide +kernel
theorem d_Law_log_13 : decode method_9_code 13 = .ok (.iconst 1, 1) := by decide +kernel
theorem d_Law_log_14 : decode method_9_code 14 = .ok (.ireturn, 1) := by decide +kernel
theorem d_Law_log_15 : decode method_9_code 15 = .ok (.iconst 0, 1) := by decide +kernel
theorem d_Law_log_16 : decode method_9_code 16 = .ok (.ireturn, 1) := by decide +kernel
