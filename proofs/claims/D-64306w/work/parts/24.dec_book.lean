theorem d_Book_has_0 : decode prog_3_method_2_code 0 = .ok (.iload_n 1, 1) := by decide +kernel
theorem d_Book_has_1 : decode prog_3_method_2_code 1 = .ok (.ifCond .lt 20, 3) := by decide +kernel
theorem d_Book_has_4 : decode prog_3_method_2_code 4 = .ok (.iload_n 1, 1) := by decide +kernel
theorem d_Book_has_5 : decode prog_3_method_2_code 5 = .ok (.aload_n 0, 1) := by decide +kernel
theorem d_Book_has_6 : decode prog_3_method_2_code 6 = .ok (.getfield 12, 3) := by decide +kernel
theorem d_Book_has_9 : decode prog_3_method_2_code 9 = .ok (.invokeinterface 36 1, 5) := by decide +kernel
theorem d_Book_has_14 : decode prog_3_method_2_code 14 = .ok (.if_icmp .ge 7, 3) := by decide +kernel
theorem d_Book_has_17 : decode prog_3_method_2_code 17 = .ok (.iconst 1, 1) := by decide +kernel
theorem d_Book_has_18 : decode prog_3_method_2_code 18 = .ok (.goto 4, 3) := by decide +kernel
theorem d_Book_has_21 : decode prog_3_method_2_code 21 = .ok (.iconst 0, 1) := by decide +kernel
theorem d_Book_has_22 : decode prog_3_method_2_code 22 = .ok (.ireturn, 1) := by decide +kernel
theorem d_Book_balance_0 : decode prog_3_method_3_code 0 = .ok (.aload_n 0, 1) := by decide +kernel
theorem d_Book_balance_1 : decode prog_3_method_3_code 1 = .ok (.iload_n 1, 1) := by decide +kernel
theorem d_Book_balance_2 : decode prog_3_method_3_code 2 = .ok (.invokevirtual 42, 3) := by decide +kernel
theorem d_Book_balance_5 : decode prog_3_method_3_code 5 = .ok (.ifCond .eq 22, 3) := by decide +kernel
theorem d_Book_balance_8 : decode prog_3_method_3_code 8 = .ok (.aload_n 0, 1) := by decide +kernel
theorem d_Book_balance_9 : decode prog_3_method_3_code 9 = .ok (.getfield 12, 3) := by decide +kernel
theorem d_Book_balance_12 : decode prog_3_method_3_code 12 = .ok (.iload_n 1, 1) := by decide +kernel
theorem d_Book_balance_13 : decode prog_3_method_3_code 13 = .ok (.invokeinterface 46 2, 5) := by decide +kernel
theorem d_Book_balance_18 : decode prog_3_method_3_code 18 = .ok (.checkcast 50, 3) := by decide +kernel
theorem d_Book_balance_21 : decode prog_3_method_3_code 21 = .ok (.getfield 52, 3) := by decide +kernel
theorem d_Book_balance_24 : decode prog_3_method_3_code 24 = .ok (.goto 4, 3) := by decide +kernel
theorem d_Book_balance_27 : decode prog_3_method_3_code 27 = .ok (.iconst (-1), 1) := by decide +kernel
theorem d_Book_balance_28 : decode prog_3_method_3_code 28 = .ok (.ireturn, 1) := by decide +kernel
theorem d_Book_stored_0 : decode prog_3_method_5_code 0 = .ok (.aload_n 0, 1) := by decide +kernel
theorem d_Book_stored_1 : decode prog_3_method_5_code 1 = .ok (.getfield 21, 3) := by decide +kernel
theorem d_Book_stored_4 : decode prog_3_method_5_code 4 = .ok (.iload_n 1, 1) := by decide +kernel
theorem d_Book_stored_5 : decode prog_3_method_5_code 5 = .ok (.iload_n 2, 1) := by decide +kernel
theorem d_Book_stored_6 : decode prog_3_method_5_code 6 = .ok (.invokestatic 58, 3) := by decide +kernel
theorem d_Book_stored_9 : decode prog_3_method_5_code 9 = .ok (.invokevirtual 62, 3) := by decide +kernel
theorem d_Book_stored_12 : decode prog_3_method_5_code 12 = .ok (.ireturn, 1) := by decide +kernel
theorem d_Book_set_0 : decode prog_3_method_6_code 0 = .ok (.aload_n 0, 1) := by decide +kernel
theorem d_Book_set_1 : decode prog_3_method_6_code 1 = .ok (.getfield 21, 3) := by decide +kernel
theorem d_Book_set_4 : decode prog_3_method_6_code 4 = .ok (.iload_n 1, 1) := by decide +kernel
theorem d_Book_set_5 : decode prog_3_method_6_code 5 = .ok (.iload_n 2, 1) := by decide +kernel
theorem d_Book_set_6 : decode prog_3_method_6_code 6 = .ok (.invokestatic 58, 3) := by decide +kernel
theorem d_Book_set_9 : decode prog_3_method_6_code 9 = .ok (.iload_n 3, 1) := by decide +kernel
theorem d_Book_set_10 : decode prog_3_method_6_code 10 = .ok (.invokevirtual 65, 3) := by decide +kernel
theorem d_Book_set_13 : decode prog_3_method_6_code 13 = .ok (.return_, 1) := by decide +kernel
theorem d_Book_store_0 : decode prog_3_method_7_code 0 = .ok (.aload_n 0, 1) := by decide +kernel
theorem d_Book_store_1 : decode prog_3_method_7_code 1 = .ok (.getfield 28, 3) := by decide +kernel
theorem d_Book_store_4 : decode prog_3_method_7_code 4 = .ok (.iload_n 1, 1) := by decide +kernel
theorem d_Book_store_5 : decode prog_3_method_7_code 5 = .ok (.iconst 1, 1) := by decide +kernel
theorem d_Book_store_6 : decode prog_3_method_7_code 6 = .ok (.iload_n 2, 1) := by decide +kernel
theorem d_Book_store_7 : decode prog_3_method_7_code 7 = .ok (.aload_n 0, 1) := by decide +kernel
theorem d_Book_store_8 : decode prog_3_method_7_code 8 = .ok (.iload_n 1, 1) := by decide +kernel
theorem d_Book_store_9 : decode prog_3_method_7_code 9 = .ok (.iload_n 2, 1) := by decide +kernel
theorem d_Book_store_10 : decode prog_3_method_7_code 10 = .ok (.invokevirtual 69, 3) := by decide +kernel
theorem d_Book_store_13 : decode prog_3_method_7_code 13 = .ok (.invokevirtual 73, 3) := by decide +kernel
theorem d_Book_store_16 : decode prog_3_method_7_code 16 = .ok (.aload_n 0, 1) := by decide +kernel
theorem d_Book_store_17 : decode prog_3_method_7_code 17 = .ok (.iload_n 1, 1) := by decide +kernel
theorem d_Book_store_18 : decode prog_3_method_7_code 18 = .ok (.iload_n 2, 1) := by decide +kernel
theorem d_Book_store_19 : decode prog_3_method_7_code 19 = .ok (.iload_n 3, 1) := by decide +kernel
theorem d_Book_store_20 : decode prog_3_method_7_code 20 = .ok (.invokevirtual 77, 3) := by decide +kernel
theorem d_Book_store_23 : decode prog_3_method_7_code 23 = .ok (.return_, 1) := by decide +kernel
theorem d_Book_pay_0 : decode prog_3_method_8_code 0 = .ok (.aload_n 0, 1) := by decide +kernel
theorem d_Book_pay_1 : decode prog_3_method_8_code 1 = .ok (.getfield 12, 3) := by decide +kernel
theorem d_Book_pay_4 : decode prog_3_method_8_code 4 = .ok (.iload_n 1, 1) := by decide +kernel
theorem d_Book_pay_5 : decode prog_3_method_8_code 5 = .ok (.invokeinterface 46 2, 5) := by decide +kernel
theorem d_Book_pay_10 : decode prog_3_method_8_code 10 = .ok (.checkcast 50, 3) := by decide +kernel
theorem d_Book_pay_13 : decode prog_3_method_8_code 13 = .ok (.astore_n 3, 1) := by decide +kernel
theorem d_Book_pay_14 : decode prog_3_method_8_code 14 = .ok (.aload_n 0, 1) := by decide +kernel
theorem d_Book_pay_15 : decode prog_3_method_8_code 15 = .ok (.getfield 28, 3) := by decide +kernel
theorem d_Book_pay_18 : decode prog_3_method_8_code 18 = .ok (.iload_n 1, 1) := by decide +kernel
theorem d_Book_pay_19 : decode prog_3_method_8_code 19 = .ok (.iconst 0, 1) := by decide +kernel
theorem d_Book_pay_20 : decode prog_3_method_8_code 20 = .ok (.iconst 0, 1) := by decide +kernel
theorem d_Book_pay_21 : decode prog_3_method_8_code 21 = .ok (.aload_n 3, 1) := by decide +kernel
theorem d_Book_pay_22 : decode prog_3_method_8_code 22 = .ok (.getfield 52, 3) := by decide +kernel
theorem d_Book_pay_25 : decode prog_3_method_8_code 25 = .ok (.invokevirtual 73, 3) := by decide +kernel
theorem d_Book_pay_28 : decode prog_3_method_8_code 28 = .ok (.aload_n 3, 1) := by decide +kernel
theorem d_Book_pay_29 : decode prog_3_method_8_code 29 = .ok (.dup, 1) := by decide +kernel
theorem d_Book_pay_30 : decode prog_3_method_8_code 30 = .ok (.getfield 52, 3) := by decide +kernel
theorem d_Book_pay_33 : decode prog_3_method_8_code 33 = .ok (.iload_n 2, 1) := by decide +kernel
theorem d_Book_pay_34 : decode prog_3_method_8_code 34 = .ok (.iadd, 1) := by decide +kernel
theorem d_Book_pay_35 : decode prog_3_method_8_code 35 = .ok (.putfield 52, 3) := by decide +kernel
theorem d_Book_pay_38 : decode prog_3_method_8_code 38 = .ok (.return_, 1) := by decide +kernel
theorem d_Book_move_0 : decode prog_3_method_9_code 0 = .ok (.aload_n 0, 1) := by decide +kernel
theorem d_Book_move_1 : decode prog_3_method_9_code 1 = .ok (.iload_n 1, 1) := by decide +kernel
theorem d_Book_move_2 : decode prog_3_method_9_code 2 = .ok (.iload_n 3, 1) := by decide +kernel
theorem d_Book_move_3 : decode prog_3_method_9_code 3 = .ok (.ineg, 1) := by decide +kernel
theorem d_Book_move_4 : decode prog_3_method_9_code 4 = .ok (.invokevirtual 80, 3) := by decide +kernel
theorem d_Book_move_7 : decode prog_3_method_9_code 7 = .ok (.aload_n 0, 1) := by decide +kernel
theorem d_Book_move_8 : decode prog_3_method_9_code 8 = .ok (.iload_n 2, 1) := by decide +kernel
theorem d_Book_move_9 : decode prog_3_method_9_code 9 = .ok (.iload_n 3, 1) := by decide +kernel
theorem d_Book_move_10 : decode prog_3_method_9_code 10 = .ok (.invokevirtual 80, 3) := by decide +kernel
theorem d_Book_move_13 : decode prog_3_method_9_code 13 = .ok (.return_, 1) := by decide +kernel
theorem d_Book_undo_0 : decode prog_3_method_11_code 0 = .ok (.aload_n 0, 1) := by decide +kernel
theorem d_Book_undo_1 : decode prog_3_method_11_code 1 = .ok (.getfield 28, 3) := by decide +kernel
theorem d_Book_undo_4 : decode prog_3_method_11_code 4 = .ok (.getfield 87, 3) := by decide +kernel
theorem d_Book_undo_7 : decode prog_3_method_11_code 7 = .ok (.iload_n 1, 1) := by decide +kernel
theorem d_Book_undo_8 : decode prog_3_method_11_code 8 = .ok (.if_icmp .le 106, 3) := by decide +kernel
theorem d_Book_undo_11 : decode prog_3_method_11_code 11 = .ok (.aload_n 0, 1) := by decide +kernel
theorem d_Book_undo_12 : decode prog_3_method_11_code 12 = .ok (.getfield 28, 3) := by decide +kernel
theorem d_Book_undo_15 : decode prog_3_method_11_code 15 = .ok (.dup, 1) := by decide +kernel
theorem d_Book_undo_16 : decode prog_3_method_11_code 16 = .ok (.getfield 87, 3) := by decide +kernel
theorem d_Book_undo_19 : decode prog_3_method_11_code 19 = .ok (.iconst 1, 1) := by decide +kernel
theorem d_Book_undo_20 : decode prog_3_method_11_code 20 = .ok (.isub, 1) := by decide +kernel
theorem d_Book_undo_21 : decode prog_3_method_11_code 21 = .ok (.putfield 87, 3) := by decide +kernel
theorem d_Book_undo_24 : decode prog_3_method_11_code 24 = .ok (.aload_n 0, 1) := by decide +kernel
theorem d_Book_undo_25 : decode prog_3_method_11_code 25 = .ok (.getfield 28, 3) := by decide +kernel
theorem d_Book_undo_28 : decode prog_3_method_11_code 28 = .ok (.getfield 87, 3) := by decide +kernel
theorem d_Book_undo_31 : decode prog_3_method_11_code 31 = .ok (.istore_n 3, 1) := by decide +kernel
theorem d_Book_undo_32 : decode prog_3_method_11_code 32 = .ok (.aload_n 0, 1) := by decide +kernel
theorem d_Book_undo_33 : decode prog_3_method_11_code 33 = .ok (.getfield 28, 3) := by decide +kernel
theorem d_Book_undo_36 : decode prog_3_method_11_code 36 = .ok (.getfield 89, 3) := by decide +kernel
theorem d_Book_undo_39 : decode prog_3_method_11_code 39 = .ok (.iload_n 3, 1) := by decide +kernel
theorem d_Book_undo_40 : decode prog_3_method_11_code 40 = .ok (.baload, 1) := by decide +kernel
theorem d_Book_undo_41 : decode prog_3_method_11_code 41 = .ok (.ifCond .eq 37, 3) := by decide +kernel
theorem d_Book_undo_44 : decode prog_3_method_11_code 44 = .ok (.aload_n 0, 1) := by decide +kernel
theorem d_Book_undo_45 : decode prog_3_method_11_code 45 = .ok (.aload_n 0, 1) := by decide +kernel
theorem d_Book_undo_46 : decode prog_3_method_11_code 46 = .ok (.getfield 28, 3) := by decide +kernel
theorem d_Book_undo_49 : decode prog_3_method_11_code 49 = .ok (.getfield 92, 3) := by decide +kernel
theorem d_Book_undo_52 : decode prog_3_method_11_code 52 = .ok (.iload_n 3, 1) := by decide +kernel
theorem d_Book_undo_53 : decode prog_3_method_11_code 53 = .ok (.baload, 1) := by decide +kernel
theorem d_Book_undo_54 : decode prog_3_method_11_code 54 = .ok (.aload_n 0, 1) := by decide +kernel
theorem d_Book_undo_55 : decode prog_3_method_11_code 55 = .ok (.getfield 28, 3) := by decide +kernel
theorem d_Book_undo_58 : decode prog_3_method_11_code 58 = .ok (.getfield 95, 3) := by decide +kernel
theorem d_Book_undo_61 : decode prog_3_method_11_code 61 = .ok (.iload_n 3, 1) := by decide +kernel
theorem d_Book_undo_62 : decode prog_3_method_11_code 62 = .ok (.iaload, 1) := by decide +kernel
theorem d_Book_undo_63 : decode prog_3_method_11_code 63 = .ok (.aload_n 0, 1) := by decide +kernel
theorem d_Book_undo_64 : decode prog_3_method_11_code 64 = .ok (.getfield 28, 3) := by decide +kernel
theorem d_Book_undo_67 : decode prog_3_method_11_code 67 = .ok (.getfield 98, 3) := by decide +kernel
theorem d_Book_undo_70 : decode prog_3_method_11_code 70 = .ok (.iload_n 3, 1) := by decide +kernel
theorem d_Book_undo_71 : decode prog_3_method_11_code 71 = .ok (.iaload, 1) := by decide +kernel
theorem d_Book_undo_72 : decode prog_3_method_11_code 72 = .ok (.invokevirtual 77, 3) := by decide +kernel
theorem d_Book_undo_75 : decode prog_3_method_11_code 75 = .ok (.goto 36, 3) := by decide +kernel
theorem d_Book_undo_78 : decode prog_3_method_11_code 78 = .ok (.aload_n 0, 1) := by decide +kernel
theorem d_Book_undo_79 : decode prog_3_method_11_code 79 = .ok (.getfield 12, 3) := by decide +kernel
theorem d_Book_undo_82 : decode prog_3_method_11_code 82 = .ok (.aload_n 0, 1) := by decide +kernel
theorem d_Book_undo_83 : decode prog_3_method_11_code 83 = .ok (.getfield 28, 3) := by decide +kernel
theorem d_Book_undo_86 : decode prog_3_method_11_code 86 = .ok (.getfield 92, 3) := by decide +kernel
theorem d_Book_undo_89 : decode prog_3_method_11_code 89 = .ok (.iload_n 3, 1) := by decide +kernel
theorem d_Book_undo_90 : decode prog_3_method_11_code 90 = .ok (.baload, 1) := by decide +kernel
theorem d_Book_undo_91 : decode prog_3_method_11_code 91 = .ok (.invokeinterface 46 2, 5) := by decide +kernel
theorem d_Book_undo_96 : decode prog_3_method_11_code 96 = .ok (.checkcast 50, 3) := by decide +kernel
theorem d_Book_undo_99 : decode prog_3_method_11_code 99 = .ok (.aload_n 0, 1) := by decide +kernel
theorem d_Book_undo_100 : decode prog_3_method_11_code 100 = .ok (.getfield 28, 3) := by decide +kernel
theorem d_Book_undo_103 : decode prog_3_method_11_code 103 = .ok (.getfield 98, 3) := by decide +kernel
theorem d_Book_undo_106 : decode prog_3_method_11_code 106 = .ok (.iload_n 3, 1) := by decide +kernel
theorem d_Book_undo_107 : decode prog_3_method_11_code 107 = .ok (.iaload, 1) := by decide +kernel
theorem d_Book_undo_108 : decode prog_3_method_11_code 108 = .ok (.putfield 52, 3) := by decide +kernel
theorem d_Book_undo_111 : decode prog_3_method_11_code 111 = .ok (.goto (-111), 3) := by decide +kernel
theorem d_Book_undo_114 : decode prog_3_method_11_code 114 = .ok (.aload_n 0, 1) := by decide +kernel
theorem d_Book_undo_115 : decode prog_3_method_11_code 115 = .ok (.iload_n 2, 1) := by decide +kernel
theorem d_Book_undo_116 : decode prog_3_method_11_code 116 = .ok (.putfield 84, 3) := by decide +kernel
theorem d_Book_undo_119 : decode prog_3_method_11_code 119 = .ok (.return_, 1) := by decide +kernel
theorem d_Run_trap_0 : decode prog_6_method_6_code 0 = .ok (.aload_n 0, 1) := by decide +kernel
theorem d_Run_trap_1 : decode prog_6_method_6_code 1 = .ok (.iload_n 1, 1) := by decide +kernel
theorem d_Run_trap_2 : decode prog_6_method_6_code 2 = .ok (.putfield 18, 3) := by decide +kernel
theorem d_Run_trap_5 : decode prog_6_method_6_code 5 = .ok (.aload_n 0, 1) := by decide +kernel
theorem d_Run_trap_6 : decode prog_6_method_6_code 6 = .ok (.iconst 0, 1) := by decide +kernel
theorem d_Run_trap_7 : decode prog_6_method_6_code 7 = .ok (.putfield 52, 3) := by decide +kernel
theorem d_Run_trap_10 : decode prog_6_method_6_code 10 = .ok (.aload_n 0, 1) := by decide +kernel
theorem d_Run_trap_11 : decode prog_6_method_6_code 11 = .ok (.iconst 0, 1) := by decide +kernel
theorem d_Run_trap_12 : decode prog_6_method_6_code 12 = .ok (.putfield 55, 3) := by decide +kernel
theorem d_Run_trap_15 : decode prog_6_method_6_code 15 = .ok (.new 58, 3) := by decide +kernel
theorem d_Run_trap_18 : decode prog_6_method_6_code 18 = .ok (.dup, 1) := by decide +kernel
theorem d_Run_trap_19 : decode prog_6_method_6_code 19 = .ok (.ldc 60, 2) := by decide +kernel
theorem d_Run_trap_21 : decode prog_6_method_6_code 21 = .ok (.invokespecial 62, 3) := by decide +kernel
theorem d_Run_trap_24 : decode prog_6_method_6_code 24 = .ok (.athrow, 1) := by decide +kernel
theorem d_Run_price_0 : decode prog_6_method_7_code 0 = .ok (.aload_n 1, 1) := by decide +kernel
theorem d_Run_price_1 : decode prog_6_method_7_code 1 = .ok (.getstatic 65, 3) := by decide +kernel
theorem d_Run_price_4 : decode prog_6_method_7_code 4 = .ok (.if_acmp .ne 34, 3) := by decide +kernel
theorem d_Run_price_7 : decode prog_6_method_7_code 7 = .ok (.aload_n 0, 1) := by decide +kernel
theorem d_Run_price_8 : decode prog_6_method_7_code 8 = .ok (.getfield 46, 3) := by decide +kernel
theorem d_Run_price_11 : decode prog_6_method_7_code 11 = .ok (.iconst 1, 1) := by decide +kernel
theorem d_Run_price_12 : decode prog_6_method_7_code 12 = .ok (.if_icmp .le 21, 3) := by decide +kernel
theorem d_Run_price_15 : decode prog_6_method_7_code 15 = .ok (.aload_n 0, 1) := by decide +kernel
theorem d_Run_price_16 : decode prog_6_method_7_code 16 = .ok (.iconst 1, 1) := by decide +kernel
theorem d_Run_price_17 : decode prog_6_method_7_code 17 = .ok (.invokevirtual 71, 3) := by decide +kernel
theorem d_Run_price_20 : decode prog_6_method_7_code 20 = .ok (.ifCond .eq 13, 3) := by decide +kernel
theorem d_Run_price_23 : decode prog_6_method_7_code 23 = .ok (.aload_n 1, 1) := by decide +kernel
theorem d_Run_price_24 : decode prog_6_method_7_code 24 = .ok (.getfield 75, 3) := by decide +kernel
theorem d_Run_price_27 : decode prog_6_method_7_code 27 = .ok (.bipush 15, 2) := by decide +kernel
theorem d_Run_price_29 : decode prog_6_method_7_code 29 = .ok (.iadd, 1) := by decide +kernel
theorem d_Run_price_30 : decode prog_6_method_7_code 30 = .ok (.goto 7, 3) := by decide +kernel
theorem d_Run_price_33 : decode prog_6_method_7_code 33 = .ok (.aload_n 1, 1) := by decide +kernel
theorem d_Run_price_34 : decode prog_6_method_7_code 34 = .ok (.getfield 75, 3) := by decide +kernel
theorem d_Run_price_37 : decode prog_6_method_7_code 37 = .ok (.ireturn, 1) := by decide +kernel
theorem d_Run_price_38 : decode prog_6_method_7_code 38 = .ok (.aload_n 1, 1) := by decide +kernel
theorem d_Run_price_39 : decode prog_6_method_7_code 39 = .ok (.getstatic 78, 3) := by decide +kernel
theorem d_Run_price_42 : decode prog_6_method_7_code 42 = .ok (.if_acmp .ne 11, 3) := by decide +kernel
theorem d_Run_price_45 : decode prog_6_method_7_code 45 = .ok (.aload_n 0, 1) := by decide +kernel
theorem d_Run_price_46 : decode prog_6_method_7_code 46 = .ok (.getfield 46, 3) := by decide +kernel
theorem d_Run_price_49 : decode prog_6_method_7_code 49 = .ok (.iconst 2, 1) := by decide +kernel
theorem d_Run_price_50 : decode prog_6_method_7_code 50 = .ok (.if_icmp .ge 8, 3) := by decide +kernel
theorem d_Run_price_53 : decode prog_6_method_7_code 53 = .ok (.aload_n 1, 1) := by decide +kernel
theorem d_Run_price_54 : decode prog_6_method_7_code 54 = .ok (.getfield 75, 3) := by decide +kernel
theorem d_Run_price_57 : decode prog_6_method_7_code 57 = .ok (.ireturn, 1) := by decide +kernel
theorem d_Run_price_58 : decode prog_6_method_7_code 58 = .ok (.aload_n 0, 1) := by decide +kernel
theorem d_Run_price_59 : decode prog_6_method_7_code 59 = .ok (.getfield 22, 3) := by decide +kernel
theorem d_Run_price_62 : decode prog_6_method_7_code 62 = .ok (.aload_n 0, 1) := by decide +kernel
theorem d_Run_price_63 : decode prog_6_method_7_code 63 = .ok (.getfield 37, 3) := by decide +kernel
theorem d_Run_price_66 : decode prog_6_method_7_code 66 = .ok (.aload_n 0, 1) := by decide +kernel
theorem d_Run_price_67 : decode prog_6_method_7_code 67 = .ok (.iconst 1, 1) := by decide +kernel
theorem d_Run_price_68 : decode prog_6_method_7_code 68 = .ok (.invokevirtual 71, 3) := by decide +kernel
theorem d_Run_price_71 : decode prog_6_method_7_code 71 = .ok (.invokevirtual 81, 3) := by decide +kernel
theorem d_Run_price_74 : decode prog_6_method_7_code 74 = .ok (.istore_n 2, 1) := by decide +kernel
theorem d_Run_price_75 : decode prog_6_method_7_code 75 = .ok (.iload_n 2, 1) := by decide +kernel
theorem d_Run_price_76 : decode prog_6_method_7_code 76 = .ok (.aload_n 0, 1) := by decide +kernel
theorem d_Run_price_77 : decode prog_6_method_7_code 77 = .ok (.iconst 0, 1) := by decide +kernel
theorem d_Run_price_78 : decode prog_6_method_7_code 78 = .ok (.invokevirtual 71, 3) := by decide +kernel
theorem d_Run_price_81 : decode prog_6_method_7_code 81 = .ok (.if_icmp .ne 10, 3) := by decide +kernel
theorem d_Run_price_84 : decode prog_6_method_7_code 84 = .ok (.aload_n 1, 1) := by decide +kernel
theorem d_Run_price_85 : decode prog_6_method_7_code 85 = .ok (.getfield 75, 3) := by decide +kernel
theorem d_Run_price_88 : decode prog_6_method_7_code 88 = .ok (.goto 14, 3) := by decide +kernel
theorem d_Run_price_91 : decode prog_6_method_7_code 91 = .ok (.iload_n 2, 1) := by decide +kernel
theorem d_Run_price_92 : decode prog_6_method_7_code 92 = .ok (.ifCond .ne 8, 3) := by decide +kernel
theorem d_Run_price_95 : decode prog_6_method_7_code 95 = .ok (.bipush 40, 2) := by decide +kernel
theorem d_Run_price_97 : decode prog_6_method_7_code 97 = .ok (.goto 5, 3) := by decide +kernel
theorem d_Run_price_100 : decode prog_6_method_7_code 100 = .ok (.bipush 20, 2) := by decide +kernel
theorem d_Run_price_102 : decode prog_6_method_7_code 102 = .ok (.ireturn, 1) := by decide +kernel
theorem d_Run_store_0 : decode prog_6_method_10_code 0 = .ok (.aload_n 0, 1) := by decide +kernel
theorem d_Run_store_1 : decode prog_6_method_10_code 1 = .ok (.iconst 0, 1) := by decide +kernel
theorem d_Run_store_2 : decode prog_6_method_10_code 2 = .ok (.invokevirtual 71, 3) := by decide +kernel
theorem d_Run_store_5 : decode prog_6_method_10_code 5 = .ok (.istore_n 1, 1) := by decide +kernel
theorem d_Run_store_6 : decode prog_6_method_10_code 6 = .ok (.aload_n 0, 1) := by decide +kernel
theorem d_Run_store_7 : decode prog_6_method_10_code 7 = .ok (.iconst 1, 1) := by decide +kernel
theorem d_Run_store_8 : decode prog_6_method_10_code 8 = .ok (.invokevirtual 71, 3) := by decide +kernel
theorem d_Run_store_11 : decode prog_6_method_10_code 11 = .ok (.istore_n 2, 1) := by decide +kernel
theorem d_Run_store_12 : decode prog_6_method_10_code 12 = .ok (.iload_n 1, 1) := by decide +kernel
theorem d_Run_store_13 : decode prog_6_method_10_code 13 = .ok (.ifCond .eq 40, 3) := by decide +kernel
theorem d_Run_store_16 : decode prog_6_method_10_code 16 = .ok (.aload_n 0, 1) := by decide +kernel
theorem d_Run_store_17 : decode prog_6_method_10_code 17 = .ok (.getfield 22, 3) := by decide +kernel
theorem d_Run_store_20 : decode prog_6_method_10_code 20 = .ok (.aload_n 0, 1) := by decide +kernel
theorem d_Run_store_21 : decode prog_6_method_10_code 21 = .ok (.getfield 37, 3) := by decide +kernel
theorem d_Run_store_24 : decode prog_6_method_10_code 24 = .ok (.iload_n 2, 1) := by decide +kernel
theorem d_Run_store_25 : decode prog_6_method_10_code 25 = .ok (.invokevirtual 81, 3) := by decide +kernel
theorem d_Run_store_28 : decode prog_6_method_10_code 28 = .ok (.ifCond .ne 25, 3) := by decide +kernel
theorem d_Run_store_31 : decode prog_6_method_10_code 31 = .ok (.aload_n 0, 1) := by decide +kernel
theorem d_Run_store_32 : decode prog_6_method_10_code 32 = .ok (.getfield 22, 3) := by decide +kernel
theorem d_Run_store_35 : decode prog_6_method_10_code 35 = .ok (.getfield 87, 3) := by decide +kernel
theorem d_Run_store_38 : decode prog_6_method_10_code 38 = .ok (.getfield 91, 3) := by decide +kernel
theorem d_Run_store_41 : decode prog_6_method_10_code 41 = .ok (.sipush 500, 3) := by decide +kernel
theorem d_Run_store_44 : decode prog_6_method_10_code 44 = .ok (.if_icmp .ne 9, 3) := by decide +kernel
theorem d_Run_store_47 : decode prog_6_method_10_code 47 = .ok (.aload_n 0, 1) := by decide +kernel
theorem d_Run_store_48 : decode prog_6_method_10_code 48 = .ok (.bipush 6, 2) := by decide +kernel
theorem d_Run_store_50 : decode prog_6_method_10_code 50 = .ok (.invokevirtual 96, 3) := by decide +kernel
theorem d_Run_store_53 : decode prog_6_method_10_code 53 = .ok (.aload_n 0, 1) := by decide +kernel
theorem d_Run_store_54 : decode prog_6_method_10_code 54 = .ok (.dup, 1) := by decide +kernel
theorem d_Run_store_55 : decode prog_6_method_10_code 55 = .ok (.getfield 46, 3) := by decide +kernel
theorem d_Run_store_58 : decode prog_6_method_10_code 58 = .ok (.iconst 2, 1) := by decide +kernel
theorem d_Run_store_59 : decode prog_6_method_10_code 59 = .ok (.isub, 1) := by decide +kernel
theorem d_Run_store_60 : decode prog_6_method_10_code 60 = .ok (.putfield 46, 3) := by decide +kernel
theorem d_Run_store_63 : decode prog_6_method_10_code 63 = .ok (.aload_n 0, 1) := by decide +kernel
theorem d_Run_store_64 : decode prog_6_method_10_code 64 = .ok (.getfield 22, 3) := by decide +kernel
theorem d_Run_store_67 : decode prog_6_method_10_code 67 = .ok (.aload_n 0, 1) := by decide +kernel
theorem d_Run_store_68 : decode prog_6_method_10_code 68 = .ok (.getfield 37, 3) := by decide +kernel
theorem d_Run_store_71 : decode prog_6_method_10_code 71 = .ok (.iload_n 2, 1) := by decide +kernel
theorem d_Run_store_72 : decode prog_6_method_10_code 72 = .ok (.invokevirtual 81, 3) := by decide +kernel
theorem d_Run_store_75 : decode prog_6_method_10_code 75 = .ok (.iload_n 1, 1) := by decide +kernel
theorem d_Run_store_76 : decode prog_6_method_10_code 76 = .ok (.if_icmp .eq 16, 3) := by decide +kernel
theorem d_Run_store_79 : decode prog_6_method_10_code 79 = .ok (.aload_n 0, 1) := by decide +kernel
theorem d_Run_store_80 : decode prog_6_method_10_code 80 = .ok (.getfield 22, 3) := by decide +kernel
theorem d_Run_store_83 : decode prog_6_method_10_code 83 = .ok (.aload_n 0, 1) := by decide +kernel
theorem d_Run_store_84 : decode prog_6_method_10_code 84 = .ok (.getfield 37, 3) := by decide +kernel
theorem d_Run_store_87 : decode prog_6_method_10_code 87 = .ok (.iload_n 2, 1) := by decide +kernel
theorem d_Run_store_88 : decode prog_6_method_10_code 88 = .ok (.iload_n 1, 1) := by decide +kernel
theorem d_Run_store_89 : decode prog_6_method_10_code 89 = .ok (.invokevirtual 100, 3) := by decide +kernel
theorem d_Run_store_92 : decode prog_6_method_10_code 92 = .ok (.return_, 1) := by decide +kernel
