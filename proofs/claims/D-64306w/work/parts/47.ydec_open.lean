theorem d_Led_openD_0 : decode prog_1_method_5_code 0 = .ok (.iload_n 1, 1) := by decide +kernel
theorem d_Led_openD_1 : decode prog_1_method_5_code 1 = .ok (.ifCond .lt 7, 3) := by decide +kernel
theorem d_Led_openD_4 : decode prog_1_method_5_code 4 = .ok (.iconst 1, 1) := by decide +kernel
theorem d_Led_openD_5 : decode prog_1_method_5_code 5 = .ok (.goto 4, 3) := by decide +kernel
theorem d_Led_openD_8 : decode prog_1_method_5_code 8 = .ok (.iconst 0, 1) := by decide +kernel
theorem d_Led_openD_9 : decode prog_1_method_5_code 9 = .ok (.invokestatic 76, 3) := by decide +kernel
theorem d_Led_openD_12 : decode prog_1_method_5_code 12 = .ok (.aload_n 0, 1) := by decide +kernel
theorem d_Led_openD_13 : decode prog_1_method_5_code 13 = .ok (.getfield 10, 3) := by decide +kernel
theorem d_Led_openD_16 : decode prog_1_method_5_code 16 = .ok (.getfield 50, 3) := by decide +kernel
theorem d_Led_openD_19 : decode prog_1_method_5_code 19 = .ok (.invokeinterface 80 1, 5) := by decide +kernel
theorem d_Led_openD_24 : decode prog_1_method_5_code 24 = .ok (.bipush 24, 2) := by decide +kernel
theorem d_Led_openD_26 : decode prog_1_method_5_code 26 = .ok (.if_icmp .eq 18, 3) := by decide +kernel
theorem d_Led_openD_29 : decode prog_1_method_5_code 29 = .ok (.aload_n 0, 1) := by decide +kernel
theorem d_Led_openD_30 : decode prog_1_method_5_code 30 = .ok (.invokevirtual 84, 3) := by decide +kernel
theorem d_Led_openD_33 : decode prog_1_method_5_code 33 = .ok (.i2l, 1) := by decide +kernel
theorem d_Led_openD_34 : decode prog_1_method_5_code 34 = .ok (.iload_n 1, 1) := by decide +kernel
theorem d_Led_openD_35 : decode prog_1_method_5_code 35 = .ok (.i2l, 1) := by decide +kernel
theorem d_Led_openD_36 : decode prog_1_method_5_code 36 = .ok (.ladd, 1) := by decide +kernel
theorem d_Led_openD_37 : decode prog_1_method_5_code 37 = .ok (.ldc2_w 87, 3) := by decide +kernel
theorem d_Led_openD_40 : decode prog_1_method_5_code 40 = .ok (.lcmp, 1) := by decide +kernel
theorem d_Led_openD_41 : decode prog_1_method_5_code 41 = .ok (.ifCond .le 5, 3) := by decide +kernel
theorem d_Led_openD_44 : decode prog_1_method_5_code 44 = .ok (.iconst (-1), 1) := by decide +kernel
theorem d_Led_openD_45 : decode prog_1_method_5_code 45 = .ok (.ireturn, 1) := by decide +kernel
theorem d_Led_openD_46 : decode prog_1_method_5_code 46 = .ok (.aload_n 0, 1) := by decide +kernel
theorem d_Led_openD_47 : decode prog_1_method_5_code 47 = .ok (.getfield 10, 3) := by decide +kernel
theorem d_Led_openD_50 : decode prog_1_method_5_code 50 = .ok (.getfield 50, 3) := by decide +kernel
theorem d_Led_openD_53 : decode prog_1_method_5_code 53 = .ok (.new 60, 3) := by decide +kernel
theorem d_Led_openD_56 : decode prog_1_method_5_code 56 = .ok (.dup, 1) := by decide +kernel
theorem d_Led_openD_57 : decode prog_1_method_5_code 57 = .ok (.iload_n 1, 1) := by decide +kernel
theorem d_Led_openD_58 : decode prog_1_method_5_code 58 = .ok (.invokespecial 89, 3) := by decide +kernel
theorem d_Led_openD_61 : decode prog_1_method_5_code 61 = .ok (.invokeinterface 92 2, 5) := by decide +kernel
theorem d_Led_openD_66 : decode prog_1_method_5_code 66 = .ok (.pop, 1) := by decide +kernel
theorem d_Led_openD_67 : decode prog_1_method_5_code 67 = .ok (.aload_n 0, 1) := by decide +kernel
theorem d_Led_openD_68 : decode prog_1_method_5_code 68 = .ok (.getfield 10, 3) := by decide +kernel
theorem d_Led_openD_71 : decode prog_1_method_5_code 71 = .ok (.getfield 50, 3) := by decide +kernel
theorem d_Led_openD_74 : decode prog_1_method_5_code 74 = .ok (.invokeinterface 80 1, 5) := by decide +kernel
theorem d_Led_openD_79 : decode prog_1_method_5_code 79 = .ok (.iconst 1, 1) := by decide +kernel
theorem d_Led_openD_80 : decode prog_1_method_5_code 80 = .ok (.isub, 1) := by decide +kernel
theorem d_Led_openD_81 : decode prog_1_method_5_code 81 = .ok (.ireturn, 1) := by decide +kernel
theorem d_Led_openE_0 : decode prog_1_method_5_code 0 = .ok (.iload_n 1, 1) := by decide +kernel
theorem d_Led_openE_1 : decode prog_1_method_5_code 1 = .ok (.ifCond .lt 7, 3) := by decide +kernel
theorem d_Led_openE_4 : decode prog_1_method_5_code 4 = .ok (.iconst 1, 1) := by decide +kernel
theorem d_Led_openE_5 : decode prog_1_method_5_code 5 = .ok (.goto 4, 3) := by decide +kernel
theorem d_Led_openE_8 : decode prog_1_method_5_code 8 = .ok (.iconst 0, 1) := by decide +kernel
theorem d_Led_openE_9 : decode prog_1_method_5_code 9 = .ok (.invokestatic 76, 3) := by decide +kernel
theorem d_Led_openE_12 : decode prog_1_method_5_code 12 = .ok (.aload_n 0, 1) := by decide +kernel
theorem d_Led_openE_13 : decode prog_1_method_5_code 13 = .ok (.getfield 10, 3) := by decide +kernel
theorem d_Led_openE_16 : decode prog_1_method_5_code 16 = .ok (.getfield 50, 3) := by decide +kernel
theorem d_Led_openE_19 : decode prog_1_method_5_code 19 = .ok (.invokeinterface 80 1, 5) := by decide +kernel
theorem d_Led_openE_24 : decode prog_1_method_5_code 24 = .ok (.bipush 24, 2) := by decide +kernel
theorem d_Led_openE_26 : decode prog_1_method_5_code 26 = .ok (.if_icmp .eq 18, 3) := by decide +kernel
theorem d_Led_openE_29 : decode prog_1_method_5_code 29 = .ok (.aload_n 0, 1) := by decide +kernel
theorem d_Led_openE_30 : decode prog_1_method_5_code 30 = .ok (.invokevirtual 84, 3) := by decide +kernel
theorem d_Led_openE_33 : decode prog_1_method_5_code 33 = .ok (.i2l, 1) := by decide +kernel
theorem d_Led_openE_34 : decode prog_1_method_5_code 34 = .ok (.iload_n 1, 1) := by decide +kernel
theorem d_Led_openE_35 : decode prog_1_method_5_code 35 = .ok (.i2l, 1) := by decide +kernel
theorem d_Led_openE_36 : decode prog_1_method_5_code 36 = .ok (.ladd, 1) := by decide +kernel
theorem d_Led_openE_37 : decode prog_1_method_5_code 37 = .ok (.ldc2_w 87, 3) := by decide +kernel
theorem d_Led_openE_40 : decode prog_1_method_5_code 40 = .ok (.lcmp, 1) := by decide +kernel
theorem d_Led_openE_41 : decode prog_1_method_5_code 41 = .ok (.ifCond .le 5, 3) := by decide +kernel
theorem d_Led_openE_44 : decode prog_1_method_5_code 44 = .ok (.iconst (-1), 1) := by decide +kernel
theorem d_Led_openE_45 : decode prog_1_method_5_code 45 = .ok (.ireturn, 1) := by decide +kernel
theorem d_Led_openE_46 : decode prog_1_method_5_code 46 = .ok (.aload_n 0, 1) := by decide +kernel
theorem d_Led_openE_47 : decode prog_1_method_5_code 47 = .ok (.getfield 10, 3) := by decide +kernel
theorem d_Led_openE_50 : decode prog_1_method_5_code 50 = .ok (.getfield 50, 3) := by decide +kernel
theorem d_Led_openE_53 : decode prog_1_method_5_code 53 = .ok (.new 60, 3) := by decide +kernel
theorem d_Led_openE_56 : decode prog_1_method_5_code 56 = .ok (.dup, 1) := by decide +kernel
theorem d_Led_openE_57 : decode prog_1_method_5_code 57 = .ok (.iload_n 1, 1) := by decide +kernel
theorem d_Led_openE_58 : decode prog_1_method_5_code 58 = .ok (.invokespecial 89, 3) := by decide +kernel
theorem d_Led_openE_61 : decode prog_1_method_5_code 61 = .ok (.invokeinterface 92 2, 5) := by decide +kernel
theorem d_Led_openE_66 : decode prog_1_method_5_code 66 = .ok (.pop, 1) := by decide +kernel
theorem d_Led_openE_67 : decode prog_1_method_5_code 67 = .ok (.aload_n 0, 1) := by decide +kernel
theorem d_Led_openE_68 : decode prog_1_method_5_code 68 = .ok (.getfield 10, 3) := by decide +kernel
theorem d_Led_openE_71 : decode prog_1_method_5_code 71 = .ok (.getfield 50, 3) := by decide +kernel
theorem d_Led_openE_74 : decode prog_1_method_5_code 74 = .ok (.invokeinterface 80 1, 5) := by decide +kernel
theorem d_Led_openE_79 : decode prog_1_method_5_code 79 = .ok (.iconst 1, 1) := by decide +kernel
theorem d_Led_openE_80 : decode prog_1_method_5_code 80 = .ok (.isub, 1) := by decide +kernel
theorem d_Led_openE_81 : decode prog_1_method_5_code 81 = .ok (.ireturn, 1) := by decide +kernel
theorem d_Law_openD_0 : decode method_3_code 0 = .ok (.aload_n 2, 1) := by decide +kernel
theorem d_Law_openD_1 : decode method_3_code 1 = .ok (.iconst 0, 1) := by decide +kernel
theorem d_Law_openD_2 : decode method_3_code 2 = .ok (.aload_n 0, 1) := by decide +kernel
theorem d_Law_openD_3 : decode method_3_code 3 = .ok (.iload_n 1, 1) := by decide +kernel
theorem d_Law_openD_4 : decode method_3_code 4 = .ok (.invokevirtual 7, 3) := by decide +kernel
theorem d_Law_openD_7 : decode method_3_code 7 = .ok (.i2l, 1) := by decide +kernel
theorem d_Law_openD_8 : decode method_3_code 8 = .ok (.lastore, 1) := by decide +kernel
theorem d_Law_openD_9 : decode method_3_code 9 = .ok (.goto 6, 3) := by decide +kernel
theorem d_Law_openD_12 : decode method_3_code 12 = .ok (.astore_n 3, 1) := by decide +kernel
theorem d_Law_openD_13 : decode method_3_code 13 = .ok (.iconst 1, 1) := by decide +kernel
theorem d_Law_openD_14 : decode method_3_code 14 = .ok (.ireturn, 1) := by decide +kernel
theorem d_Law_openD_15 : decode method_3_code 15 = .ok (.iconst 0, 1) := by decide +kernel
theorem d_Law_openD_16 : decode method_3_code 16 = .ok (.ireturn, 1) := by decide +kernel
theorem d_Law_openE_0 : decode method_3_code 0 = .ok (.aload_n 2, 1) := by decide +kernel
theorem d_Law_openE_1 : decode method_3_code 1 = .ok (.iconst 0, 1) := by decide +kernel
theorem d_Law_openE_2 : decode method_3_code 2 = .ok (.aload_n 0, 1) := by decide +kernel
theorem d_Law_openE_3 : decode method_3_code 3 = .ok (.iload_n 1, 1) := by decide +kernel
theorem d_Law_openE_4 : decode method_3_code 4 = .ok (.invokevirtual 7, 3) := by decide +kernel
theorem d_Law_openE_7 : decode method_3_code 7 = .ok (.i2l, 1) := by decide +kernel
theorem d_Law_openE_8 : decode method_3_code 8 = .ok (.lastore, 1) := by decide +kernel
theorem d_Law_openE_9 : decode method_3_code 9 = .ok (.goto 6, 3) := by decide +kernel
theorem d_Law_openE_12 : decode method_3_code 12 = .ok (.astore_n 3, 1) := by decide +kernel
theorem d_Law_openE_13 : decode method_3_code 13 = .ok (.iconst 1, 1) := by decide +kernel
theorem d_Law_openE_14 : decode method_3_code 14 = .ok (.ireturn, 1) := by decide +kernel
theorem d_Law_openE_15 : decode method_3_code 15 = .ok (.iconst 0, 1) := by decide +kernel
theorem d_Law_openE_16 : decode method_3_code 16 = .ok (.ireturn, 1) := by decide +kernel
