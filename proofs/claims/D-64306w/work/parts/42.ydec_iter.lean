theorem d_Itr_init_0 : decode prog_27_method_1_code 0 = .ok (.aload_n 0, 1) := by decide +kernel
theorem d_Itr_init_1 : decode prog_27_method_1_code 1 = .ok (.aload_n 1, 1) := by decide +kernel
theorem d_Itr_init_2 : decode prog_27_method_1_code 2 = .ok (.putfield 1, 3) := by decide +kernel
theorem d_Itr_init_5 : decode prog_27_method_1_code 5 = .ok (.aload_n 0, 1) := by decide +kernel
theorem d_Itr_init_6 : decode prog_27_method_1_code 6 = .ok (.invokespecial 7, 3) := by decide +kernel
theorem d_Itr_init_9 : decode prog_27_method_1_code 9 = .ok (.aload_n 0, 1) := by decide +kernel
theorem d_Itr_init_10 : decode prog_27_method_1_code 10 = .ok (.iconst (-1), 1) := by decide +kernel
theorem d_Itr_init_11 : decode prog_27_method_1_code 11 = .ok (.putfield 13, 3) := by decide +kernel
theorem d_Itr_init_14 : decode prog_27_method_1_code 14 = .ok (.aload_n 0, 1) := by decide +kernel
theorem d_Itr_init_15 : decode prog_27_method_1_code 15 = .ok (.aload_n 0, 1) := by decide +kernel
theorem d_Itr_init_16 : decode prog_27_method_1_code 16 = .ok (.getfield 1, 3) := by decide +kernel
theorem d_Itr_init_19 : decode prog_27_method_1_code 19 = .ok (.getfield 17, 3) := by decide +kernel
theorem d_Itr_init_22 : decode prog_27_method_1_code 22 = .ok (.putfield 22, 3) := by decide +kernel
theorem d_Itr_init_25 : decode prog_27_method_1_code 25 = .ok (.return_, 1) := by decide +kernel
theorem d_AL_iterator_0 : decode prog_26_method_55_code 0 = .ok (.new 267, 3) := by decide +kernel
theorem d_AL_iterator_3 : decode prog_26_method_55_code 3 = .ok (.dup, 1) := by decide +kernel
theorem d_AL_iterator_4 : decode prog_26_method_55_code 4 = .ok (.aload_n 0, 1) := by decide +kernel
theorem d_AL_iterator_5 : decode prog_26_method_55_code 5 = .ok (.invokespecial 269, 3) := by decide +kernel
theorem d_AL_iterator_8 : decode prog_26_method_55_code 8 = .ok (.areturn, 1) := by decide +kernel
theorem d_Itr_hasNext_0 : decode prog_27_method_2_code 0 = .ok (.aload_n 0, 1) := by decide +kernel
theorem d_Itr_hasNext_1 : decode prog_27_method_2_code 1 = .ok (.getfield 25, 3) := by decide +kernel
theorem d_Itr_hasNext_4 : decode prog_27_method_2_code 4 = .ok (.aload_n 0, 1) := by decide +kernel
theorem d_Itr_hasNext_5 : decode prog_27_method_2_code 5 = .ok (.getfield 1, 3) := by decide +kernel
theorem d_Itr_hasNext_8 : decode prog_27_method_2_code 8 = .ok (.getfield 28, 3) := by decide +kernel
theorem d_Itr_hasNext_11 : decode prog_27_method_2_code 11 = .ok (.if_icmp .eq 7, 3) := by decide +kernel
theorem d_Itr_hasNext_14 : decode prog_27_method_2_code 14 = .ok (.iconst 1, 1) := by decide +kernel
theorem d_Itr_hasNext_15 : decode prog_27_method_2_code 15 = .ok (.goto 4, 3) := by decide +kernel
theorem d_Itr_hasNext_18 : decode prog_27_method_2_code 18 = .ok (.iconst 0, 1) := by decide +kernel
theorem d_Itr_hasNext_19 : decode prog_27_method_2_code 19 = .ok (.ireturn, 1) := by decide +kernel
theorem d_Itr_checkForComodification_0 : decode prog_27_method_6_code 0 = .ok (.aload_n 0, 1) := by decide +kernel
theorem d_Itr_checkForComodification_1 : decode prog_27_method_6_code 1 = .ok (.getfield 1, 3) := by decide +kernel
theorem d_Itr_checkForComodification_4 : decode prog_27_method_6_code 4 = .ok (.getfield 17, 3) := by decide +kernel
theorem d_Itr_checkForComodification_7 : decode prog_27_method_6_code 7 = .ok (.aload_n 0, 1) := by decide +kernel
theorem d_Itr_checkForComodification_8 : decode prog_27_method_6_code 8 = .ok (.getfield 22, 3) := by decide +kernel
theorem d_Itr_checkForComodification_11 : decode prog_27_method_6_code 11 = .ok (.if_icmp .eq 11, 3) := by decide +kernel
theorem d_Itr_checkForComodification_22 : decode prog_27_method_6_code 22 = .ok (.return_, 1) := by decide +kernel
theorem d_Itr_next_0 : decode prog_27_method_3_code 0 = .ok (.aload_n 0, 1) := by decide +kernel
theorem d_Itr_next_1 : decode prog_27_method_3_code 1 = .ok (.invokevirtual 31, 3) := by decide +kernel
theorem d_Itr_next_4 : decode prog_27_method_3_code 4 = .ok (.aload_n 0, 1) := by decide +kernel
theorem d_Itr_next_5 : decode prog_27_method_3_code 5 = .ok (.getfield 25, 3) := by decide +kernel
theorem d_Itr_next_8 : decode prog_27_method_3_code 8 = .ok (.istore_n 1, 1) := by decide +kernel
theorem d_Itr_next_9 : decode prog_27_method_3_code 9 = .ok (.iload_n 1, 1) := by decide +kernel
theorem d_Itr_next_10 : decode prog_27_method_3_code 10 = .ok (.aload_n 0, 1) := by decide +kernel
theorem d_Itr_next_11 : decode prog_27_method_3_code 11 = .ok (.getfield 1, 3) := by decide +kernel
theorem d_Itr_next_14 : decode prog_27_method_3_code 14 = .ok (.getfield 28, 3) := by decide +kernel
theorem d_Itr_next_17 : decode prog_27_method_3_code 17 = .ok (.if_icmp .lt 11, 3) := by decide +kernel
theorem d_Itr_next_28 : decode prog_27_method_3_code 28 = .ok (.aload_n 0, 1) := by decide +kernel
theorem d_Itr_next_29 : decode prog_27_method_3_code 29 = .ok (.getfield 1, 3) := by decide +kernel
theorem d_Itr_next_32 : decode prog_27_method_3_code 32 = .ok (.getfield 37, 3) := by decide +kernel
theorem d_Itr_next_35 : decode prog_27_method_3_code 35 = .ok (.astore_n 2, 1) := by decide +kernel
theorem d_Itr_next_36 : decode prog_27_method_3_code 36 = .ok (.iload_n 1, 1) := by decide +kernel
theorem d_Itr_next_37 : decode prog_27_method_3_code 37 = .ok (.aload_n 2, 1) := by decide +kernel
theorem d_Itr_next_38 : decode prog_27_method_3_code 38 = .ok (.arraylength, 1) := by decide +kernel
theorem d_Itr_next_39 : decode prog_27_method_3_code 39 = .ok (.if_icmp .lt 11, 3) := by decide +kernel
theorem d_Itr_next_50 : decode prog_27_method_3_code 50 = .ok (.aload_n 0, 1) := by decide +kernel
theorem d_Itr_next_51 : decode prog_27_method_3_code 51 = .ok (.iload_n 1, 1) := by decide +kernel
theorem d_Itr_next_52 : decode prog_27_method_3_code 52 = .ok (.iconst 1, 1) := by decide +kernel
theorem d_Itr_next_53 : decode prog_27_method_3_code 53 = .ok (.iadd, 1) := by decide +kernel
theorem d_Itr_next_54 : decode prog_27_method_3_code 54 = .ok (.putfield 25, 3) := by decide +kernel
theorem d_Itr_next_57 : decode prog_27_method_3_code 57 = .ok (.aload_n 2, 1) := by decide +kernel
theorem d_Itr_next_58 : decode prog_27_method_3_code 58 = .ok (.aload_n 0, 1) := by decide +kernel
theorem d_Itr_next_59 : decode prog_27_method_3_code 59 = .ok (.iload_n 1, 1) := by decide +kernel
theorem d_Itr_next_60 : decode prog_27_method_3_code 60 = .ok (.dup_x1, 1) := by decide +kernel
theorem d_Itr_next_61 : decode prog_27_method_3_code 61 = .ok (.putfield 13, 3) := by decide +kernel
theorem d_Itr_next_64 : decode prog_27_method_3_code 64 = .ok (.aaload, 1) := by decide +kernel
theorem d_Itr_next_65 : decode prog_27_method_3_code 65 = .ok (.areturn, 1) := by decide +kernel
theorem d_Led_supply_0 : decode prog_1_method_17_code 0 = .ok (.iconst 0, 1) := by decide +kernel
theorem d_Led_supply_1 : decode prog_1_method_17_code 1 = .ok (.istore_n 1, 1) := by decide +kernel
theorem d_Led_supply_2 : decode prog_1_method_17_code 2 = .ok (.aload_n 0, 1) := by decide +kernel
theorem d_Led_supply_3 : decode prog_1_method_17_code 3 = .ok (.getfield 10, 3) := by decide +kernel
theorem d_Led_supply_6 : decode prog_1_method_17_code 6 = .ok (.getfield 50, 3) := by decide +kernel
theorem d_Led_supply_9 : decode prog_1_method_17_code 9 = .ok (.invokeinterface 173 1, 5) := by decide +kernel
theorem d_Led_supply_14 : decode prog_1_method_17_code 14 = .ok (.astore_n 2, 1) := by decide +kernel
theorem d_Led_supply_15 : decode prog_1_method_17_code 15 = .ok (.aload_n 2, 1) := by decide +kernel
theorem d_Led_supply_16 : decode prog_1_method_17_code 16 = .ok (.invokeinterface 177 1, 5) := by decide +kernel
theorem d_Led_supply_21 : decode prog_1_method_17_code 21 = .ok (.ifCond .eq 23, 3) := by decide +kernel
theorem d_Led_supply_24 : decode prog_1_method_17_code 24 = .ok (.aload_n 2, 1) := by decide +kernel
theorem d_Led_supply_25 : decode prog_1_method_17_code 25 = .ok (.invokeinterface 183 1, 5) := by decide +kernel
theorem d_Led_supply_30 : decode prog_1_method_17_code 30 = .ok (.checkcast 60, 3) := by decide +kernel
theorem d_Led_supply_33 : decode prog_1_method_17_code 33 = .ok (.astore_n 3, 1) := by decide +kernel
theorem d_Led_supply_34 : decode prog_1_method_17_code 34 = .ok (.iload_n 1, 1) := by decide +kernel
theorem d_Led_supply_35 : decode prog_1_method_17_code 35 = .ok (.aload_n 3, 1) := by decide +kernel
theorem d_Led_supply_36 : decode prog_1_method_17_code 36 = .ok (.getfield 117, 3) := by decide +kernel
theorem d_Led_supply_39 : decode prog_1_method_17_code 39 = .ok (.iadd, 1) := by decide +kernel
theorem d_Led_supply_40 : decode prog_1_method_17_code 40 = .ok (.istore_n 1, 1) := by decide +kernel
theorem d_Led_supply_41 : decode prog_1_method_17_code 41 = .ok (.goto (-26), 3) := by decide +kernel
theorem d_Led_supply_44 : decode prog_1_method_17_code 44 = .ok (.iload_n 1, 1) := by decide +kernel
theorem d_Led_supply_45 : decode prog_1_method_17_code 45 = .ok (.ireturn, 1) := by decide +kernel
