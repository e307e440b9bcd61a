theorem d_Math_min_0 : decode prog_19_method_69_code 0 = .ok (.iload_n 0, 1) := by decide +kernel
theorem d_Math_min_1 : decode prog_19_method_69_code 1 = .ok (.iload_n 1, 1) := by decide +kernel
theorem d_Math_min_2 : decode prog_19_method_69_code 2 = .ok (.if_icmp .gt 7, 3) := by decide +kernel
theorem d_Math_min_5 : decode prog_19_method_69_code 5 = .ok (.iload_n 0, 1) := by decide +kernel
theorem d_Math_min_6 : decode prog_19_method_69_code 6 = .ok (.goto 4, 3) := by decide +kernel
theorem d_Math_min_9 : decode prog_19_method_69_code 9 = .ok (.iload_n 1, 1) := by decide +kernel
theorem d_Math_min_10 : decode prog_19_method_69_code 10 = .ok (.ireturn, 1) := by decide +kernel
theorem d_Tab_place_0 : decode prog_7_method_2_code 0 = .ok (.lload_n 0, 1) := by decide +kernel
theorem d_Tab_place_1 : decode prog_7_method_2_code 1 = .ok (.ldc2_w 23, 3) := by decide +kernel
theorem d_Tab_place_4 : decode prog_7_method_2_code 4 = .ok (.lmul, 1) := by decide +kernel
theorem d_Tab_place_5 : decode prog_7_method_2_code 5 = .ok (.lstore_n 2, 1) := by decide +kernel
theorem d_Tab_place_6 : decode prog_7_method_2_code 6 = .ok (.lload_n 2, 1) := by decide +kernel
theorem d_Tab_place_7 : decode prog_7_method_2_code 7 = .ok (.bipush 52, 2) := by decide +kernel
theorem d_Tab_place_9 : decode prog_7_method_2_code 9 = .ok (.lushr, 1) := by decide +kernel
theorem d_Tab_place_10 : decode prog_7_method_2_code 10 = .ok (.l2i, 1) := by decide +kernel
theorem d_Tab_place_11 : decode prog_7_method_2_code 11 = .ok (.ireturn, 1) := by decide +kernel
theorem d_Book_place_0 : decode prog_3_method_4_code 0 = .ok (.iload_n 0, 1) := by decide +kernel
theorem d_Book_place_1 : decode prog_3_method_4_code 1 = .ok (.i2l, 1) := by decide +kernel
theorem d_Book_place_2 : decode prog_3_method_4_code 2 = .ok (.bipush 32, 2) := by decide +kernel
theorem d_Book_place_4 : decode prog_3_method_4_code 4 = .ok (.lshl, 1) := by decide +kernel
theorem d_Book_place_5 : decode prog_3_method_4_code 5 = .ok (.iload_n 1, 1) := by decide +kernel
theorem d_Book_place_6 : decode prog_3_method_4_code 6 = .ok (.i2l, 1) := by decide +kernel
theorem d_Book_place_7 : decode prog_3_method_4_code 7 = .ok (.ldc2_w 56, 3) := by decide +kernel
theorem d_Book_place_10 : decode prog_3_method_4_code 10 = .ok (.land, 1) := by decide +kernel
theorem d_Book_place_11 : decode prog_3_method_4_code 11 = .ok (.lor, 1) := by decide +kernel
theorem d_Book_place_12 : decode prog_3_method_4_code 12 = .ok (.lreturn, 1) := by decide +kernel
theorem d_Run_pop_0 : decode prog_6_method_3_code 0 = .ok (.aload_n 0, 1) := by decide +kernel
theorem d_Run_pop_1 : decode prog_6_method_3_code 1 = .ok (.dup, 1) := by decide +kernel
theorem d_Run_pop_2 : decode prog_6_method_3_code 2 = .ok (.getfield 46, 3) := by decide +kernel
theorem d_Run_pop_5 : decode prog_6_method_3_code 5 = .ok (.iconst 1, 1) := by decide +kernel
theorem d_Run_pop_6 : decode prog_6_method_3_code 6 = .ok (.isub, 1) := by decide +kernel
theorem d_Run_pop_7 : decode prog_6_method_3_code 7 = .ok (.putfield 46, 3) := by decide +kernel
theorem d_Run_pop_10 : decode prog_6_method_3_code 10 = .ok (.aload_n 0, 1) := by decide +kernel
theorem d_Run_pop_11 : decode prog_6_method_3_code 11 = .ok (.getfield 15, 3) := by decide +kernel
theorem d_Run_pop_14 : decode prog_6_method_3_code 14 = .ok (.aload_n 0, 1) := by decide +kernel
theorem d_Run_pop_15 : decode prog_6_method_3_code 15 = .ok (.getfield 46, 3) := by decide +kernel
theorem d_Run_pop_18 : decode prog_6_method_3_code 18 = .ok (.iaload, 1) := by decide +kernel
theorem d_Run_pop_19 : decode prog_6_method_3_code 19 = .ok (.ireturn, 1) := by decide +kernel
theorem d_Run_push_0 : decode prog_6_method_4_code 0 = .ok (.aload_n 0, 1) := by decide +kernel
theorem d_Run_push_1 : decode prog_6_method_4_code 1 = .ok (.getfield 15, 3) := by decide +kernel
theorem d_Run_push_4 : decode prog_6_method_4_code 4 = .ok (.aload_n 0, 1) := by decide +kernel
theorem d_Run_push_5 : decode prog_6_method_4_code 5 = .ok (.getfield 46, 3) := by decide +kernel
theorem d_Run_push_8 : decode prog_6_method_4_code 8 = .ok (.iload_n 1, 1) := by decide +kernel
theorem d_Run_push_9 : decode prog_6_method_4_code 9 = .ok (.iastore, 1) := by decide +kernel
theorem d_Run_push_10 : decode prog_6_method_4_code 10 = .ok (.aload_n 0, 1) := by decide +kernel
theorem d_Run_push_11 : decode prog_6_method_4_code 11 = .ok (.dup, 1) := by decide +kernel
theorem d_Run_push_12 : decode prog_6_method_4_code 12 = .ok (.getfield 46, 3) := by decide +kernel
theorem d_Run_push_15 : decode prog_6_method_4_code 15 = .ok (.iconst 1, 1) := by decide +kernel
theorem d_Run_push_16 : decode prog_6_method_4_code 16 = .ok (.iadd, 1) := by decide +kernel
theorem d_Run_push_17 : decode prog_6_method_4_code 17 = .ok (.putfield 46, 3) := by decide +kernel
theorem d_Run_push_20 : decode prog_6_method_4_code 20 = .ok (.return_, 1) := by decide +kernel
theorem d_Run_peek_0 : decode prog_6_method_5_code 0 = .ok (.aload_n 0, 1) := by decide +kernel
theorem d_Run_peek_1 : decode prog_6_method_5_code 1 = .ok (.getfield 15, 3) := by decide +kernel
theorem d_Run_peek_4 : decode prog_6_method_5_code 4 = .ok (.aload_n 0, 1) := by decide +kernel
theorem d_Run_peek_5 : decode prog_6_method_5_code 5 = .ok (.getfield 46, 3) := by decide +kernel
theorem d_Run_peek_8 : decode prog_6_method_5_code 8 = .ok (.iconst 1, 1) := by decide +kernel
theorem d_Run_peek_9 : decode prog_6_method_5_code 9 = .ok (.isub, 1) := by decide +kernel
theorem d_Run_peek_10 : decode prog_6_method_5_code 10 = .ok (.iload_n 1, 1) := by decide +kernel
theorem d_Run_peek_11 : decode prog_6_method_5_code 11 = .ok (.isub, 1) := by decide +kernel
theorem d_Run_peek_12 : decode prog_6_method_5_code 12 = .ok (.iaload, 1) := by decide +kernel
theorem d_Run_peek_13 : decode prog_6_method_5_code 13 = .ok (.ireturn, 1) := by decide +kernel
theorem d_Run_ends_0 : decode prog_6_method_8_code 0 = .ok (.aload_n 0, 1) := by decide +kernel
theorem d_Run_ends_1 : decode prog_6_method_8_code 1 = .ok (.iload_n 1, 1) := by decide +kernel
theorem d_Run_ends_2 : decode prog_6_method_8_code 2 = .ok (.putfield 18, 3) := by decide +kernel
theorem d_Run_ends_5 : decode prog_6_method_8_code 5 = .ok (.aload_n 0, 1) := by decide +kernel
theorem d_Run_ends_6 : decode prog_6_method_8_code 6 = .ok (.iload_n 2, 1) := by decide +kernel
theorem d_Run_ends_7 : decode prog_6_method_8_code 7 = .ok (.putfield 55, 3) := by decide +kernel
theorem d_Run_ends_10 : decode prog_6_method_8_code 10 = .ok (.return_, 1) := by decide +kernel
theorem d_Run_begin_0 : decode prog_6_method_2_code 0 = .ok (.aload_n 0, 1) := by decide +kernel
theorem d_Run_begin_1 : decode prog_6_method_2_code 1 = .ok (.iload_n 1, 1) := by decide +kernel
theorem d_Run_begin_2 : decode prog_6_method_2_code 2 = .ok (.putfield 37, 3) := by decide +kernel
theorem d_Run_begin_5 : decode prog_6_method_2_code 5 = .ok (.aload_n 0, 1) := by decide +kernel
theorem d_Run_begin_6 : decode prog_6_method_2_code 6 = .ok (.iload_n 2, 1) := by decide +kernel
theorem d_Run_begin_7 : decode prog_6_method_2_code 7 = .ok (.putfield 40, 3) := by decide +kernel
theorem d_Run_begin_10 : decode prog_6_method_2_code 10 = .ok (.aload_n 0, 1) := by decide +kernel
theorem d_Run_begin_11 : decode prog_6_method_2_code 11 = .ok (.iload_n 3, 1) := by decide +kernel
theorem d_Run_begin_12 : decode prog_6_method_2_code 12 = .ok (.putfield 43, 3) := by decide +kernel
theorem d_Run_begin_15 : decode prog_6_method_2_code 15 = .ok (.iconst 0, 1) := by decide +kernel
theorem d_Run_begin_16 : decode prog_6_method_2_code 16 = .ok (.istore 4, 2) := by decide +kernel
theorem d_Run_begin_18 : decode prog_6_method_2_code 18 = .ok (.iload 4, 2) := by decide +kernel
theorem d_Run_begin_20 : decode prog_6_method_2_code 20 = .ok (.bipush 8, 2) := by decide +kernel
theorem d_Run_begin_22 : decode prog_6_method_2_code 22 = .ok (.if_icmp .ge 17, 3) := by decide +kernel
theorem d_Run_begin_25 : decode prog_6_method_2_code 25 = .ok (.aload_n 0, 1) := by decide +kernel
theorem d_Run_begin_26 : decode prog_6_method_2_code 26 = .ok (.getfield 9, 3) := by decide +kernel
theorem d_Run_begin_29 : decode prog_6_method_2_code 29 = .ok (.iload 4, 2) := by decide +kernel
theorem d_Run_begin_31 : decode prog_6_method_2_code 31 = .ok (.iconst 0, 1) := by decide +kernel
theorem d_Run_begin_32 : decode prog_6_method_2_code 32 = .ok (.iastore, 1) := by decide +kernel
theorem d_Run_begin_33 : decode prog_6_method_2_code 33 = .ok (.iinc 4 1, 3) := by decide +kernel
theorem d_Run_begin_36 : decode prog_6_method_2_code 36 = .ok (.goto (-18), 3) := by decide +kernel
theorem d_Run_begin_39 : decode prog_6_method_2_code 39 = .ok (.aload_n 0, 1) := by decide +kernel
theorem d_Run_begin_40 : decode prog_6_method_2_code 40 = .ok (.iconst 0, 1) := by decide +kernel
theorem d_Run_begin_41 : decode prog_6_method_2_code 41 = .ok (.putfield 46, 3) := by decide +kernel
theorem d_Run_begin_44 : decode prog_6_method_2_code 44 = .ok (.aload_n 0, 1) := by decide +kernel
theorem d_Run_begin_45 : decode prog_6_method_2_code 45 = .ok (.iconst 0, 1) := by decide +kernel
theorem d_Run_begin_46 : decode prog_6_method_2_code 46 = .ok (.putfield 49, 3) := by decide +kernel
theorem d_Run_begin_49 : decode prog_6_method_2_code 49 = .ok (.aload_n 0, 1) := by decide +kernel
theorem d_Run_begin_50 : decode prog_6_method_2_code 50 = .ok (.iconst 0, 1) := by decide +kernel
theorem d_Run_begin_51 : decode prog_6_method_2_code 51 = .ok (.putfield 52, 3) := by decide +kernel
theorem d_Run_begin_54 : decode prog_6_method_2_code 54 = .ok (.aload_n 0, 1) := by decide +kernel
theorem d_Run_begin_55 : decode prog_6_method_2_code 55 = .ok (.iconst 0, 1) := by decide +kernel
theorem d_Run_begin_56 : decode prog_6_method_2_code 56 = .ok (.putfield 55, 3) := by decide +kernel
theorem d_Run_begin_59 : decode prog_6_method_2_code 59 = .ok (.aload_n 0, 1) := by decide +kernel
theorem d_Run_begin_60 : decode prog_6_method_2_code 60 = .ok (.iconst (-1), 1) := by decide +kernel
theorem d_Run_begin_61 : decode prog_6_method_2_code 61 = .ok (.putfield 18, 3) := by decide +kernel
theorem d_Run_begin_64 : decode prog_6_method_2_code 64 = .ok (.return_, 1) := by decide +kernel
theorem d_Run_swap_0 : decode prog_6_method_9_code 0 = .ok (.aload_n 0, 1) := by decide +kernel
theorem d_Run_swap_1 : decode prog_6_method_9_code 1 = .ok (.iconst 0, 1) := by decide +kernel
theorem d_Run_swap_2 : decode prog_6_method_9_code 2 = .ok (.invokevirtual 71, 3) := by decide +kernel
theorem d_Run_swap_5 : decode prog_6_method_9_code 5 = .ok (.istore_n 2, 1) := by decide +kernel
theorem d_Run_swap_6 : decode prog_6_method_9_code 6 = .ok (.aload_n 0, 1) := by decide +kernel
theorem d_Run_swap_7 : decode prog_6_method_9_code 7 = .ok (.getfield 15, 3) := by decide +kernel
theorem d_Run_swap_10 : decode prog_6_method_9_code 10 = .ok (.aload_n 0, 1) := by decide +kernel
theorem d_Run_swap_11 : decode prog_6_method_9_code 11 = .ok (.getfield 46, 3) := by decide +kernel
theorem d_Run_swap_14 : decode prog_6_method_9_code 14 = .ok (.iconst 1, 1) := by decide +kernel
theorem d_Run_swap_15 : decode prog_6_method_9_code 15 = .ok (.isub, 1) := by decide +kernel
theorem d_Run_swap_16 : decode prog_6_method_9_code 16 = .ok (.aload_n 0, 1) := by decide +kernel
theorem d_Run_swap_17 : decode prog_6_method_9_code 17 = .ok (.iload_n 1, 1) := by decide +kernel
theorem d_Run_swap_18 : decode prog_6_method_9_code 18 = .ok (.invokevirtual 71, 3) := by decide +kernel
theorem d_Run_swap_21 : decode prog_6_method_9_code 21 = .ok (.iastore, 1) := by decide +kernel
theorem d_Run_swap_22 : decode prog_6_method_9_code 22 = .ok (.aload_n 0, 1) := by decide +kernel
theorem d_Run_swap_23 : decode prog_6_method_9_code 23 = .ok (.getfield 15, 3) := by decide +kernel
theorem d_Run_swap_26 : decode prog_6_method_9_code 26 = .ok (.aload_n 0, 1) := by decide +kernel
theorem d_Run_swap_27 : decode prog_6_method_9_code 27 = .ok (.getfield 46, 3) := by decide +kernel
theorem d_Run_swap_30 : decode prog_6_method_9_code 30 = .ok (.iconst 1, 1) := by decide +kernel
theorem d_Run_swap_31 : decode prog_6_method_9_code 31 = .ok (.isub, 1) := by decide +kernel
theorem d_Run_swap_32 : decode prog_6_method_9_code 32 = .ok (.iload_n 1, 1) := by decide +kernel
theorem d_Run_swap_33 : decode prog_6_method_9_code 33 = .ok (.isub, 1) := by decide +kernel
theorem d_Run_swap_34 : decode prog_6_method_9_code 34 = .ok (.iload_n 2, 1) := by decide +kernel
theorem d_Run_swap_35 : decode prog_6_method_9_code 35 = .ok (.iastore, 1) := by decide +kernel
theorem d_Run_swap_36 : decode prog_6_method_9_code 36 = .ok (.return_, 1) := by decide +kernel
theorem d_Acc_length_0 : decode prog_2_method_2_code 0 = .ok (.aload_n 0, 1) := by decide +kernel
theorem d_Acc_length_1 : decode prog_2_method_2_code 1 = .ok (.getfield 19, 3) := by decide +kernel
theorem d_Acc_length_4 : decode prog_2_method_2_code 4 = .ok (.ifCond .eq 10, 3) := by decide +kernel
theorem d_Acc_length_7 : decode prog_2_method_2_code 7 = .ok (.aload_n 0, 1) := by decide +kernel
theorem d_Acc_length_8 : decode prog_2_method_2_code 8 = .ok (.getfield 23, 3) := by decide +kernel
theorem d_Acc_length_11 : decode prog_2_method_2_code 11 = .ok (.goto 4, 3) := by decide +kernel
theorem d_Acc_length_14 : decode prog_2_method_2_code 14 = .ok (.iconst 0, 1) := by decide +kernel
theorem d_Acc_length_15 : decode prog_2_method_2_code 15 = .ok (.ireturn, 1) := by decide +kernel
theorem d_Jou_add_0 : decode prog_5_method_2_code 0 = .ok (.aload_n 0, 1) := by decide +kernel
theorem d_Jou_add_1 : decode prog_5_method_2_code 1 = .ok (.getfield 9, 3) := by decide +kernel
theorem d_Jou_add_4 : decode prog_5_method_2_code 4 = .ok (.aload_n 0, 1) := by decide +kernel
theorem d_Jou_add_5 : decode prog_5_method_2_code 5 = .ok (.getfield 24, 3) := by decide +kernel
theorem d_Jou_add_8 : decode prog_5_method_2_code 8 = .ok (.iload_n 1, 1) := by decide +kernel
theorem d_Jou_add_9 : decode prog_5_method_2_code 9 = .ok (.i2b, 1) := by decide +kernel
theorem d_Jou_add_10 : decode prog_5_method_2_code 10 = .ok (.bastore, 1) := by decide +kernel
theorem d_Jou_add_11 : decode prog_5_method_2_code 11 = .ok (.aload_n 0, 1) := by decide +kernel
theorem d_Jou_add_12 : decode prog_5_method_2_code 12 = .ok (.getfield 13, 3) := by decide +kernel
theorem d_Jou_add_15 : decode prog_5_method_2_code 15 = .ok (.aload_n 0, 1) := by decide +kernel
theorem d_Jou_add_16 : decode prog_5_method_2_code 16 = .ok (.getfield 24, 3) := by decide +kernel
theorem d_Jou_add_19 : decode prog_5_method_2_code 19 = .ok (.iload_n 2, 1) := by decide +kernel
theorem d_Jou_add_20 : decode prog_5_method_2_code 20 = .ok (.bastore, 1) := by decide +kernel
theorem d_Jou_add_21 : decode prog_5_method_2_code 21 = .ok (.aload_n 0, 1) := by decide +kernel
theorem d_Jou_add_22 : decode prog_5_method_2_code 22 = .ok (.getfield 17, 3) := by decide +kernel
theorem d_Jou_add_25 : decode prog_5_method_2_code 25 = .ok (.aload_n 0, 1) := by decide +kernel
theorem d_Jou_add_26 : decode prog_5_method_2_code 26 = .ok (.getfield 24, 3) := by decide +kernel
theorem d_Jou_add_29 : decode prog_5_method_2_code 29 = .ok (.iload_n 3, 1) := by decide +kernel
theorem d_Jou_add_30 : decode prog_5_method_2_code 30 = .ok (.iastore, 1) := by decide +kernel
theorem d_Jou_add_31 : decode prog_5_method_2_code 31 = .ok (.aload_n 0, 1) := by decide +kernel
theorem d_Jou_add_32 : decode prog_5_method_2_code 32 = .ok (.getfield 21, 3) := by decide +kernel
theorem d_Jou_add_35 : decode prog_5_method_2_code 35 = .ok (.aload_n 0, 1) := by decide +kernel
theorem d_Jou_add_36 : decode prog_5_method_2_code 36 = .ok (.getfield 24, 3) := by decide +kernel
theorem d_Jou_add_39 : decode prog_5_method_2_code 39 = .ok (.iload 4, 2) := by decide +kernel
theorem d_Jou_add_41 : decode prog_5_method_2_code 41 = .ok (.iastore, 1) := by decide +kernel
theorem d_Jou_add_42 : decode prog_5_method_2_code 42 = .ok (.aload_n 0, 1) := by decide +kernel
theorem d_Jou_add_43 : decode prog_5_method_2_code 43 = .ok (.dup, 1) := by decide +kernel
theorem d_Jou_add_44 : decode prog_5_method_2_code 44 = .ok (.getfield 24, 3) := by decide +kernel
theorem d_Jou_add_47 : decode prog_5_method_2_code 47 = .ok (.iconst 1, 1) := by decide +kernel
theorem d_Jou_add_48 : decode prog_5_method_2_code 48 = .ok (.iadd, 1) := by decide +kernel
theorem d_Jou_add_49 : decode prog_5_method_2_code 49 = .ok (.putfield 24, 3) := by decide +kernel
theorem d_Jou_add_52 : decode prog_5_method_2_code 52 = .ok (.return_, 1) := by decide +kernel
theorem d_Book_write_0 : decode prog_3_method_10_code 0 = .ok (.aload_n 0, 1) := by decide +kernel
theorem d_Book_write_1 : decode prog_3_method_10_code 1 = .ok (.getfield 84, 3) := by decide +kernel
theorem d_Book_write_4 : decode prog_3_method_10_code 4 = .ok (.sipush 300, 3) := by decide +kernel
theorem d_Book_write_7 : decode prog_3_method_10_code 7 = .ok (.if_icmp .ge 23, 3) := by decide +kernel
theorem d_Book_write_10 : decode prog_3_method_10_code 10 = .ok (.aload_n 0, 1) := by decide +kernel
theorem d_Book_write_11 : decode prog_3_method_10_code 11 = .ok (.getfield 32, 3) := by decide +kernel
theorem d_Book_write_14 : decode prog_3_method_10_code 14 = .ok (.aload_n 0, 1) := by decide +kernel
theorem d_Book_write_15 : decode prog_3_method_10_code 15 = .ok (.getfield 84, 3) := by decide +kernel
theorem d_Book_write_18 : decode prog_3_method_10_code 18 = .ok (.iload_n 1, 1) := by decide +kernel
theorem d_Book_write_19 : decode prog_3_method_10_code 19 = .ok (.iastore, 1) := by decide +kernel
theorem d_Book_write_20 : decode prog_3_method_10_code 20 = .ok (.aload_n 0, 1) := by decide +kernel
theorem d_Book_write_21 : decode prog_3_method_10_code 21 = .ok (.dup, 1) := by decide +kernel
theorem d_Book_write_22 : decode prog_3_method_10_code 22 = .ok (.getfield 84, 3) := by decide +kernel
theorem d_Book_write_25 : decode prog_3_method_10_code 25 = .ok (.iconst 1, 1) := by decide +kernel
theorem d_Book_write_26 : decode prog_3_method_10_code 26 = .ok (.iadd, 1) := by decide +kernel
theorem d_Book_write_27 : decode prog_3_method_10_code 27 = .ok (.putfield 84, 3) := by decide +kernel
theorem d_Book_write_30 : decode prog_3_method_10_code 30 = .ok (.return_, 1) := by decide +kernel
theorem d_Led_used_0 : decode prog_1_method_10_code 0 = .ok (.aload_n 0, 1) := by decide +kernel
theorem d_Led_used_1 : decode prog_1_method_10_code 1 = .ok (.getfield 144, 3) := by decide +kernel
theorem d_Led_used_4 : decode prog_1_method_10_code 4 = .ok (.ireturn, 1) := by decide +kernel
theorem d_Led_result_0 : decode prog_1_method_11_code 0 = .ok (.aload_n 0, 1) := by decide +kernel
theorem d_Led_result_1 : decode prog_1_method_11_code 1 = .ok (.getfield 150, 3) := by decide +kernel
theorem d_Led_result_4 : decode prog_1_method_11_code 4 = .ok (.ireturn, 1) := by decide +kernel
theorem d_Led_keys_0 : decode prog_1_method_14_code 0 = .ok (.aload_n 0, 1) := by decide +kernel
theorem d_Led_keys_1 : decode prog_1_method_14_code 1 = .ok (.getfield 10, 3) := by decide +kernel
theorem d_Led_keys_4 : decode prog_1_method_14_code 4 = .ok (.getfield 158, 3) := by decide +kernel
theorem d_Led_keys_7 : decode prog_1_method_14_code 7 = .ok (.getfield 162, 3) := by decide +kernel
theorem d_Led_keys_10 : decode prog_1_method_14_code 10 = .ok (.ireturn, 1) := by decide +kernel
theorem d_Led_logged_0 : decode prog_1_method_15_code 0 = .ok (.aload_n 0, 1) := by decide +kernel
theorem d_Led_logged_1 : decode prog_1_method_15_code 1 = .ok (.getfield 10, 3) := by decide +kernel
theorem d_Led_logged_4 : decode prog_1_method_15_code 4 = .ok (.getfield 165, 3) := by decide +kernel
theorem d_Led_logged_7 : decode prog_1_method_15_code 7 = .ok (.ireturn, 1) := by decide +kernel
theorem d_Led_argument_0 : decode prog_1_method_8_code 0 = .ok (.aload_n 0, 1) := by decide +kernel
theorem d_Led_argument_1 : decode prog_1_method_8_code 1 = .ok (.getfield 114, 3) := by decide +kernel
theorem d_Led_argument_4 : decode prog_1_method_8_code 4 = .ok (.bipush 8, 2) := by decide +kernel
theorem d_Led_argument_6 : decode prog_1_method_8_code 6 = .ok (.if_icmp .ne 5, 3) := by decide +kernel
theorem d_Led_argument_9 : decode prog_1_method_8_code 9 = .ok (.iconst (-1), 1) := by decide +kernel
theorem d_Led_argument_10 : decode prog_1_method_8_code 10 = .ok (.ireturn, 1) := by decide +kernel
theorem d_Led_argument_11 : decode prog_1_method_8_code 11 = .ok (.aload_n 0, 1) := by decide +kernel
theorem d_Led_argument_12 : decode prog_1_method_8_code 12 = .ok (.getfield 32, 3) := by decide +kernel
theorem d_Led_argument_15 : decode prog_1_method_8_code 15 = .ok (.aload_n 0, 1) := by decide +kernel
theorem d_Led_argument_16 : decode prog_1_method_8_code 16 = .ok (.getfield 114, 3) := by decide +kernel
theorem d_Led_argument_19 : decode prog_1_method_8_code 19 = .ok (.iload_n 1, 1) := by decide +kernel
theorem d_Led_argument_20 : decode prog_1_method_8_code 20 = .ok (.iastore, 1) := by decide +kernel
theorem d_Led_argument_21 : decode prog_1_method_8_code 21 = .ok (.aload_n 0, 1) := by decide +kernel
theorem d_Led_argument_22 : decode prog_1_method_8_code 22 = .ok (.dup, 1) := by decide +kernel
theorem d_Led_argument_23 : decode prog_1_method_8_code 23 = .ok (.getfield 114, 3) := by decide +kernel
theorem d_Led_argument_26 : decode prog_1_method_8_code 26 = .ok (.iconst 1, 1) := by decide +kernel
theorem d_Led_argument_27 : decode prog_1_method_8_code 27 = .ok (.iadd, 1) := by decide +kernel
theorem d_Led_argument_28 : decode prog_1_method_8_code 28 = .ok (.putfield 114, 3) := by decide +kernel
theorem d_Led_argument_31 : decode prog_1_method_8_code 31 = .ok (.aload_n 0, 1) := by decide +kernel
theorem d_Led_argument_32 : decode prog_1_method_8_code 32 = .ok (.getfield 114, 3) := by decide +kernel
theorem d_Led_argument_35 : decode prog_1_method_8_code 35 = .ok (.ireturn, 1) := by decide +kernel
