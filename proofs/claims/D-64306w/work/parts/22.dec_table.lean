theorem d_Tab_find_0 : decode prog_7_method_3_code 0 = .ok (.lload_n 1, 1) := by decide +kernel
theorem d_Tab_find_1 : decode prog_7_method_3_code 1 = .ok (.invokestatic 25, 3) := by decide +kernel
theorem d_Tab_find_4 : decode prog_7_method_3_code 4 = .ok (.istore_n 3, 1) := by decide +kernel
theorem d_Tab_find_5 : decode prog_7_method_3_code 5 = .ok (.aload_n 0, 1) := by decide +kernel
theorem d_Tab_find_6 : decode prog_7_method_3_code 6 = .ok (.getfield 19, 3) := by decide +kernel
theorem d_Tab_find_9 : decode prog_7_method_3_code 9 = .ok (.iload_n 3, 1) := by decide +kernel
theorem d_Tab_find_10 : decode prog_7_method_3_code 10 = .ok (.baload, 1) := by decide +kernel
theorem d_Tab_find_11 : decode prog_7_method_3_code 11 = .ok (.ifCond .eq 37, 3) := by decide +kernel
theorem d_Tab_find_14 : decode prog_7_method_3_code 14 = .ok (.aload_n 0, 1) := by decide +kernel
theorem d_Tab_find_15 : decode prog_7_method_3_code 15 = .ok (.getfield 19, 3) := by decide +kernel
theorem d_Tab_find_18 : decode prog_7_method_3_code 18 = .ok (.iload_n 3, 1) := by decide +kernel
theorem d_Tab_find_19 : decode prog_7_method_3_code 19 = .ok (.baload, 1) := by decide +kernel
theorem d_Tab_find_20 : decode prog_7_method_3_code 20 = .ok (.iconst 1, 1) := by decide +kernel
theorem d_Tab_find_21 : decode prog_7_method_3_code 21 = .ok (.if_icmp .ne 16, 3) := by decide +kernel
theorem d_Tab_find_24 : decode prog_7_method_3_code 24 = .ok (.aload_n 0, 1) := by decide +kernel
theorem d_Tab_find_25 : decode prog_7_method_3_code 25 = .ok (.getfield 11, 3) := by decide +kernel
theorem d_Tab_find_28 : decode prog_7_method_3_code 28 = .ok (.iload_n 3, 1) := by decide +kernel
theorem d_Tab_find_29 : decode prog_7_method_3_code 29 = .ok (.laload, 1) := by decide +kernel
theorem d_Tab_find_30 : decode prog_7_method_3_code 30 = .ok (.lload_n 1, 1) := by decide +kernel
theorem d_Tab_find_31 : decode prog_7_method_3_code 31 = .ok (.lcmp, 1) := by decide +kernel
theorem d_Tab_find_32 : decode prog_7_method_3_code 32 = .ok (.ifCond .ne 5, 3) := by decide +kernel
theorem d_Tab_find_35 : decode prog_7_method_3_code 35 = .ok (.iload_n 3, 1) := by decide +kernel
theorem d_Tab_find_36 : decode prog_7_method_3_code 36 = .ok (.ireturn, 1) := by decide +kernel
theorem d_Tab_find_37 : decode prog_7_method_3_code 37 = .ok (.iload_n 3, 1) := by decide +kernel
theorem d_Tab_find_38 : decode prog_7_method_3_code 38 = .ok (.iconst 1, 1) := by decide +kernel
theorem d_Tab_find_39 : decode prog_7_method_3_code 39 = .ok (.iadd, 1) := by decide +kernel
theorem d_Tab_find_40 : decode prog_7_method_3_code 40 = .ok (.sipush 4095, 3) := by decide +kernel
theorem d_Tab_find_43 : decode prog_7_method_3_code 43 = .ok (.iand, 1) := by decide +kernel
theorem d_Tab_find_44 : decode prog_7_method_3_code 44 = .ok (.istore_n 3, 1) := by decide +kernel
theorem d_Tab_find_45 : decode prog_7_method_3_code 45 = .ok (.goto (-40), 3) := by decide +kernel
theorem d_Tab_find_48 : decode prog_7_method_3_code 48 = .ok (.iconst (-1), 1) := by decide +kernel
theorem d_Tab_find_49 : decode prog_7_method_3_code 49 = .ok (.ireturn, 1) := by decide +kernel
theorem d_Tab_get_0 : decode prog_7_method_4_code 0 = .ok (.aload_n 0, 1) := by decide +kernel
theorem d_Tab_get_1 : decode prog_7_method_4_code 1 = .ok (.lload_n 1, 1) := by decide +kernel
theorem d_Tab_get_2 : decode prog_7_method_4_code 2 = .ok (.invokevirtual 29, 3) := by decide +kernel
theorem d_Tab_get_5 : decode prog_7_method_4_code 5 = .ok (.istore_n 3, 1) := by decide +kernel
theorem d_Tab_get_6 : decode prog_7_method_4_code 6 = .ok (.iload_n 3, 1) := by decide +kernel
theorem d_Tab_get_7 : decode prog_7_method_4_code 7 = .ok (.iconst (-1), 1) := by decide +kernel
theorem d_Tab_get_8 : decode prog_7_method_4_code 8 = .ok (.if_icmp .ne 7, 3) := by decide +kernel
theorem d_Tab_get_11 : decode prog_7_method_4_code 11 = .ok (.iconst 0, 1) := by decide +kernel
theorem d_Tab_get_12 : decode prog_7_method_4_code 12 = .ok (.goto 9, 3) := by decide +kernel
theorem d_Tab_get_15 : decode prog_7_method_4_code 15 = .ok (.aload_n 0, 1) := by decide +kernel
theorem d_Tab_get_16 : decode prog_7_method_4_code 16 = .ok (.getfield 15, 3) := by decide +kernel
theorem d_Tab_get_19 : decode prog_7_method_4_code 19 = .ok (.iload_n 3, 1) := by decide +kernel
theorem d_Tab_get_20 : decode prog_7_method_4_code 20 = .ok (.iaload, 1) := by decide +kernel
theorem d_Tab_get_21 : decode prog_7_method_4_code 21 = .ok (.ireturn, 1) := by decide +kernel
theorem d_Tab_add_0 : decode prog_7_method_5_code 0 = .ok (.lload_n 1, 1) := by decide +kernel
theorem d_Tab_add_1 : decode prog_7_method_5_code 1 = .ok (.invokestatic 25, 3) := by decide +kernel
theorem d_Tab_add_4 : decode prog_7_method_5_code 4 = .ok (.istore 4, 2) := by decide +kernel
theorem d_Tab_add_6 : decode prog_7_method_5_code 6 = .ok (.aload_n 0, 1) := by decide +kernel
theorem d_Tab_add_7 : decode prog_7_method_5_code 7 = .ok (.getfield 19, 3) := by decide +kernel
theorem d_Tab_add_10 : decode prog_7_method_5_code 10 = .ok (.iload 4, 2) := by decide +kernel
theorem d_Tab_add_12 : decode prog_7_method_5_code 12 = .ok (.baload, 1) := by decide +kernel
theorem d_Tab_add_13 : decode prog_7_method_5_code 13 = .ok (.iconst 1, 1) := by decide +kernel
theorem d_Tab_add_14 : decode prog_7_method_5_code 14 = .ok (.if_icmp .ne 16, 3) := by decide +kernel
theorem d_Tab_add_17 : decode prog_7_method_5_code 17 = .ok (.iload 4, 2) := by decide +kernel
theorem d_Tab_add_19 : decode prog_7_method_5_code 19 = .ok (.iconst 1, 1) := by decide +kernel
theorem d_Tab_add_20 : decode prog_7_method_5_code 20 = .ok (.iadd, 1) := by decide +kernel
theorem d_Tab_add_21 : decode prog_7_method_5_code 21 = .ok (.sipush 4095, 3) := by decide +kernel
theorem d_Tab_add_24 : decode prog_7_method_5_code 24 = .ok (.iand, 1) := by decide +kernel
theorem d_Tab_add_25 : decode prog_7_method_5_code 25 = .ok (.istore 4, 2) := by decide +kernel
theorem d_Tab_add_27 : decode prog_7_method_5_code 27 = .ok (.goto (-21), 3) := by decide +kernel
theorem d_Tab_add_30 : decode prog_7_method_5_code 30 = .ok (.aload_n 0, 1) := by decide +kernel
theorem d_Tab_add_31 : decode prog_7_method_5_code 31 = .ok (.dup, 1) := by decide +kernel
theorem d_Tab_add_32 : decode prog_7_method_5_code 32 = .ok (.getfield 32, 3) := by decide +kernel
theorem d_Tab_add_35 : decode prog_7_method_5_code 35 = .ok (.aload_n 0, 1) := by decide +kernel
theorem d_Tab_add_36 : decode prog_7_method_5_code 36 = .ok (.getfield 19, 3) := by decide +kernel
theorem d_Tab_add_39 : decode prog_7_method_5_code 39 = .ok (.iload 4, 2) := by decide +kernel
theorem d_Tab_add_41 : decode prog_7_method_5_code 41 = .ok (.baload, 1) := by decide +kernel
theorem d_Tab_add_42 : decode prog_7_method_5_code 42 = .ok (.ifCond .ne 7, 3) := by decide +kernel
theorem d_Tab_add_45 : decode prog_7_method_5_code 45 = .ok (.iconst 1, 1) := by decide +kernel
theorem d_Tab_add_46 : decode prog_7_method_5_code 46 = .ok (.goto 4, 3) := by decide +kernel
theorem d_Tab_add_49 : decode prog_7_method_5_code 49 = .ok (.iconst 0, 1) := by decide +kernel
theorem d_Tab_add_50 : decode prog_7_method_5_code 50 = .ok (.iadd, 1) := by decide +kernel
theorem d_Tab_add_51 : decode prog_7_method_5_code 51 = .ok (.putfield 32, 3) := by decide +kernel
theorem d_Tab_add_54 : decode prog_7_method_5_code 54 = .ok (.aload_n 0, 1) := by decide +kernel
theorem d_Tab_add_55 : decode prog_7_method_5_code 55 = .ok (.getfield 19, 3) := by decide +kernel
theorem d_Tab_add_58 : decode prog_7_method_5_code 58 = .ok (.iload 4, 2) := by decide +kernel
theorem d_Tab_add_60 : decode prog_7_method_5_code 60 = .ok (.iconst 1, 1) := by decide +kernel
theorem d_Tab_add_61 : decode prog_7_method_5_code 61 = .ok (.bastore, 1) := by decide +kernel
theorem d_Tab_add_62 : decode prog_7_method_5_code 62 = .ok (.aload_n 0, 1) := by decide +kernel
theorem d_Tab_add_63 : decode prog_7_method_5_code 63 = .ok (.getfield 11, 3) := by decide +kernel
theorem d_Tab_add_66 : decode prog_7_method_5_code 66 = .ok (.iload 4, 2) := by decide +kernel
theorem d_Tab_add_68 : decode prog_7_method_5_code 68 = .ok (.lload_n 1, 1) := by decide +kernel
theorem d_Tab_add_69 : decode prog_7_method_5_code 69 = .ok (.lastore, 1) := by decide +kernel
theorem d_Tab_add_70 : decode prog_7_method_5_code 70 = .ok (.aload_n 0, 1) := by decide +kernel
theorem d_Tab_add_71 : decode prog_7_method_5_code 71 = .ok (.getfield 15, 3) := by decide +kernel
theorem d_Tab_add_74 : decode prog_7_method_5_code 74 = .ok (.iload 4, 2) := by decide +kernel
theorem d_Tab_add_76 : decode prog_7_method_5_code 76 = .ok (.iload_n 3, 1) := by decide +kernel
theorem d_Tab_add_77 : decode prog_7_method_5_code 77 = .ok (.iastore, 1) := by decide +kernel
theorem d_Tab_add_78 : decode prog_7_method_5_code 78 = .ok (.aload_n 0, 1) := by decide +kernel
theorem d_Tab_add_79 : decode prog_7_method_5_code 79 = .ok (.dup, 1) := by decide +kernel
theorem d_Tab_add_80 : decode prog_7_method_5_code 80 = .ok (.getfield 36, 3) := by decide +kernel
theorem d_Tab_add_83 : decode prog_7_method_5_code 83 = .ok (.iconst 1, 1) := by decide +kernel
theorem d_Tab_add_84 : decode prog_7_method_5_code 84 = .ok (.iadd, 1) := by decide +kernel
theorem d_Tab_add_85 : decode prog_7_method_5_code 85 = .ok (.putfield 36, 3) := by decide +kernel
theorem d_Tab_add_88 : decode prog_7_method_5_code 88 = .ok (.return_, 1) := by decide +kernel
theorem d_Tab_sweep_0 : decode prog_7_method_6_code 0 = .ok (.aload_n 0, 1) := by decide +kernel
theorem d_Tab_sweep_1 : decode prog_7_method_6_code 1 = .ok (.getfield 36, 3) := by decide +kernel
theorem d_Tab_sweep_4 : decode prog_7_method_6_code 4 = .ok (.newarray .long, 2) := by decide +kernel
theorem d_Tab_sweep_6 : decode prog_7_method_6_code 6 = .ok (.astore_n 1, 1) := by decide +kernel
theorem d_Tab_sweep_7 : decode prog_7_method_6_code 7 = .ok (.aload_n 0, 1) := by decide +kernel
theorem d_Tab_sweep_8 : decode prog_7_method_6_code 8 = .ok (.getfield 36, 3) := by decide +kernel
theorem d_Tab_sweep_11 : decode prog_7_method_6_code 11 = .ok (.newarray .int, 2) := by decide +kernel
theorem d_Tab_sweep_13 : decode prog_7_method_6_code 13 = .ok (.astore_n 2, 1) := by decide +kernel
theorem d_Tab_sweep_14 : decode prog_7_method_6_code 14 = .ok (.iconst 0, 1) := by decide +kernel
theorem d_Tab_sweep_15 : decode prog_7_method_6_code 15 = .ok (.istore_n 3, 1) := by decide +kernel
theorem d_Tab_sweep_16 : decode prog_7_method_6_code 16 = .ok (.iconst 0, 1) := by decide +kernel
theorem d_Tab_sweep_17 : decode prog_7_method_6_code 17 = .ok (.istore 4, 2) := by decide +kernel
theorem d_Tab_sweep_19 : decode prog_7_method_6_code 19 = .ok (.iload 4, 2) := by decide +kernel
theorem d_Tab_sweep_21 : decode prog_7_method_6_code 21 = .ok (.sipush 4096, 3) := by decide +kernel
theorem d_Tab_sweep_24 : decode prog_7_method_6_code 24 = .ok (.if_icmp .ge 51, 3) := by decide +kernel
theorem d_Tab_sweep_27 : decode prog_7_method_6_code 27 = .ok (.aload_n 0, 1) := by decide +kernel
theorem d_Tab_sweep_28 : decode prog_7_method_6_code 28 = .ok (.getfield 19, 3) := by decide +kernel
theorem d_Tab_sweep_31 : decode prog_7_method_6_code 31 = .ok (.iload 4, 2) := by decide +kernel
theorem d_Tab_sweep_33 : decode prog_7_method_6_code 33 = .ok (.baload, 1) := by decide +kernel
theorem d_Tab_sweep_34 : decode prog_7_method_6_code 34 = .ok (.iconst 1, 1) := by decide +kernel
theorem d_Tab_sweep_35 : decode prog_7_method_6_code 35 = .ok (.if_icmp .ne 26, 3) := by decide +kernel
theorem d_Tab_sweep_38 : decode prog_7_method_6_code 38 = .ok (.aload_n 1, 1) := by decide +kernel
theorem d_Tab_sweep_39 : decode prog_7_method_6_code 39 = .ok (.iload_n 3, 1) := by decide +kernel
theorem d_Tab_sweep_40 : decode prog_7_method_6_code 40 = .ok (.aload_n 0, 1) := by decide +kernel
theorem d_Tab_sweep_41 : decode prog_7_method_6_code 41 = .ok (.getfield 11, 3) := by decide +kernel
theorem d_Tab_sweep_44 : decode prog_7_method_6_code 44 = .ok (.iload 4, 2) := by decide +kernel
theorem d_Tab_sweep_46 : decode prog_7_method_6_code 46 = .ok (.laload, 1) := by decide +kernel
theorem d_Tab_sweep_47 : decode prog_7_method_6_code 47 = .ok (.lastore, 1) := by decide +kernel
theorem d_Tab_sweep_48 : decode prog_7_method_6_code 48 = .ok (.aload_n 2, 1) := by decide +kernel
theorem d_Tab_sweep_49 : decode prog_7_method_6_code 49 = .ok (.iload_n 3, 1) := by decide +kernel
theorem d_Tab_sweep_50 : decode prog_7_method_6_code 50 = .ok (.aload_n 0, 1) := by decide +kernel
theorem d_Tab_sweep_51 : decode prog_7_method_6_code 51 = .ok (.getfield 15, 3) := by decide +kernel
theorem d_Tab_sweep_54 : decode prog_7_method_6_code 54 = .ok (.iload 4, 2) := by decide +kernel
theorem d_Tab_sweep_56 : decode prog_7_method_6_code 56 = .ok (.iaload, 1) := by decide +kernel
theorem d_Tab_sweep_57 : decode prog_7_method_6_code 57 = .ok (.iastore, 1) := by decide +kernel
theorem d_Tab_sweep_58 : decode prog_7_method_6_code 58 = .ok (.iinc 3 1, 3) := by decide +kernel
theorem d_Tab_sweep_61 : decode prog_7_method_6_code 61 = .ok (.aload_n 0, 1) := by decide +kernel
theorem d_Tab_sweep_62 : decode prog_7_method_6_code 62 = .ok (.getfield 19, 3) := by decide +kernel
theorem d_Tab_sweep_65 : decode prog_7_method_6_code 65 = .ok (.iload 4, 2) := by decide +kernel
theorem d_Tab_sweep_67 : decode prog_7_method_6_code 67 = .ok (.iconst 0, 1) := by decide +kernel
theorem d_Tab_sweep_68 : decode prog_7_method_6_code 68 = .ok (.bastore, 1) := by decide +kernel
theorem d_Tab_sweep_69 : decode prog_7_method_6_code 69 = .ok (.iinc 4 1, 3) := by decide +kernel
theorem d_Tab_sweep_72 : decode prog_7_method_6_code 72 = .ok (.goto (-53), 3) := by decide +kernel
theorem d_Tab_sweep_75 : decode prog_7_method_6_code 75 = .ok (.aload_n 0, 1) := by decide +kernel
theorem d_Tab_sweep_76 : decode prog_7_method_6_code 76 = .ok (.iconst 0, 1) := by decide +kernel
theorem d_Tab_sweep_77 : decode prog_7_method_6_code 77 = .ok (.putfield 36, 3) := by decide +kernel
theorem d_Tab_sweep_80 : decode prog_7_method_6_code 80 = .ok (.aload_n 0, 1) := by decide +kernel
theorem d_Tab_sweep_81 : decode prog_7_method_6_code 81 = .ok (.iconst 0, 1) := by decide +kernel
theorem d_Tab_sweep_82 : decode prog_7_method_6_code 82 = .ok (.putfield 32, 3) := by decide +kernel
theorem d_Tab_sweep_85 : decode prog_7_method_6_code 85 = .ok (.iconst 0, 1) := by decide +kernel
theorem d_Tab_sweep_86 : decode prog_7_method_6_code 86 = .ok (.istore 4, 2) := by decide +kernel
theorem d_Tab_sweep_88 : decode prog_7_method_6_code 88 = .ok (.iload 4, 2) := by decide +kernel
theorem d_Tab_sweep_90 : decode prog_7_method_6_code 90 = .ok (.iload_n 3, 1) := by decide +kernel
theorem d_Tab_sweep_91 : decode prog_7_method_6_code 91 = .ok (.if_icmp .ge 21, 3) := by decide +kernel
theorem d_Tab_sweep_94 : decode prog_7_method_6_code 94 = .ok (.aload_n 0, 1) := by decide +kernel
theorem d_Tab_sweep_95 : decode prog_7_method_6_code 95 = .ok (.aload_n 1, 1) := by decide +kernel
theorem d_Tab_sweep_96 : decode prog_7_method_6_code 96 = .ok (.iload 4, 2) := by decide +kernel
theorem d_Tab_sweep_98 : decode prog_7_method_6_code 98 = .ok (.laload, 1) := by decide +kernel
theorem d_Tab_sweep_99 : decode prog_7_method_6_code 99 = .ok (.aload_n 2, 1) := by decide +kernel
theorem d_Tab_sweep_100 : decode prog_7_method_6_code 100 = .ok (.iload 4, 2) := by decide +kernel
theorem d_Tab_sweep_102 : decode prog_7_method_6_code 102 = .ok (.iaload, 1) := by decide +kernel
theorem d_Tab_sweep_103 : decode prog_7_method_6_code 103 = .ok (.invokevirtual 39, 3) := by decide +kernel
theorem d_Tab_sweep_106 : decode prog_7_method_6_code 106 = .ok (.iinc 4 1, 3) := by decide +kernel
theorem d_Tab_sweep_109 : decode prog_7_method_6_code 109 = .ok (.goto (-21), 3) := by decide +kernel
theorem d_Tab_sweep_112 : decode prog_7_method_6_code 112 = .ok (.return_, 1) := by decide +kernel
theorem d_Tab_set_0 : decode prog_7_method_7_code 0 = .ok (.aload_n 0, 1) := by decide +kernel
theorem d_Tab_set_1 : decode prog_7_method_7_code 1 = .ok (.lload_n 1, 1) := by decide +kernel
theorem d_Tab_set_2 : decode prog_7_method_7_code 2 = .ok (.invokevirtual 29, 3) := by decide +kernel
theorem d_Tab_set_5 : decode prog_7_method_7_code 5 = .ok (.istore 4, 2) := by decide +kernel
theorem d_Tab_set_7 : decode prog_7_method_7_code 7 = .ok (.iload 4, 2) := by decide +kernel
theorem d_Tab_set_9 : decode prog_7_method_7_code 9 = .ok (.iconst (-1), 1) := by decide +kernel
theorem d_Tab_set_10 : decode prog_7_method_7_code 10 = .ok (.if_icmp .eq 18, 3) := by decide +kernel
theorem d_Tab_set_13 : decode prog_7_method_7_code 13 = .ok (.iload_n 3, 1) := by decide +kernel
theorem d_Tab_set_14 : decode prog_7_method_7_code 14 = .ok (.ifCond .eq 14, 3) := by decide +kernel
theorem d_Tab_set_17 : decode prog_7_method_7_code 17 = .ok (.aload_n 0, 1) := by decide +kernel
theorem d_Tab_set_18 : decode prog_7_method_7_code 18 = .ok (.getfield 15, 3) := by decide +kernel
theorem d_Tab_set_21 : decode prog_7_method_7_code 21 = .ok (.iload 4, 2) := by decide +kernel
theorem d_Tab_set_23 : decode prog_7_method_7_code 23 = .ok (.iload_n 3, 1) := by decide +kernel
theorem d_Tab_set_24 : decode prog_7_method_7_code 24 = .ok (.iastore, 1) := by decide +kernel
theorem d_Tab_set_25 : decode prog_7_method_7_code 25 = .ok (.goto 54, 3) := by decide +kernel
theorem d_Tab_set_28 : decode prog_7_method_7_code 28 = .ok (.iload 4, 2) := by decide +kernel
theorem d_Tab_set_30 : decode prog_7_method_7_code 30 = .ok (.iconst (-1), 1) := by decide +kernel
theorem d_Tab_set_31 : decode prog_7_method_7_code 31 = .ok (.if_icmp .eq 24, 3) := by decide +kernel
theorem d_Tab_set_34 : decode prog_7_method_7_code 34 = .ok (.aload_n 0, 1) := by decide +kernel
theorem d_Tab_set_35 : decode prog_7_method_7_code 35 = .ok (.getfield 19, 3) := by decide +kernel
theorem d_Tab_set_38 : decode prog_7_method_7_code 38 = .ok (.iload 4, 2) := by decide +kernel
theorem d_Tab_set_40 : decode prog_7_method_7_code 40 = .ok (.iconst 2, 1) := by decide +kernel
theorem d_Tab_set_41 : decode prog_7_method_7_code 41 = .ok (.bastore, 1) := by decide +kernel
theorem d_Tab_set_42 : decode prog_7_method_7_code 42 = .ok (.aload_n 0, 1) := by decide +kernel
theorem d_Tab_set_43 : decode prog_7_method_7_code 43 = .ok (.dup, 1) := by decide +kernel
theorem d_Tab_set_44 : decode prog_7_method_7_code 44 = .ok (.getfield 36, 3) := by decide +kernel
theorem d_Tab_set_47 : decode prog_7_method_7_code 47 = .ok (.iconst 1, 1) := by decide +kernel
theorem d_Tab_set_48 : decode prog_7_method_7_code 48 = .ok (.isub, 1) := by decide +kernel
theorem d_Tab_set_49 : decode prog_7_method_7_code 49 = .ok (.putfield 36, 3) := by decide +kernel
theorem d_Tab_set_52 : decode prog_7_method_7_code 52 = .ok (.goto 27, 3) := by decide +kernel
theorem d_Tab_set_55 : decode prog_7_method_7_code 55 = .ok (.iload_n 3, 1) := by decide +kernel
theorem d_Tab_set_56 : decode prog_7_method_7_code 56 = .ok (.ifCond .eq 23, 3) := by decide +kernel
theorem d_Tab_set_59 : decode prog_7_method_7_code 59 = .ok (.aload_n 0, 1) := by decide +kernel
theorem d_Tab_set_60 : decode prog_7_method_7_code 60 = .ok (.getfield 32, 3) := by decide +kernel
theorem d_Tab_set_63 : decode prog_7_method_7_code 63 = .ok (.sipush 2048, 3) := by decide +kernel
theorem d_Tab_set_66 : decode prog_7_method_7_code 66 = .ok (.if_icmp .le 7, 3) := by decide +kernel
theorem d_Tab_set_69 : decode prog_7_method_7_code 69 = .ok (.aload_n 0, 1) := by decide +kernel
theorem d_Tab_set_70 : decode prog_7_method_7_code 70 = .ok (.invokevirtual 43, 3) := by decide +kernel
theorem d_Tab_set_73 : decode prog_7_method_7_code 73 = .ok (.aload_n 0, 1) := by decide +kernel
theorem d_Tab_set_74 : decode prog_7_method_7_code 74 = .ok (.lload_n 1, 1) := by decide +kernel
theorem d_Tab_set_75 : decode prog_7_method_7_code 75 = .ok (.iload_n 3, 1) := by decide +kernel
theorem d_Tab_set_76 : decode prog_7_method_7_code 76 = .ok (.invokevirtual 39, 3) := by decide +kernel
theorem d_Tab_set_79 : decode prog_7_method_7_code 79 = .ok (.return_, 1) := by decide +kernel
theorem d_Ins_takes_0 : decode prog_4_method_4_code 0 = .ok (.aload_n 0, 1) := by decide +kernel
theorem d_Ins_takes_1 : decode prog_4_method_4_code 1 = .ok (.invokevirtual 125, 3) := by decide +kernel
theorem d_Ins_takes_4 : decode prog_4_method_4_code 4 = .ok (.lookupswitch 124 #[(3, 52), (4, 70), (16, 89), (17, 89), (27, 106)], 52) := by decide +kernel
theorem d_Ins_takes_56 : decode prog_4_method_4_code 56 = .ok (.iload_n 1, 1) := by decide +kernel
theorem d_Ins_takes_57 : decode prog_4_method_4_code 57 = .ok (.ifCond .lt 13, 3) := by decide +kernel
theorem d_Ins_takes_60 : decode prog_4_method_4_code 60 = .ok (.iload_n 1, 1) := by decide +kernel
theorem d_Ins_takes_61 : decode prog_4_method_4_code 61 = .ok (.bipush 15, 2) := by decide +kernel
theorem d_Ins_takes_63 : decode prog_4_method_4_code 63 = .ok (.if_icmp .gt 7, 3) := by decide +kernel
theorem d_Ins_takes_66 : decode prog_4_method_4_code 66 = .ok (.iconst 1, 1) := by decide +kernel
theorem d_Ins_takes_67 : decode prog_4_method_4_code 67 = .ok (.goto 62, 3) := by decide +kernel
theorem d_Ins_takes_70 : decode prog_4_method_4_code 70 = .ok (.iconst 0, 1) := by decide +kernel
theorem d_Ins_takes_71 : decode prog_4_method_4_code 71 = .ok (.goto 58, 3) := by decide +kernel
theorem d_Ins_takes_74 : decode prog_4_method_4_code 74 = .ok (.iload_n 1, 1) := by decide +kernel
theorem d_Ins_takes_75 : decode prog_4_method_4_code 75 = .ok (.iconst 1, 1) := by decide +kernel
theorem d_Ins_takes_76 : decode prog_4_method_4_code 76 = .ok (.if_icmp .lt 13, 3) := by decide +kernel
theorem d_Ins_takes_79 : decode prog_4_method_4_code 79 = .ok (.iload_n 1, 1) := by decide +kernel
theorem d_Ins_takes_80 : decode prog_4_method_4_code 80 = .ok (.bipush 15, 2) := by decide +kernel
theorem d_Ins_takes_82 : decode prog_4_method_4_code 82 = .ok (.if_icmp .gt 7, 3) := by decide +kernel
theorem d_Ins_takes_85 : decode prog_4_method_4_code 85 = .ok (.iconst 1, 1) := by decide +kernel
theorem d_Ins_takes_86 : decode prog_4_method_4_code 86 = .ok (.goto 43, 3) := by decide +kernel
theorem d_Ins_takes_89 : decode prog_4_method_4_code 89 = .ok (.iconst 0, 1) := by decide +kernel
theorem d_Ins_takes_90 : decode prog_4_method_4_code 90 = .ok (.goto 39, 3) := by decide +kernel
theorem d_Ins_takes_93 : decode prog_4_method_4_code 93 = .ok (.iload_n 1, 1) := by decide +kernel
theorem d_Ins_takes_94 : decode prog_4_method_4_code 94 = .ok (.ifCond .lt 12, 3) := by decide +kernel
theorem d_Ins_takes_97 : decode prog_4_method_4_code 97 = .ok (.iload_n 1, 1) := by decide +kernel
theorem d_Ins_takes_98 : decode prog_4_method_4_code 98 = .ok (.iload_n 2, 1) := by decide +kernel
theorem d_Ins_takes_99 : decode prog_4_method_4_code 99 = .ok (.if_icmp .gt 7, 3) := by decide +kernel
theorem d_Ins_takes_102 : decode prog_4_method_4_code 102 = .ok (.iconst 1, 1) := by decide +kernel
theorem d_Ins_takes_103 : decode prog_4_method_4_code 103 = .ok (.goto 26, 3) := by decide +kernel
theorem d_Ins_takes_106 : decode prog_4_method_4_code 106 = .ok (.iconst 0, 1) := by decide +kernel
theorem d_Ins_takes_107 : decode prog_4_method_4_code 107 = .ok (.goto 22, 3) := by decide +kernel
theorem d_Ins_takes_110 : decode prog_4_method_4_code 110 = .ok (.iload_n 1, 1) := by decide +kernel
theorem d_Ins_takes_111 : decode prog_4_method_4_code 111 = .ok (.ifCond .lt 13, 3) := by decide +kernel
theorem d_Ins_takes_114 : decode prog_4_method_4_code 114 = .ok (.iload_n 1, 1) := by decide +kernel
theorem d_Ins_takes_115 : decode prog_4_method_4_code 115 = .ok (.bipush 8, 2) := by decide +kernel
theorem d_Ins_takes_117 : decode prog_4_method_4_code 117 = .ok (.if_icmp .gt 7, 3) := by decide +kernel
theorem d_Ins_takes_120 : decode prog_4_method_4_code 120 = .ok (.iconst 1, 1) := by decide +kernel
theorem d_Ins_takes_121 : decode prog_4_method_4_code 121 = .ok (.goto 8, 3) := by decide +kernel
theorem d_Ins_takes_124 : decode prog_4_method_4_code 124 = .ok (.iconst 0, 1) := by decide +kernel
theorem d_Ins_takes_125 : decode prog_4_method_4_code 125 = .ok (.goto 4, 3) := by decide +kernel
theorem d_Ins_takes_128 : decode prog_4_method_4_code 128 = .ok (.iconst 1, 1) := by decide +kernel
theorem d_Ins_takes_129 : decode prog_4_method_4_code 129 = .ok (.ireturn, 1) := by decide +kernel
theorem d_Ins_needed_0 : decode prog_4_method_5_code 0 = .ok (.aload_n 0, 1) := by decide +kernel
theorem d_Ins_needed_1 : decode prog_4_method_5_code 1 = .ok (.invokevirtual 125, 3) := by decide +kernel
theorem d_Ins_needed_4 : decode prog_4_method_5_code 4 = .ok (.lookupswitch 48 #[(3, 36), (4, 36), (27, 42)], 36) := by decide +kernel
theorem d_Ins_needed_40 : decode prog_4_method_5_code 40 = .ok (.iload_n 1, 1) := by decide +kernel
theorem d_Ins_needed_41 : decode prog_4_method_5_code 41 = .ok (.iconst 1, 1) := by decide +kernel
theorem d_Ins_needed_42 : decode prog_4_method_5_code 42 = .ok (.iadd, 1) := by decide +kernel
theorem d_Ins_needed_43 : decode prog_4_method_5_code 43 = .ok (.goto 13, 3) := by decide +kernel
theorem d_Ins_needed_46 : decode prog_4_method_5_code 46 = .ok (.iload_n 1, 1) := by decide +kernel
theorem d_Ins_needed_47 : decode prog_4_method_5_code 47 = .ok (.iconst 3, 1) := by decide +kernel
theorem d_Ins_needed_48 : decode prog_4_method_5_code 48 = .ok (.iadd, 1) := by decide +kernel
theorem d_Ins_needed_49 : decode prog_4_method_5_code 49 = .ok (.goto 7, 3) := by decide +kernel
theorem d_Ins_needed_52 : decode prog_4_method_5_code 52 = .ok (.aload_n 0, 1) := by decide +kernel
theorem d_Ins_needed_53 : decode prog_4_method_5_code 53 = .ok (.getfield 115, 3) := by decide +kernel
theorem d_Ins_needed_56 : decode prog_4_method_5_code 56 = .ok (.ireturn, 1) := by decide +kernel
theorem d_Ins_of_0 : decode prog_4_method_6_code 0 = .ok (.aload_n 0, 1) := by decide +kernel
theorem d_Ins_of_1 : decode prog_4_method_6_code 1 = .ok (.invokevirtual 125, 3) := by decide +kernel
theorem d_Ins_of_4 : decode prog_4_method_6_code 4 = .ok (.tableswitch 140 5 14 #[56, 62, 68, 74, 88, 102, 115, 140, 128, 134], 56) := by decide +kernel
theorem d_Ins_of_60 : decode prog_4_method_6_code 60 = .ok (.iload_n 1, 1) := by decide +kernel
theorem d_Ins_of_61 : decode prog_4_method_6_code 61 = .ok (.iload_n 2, 1) := by decide +kernel
theorem d_Ins_of_62 : decode prog_4_method_6_code 62 = .ok (.iadd, 1) := by decide +kernel
theorem d_Ins_of_63 : decode prog_4_method_6_code 63 = .ok (.goto 84, 3) := by decide +kernel
theorem d_Ins_of_66 : decode prog_4_method_6_code 66 = .ok (.iload_n 1, 1) := by decide +kernel
theorem d_Ins_of_67 : decode prog_4_method_6_code 67 = .ok (.iload_n 2, 1) := by decide +kernel
theorem d_Ins_of_68 : decode prog_4_method_6_code 68 = .ok (.isub, 1) := by decide +kernel
theorem d_Ins_of_69 : decode prog_4_method_6_code 69 = .ok (.goto 78, 3) := by decide +kernel
theorem d_Ins_of_72 : decode prog_4_method_6_code 72 = .ok (.iload_n 1, 1) := by decide +kernel
theorem d_Ins_of_73 : decode prog_4_method_6_code 73 = .ok (.iload_n 2, 1) := by decide +kernel
theorem d_Ins_of_74 : decode prog_4_method_6_code 74 = .ok (.imul, 1) := by decide +kernel
theorem d_Ins_of_75 : decode prog_4_method_6_code 75 = .ok (.goto 72, 3) := by decide +kernel
theorem d_Ins_of_78 : decode prog_4_method_6_code 78 = .ok (.iload_n 2, 1) := by decide +kernel
theorem d_Ins_of_79 : decode prog_4_method_6_code 79 = .ok (.ifCond .ne 7, 3) := by decide +kernel
theorem d_Ins_of_82 : decode prog_4_method_6_code 82 = .ok (.iconst 0, 1) := by decide +kernel
theorem d_Ins_of_83 : decode prog_4_method_6_code 83 = .ok (.goto 64, 3) := by decide +kernel
theorem d_Ins_of_86 : decode prog_4_method_6_code 86 = .ok (.iload_n 1, 1) := by decide +kernel
theorem d_Ins_of_87 : decode prog_4_method_6_code 87 = .ok (.iload_n 2, 1) := by decide +kernel
theorem d_Ins_of_88 : decode prog_4_method_6_code 88 = .ok (.idiv, 1) := by decide +kernel
theorem d_Ins_of_89 : decode prog_4_method_6_code 89 = .ok (.goto 58, 3) := by decide +kernel
theorem d_Ins_of_92 : decode prog_4_method_6_code 92 = .ok (.iload_n 2, 1) := by decide +kernel
theorem d_Ins_of_93 : decode prog_4_method_6_code 93 = .ok (.ifCond .ne 7, 3) := by decide +kernel
theorem d_Ins_of_96 : decode prog_4_method_6_code 96 = .ok (.iload_n 1, 1) := by decide +kernel
theorem d_Ins_of_97 : decode prog_4_method_6_code 97 = .ok (.goto 50, 3) := by decide +kernel
theorem d_Ins_of_100 : decode prog_4_method_6_code 100 = .ok (.iload_n 1, 1) := by decide +kernel
theorem d_Ins_of_101 : decode prog_4_method_6_code 101 = .ok (.iload_n 2, 1) := by decide +kernel
theorem d_Ins_of_102 : decode prog_4_method_6_code 102 = .ok (.irem, 1) := by decide +kernel
theorem d_Ins_of_103 : decode prog_4_method_6_code 103 = .ok (.goto 44, 3) := by decide +kernel
theorem d_Ins_of_106 : decode prog_4_method_6_code 106 = .ok (.iload_n 1, 1) := by decide +kernel
theorem d_Ins_of_107 : decode prog_4_method_6_code 107 = .ok (.iload_n 2, 1) := by decide +kernel
theorem d_Ins_of_108 : decode prog_4_method_6_code 108 = .ok (.if_icmp .ge 7, 3) := by decide +kernel
theorem d_Ins_of_111 : decode prog_4_method_6_code 111 = .ok (.iconst 1, 1) := by decide +kernel
theorem d_Ins_of_112 : decode prog_4_method_6_code 112 = .ok (.goto 35, 3) := by decide +kernel
theorem d_Ins_of_115 : decode prog_4_method_6_code 115 = .ok (.iconst 0, 1) := by decide +kernel
theorem d_Ins_of_116 : decode prog_4_method_6_code 116 = .ok (.goto 31, 3) := by decide +kernel
theorem d_Ins_of_119 : decode prog_4_method_6_code 119 = .ok (.iload_n 1, 1) := by decide +kernel
theorem d_Ins_of_120 : decode prog_4_method_6_code 120 = .ok (.iload_n 2, 1) := by decide +kernel
theorem d_Ins_of_121 : decode prog_4_method_6_code 121 = .ok (.if_icmp .ne 7, 3) := by decide +kernel
theorem d_Ins_of_124 : decode prog_4_method_6_code 124 = .ok (.iconst 1, 1) := by decide +kernel
theorem d_Ins_of_125 : decode prog_4_method_6_code 125 = .ok (.goto 22, 3) := by decide +kernel
theorem d_Ins_of_128 : decode prog_4_method_6_code 128 = .ok (.iconst 0, 1) := by decide +kernel
theorem d_Ins_of_129 : decode prog_4_method_6_code 129 = .ok (.goto 18, 3) := by decide +kernel
theorem d_Ins_of_132 : decode prog_4_method_6_code 132 = .ok (.iload_n 1, 1) := by decide +kernel
theorem d_Ins_of_133 : decode prog_4_method_6_code 133 = .ok (.iload_n 2, 1) := by decide +kernel
theorem d_Ins_of_134 : decode prog_4_method_6_code 134 = .ok (.iand, 1) := by decide +kernel
theorem d_Ins_of_135 : decode prog_4_method_6_code 135 = .ok (.goto 12, 3) := by decide +kernel
theorem d_Ins_of_138 : decode prog_4_method_6_code 138 = .ok (.iload_n 1, 1) := by decide +kernel
theorem d_Ins_of_139 : decode prog_4_method_6_code 139 = .ok (.iload_n 2, 1) := by decide +kernel
theorem d_Ins_of_140 : decode prog_4_method_6_code 140 = .ok (.ior, 1) := by decide +kernel
theorem d_Ins_of_141 : decode prog_4_method_6_code 141 = .ok (.goto 6, 3) := by decide +kernel
theorem d_Ins_of_144 : decode prog_4_method_6_code 144 = .ok (.iload_n 1, 1) := by decide +kernel
theorem d_Ins_of_145 : decode prog_4_method_6_code 145 = .ok (.iload_n 2, 1) := by decide +kernel
theorem d_Ins_of_146 : decode prog_4_method_6_code 146 = .ok (.ixor, 1) := by decide +kernel
theorem d_Ins_of_147 : decode prog_4_method_6_code 147 = .ok (.ireturn, 1) := by decide +kernel
