theorem d_Mod_thrown_0 : decode prog_9_method_2_code 0 = .ok (.aload_n 0, 1) := by decide +kernel
theorem d_Mod_thrown_1 : decode prog_9_method_2_code 1 = .ok (.getfield 83, 3) := by decide +kernel
theorem d_Mod_thrown_4 : decode prog_9_method_2_code 4 = .ok (.ireturn, 1) := by decide +kernel
theorem d_Mod_noAccount_0 : decode prog_9_method_3_code 0 = .ok (.iload_n 1, 1) := by decide +kernel
theorem d_Mod_noAccount_1 : decode prog_9_method_3_code 1 = .ok (.ifCond .lt 11, 3) := by decide +kernel
theorem d_Mod_noAccount_4 : decode prog_9_method_3_code 4 = .ok (.iload_n 1, 1) := by decide +kernel
theorem d_Mod_noAccount_5 : decode prog_9_method_3_code 5 = .ok (.aload_n 0, 1) := by decide +kernel
theorem d_Mod_noAccount_6 : decode prog_9_method_3_code 6 = .ok (.getfield 87, 3) := by decide +kernel
theorem d_Mod_noAccount_9 : decode prog_9_method_3_code 9 = .ok (.if_icmp .lt 7, 3) := by decide +kernel
theorem d_Mod_noAccount_12 : decode prog_9_method_3_code 12 = .ok (.iconst 1, 1) := by decide +kernel
theorem d_Mod_noAccount_13 : decode prog_9_method_3_code 13 = .ok (.goto 4, 3) := by decide +kernel
theorem d_Mod_noAccount_16 : decode prog_9_method_3_code 16 = .ok (.iconst 0, 1) := by decide +kernel
theorem d_Mod_noAccount_17 : decode prog_9_method_3_code 17 = .ok (.ireturn, 1) := by decide +kernel
theorem d_Mod_supply_0 : decode prog_9_method_4_code 0 = .ok (.aload_n 0, 1) := by decide +kernel
theorem d_Mod_supply_1 : decode prog_9_method_4_code 1 = .ok (.iconst 0, 1) := by decide +kernel
theorem d_Mod_supply_2 : decode prog_9_method_4_code 2 = .ok (.putfield 83, 3) := by decide +kernel
theorem d_Mod_supply_5 : decode prog_9_method_4_code 5 = .ok (.iconst 0, 1) := by decide +kernel
theorem d_Mod_supply_6 : decode prog_9_method_4_code 6 = .ok (.istore_n 1, 1) := by decide +kernel
theorem d_Mod_supply_7 : decode prog_9_method_4_code 7 = .ok (.iconst 0, 1) := by decide +kernel
theorem d_Mod_supply_8 : decode prog_9_method_4_code 8 = .ok (.istore_n 2, 1) := by decide +kernel
theorem d_Mod_supply_9 : decode prog_9_method_4_code 9 = .ok (.iload_n 2, 1) := by decide +kernel
theorem d_Mod_supply_10 : decode prog_9_method_4_code 10 = .ok (.aload_n 0, 1) := by decide +kernel
theorem d_Mod_supply_11 : decode prog_9_method_4_code 11 = .ok (.getfield 87, 3) := by decide +kernel
theorem d_Mod_supply_14 : decode prog_9_method_4_code 14 = .ok (.if_icmp .ge 18, 3) := by decide +kernel
theorem d_Mod_supply_17 : decode prog_9_method_4_code 17 = .ok (.iload_n 1, 1) := by decide +kernel
theorem d_Mod_supply_18 : decode prog_9_method_4_code 18 = .ok (.aload_n 0, 1) := by decide +kernel
theorem d_Mod_supply_19 : decode prog_9_method_4_code 19 = .ok (.getfield 7, 3) := by decide +kernel
theorem d_Mod_supply_22 : decode prog_9_method_4_code 22 = .ok (.iload_n 2, 1) := by decide +kernel
theorem d_Mod_supply_23 : decode prog_9_method_4_code 23 = .ok (.iaload, 1) := by decide +kernel
theorem d_Mod_supply_24 : decode prog_9_method_4_code 24 = .ok (.iadd, 1) := by decide +kernel
theorem d_Mod_supply_25 : decode prog_9_method_4_code 25 = .ok (.istore_n 1, 1) := by decide +kernel
theorem d_Mod_supply_26 : decode prog_9_method_4_code 26 = .ok (.iinc 2 1, 3) := by decide +kernel
theorem d_Mod_supply_29 : decode prog_9_method_4_code 29 = .ok (.goto (-20), 3) := by decide +kernel
theorem d_Mod_supply_32 : decode prog_9_method_4_code 32 = .ok (.iload_n 1, 1) := by decide +kernel
theorem d_Mod_supply_33 : decode prog_9_method_4_code 33 = .ok (.ireturn, 1) := by decide +kernel
theorem d_Mod_open_0 : decode prog_9_method_5_code 0 = .ok (.aload_n 0, 1) := by decide +kernel
theorem d_Mod_open_1 : decode prog_9_method_5_code 1 = .ok (.invokevirtual 90, 3) := by decide +kernel
theorem d_Mod_open_4 : decode prog_9_method_5_code 4 = .ok (.istore_n 2, 1) := by decide +kernel
theorem d_Mod_open_5 : decode prog_9_method_5_code 5 = .ok (.aload_n 0, 1) := by decide +kernel
theorem d_Mod_open_6 : decode prog_9_method_5_code 6 = .ok (.iload_n 1, 1) := by decide +kernel
theorem d_Mod_open_7 : decode prog_9_method_5_code 7 = .ok (.ifCond .ge 7, 3) := by decide +kernel
theorem d_Mod_open_10 : decode prog_9_method_5_code 10 = .ok (.iconst 1, 1) := by decide +kernel
theorem d_Mod_open_11 : decode prog_9_method_5_code 11 = .ok (.goto 4, 3) := by decide +kernel
theorem d_Mod_open_14 : decode prog_9_method_5_code 14 = .ok (.iconst 0, 1) := by decide +kernel
theorem d_Mod_open_15 : decode prog_9_method_5_code 15 = .ok (.putfield 83, 3) := by decide +kernel
theorem d_Mod_open_18 : decode prog_9_method_5_code 18 = .ok (.aload_n 0, 1) := by decide +kernel
theorem d_Mod_open_19 : decode prog_9_method_5_code 19 = .ok (.getfield 83, 3) := by decide +kernel
theorem d_Mod_open_22 : decode prog_9_method_5_code 22 = .ok (.ifCond .le 5, 3) := by decide +kernel
theorem d_Mod_open_25 : decode prog_9_method_5_code 25 = .ok (.iconst 0, 1) := by decide +kernel
theorem d_Mod_open_26 : decode prog_9_method_5_code 26 = .ok (.ireturn, 1) := by decide +kernel
theorem d_Mod_open_27 : decode prog_9_method_5_code 27 = .ok (.aload_n 0, 1) := by decide +kernel
theorem d_Mod_open_28 : decode prog_9_method_5_code 28 = .ok (.getfield 87, 3) := by decide +kernel
theorem d_Mod_open_31 : decode prog_9_method_5_code 31 = .ok (.bipush 24, 2) := by decide +kernel
theorem d_Mod_open_33 : decode prog_9_method_5_code 33 = .ok (.if_icmp .eq 15, 3) := by decide +kernel
theorem d_Mod_open_36 : decode prog_9_method_5_code 36 = .ok (.iload_n 2, 1) := by decide +kernel
theorem d_Mod_open_37 : decode prog_9_method_5_code 37 = .ok (.i2l, 1) := by decide +kernel
theorem d_Mod_open_38 : decode prog_9_method_5_code 38 = .ok (.iload_n 1, 1) := by decide +kernel
theorem d_Mod_open_39 : decode prog_9_method_5_code 39 = .ok (.i2l, 1) := by decide +kernel
theorem d_Mod_open_40 : decode prog_9_method_5_code 40 = .ok (.ladd, 1) := by decide +kernel
theorem d_Mod_open_41 : decode prog_9_method_5_code 41 = .ok (.ldc2_w 94, 3) := by decide +kernel
theorem d_Mod_open_44 : decode prog_9_method_5_code 44 = .ok (.lcmp, 1) := by decide +kernel
theorem d_Mod_open_45 : decode prog_9_method_5_code 45 = .ok (.ifCond .le 5, 3) := by decide +kernel
theorem d_Mod_open_48 : decode prog_9_method_5_code 48 = .ok (.iconst (-1), 1) := by decide +kernel
theorem d_Mod_open_49 : decode prog_9_method_5_code 49 = .ok (.ireturn, 1) := by decide +kernel
theorem d_Mod_open_50 : decode prog_9_method_5_code 50 = .ok (.aload_n 0, 1) := by decide +kernel
theorem d_Mod_open_51 : decode prog_9_method_5_code 51 = .ok (.getfield 7, 3) := by decide +kernel
theorem d_Mod_open_54 : decode prog_9_method_5_code 54 = .ok (.aload_n 0, 1) := by decide +kernel
theorem d_Mod_open_55 : decode prog_9_method_5_code 55 = .ok (.getfield 87, 3) := by decide +kernel
theorem d_Mod_open_58 : decode prog_9_method_5_code 58 = .ok (.iload_n 1, 1) := by decide +kernel
theorem d_Mod_open_59 : decode prog_9_method_5_code 59 = .ok (.iastore, 1) := by decide +kernel
theorem d_Mod_open_60 : decode prog_9_method_5_code 60 = .ok (.aload_n 0, 1) := by decide +kernel
theorem d_Mod_open_61 : decode prog_9_method_5_code 61 = .ok (.getfield 16, 3) := by decide +kernel
theorem d_Mod_open_64 : decode prog_9_method_5_code 64 = .ok (.aload_n 0, 1) := by decide +kernel
theorem d_Mod_open_65 : decode prog_9_method_5_code 65 = .ok (.getfield 87, 3) := by decide +kernel
theorem d_Mod_open_68 : decode prog_9_method_5_code 68 = .ok (.iconst 0, 1) := by decide +kernel
theorem d_Mod_open_69 : decode prog_9_method_5_code 69 = .ok (.iastore, 1) := by decide +kernel
theorem d_Mod_open_70 : decode prog_9_method_5_code 70 = .ok (.aload_n 0, 1) := by decide +kernel
theorem d_Mod_open_71 : decode prog_9_method_5_code 71 = .ok (.getfield 19, 3) := by decide +kernel
theorem d_Mod_open_74 : decode prog_9_method_5_code 74 = .ok (.aload_n 0, 1) := by decide +kernel
theorem d_Mod_open_75 : decode prog_9_method_5_code 75 = .ok (.getfield 87, 3) := by decide +kernel
theorem d_Mod_open_78 : decode prog_9_method_5_code 78 = .ok (.iconst 0, 1) := by decide +kernel
theorem d_Mod_open_79 : decode prog_9_method_5_code 79 = .ok (.bastore, 1) := by decide +kernel
theorem d_Mod_open_80 : decode prog_9_method_5_code 80 = .ok (.aload_n 0, 1) := by decide +kernel
theorem d_Mod_open_81 : decode prog_9_method_5_code 81 = .ok (.dup, 1) := by decide +kernel
theorem d_Mod_open_82 : decode prog_9_method_5_code 82 = .ok (.getfield 87, 3) := by decide +kernel
theorem d_Mod_open_85 : decode prog_9_method_5_code 85 = .ok (.iconst 1, 1) := by decide +kernel
theorem d_Mod_open_86 : decode prog_9_method_5_code 86 = .ok (.iadd, 1) := by decide +kernel
theorem d_Mod_open_87 : decode prog_9_method_5_code 87 = .ok (.putfield 87, 3) := by decide +kernel
theorem d_Mod_open_90 : decode prog_9_method_5_code 90 = .ok (.aload_n 0, 1) := by decide +kernel
theorem d_Mod_open_91 : decode prog_9_method_5_code 91 = .ok (.getfield 87, 3) := by decide +kernel
theorem d_Mod_open_94 : decode prog_9_method_5_code 94 = .ok (.iconst 1, 1) := by decide +kernel
theorem d_Mod_open_95 : decode prog_9_method_5_code 95 = .ok (.isub, 1) := by decide +kernel
theorem d_Mod_open_96 : decode prog_9_method_5_code 96 = .ok (.ireturn, 1) := by decide +kernel
theorem d_Mod_code_0 : decode prog_9_method_6_code 0 = .ok (.aload_n 0, 1) := by decide +kernel
theorem d_Mod_code_1 : decode prog_9_method_6_code 1 = .ok (.aload_n 0, 1) := by decide +kernel
theorem d_Mod_code_2 : decode prog_9_method_6_code 2 = .ok (.iload_n 1, 1) := by decide +kernel
theorem d_Mod_code_3 : decode prog_9_method_6_code 3 = .ok (.invokevirtual 96, 3) := by decide +kernel
theorem d_Mod_code_6 : decode prog_9_method_6_code 6 = .ok (.ifCond .eq 7, 3) := by decide +kernel
theorem d_Mod_code_9 : decode prog_9_method_6_code 9 = .ok (.iconst 1, 1) := by decide +kernel
theorem d_Mod_code_10 : decode prog_9_method_6_code 10 = .ok (.goto 17, 3) := by decide +kernel
theorem d_Mod_code_13 : decode prog_9_method_6_code 13 = .ok (.aload_n 0, 1) := by decide +kernel
theorem d_Mod_code_14 : decode prog_9_method_6_code 14 = .ok (.getfield 19, 3) := by decide +kernel
theorem d_Mod_code_17 : decode prog_9_method_6_code 17 = .ok (.iload_n 1, 1) := by decide +kernel
theorem d_Mod_code_18 : decode prog_9_method_6_code 18 = .ok (.baload, 1) := by decide +kernel
theorem d_Mod_code_19 : decode prog_9_method_6_code 19 = .ok (.ifCond .eq 7, 3) := by decide +kernel
theorem d_Mod_code_22 : decode prog_9_method_6_code 22 = .ok (.iconst 2, 1) := by decide +kernel
theorem d_Mod_code_23 : decode prog_9_method_6_code 23 = .ok (.goto 4, 3) := by decide +kernel
theorem d_Mod_code_26 : decode prog_9_method_6_code 26 = .ok (.iconst 0, 1) := by decide +kernel
theorem d_Mod_code_27 : decode prog_9_method_6_code 27 = .ok (.putfield 83, 3) := by decide +kernel
theorem d_Mod_code_30 : decode prog_9_method_6_code 30 = .ok (.aload_n 0, 1) := by decide +kernel
theorem d_Mod_code_31 : decode prog_9_method_6_code 31 = .ok (.getfield 83, 3) := by decide +kernel
theorem d_Mod_code_34 : decode prog_9_method_6_code 34 = .ok (.ifCond .le 5, 3) := by decide +kernel
theorem d_Mod_code_37 : decode prog_9_method_6_code 37 = .ok (.iconst 0, 1) := by decide +kernel
theorem d_Mod_code_38 : decode prog_9_method_6_code 38 = .ok (.ireturn, 1) := by decide +kernel
theorem d_Mod_code_39 : decode prog_9_method_6_code 39 = .ok (.aload_n 0, 1) := by decide +kernel
theorem d_Mod_code_40 : decode prog_9_method_6_code 40 = .ok (.getfield 16, 3) := by decide +kernel
theorem d_Mod_code_43 : decode prog_9_method_6_code 43 = .ok (.iload_n 1, 1) := by decide +kernel
theorem d_Mod_code_44 : decode prog_9_method_6_code 44 = .ok (.iaload, 1) := by decide +kernel
theorem d_Mod_code_45 : decode prog_9_method_6_code 45 = .ok (.sipush 160, 3) := by decide +kernel
theorem d_Mod_code_48 : decode prog_9_method_6_code 48 = .ok (.if_icmp .ne 5, 3) := by decide +kernel
theorem d_Mod_code_51 : decode prog_9_method_6_code 51 = .ok (.iconst (-1), 1) := by decide +kernel
theorem d_Mod_code_52 : decode prog_9_method_6_code 52 = .ok (.ireturn, 1) := by decide +kernel
theorem d_Mod_code_53 : decode prog_9_method_6_code 53 = .ok (.aload_n 0, 1) := by decide +kernel
theorem d_Mod_code_54 : decode prog_9_method_6_code 54 = .ok (.getfield 13, 3) := by decide +kernel
theorem d_Mod_code_57 : decode prog_9_method_6_code 57 = .ok (.sipush 160, 3) := by decide +kernel
theorem d_Mod_code_60 : decode prog_9_method_6_code 60 = .ok (.iload_n 1, 1) := by decide +kernel
theorem d_Mod_code_61 : decode prog_9_method_6_code 61 = .ok (.imul, 1) := by decide +kernel
theorem d_Mod_code_62 : decode prog_9_method_6_code 62 = .ok (.aload_n 0, 1) := by decide +kernel
theorem d_Mod_code_63 : decode prog_9_method_6_code 63 = .ok (.getfield 16, 3) := by decide +kernel
theorem d_Mod_code_66 : decode prog_9_method_6_code 66 = .ok (.iload_n 1, 1) := by decide +kernel
theorem d_Mod_code_67 : decode prog_9_method_6_code 67 = .ok (.iaload, 1) := by decide +kernel
theorem d_Mod_code_68 : decode prog_9_method_6_code 68 = .ok (.iadd, 1) := by decide +kernel
theorem d_Mod_code_69 : decode prog_9_method_6_code 69 = .ok (.iload_n 2, 1) := by decide +kernel
theorem d_Mod_code_70 : decode prog_9_method_6_code 70 = .ok (.iastore, 1) := by decide +kernel
theorem d_Mod_code_71 : decode prog_9_method_6_code 71 = .ok (.aload_n 0, 1) := by decide +kernel
theorem d_Mod_code_72 : decode prog_9_method_6_code 72 = .ok (.getfield 16, 3) := by decide +kernel
theorem d_Mod_code_75 : decode prog_9_method_6_code 75 = .ok (.iload_n 1, 1) := by decide +kernel
theorem d_Mod_code_76 : decode prog_9_method_6_code 76 = .ok (.dup2, 1) := by decide +kernel
theorem d_Mod_code_77 : decode prog_9_method_6_code 77 = .ok (.iaload, 1) := by decide +kernel
theorem d_Mod_code_78 : decode prog_9_method_6_code 78 = .ok (.iconst 1, 1) := by decide +kernel
theorem d_Mod_code_79 : decode prog_9_method_6_code 79 = .ok (.iadd, 1) := by decide +kernel
theorem d_Mod_code_80 : decode prog_9_method_6_code 80 = .ok (.iastore, 1) := by decide +kernel
theorem d_Mod_code_81 : decode prog_9_method_6_code 81 = .ok (.aload_n 0, 1) := by decide +kernel
theorem d_Mod_code_82 : decode prog_9_method_6_code 82 = .ok (.getfield 16, 3) := by decide +kernel
theorem d_Mod_code_85 : decode prog_9_method_6_code 85 = .ok (.iload_n 1, 1) := by decide +kernel
theorem d_Mod_code_86 : decode prog_9_method_6_code 86 = .ok (.iaload, 1) := by decide +kernel
theorem d_Mod_code_87 : decode prog_9_method_6_code 87 = .ok (.ireturn, 1) := by decide +kernel
theorem d_Mod_isGood_0 : decode prog_9_method_7_code 0 = .ok (.iload_n 0, 1) := by decide +kernel
theorem d_Mod_isGood_1 : decode prog_9_method_7_code 1 = .ok (.sipush 255, 3) := by decide +kernel
theorem d_Mod_isGood_4 : decode prog_9_method_7_code 4 = .ok (.iand, 1) := by decide +kernel
theorem d_Mod_isGood_5 : decode prog_9_method_7_code 5 = .ok (.istore_n 2, 1) := by decide +kernel
theorem d_Mod_isGood_6 : decode prog_9_method_7_code 6 = .ok (.iload_n 0, 1) := by decide +kernel
theorem d_Mod_isGood_7 : decode prog_9_method_7_code 7 = .ok (.bipush 8, 2) := by decide +kernel
theorem d_Mod_isGood_9 : decode prog_9_method_7_code 9 = .ok (.ishr, 1) := by decide +kernel
theorem d_Mod_isGood_10 : decode prog_9_method_7_code 10 = .ok (.istore_n 3, 1) := by decide +kernel
theorem d_Mod_isGood_11 : decode prog_9_method_7_code 11 = .ok (.iload_n 2, 1) := by decide +kernel
theorem d_Mod_isGood_12 : decode prog_9_method_7_code 12 = .ok (.lookupswitch 116 #[(3, 52), (4, 68), (16, 85), (17, 85), (27, 100)], 52) := by decide +kernel
theorem d_Mod_isGood_64 : decode prog_9_method_7_code 64 = .ok (.iload_n 3, 1) := by decide +kernel
theorem d_Mod_isGood_65 : decode prog_9_method_7_code 65 = .ok (.ifCond .lt 13, 3) := by decide +kernel
theorem d_Mod_isGood_68 : decode prog_9_method_7_code 68 = .ok (.iload_n 3, 1) := by decide +kernel
theorem d_Mod_isGood_69 : decode prog_9_method_7_code 69 = .ok (.bipush 15, 2) := by decide +kernel
theorem d_Mod_isGood_71 : decode prog_9_method_7_code 71 = .ok (.if_icmp .gt 7, 3) := by decide +kernel
theorem d_Mod_isGood_74 : decode prog_9_method_7_code 74 = .ok (.iconst 1, 1) := by decide +kernel
theorem d_Mod_isGood_75 : decode prog_9_method_7_code 75 = .ok (.goto 4, 3) := by decide +kernel
theorem d_Mod_isGood_78 : decode prog_9_method_7_code 78 = .ok (.iconst 0, 1) := by decide +kernel
theorem d_Mod_isGood_79 : decode prog_9_method_7_code 79 = .ok (.ireturn, 1) := by decide +kernel
theorem d_Mod_isGood_80 : decode prog_9_method_7_code 80 = .ok (.iload_n 3, 1) := by decide +kernel
theorem d_Mod_isGood_81 : decode prog_9_method_7_code 81 = .ok (.iconst 1, 1) := by decide +kernel
theorem d_Mod_isGood_82 : decode prog_9_method_7_code 82 = .ok (.if_icmp .lt 13, 3) := by decide +kernel
theorem d_Mod_isGood_85 : decode prog_9_method_7_code 85 = .ok (.iload_n 3, 1) := by decide +kernel
theorem d_Mod_isGood_86 : decode prog_9_method_7_code 86 = .ok (.bipush 15, 2) := by decide +kernel
theorem d_Mod_isGood_88 : decode prog_9_method_7_code 88 = .ok (.if_icmp .gt 7, 3) := by decide +kernel
theorem d_Mod_isGood_91 : decode prog_9_method_7_code 91 = .ok (.iconst 1, 1) := by decide +kernel
theorem d_Mod_isGood_92 : decode prog_9_method_7_code 92 = .ok (.goto 4, 3) := by decide +kernel
theorem d_Mod_isGood_95 : decode prog_9_method_7_code 95 = .ok (.iconst 0, 1) := by decide +kernel
theorem d_Mod_isGood_96 : decode prog_9_method_7_code 96 = .ok (.ireturn, 1) := by decide +kernel
theorem d_Mod_isGood_97 : decode prog_9_method_7_code 97 = .ok (.iload_n 3, 1) := by decide +kernel
theorem d_Mod_isGood_98 : decode prog_9_method_7_code 98 = .ok (.ifCond .lt 12, 3) := by decide +kernel
theorem d_Mod_isGood_101 : decode prog_9_method_7_code 101 = .ok (.iload_n 3, 1) := by decide +kernel
theorem d_Mod_isGood_102 : decode prog_9_method_7_code 102 = .ok (.iload_n 1, 1) := by decide +kernel
theorem d_Mod_isGood_103 : decode prog_9_method_7_code 103 = .ok (.if_icmp .gt 7, 3) := by decide +kernel
theorem d_Mod_isGood_106 : decode prog_9_method_7_code 106 = .ok (.iconst 1, 1) := by decide +kernel
theorem d_Mod_isGood_107 : decode prog_9_method_7_code 107 = .ok (.goto 4, 3) := by decide +kernel
theorem d_Mod_isGood_110 : decode prog_9_method_7_code 110 = .ok (.iconst 0, 1) := by decide +kernel
theorem d_Mod_isGood_111 : decode prog_9_method_7_code 111 = .ok (.ireturn, 1) := by decide +kernel
theorem d_Mod_isGood_112 : decode prog_9_method_7_code 112 = .ok (.iload_n 3, 1) := by decide +kernel
theorem d_Mod_isGood_113 : decode prog_9_method_7_code 113 = .ok (.ifCond .lt 13, 3) := by decide +kernel
theorem d_Mod_isGood_116 : decode prog_9_method_7_code 116 = .ok (.iload_n 3, 1) := by decide +kernel
theorem d_Mod_isGood_117 : decode prog_9_method_7_code 117 = .ok (.bipush 8, 2) := by decide +kernel
theorem d_Mod_isGood_119 : decode prog_9_method_7_code 119 = .ok (.if_icmp .gt 7, 3) := by decide +kernel
theorem d_Mod_isGood_122 : decode prog_9_method_7_code 122 = .ok (.iconst 1, 1) := by decide +kernel
theorem d_Mod_isGood_123 : decode prog_9_method_7_code 123 = .ok (.goto 4, 3) := by decide +kernel
theorem d_Mod_isGood_126 : decode prog_9_method_7_code 126 = .ok (.iconst 0, 1) := by decide +kernel
theorem d_Mod_isGood_127 : decode prog_9_method_7_code 127 = .ok (.ireturn, 1) := by decide +kernel
theorem d_Mod_isGood_128 : decode prog_9_method_7_code 128 = .ok (.iload_n 2, 1) := by decide +kernel
theorem d_Mod_isGood_129 : decode prog_9_method_7_code 129 = .ok (.bipush 30, 2) := by decide +kernel
theorem d_Mod_isGood_131 : decode prog_9_method_7_code 131 = .ok (.if_icmp .ge 7, 3) := by decide +kernel
theorem d_Mod_isGood_134 : decode prog_9_method_7_code 134 = .ok (.iconst 1, 1) := by decide +kernel
theorem d_Mod_isGood_135 : decode prog_9_method_7_code 135 = .ok (.goto 4, 3) := by decide +kernel
theorem d_Mod_isGood_138 : decode prog_9_method_7_code 138 = .ok (.iconst 0, 1) := by decide +kernel
theorem d_Mod_isGood_139 : decode prog_9_method_7_code 139 = .ok (.ireturn, 1) := by decide +kernel
theorem d_Mod_seal_0 : decode prog_9_method_8_code 0 = .ok (.aload_n 0, 1) := by decide +kernel
theorem d_Mod_seal_1 : decode prog_9_method_8_code 1 = .ok (.aload_n 0, 1) := by decide +kernel
theorem d_Mod_seal_2 : decode prog_9_method_8_code 2 = .ok (.iload_n 1, 1) := by decide +kernel
theorem d_Mod_seal_3 : decode prog_9_method_8_code 3 = .ok (.invokevirtual 96, 3) := by decide +kernel
theorem d_Mod_seal_6 : decode prog_9_method_8_code 6 = .ok (.ifCond .eq 7, 3) := by decide +kernel
theorem d_Mod_seal_9 : decode prog_9_method_8_code 9 = .ok (.iconst 1, 1) := by decide +kernel
theorem d_Mod_seal_10 : decode prog_9_method_8_code 10 = .ok (.goto 17, 3) := by decide +kernel
theorem d_Mod_seal_13 : decode prog_9_method_8_code 13 = .ok (.aload_n 0, 1) := by decide +kernel
theorem d_Mod_seal_14 : decode prog_9_method_8_code 14 = .ok (.getfield 19, 3) := by decide +kernel
theorem d_Mod_seal_17 : decode prog_9_method_8_code 17 = .ok (.iload_n 1, 1) := by decide +kernel
theorem d_Mod_seal_18 : decode prog_9_method_8_code 18 = .ok (.baload, 1) := by decide +kernel
theorem d_Mod_seal_19 : decode prog_9_method_8_code 19 = .ok (.ifCond .eq 7, 3) := by decide +kernel
theorem d_Mod_seal_22 : decode prog_9_method_8_code 22 = .ok (.iconst 2, 1) := by decide +kernel
theorem d_Mod_seal_23 : decode prog_9_method_8_code 23 = .ok (.goto 4, 3) := by decide +kernel
theorem d_Mod_seal_26 : decode prog_9_method_8_code 26 = .ok (.iconst 0, 1) := by decide +kernel
theorem d_Mod_seal_27 : decode prog_9_method_8_code 27 = .ok (.putfield 83, 3) := by decide +kernel
theorem d_Mod_seal_30 : decode prog_9_method_8_code 30 = .ok (.aload_n 0, 1) := by decide +kernel
theorem d_Mod_seal_31 : decode prog_9_method_8_code 31 = .ok (.getfield 83, 3) := by decide +kernel
theorem d_Mod_seal_34 : decode prog_9_method_8_code 34 = .ok (.ifCond .le 5, 3) := by decide +kernel
theorem d_Mod_seal_37 : decode prog_9_method_8_code 37 = .ok (.iconst 0, 1) := by decide +kernel
theorem d_Mod_seal_38 : decode prog_9_method_8_code 38 = .ok (.ireturn, 1) := by decide +kernel
theorem d_Mod_seal_39 : decode prog_9_method_8_code 39 = .ok (.iconst 0, 1) := by decide +kernel
theorem d_Mod_seal_40 : decode prog_9_method_8_code 40 = .ok (.istore_n 2, 1) := by decide +kernel
theorem d_Mod_seal_41 : decode prog_9_method_8_code 41 = .ok (.iload_n 2, 1) := by decide +kernel
theorem d_Mod_seal_42 : decode prog_9_method_8_code 42 = .ok (.aload_n 0, 1) := by decide +kernel
theorem d_Mod_seal_43 : decode prog_9_method_8_code 43 = .ok (.getfield 16, 3) := by decide +kernel
theorem d_Mod_seal_46 : decode prog_9_method_8_code 46 = .ok (.iload_n 1, 1) := by decide +kernel
theorem d_Mod_seal_47 : decode prog_9_method_8_code 47 = .ok (.iaload, 1) := by decide +kernel
theorem d_Mod_seal_48 : decode prog_9_method_8_code 48 = .ok (.if_icmp .ge 42, 3) := by decide +kernel
theorem d_Mod_seal_51 : decode prog_9_method_8_code 51 = .ok (.aload_n 0, 1) := by decide +kernel
theorem d_Mod_seal_52 : decode prog_9_method_8_code 52 = .ok (.getfield 13, 3) := by decide +kernel
theorem d_Mod_seal_55 : decode prog_9_method_8_code 55 = .ok (.sipush 160, 3) := by decide +kernel
theorem d_Mod_seal_58 : decode prog_9_method_8_code 58 = .ok (.iload_n 1, 1) := by decide +kernel
theorem d_Mod_seal_59 : decode prog_9_method_8_code 59 = .ok (.imul, 1) := by decide +kernel
theorem d_Mod_seal_60 : decode prog_9_method_8_code 60 = .ok (.iload_n 2, 1) := by decide +kernel
theorem d_Mod_seal_61 : decode prog_9_method_8_code 61 = .ok (.iadd, 1) := by decide +kernel
theorem d_Mod_seal_62 : decode prog_9_method_8_code 62 = .ok (.iaload, 1) := by decide +kernel
theorem d_Mod_seal_63 : decode prog_9_method_8_code 63 = .ok (.aload_n 0, 1) := by decide +kernel
theorem d_Mod_seal_64 : decode prog_9_method_8_code 64 = .ok (.getfield 16, 3) := by decide +kernel
theorem d_Mod_seal_67 : decode prog_9_method_8_code 67 = .ok (.iload_n 1, 1) := by decide +kernel
theorem d_Mod_seal_68 : decode prog_9_method_8_code 68 = .ok (.iaload, 1) := by decide +kernel
theorem d_Mod_seal_69 : decode prog_9_method_8_code 69 = .ok (.invokestatic 100, 3) := by decide +kernel
theorem d_Mod_seal_72 : decode prog_9_method_8_code 72 = .ok (.ifCond .ne 12, 3) := by decide +kernel
theorem d_Mod_seal_75 : decode prog_9_method_8_code 75 = .ok (.aload_n 0, 1) := by decide +kernel
theorem d_Mod_seal_76 : decode prog_9_method_8_code 76 = .ok (.getfield 16, 3) := by decide +kernel
theorem d_Mod_seal_79 : decode prog_9_method_8_code 79 = .ok (.iload_n 1, 1) := by decide +kernel
theorem d_Mod_seal_80 : decode prog_9_method_8_code 80 = .ok (.iconst 0, 1) := by decide +kernel
theorem d_Mod_seal_81 : decode prog_9_method_8_code 81 = .ok (.iastore, 1) := by decide +kernel
theorem d_Mod_seal_82 : decode prog_9_method_8_code 82 = .ok (.iload_n 2, 1) := by decide +kernel
theorem d_Mod_seal_83 : decode prog_9_method_8_code 83 = .ok (.ireturn, 1) := by decide +kernel
theorem d_Mod_seal_84 : decode prog_9_method_8_code 84 = .ok (.iinc 2 1, 3) := by decide +kernel
theorem d_Mod_seal_87 : decode prog_9_method_8_code 87 = .ok (.goto (-46), 3) := by decide +kernel
theorem d_Mod_seal_90 : decode prog_9_method_8_code 90 = .ok (.aload_n 0, 1) := by decide +kernel
theorem d_Mod_seal_91 : decode prog_9_method_8_code 91 = .ok (.getfield 19, 3) := by decide +kernel
theorem d_Mod_seal_94 : decode prog_9_method_8_code 94 = .ok (.iload_n 1, 1) := by decide +kernel
theorem d_Mod_seal_95 : decode prog_9_method_8_code 95 = .ok (.iconst 1, 1) := by decide +kernel
theorem d_Mod_seal_96 : decode prog_9_method_8_code 96 = .ok (.bastore, 1) := by decide +kernel
theorem d_Mod_seal_97 : decode prog_9_method_8_code 97 = .ok (.iconst (-1), 1) := by decide +kernel
theorem d_Mod_seal_98 : decode prog_9_method_8_code 98 = .ok (.ireturn, 1) := by decide +kernel
theorem d_Mod_argument_0 : decode prog_9_method_9_code 0 = .ok (.aload_n 0, 1) := by decide +kernel
theorem d_Mod_argument_1 : decode prog_9_method_9_code 1 = .ok (.iconst 0, 1) := by decide +kernel
theorem d_Mod_argument_2 : decode prog_9_method_9_code 2 = .ok (.putfield 83, 3) := by decide +kernel
theorem d_Mod_argument_5 : decode prog_9_method_9_code 5 = .ok (.aload_n 0, 1) := by decide +kernel
theorem d_Mod_argument_6 : decode prog_9_method_9_code 6 = .ok (.getfield 104, 3) := by decide +kernel
theorem d_Mod_argument_9 : decode prog_9_method_9_code 9 = .ok (.bipush 8, 2) := by decide +kernel
theorem d_Mod_argument_11 : decode prog_9_method_9_code 11 = .ok (.if_icmp .ne 5, 3) := by decide +kernel
theorem d_Mod_argument_14 : decode prog_9_method_9_code 14 = .ok (.iconst (-1), 1) := by decide +kernel
theorem d_Mod_argument_15 : decode prog_9_method_9_code 15 = .ok (.ireturn, 1) := by decide +kernel
theorem d_Mod_argument_16 : decode prog_9_method_9_code 16 = .ok (.aload_n 0, 1) := by decide +kernel
theorem d_Mod_argument_17 : decode prog_9_method_9_code 17 = .ok (.getfield 80, 3) := by decide +kernel
theorem d_Mod_argument_20 : decode prog_9_method_9_code 20 = .ok (.aload_n 0, 1) := by decide +kernel
theorem d_Mod_argument_21 : decode prog_9_method_9_code 21 = .ok (.getfield 104, 3) := by decide +kernel
theorem d_Mod_argument_24 : decode prog_9_method_9_code 24 = .ok (.iload_n 1, 1) := by decide +kernel
theorem d_Mod_argument_25 : decode prog_9_method_9_code 25 = .ok (.iastore, 1) := by decide +kernel
theorem d_Mod_argument_26 : decode prog_9_method_9_code 26 = .ok (.aload_n 0, 1) := by decide +kernel
theorem d_Mod_argument_27 : decode prog_9_method_9_code 27 = .ok (.dup, 1) := by decide +kernel
theorem d_Mod_argument_28 : decode prog_9_method_9_code 28 = .ok (.getfield 104, 3) := by decide +kernel
theorem d_Mod_argument_31 : decode prog_9_method_9_code 31 = .ok (.iconst 1, 1) := by decide +kernel
theorem d_Mod_argument_32 : decode prog_9_method_9_code 32 = .ok (.iadd, 1) := by decide +kernel
theorem d_Mod_argument_33 : decode prog_9_method_9_code 33 = .ok (.putfield 104, 3) := by decide +kernel
theorem d_Mod_argument_36 : decode prog_9_method_9_code 36 = .ok (.aload_n 0, 1) := by decide +kernel
theorem d_Mod_argument_37 : decode prog_9_method_9_code 37 = .ok (.getfield 104, 3) := by decide +kernel
theorem d_Mod_argument_40 : decode prog_9_method_9_code 40 = .ok (.ireturn, 1) := by decide +kernel
theorem d_Mod_balance_0 : decode prog_9_method_10_code 0 = .ok (.aload_n 0, 1) := by decide +kernel
theorem d_Mod_balance_1 : decode prog_9_method_10_code 1 = .ok (.aload_n 0, 1) := by decide +kernel
theorem d_Mod_balance_2 : decode prog_9_method_10_code 2 = .ok (.iload_n 1, 1) := by decide +kernel
theorem d_Mod_balance_3 : decode prog_9_method_10_code 3 = .ok (.invokevirtual 96, 3) := by decide +kernel
theorem d_Mod_balance_6 : decode prog_9_method_10_code 6 = .ok (.ifCond .eq 7, 3) := by decide +kernel
theorem d_Mod_balance_9 : decode prog_9_method_10_code 9 = .ok (.iconst 1, 1) := by decide +kernel
theorem d_Mod_balance_10 : decode prog_9_method_10_code 10 = .ok (.goto 4, 3) := by decide +kernel
theorem d_Mod_balance_13 : decode prog_9_method_10_code 13 = .ok (.iconst 0, 1) := by decide +kernel
theorem d_Mod_balance_14 : decode prog_9_method_10_code 14 = .ok (.putfield 83, 3) := by decide +kernel
theorem d_Mod_balance_17 : decode prog_9_method_10_code 17 = .ok (.aload_n 0, 1) := by decide +kernel
theorem d_Mod_balance_18 : decode prog_9_method_10_code 18 = .ok (.getfield 83, 3) := by decide +kernel
theorem d_Mod_balance_21 : decode prog_9_method_10_code 21 = .ok (.ifCond .le 7, 3) := by decide +kernel
theorem d_Mod_balance_24 : decode prog_9_method_10_code 24 = .ok (.iconst 0, 1) := by decide +kernel
theorem d_Mod_balance_25 : decode prog_9_method_10_code 25 = .ok (.goto 9, 3) := by decide +kernel
theorem d_Mod_balance_28 : decode prog_9_method_10_code 28 = .ok (.aload_n 0, 1) := by decide +kernel
theorem d_Mod_balance_29 : decode prog_9_method_10_code 29 = .ok (.getfield 7, 3) := by decide +kernel
theorem d_Mod_balance_32 : decode prog_9_method_10_code 32 = .ok (.iload_n 1, 1) := by decide +kernel
theorem d_Mod_balance_33 : decode prog_9_method_10_code 33 = .ok (.iaload, 1) := by decide +kernel
theorem d_Mod_balance_34 : decode prog_9_method_10_code 34 = .ok (.ireturn, 1) := by decide +kernel
theorem d_Mod_keyOf_0 : decode prog_9_method_11_code 0 = .ok (.iconst 0, 1) := by decide +kernel
theorem d_Mod_keyOf_1 : decode prog_9_method_11_code 1 = .ok (.istore_n 3, 1) := by decide +kernel
theorem d_Mod_keyOf_2 : decode prog_9_method_11_code 2 = .ok (.iload_n 3, 1) := by decide +kernel
theorem d_Mod_keyOf_3 : decode prog_9_method_11_code 3 = .ok (.aload_n 0, 1) := by decide +kernel
theorem d_Mod_keyOf_4 : decode prog_9_method_11_code 4 = .ok (.getfield 107, 3) := by decide +kernel
theorem d_Mod_keyOf_7 : decode prog_9_method_11_code 7 = .ok (.if_icmp .ge 31, 3) := by decide +kernel
theorem d_Mod_keyOf_10 : decode prog_9_method_11_code 10 = .ok (.aload_n 0, 1) := by decide +kernel
theorem d_Mod_keyOf_11 : decode prog_9_method_11_code 11 = .ok (.getfield 23, 3) := by decide +kernel
theorem d_Mod_keyOf_14 : decode prog_9_method_11_code 14 = .ok (.iload_n 3, 1) := by decide +kernel
theorem d_Mod_keyOf_15 : decode prog_9_method_11_code 15 = .ok (.iaload, 1) := by decide +kernel
theorem d_Mod_keyOf_16 : decode prog_9_method_11_code 16 = .ok (.iload_n 1, 1) := by decide +kernel
theorem d_Mod_keyOf_17 : decode prog_9_method_11_code 17 = .ok (.if_icmp .ne 15, 3) := by decide +kernel
theorem d_Mod_keyOf_20 : decode prog_9_method_11_code 20 = .ok (.aload_n 0, 1) := by decide +kernel
theorem d_Mod_keyOf_21 : decode prog_9_method_11_code 21 = .ok (.getfield 26, 3) := by decide +kernel
theorem d_Mod_keyOf_24 : decode prog_9_method_11_code 24 = .ok (.iload_n 3, 1) := by decide +kernel
theorem d_Mod_keyOf_25 : decode prog_9_method_11_code 25 = .ok (.iaload, 1) := by decide +kernel
theorem d_Mod_keyOf_26 : decode prog_9_method_11_code 26 = .ok (.iload_n 2, 1) := by decide +kernel
theorem d_Mod_keyOf_27 : decode prog_9_method_11_code 27 = .ok (.if_icmp .ne 5, 3) := by decide +kernel
theorem d_Mod_keyOf_30 : decode prog_9_method_11_code 30 = .ok (.iload_n 3, 1) := by decide +kernel
theorem d_Mod_keyOf_31 : decode prog_9_method_11_code 31 = .ok (.ireturn, 1) := by decide +kernel
theorem d_Mod_keyOf_32 : decode prog_9_method_11_code 32 = .ok (.iinc 3 1, 3) := by decide +kernel
theorem d_Mod_keyOf_35 : decode prog_9_method_11_code 35 = .ok (.goto (-33), 3) := by decide +kernel
theorem d_Mod_keyOf_38 : decode prog_9_method_11_code 38 = .ok (.iconst (-1), 1) := by decide +kernel
theorem d_Mod_keyOf_39 : decode prog_9_method_11_code 39 = .ok (.ireturn, 1) := by decide +kernel
theorem d_Mod_stored_0 : decode prog_9_method_12_code 0 = .ok (.aload_n 0, 1) := by decide +kernel
theorem d_Mod_stored_1 : decode prog_9_method_12_code 1 = .ok (.iload_n 1, 1) := by decide +kernel
theorem d_Mod_stored_2 : decode prog_9_method_12_code 2 = .ok (.iload_n 2, 1) := by decide +kernel
theorem d_Mod_stored_3 : decode prog_9_method_12_code 3 = .ok (.invokevirtual 110, 3) := by decide +kernel
theorem d_Mod_stored_6 : decode prog_9_method_12_code 6 = .ok (.istore_n 3, 1) := by decide +kernel
theorem d_Mod_stored_7 : decode prog_9_method_12_code 7 = .ok (.iload_n 3, 1) := by decide +kernel
theorem d_Mod_stored_8 : decode prog_9_method_12_code 8 = .ok (.ifCond .ge 7, 3) := by decide +kernel
theorem d_Mod_stored_11 : decode prog_9_method_12_code 11 = .ok (.iconst 0, 1) := by decide +kernel
theorem d_Mod_stored_12 : decode prog_9_method_12_code 12 = .ok (.goto 9, 3) := by decide +kernel
theorem d_Mod_stored_15 : decode prog_9_method_12_code 15 = .ok (.aload_n 0, 1) := by decide +kernel
theorem d_Mod_stored_16 : decode prog_9_method_12_code 16 = .ok (.getfield 29, 3) := by decide +kernel
theorem d_Mod_stored_19 : decode prog_9_method_12_code 19 = .ok (.iload_n 3, 1) := by decide +kernel
theorem d_Mod_stored_20 : decode prog_9_method_12_code 20 = .ok (.iaload, 1) := by decide +kernel
theorem d_Mod_stored_21 : decode prog_9_method_12_code 21 = .ok (.ireturn, 1) := by decide +kernel
theorem d_Mod_store_0 : decode prog_9_method_13_code 0 = .ok (.aload_n 0, 1) := by decide +kernel
theorem d_Mod_store_1 : decode prog_9_method_13_code 1 = .ok (.iload_n 1, 1) := by decide +kernel
theorem d_Mod_store_2 : decode prog_9_method_13_code 2 = .ok (.iload_n 2, 1) := by decide +kernel
theorem d_Mod_store_3 : decode prog_9_method_13_code 3 = .ok (.invokevirtual 110, 3) := by decide +kernel
theorem d_Mod_store_6 : decode prog_9_method_13_code 6 = .ok (.istore 4, 2) := by decide +kernel
theorem d_Mod_store_8 : decode prog_9_method_13_code 8 = .ok (.iload 4, 2) := by decide +kernel
theorem d_Mod_store_10 : decode prog_9_method_13_code 10 = .ok (.ifCond .ge 50, 3) := by decide +kernel
theorem d_Mod_store_13 : decode prog_9_method_13_code 13 = .ok (.iload_n 3, 1) := by decide +kernel
theorem d_Mod_store_14 : decode prog_9_method_13_code 14 = .ok (.ifCond .eq 46, 3) := by decide +kernel
theorem d_Mod_store_17 : decode prog_9_method_13_code 17 = .ok (.aload_n 0, 1) := by decide +kernel
theorem d_Mod_store_18 : decode prog_9_method_13_code 18 = .ok (.getfield 23, 3) := by decide +kernel
theorem d_Mod_store_21 : decode prog_9_method_13_code 21 = .ok (.aload_n 0, 1) := by decide +kernel
theorem d_Mod_store_22 : decode prog_9_method_13_code 22 = .ok (.getfield 107, 3) := by decide +kernel
theorem d_Mod_store_25 : decode prog_9_method_13_code 25 = .ok (.iload_n 1, 1) := by decide +kernel
theorem d_Mod_store_26 : decode prog_9_method_13_code 26 = .ok (.iastore, 1) := by decide +kernel
theorem d_Mod_store_27 : decode prog_9_method_13_code 27 = .ok (.aload_n 0, 1) := by decide +kernel
theorem d_Mod_store_28 : decode prog_9_method_13_code 28 = .ok (.getfield 26, 3) := by decide +kernel
theorem d_Mod_store_31 : decode prog_9_method_13_code 31 = .ok (.aload_n 0, 1) := by decide +kernel
theorem d_Mod_store_32 : decode prog_9_method_13_code 32 = .ok (.getfield 107, 3) := by decide +kernel
theorem d_Mod_store_35 : decode prog_9_method_13_code 35 = .ok (.iload_n 2, 1) := by decide +kernel
theorem d_Mod_store_36 : decode prog_9_method_13_code 36 = .ok (.iastore, 1) := by decide +kernel
theorem d_Mod_store_37 : decode prog_9_method_13_code 37 = .ok (.aload_n 0, 1) := by decide +kernel
theorem d_Mod_store_38 : decode prog_9_method_13_code 38 = .ok (.getfield 29, 3) := by decide +kernel
theorem d_Mod_store_41 : decode prog_9_method_13_code 41 = .ok (.aload_n 0, 1) := by decide +kernel
theorem d_Mod_store_42 : decode prog_9_method_13_code 42 = .ok (.getfield 107, 3) := by decide +kernel
theorem d_Mod_store_45 : decode prog_9_method_13_code 45 = .ok (.iload_n 3, 1) := by decide +kernel
theorem d_Mod_store_46 : decode prog_9_method_13_code 46 = .ok (.iastore, 1) := by decide +kernel
theorem d_Mod_store_47 : decode prog_9_method_13_code 47 = .ok (.aload_n 0, 1) := by decide +kernel
theorem d_Mod_store_48 : decode prog_9_method_13_code 48 = .ok (.dup, 1) := by decide +kernel
theorem d_Mod_store_49 : decode prog_9_method_13_code 49 = .ok (.getfield 107, 3) := by decide +kernel
theorem d_Mod_store_52 : decode prog_9_method_13_code 52 = .ok (.iconst 1, 1) := by decide +kernel
theorem d_Mod_store_53 : decode prog_9_method_13_code 53 = .ok (.iadd, 1) := by decide +kernel
theorem d_Mod_store_54 : decode prog_9_method_13_code 54 = .ok (.putfield 107, 3) := by decide +kernel
theorem d_Mod_store_57 : decode prog_9_method_13_code 57 = .ok (.goto 86, 3) := by decide +kernel
theorem d_Mod_store_60 : decode prog_9_method_13_code 60 = .ok (.iload 4, 2) := by decide +kernel
theorem d_Mod_store_62 : decode prog_9_method_13_code 62 = .ok (.ifCond .lt 68, 3) := by decide +kernel
theorem d_Mod_store_65 : decode prog_9_method_13_code 65 = .ok (.iload_n 3, 1) := by decide +kernel
theorem d_Mod_store_66 : decode prog_9_method_13_code 66 = .ok (.ifCond .ne 64, 3) := by decide +kernel
theorem d_Mod_store_69 : decode prog_9_method_13_code 69 = .ok (.aload_n 0, 1) := by decide +kernel
theorem d_Mod_store_70 : decode prog_9_method_13_code 70 = .ok (.dup, 1) := by decide +kernel
theorem d_Mod_store_71 : decode prog_9_method_13_code 71 = .ok (.getfield 107, 3) := by decide +kernel
theorem d_Mod_store_74 : decode prog_9_method_13_code 74 = .ok (.iconst 1, 1) := by decide +kernel
theorem d_Mod_store_75 : decode prog_9_method_13_code 75 = .ok (.isub, 1) := by decide +kernel
theorem d_Mod_store_76 : decode prog_9_method_13_code 76 = .ok (.putfield 107, 3) := by decide +kernel
theorem d_Mod_store_79 : decode prog_9_method_13_code 79 = .ok (.aload_n 0, 1) := by decide +kernel
theorem d_Mod_store_80 : decode prog_9_method_13_code 80 = .ok (.getfield 23, 3) := by decide +kernel
theorem d_Mod_store_83 : decode prog_9_method_13_code 83 = .ok (.iload 4, 2) := by decide +kernel
theorem d_Mod_store_85 : decode prog_9_method_13_code 85 = .ok (.aload_n 0, 1) := by decide +kernel
theorem d_Mod_store_86 : decode prog_9_method_13_code 86 = .ok (.getfield 23, 3) := by decide +kernel
theorem d_Mod_store_89 : decode prog_9_method_13_code 89 = .ok (.aload_n 0, 1) := by decide +kernel
theorem d_Mod_store_90 : decode prog_9_method_13_code 90 = .ok (.getfield 107, 3) := by decide +kernel
theorem d_Mod_store_93 : decode prog_9_method_13_code 93 = .ok (.iaload, 1) := by decide +kernel
theorem d_Mod_store_94 : decode prog_9_method_13_code 94 = .ok (.iastore, 1) := by decide +kernel
theorem d_Mod_store_95 : decode prog_9_method_13_code 95 = .ok (.aload_n 0, 1) := by decide +kernel
theorem d_Mod_store_96 : decode prog_9_method_13_code 96 = .ok (.getfield 26, 3) := by decide +kernel
theorem d_Mod_store_99 : decode prog_9_method_13_code 99 = .ok (.iload 4, 2) := by decide +kernel
theorem d_Mod_store_101 : decode prog_9_method_13_code 101 = .ok (.aload_n 0, 1) := by decide +kernel
theorem d_Mod_store_102 : decode prog_9_method_13_code 102 = .ok (.getfield 26, 3) := by decide +kernel
theorem d_Mod_store_105 : decode prog_9_method_13_code 105 = .ok (.aload_n 0, 1) := by decide +kernel
theorem d_Mod_store_106 : decode prog_9_method_13_code 106 = .ok (.getfield 107, 3) := by decide +kernel
theorem d_Mod_store_109 : decode prog_9_method_13_code 109 = .ok (.iaload, 1) := by decide +kernel
theorem d_Mod_store_110 : decode prog_9_method_13_code 110 = .ok (.iastore, 1) := by decide +kernel
theorem d_Mod_store_111 : decode prog_9_method_13_code 111 = .ok (.aload_n 0, 1) := by decide +kernel
theorem d_Mod_store_112 : decode prog_9_method_13_code 112 = .ok (.getfield 29, 3) := by decide +kernel
theorem d_Mod_store_115 : decode prog_9_method_13_code 115 = .ok (.iload 4, 2) := by decide +kernel
theorem d_Mod_store_117 : decode prog_9_method_13_code 117 = .ok (.aload_n 0, 1) := by decide +kernel
theorem d_Mod_store_118 : decode prog_9_method_13_code 118 = .ok (.getfield 29, 3) := by decide +kernel
theorem d_Mod_store_121 : decode prog_9_method_13_code 121 = .ok (.aload_n 0, 1) := by decide +kernel
theorem d_Mod_store_122 : decode prog_9_method_13_code 122 = .ok (.getfield 107, 3) := by decide +kernel
theorem d_Mod_store_125 : decode prog_9_method_13_code 125 = .ok (.iaload, 1) := by decide +kernel
theorem d_Mod_store_126 : decode prog_9_method_13_code 126 = .ok (.iastore, 1) := by decide +kernel
theorem d_Mod_store_127 : decode prog_9_method_13_code 127 = .ok (.goto 16, 3) := by decide +kernel
theorem d_Mod_store_130 : decode prog_9_method_13_code 130 = .ok (.iload 4, 2) := by decide +kernel
theorem d_Mod_store_132 : decode prog_9_method_13_code 132 = .ok (.ifCond .lt 11, 3) := by decide +kernel
theorem d_Mod_store_135 : decode prog_9_method_13_code 135 = .ok (.aload_n 0, 1) := by decide +kernel
theorem d_Mod_store_136 : decode prog_9_method_13_code 136 = .ok (.getfield 29, 3) := by decide +kernel
theorem d_Mod_store_139 : decode prog_9_method_13_code 139 = .ok (.iload 4, 2) := by decide +kernel
theorem d_Mod_store_141 : decode prog_9_method_13_code 141 = .ok (.iload_n 3, 1) := by decide +kernel
theorem d_Mod_store_142 : decode prog_9_method_13_code 142 = .ok (.iastore, 1) := by decide +kernel
theorem d_Mod_store_143 : decode prog_9_method_13_code 143 = .ok (.return_, 1) := by decide +kernel
theorem d_Mod_storage_0 : decode prog_9_method_14_code 0 = .ok (.aload_n 0, 1) := by decide +kernel
theorem d_Mod_storage_1 : decode prog_9_method_14_code 1 = .ok (.aload_n 0, 1) := by decide +kernel
theorem d_Mod_storage_2 : decode prog_9_method_14_code 2 = .ok (.iload_n 1, 1) := by decide +kernel
theorem d_Mod_storage_3 : decode prog_9_method_14_code 3 = .ok (.invokevirtual 96, 3) := by decide +kernel
theorem d_Mod_storage_6 : decode prog_9_method_14_code 6 = .ok (.ifCond .eq 7, 3) := by decide +kernel
theorem d_Mod_storage_9 : decode prog_9_method_14_code 9 = .ok (.iconst 1, 1) := by decide +kernel
theorem d_Mod_storage_10 : decode prog_9_method_14_code 10 = .ok (.goto 4, 3) := by decide +kernel
theorem d_Mod_storage_13 : decode prog_9_method_14_code 13 = .ok (.iconst 0, 1) := by decide +kernel
theorem d_Mod_storage_14 : decode prog_9_method_14_code 14 = .ok (.putfield 83, 3) := by decide +kernel
theorem d_Mod_storage_17 : decode prog_9_method_14_code 17 = .ok (.aload_n 0, 1) := by decide +kernel
theorem d_Mod_storage_18 : decode prog_9_method_14_code 18 = .ok (.getfield 83, 3) := by decide +kernel
theorem d_Mod_storage_21 : decode prog_9_method_14_code 21 = .ok (.ifCond .le 7, 3) := by decide +kernel
theorem d_Mod_storage_24 : decode prog_9_method_14_code 24 = .ok (.iconst 0, 1) := by decide +kernel
theorem d_Mod_storage_25 : decode prog_9_method_14_code 25 = .ok (.goto 9, 3) := by decide +kernel
theorem d_Mod_storage_28 : decode prog_9_method_14_code 28 = .ok (.aload_n 0, 1) := by decide +kernel
theorem d_Mod_storage_29 : decode prog_9_method_14_code 29 = .ok (.iload_n 1, 1) := by decide +kernel
theorem d_Mod_storage_30 : decode prog_9_method_14_code 30 = .ok (.iload_n 2, 1) := by decide +kernel
theorem d_Mod_storage_31 : decode prog_9_method_14_code 31 = .ok (.invokevirtual 114, 3) := by decide +kernel
theorem d_Mod_storage_34 : decode prog_9_method_14_code 34 = .ok (.ireturn, 1) := by decide +kernel
theorem d_Mod_keys_0 : decode prog_9_method_15_code 0 = .ok (.aload_n 0, 1) := by decide +kernel
theorem d_Mod_keys_1 : decode prog_9_method_15_code 1 = .ok (.iconst 0, 1) := by decide +kernel
theorem d_Mod_keys_2 : decode prog_9_method_15_code 2 = .ok (.putfield 83, 3) := by decide +kernel
theorem d_Mod_keys_5 : decode prog_9_method_15_code 5 = .ok (.aload_n 0, 1) := by decide +kernel
theorem d_Mod_keys_6 : decode prog_9_method_15_code 6 = .ok (.getfield 107, 3) := by decide +kernel
theorem d_Mod_keys_9 : decode prog_9_method_15_code 9 = .ok (.ireturn, 1) := by decide +kernel
theorem d_Mod_logged_0 : decode prog_9_method_16_code 0 = .ok (.aload_n 0, 1) := by decide +kernel
theorem d_Mod_logged_1 : decode prog_9_method_16_code 1 = .ok (.iconst 0, 1) := by decide +kernel
theorem d_Mod_logged_2 : decode prog_9_method_16_code 2 = .ok (.putfield 83, 3) := by decide +kernel
theorem d_Mod_logged_5 : decode prog_9_method_16_code 5 = .ok (.aload_n 0, 1) := by decide +kernel
theorem d_Mod_logged_6 : decode prog_9_method_16_code 6 = .ok (.getfield 117, 3) := by decide +kernel
theorem d_Mod_logged_9 : decode prog_9_method_16_code 9 = .ok (.ireturn, 1) := by decide +kernel
theorem d_Mod_log_0 : decode prog_9_method_17_code 0 = .ok (.aload_n 0, 1) := by decide +kernel
theorem d_Mod_log_1 : decode prog_9_method_17_code 1 = .ok (.iload_n 1, 1) := by decide +kernel
theorem d_Mod_log_2 : decode prog_9_method_17_code 2 = .ok (.ifCond .lt 11, 3) := by decide +kernel
theorem d_Mod_log_5 : decode prog_9_method_17_code 5 = .ok (.iload_n 1, 1) := by decide +kernel
theorem d_Mod_log_6 : decode prog_9_method_17_code 6 = .ok (.aload_n 0, 1) := by decide +kernel
theorem d_Mod_log_7 : decode prog_9_method_17_code 7 = .ok (.getfield 117, 3) := by decide +kernel
theorem d_Mod_log_10 : decode prog_9_method_17_code 10 = .ok (.if_icmp .lt 7, 3) := by decide +kernel
theorem d_Mod_log_13 : decode prog_9_method_17_code 13 = .ok (.iconst 1, 1) := by decide +kernel
theorem d_Mod_log_14 : decode prog_9_method_17_code 14 = .ok (.goto 4, 3) := by decide +kernel
theorem d_Mod_log_17 : decode prog_9_method_17_code 17 = .ok (.iconst 0, 1) := by decide +kernel
theorem d_Mod_log_18 : decode prog_9_method_17_code 18 = .ok (.putfield 83, 3) := by decide +kernel
theorem d_Mod_log_21 : decode prog_9_method_17_code 21 = .ok (.aload_n 0, 1) := by decide +kernel
theorem d_Mod_log_22 : decode prog_9_method_17_code 22 = .ok (.getfield 83, 3) := by decide +kernel
theorem d_Mod_log_25 : decode prog_9_method_17_code 25 = .ok (.ifCond .le 7, 3) := by decide +kernel
theorem d_Mod_log_28 : decode prog_9_method_17_code 28 = .ok (.iconst 0, 1) := by decide +kernel
theorem d_Mod_log_29 : decode prog_9_method_17_code 29 = .ok (.goto 9, 3) := by decide +kernel
theorem d_Mod_log_32 : decode prog_9_method_17_code 32 = .ok (.aload_n 0, 1) := by decide +kernel
theorem d_Mod_log_33 : decode prog_9_method_17_code 33 = .ok (.getfield 32, 3) := by decide +kernel
theorem d_Mod_log_36 : decode prog_9_method_17_code 36 = .ok (.iload_n 1, 1) := by decide +kernel
theorem d_Mod_log_37 : decode prog_9_method_17_code 37 = .ok (.iaload, 1) := by decide +kernel
theorem d_Mod_log_38 : decode prog_9_method_17_code 38 = .ok (.ireturn, 1) := by decide +kernel
theorem d_Mod_used_0 : decode prog_9_method_18_code 0 = .ok (.aload_n 0, 1) := by decide +kernel
theorem d_Mod_used_1 : decode prog_9_method_18_code 1 = .ok (.iconst 0, 1) := by decide +kernel
theorem d_Mod_used_2 : decode prog_9_method_18_code 2 = .ok (.putfield 83, 3) := by decide +kernel
theorem d_Mod_used_5 : decode prog_9_method_18_code 5 = .ok (.aload_n 0, 1) := by decide +kernel
theorem d_Mod_used_6 : decode prog_9_method_18_code 6 = .ok (.getfield 120, 3) := by decide +kernel
theorem d_Mod_used_9 : decode prog_9_method_18_code 9 = .ok (.ireturn, 1) := by decide +kernel
theorem d_Mod_result_0 : decode prog_9_method_19_code 0 = .ok (.aload_n 0, 1) := by decide +kernel
theorem d_Mod_result_1 : decode prog_9_method_19_code 1 = .ok (.iconst 0, 1) := by decide +kernel
theorem d_Mod_result_2 : decode prog_9_method_19_code 2 = .ok (.putfield 83, 3) := by decide +kernel
theorem d_Mod_result_5 : decode prog_9_method_19_code 5 = .ok (.aload_n 0, 1) := by decide +kernel
theorem d_Mod_result_6 : decode prog_9_method_19_code 6 = .ok (.getfield 123, 3) := by decide +kernel
theorem d_Mod_result_9 : decode prog_9_method_19_code 9 = .ok (.ireturn, 1) := by decide +kernel
