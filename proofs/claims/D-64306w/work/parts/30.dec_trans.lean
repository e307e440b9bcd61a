theorem d_Led_transact_0 : decode prog_1_method_9_code 0 = .ok (.aload_n 0, 1) := by decide +kernel
theorem d_Led_transact_1 : decode prog_1_method_9_code 1 = .ok (.iload_n 1, 1) := by decide +kernel
theorem d_Led_transact_2 : decode prog_1_method_9_code 2 = .ok (.invokevirtual 96, 3) := by decide +kernel
theorem d_Led_transact_5 : decode prog_1_method_9_code 5 = .ok (.astore 5, 2) := by decide +kernel
theorem d_Led_transact_7 : decode prog_1_method_9_code 7 = .ok (.aload_n 0, 1) := by decide +kernel
theorem d_Led_transact_8 : decode prog_1_method_9_code 8 = .ok (.iload_n 2, 1) := by decide +kernel
theorem d_Led_transact_9 : decode prog_1_method_9_code 9 = .ok (.invokevirtual 96, 3) := by decide +kernel
theorem d_Led_transact_12 : decode prog_1_method_9_code 12 = .ok (.pop, 1) := by decide +kernel
theorem d_Led_transact_13 : decode prog_1_method_9_code 13 = .ok (.iload_n 3, 1) := by decide +kernel
theorem d_Led_transact_14 : decode prog_1_method_9_code 14 = .ok (.ifCond .lt 29, 3) := by decide +kernel
theorem d_Led_transact_17 : decode prog_1_method_9_code 17 = .ok (.iload_n 3, 1) := by decide +kernel
theorem d_Led_transact_18 : decode prog_1_method_9_code 18 = .ok (.aload 5, 2) := by decide +kernel
theorem d_Led_transact_20 : decode prog_1_method_9_code 20 = .ok (.getfield 117, 3) := by decide +kernel
theorem d_Led_transact_23 : decode prog_1_method_9_code 23 = .ok (.if_icmp .gt 20, 3) := by decide +kernel
theorem d_Led_transact_26 : decode prog_1_method_9_code 26 = .ok (.iload 4, 2) := by decide +kernel
theorem d_Led_transact_28 : decode prog_1_method_9_code 28 = .ok (.ifCond .lt 15, 3) := by decide +kernel
theorem d_Led_transact_31 : decode prog_1_method_9_code 31 = .ok (.iload 4, 2) := by decide +kernel
theorem d_Led_transact_33 : decode prog_1_method_9_code 33 = .ok (.sipush 10000, 3) := by decide +kernel
theorem d_Led_transact_36 : decode prog_1_method_9_code 36 = .ok (.if_icmp .gt 7, 3) := by decide +kernel
theorem d_Led_transact_39 : decode prog_1_method_9_code 39 = .ok (.iconst 1, 1) := by decide +kernel
theorem d_Led_transact_40 : decode prog_1_method_9_code 40 = .ok (.goto 4, 3) := by decide +kernel
theorem d_Led_transact_43 : decode prog_1_method_9_code 43 = .ok (.iconst 0, 1) := by decide +kernel
theorem d_Led_transact_44 : decode prog_1_method_9_code 44 = .ok (.invokestatic 76, 3) := by decide +kernel
theorem d_Led_transact_47 : decode prog_1_method_9_code 47 = .ok (.aload_n 0, 1) := by decide +kernel
theorem d_Led_transact_48 : decode prog_1_method_9_code 48 = .ok (.getfield 10, 3) := by decide +kernel
theorem d_Led_transact_51 : decode prog_1_method_9_code 51 = .ok (.getfield 120, 3) := by decide +kernel
theorem d_Led_transact_54 : decode prog_1_method_9_code 54 = .ok (.iconst 0, 1) := by decide +kernel
theorem d_Led_transact_55 : decode prog_1_method_9_code 55 = .ok (.putfield 124, 3) := by decide +kernel
theorem d_Led_transact_58 : decode prog_1_method_9_code 58 = .ok (.aload_n 0, 1) := by decide +kernel
theorem d_Led_transact_59 : decode prog_1_method_9_code 59 = .ok (.getfield 28, 3) := by decide +kernel
theorem d_Led_transact_62 : decode prog_1_method_9_code 62 = .ok (.iconst 0, 1) := by decide +kernel
theorem d_Led_transact_63 : decode prog_1_method_9_code 63 = .ok (.aaload, 1) := by decide +kernel
theorem d_Led_transact_64 : decode prog_1_method_9_code 64 = .ok (.astore 6, 2) := by decide +kernel
theorem d_Led_transact_66 : decode prog_1_method_9_code 66 = .ok (.aload 6, 2) := by decide +kernel
theorem d_Led_transact_68 : decode prog_1_method_9_code 68 = .ok (.iload_n 2, 1) := by decide +kernel
theorem d_Led_transact_69 : decode prog_1_method_9_code 69 = .ok (.iload_n 1, 1) := by decide +kernel
theorem d_Led_transact_70 : decode prog_1_method_9_code 70 = .ok (.iload_n 3, 1) := by decide +kernel
theorem d_Led_transact_71 : decode prog_1_method_9_code 71 = .ok (.invokevirtual 127, 3) := by decide +kernel
theorem d_Led_transact_74 : decode prog_1_method_9_code 74 = .ok (.aload_n 0, 1) := by decide +kernel
theorem d_Led_transact_75 : decode prog_1_method_9_code 75 = .ok (.getfield 32, 3) := by decide +kernel
theorem d_Led_transact_78 : decode prog_1_method_9_code 78 = .ok (.iconst 0, 1) := by decide +kernel
theorem d_Led_transact_79 : decode prog_1_method_9_code 79 = .ok (.aload 6, 2) := by decide +kernel
theorem d_Led_transact_81 : decode prog_1_method_9_code 81 = .ok (.getfield 131, 3) := by decide +kernel
theorem d_Led_transact_84 : decode prog_1_method_9_code 84 = .ok (.iconst 0, 1) := by decide +kernel
theorem d_Led_transact_85 : decode prog_1_method_9_code 85 = .ok (.aload_n 0, 1) := by decide +kernel
theorem d_Led_transact_86 : decode prog_1_method_9_code 86 = .ok (.getfield 114, 3) := by decide +kernel
theorem d_Led_transact_89 : decode prog_1_method_9_code 89 = .ok (.invokestatic 132, 3) := by decide +kernel
theorem d_Led_transact_92 : decode prog_1_method_9_code 92 = .ok (.aload_n 0, 1) := by decide +kernel
theorem d_Led_transact_93 : decode prog_1_method_9_code 93 = .ok (.iconst 0, 1) := by decide +kernel
theorem d_Led_transact_94 : decode prog_1_method_9_code 94 = .ok (.putfield 114, 3) := by decide +kernel
theorem d_Led_transact_97 : decode prog_1_method_9_code 97 = .ok (.aload 6, 2) := by decide +kernel
theorem d_Led_transact_99 : decode prog_1_method_9_code 99 = .ok (.iload 4, 2) := by decide +kernel
theorem d_Led_transact_101 : decode prog_1_method_9_code 101 = .ok (.invokevirtual 138, 3) := by decide +kernel
theorem d_Led_transact_104 : decode prog_1_method_9_code 104 = .ok (.istore 7, 2) := by decide +kernel
theorem d_Led_transact_106 : decode prog_1_method_9_code 106 = .ok (.aload_n 0, 1) := by decide +kernel
theorem d_Led_transact_107 : decode prog_1_method_9_code 107 = .ok (.iload 4, 2) := by decide +kernel
theorem d_Led_transact_109 : decode prog_1_method_9_code 109 = .ok (.aload 6, 2) := by decide +kernel
theorem d_Led_transact_111 : decode prog_1_method_9_code 111 = .ok (.getfield 141, 3) := by decide +kernel
theorem d_Led_transact_114 : decode prog_1_method_9_code 114 = .ok (.isub, 1) := by decide +kernel
theorem d_Led_transact_115 : decode prog_1_method_9_code 115 = .ok (.putfield 144, 3) := by decide +kernel
theorem d_Led_transact_118 : decode prog_1_method_9_code 118 = .ok (.aload_n 0, 1) := by decide +kernel
theorem d_Led_transact_119 : decode prog_1_method_9_code 119 = .ok (.aload 6, 2) := by decide +kernel
theorem d_Led_transact_121 : decode prog_1_method_9_code 121 = .ok (.getfield 147, 3) := by decide +kernel
theorem d_Led_transact_124 : decode prog_1_method_9_code 124 = .ok (.putfield 150, 3) := by decide +kernel
theorem d_Led_transact_127 : decode prog_1_method_9_code 127 = .ok (.iload 7, 2) := by decide +kernel
theorem d_Led_transact_129 : decode prog_1_method_9_code 129 = .ok (.ifCond .eq 7, 3) := by decide +kernel
theorem d_Led_transact_132 : decode prog_1_method_9_code 132 = .ok (.iconst 0, 1) := by decide +kernel
theorem d_Led_transact_133 : decode prog_1_method_9_code 133 = .ok (.goto 8, 3) := by decide +kernel
theorem d_Led_transact_136 : decode prog_1_method_9_code 136 = .ok (.aload 6, 2) := by decide +kernel
theorem d_Led_transact_138 : decode prog_1_method_9_code 138 = .ok (.getfield 151, 3) := by decide +kernel
theorem d_Led_transact_141 : decode prog_1_method_9_code 141 = .ok (.ireturn, 1) := by decide +kernel
