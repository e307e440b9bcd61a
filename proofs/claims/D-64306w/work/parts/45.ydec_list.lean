theorem d_Math_max_0 : decode prog_19_method_65_code 0 = .ok (.iload_n 0, 1) := by decide +kernel
theorem d_Math_max_1 : decode prog_19_method_65_code 1 = .ok (.iload_n 1, 1) := by decide +kernel
theorem d_Math_max_2 : decode prog_19_method_65_code 2 = .ok (.if_icmp .lt 7, 3) := by decide +kernel
theorem d_Math_max_5 : decode prog_19_method_65_code 5 = .ok (.iload_n 0, 1) := by decide +kernel
theorem d_Math_max_6 : decode prog_19_method_65_code 6 = .ok (.goto 4, 3) := by decide +kernel
theorem d_Math_max_9 : decode prog_19_method_65_code 9 = .ok (.iload_n 1, 1) := by decide +kernel
theorem d_Math_max_10 : decode prog_19_method_65_code 10 = .ok (.ireturn, 1) := by decide +kernel
theorem d_AS_newLength_0 : decode prog_35_method_27_code 0 = .ok (.iload_n 0, 1) := by decide +kernel
theorem d_AS_newLength_1 : decode prog_35_method_27_code 1 = .ok (.iload_n 1, 1) := by decide +kernel
theorem d_AS_newLength_2 : decode prog_35_method_27_code 2 = .ok (.iload_n 2, 1) := by decide +kernel
theorem d_AS_newLength_3 : decode prog_35_method_27_code 3 = .ok (.invokestatic 194, 3) := by decide +kernel
theorem d_AS_newLength_6 : decode prog_35_method_27_code 6 = .ok (.iadd, 1) := by decide +kernel
theorem d_AS_newLength_7 : decode prog_35_method_27_code 7 = .ok (.istore_n 3, 1) := by decide +kernel
theorem d_AS_newLength_8 : decode prog_35_method_27_code 8 = .ok (.iconst 0, 1) := by decide +kernel
theorem d_AS_newLength_9 : decode prog_35_method_27_code 9 = .ok (.iload_n 3, 1) := by decide +kernel
theorem d_AS_newLength_10 : decode prog_35_method_27_code 10 = .ok (.if_icmp .ge 11, 3) := by decide +kernel
theorem d_AS_newLength_13 : decode prog_35_method_27_code 13 = .ok (.iload_n 3, 1) := by decide +kernel
theorem d_AS_newLength_14 : decode prog_35_method_27_code 14 = .ok (.ldc 200, 2) := by decide +kernel
theorem d_AS_newLength_16 : decode prog_35_method_27_code 16 = .ok (.if_icmp .gt 5, 3) := by decide +kernel
theorem d_AS_newLength_19 : decode prog_35_method_27_code 19 = .ok (.iload_n 3, 1) := by decide +kernel
theorem d_AS_newLength_20 : decode prog_35_method_27_code 20 = .ok (.ireturn, 1) := by decide +kernel
theorem d_Arr_copyOf3_0 : decode prog_28_method_120_code 0 = .ok (.aload_n 2, 1) := by decide +kernel
theorem d_Arr_copyOf3_1 : decode prog_28_method_120_code 1 = .ok (.ldc 110, 2) := by decide +kernel
theorem d_Arr_copyOf3_3 : decode prog_28_method_120_code 3 = .ok (.if_acmp .ne 10, 3) := by decide +kernel
theorem d_Arr_copyOf3_6 : decode prog_28_method_120_code 6 = .ok (.iload_n 1, 1) := by decide +kernel
theorem d_Arr_copyOf3_7 : decode prog_28_method_120_code 7 = .ok (.anewarray 2, 3) := by decide +kernel
theorem d_Arr_copyOf3_10 : decode prog_28_method_120_code 10 = .ok (.goto 14, 3) := by decide +kernel
theorem d_Arr_copyOf3_24 : decode prog_28_method_120_code 24 = .ok (.astore_n 3, 1) := by decide +kernel
theorem d_Arr_copyOf3_25 : decode prog_28_method_120_code 25 = .ok (.aload_n 0, 1) := by decide +kernel
theorem d_Arr_copyOf3_26 : decode prog_28_method_120_code 26 = .ok (.iconst 0, 1) := by decide +kernel
theorem d_Arr_copyOf3_27 : decode prog_28_method_120_code 27 = .ok (.aload_n 3, 1) := by decide +kernel
theorem d_Arr_copyOf3_28 : decode prog_28_method_120_code 28 = .ok (.iconst 0, 1) := by decide +kernel
theorem d_Arr_copyOf3_29 : decode prog_28_method_120_code 29 = .ok (.aload_n 0, 1) := by decide +kernel
theorem d_Arr_copyOf3_30 : decode prog_28_method_120_code 30 = .ok (.arraylength, 1) := by decide +kernel
theorem d_Arr_copyOf3_31 : decode prog_28_method_120_code 31 = .ok (.iload_n 1, 1) := by decide +kernel
theorem d_Arr_copyOf3_32 : decode prog_28_method_120_code 32 = .ok (.invokestatic 304, 3) := by decide +kernel
theorem d_Arr_copyOf3_35 : decode prog_28_method_120_code 35 = .ok (.invokestatic 150, 3) := by decide +kernel
theorem d_Arr_copyOf3_38 : decode prog_28_method_120_code 38 = .ok (.aload_n 3, 1) := by decide +kernel
theorem d_Arr_copyOf3_39 : decode prog_28_method_120_code 39 = .ok (.areturn, 1) := by decide +kernel
theorem d_Arr_copyOf2_0 : decode prog_28_method_119_code 0 = .ok (.aload_n 0, 1) := by decide +kernel
theorem d_Arr_copyOf2_1 : decode prog_28_method_119_code 1 = .ok (.iload_n 1, 1) := by decide +kernel
theorem d_Arr_copyOf2_2 : decode prog_28_method_119_code 2 = .ok (.aload_n 0, 1) := by decide +kernel
theorem d_Arr_copyOf2_3 : decode prog_28_method_119_code 3 = .ok (.invokevirtual 86, 3) := by decide +kernel
theorem d_Arr_copyOf2_6 : decode prog_28_method_119_code 6 = .ok (.invokestatic 300, 3) := by decide +kernel
theorem d_Arr_copyOf2_9 : decode prog_28_method_119_code 9 = .ok (.areturn, 1) := by decide +kernel
theorem d_AL_grow1D_0 : decode prog_26_method_6_code 0 = .ok (.aload_n 0, 1) := by decide +kernel
theorem d_AL_grow1D_1 : decode prog_26_method_6_code 1 = .ok (.getfield 9, 3) := by decide +kernel
theorem d_AL_grow1D_4 : decode prog_26_method_6_code 4 = .ok (.arraylength, 1) := by decide +kernel
theorem d_AL_grow1D_5 : decode prog_26_method_6_code 5 = .ok (.istore_n 2, 1) := by decide +kernel
theorem d_AL_grow1D_6 : decode prog_26_method_6_code 6 = .ok (.iload_n 2, 1) := by decide +kernel
theorem d_AL_grow1D_7 : decode prog_26_method_6_code 7 = .ok (.ifCond .gt 13, 3) := by decide +kernel
theorem d_AL_grow1D_10 : decode prog_26_method_6_code 10 = .ok (.aload_n 0, 1) := by decide +kernel
theorem d_AL_grow1D_11 : decode prog_26_method_6_code 11 = .ok (.getfield 9, 3) := by decide +kernel
theorem d_AL_grow1D_14 : decode prog_26_method_6_code 14 = .ok (.getstatic 39, 3) := by decide +kernel
theorem d_AL_grow1D_17 : decode prog_26_method_6_code 17 = .ok (.if_acmp .eq 28, 3) := by decide +kernel
theorem d_AL_grow1D_45 : decode prog_26_method_6_code 45 = .ok (.aload_n 0, 1) := by decide +kernel
theorem d_AL_grow1D_46 : decode prog_26_method_6_code 46 = .ok (.bipush 10, 2) := by decide +kernel
theorem d_AL_grow1D_48 : decode prog_26_method_6_code 48 = .ok (.iload_n 1, 1) := by decide +kernel
theorem d_AL_grow1D_49 : decode prog_26_method_6_code 49 = .ok (.invokestatic 79, 3) := by decide +kernel
theorem d_AL_grow1D_52 : decode prog_26_method_6_code 52 = .ok (.anewarray 7, 3) := by decide +kernel
theorem d_AL_grow1D_55 : decode prog_26_method_6_code 55 = .ok (.dup_x1, 1) := by decide +kernel
theorem d_AL_grow1D_56 : decode prog_26_method_6_code 56 = .ok (.putfield 9, 3) := by decide +kernel
theorem d_AL_grow1D_59 : decode prog_26_method_6_code 59 = .ok (.areturn, 1) := by decide +kernel
theorem d_AL_grow1E_0 : decode prog_26_method_6_code 0 = .ok (.aload_n 0, 1) := by decide +kernel
theorem d_AL_grow1E_1 : decode prog_26_method_6_code 1 = .ok (.getfield 9, 3) := by decide +kernel
theorem d_AL_grow1E_4 : decode prog_26_method_6_code 4 = .ok (.arraylength, 1) := by decide +kernel
theorem d_AL_grow1E_5 : decode prog_26_method_6_code 5 = .ok (.istore_n 2, 1) := by decide +kernel
theorem d_AL_grow1E_6 : decode prog_26_method_6_code 6 = .ok (.iload_n 2, 1) := by decide +kernel
theorem d_AL_grow1E_7 : decode prog_26_method_6_code 7 = .ok (.ifCond .gt 13, 3) := by decide +kernel
theorem d_AL_grow1E_20 : decode prog_26_method_6_code 20 = .ok (.iload_n 2, 1) := by decide +kernel
theorem d_AL_grow1E_21 : decode prog_26_method_6_code 21 = .ok (.iload_n 1, 1) := by decide +kernel
theorem d_AL_grow1E_22 : decode prog_26_method_6_code 22 = .ok (.iload_n 2, 1) := by decide +kernel
theorem d_AL_grow1E_23 : decode prog_26_method_6_code 23 = .ok (.isub, 1) := by decide +kernel
theorem d_AL_grow1E_24 : decode prog_26_method_6_code 24 = .ok (.iload_n 2, 1) := by decide +kernel
theorem d_AL_grow1E_25 : decode prog_26_method_6_code 25 = .ok (.iconst 1, 1) := by decide +kernel
theorem d_AL_grow1E_26 : decode prog_26_method_6_code 26 = .ok (.ishr, 1) := by decide +kernel
theorem d_AL_grow1E_27 : decode prog_26_method_6_code 27 = .ok (.invokestatic 73, 3) := by decide +kernel
theorem d_AL_grow1E_30 : decode prog_26_method_6_code 30 = .ok (.istore_n 3, 1) := by decide +kernel
theorem d_AL_grow1E_31 : decode prog_26_method_6_code 31 = .ok (.aload_n 0, 1) := by decide +kernel
theorem d_AL_grow1E_32 : decode prog_26_method_6_code 32 = .ok (.aload_n 0, 1) := by decide +kernel
theorem d_AL_grow1E_33 : decode prog_26_method_6_code 33 = .ok (.getfield 9, 3) := by decide +kernel
theorem d_AL_grow1E_36 : decode prog_26_method_6_code 36 = .ok (.iload_n 3, 1) := by decide +kernel
theorem d_AL_grow1E_37 : decode prog_26_method_6_code 37 = .ok (.invokestatic 66, 3) := by decide +kernel
theorem d_AL_grow1E_40 : decode prog_26_method_6_code 40 = .ok (.dup_x1, 1) := by decide +kernel
theorem d_AL_grow1E_41 : decode prog_26_method_6_code 41 = .ok (.putfield 9, 3) := by decide +kernel
theorem d_AL_grow1E_44 : decode prog_26_method_6_code 44 = .ok (.areturn, 1) := by decide +kernel
theorem d_AL_grow0D_0 : decode prog_26_method_7_code 0 = .ok (.aload_n 0, 1) := by decide +kernel
theorem d_AL_grow0D_1 : decode prog_26_method_7_code 1 = .ok (.aload_n 0, 1) := by decide +kernel
theorem d_AL_grow0D_2 : decode prog_26_method_7_code 2 = .ok (.getfield 48, 3) := by decide +kernel
theorem d_AL_grow0D_5 : decode prog_26_method_7_code 5 = .ok (.iconst 1, 1) := by decide +kernel
theorem d_AL_grow0D_6 : decode prog_26_method_7_code 6 = .ok (.iadd, 1) := by decide +kernel
theorem d_AL_grow0D_7 : decode prog_26_method_7_code 7 = .ok (.invokevirtual 69, 3) := by decide +kernel
theorem d_AL_grow0D_10 : decode prog_26_method_7_code 10 = .ok (.areturn, 1) := by decide +kernel
theorem d_AL_grow0E_0 : decode prog_26_method_7_code 0 = .ok (.aload_n 0, 1) := by decide +kernel
theorem d_AL_grow0E_1 : decode prog_26_method_7_code 1 = .ok (.aload_n 0, 1) := by decide +kernel
theorem d_AL_grow0E_2 : decode prog_26_method_7_code 2 = .ok (.getfield 48, 3) := by decide +kernel
theorem d_AL_grow0E_5 : decode prog_26_method_7_code 5 = .ok (.iconst 1, 1) := by decide +kernel
theorem d_AL_grow0E_6 : decode prog_26_method_7_code 6 = .ok (.iadd, 1) := by decide +kernel
theorem d_AL_grow0E_7 : decode prog_26_method_7_code 7 = .ok (.invokevirtual 69, 3) := by decide +kernel
theorem d_AL_grow0E_10 : decode prog_26_method_7_code 10 = .ok (.areturn, 1) := by decide +kernel
theorem d_AL_add3D_0 : decode prog_26_method_24_code 0 = .ok (.iload_n 3, 1) := by decide +kernel
theorem d_AL_add3D_1 : decode prog_26_method_24_code 1 = .ok (.aload_n 2, 1) := by decide +kernel
theorem d_AL_add3D_2 : decode prog_26_method_24_code 2 = .ok (.arraylength, 1) := by decide +kernel
theorem d_AL_add3D_3 : decode prog_26_method_24_code 3 = .ok (.if_icmp .ne 8, 3) := by decide +kernel
theorem d_AL_add3D_6 : decode prog_26_method_24_code 6 = .ok (.aload_n 0, 1) := by decide +kernel
theorem d_AL_add3D_7 : decode prog_26_method_24_code 7 = .ok (.invokevirtual 129, 3) := by decide +kernel
theorem d_AL_add3D_10 : decode prog_26_method_24_code 10 = .ok (.astore_n 2, 1) := by decide +kernel
theorem d_AL_add3D_11 : decode prog_26_method_24_code 11 = .ok (.aload_n 2, 1) := by decide +kernel
theorem d_AL_add3D_12 : decode prog_26_method_24_code 12 = .ok (.iload_n 3, 1) := by decide +kernel
theorem d_AL_add3D_13 : decode prog_26_method_24_code 13 = .ok (.aload_n 1, 1) := by decide +kernel
theorem d_AL_add3D_14 : decode prog_26_method_24_code 14 = .ok (.aastore, 1) := by decide +kernel
theorem d_AL_add3D_15 : decode prog_26_method_24_code 15 = .ok (.aload_n 0, 1) := by decide +kernel
theorem d_AL_add3D_16 : decode prog_26_method_24_code 16 = .ok (.iload_n 3, 1) := by decide +kernel
theorem d_AL_add3D_17 : decode prog_26_method_24_code 17 = .ok (.iconst 1, 1) := by decide +kernel
theorem d_AL_add3D_18 : decode prog_26_method_24_code 18 = .ok (.iadd, 1) := by decide +kernel
theorem d_AL_add3D_19 : decode prog_26_method_24_code 19 = .ok (.putfield 48, 3) := by decide +kernel
theorem d_AL_add3D_22 : decode prog_26_method_24_code 22 = .ok (.return_, 1) := by decide +kernel
theorem d_AL_add3E_0 : decode prog_26_method_24_code 0 = .ok (.iload_n 3, 1) := by decide +kernel
theorem d_AL_add3E_1 : decode prog_26_method_24_code 1 = .ok (.aload_n 2, 1) := by decide +kernel
theorem d_AL_add3E_2 : decode prog_26_method_24_code 2 = .ok (.arraylength, 1) := by decide +kernel
theorem d_AL_add3E_3 : decode prog_26_method_24_code 3 = .ok (.if_icmp .ne 8, 3) := by decide +kernel
theorem d_AL_add3E_6 : decode prog_26_method_24_code 6 = .ok (.aload_n 0, 1) := by decide +kernel
theorem d_AL_add3E_7 : decode prog_26_method_24_code 7 = .ok (.invokevirtual 129, 3) := by decide +kernel
theorem d_AL_add3E_10 : decode prog_26_method_24_code 10 = .ok (.astore_n 2, 1) := by decide +kernel
theorem d_AL_add3E_11 : decode prog_26_method_24_code 11 = .ok (.aload_n 2, 1) := by decide +kernel
theorem d_AL_add3E_12 : decode prog_26_method_24_code 12 = .ok (.iload_n 3, 1) := by decide +kernel
theorem d_AL_add3E_13 : decode prog_26_method_24_code 13 = .ok (.aload_n 1, 1) := by decide +kernel
theorem d_AL_add3E_14 : decode prog_26_method_24_code 14 = .ok (.aastore, 1) := by decide +kernel
theorem d_AL_add3E_15 : decode prog_26_method_24_code 15 = .ok (.aload_n 0, 1) := by decide +kernel
theorem d_AL_add3E_16 : decode prog_26_method_24_code 16 = .ok (.iload_n 3, 1) := by decide +kernel
theorem d_AL_add3E_17 : decode prog_26_method_24_code 17 = .ok (.iconst 1, 1) := by decide +kernel
theorem d_AL_add3E_18 : decode prog_26_method_24_code 18 = .ok (.iadd, 1) := by decide +kernel
theorem d_AL_add3E_19 : decode prog_26_method_24_code 19 = .ok (.putfield 48, 3) := by decide +kernel
theorem d_AL_add3E_22 : decode prog_26_method_24_code 22 = .ok (.return_, 1) := by decide +kernel
theorem d_AL_add1D_0 : decode prog_26_method_25_code 0 = .ok (.aload_n 0, 1) := by decide +kernel
theorem d_AL_add1D_1 : decode prog_26_method_25_code 1 = .ok (.dup, 1) := by decide +kernel
theorem d_AL_add1D_2 : decode prog_26_method_25_code 2 = .ok (.getfield 63, 3) := by decide +kernel
theorem d_AL_add1D_5 : decode prog_26_method_25_code 5 = .ok (.iconst 1, 1) := by decide +kernel
theorem d_AL_add1D_6 : decode prog_26_method_25_code 6 = .ok (.iadd, 1) := by decide +kernel
theorem d_AL_add1D_7 : decode prog_26_method_25_code 7 = .ok (.putfield 63, 3) := by decide +kernel
theorem d_AL_add1D_10 : decode prog_26_method_25_code 10 = .ok (.aload_n 0, 1) := by decide +kernel
theorem d_AL_add1D_11 : decode prog_26_method_25_code 11 = .ok (.aload_n 1, 1) := by decide +kernel
theorem d_AL_add1D_12 : decode prog_26_method_25_code 12 = .ok (.aload_n 0, 1) := by decide +kernel
theorem d_AL_add1D_13 : decode prog_26_method_25_code 13 = .ok (.getfield 9, 3) := by decide +kernel
theorem d_AL_add1D_16 : decode prog_26_method_25_code 16 = .ok (.aload_n 0, 1) := by decide +kernel
theorem d_AL_add1D_17 : decode prog_26_method_25_code 17 = .ok (.getfield 48, 3) := by decide +kernel
theorem d_AL_add1D_20 : decode prog_26_method_25_code 20 = .ok (.invokevirtual 131, 3) := by decide +kernel
theorem d_AL_add1D_23 : decode prog_26_method_25_code 23 = .ok (.iconst 1, 1) := by decide +kernel
theorem d_AL_add1D_24 : decode prog_26_method_25_code 24 = .ok (.ireturn, 1) := by decide +kernel
theorem d_AL_add1E_0 : decode prog_26_method_25_code 0 = .ok (.aload_n 0, 1) := by decide +kernel
theorem d_AL_add1E_1 : decode prog_26_method_25_code 1 = .ok (.dup, 1) := by decide +kernel
theorem d_AL_add1E_2 : decode prog_26_method_25_code 2 = .ok (.getfield 63, 3) := by decide +kernel
theorem d_AL_add1E_5 : decode prog_26_method_25_code 5 = .ok (.iconst 1, 1) := by decide +kernel
theorem d_AL_add1E_6 : decode prog_26_method_25_code 6 = .ok (.iadd, 1) := by decide +kernel
theorem d_AL_add1E_7 : decode prog_26_method_25_code 7 = .ok (.putfield 63, 3) := by decide +kernel
theorem d_AL_add1E_10 : decode prog_26_method_25_code 10 = .ok (.aload_n 0, 1) := by decide +kernel
theorem d_AL_add1E_11 : decode prog_26_method_25_code 11 = .ok (.aload_n 1, 1) := by decide +kernel
theorem d_AL_add1E_12 : decode prog_26_method_25_code 12 = .ok (.aload_n 0, 1) := by decide +kernel
theorem d_AL_add1E_13 : decode prog_26_method_25_code 13 = .ok (.getfield 9, 3) := by decide +kernel
theorem d_AL_add1E_16 : decode prog_26_method_25_code 16 = .ok (.aload_n 0, 1) := by decide +kernel
theorem d_AL_add1E_17 : decode prog_26_method_25_code 17 = .ok (.getfield 48, 3) := by decide +kernel
theorem d_AL_add1E_20 : decode prog_26_method_25_code 20 = .ok (.invokevirtual 131, 3) := by decide +kernel
theorem d_AL_add1E_23 : decode prog_26_method_25_code 23 = .ok (.iconst 1, 1) := by decide +kernel
theorem d_AL_add1E_24 : decode prog_26_method_25_code 24 = .ok (.ireturn, 1) := by decide +kernel
