set_option maxRecDepth 100000
theorem dJ14_init_0 : decode cJ14_init 0 = .ok (.return_, 1) := by decide +kernel
theorem dJ12_abs_0 : decode cJ12_abs 0 = .ok (.iload_n 0, 1) := by decide +kernel
theorem dJ12_abs_1 : decode cJ12_abs 1 = .ok (.ifCond .ge 8, 3) := by decide +kernel
theorem dJ12_abs_4 : decode cJ12_abs 4 = .ok (.iload_n 0, 1) := by decide +kernel
theorem dJ12_abs_5 : decode cJ12_abs 5 = .ok (.ineg, 1) := by decide +kernel
theorem dJ12_abs_6 : decode cJ12_abs 6 = .ok (.goto 4, 3) := by decide +kernel
theorem dJ12_abs_9 : decode cJ12_abs 9 = .ok (.iload_n 0, 1) := by decide +kernel
theorem dJ12_abs_10 : decode cJ12_abs 10 = .ok (.ireturn, 1) := by decide +kernel
theorem dJ12_min_0 : decode cJ12_min 0 = .ok (.lload_n 0, 1) := by decide +kernel
theorem dJ12_min_1 : decode cJ12_min 1 = .ok (.lload_n 2, 1) := by decide +kernel
theorem dJ12_min_2 : decode cJ12_min 2 = .ok (.lcmp, 1) := by decide +kernel
theorem dJ12_min_3 : decode cJ12_min 3 = .ok (.ifCond .gt 7, 3) := by decide +kernel
theorem dJ12_min_6 : decode cJ12_min 6 = .ok (.lload_n 0, 1) := by decide +kernel
theorem dJ12_min_7 : decode cJ12_min 7 = .ok (.goto 4, 3) := by decide +kernel
theorem dJ12_min_10 : decode cJ12_min 10 = .ok (.lload_n 2, 1) := by decide +kernel
theorem dJ12_min_11 : decode cJ12_min 11 = .ok (.lreturn, 1) := by decide +kernel
theorem dJ12_max_0 : decode cJ12_max 0 = .ok (.iload_n 0, 1) := by decide +kernel
theorem dJ12_max_1 : decode cJ12_max 1 = .ok (.iload_n 1, 1) := by decide +kernel
theorem dJ12_max_2 : decode cJ12_max 2 = .ok (.if_icmp .lt 7, 3) := by decide +kernel
theorem dJ12_max_5 : decode cJ12_max 5 = .ok (.iload_n 0, 1) := by decide +kernel
theorem dJ12_max_6 : decode cJ12_max 6 = .ok (.goto 4, 3) := by decide +kernel
theorem dJ12_max_9 : decode cJ12_max 9 = .ok (.iload_n 1, 1) := by decide +kernel
theorem dJ12_max_10 : decode cJ12_max 10 = .ok (.ireturn, 1) := by decide +kernel
theorem dJ12_min_2_0 : decode cJ12_min_2 0 = .ok (.iload_n 0, 1) := by decide +kernel
theorem dJ12_min_2_1 : decode cJ12_min_2 1 = .ok (.iload_n 1, 1) := by decide +kernel
theorem dJ12_min_2_2 : decode cJ12_min_2 2 = .ok (.if_icmp .gt 7, 3) := by decide +kernel
theorem dJ12_min_2_5 : decode cJ12_min_2 5 = .ok (.iload_n 0, 1) := by decide +kernel
theorem dJ12_min_2_6 : decode cJ12_min_2 6 = .ok (.goto 4, 3) := by decide +kernel
theorem dJ12_min_2_9 : decode cJ12_min_2 9 = .ok (.iload_n 1, 1) := by decide +kernel
theorem dJ12_min_2_10 : decode cJ12_min_2 10 = .ok (.ireturn, 1) := by decide +kernel
theorem dJ13_bitCount_0 : decode cJ13_bitCount 0 = .ok (.iload_n 0, 1) := by decide +kernel
theorem dJ13_bitCount_1 : decode cJ13_bitCount 1 = .ok (.iload_n 0, 1) := by decide +kernel
theorem dJ13_bitCount_2 : decode cJ13_bitCount 2 = .ok (.iconst 1, 1) := by decide +kernel
theorem dJ13_bitCount_3 : decode cJ13_bitCount 3 = .ok (.iushr, 1) := by decide +kernel
theorem dJ13_bitCount_4 : decode cJ13_bitCount 4 = .ok (.ldc_w 265, 3) := by decide +kernel
theorem dJ13_bitCount_7 : decode cJ13_bitCount 7 = .ok (.iand, 1) := by decide +kernel
theorem dJ13_bitCount_8 : decode cJ13_bitCount 8 = .ok (.isub, 1) := by decide +kernel
theorem dJ13_bitCount_9 : decode cJ13_bitCount 9 = .ok (.istore_n 0, 1) := by decide +kernel
theorem dJ13_bitCount_10 : decode cJ13_bitCount 10 = .ok (.iload_n 0, 1) := by decide +kernel
theorem dJ13_bitCount_11 : decode cJ13_bitCount 11 = .ok (.ldc_w 266, 3) := by decide +kernel
theorem dJ13_bitCount_14 : decode cJ13_bitCount 14 = .ok (.iand, 1) := by decide +kernel
theorem dJ13_bitCount_15 : decode cJ13_bitCount 15 = .ok (.iload_n 0, 1) := by decide +kernel
theorem dJ13_bitCount_16 : decode cJ13_bitCount 16 = .ok (.iconst 2, 1) := by decide +kernel
theorem dJ13_bitCount_17 : decode cJ13_bitCount 17 = .ok (.iushr, 1) := by decide +kernel
theorem dJ13_bitCount_18 : decode cJ13_bitCount 18 = .ok (.ldc_w 266, 3) := by decide +kernel
theorem dJ13_bitCount_21 : decode cJ13_bitCount 21 = .ok (.iand, 1) := by decide +kernel
theorem dJ13_bitCount_22 : decode cJ13_bitCount 22 = .ok (.iadd, 1) := by decide +kernel
theorem dJ13_bitCount_23 : decode cJ13_bitCount 23 = .ok (.istore_n 0, 1) := by decide +kernel
theorem dJ13_bitCount_24 : decode cJ13_bitCount 24 = .ok (.iload_n 0, 1) := by decide +kernel
theorem dJ13_bitCount_25 : decode cJ13_bitCount 25 = .ok (.iload_n 0, 1) := by decide +kernel
theorem dJ13_bitCount_26 : decode cJ13_bitCount 26 = .ok (.iconst 4, 1) := by decide +kernel
theorem dJ13_bitCount_27 : decode cJ13_bitCount 27 = .ok (.iushr, 1) := by decide +kernel
theorem dJ13_bitCount_28 : decode cJ13_bitCount 28 = .ok (.iadd, 1) := by decide +kernel
theorem dJ13_bitCount_29 : decode cJ13_bitCount 29 = .ok (.ldc_w 267, 3) := by decide +kernel
theorem dJ13_bitCount_32 : decode cJ13_bitCount 32 = .ok (.iand, 1) := by decide +kernel
theorem dJ13_bitCount_33 : decode cJ13_bitCount 33 = .ok (.istore_n 0, 1) := by decide +kernel
theorem dJ13_bitCount_34 : decode cJ13_bitCount 34 = .ok (.iload_n 0, 1) := by decide +kernel
theorem dJ13_bitCount_35 : decode cJ13_bitCount 35 = .ok (.iload_n 0, 1) := by decide +kernel
theorem dJ13_bitCount_36 : decode cJ13_bitCount 36 = .ok (.bipush 8, 2) := by decide +kernel
theorem dJ13_bitCount_38 : decode cJ13_bitCount 38 = .ok (.iushr, 1) := by decide +kernel
theorem dJ13_bitCount_39 : decode cJ13_bitCount 39 = .ok (.iadd, 1) := by decide +kernel
theorem dJ13_bitCount_40 : decode cJ13_bitCount 40 = .ok (.istore_n 0, 1) := by decide +kernel
theorem dJ13_bitCount_41 : decode cJ13_bitCount 41 = .ok (.iload_n 0, 1) := by decide +kernel
theorem dJ13_bitCount_42 : decode cJ13_bitCount 42 = .ok (.iload_n 0, 1) := by decide +kernel
theorem dJ13_bitCount_43 : decode cJ13_bitCount 43 = .ok (.bipush 16, 2) := by decide +kernel
theorem dJ13_bitCount_45 : decode cJ13_bitCount 45 = .ok (.iushr, 1) := by decide +kernel
theorem dJ13_bitCount_46 : decode cJ13_bitCount 46 = .ok (.iadd, 1) := by decide +kernel
theorem dJ13_bitCount_47 : decode cJ13_bitCount 47 = .ok (.istore_n 0, 1) := by decide +kernel
theorem dJ13_bitCount_48 : decode cJ13_bitCount 48 = .ok (.iload_n 0, 1) := by decide +kernel
theorem dJ13_bitCount_49 : decode cJ13_bitCount 49 = .ok (.bipush 63, 2) := by decide +kernel
theorem dJ13_bitCount_51 : decode cJ13_bitCount 51 = .ok (.iand, 1) := by decide +kernel
theorem dJ13_bitCount_52 : decode cJ13_bitCount 52 = .ok (.ireturn, 1) := by decide +kernel
theorem dJ0_init_0 : decode cJ0_init 0 = .ok (.aload_n 0, 1) := by decide +kernel
theorem dJ0_init_1 : decode cJ0_init 1 = .ok (.invokespecial 1, 3) := by decide +kernel
theorem dJ0_init_4 : decode cJ0_init 4 = .ok (.aload_n 0, 1) := by decide +kernel
theorem dJ0_init_5 : decode cJ0_init 5 = .ok (.aload_n 0, 1) := by decide +kernel
theorem dJ0_init_6 : decode cJ0_init 6 = .ok (.putfield 7, 3) := by decide +kernel
theorem dJ0_init_9 : decode cJ0_init 9 = .ok (.aload_n 0, 1) := by decide +kernel
theorem dJ0_init_10 : decode cJ0_init 10 = .ok (.getstatic 13, 3) := by decide +kernel
theorem dJ0_init_13 : decode cJ0_init 13 = .ok (.putfield 17, 3) := by decide +kernel
theorem dJ0_init_16 : decode cJ0_init 16 = .ok (.aload_n 0, 1) := by decide +kernel
theorem dJ0_init_17 : decode cJ0_init 17 = .ok (.getstatic 20, 3) := by decide +kernel
theorem dJ0_init_20 : decode cJ0_init 20 = .ok (.putfield 24, 3) := by decide +kernel
theorem dJ0_init_23 : decode cJ0_init 23 = .ok (.aload_n 0, 1) := by decide +kernel
theorem dJ0_init_24 : decode cJ0_init 24 = .ok (.invokevirtual 27, 3) := by decide +kernel
theorem dJ0_init_27 : decode cJ0_init 27 = .ok (.pop, 1) := by decide +kernel
theorem dJ0_init_28 : decode cJ0_init 28 = .ok (.return_, 1) := by decide +kernel
theorem dJ0_init_2_0 : decode cJ0_init_2 0 = .ok (.aload_n 0, 1) := by decide +kernel
theorem dJ0_init_2_1 : decode cJ0_init_2 1 = .ok (.invokespecial 1, 3) := by decide +kernel
theorem dJ0_init_2_4 : decode cJ0_init_2 4 = .ok (.aload_n 0, 1) := by decide +kernel
theorem dJ0_init_2_5 : decode cJ0_init_2 5 = .ok (.aload_n 0, 1) := by decide +kernel
theorem dJ0_init_2_6 : decode cJ0_init_2 6 = .ok (.putfield 7, 3) := by decide +kernel
theorem dJ0_init_2_9 : decode cJ0_init_2 9 = .ok (.aload_n 0, 1) := by decide +kernel
theorem dJ0_init_2_10 : decode cJ0_init_2 10 = .ok (.getstatic 13, 3) := by decide +kernel
theorem dJ0_init_2_13 : decode cJ0_init_2 13 = .ok (.putfield 17, 3) := by decide +kernel
theorem dJ0_init_2_16 : decode cJ0_init_2 16 = .ok (.aload_n 0, 1) := by decide +kernel
theorem dJ0_init_2_17 : decode cJ0_init_2 17 = .ok (.getstatic 20, 3) := by decide +kernel
theorem dJ0_init_2_20 : decode cJ0_init_2 20 = .ok (.putfield 24, 3) := by decide +kernel
theorem dJ0_init_2_23 : decode cJ0_init_2 23 = .ok (.aload_n 0, 1) := by decide +kernel
theorem dJ0_init_2_24 : decode cJ0_init_2 24 = .ok (.invokevirtual 27, 3) := by decide +kernel
theorem dJ0_init_2_27 : decode cJ0_init_2 27 = .ok (.pop, 1) := by decide +kernel
theorem dJ0_init_2_28 : decode cJ0_init_2 28 = .ok (.aload_n 0, 1) := by decide +kernel
theorem dJ0_init_2_29 : decode cJ0_init_2 29 = .ok (.aload_n 1, 1) := by decide +kernel
theorem dJ0_init_2_30 : decode cJ0_init_2 30 = .ok (.putfield 31, 3) := by decide +kernel
theorem dJ0_init_2_33 : decode cJ0_init_2 33 = .ok (.return_, 1) := by decide +kernel
theorem dJ0_init_3_0 : decode cJ0_init_3 0 = .ok (.aload_n 0, 1) := by decide +kernel
theorem dJ0_init_3_1 : decode cJ0_init_3 1 = .ok (.invokespecial 1, 3) := by decide +kernel
theorem dJ0_init_3_4 : decode cJ0_init_3 4 = .ok (.aload_n 0, 1) := by decide +kernel
theorem dJ0_init_3_5 : decode cJ0_init_3 5 = .ok (.aload_n 0, 1) := by decide +kernel
theorem dJ0_init_3_6 : decode cJ0_init_3 6 = .ok (.putfield 7, 3) := by decide +kernel
theorem dJ0_init_3_9 : decode cJ0_init_3 9 = .ok (.aload_n 0, 1) := by decide +kernel
theorem dJ0_init_3_10 : decode cJ0_init_3 10 = .ok (.getstatic 13, 3) := by decide +kernel
theorem dJ0_init_3_13 : decode cJ0_init_3 13 = .ok (.putfield 17, 3) := by decide +kernel
theorem dJ0_init_3_16 : decode cJ0_init_3 16 = .ok (.aload_n 0, 1) := by decide +kernel
theorem dJ0_init_3_17 : decode cJ0_init_3 17 = .ok (.getstatic 20, 3) := by decide +kernel
theorem dJ0_init_3_20 : decode cJ0_init_3 20 = .ok (.putfield 24, 3) := by decide +kernel
theorem dJ0_init_3_23 : decode cJ0_init_3 23 = .ok (.iload 4, 2) := by decide +kernel
theorem dJ0_init_3_25 : decode cJ0_init_3 25 = .ok (.ifCond .eq 11, 3) := by decide +kernel
theorem dJ0_init_3_28 : decode cJ0_init_3 28 = .ok (.aload_n 0, 1) := by decide +kernel
theorem dJ0_init_3_29 : decode cJ0_init_3 29 = .ok (.invokevirtual 27, 3) := by decide +kernel
theorem dJ0_init_3_32 : decode cJ0_init_3 32 = .ok (.pop, 1) := by decide +kernel
theorem dJ0_init_3_33 : decode cJ0_init_3 33 = .ok (.goto 8, 3) := by decide +kernel
theorem dJ0_init_3_36 : decode cJ0_init_3 36 = .ok (.aload_n 0, 1) := by decide +kernel
theorem dJ0_init_3_37 : decode cJ0_init_3 37 = .ok (.aconst_null, 1) := by decide +kernel
theorem dJ0_init_3_38 : decode cJ0_init_3 38 = .ok (.putfield 17, 3) := by decide +kernel
theorem dJ0_init_3_41 : decode cJ0_init_3 41 = .ok (.aload_n 0, 1) := by decide +kernel
theorem dJ0_init_3_42 : decode cJ0_init_3 42 = .ok (.aload_n 1, 1) := by decide +kernel
theorem dJ0_init_3_43 : decode cJ0_init_3 43 = .ok (.putfield 31, 3) := by decide +kernel
theorem dJ0_init_3_46 : decode cJ0_init_3 46 = .ok (.aload_n 0, 1) := by decide +kernel
theorem dJ0_init_3_47 : decode cJ0_init_3 47 = .ok (.aload_n 2, 1) := by decide +kernel
theorem dJ0_init_3_48 : decode cJ0_init_3 48 = .ok (.putfield 7, 3) := by decide +kernel
theorem dJ0_init_3_51 : decode cJ0_init_3 51 = .ok (.iload_n 3, 1) := by decide +kernel
theorem dJ0_init_3_52 : decode cJ0_init_3 52 = .ok (.ifCond .ne 8, 3) := by decide +kernel
theorem dJ0_init_3_55 : decode cJ0_init_3 55 = .ok (.aload_n 0, 1) := by decide +kernel
theorem dJ0_init_3_56 : decode cJ0_init_3 56 = .ok (.aconst_null, 1) := by decide +kernel
theorem dJ0_init_3_57 : decode cJ0_init_3 57 = .ok (.putfield 24, 3) := by decide +kernel
theorem dJ0_init_3_60 : decode cJ0_init_3 60 = .ok (.return_, 1) := by decide +kernel
theorem dJ1_init_0 : decode cJ1_init 0 = .ok (.aload_n 0, 1) := by decide +kernel
theorem dJ1_init_1 : decode cJ1_init 1 = .ok (.aload_n 1, 1) := by decide +kernel
theorem dJ1_init_2 : decode cJ1_init 2 = .ok (.invokespecial 7, 3) := by decide +kernel
theorem dJ1_init_5 : decode cJ1_init 5 = .ok (.return_, 1) := by decide +kernel
theorem dJ1_init_2_0 : decode cJ1_init_2 0 = .ok (.aload_n 0, 1) := by decide +kernel
theorem dJ1_init_2_1 : decode cJ1_init_2 1 = .ok (.aload_n 1, 1) := by decide +kernel
theorem dJ1_init_2_2 : decode cJ1_init_2 2 = .ok (.aload_n 2, 1) := by decide +kernel
theorem dJ1_init_2_3 : decode cJ1_init_2 3 = .ok (.iload_n 3, 1) := by decide +kernel
theorem dJ1_init_2_4 : decode cJ1_init_2 4 = .ok (.iload 4, 2) := by decide +kernel
theorem dJ1_init_2_6 : decode cJ1_init_2 6 = .ok (.invokespecial 16, 3) := by decide +kernel
theorem dJ1_init_2_9 : decode cJ1_init_2 9 = .ok (.return_, 1) := by decide +kernel
theorem dJ2_init_0 : decode cJ2_init 0 = .ok (.aload_n 0, 1) := by decide +kernel
theorem dJ2_init_1 : decode cJ2_init 1 = .ok (.aload_n 1, 1) := by decide +kernel
theorem dJ2_init_2 : decode cJ2_init 2 = .ok (.invokespecial 7, 3) := by decide +kernel
theorem dJ2_init_5 : decode cJ2_init 5 = .ok (.return_, 1) := by decide +kernel
theorem dJ3_init_0 : decode cJ3_init 0 = .ok (.aload_n 0, 1) := by decide +kernel
theorem dJ3_init_1 : decode cJ3_init 1 = .ok (.aload_n 1, 1) := by decide +kernel
theorem dJ3_init_2 : decode cJ3_init 2 = .ok (.invokespecial 7, 3) := by decide +kernel
theorem dJ3_init_5 : decode cJ3_init 5 = .ok (.return_, 1) := by decide +kernel
theorem dJ4_init_0 : decode cJ4_init 0 = .ok (.aload_n 0, 1) := by decide +kernel
theorem dJ4_init_1 : decode cJ4_init 1 = .ok (.aload_n 1, 1) := by decide +kernel
theorem dJ4_init_2 : decode cJ4_init 2 = .ok (.invokespecial 7, 3) := by decide +kernel
theorem dJ4_init_5 : decode cJ4_init 5 = .ok (.return_, 1) := by decide +kernel
theorem dJ5_init_0 : decode cJ5_init 0 = .ok (.aload_n 0, 1) := by decide +kernel
theorem dJ5_init_1 : decode cJ5_init 1 = .ok (.aload_n 1, 1) := by decide +kernel
theorem dJ5_init_2 : decode cJ5_init 2 = .ok (.invokespecial 7, 3) := by decide +kernel
theorem dJ5_init_5 : decode cJ5_init 5 = .ok (.return_, 1) := by decide +kernel
theorem dJ6_init_0 : decode cJ6_init 0 = .ok (.aload_n 0, 1) := by decide +kernel
theorem dJ6_init_1 : decode cJ6_init 1 = .ok (.aload_n 1, 1) := by decide +kernel
theorem dJ6_init_2 : decode cJ6_init 2 = .ok (.invokespecial 7, 3) := by decide +kernel
theorem dJ6_init_5 : decode cJ6_init 5 = .ok (.return_, 1) := by decide +kernel
theorem dJ8_init_0 : decode cJ8_init 0 = .ok (.aload_n 0, 1) := by decide +kernel
theorem dJ8_init_1 : decode cJ8_init 1 = .ok (.aload_n 1, 1) := by decide +kernel
theorem dJ8_init_2 : decode cJ8_init 2 = .ok (.invokespecial 7, 3) := by decide +kernel
theorem dJ8_init_5 : decode cJ8_init 5 = .ok (.return_, 1) := by decide +kernel
theorem dJ7_length_0 : decode cJ7_length 0 = .ok (.aload_n 0, 1) := by decide +kernel
theorem dJ7_length_1 : decode cJ7_length 1 = .ok (.getfield 9, 3) := by decide +kernel
theorem dJ7_length_4 : decode cJ7_length 4 = .ok (.arraylength, 1) := by decide +kernel
theorem dJ7_length_5 : decode cJ7_length 5 = .ok (.aload_n 0, 1) := by decide +kernel
theorem dJ7_length_6 : decode cJ7_length 6 = .ok (.invokevirtual 335, 3) := by decide +kernel
theorem dJ7_length_9 : decode cJ7_length 9 = .ok (.ishr, 1) := by decide +kernel
theorem dJ7_length_10 : decode cJ7_length 10 = .ok (.ireturn, 1) := by decide +kernel
theorem dJ7_coder_0 : decode cJ7_coder 0 = .ok (.getstatic 38, 3) := by decide +kernel
theorem dJ7_coder_3 : decode cJ7_coder 3 = .ok (.ifCond .eq 10, 3) := by decide +kernel
theorem dJ7_coder_6 : decode cJ7_coder 6 = .ok (.aload_n 0, 1) := by decide +kernel
theorem dJ7_coder_7 : decode cJ7_coder 7 = .ok (.getfield 15, 3) := by decide +kernel
theorem dJ7_coder_10 : decode cJ7_coder 10 = .ok (.goto 4, 3) := by decide +kernel
theorem dJ7_coder_13 : decode cJ7_coder 13 = .ok (.iconst 1, 1) := by decide +kernel
theorem dJ7_coder_14 : decode cJ7_coder 14 = .ok (.ireturn, 1) := by decide +kernel
theorem dJ7_charAt_0 : decode cJ7_charAt 0 = .ok (.aload_n 0, 1) := by decide +kernel
theorem dJ7_charAt_1 : decode cJ7_charAt 1 = .ok (.invokevirtual 492, 3) := by decide +kernel
theorem dJ7_charAt_4 : decode cJ7_charAt 4 = .ok (.ifCond .eq 12, 3) := by decide +kernel
theorem dJ7_charAt_7 : decode cJ7_charAt 7 = .ok (.aload_n 0, 1) := by decide +kernel
theorem dJ7_charAt_8 : decode cJ7_charAt 8 = .ok (.getfield 9, 3) := by decide +kernel
theorem dJ7_charAt_11 : decode cJ7_charAt 11 = .ok (.iload_n 1, 1) := by decide +kernel
theorem dJ7_charAt_12 : decode cJ7_charAt 12 = .ok (.invokestatic 495, 3) := by decide +kernel
theorem dJ7_charAt_15 : decode cJ7_charAt 15 = .ok (.ireturn, 1) := by decide +kernel
theorem dJ7_charAt_16 : decode cJ7_charAt 16 = .ok (.aload_n 0, 1) := by decide +kernel
theorem dJ7_charAt_17 : decode cJ7_charAt 17 = .ok (.getfield 9, 3) := by decide +kernel
theorem dJ7_charAt_20 : decode cJ7_charAt 20 = .ok (.iload_n 1, 1) := by decide +kernel
theorem dJ7_charAt_21 : decode cJ7_charAt 21 = .ok (.invokestatic 498, 3) := by decide +kernel
theorem dJ7_charAt_24 : decode cJ7_charAt 24 = .ok (.ireturn, 1) := by decide +kernel
theorem dJ7_isLatin1_0 : decode cJ7_isLatin1 0 = .ok (.getstatic 38, 3) := by decide +kernel
theorem dJ7_isLatin1_3 : decode cJ7_isLatin1 3 = .ok (.ifCond .eq 14, 3) := by decide +kernel
theorem dJ7_isLatin1_6 : decode cJ7_isLatin1 6 = .ok (.aload_n 0, 1) := by decide +kernel
theorem dJ7_isLatin1_7 : decode cJ7_isLatin1 7 = .ok (.getfield 15, 3) := by decide +kernel
theorem dJ7_isLatin1_10 : decode cJ7_isLatin1 10 = .ok (.ifCond .ne 7, 3) := by decide +kernel
theorem dJ7_isLatin1_13 : decode cJ7_isLatin1 13 = .ok (.iconst 1, 1) := by decide +kernel
theorem dJ7_isLatin1_14 : decode cJ7_isLatin1 14 = .ok (.goto 4, 3) := by decide +kernel
theorem dJ7_isLatin1_17 : decode cJ7_isLatin1 17 = .ok (.iconst 0, 1) := by decide +kernel
theorem dJ7_isLatin1_18 : decode cJ7_isLatin1 18 = .ok (.ireturn, 1) := by decide +kernel
theorem dJ7_checkIndex_0 : decode cJ7_checkIndex 0 = .ok (.iload_n 0, 1) := by decide +kernel
theorem dJ7_checkIndex_1 : decode cJ7_checkIndex 1 = .ok (.iload_n 1, 1) := by decide +kernel
theorem dJ7_checkIndex_2 : decode cJ7_checkIndex 2 = .ok (.getstatic 1053, 3) := by decide +kernel
theorem dJ7_checkIndex_5 : decode cJ7_checkIndex 5 = .ok (.invokestatic 1059, 3) := by decide +kernel
theorem dJ7_checkIndex_8 : decode cJ7_checkIndex 8 = .ok (.pop, 1) := by decide +kernel
theorem dJ7_checkIndex_9 : decode cJ7_checkIndex 9 = .ok (.return_, 1) := by decide +kernel
theorem dJ9_charAt_0 : decode cJ9_charAt 0 = .ok (.iload_n 1, 1) := by decide +kernel
theorem dJ9_charAt_1 : decode cJ9_charAt 1 = .ok (.aload_n 0, 1) := by decide +kernel
theorem dJ9_charAt_2 : decode cJ9_charAt 2 = .ok (.arraylength, 1) := by decide +kernel
theorem dJ9_charAt_3 : decode cJ9_charAt 3 = .ok (.invokestatic 9, 3) := by decide +kernel
theorem dJ9_charAt_6 : decode cJ9_charAt 6 = .ok (.aload_n 0, 1) := by decide +kernel
theorem dJ9_charAt_7 : decode cJ9_charAt 7 = .ok (.iload_n 1, 1) := by decide +kernel
theorem dJ9_charAt_8 : decode cJ9_charAt 8 = .ok (.baload, 1) := by decide +kernel
theorem dJ9_charAt_9 : decode cJ9_charAt 9 = .ok (.sipush 255, 3) := by decide +kernel
theorem dJ9_charAt_12 : decode cJ9_charAt 12 = .ok (.iand, 1) := by decide +kernel
theorem dJ9_charAt_13 : decode cJ9_charAt 13 = .ok (.i2c, 1) := by decide +kernel
theorem dJ9_charAt_14 : decode cJ9_charAt 14 = .ok (.ireturn, 1) := by decide +kernel
theorem dJ10_checkIndex_0 : decode cJ10_checkIndex 0 = .ok (.iload_n 0, 1) := by decide +kernel
theorem dJ10_checkIndex_1 : decode cJ10_checkIndex 1 = .ok (.ifCond .lt 8, 3) := by decide +kernel
theorem dJ10_checkIndex_4 : decode cJ10_checkIndex 4 = .ok (.iload_n 0, 1) := by decide +kernel
theorem dJ10_checkIndex_5 : decode cJ10_checkIndex 5 = .ok (.iload_n 1, 1) := by decide +kernel
theorem dJ10_checkIndex_6 : decode cJ10_checkIndex 6 = .ok (.if_icmp .lt 10, 3) := by decide +kernel
theorem dJ10_checkIndex_9 : decode cJ10_checkIndex 9 = .ok (.aload_n 2, 1) := by decide +kernel
theorem dJ10_checkIndex_10 : decode cJ10_checkIndex 10 = .ok (.iload_n 0, 1) := by decide +kernel
theorem dJ10_checkIndex_11 : decode cJ10_checkIndex 11 = .ok (.iload_n 1, 1) := by decide +kernel
theorem dJ10_checkIndex_12 : decode cJ10_checkIndex 12 = .ok (.invokestatic 95, 3) := by decide +kernel
theorem dJ10_checkIndex_15 : decode cJ10_checkIndex 15 = .ok (.athrow, 1) := by decide +kernel
theorem dJ10_checkIndex_16 : decode cJ10_checkIndex 16 = .ok (.iload_n 0, 1) := by decide +kernel
theorem dJ10_checkIndex_17 : decode cJ10_checkIndex 17 = .ok (.ireturn, 1) := by decide +kernel
theorem dJ11_charAt_0 : decode cJ11_charAt 0 = .ok (.iload_n 1, 1) := by decide +kernel
theorem dJ11_charAt_1 : decode cJ11_charAt 1 = .ok (.aload_n 0, 1) := by decide +kernel
theorem dJ11_charAt_2 : decode cJ11_charAt 2 = .ok (.invokestatic 67, 3) := by decide +kernel
theorem dJ11_charAt_5 : decode cJ11_charAt 5 = .ok (.aload_n 0, 1) := by decide +kernel
theorem dJ11_charAt_6 : decode cJ11_charAt 6 = .ok (.iload_n 1, 1) := by decide +kernel
theorem dJ11_charAt_7 : decode cJ11_charAt 7 = .ok (.invokestatic 71, 3) := by decide +kernel
theorem dJ11_charAt_10 : decode cJ11_charAt 10 = .ok (.ireturn, 1) := by decide +kernel
theorem dJ11_checkIndex_0 : decode cJ11_checkIndex 0 = .ok (.iload_n 0, 1) := by decide +kernel
theorem dJ11_checkIndex_1 : decode cJ11_checkIndex 1 = .ok (.aload_n 1, 1) := by decide +kernel
theorem dJ11_checkIndex_2 : decode cJ11_checkIndex 2 = .ok (.invokestatic 48, 3) := by decide +kernel
theorem dJ11_checkIndex_5 : decode cJ11_checkIndex 5 = .ok (.invokestatic 414, 3) := by decide +kernel
theorem dJ11_checkIndex_8 : decode cJ11_checkIndex 8 = .ok (.return_, 1) := by decide +kernel
theorem dJ11_length_0 : decode cJ11_length 0 = .ok (.aload_n 0, 1) := by decide +kernel
theorem dJ11_length_1 : decode cJ11_length 1 = .ok (.arraylength, 1) := by decide +kernel
theorem dJ11_length_2 : decode cJ11_length 2 = .ok (.iconst 1, 1) := by decide +kernel
theorem dJ11_length_3 : decode cJ11_length 3 = .ok (.ishr, 1) := by decide +kernel
theorem dJ11_length_4 : decode cJ11_length 4 = .ok (.ireturn, 1) := by decide +kernel
theorem dJ11_getChar_0 : decode cJ11_getChar 0 = .ok (.getstatic 44, 3) := by decide +kernel
theorem dJ11_getChar_3 : decode cJ11_getChar 3 = .ok (.ifCond .ne 25, 3) := by decide +kernel
theorem dJ11_getChar_6 : decode cJ11_getChar 6 = .ok (.iload_n 1, 1) := by decide +kernel
theorem dJ11_getChar_7 : decode cJ11_getChar 7 = .ok (.ifCond .lt 11, 3) := by decide +kernel
theorem dJ11_getChar_10 : decode cJ11_getChar 10 = .ok (.iload_n 1, 1) := by decide +kernel
theorem dJ11_getChar_11 : decode cJ11_getChar 11 = .ok (.aload_n 0, 1) := by decide +kernel
theorem dJ11_getChar_12 : decode cJ11_getChar 12 = .ok (.invokestatic 48, 3) := by decide +kernel
theorem dJ11_getChar_15 : decode cJ11_getChar 15 = .ok (.if_icmp .lt 13, 3) := by decide +kernel
theorem dJ11_getChar_18 : decode cJ11_getChar 18 = .ok (.new 52, 3) := by decide +kernel
theorem dJ11_getChar_21 : decode cJ11_getChar 21 = .ok (.dup, 1) := by decide +kernel
theorem dJ11_getChar_22 : decode cJ11_getChar 22 = .ok (.ldc 54, 2) := by decide +kernel
theorem dJ11_getChar_24 : decode cJ11_getChar 24 = .ok (.invokespecial 56, 3) := by decide +kernel
theorem dJ11_getChar_27 : decode cJ11_getChar 27 = .ok (.athrow, 1) := by decide +kernel
theorem dJ11_getChar_28 : decode cJ11_getChar 28 = .ok (.iload_n 1, 1) := by decide +kernel
theorem dJ11_getChar_29 : decode cJ11_getChar 29 = .ok (.iconst 1, 1) := by decide +kernel
theorem dJ11_getChar_30 : decode cJ11_getChar 30 = .ok (.ishl, 1) := by decide +kernel
theorem dJ11_getChar_31 : decode cJ11_getChar 31 = .ok (.istore_n 1, 1) := by decide +kernel
theorem dJ11_getChar_32 : decode cJ11_getChar 32 = .ok (.aload_n 0, 1) := by decide +kernel
theorem dJ11_getChar_33 : decode cJ11_getChar 33 = .ok (.iload_n 1, 1) := by decide +kernel
theorem dJ11_getChar_34 : decode cJ11_getChar 34 = .ok (.iinc 1 1, 3) := by decide +kernel
theorem dJ11_getChar_37 : decode cJ11_getChar 37 = .ok (.baload, 1) := by decide +kernel
theorem dJ11_getChar_38 : decode cJ11_getChar 38 = .ok (.sipush 255, 3) := by decide +kernel
theorem dJ11_getChar_41 : decode cJ11_getChar 41 = .ok (.iand, 1) := by decide +kernel
theorem dJ11_getChar_42 : decode cJ11_getChar 42 = .ok (.getstatic 59, 3) := by decide +kernel
theorem dJ11_getChar_45 : decode cJ11_getChar 45 = .ok (.ishl, 1) := by decide +kernel
theorem dJ11_getChar_46 : decode cJ11_getChar 46 = .ok (.aload_n 0, 1) := by decide +kernel
theorem dJ11_getChar_47 : decode cJ11_getChar 47 = .ok (.iload_n 1, 1) := by decide +kernel
theorem dJ11_getChar_48 : decode cJ11_getChar 48 = .ok (.baload, 1) := by decide +kernel
theorem dJ11_getChar_49 : decode cJ11_getChar 49 = .ok (.sipush 255, 3) := by decide +kernel
theorem dJ11_getChar_52 : decode cJ11_getChar 52 = .ok (.iand, 1) := by decide +kernel
theorem dJ11_getChar_53 : decode cJ11_getChar 53 = .ok (.getstatic 63, 3) := by decide +kernel
theorem dJ11_getChar_56 : decode cJ11_getChar 56 = .ok (.ishl, 1) := by decide +kernel
theorem dJ11_getChar_57 : decode cJ11_getChar 57 = .ok (.ior, 1) := by decide +kernel
theorem dJ11_getChar_58 : decode cJ11_getChar 58 = .ok (.i2c, 1) := by decide +kernel
theorem dJ11_getChar_59 : decode cJ11_getChar 59 = .ok (.ireturn, 1) := by decide +kernel
theorem dX2_init_0 : decode cX2_init 0 = .ok (.aload_n 0, 1) := by decide +kernel
theorem dX2_init_1 : decode cX2_init 1 = .ok (.invokespecial 3, 3) := by decide +kernel
theorem dX2_init_4 : decode cX2_init 4 = .ok (.aload_n 0, 1) := by decide +kernel
theorem dX2_init_5 : decode cX2_init 5 = .ok (.bipush 20, 2) := by decide +kernel
theorem dX2_init_7 : decode cX2_init 7 = .ok (.newarray .int, 2) := by decide +kernel
theorem dX2_init_9 : decode cX2_init 9 = .ok (.putfield 9, 3) := by decide +kernel
theorem dX2_init_12 : decode cX2_init 12 = .ok (.aload_n 0, 1) := by decide +kernel
theorem dX2_init_13 : decode cX2_init 13 = .ok (.bipush 20, 2) := by decide +kernel
theorem dX2_init_15 : decode cX2_init 15 = .ok (.newarray .int, 2) := by decide +kernel
theorem dX2_init_17 : decode cX2_init 17 = .ok (.putfield 15, 3) := by decide +kernel
theorem dX2_init_20 : decode cX2_init 20 = .ok (.aload_n 0, 1) := by decide +kernel
theorem dX2_init_21 : decode cX2_init 21 = .ok (.bipush 20, 2) := by decide +kernel
theorem dX2_init_23 : decode cX2_init 23 = .ok (.newarray .int, 2) := by decide +kernel
theorem dX2_init_25 : decode cX2_init 25 = .ok (.putfield 18, 3) := by decide +kernel
theorem dX2_init_28 : decode cX2_init 28 = .ok (.aload_n 0, 1) := by decide +kernel
theorem dX2_init_29 : decode cX2_init 29 = .ok (.bipush 20, 2) := by decide +kernel
theorem dX2_init_31 : decode cX2_init 31 = .ok (.newarray .int, 2) := by decide +kernel
theorem dX2_init_33 : decode cX2_init 33 = .ok (.putfield 21, 3) := by decide +kernel
theorem dX2_init_36 : decode cX2_init 36 = .ok (.aload_n 0, 1) := by decide +kernel
theorem dX2_init_37 : decode cX2_init 37 = .ok (.bipush 20, 2) := by decide +kernel
theorem dX2_init_39 : decode cX2_init 39 = .ok (.newarray .long, 2) := by decide +kernel
theorem dX2_init_41 : decode cX2_init 41 = .ok (.putfield 24, 3) := by decide +kernel
theorem dX2_init_44 : decode cX2_init 44 = .ok (.aload_n 0, 1) := by decide +kernel
theorem dX2_init_45 : decode cX2_init 45 = .ok (.sipush 3600, 3) := by decide +kernel
theorem dX2_init_48 : decode cX2_init 48 = .ok (.newarray .int, 2) := by decide +kernel
theorem dX2_init_50 : decode cX2_init 50 = .ok (.putfield 28, 3) := by decide +kernel
theorem dX2_init_53 : decode cX2_init 53 = .ok (.aload_n 0, 1) := by decide +kernel
theorem dX2_init_54 : decode cX2_init 54 = .ok (.bipush 20, 2) := by decide +kernel
theorem dX2_init_56 : decode cX2_init 56 = .ok (.newarray .int, 2) := by decide +kernel
theorem dX2_init_58 : decode cX2_init 58 = .ok (.putfield 31, 3) := by decide +kernel
theorem dX2_init_61 : decode cX2_init 61 = .ok (.aload_n 0, 1) := by decide +kernel
theorem dX2_init_62 : decode cX2_init 62 = .ok (.bipush 20, 2) := by decide +kernel
theorem dX2_init_64 : decode cX2_init 64 = .ok (.newarray .int, 2) := by decide +kernel
theorem dX2_init_66 : decode cX2_init 66 = .ok (.putfield 34, 3) := by decide +kernel
theorem dX2_init_69 : decode cX2_init 69 = .ok (.aload_n 0, 1) := by decide +kernel
theorem dX2_init_70 : decode cX2_init 70 = .ok (.bipush 20, 2) := by decide +kernel
theorem dX2_init_72 : decode cX2_init 72 = .ok (.newarray .int, 2) := by decide +kernel
theorem dX2_init_74 : decode cX2_init 74 = .ok (.putfield 37, 3) := by decide +kernel
theorem dX2_init_77 : decode cX2_init 77 = .ok (.aload_n 0, 1) := by decide +kernel
theorem dX2_init_78 : decode cX2_init 78 = .ok (.bipush 16, 2) := by decide +kernel
theorem dX2_init_80 : decode cX2_init 80 = .ok (.newarray .int, 2) := by decide +kernel
theorem dX2_init_82 : decode cX2_init 82 = .ok (.putfield 40, 3) := by decide +kernel
theorem dX2_init_85 : decode cX2_init 85 = .ok (.aload_n 0, 1) := by decide +kernel
theorem dX2_init_86 : decode cX2_init 86 = .ok (.bipush 16, 2) := by decide +kernel
theorem dX2_init_88 : decode cX2_init 88 = .ok (.newarray .int, 2) := by decide +kernel
theorem dX2_init_90 : decode cX2_init 90 = .ok (.putfield 43, 3) := by decide +kernel
theorem dX2_init_93 : decode cX2_init 93 = .ok (.aload_n 0, 1) := by decide +kernel
theorem dX2_init_94 : decode cX2_init 94 = .ok (.bipush 16, 2) := by decide +kernel
theorem dX2_init_96 : decode cX2_init 96 = .ok (.newarray .int, 2) := by decide +kernel
theorem dX2_init_98 : decode cX2_init 98 = .ok (.putfield 46, 3) := by decide +kernel
theorem dX2_init_101 : decode cX2_init 101 = .ok (.return_, 1) := by decide +kernel
theorem dX2_begin_0 : decode cX2_begin 0 = .ok (.aload_n 0, 1) := by decide +kernel
theorem dX2_begin_1 : decode cX2_begin 1 = .ok (.iconst 0, 1) := by decide +kernel
theorem dX2_begin_2 : decode cX2_begin 2 = .ok (.putfield 53, 3) := by decide +kernel
theorem dX2_begin_5 : decode cX2_begin 5 = .ok (.aload_n 0, 1) := by decide +kernel
theorem dX2_begin_6 : decode cX2_begin 6 = .ok (.iconst 0, 1) := by decide +kernel
theorem dX2_begin_7 : decode cX2_begin 7 = .ok (.putfield 56, 3) := by decide +kernel
theorem dX2_begin_10 : decode cX2_begin 10 = .ok (.aload_n 0, 1) := by decide +kernel
theorem dX2_begin_11 : decode cX2_begin 11 = .ok (.iconst 0, 1) := by decide +kernel
theorem dX2_begin_12 : decode cX2_begin 12 = .ok (.putfield 49, 3) := by decide +kernel
theorem dX2_begin_15 : decode cX2_begin 15 = .ok (.return_, 1) := by decide +kernel
theorem dX2_lay_0 : decode cX2_lay 0 = .ok (.aload_n 0, 1) := by decide +kernel
theorem dX2_lay_1 : decode cX2_lay 1 = .ok (.getfield 28, 3) := by decide +kernel
theorem dX2_lay_4 : decode cX2_lay 4 = .ok (.aload_n 0, 1) := by decide +kernel
theorem dX2_lay_5 : decode cX2_lay 5 = .ok (.getfield 49, 3) := by decide +kernel
theorem dX2_lay_8 : decode cX2_lay 8 = .ok (.iload_n 1, 1) := by decide +kernel
theorem dX2_lay_9 : decode cX2_lay 9 = .ok (.iastore, 1) := by decide +kernel
theorem dX2_lay_10 : decode cX2_lay 10 = .ok (.aload_n 0, 1) := by decide +kernel
theorem dX2_lay_11 : decode cX2_lay 11 = .ok (.getfield 28, 3) := by decide +kernel
theorem dX2_lay_14 : decode cX2_lay 14 = .ok (.aload_n 0, 1) := by decide +kernel
theorem dX2_lay_15 : decode cX2_lay 15 = .ok (.getfield 49, 3) := by decide +kernel
theorem dX2_lay_18 : decode cX2_lay 18 = .ok (.iconst 1, 1) := by decide +kernel
theorem dX2_lay_19 : decode cX2_lay 19 = .ok (.iadd, 1) := by decide +kernel
theorem dX2_lay_20 : decode cX2_lay 20 = .ok (.iload_n 2, 1) := by decide +kernel
theorem dX2_lay_21 : decode cX2_lay 21 = .ok (.iastore, 1) := by decide +kernel
theorem dX2_lay_22 : decode cX2_lay 22 = .ok (.aload_n 0, 1) := by decide +kernel
theorem dX2_lay_23 : decode cX2_lay 23 = .ok (.dup, 1) := by decide +kernel
theorem dX2_lay_24 : decode cX2_lay 24 = .ok (.getfield 49, 3) := by decide +kernel
theorem dX2_lay_27 : decode cX2_lay 27 = .ok (.iconst 2, 1) := by decide +kernel
theorem dX2_lay_28 : decode cX2_lay 28 = .ok (.iadd, 1) := by decide +kernel
theorem dX2_lay_29 : decode cX2_lay 29 = .ok (.putfield 49, 3) := by decide +kernel
theorem dX2_lay_32 : decode cX2_lay 32 = .ok (.return_, 1) := by decide +kernel
theorem dX2_isAsk_0 : decode cX2_isAsk 0 = .ok (.aload_n 0, 1) := by decide +kernel
theorem dX2_isAsk_1 : decode cX2_isAsk 1 = .ok (.getfield 9, 3) := by decide +kernel
theorem dX2_isAsk_4 : decode cX2_isAsk 4 = .ok (.iload_n 1, 1) := by decide +kernel
theorem dX2_isAsk_5 : decode cX2_isAsk 5 = .ok (.iaload, 1) := by decide +kernel
theorem dX2_isAsk_6 : decode cX2_isAsk 6 = .ok (.ifCond .ne 7, 3) := by decide +kernel
theorem dX2_isAsk_9 : decode cX2_isAsk 9 = .ok (.iconst 1, 1) := by decide +kernel
theorem dX2_isAsk_10 : decode cX2_isAsk 10 = .ok (.goto 4, 3) := by decide +kernel
theorem dX2_isAsk_13 : decode cX2_isAsk 13 = .ok (.iconst 0, 1) := by decide +kernel
theorem dX2_isAsk_14 : decode cX2_isAsk 14 = .ok (.ireturn, 1) := by decide +kernel
theorem dX3_init_0 : decode cX3_init 0 = .ok (.aload_n 0, 1) := by decide +kernel
theorem dX3_init_1 : decode cX3_init 1 = .ok (.aload_n 1, 1) := by decide +kernel
theorem dX3_init_2 : decode cX3_init 2 = .ok (.putfield 3, 3) := by decide +kernel
theorem dX3_init_5 : decode cX3_init 5 = .ok (.aload_n 0, 1) := by decide +kernel
theorem dX3_init_6 : decode cX3_init 6 = .ok (.invokespecial 9, 3) := by decide +kernel
theorem dX3_init_9 : decode cX3_init 9 = .ok (.aload_n 0, 1) := by decide +kernel
theorem dX3_init_10 : decode cX3_init 10 = .ok (.bipush 56, 2) := by decide +kernel
theorem dX3_init_12 : decode cX3_init 12 = .ok (.newarray .int, 2) := by decide +kernel
theorem dX3_init_14 : decode cX3_init 14 = .ok (.putfield 15, 3) := by decide +kernel
theorem dX3_init_17 : decode cX3_init 17 = .ok (.aload_n 0, 1) := by decide +kernel
theorem dX3_init_18 : decode cX3_init 18 = .ok (.bipush 56, 2) := by decide +kernel
theorem dX3_init_20 : decode cX3_init 20 = .ok (.newarray .int, 2) := by decide +kernel
theorem dX3_init_22 : decode cX3_init 22 = .ok (.putfield 19, 3) := by decide +kernel
theorem dX3_init_25 : decode cX3_init 25 = .ok (.aload_n 0, 1) := by decide +kernel
theorem dX3_init_26 : decode cX3_init 26 = .ok (.bipush 56, 2) := by decide +kernel
theorem dX3_init_28 : decode cX3_init 28 = .ok (.newarray .long, 2) := by decide +kernel
theorem dX3_init_30 : decode cX3_init 30 = .ok (.putfield 22, 3) := by decide +kernel
theorem dX3_init_33 : decode cX3_init 33 = .ok (.aload_n 0, 1) := by decide +kernel
theorem dX3_init_34 : decode cX3_init 34 = .ok (.bipush 56, 2) := by decide +kernel
theorem dX3_init_36 : decode cX3_init 36 = .ok (.newarray .int, 2) := by decide +kernel
theorem dX3_init_38 : decode cX3_init 38 = .ok (.putfield 26, 3) := by decide +kernel
theorem dX3_init_41 : decode cX3_init 41 = .ok (.aload_n 0, 1) := by decide +kernel
theorem dX3_init_42 : decode cX3_init 42 = .ok (.bipush 21, 2) := by decide +kernel
theorem dX3_init_44 : decode cX3_init 44 = .ok (.newarray .long, 2) := by decide +kernel
theorem dX3_init_46 : decode cX3_init 46 = .ok (.putfield 29, 3) := by decide +kernel
theorem dX3_init_49 : decode cX3_init 49 = .ok (.aload_n 0, 1) := by decide +kernel
theorem dX3_init_50 : decode cX3_init 50 = .ok (.bipush 21, 2) := by decide +kernel
theorem dX3_init_52 : decode cX3_init 52 = .ok (.newarray .int, 2) := by decide +kernel
theorem dX3_init_54 : decode cX3_init 54 = .ok (.putfield 32, 3) := by decide +kernel
theorem dX3_init_57 : decode cX3_init 57 = .ok (.return_, 1) := by decide +kernel
theorem dX3_find_0 : decode cX3_find 0 = .ok (.aload_n 0, 1) := by decide +kernel
theorem dX3_find_1 : decode cX3_find 1 = .ok (.aload_n 1, 1) := by decide +kernel
theorem dX3_find_2 : decode cX3_find 2 = .ok (.putfield 39, 3) := by decide +kernel
theorem dX3_find_5 : decode cX3_find 5 = .ok (.aload_n 0, 1) := by decide +kernel
theorem dX3_find_6 : decode cX3_find 6 = .ok (.aload_n 2, 1) := by decide +kernel
theorem dX3_find_7 : decode cX3_find 7 = .ok (.putfield 52, 3) := by decide +kernel
theorem dX3_find_10 : decode cX3_find 10 = .ok (.aload_n 0, 1) := by decide +kernel
theorem dX3_find_11 : decode cX3_find 11 = .ok (.ldc 105, 2) := by decide +kernel
theorem dX3_find_13 : decode cX3_find 13 = .ok (.putfield 78, 3) := by decide +kernel
theorem dX3_find_16 : decode cX3_find 16 = .ok (.aload_n 0, 1) := by decide +kernel
theorem dX3_find_17 : decode cX3_find 17 = .ok (.iconst 0, 1) := by decide +kernel
theorem dX3_find_18 : decode cX3_find 18 = .ok (.putfield 89, 3) := by decide +kernel
theorem dX3_find_21 : decode cX3_find 21 = .ok (.aload_n 0, 1) := by decide +kernel
theorem dX3_find_22 : decode cX3_find 22 = .ok (.iconst 0, 1) := by decide +kernel
theorem dX3_find_23 : decode cX3_find 23 = .ok (.iconst 0, 1) := by decide +kernel
theorem dX3_find_24 : decode cX3_find 24 = .ok (.iconst 0, 1) := by decide +kernel
theorem dX3_find_25 : decode cX3_find 25 = .ok (.invokevirtual 99, 3) := by decide +kernel
theorem dX3_find_28 : decode cX3_find 28 = .ok (.aload_n 0, 1) := by decide +kernel
theorem dX3_find_29 : decode cX3_find 29 = .ok (.getfield 78, 3) := by decide +kernel
theorem dX3_find_32 : decode cX3_find 32 = .ok (.ldc 105, 2) := by decide +kernel
theorem dX3_find_34 : decode cX3_find 34 = .ok (.if_icmp .ge 7, 3) := by decide +kernel
theorem dX3_find_37 : decode cX3_find 37 = .ok (.iconst 1, 1) := by decide +kernel
theorem dX3_find_38 : decode cX3_find 38 = .ok (.goto 4, 3) := by decide +kernel
theorem dX3_find_41 : decode cX3_find 41 = .ok (.iconst 0, 1) := by decide +kernel
theorem dX3_find_42 : decode cX3_find 42 = .ok (.ireturn, 1) := by decide +kernel
theorem dX3_search_0 : decode cX3_search 0 = .ok (.iload_n 3, 1) := by decide +kernel
theorem dX3_search_1 : decode cX3_search 1 = .ok (.aload_n 0, 1) := by decide +kernel
theorem dX3_search_2 : decode cX3_search 2 = .ok (.getfield 78, 3) := by decide +kernel
theorem dX3_search_5 : decode cX3_search 5 = .ok (.if_icmp .le 4, 3) := by decide +kernel
theorem dX3_search_8 : decode cX3_search 8 = .ok (.return_, 1) := by decide +kernel
theorem dX3_search_9 : decode cX3_search 9 = .ok (.aload_n 0, 1) := by decide +kernel
theorem dX3_search_10 : decode cX3_search 10 = .ok (.iload_n 1, 1) := by decide +kernel
theorem dX3_search_11 : decode cX3_search 11 = .ok (.invokevirtual 81, 3) := by decide +kernel
theorem dX3_search_14 : decode cX3_search 14 = .ok (.aload_n 0, 1) := by decide +kernel
theorem dX3_search_15 : decode cX3_search 15 = .ok (.invokevirtual 85, 3) := by decide +kernel
theorem dX3_search_18 : decode cX3_search 18 = .ok (.istore 4, 2) := by decide +kernel
theorem dX3_search_20 : decode cX3_search 20 = .ok (.iload 4, 2) := by decide +kernel
theorem dX3_search_22 : decode cX3_search 22 = .ok (.iconst (-1), 1) := by decide +kernel
theorem dX3_search_23 : decode cX3_search 23 = .ok (.if_icmp .ne 30, 3) := by decide +kernel
theorem dX3_search_26 : decode cX3_search 26 = .ok (.iload_n 3, 1) := by decide +kernel
theorem dX3_search_27 : decode cX3_search 27 = .ok (.aload_n 0, 1) := by decide +kernel
theorem dX3_search_28 : decode cX3_search 28 = .ok (.getfield 78, 3) := by decide +kernel
theorem dX3_search_31 : decode cX3_search 31 = .ok (.if_icmp .lt 11, 3) := by decide +kernel
theorem dX3_search_34 : decode cX3_search 34 = .ok (.iload_n 1, 1) := by decide +kernel
theorem dX3_search_35 : decode cX3_search 35 = .ok (.aload_n 0, 1) := by decide +kernel
theorem dX3_search_36 : decode cX3_search 36 = .ok (.getfield 89, 3) := by decide +kernel
theorem dX3_search_39 : decode cX3_search 39 = .ok (.if_icmp .ge 13, 3) := by decide +kernel
theorem dX3_search_42 : decode cX3_search 42 = .ok (.aload_n 0, 1) := by decide +kernel
theorem dX3_search_43 : decode cX3_search 43 = .ok (.iload_n 3, 1) := by decide +kernel
theorem dX3_search_44 : decode cX3_search 44 = .ok (.putfield 78, 3) := by decide +kernel
theorem dX3_search_47 : decode cX3_search 47 = .ok (.aload_n 0, 1) := by decide +kernel
theorem dX3_search_48 : decode cX3_search 48 = .ok (.iload_n 1, 1) := by decide +kernel
theorem dX3_search_49 : decode cX3_search 49 = .ok (.putfield 89, 3) := by decide +kernel
theorem dX3_search_52 : decode cX3_search 52 = .ok (.return_, 1) := by decide +kernel
theorem dX3_search_53 : decode cX3_search 53 = .ok (.aload_n 0, 1) := by decide +kernel
theorem dX3_search_54 : decode cX3_search 54 = .ok (.iload 4, 2) := by decide +kernel
theorem dX3_search_56 : decode cX3_search 56 = .ok (.invokevirtual 92, 3) := by decide +kernel
theorem dX3_search_59 : decode cX3_search 59 = .ok (.iload_n 2, 1) := by decide +kernel
theorem dX3_search_60 : decode cX3_search 60 = .ok (.iconst (-1), 1) := by decide +kernel
theorem dX3_search_61 : decode cX3_search 61 = .ok (.ixor, 1) := by decide +kernel
theorem dX3_search_62 : decode cX3_search 62 = .ok (.iand, 1) := by decide +kernel
theorem dX3_search_63 : decode cX3_search 63 = .ok (.istore 5, 2) := by decide +kernel
theorem dX3_search_65 : decode cX3_search 65 = .ok (.iload_n 2, 1) := by decide +kernel
theorem dX3_search_66 : decode cX3_search 66 = .ok (.istore 6, 2) := by decide +kernel
theorem dX3_search_68 : decode cX3_search 68 = .ok (.iconst 0, 1) := by decide +kernel
theorem dX3_search_69 : decode cX3_search 69 = .ok (.istore 7, 2) := by decide +kernel
theorem dX3_search_71 : decode cX3_search 71 = .ok (.iload 7, 2) := by decide +kernel
theorem dX3_search_73 : decode cX3_search 73 = .ok (.aload_n 0, 1) := by decide +kernel
theorem dX3_search_74 : decode cX3_search 74 = .ok (.getfield 39, 3) := by decide +kernel
theorem dX3_search_77 : decode cX3_search 77 = .ok (.getfield 43, 3) := by decide +kernel
theorem dX3_search_80 : decode cX3_search 80 = .ok (.if_icmp .ge 55, 3) := by decide +kernel
theorem dX3_search_83 : decode cX3_search 83 = .ok (.iload 5, 2) := by decide +kernel
theorem dX3_search_85 : decode cX3_search 85 = .ok (.iload 7, 2) := by decide +kernel
theorem dX3_search_87 : decode cX3_search 87 = .ok (.ishr, 1) := by decide +kernel
theorem dX3_search_88 : decode cX3_search 88 = .ok (.iconst 1, 1) := by decide +kernel
theorem dX3_search_89 : decode cX3_search 89 = .ok (.iand, 1) := by decide +kernel
theorem dX3_search_90 : decode cX3_search 90 = .ok (.ifCond .ne 6, 3) := by decide +kernel
theorem dX3_search_93 : decode cX3_search 93 = .ok (.goto 36, 3) := by decide +kernel
theorem dX3_search_96 : decode cX3_search 96 = .ok (.aload_n 0, 1) := by decide +kernel
theorem dX3_search_97 : decode cX3_search 97 = .ok (.iload_n 1, 1) := by decide +kernel
theorem dX3_search_98 : decode cX3_search 98 = .ok (.iconst 1, 1) := by decide +kernel
theorem dX3_search_99 : decode cX3_search 99 = .ok (.iload 7, 2) := by decide +kernel
theorem dX3_search_101 : decode cX3_search 101 = .ok (.ishl, 1) := by decide +kernel
theorem dX3_search_102 : decode cX3_search 102 = .ok (.ior, 1) := by decide +kernel
theorem dX3_search_103 : decode cX3_search 103 = .ok (.iload 6, 2) := by decide +kernel
theorem dX3_search_105 : decode cX3_search 105 = .ok (.iload_n 3, 1) := by decide +kernel
theorem dX3_search_106 : decode cX3_search 106 = .ok (.aload_n 0, 1) := by decide +kernel
theorem dX3_search_107 : decode cX3_search 107 = .ok (.getfield 39, 3) := by decide +kernel
theorem dX3_search_110 : decode cX3_search 110 = .ok (.getfield 96, 3) := by decide +kernel
theorem dX3_search_113 : decode cX3_search 113 = .ok (.iload 7, 2) := by decide +kernel
theorem dX3_search_115 : decode cX3_search 115 = .ok (.iaload, 1) := by decide +kernel
theorem dX3_search_116 : decode cX3_search 116 = .ok (.iadd, 1) := by decide +kernel
theorem dX3_search_117 : decode cX3_search 117 = .ok (.invokevirtual 99, 3) := by decide +kernel
theorem dX3_search_120 : decode cX3_search 120 = .ok (.iload 6, 2) := by decide +kernel
theorem dX3_search_122 : decode cX3_search 122 = .ok (.iconst 1, 1) := by decide +kernel
theorem dX3_search_123 : decode cX3_search 123 = .ok (.iload 7, 2) := by decide +kernel
theorem dX3_search_125 : decode cX3_search 125 = .ok (.ishl, 1) := by decide +kernel
theorem dX3_search_126 : decode cX3_search 126 = .ok (.ior, 1) := by decide +kernel
theorem dX3_search_127 : decode cX3_search 127 = .ok (.istore 6, 2) := by decide +kernel
theorem dX3_search_129 : decode cX3_search 129 = .ok (.iinc 7 1, 3) := by decide +kernel
theorem dX3_search_132 : decode cX3_search 132 = .ok (.goto (-61), 3) := by decide +kernel
theorem dX3_search_135 : decode cX3_search 135 = .ok (.return_, 1) := by decide +kernel
theorem dX3_lay_0 : decode cX3_lay 0 = .ok (.aload_n 0, 1) := by decide +kernel
theorem dX3_lay_1 : decode cX3_lay 1 = .ok (.iconst 0, 1) := by decide +kernel
theorem dX3_lay_2 : decode cX3_lay 2 = .ok (.putfield 35, 3) := by decide +kernel
theorem dX3_lay_5 : decode cX3_lay 5 = .ok (.iconst 0, 1) := by decide +kernel
theorem dX3_lay_6 : decode cX3_lay 6 = .ok (.istore_n 2, 1) := by decide +kernel
theorem dX3_lay_7 : decode cX3_lay 7 = .ok (.iload_n 2, 1) := by decide +kernel
theorem dX3_lay_8 : decode cX3_lay 8 = .ok (.aload_n 0, 1) := by decide +kernel
theorem dX3_lay_9 : decode cX3_lay 9 = .ok (.getfield 39, 3) := by decide +kernel
theorem dX3_lay_12 : decode cX3_lay 12 = .ok (.getfield 43, 3) := by decide +kernel
theorem dX3_lay_15 : decode cX3_lay 15 = .ok (.if_icmp .ge 132, 3) := by decide +kernel
theorem dX3_lay_18 : decode cX3_lay 18 = .ok (.aload_n 0, 1) := by decide +kernel
theorem dX3_lay_19 : decode cX3_lay 19 = .ok (.getfield 39, 3) := by decide +kernel
theorem dX3_lay_22 : decode cX3_lay 22 = .ok (.iload_n 2, 1) := by decide +kernel
theorem dX3_lay_23 : decode cX3_lay 23 = .ok (.invokevirtual 48, 3) := by decide +kernel
theorem dX3_lay_26 : decode cX3_lay 26 = .ok (.ifCond .eq 115, 3) := by decide +kernel
theorem dX3_lay_29 : decode cX3_lay 29 = .ok (.aload_n 0, 1) := by decide +kernel
theorem dX3_lay_30 : decode cX3_lay 30 = .ok (.getfield 52, 3) := by decide +kernel
theorem dX3_lay_33 : decode cX3_lay 33 = .ok (.iload_n 2, 1) := by decide +kernel
theorem dX3_lay_34 : decode cX3_lay 34 = .ok (.iaload, 1) := by decide +kernel
theorem dX3_lay_35 : decode cX3_lay 35 = .ok (.ldc 55, 2) := by decide +kernel
theorem dX3_lay_37 : decode cX3_lay 37 = .ok (.if_icmp .ne 6, 3) := by decide +kernel
theorem dX3_lay_40 : decode cX3_lay 40 = .ok (.goto 101, 3) := by decide +kernel
theorem dX3_lay_43 : decode cX3_lay 43 = .ok (.iload_n 1, 1) := by decide +kernel
theorem dX3_lay_44 : decode cX3_lay 44 = .ok (.iload_n 2, 1) := by decide +kernel
theorem dX3_lay_45 : decode cX3_lay 45 = .ok (.ishr, 1) := by decide +kernel
theorem dX3_lay_46 : decode cX3_lay 46 = .ok (.iconst 1, 1) := by decide +kernel
theorem dX3_lay_47 : decode cX3_lay 47 = .ok (.iand, 1) := by decide +kernel
theorem dX3_lay_48 : decode cX3_lay 48 = .ok (.ifCond .eq 7, 3) := by decide +kernel
theorem dX3_lay_51 : decode cX3_lay 51 = .ok (.iconst 1, 1) := by decide +kernel
theorem dX3_lay_52 : decode cX3_lay 52 = .ok (.goto 4, 3) := by decide +kernel
theorem dX3_lay_55 : decode cX3_lay 55 = .ok (.iconst 0, 1) := by decide +kernel
theorem dX3_lay_56 : decode cX3_lay 56 = .ok (.istore_n 3, 1) := by decide +kernel
theorem dX3_lay_57 : decode cX3_lay 57 = .ok (.aload_n 0, 1) := by decide +kernel
theorem dX3_lay_58 : decode cX3_lay 58 = .ok (.iconst 0, 1) := by decide +kernel
theorem dX3_lay_59 : decode cX3_lay 59 = .ok (.iload_n 2, 1) := by decide +kernel
theorem dX3_lay_60 : decode cX3_lay 60 = .ok (.iconst 1, 1) := by decide +kernel
theorem dX3_lay_61 : decode cX3_lay 61 = .ok (.iadd, 1) := by decide +kernel
theorem dX3_lay_62 : decode cX3_lay 62 = .ok (.iload_n 3, 1) := by decide +kernel
theorem dX3_lay_63 : decode cX3_lay 63 = .ok (.ifCond .eq 16, 3) := by decide +kernel
theorem dX3_lay_66 : decode cX3_lay 66 = .ok (.aload_n 0, 1) := by decide +kernel
theorem dX3_lay_67 : decode cX3_lay 67 = .ok (.getfield 39, 3) := by decide +kernel
theorem dX3_lay_70 : decode cX3_lay 70 = .ok (.getfield 56, 3) := by decide +kernel
theorem dX3_lay_73 : decode cX3_lay 73 = .ok (.iload_n 2, 1) := by decide +kernel
theorem dX3_lay_74 : decode cX3_lay 74 = .ok (.iaload, 1) := by decide +kernel
theorem dX3_lay_75 : decode cX3_lay 75 = .ok (.i2l, 1) := by decide +kernel
theorem dX3_lay_76 : decode cX3_lay 76 = .ok (.goto 10, 3) := by decide +kernel
theorem dX3_lay_79 : decode cX3_lay 79 = .ok (.aload_n 0, 1) := by decide +kernel
theorem dX3_lay_80 : decode cX3_lay 80 = .ok (.getfield 52, 3) := by decide +kernel
theorem dX3_lay_83 : decode cX3_lay 83 = .ok (.iload_n 2, 1) := by decide +kernel
theorem dX3_lay_84 : decode cX3_lay 84 = .ok (.iaload, 1) := by decide +kernel
theorem dX3_lay_85 : decode cX3_lay 85 = .ok (.i2l, 1) := by decide +kernel
theorem dX3_lay_86 : decode cX3_lay 86 = .ok (.iload_n 3, 1) := by decide +kernel
theorem dX3_lay_87 : decode cX3_lay 87 = .ok (.ifCond .eq 7, 3) := by decide +kernel
theorem dX3_lay_90 : decode cX3_lay 90 = .ok (.iconst (-1), 1) := by decide +kernel
theorem dX3_lay_91 : decode cX3_lay 91 = .ok (.goto 4, 3) := by decide +kernel
theorem dX3_lay_94 : decode cX3_lay 94 = .ok (.iload_n 2, 1) := by decide +kernel
theorem dX3_lay_95 : decode cX3_lay 95 = .ok (.invokevirtual 59, 3) := by decide +kernel
theorem dX3_lay_98 : decode cX3_lay 98 = .ok (.aload_n 0, 1) := by decide +kernel
theorem dX3_lay_99 : decode cX3_lay 99 = .ok (.iload_n 2, 1) := by decide +kernel
theorem dX3_lay_100 : decode cX3_lay 100 = .ok (.iconst 1, 1) := by decide +kernel
theorem dX3_lay_101 : decode cX3_lay 101 = .ok (.iadd, 1) := by decide +kernel
theorem dX3_lay_102 : decode cX3_lay 102 = .ok (.iconst 0, 1) := by decide +kernel
theorem dX3_lay_103 : decode cX3_lay 103 = .ok (.iload_n 3, 1) := by decide +kernel
theorem dX3_lay_104 : decode cX3_lay 104 = .ok (.ifCond .eq 17, 3) := by decide +kernel
theorem dX3_lay_107 : decode cX3_lay 107 = .ok (.aload_n 0, 1) := by decide +kernel
theorem dX3_lay_108 : decode cX3_lay 108 = .ok (.getfield 39, 3) := by decide +kernel
theorem dX3_lay_111 : decode cX3_lay 111 = .ok (.getfield 63, 3) := by decide +kernel
theorem dX3_lay_114 : decode cX3_lay 114 = .ok (.iload_n 2, 1) := by decide +kernel
theorem dX3_lay_115 : decode cX3_lay 115 = .ok (.iaload, 1) := by decide +kernel
theorem dX3_lay_116 : decode cX3_lay 116 = .ok (.ineg, 1) := by decide +kernel
theorem dX3_lay_117 : decode cX3_lay 117 = .ok (.i2l, 1) := by decide +kernel
theorem dX3_lay_118 : decode cX3_lay 118 = .ok (.goto 11, 3) := by decide +kernel
theorem dX3_lay_121 : decode cX3_lay 121 = .ok (.aload_n 0, 1) := by decide +kernel
theorem dX3_lay_122 : decode cX3_lay 122 = .ok (.getfield 52, 3) := by decide +kernel
theorem dX3_lay_125 : decode cX3_lay 125 = .ok (.iload_n 2, 1) := by decide +kernel
theorem dX3_lay_126 : decode cX3_lay 126 = .ok (.iaload, 1) := by decide +kernel
theorem dX3_lay_127 : decode cX3_lay 127 = .ok (.ineg, 1) := by decide +kernel
theorem dX3_lay_128 : decode cX3_lay 128 = .ok (.i2l, 1) := by decide +kernel
theorem dX3_lay_129 : decode cX3_lay 129 = .ok (.iload_n 3, 1) := by decide +kernel
theorem dX3_lay_130 : decode cX3_lay 130 = .ok (.ifCond .eq 7, 3) := by decide +kernel
theorem dX3_lay_133 : decode cX3_lay 133 = .ok (.iconst (-1), 1) := by decide +kernel
theorem dX3_lay_134 : decode cX3_lay 134 = .ok (.goto 4, 3) := by decide +kernel
theorem dX3_lay_137 : decode cX3_lay 137 = .ok (.iload_n 2, 1) := by decide +kernel
theorem dX3_lay_138 : decode cX3_lay 138 = .ok (.invokevirtual 59, 3) := by decide +kernel
theorem dX3_lay_141 : decode cX3_lay 141 = .ok (.iinc 2 1, 3) := by decide +kernel
theorem dX3_lay_144 : decode cX3_lay 144 = .ok (.goto (-137), 3) := by decide +kernel
theorem dX3_lay_147 : decode cX3_lay 147 = .ok (.iconst 0, 1) := by decide +kernel
theorem dX3_lay_148 : decode cX3_lay 148 = .ok (.istore_n 2, 1) := by decide +kernel
theorem dX3_lay_149 : decode cX3_lay 149 = .ok (.iload_n 2, 1) := by decide +kernel
theorem dX3_lay_150 : decode cX3_lay 150 = .ok (.aload_n 0, 1) := by decide +kernel
theorem dX3_lay_151 : decode cX3_lay 151 = .ok (.getfield 39, 3) := by decide +kernel
theorem dX3_lay_154 : decode cX3_lay 154 = .ok (.getfield 66, 3) := by decide +kernel
theorem dX3_lay_157 : decode cX3_lay 157 = .ok (.if_icmp .ge 89, 3) := by decide +kernel
theorem dX3_lay_160 : decode cX3_lay 160 = .ok (.aload_n 0, 1) := by decide +kernel
theorem dX3_lay_161 : decode cX3_lay 161 = .ok (.getfield 39, 3) := by decide +kernel
theorem dX3_lay_164 : decode cX3_lay 164 = .ok (.getfield 69, 3) := by decide +kernel
theorem dX3_lay_167 : decode cX3_lay 167 = .ok (.iload_n 2, 1) := by decide +kernel
theorem dX3_lay_168 : decode cX3_lay 168 = .ok (.iaload, 1) := by decide +kernel
theorem dX3_lay_169 : decode cX3_lay 169 = .ok (.istore_n 3, 1) := by decide +kernel
theorem dX3_lay_170 : decode cX3_lay 170 = .ok (.aload_n 0, 1) := by decide +kernel
theorem dX3_lay_171 : decode cX3_lay 171 = .ok (.getfield 39, 3) := by decide +kernel
theorem dX3_lay_174 : decode cX3_lay 174 = .ok (.getfield 72, 3) := by decide +kernel
theorem dX3_lay_177 : decode cX3_lay 177 = .ok (.iload_n 2, 1) := by decide +kernel
theorem dX3_lay_178 : decode cX3_lay 178 = .ok (.iaload, 1) := by decide +kernel
theorem dX3_lay_179 : decode cX3_lay 179 = .ok (.istore 4, 2) := by decide +kernel
theorem dX3_lay_181 : decode cX3_lay 181 = .ok (.iload_n 3, 1) := by decide +kernel
theorem dX3_lay_182 : decode cX3_lay 182 = .ok (.iconst (-1), 1) := by decide +kernel
theorem dX3_lay_183 : decode cX3_lay 183 = .ok (.if_icmp .eq 14, 3) := by decide +kernel
theorem dX3_lay_186 : decode cX3_lay 186 = .ok (.aload_n 0, 1) := by decide +kernel
theorem dX3_lay_187 : decode cX3_lay 187 = .ok (.getfield 52, 3) := by decide +kernel
theorem dX3_lay_190 : decode cX3_lay 190 = .ok (.iload_n 3, 1) := by decide +kernel
theorem dX3_lay_191 : decode cX3_lay 191 = .ok (.iaload, 1) := by decide +kernel
theorem dX3_lay_192 : decode cX3_lay 192 = .ok (.ldc 55, 2) := by decide +kernel
theorem dX3_lay_194 : decode cX3_lay 194 = .ok (.if_icmp .eq 46, 3) := by decide +kernel
theorem dX3_lay_197 : decode cX3_lay 197 = .ok (.iload 4, 2) := by decide +kernel
theorem dX3_lay_199 : decode cX3_lay 199 = .ok (.iconst (-1), 1) := by decide +kernel
theorem dX3_lay_200 : decode cX3_lay 200 = .ok (.if_icmp .eq 18, 3) := by decide +kernel
theorem dX3_lay_203 : decode cX3_lay 203 = .ok (.aload_n 0, 1) := by decide +kernel
theorem dX3_lay_204 : decode cX3_lay 204 = .ok (.getfield 52, 3) := by decide +kernel
theorem dX3_lay_207 : decode cX3_lay 207 = .ok (.iload 4, 2) := by decide +kernel
theorem dX3_lay_209 : decode cX3_lay 209 = .ok (.iaload, 1) := by decide +kernel
theorem dX3_lay_210 : decode cX3_lay 210 = .ok (.ldc 55, 2) := by decide +kernel
theorem dX3_lay_212 : decode cX3_lay 212 = .ok (.if_icmp .ne 6, 3) := by decide +kernel
theorem dX3_lay_215 : decode cX3_lay 215 = .ok (.goto 25, 3) := by decide +kernel
theorem dX3_lay_218 : decode cX3_lay 218 = .ok (.aload_n 0, 1) := by decide +kernel
theorem dX3_lay_219 : decode cX3_lay 219 = .ok (.iload 4, 2) := by decide +kernel
theorem dX3_lay_221 : decode cX3_lay 221 = .ok (.iconst 1, 1) := by decide +kernel
theorem dX3_lay_222 : decode cX3_lay 222 = .ok (.iadd, 1) := by decide +kernel
theorem dX3_lay_223 : decode cX3_lay 223 = .ok (.iload_n 3, 1) := by decide +kernel
theorem dX3_lay_224 : decode cX3_lay 224 = .ok (.iconst 1, 1) := by decide +kernel
theorem dX3_lay_225 : decode cX3_lay 225 = .ok (.iadd, 1) := by decide +kernel
theorem dX3_lay_226 : decode cX3_lay 226 = .ok (.aload_n 0, 1) := by decide +kernel
theorem dX3_lay_227 : decode cX3_lay 227 = .ok (.getfield 39, 3) := by decide +kernel
theorem dX3_lay_230 : decode cX3_lay 230 = .ok (.getfield 75, 3) := by decide +kernel
theorem dX3_lay_233 : decode cX3_lay 233 = .ok (.iload_n 2, 1) := by decide +kernel
theorem dX3_lay_234 : decode cX3_lay 234 = .ok (.iaload, 1) := by decide +kernel
theorem dX3_lay_235 : decode cX3_lay 235 = .ok (.i2l, 1) := by decide +kernel
theorem dX3_lay_236 : decode cX3_lay 236 = .ok (.iconst (-1), 1) := by decide +kernel
theorem dX3_lay_237 : decode cX3_lay 237 = .ok (.invokevirtual 59, 3) := by decide +kernel
theorem dX3_lay_240 : decode cX3_lay 240 = .ok (.iinc 2 1, 3) := by decide +kernel
theorem dX3_lay_243 : decode cX3_lay 243 = .ok (.goto (-94), 3) := by decide +kernel
theorem dX3_lay_246 : decode cX3_lay 246 = .ok (.return_, 1) := by decide +kernel
theorem dX3_arc_0 : decode cX3_arc 0 = .ok (.aload_n 0, 1) := by decide +kernel
theorem dX3_arc_1 : decode cX3_arc 1 = .ok (.getfield 19, 3) := by decide +kernel
theorem dX3_arc_4 : decode cX3_arc 4 = .ok (.aload_n 0, 1) := by decide +kernel
theorem dX3_arc_5 : decode cX3_arc 5 = .ok (.getfield 35, 3) := by decide +kernel
theorem dX3_arc_8 : decode cX3_arc 8 = .ok (.iload_n 1, 1) := by decide +kernel
theorem dX3_arc_9 : decode cX3_arc 9 = .ok (.iastore, 1) := by decide +kernel
theorem dX3_arc_10 : decode cX3_arc 10 = .ok (.aload_n 0, 1) := by decide +kernel
theorem dX3_arc_11 : decode cX3_arc 11 = .ok (.getfield 15, 3) := by decide +kernel
theorem dX3_arc_14 : decode cX3_arc 14 = .ok (.aload_n 0, 1) := by decide +kernel
theorem dX3_arc_15 : decode cX3_arc 15 = .ok (.getfield 35, 3) := by decide +kernel
theorem dX3_arc_18 : decode cX3_arc 18 = .ok (.iload_n 2, 1) := by decide +kernel
theorem dX3_arc_19 : decode cX3_arc 19 = .ok (.iastore, 1) := by decide +kernel
theorem dX3_arc_20 : decode cX3_arc 20 = .ok (.aload_n 0, 1) := by decide +kernel
theorem dX3_arc_21 : decode cX3_arc 21 = .ok (.getfield 22, 3) := by decide +kernel
theorem dX3_arc_24 : decode cX3_arc 24 = .ok (.aload_n 0, 1) := by decide +kernel
theorem dX3_arc_25 : decode cX3_arc 25 = .ok (.getfield 35, 3) := by decide +kernel
theorem dX3_arc_28 : decode cX3_arc 28 = .ok (.lload_n 3, 1) := by decide +kernel
theorem dX3_arc_29 : decode cX3_arc 29 = .ok (.lastore, 1) := by decide +kernel
theorem dX3_arc_30 : decode cX3_arc 30 = .ok (.aload_n 0, 1) := by decide +kernel
theorem dX3_arc_31 : decode cX3_arc 31 = .ok (.getfield 26, 3) := by decide +kernel
theorem dX3_arc_34 : decode cX3_arc 34 = .ok (.aload_n 0, 1) := by decide +kernel
theorem dX3_arc_35 : decode cX3_arc 35 = .ok (.getfield 35, 3) := by decide +kernel
theorem dX3_arc_38 : decode cX3_arc 38 = .ok (.iload 5, 2) := by decide +kernel
theorem dX3_arc_40 : decode cX3_arc 40 = .ok (.iastore, 1) := by decide +kernel
theorem dX3_arc_41 : decode cX3_arc 41 = .ok (.aload_n 0, 1) := by decide +kernel
theorem dX3_arc_42 : decode cX3_arc 42 = .ok (.dup, 1) := by decide +kernel
theorem dX3_arc_43 : decode cX3_arc 43 = .ok (.getfield 35, 3) := by decide +kernel
theorem dX3_arc_46 : decode cX3_arc 46 = .ok (.iconst 1, 1) := by decide +kernel
theorem dX3_arc_47 : decode cX3_arc 47 = .ok (.iadd, 1) := by decide +kernel
theorem dX3_arc_48 : decode cX3_arc 48 = .ok (.putfield 35, 3) := by decide +kernel
theorem dX3_arc_51 : decode cX3_arc 51 = .ok (.return_, 1) := by decide +kernel
theorem dX3_settle_0 : decode cX3_settle 0 = .ok (.iconst 0, 1) := by decide +kernel
theorem dX3_settle_1 : decode cX3_settle 1 = .ok (.istore_n 1, 1) := by decide +kernel
theorem dX3_settle_2 : decode cX3_settle 2 = .ok (.iload_n 1, 1) := by decide +kernel
theorem dX3_settle_3 : decode cX3_settle 3 = .ok (.bipush 20, 2) := by decide +kernel
theorem dX3_settle_5 : decode cX3_settle 5 = .ok (.if_icmp .gt 23, 3) := by decide +kernel
theorem dX3_settle_8 : decode cX3_settle 8 = .ok (.aload_n 0, 1) := by decide +kernel
theorem dX3_settle_9 : decode cX3_settle 9 = .ok (.getfield 29, 3) := by decide +kernel
theorem dX3_settle_12 : decode cX3_settle 12 = .ok (.iload_n 1, 1) := by decide +kernel
theorem dX3_settle_13 : decode cX3_settle 13 = .ok (.lconst 0, 1) := by decide +kernel
theorem dX3_settle_14 : decode cX3_settle 14 = .ok (.lastore, 1) := by decide +kernel
theorem dX3_settle_15 : decode cX3_settle 15 = .ok (.aload_n 0, 1) := by decide +kernel
theorem dX3_settle_16 : decode cX3_settle 16 = .ok (.getfield 32, 3) := by decide +kernel
theorem dX3_settle_19 : decode cX3_settle 19 = .ok (.iload_n 1, 1) := by decide +kernel
theorem dX3_settle_20 : decode cX3_settle 20 = .ok (.iconst (-1), 1) := by decide +kernel
theorem dX3_settle_21 : decode cX3_settle 21 = .ok (.iastore, 1) := by decide +kernel
theorem dX3_settle_22 : decode cX3_settle 22 = .ok (.iinc 1 1, 3) := by decide +kernel
theorem dX3_settle_25 : decode cX3_settle 25 = .ok (.goto (-23), 3) := by decide +kernel
theorem dX3_settle_28 : decode cX3_settle 28 = .ok (.iconst (-1), 1) := by decide +kernel
theorem dX3_settle_29 : decode cX3_settle 29 = .ok (.istore_n 1, 1) := by decide +kernel
theorem dX3_settle_30 : decode cX3_settle 30 = .ok (.iconst 0, 1) := by decide +kernel
theorem dX3_settle_31 : decode cX3_settle 31 = .ok (.istore_n 2, 1) := by decide +kernel
theorem dX3_settle_32 : decode cX3_settle 32 = .ok (.iload_n 2, 1) := by decide +kernel
theorem dX3_settle_33 : decode cX3_settle 33 = .ok (.aload_n 0, 1) := by decide +kernel
theorem dX3_settle_34 : decode cX3_settle 34 = .ok (.getfield 39, 3) := by decide +kernel
theorem dX3_settle_37 : decode cX3_settle 37 = .ok (.getfield 43, 3) := by decide +kernel
theorem dX3_settle_40 : decode cX3_settle 40 = .ok (.iconst 1, 1) := by decide +kernel
theorem dX3_settle_41 : decode cX3_settle 41 = .ok (.iadd, 1) := by decide +kernel
theorem dX3_settle_42 : decode cX3_settle 42 = .ok (.if_icmp .gt 118, 3) := by decide +kernel
theorem dX3_settle_45 : decode cX3_settle 45 = .ok (.iconst (-1), 1) := by decide +kernel
theorem dX3_settle_46 : decode cX3_settle 46 = .ok (.istore_n 1, 1) := by decide +kernel
theorem dX3_settle_47 : decode cX3_settle 47 = .ok (.iconst 0, 1) := by decide +kernel
theorem dX3_settle_48 : decode cX3_settle 48 = .ok (.istore_n 3, 1) := by decide +kernel
theorem dX3_settle_49 : decode cX3_settle 49 = .ok (.iload_n 3, 1) := by decide +kernel
theorem dX3_settle_50 : decode cX3_settle 50 = .ok (.aload_n 0, 1) := by decide +kernel
theorem dX3_settle_51 : decode cX3_settle 51 = .ok (.getfield 35, 3) := by decide +kernel
theorem dX3_settle_54 : decode cX3_settle 54 = .ok (.if_icmp .ge 93, 3) := by decide +kernel
theorem dX3_settle_57 : decode cX3_settle 57 = .ok (.aload_n 0, 1) := by decide +kernel
theorem dX3_settle_58 : decode cX3_settle 58 = .ok (.getfield 29, 3) := by decide +kernel
theorem dX3_settle_61 : decode cX3_settle 61 = .ok (.aload_n 0, 1) := by decide +kernel
theorem dX3_settle_62 : decode cX3_settle 62 = .ok (.getfield 19, 3) := by decide +kernel
theorem dX3_settle_65 : decode cX3_settle 65 = .ok (.iload_n 3, 1) := by decide +kernel
theorem dX3_settle_66 : decode cX3_settle 66 = .ok (.iaload, 1) := by decide +kernel
theorem dX3_settle_67 : decode cX3_settle 67 = .ok (.laload, 1) := by decide +kernel
theorem dX3_settle_68 : decode cX3_settle 68 = .ok (.aload_n 0, 1) := by decide +kernel
theorem dX3_settle_69 : decode cX3_settle 69 = .ok (.getfield 22, 3) := by decide +kernel
theorem dX3_settle_72 : decode cX3_settle 72 = .ok (.iload_n 3, 1) := by decide +kernel
theorem dX3_settle_73 : decode cX3_settle 73 = .ok (.laload, 1) := by decide +kernel
theorem dX3_settle_74 : decode cX3_settle 74 = .ok (.ladd, 1) := by decide +kernel
theorem dX3_settle_75 : decode cX3_settle 75 = .ok (.aload_n 0, 1) := by decide +kernel
theorem dX3_settle_76 : decode cX3_settle 76 = .ok (.getfield 29, 3) := by decide +kernel
theorem dX3_settle_79 : decode cX3_settle 79 = .ok (.aload_n 0, 1) := by decide +kernel
theorem dX3_settle_80 : decode cX3_settle 80 = .ok (.getfield 15, 3) := by decide +kernel
theorem dX3_settle_83 : decode cX3_settle 83 = .ok (.iload_n 3, 1) := by decide +kernel
theorem dX3_settle_84 : decode cX3_settle 84 = .ok (.iaload, 1) := by decide +kernel
theorem dX3_settle_85 : decode cX3_settle 85 = .ok (.laload, 1) := by decide +kernel
theorem dX3_settle_86 : decode cX3_settle 86 = .ok (.lcmp, 1) := by decide +kernel
theorem dX3_settle_87 : decode cX3_settle 87 = .ok (.ifCond .lt 6, 3) := by decide +kernel
theorem dX3_settle_90 : decode cX3_settle 90 = .ok (.goto 51, 3) := by decide +kernel
theorem dX3_settle_93 : decode cX3_settle 93 = .ok (.aload_n 0, 1) := by decide +kernel
theorem dX3_settle_94 : decode cX3_settle 94 = .ok (.getfield 29, 3) := by decide +kernel
theorem dX3_settle_97 : decode cX3_settle 97 = .ok (.aload_n 0, 1) := by decide +kernel
theorem dX3_settle_98 : decode cX3_settle 98 = .ok (.getfield 15, 3) := by decide +kernel
theorem dX3_settle_101 : decode cX3_settle 101 = .ok (.iload_n 3, 1) := by decide +kernel
theorem dX3_settle_102 : decode cX3_settle 102 = .ok (.iaload, 1) := by decide +kernel
theorem dX3_settle_103 : decode cX3_settle 103 = .ok (.aload_n 0, 1) := by decide +kernel
theorem dX3_settle_104 : decode cX3_settle 104 = .ok (.getfield 29, 3) := by decide +kernel
theorem dX3_settle_107 : decode cX3_settle 107 = .ok (.aload_n 0, 1) := by decide +kernel
theorem dX3_settle_108 : decode cX3_settle 108 = .ok (.getfield 19, 3) := by decide +kernel
theorem dX3_settle_111 : decode cX3_settle 111 = .ok (.iload_n 3, 1) := by decide +kernel
theorem dX3_settle_112 : decode cX3_settle 112 = .ok (.iaload, 1) := by decide +kernel
theorem dX3_settle_113 : decode cX3_settle 113 = .ok (.laload, 1) := by decide +kernel
theorem dX3_settle_114 : decode cX3_settle 114 = .ok (.aload_n 0, 1) := by decide +kernel
theorem dX3_settle_115 : decode cX3_settle 115 = .ok (.getfield 22, 3) := by decide +kernel
theorem dX3_settle_118 : decode cX3_settle 118 = .ok (.iload_n 3, 1) := by decide +kernel
theorem dX3_settle_119 : decode cX3_settle 119 = .ok (.laload, 1) := by decide +kernel
theorem dX3_settle_120 : decode cX3_settle 120 = .ok (.ladd, 1) := by decide +kernel
theorem dX3_settle_121 : decode cX3_settle 121 = .ok (.lastore, 1) := by decide +kernel
theorem dX3_settle_122 : decode cX3_settle 122 = .ok (.aload_n 0, 1) := by decide +kernel
theorem dX3_settle_123 : decode cX3_settle 123 = .ok (.getfield 32, 3) := by decide +kernel
theorem dX3_settle_126 : decode cX3_settle 126 = .ok (.aload_n 0, 1) := by decide +kernel
theorem dX3_settle_127 : decode cX3_settle 127 = .ok (.getfield 15, 3) := by decide +kernel
theorem dX3_settle_130 : decode cX3_settle 130 = .ok (.iload_n 3, 1) := by decide +kernel
theorem dX3_settle_131 : decode cX3_settle 131 = .ok (.iaload, 1) := by decide +kernel
theorem dX3_settle_132 : decode cX3_settle 132 = .ok (.iload_n 3, 1) := by decide +kernel
theorem dX3_settle_133 : decode cX3_settle 133 = .ok (.iastore, 1) := by decide +kernel
theorem dX3_settle_134 : decode cX3_settle 134 = .ok (.aload_n 0, 1) := by decide +kernel
theorem dX3_settle_135 : decode cX3_settle 135 = .ok (.getfield 15, 3) := by decide +kernel
theorem dX3_settle_138 : decode cX3_settle 138 = .ok (.iload_n 3, 1) := by decide +kernel
theorem dX3_settle_139 : decode cX3_settle 139 = .ok (.iaload, 1) := by decide +kernel
theorem dX3_settle_140 : decode cX3_settle 140 = .ok (.istore_n 1, 1) := by decide +kernel
theorem dX3_settle_141 : decode cX3_settle 141 = .ok (.iinc 3 1, 3) := by decide +kernel
theorem dX3_settle_144 : decode cX3_settle 144 = .ok (.goto (-95), 3) := by decide +kernel
theorem dX3_settle_147 : decode cX3_settle 147 = .ok (.iload_n 1, 1) := by decide +kernel
theorem dX3_settle_148 : decode cX3_settle 148 = .ok (.iconst (-1), 1) := by decide +kernel
theorem dX3_settle_149 : decode cX3_settle 149 = .ok (.if_icmp .ne 5, 3) := by decide +kernel
theorem dX3_settle_152 : decode cX3_settle 152 = .ok (.iconst (-1), 1) := by decide +kernel
theorem dX3_settle_153 : decode cX3_settle 153 = .ok (.ireturn, 1) := by decide +kernel
theorem dX3_settle_154 : decode cX3_settle 154 = .ok (.iinc 2 1, 3) := by decide +kernel
theorem dX3_settle_157 : decode cX3_settle 157 = .ok (.goto (-125), 3) := by decide +kernel
theorem dX3_settle_160 : decode cX3_settle 160 = .ok (.iconst 0, 1) := by decide +kernel
theorem dX3_settle_161 : decode cX3_settle 161 = .ok (.istore_n 2, 1) := by decide +kernel
theorem dX3_settle_162 : decode cX3_settle 162 = .ok (.iload_n 2, 1) := by decide +kernel
theorem dX3_settle_163 : decode cX3_settle 163 = .ok (.aload_n 0, 1) := by decide +kernel
theorem dX3_settle_164 : decode cX3_settle 164 = .ok (.getfield 39, 3) := by decide +kernel
theorem dX3_settle_167 : decode cX3_settle 167 = .ok (.getfield 43, 3) := by decide +kernel
theorem dX3_settle_170 : decode cX3_settle 170 = .ok (.if_icmp .gt 21, 3) := by decide +kernel
theorem dX3_settle_173 : decode cX3_settle 173 = .ok (.aload_n 0, 1) := by decide +kernel
theorem dX3_settle_174 : decode cX3_settle 174 = .ok (.getfield 19, 3) := by decide +kernel
theorem dX3_settle_177 : decode cX3_settle 177 = .ok (.aload_n 0, 1) := by decide +kernel
theorem dX3_settle_178 : decode cX3_settle 178 = .ok (.getfield 32, 3) := by decide +kernel
theorem dX3_settle_181 : decode cX3_settle 181 = .ok (.iload_n 1, 1) := by decide +kernel
theorem dX3_settle_182 : decode cX3_settle 182 = .ok (.iaload, 1) := by decide +kernel
theorem dX3_settle_183 : decode cX3_settle 183 = .ok (.iaload, 1) := by decide +kernel
theorem dX3_settle_184 : decode cX3_settle 184 = .ok (.istore_n 1, 1) := by decide +kernel
theorem dX3_settle_185 : decode cX3_settle 185 = .ok (.iinc 2 1, 3) := by decide +kernel
theorem dX3_settle_188 : decode cX3_settle 188 = .ok (.goto (-26), 3) := by decide +kernel
theorem dX3_settle_191 : decode cX3_settle 191 = .ok (.iload_n 1, 1) := by decide +kernel
theorem dX3_settle_192 : decode cX3_settle 192 = .ok (.ireturn, 1) := by decide +kernel
theorem dX3_ring_0 : decode cX3_ring 0 = .ok (.iconst 0, 1) := by decide +kernel
theorem dX3_ring_1 : decode cX3_ring 1 = .ok (.istore_n 2, 1) := by decide +kernel
theorem dX3_ring_2 : decode cX3_ring 2 = .ok (.iload_n 1, 1) := by decide +kernel
theorem dX3_ring_3 : decode cX3_ring 3 = .ok (.istore_n 3, 1) := by decide +kernel
theorem dX3_ring_4 : decode cX3_ring 4 = .ok (.aload_n 0, 1) := by decide +kernel
theorem dX3_ring_5 : decode cX3_ring 5 = .ok (.getfield 32, 3) := by decide +kernel
theorem dX3_ring_8 : decode cX3_ring 8 = .ok (.iload_n 3, 1) := by decide +kernel
theorem dX3_ring_9 : decode cX3_ring 9 = .ok (.iaload, 1) := by decide +kernel
theorem dX3_ring_10 : decode cX3_ring 10 = .ok (.istore 4, 2) := by decide +kernel
theorem dX3_ring_12 : decode cX3_ring 12 = .ok (.aload_n 0, 1) := by decide +kernel
theorem dX3_ring_13 : decode cX3_ring 13 = .ok (.getfield 26, 3) := by decide +kernel
theorem dX3_ring_16 : decode cX3_ring 16 = .ok (.iload 4, 2) := by decide +kernel
theorem dX3_ring_18 : decode cX3_ring 18 = .ok (.iaload, 1) := by decide +kernel
theorem dX3_ring_19 : decode cX3_ring 19 = .ok (.iconst (-1), 1) := by decide +kernel
theorem dX3_ring_20 : decode cX3_ring 20 = .ok (.if_icmp .eq 15, 3) := by decide +kernel
theorem dX3_ring_23 : decode cX3_ring 23 = .ok (.iload_n 2, 1) := by decide +kernel
theorem dX3_ring_24 : decode cX3_ring 24 = .ok (.iconst 1, 1) := by decide +kernel
theorem dX3_ring_25 : decode cX3_ring 25 = .ok (.aload_n 0, 1) := by decide +kernel
theorem dX3_ring_26 : decode cX3_ring 26 = .ok (.getfield 26, 3) := by decide +kernel
theorem dX3_ring_29 : decode cX3_ring 29 = .ok (.iload 4, 2) := by decide +kernel
theorem dX3_ring_31 : decode cX3_ring 31 = .ok (.iaload, 1) := by decide +kernel
theorem dX3_ring_32 : decode cX3_ring 32 = .ok (.ishl, 1) := by decide +kernel
theorem dX3_ring_33 : decode cX3_ring 33 = .ok (.ior, 1) := by decide +kernel
theorem dX3_ring_34 : decode cX3_ring 34 = .ok (.istore_n 2, 1) := by decide +kernel
theorem dX3_ring_35 : decode cX3_ring 35 = .ok (.aload_n 0, 1) := by decide +kernel
theorem dX3_ring_36 : decode cX3_ring 36 = .ok (.getfield 19, 3) := by decide +kernel
theorem dX3_ring_39 : decode cX3_ring 39 = .ok (.iload 4, 2) := by decide +kernel
theorem dX3_ring_41 : decode cX3_ring 41 = .ok (.iaload, 1) := by decide +kernel
theorem dX3_ring_42 : decode cX3_ring 42 = .ok (.istore_n 3, 1) := by decide +kernel
theorem dX3_ring_43 : decode cX3_ring 43 = .ok (.iload_n 3, 1) := by decide +kernel
theorem dX3_ring_44 : decode cX3_ring 44 = .ok (.iload_n 1, 1) := by decide +kernel
theorem dX3_ring_45 : decode cX3_ring 45 = .ok (.if_icmp .ne (-41), 3) := by decide +kernel
theorem dX3_ring_48 : decode cX3_ring 48 = .ok (.iload_n 2, 1) := by decide +kernel
theorem dX3_ring_49 : decode cX3_ring 49 = .ok (.ireturn, 1) := by decide +kernel
theorem dX3_greatest_0 : decode cX3_greatest 0 = .ok (.aload_n 0, 1) := by decide +kernel
theorem dX3_greatest_1 : decode cX3_greatest 1 = .ok (.iload_n 1, 1) := by decide +kernel
theorem dX3_greatest_2 : decode cX3_greatest 2 = .ok (.invokevirtual 81, 3) := by decide +kernel
theorem dX3_greatest_5 : decode cX3_greatest 5 = .ok (.iconst 0, 1) := by decide +kernel
theorem dX3_greatest_6 : decode cX3_greatest 6 = .ok (.istore_n 3, 1) := by decide +kernel
theorem dX3_greatest_7 : decode cX3_greatest 7 = .ok (.iload_n 3, 1) := by decide +kernel
theorem dX3_greatest_8 : decode cX3_greatest 8 = .ok (.bipush 20, 2) := by decide +kernel
theorem dX3_greatest_10 : decode cX3_greatest 10 = .ok (.if_icmp .gt 26, 3) := by decide +kernel
theorem dX3_greatest_13 : decode cX3_greatest 13 = .ok (.aload_n 0, 1) := by decide +kernel
theorem dX3_greatest_14 : decode cX3_greatest 14 = .ok (.getfield 29, 3) := by decide +kernel
theorem dX3_greatest_17 : decode cX3_greatest 17 = .ok (.iload_n 3, 1) := by decide +kernel
theorem dX3_greatest_18 : decode cX3_greatest 18 = .ok (.iload_n 3, 1) := by decide +kernel
theorem dX3_greatest_19 : decode cX3_greatest 19 = .ok (.ifCond .ne 7, 3) := by decide +kernel
theorem dX3_greatest_22 : decode cX3_greatest 22 = .ok (.lconst 0, 1) := by decide +kernel
theorem dX3_greatest_23 : decode cX3_greatest 23 = .ok (.goto 6, 3) := by decide +kernel
theorem dX3_greatest_26 : decode cX3_greatest 26 = .ok (.ldc2_w 108, 3) := by decide +kernel
theorem dX3_greatest_29 : decode cX3_greatest 29 = .ok (.lastore, 1) := by decide +kernel
theorem dX3_greatest_30 : decode cX3_greatest 30 = .ok (.iinc 3 1, 3) := by decide +kernel
theorem dX3_greatest_33 : decode cX3_greatest 33 = .ok (.goto (-26), 3) := by decide +kernel
theorem dX3_greatest_36 : decode cX3_greatest 36 = .ok (.iconst 0, 1) := by decide +kernel
theorem dX3_greatest_37 : decode cX3_greatest 37 = .ok (.istore_n 3, 1) := by decide +kernel
theorem dX3_greatest_38 : decode cX3_greatest 38 = .ok (.iload_n 3, 1) := by decide +kernel
theorem dX3_greatest_39 : decode cX3_greatest 39 = .ok (.aload_n 0, 1) := by decide +kernel
theorem dX3_greatest_40 : decode cX3_greatest 40 = .ok (.getfield 39, 3) := by decide +kernel
theorem dX3_greatest_43 : decode cX3_greatest 43 = .ok (.getfield 43, 3) := by decide +kernel
theorem dX3_greatest_46 : decode cX3_greatest 46 = .ok (.if_icmp .gt 74, 3) := by decide +kernel
theorem dX3_greatest_49 : decode cX3_greatest 49 = .ok (.iconst 0, 1) := by decide +kernel
theorem dX3_greatest_50 : decode cX3_greatest 50 = .ok (.istore 4, 2) := by decide +kernel
theorem dX3_greatest_52 : decode cX3_greatest 52 = .ok (.iload 4, 2) := by decide +kernel
theorem dX3_greatest_54 : decode cX3_greatest 54 = .ok (.aload_n 0, 1) := by decide +kernel
theorem dX3_greatest_55 : decode cX3_greatest 55 = .ok (.getfield 35, 3) := by decide +kernel
theorem dX3_greatest_58 : decode cX3_greatest 58 = .ok (.if_icmp .ge 56, 3) := by decide +kernel
theorem dX3_greatest_61 : decode cX3_greatest 61 = .ok (.aload_n 0, 1) := by decide +kernel
theorem dX3_greatest_62 : decode cX3_greatest 62 = .ok (.getfield 29, 3) := by decide +kernel
theorem dX3_greatest_65 : decode cX3_greatest 65 = .ok (.aload_n 0, 1) := by decide +kernel
theorem dX3_greatest_66 : decode cX3_greatest 66 = .ok (.getfield 15, 3) := by decide +kernel
theorem dX3_greatest_69 : decode cX3_greatest 69 = .ok (.iload 4, 2) := by decide +kernel
theorem dX3_greatest_71 : decode cX3_greatest 71 = .ok (.iaload, 1) := by decide +kernel
theorem dX3_greatest_72 : decode cX3_greatest 72 = .ok (.aload_n 0, 1) := by decide +kernel
theorem dX3_greatest_73 : decode cX3_greatest 73 = .ok (.getfield 29, 3) := by decide +kernel
theorem dX3_greatest_76 : decode cX3_greatest 76 = .ok (.aload_n 0, 1) := by decide +kernel
theorem dX3_greatest_77 : decode cX3_greatest 77 = .ok (.getfield 15, 3) := by decide +kernel
theorem dX3_greatest_80 : decode cX3_greatest 80 = .ok (.iload 4, 2) := by decide +kernel
theorem dX3_greatest_82 : decode cX3_greatest 82 = .ok (.iaload, 1) := by decide +kernel
theorem dX3_greatest_83 : decode cX3_greatest 83 = .ok (.laload, 1) := by decide +kernel
theorem dX3_greatest_84 : decode cX3_greatest 84 = .ok (.aload_n 0, 1) := by decide +kernel
theorem dX3_greatest_85 : decode cX3_greatest 85 = .ok (.getfield 29, 3) := by decide +kernel
theorem dX3_greatest_88 : decode cX3_greatest 88 = .ok (.aload_n 0, 1) := by decide +kernel
theorem dX3_greatest_89 : decode cX3_greatest 89 = .ok (.getfield 19, 3) := by decide +kernel
theorem dX3_greatest_92 : decode cX3_greatest 92 = .ok (.iload 4, 2) := by decide +kernel
theorem dX3_greatest_94 : decode cX3_greatest 94 = .ok (.iaload, 1) := by decide +kernel
theorem dX3_greatest_95 : decode cX3_greatest 95 = .ok (.laload, 1) := by decide +kernel
theorem dX3_greatest_96 : decode cX3_greatest 96 = .ok (.aload_n 0, 1) := by decide +kernel
theorem dX3_greatest_97 : decode cX3_greatest 97 = .ok (.getfield 22, 3) := by decide +kernel
theorem dX3_greatest_100 : decode cX3_greatest 100 = .ok (.iload 4, 2) := by decide +kernel
theorem dX3_greatest_102 : decode cX3_greatest 102 = .ok (.laload, 1) := by decide +kernel
theorem dX3_greatest_103 : decode cX3_greatest 103 = .ok (.ladd, 1) := by decide +kernel
theorem dX3_greatest_104 : decode cX3_greatest 104 = .ok (.invokestatic 110, 3) := by decide +kernel
theorem dX3_greatest_107 : decode cX3_greatest 107 = .ok (.lastore, 1) := by decide +kernel
theorem dX3_greatest_108 : decode cX3_greatest 108 = .ok (.iinc 4 1, 3) := by decide +kernel
theorem dX3_greatest_111 : decode cX3_greatest 111 = .ok (.goto (-59), 3) := by decide +kernel
theorem dX3_greatest_114 : decode cX3_greatest 114 = .ok (.iinc 3 1, 3) := by decide +kernel
theorem dX3_greatest_117 : decode cX3_greatest 117 = .ok (.goto (-79), 3) := by decide +kernel
theorem dX3_greatest_120 : decode cX3_greatest 120 = .ok (.iconst 0, 1) := by decide +kernel
theorem dX3_greatest_121 : decode cX3_greatest 121 = .ok (.istore_n 3, 1) := by decide +kernel
theorem dX3_greatest_122 : decode cX3_greatest 122 = .ok (.iload_n 3, 1) := by decide +kernel
theorem dX3_greatest_123 : decode cX3_greatest 123 = .ok (.aload_n 0, 1) := by decide +kernel
theorem dX3_greatest_124 : decode cX3_greatest 124 = .ok (.getfield 39, 3) := by decide +kernel
theorem dX3_greatest_127 : decode cX3_greatest 127 = .ok (.getfield 43, 3) := by decide +kernel
theorem dX3_greatest_130 : decode cX3_greatest 130 = .ok (.if_icmp .ge 29, 3) := by decide +kernel
theorem dX3_greatest_133 : decode cX3_greatest 133 = .ok (.iload_n 1, 1) := by decide +kernel
theorem dX3_greatest_134 : decode cX3_greatest 134 = .ok (.iload_n 3, 1) := by decide +kernel
theorem dX3_greatest_135 : decode cX3_greatest 135 = .ok (.ishr, 1) := by decide +kernel
theorem dX3_greatest_136 : decode cX3_greatest 136 = .ok (.iconst 1, 1) := by decide +kernel
theorem dX3_greatest_137 : decode cX3_greatest 137 = .ok (.iand, 1) := by decide +kernel
theorem dX3_greatest_138 : decode cX3_greatest 138 = .ok (.ifCond .eq 15, 3) := by decide +kernel
theorem dX3_greatest_141 : decode cX3_greatest 141 = .ok (.aload_n 2, 1) := by decide +kernel
theorem dX3_greatest_142 : decode cX3_greatest 142 = .ok (.iload_n 3, 1) := by decide +kernel
theorem dX3_greatest_143 : decode cX3_greatest 143 = .ok (.aload_n 0, 1) := by decide +kernel
theorem dX3_greatest_144 : decode cX3_greatest 144 = .ok (.getfield 29, 3) := by decide +kernel
theorem dX3_greatest_147 : decode cX3_greatest 147 = .ok (.iload_n 3, 1) := by decide +kernel
theorem dX3_greatest_148 : decode cX3_greatest 148 = .ok (.iconst 1, 1) := by decide +kernel
theorem dX3_greatest_149 : decode cX3_greatest 149 = .ok (.iadd, 1) := by decide +kernel
theorem dX3_greatest_150 : decode cX3_greatest 150 = .ok (.laload, 1) := by decide +kernel
theorem dX3_greatest_151 : decode cX3_greatest 151 = .ok (.l2i, 1) := by decide +kernel
theorem dX3_greatest_152 : decode cX3_greatest 152 = .ok (.iastore, 1) := by decide +kernel
theorem dX3_greatest_153 : decode cX3_greatest 153 = .ok (.iinc 3 1, 3) := by decide +kernel
theorem dX3_greatest_156 : decode cX3_greatest 156 = .ok (.goto (-34), 3) := by decide +kernel
theorem dX3_greatest_159 : decode cX3_greatest 159 = .ok (.return_, 1) := by decide +kernel
theorem dX4_init_0 : decode cX4_init 0 = .ok (.aload_n 0, 1) := by decide +kernel
theorem dX4_init_1 : decode cX4_init 1 = .ok (.aload_n 1, 1) := by decide +kernel
theorem dX4_init_2 : decode cX4_init 2 = .ok (.putfield 5, 3) := by decide +kernel
theorem dX4_init_5 : decode cX4_init 5 = .ok (.aload_n 0, 1) := by decide +kernel
theorem dX4_init_6 : decode cX4_init 6 = .ok (.invokespecial 11, 3) := by decide +kernel
theorem dX4_init_9 : decode cX4_init 9 = .ok (.aload_n 0, 1) := by decide +kernel
theorem dX4_init_10 : decode cX4_init 10 = .ok (.sipush 144, 3) := by decide +kernel
theorem dX4_init_13 : decode cX4_init 13 = .ok (.newarray .int, 2) := by decide +kernel
theorem dX4_init_15 : decode cX4_init 15 = .ok (.putfield 17, 3) := by decide +kernel
theorem dX4_init_18 : decode cX4_init 18 = .ok (.aload_n 0, 1) := by decide +kernel
theorem dX4_init_19 : decode cX4_init 19 = .ok (.bipush 12, 2) := by decide +kernel
theorem dX4_init_21 : decode cX4_init 21 = .ok (.newarray .int, 2) := by decide +kernel
theorem dX4_init_23 : decode cX4_init 23 = .ok (.putfield 21, 3) := by decide +kernel
theorem dX4_init_26 : decode cX4_init 26 = .ok (.aload_n 0, 1) := by decide +kernel
theorem dX4_init_27 : decode cX4_init 27 = .ok (.bipush 12, 2) := by decide +kernel
theorem dX4_init_29 : decode cX4_init 29 = .ok (.newarray .int, 2) := by decide +kernel
theorem dX4_init_31 : decode cX4_init 31 = .ok (.putfield 24, 3) := by decide +kernel
theorem dX4_init_34 : decode cX4_init 34 = .ok (.return_, 1) := by decide +kernel
theorem dX4_clear_0 : decode cX4_clear 0 = .ok (.iconst 0, 1) := by decide +kernel
theorem dX4_clear_1 : decode cX4_clear 1 = .ok (.istore_n 1, 1) := by decide +kernel
theorem dX4_clear_2 : decode cX4_clear 2 = .ok (.iload_n 1, 1) := by decide +kernel
theorem dX4_clear_3 : decode cX4_clear 3 = .ok (.aload_n 0, 1) := by decide +kernel
theorem dX4_clear_4 : decode cX4_clear 4 = .ok (.getfield 17, 3) := by decide +kernel
theorem dX4_clear_7 : decode cX4_clear 7 = .ok (.arraylength, 1) := by decide +kernel
theorem dX4_clear_8 : decode cX4_clear 8 = .ok (.if_icmp .ge 16, 3) := by decide +kernel
theorem dX4_clear_11 : decode cX4_clear 11 = .ok (.aload_n 0, 1) := by decide +kernel
theorem dX4_clear_12 : decode cX4_clear 12 = .ok (.getfield 17, 3) := by decide +kernel
theorem dX4_clear_15 : decode cX4_clear 15 = .ok (.iload_n 1, 1) := by decide +kernel
theorem dX4_clear_16 : decode cX4_clear 16 = .ok (.iconst 0, 1) := by decide +kernel
theorem dX4_clear_17 : decode cX4_clear 17 = .ok (.iastore, 1) := by decide +kernel
theorem dX4_clear_18 : decode cX4_clear 18 = .ok (.iinc 1 1, 3) := by decide +kernel
theorem dX4_clear_21 : decode cX4_clear 21 = .ok (.goto (-19), 3) := by decide +kernel
theorem dX4_clear_24 : decode cX4_clear 24 = .ok (.return_, 1) := by decide +kernel
theorem dX4_let_0 : decode cX4_let 0 = .ok (.aload_n 0, 1) := by decide +kernel
theorem dX4_let_1 : decode cX4_let 1 = .ok (.getfield 17, 3) := by decide +kernel
theorem dX4_let_4 : decode cX4_let 4 = .ok (.bipush 12, 2) := by decide +kernel
theorem dX4_let_6 : decode cX4_let 6 = .ok (.iload_n 1, 1) := by decide +kernel
theorem dX4_let_7 : decode cX4_let 7 = .ok (.imul, 1) := by decide +kernel
theorem dX4_let_8 : decode cX4_let 8 = .ok (.iload_n 2, 1) := by decide +kernel
theorem dX4_let_9 : decode cX4_let 9 = .ok (.iadd, 1) := by decide +kernel
theorem dX4_let_10 : decode cX4_let 10 = .ok (.dup2, 1) := by decide +kernel
theorem dX4_let_11 : decode cX4_let 11 = .ok (.iaload, 1) := by decide +kernel
theorem dX4_let_12 : decode cX4_let 12 = .ok (.iload_n 3, 1) := by decide +kernel
theorem dX4_let_13 : decode cX4_let 13 = .ok (.iadd, 1) := by decide +kernel
theorem dX4_let_14 : decode cX4_let 14 = .ok (.iastore, 1) := by decide +kernel
theorem dX4_let_15 : decode cX4_let 15 = .ok (.return_, 1) := by decide +kernel
theorem dX4_go_0 : decode cX4_go 0 = .ok (.iconst 0, 1) := by decide +kernel
theorem dX4_go_1 : decode cX4_go 1 = .ok (.istore 4, 2) := by decide +kernel
theorem dX4_go_3 : decode cX4_go 3 = .ok (.iload 4, 2) := by decide +kernel
theorem dX4_go_5 : decode cX4_go 5 = .ok (.iload_n 3, 1) := by decide +kernel
theorem dX4_go_6 : decode cX4_go 6 = .ok (.if_icmp .ge 141, 3) := by decide +kernel
theorem dX4_go_9 : decode cX4_go 9 = .ok (.aload_n 0, 1) := by decide +kernel
theorem dX4_go_10 : decode cX4_go 10 = .ok (.iload_n 1, 1) := by decide +kernel
theorem dX4_go_11 : decode cX4_go 11 = .ok (.iload_n 2, 1) := by decide +kernel
theorem dX4_go_12 : decode cX4_go 12 = .ok (.invokevirtual 27, 3) := by decide +kernel
theorem dX4_go_15 : decode cX4_go 15 = .ok (.ifCond .eq 132, 3) := by decide +kernel
theorem dX4_go_18 : decode cX4_go 18 = .ok (.iload_n 3, 1) := by decide +kernel
theorem dX4_go_19 : decode cX4_go 19 = .ok (.iload 4, 2) := by decide +kernel
theorem dX4_go_21 : decode cX4_go 21 = .ok (.isub, 1) := by decide +kernel
theorem dX4_go_22 : decode cX4_go 22 = .ok (.istore 5, 2) := by decide +kernel
theorem dX4_go_24 : decode cX4_go 24 = .ok (.iload_n 2, 1) := by decide +kernel
theorem dX4_go_25 : decode cX4_go 25 = .ok (.istore 6, 2) := by decide +kernel
theorem dX4_go_27 : decode cX4_go 27 = .ok (.iload 6, 2) := by decide +kernel
theorem dX4_go_29 : decode cX4_go 29 = .ok (.iload_n 1, 1) := by decide +kernel
theorem dX4_go_30 : decode cX4_go 30 = .ok (.if_icmp .eq 40, 3) := by decide +kernel
theorem dX4_go_33 : decode cX4_go 33 = .ok (.iload 5, 2) := by decide +kernel
theorem dX4_go_35 : decode cX4_go 35 = .ok (.aload_n 0, 1) := by decide +kernel
theorem dX4_go_36 : decode cX4_go 36 = .ok (.getfield 17, 3) := by decide +kernel
theorem dX4_go_39 : decode cX4_go 39 = .ok (.bipush 12, 2) := by decide +kernel
theorem dX4_go_41 : decode cX4_go 41 = .ok (.aload_n 0, 1) := by decide +kernel
theorem dX4_go_42 : decode cX4_go 42 = .ok (.getfield 21, 3) := by decide +kernel
theorem dX4_go_45 : decode cX4_go 45 = .ok (.iload 6, 2) := by decide +kernel
theorem dX4_go_47 : decode cX4_go 47 = .ok (.iaload, 1) := by decide +kernel
theorem dX4_go_48 : decode cX4_go 48 = .ok (.imul, 1) := by decide +kernel
theorem dX4_go_49 : decode cX4_go 49 = .ok (.iload 6, 2) := by decide +kernel
theorem dX4_go_51 : decode cX4_go 51 = .ok (.iadd, 1) := by decide +kernel
theorem dX4_go_52 : decode cX4_go 52 = .ok (.iaload, 1) := by decide +kernel
theorem dX4_go_53 : decode cX4_go 53 = .ok (.invokestatic 31, 3) := by decide +kernel
theorem dX4_go_56 : decode cX4_go 56 = .ok (.istore 5, 2) := by decide +kernel
theorem dX4_go_58 : decode cX4_go 58 = .ok (.aload_n 0, 1) := by decide +kernel
theorem dX4_go_59 : decode cX4_go 59 = .ok (.getfield 21, 3) := by decide +kernel
theorem dX4_go_62 : decode cX4_go 62 = .ok (.iload 6, 2) := by decide +kernel
theorem dX4_go_64 : decode cX4_go 64 = .ok (.iaload, 1) := by decide +kernel
theorem dX4_go_65 : decode cX4_go 65 = .ok (.istore 6, 2) := by decide +kernel
theorem dX4_go_67 : decode cX4_go 67 = .ok (.goto (-40), 3) := by decide +kernel
theorem dX4_go_70 : decode cX4_go 70 = .ok (.iload_n 2, 1) := by decide +kernel
theorem dX4_go_71 : decode cX4_go 71 = .ok (.istore 6, 2) := by decide +kernel
theorem dX4_go_73 : decode cX4_go 73 = .ok (.iload 6, 2) := by decide +kernel
theorem dX4_go_75 : decode cX4_go 75 = .ok (.iload_n 1, 1) := by decide +kernel
theorem dX4_go_76 : decode cX4_go 76 = .ok (.if_icmp .eq 61, 3) := by decide +kernel
theorem dX4_go_79 : decode cX4_go 79 = .ok (.aload_n 0, 1) := by decide +kernel
theorem dX4_go_80 : decode cX4_go 80 = .ok (.getfield 17, 3) := by decide +kernel
theorem dX4_go_83 : decode cX4_go 83 = .ok (.bipush 12, 2) := by decide +kernel
theorem dX4_go_85 : decode cX4_go 85 = .ok (.aload_n 0, 1) := by decide +kernel
theorem dX4_go_86 : decode cX4_go 86 = .ok (.getfield 21, 3) := by decide +kernel
theorem dX4_go_89 : decode cX4_go 89 = .ok (.iload 6, 2) := by decide +kernel
theorem dX4_go_91 : decode cX4_go 91 = .ok (.iaload, 1) := by decide +kernel
theorem dX4_go_92 : decode cX4_go 92 = .ok (.imul, 1) := by decide +kernel
theorem dX4_go_93 : decode cX4_go 93 = .ok (.iload 6, 2) := by decide +kernel
theorem dX4_go_95 : decode cX4_go 95 = .ok (.iadd, 1) := by decide +kernel
theorem dX4_go_96 : decode cX4_go 96 = .ok (.dup2, 1) := by decide +kernel
theorem dX4_go_97 : decode cX4_go 97 = .ok (.iaload, 1) := by decide +kernel
theorem dX4_go_98 : decode cX4_go 98 = .ok (.iload 5, 2) := by decide +kernel
theorem dX4_go_100 : decode cX4_go 100 = .ok (.isub, 1) := by decide +kernel
theorem dX4_go_101 : decode cX4_go 101 = .ok (.iastore, 1) := by decide +kernel
theorem dX4_go_102 : decode cX4_go 102 = .ok (.aload_n 0, 1) := by decide +kernel
theorem dX4_go_103 : decode cX4_go 103 = .ok (.getfield 17, 3) := by decide +kernel
theorem dX4_go_106 : decode cX4_go 106 = .ok (.bipush 12, 2) := by decide +kernel
theorem dX4_go_108 : decode cX4_go 108 = .ok (.iload 6, 2) := by decide +kernel
theorem dX4_go_110 : decode cX4_go 110 = .ok (.imul, 1) := by decide +kernel
theorem dX4_go_111 : decode cX4_go 111 = .ok (.aload_n 0, 1) := by decide +kernel
theorem dX4_go_112 : decode cX4_go 112 = .ok (.getfield 21, 3) := by decide +kernel
theorem dX4_go_115 : decode cX4_go 115 = .ok (.iload 6, 2) := by decide +kernel
theorem dX4_go_117 : decode cX4_go 117 = .ok (.iaload, 1) := by decide +kernel
theorem dX4_go_118 : decode cX4_go 118 = .ok (.iadd, 1) := by decide +kernel
theorem dX4_go_119 : decode cX4_go 119 = .ok (.dup2, 1) := by decide +kernel
theorem dX4_go_120 : decode cX4_go 120 = .ok (.iaload, 1) := by decide +kernel
theorem dX4_go_121 : decode cX4_go 121 = .ok (.iload 5, 2) := by decide +kernel
theorem dX4_go_123 : decode cX4_go 123 = .ok (.iadd, 1) := by decide +kernel
theorem dX4_go_124 : decode cX4_go 124 = .ok (.iastore, 1) := by decide +kernel
theorem dX4_go_125 : decode cX4_go 125 = .ok (.aload_n 0, 1) := by decide +kernel
theorem dX4_go_126 : decode cX4_go 126 = .ok (.getfield 21, 3) := by decide +kernel
theorem dX4_go_129 : decode cX4_go 129 = .ok (.iload 6, 2) := by decide +kernel
theorem dX4_go_131 : decode cX4_go 131 = .ok (.iaload, 1) := by decide +kernel
theorem dX4_go_132 : decode cX4_go 132 = .ok (.istore 6, 2) := by decide +kernel
theorem dX4_go_134 : decode cX4_go 134 = .ok (.goto (-61), 3) := by decide +kernel
theorem dX4_go_137 : decode cX4_go 137 = .ok (.iload 4, 2) := by decide +kernel
theorem dX4_go_139 : decode cX4_go 139 = .ok (.iload 5, 2) := by decide +kernel
theorem dX4_go_141 : decode cX4_go 141 = .ok (.iadd, 1) := by decide +kernel
theorem dX4_go_142 : decode cX4_go 142 = .ok (.istore 4, 2) := by decide +kernel
theorem dX4_go_144 : decode cX4_go 144 = .ok (.goto (-141), 3) := by decide +kernel
theorem dX4_go_147 : decode cX4_go 147 = .ok (.iload 4, 2) := by decide +kernel
theorem dX4_go_149 : decode cX4_go 149 = .ok (.ireturn, 1) := by decide +kernel
theorem dX4_reach_0 : decode cX4_reach 0 = .ok (.iconst 0, 1) := by decide +kernel
theorem dX4_reach_1 : decode cX4_reach 1 = .ok (.istore_n 3, 1) := by decide +kernel
theorem dX4_reach_2 : decode cX4_reach 2 = .ok (.iload_n 3, 1) := by decide +kernel
theorem dX4_reach_3 : decode cX4_reach 3 = .ok (.bipush 12, 2) := by decide +kernel
theorem dX4_reach_5 : decode cX4_reach 5 = .ok (.if_icmp .ge 16, 3) := by decide +kernel
theorem dX4_reach_8 : decode cX4_reach 8 = .ok (.aload_n 0, 1) := by decide +kernel
theorem dX4_reach_9 : decode cX4_reach 9 = .ok (.getfield 21, 3) := by decide +kernel
theorem dX4_reach_12 : decode cX4_reach 12 = .ok (.iload_n 3, 1) := by decide +kernel
theorem dX4_reach_13 : decode cX4_reach 13 = .ok (.iconst (-1), 1) := by decide +kernel
theorem dX4_reach_14 : decode cX4_reach 14 = .ok (.iastore, 1) := by decide +kernel
theorem dX4_reach_15 : decode cX4_reach 15 = .ok (.iinc 3 1, 3) := by decide +kernel
theorem dX4_reach_18 : decode cX4_reach 18 = .ok (.goto (-16), 3) := by decide +kernel
theorem dX4_reach_21 : decode cX4_reach 21 = .ok (.aload_n 0, 1) := by decide +kernel
theorem dX4_reach_22 : decode cX4_reach 22 = .ok (.getfield 21, 3) := by decide +kernel
theorem dX4_reach_25 : decode cX4_reach 25 = .ok (.iload_n 1, 1) := by decide +kernel
theorem dX4_reach_26 : decode cX4_reach 26 = .ok (.iload_n 1, 1) := by decide +kernel
theorem dX4_reach_27 : decode cX4_reach 27 = .ok (.iastore, 1) := by decide +kernel
theorem dX4_reach_28 : decode cX4_reach 28 = .ok (.aload_n 0, 1) := by decide +kernel
theorem dX4_reach_29 : decode cX4_reach 29 = .ok (.getfield 24, 3) := by decide +kernel
theorem dX4_reach_32 : decode cX4_reach 32 = .ok (.iconst 0, 1) := by decide +kernel
theorem dX4_reach_33 : decode cX4_reach 33 = .ok (.iload_n 1, 1) := by decide +kernel
theorem dX4_reach_34 : decode cX4_reach 34 = .ok (.iastore, 1) := by decide +kernel
theorem dX4_reach_35 : decode cX4_reach 35 = .ok (.iconst 1, 1) := by decide +kernel
theorem dX4_reach_36 : decode cX4_reach 36 = .ok (.istore_n 3, 1) := by decide +kernel
theorem dX4_reach_37 : decode cX4_reach 37 = .ok (.iconst 0, 1) := by decide +kernel
theorem dX4_reach_38 : decode cX4_reach 38 = .ok (.istore 4, 2) := by decide +kernel
theorem dX4_reach_40 : decode cX4_reach 40 = .ok (.iload 4, 2) := by decide +kernel
theorem dX4_reach_42 : decode cX4_reach 42 = .ok (.iload_n 3, 1) := by decide +kernel
theorem dX4_reach_43 : decode cX4_reach 43 = .ok (.if_icmp .ge 94, 3) := by decide +kernel
theorem dX4_reach_46 : decode cX4_reach 46 = .ok (.aload_n 0, 1) := by decide +kernel
theorem dX4_reach_47 : decode cX4_reach 47 = .ok (.getfield 21, 3) := by decide +kernel
theorem dX4_reach_50 : decode cX4_reach 50 = .ok (.iload_n 2, 1) := by decide +kernel
theorem dX4_reach_51 : decode cX4_reach 51 = .ok (.iaload, 1) := by decide +kernel
theorem dX4_reach_52 : decode cX4_reach 52 = .ok (.iconst (-1), 1) := by decide +kernel
theorem dX4_reach_53 : decode cX4_reach 53 = .ok (.if_icmp .ne 84, 3) := by decide +kernel
theorem dX4_reach_56 : decode cX4_reach 56 = .ok (.aload_n 0, 1) := by decide +kernel
theorem dX4_reach_57 : decode cX4_reach 57 = .ok (.getfield 24, 3) := by decide +kernel
theorem dX4_reach_60 : decode cX4_reach 60 = .ok (.iload 4, 2) := by decide +kernel
theorem dX4_reach_62 : decode cX4_reach 62 = .ok (.iaload, 1) := by decide +kernel
theorem dX4_reach_63 : decode cX4_reach 63 = .ok (.istore 5, 2) := by decide +kernel
theorem dX4_reach_65 : decode cX4_reach 65 = .ok (.iconst 0, 1) := by decide +kernel
theorem dX4_reach_66 : decode cX4_reach 66 = .ok (.istore 6, 2) := by decide +kernel
theorem dX4_reach_68 : decode cX4_reach 68 = .ok (.iload 6, 2) := by decide +kernel
theorem dX4_reach_70 : decode cX4_reach 70 = .ok (.bipush 12, 2) := by decide +kernel
theorem dX4_reach_72 : decode cX4_reach 72 = .ok (.if_icmp .ge 59, 3) := by decide +kernel
theorem dX4_reach_75 : decode cX4_reach 75 = .ok (.aload_n 0, 1) := by decide +kernel
theorem dX4_reach_76 : decode cX4_reach 76 = .ok (.getfield 21, 3) := by decide +kernel
theorem dX4_reach_79 : decode cX4_reach 79 = .ok (.iload 6, 2) := by decide +kernel
theorem dX4_reach_81 : decode cX4_reach 81 = .ok (.iaload, 1) := by decide +kernel
theorem dX4_reach_82 : decode cX4_reach 82 = .ok (.iconst (-1), 1) := by decide +kernel
theorem dX4_reach_83 : decode cX4_reach 83 = .ok (.if_icmp .ne 42, 3) := by decide +kernel
theorem dX4_reach_86 : decode cX4_reach 86 = .ok (.aload_n 0, 1) := by decide +kernel
theorem dX4_reach_87 : decode cX4_reach 87 = .ok (.getfield 17, 3) := by decide +kernel
theorem dX4_reach_90 : decode cX4_reach 90 = .ok (.bipush 12, 2) := by decide +kernel
theorem dX4_reach_92 : decode cX4_reach 92 = .ok (.iload 5, 2) := by decide +kernel
theorem dX4_reach_94 : decode cX4_reach 94 = .ok (.imul, 1) := by decide +kernel
theorem dX4_reach_95 : decode cX4_reach 95 = .ok (.iload 6, 2) := by decide +kernel
theorem dX4_reach_97 : decode cX4_reach 97 = .ok (.iadd, 1) := by decide +kernel
theorem dX4_reach_98 : decode cX4_reach 98 = .ok (.iaload, 1) := by decide +kernel
theorem dX4_reach_99 : decode cX4_reach 99 = .ok (.ifCond .gt 6, 3) := by decide +kernel
theorem dX4_reach_102 : decode cX4_reach 102 = .ok (.goto 23, 3) := by decide +kernel
theorem dX4_reach_105 : decode cX4_reach 105 = .ok (.aload_n 0, 1) := by decide +kernel
theorem dX4_reach_106 : decode cX4_reach 106 = .ok (.getfield 21, 3) := by decide +kernel
theorem dX4_reach_109 : decode cX4_reach 109 = .ok (.iload 6, 2) := by decide +kernel
theorem dX4_reach_111 : decode cX4_reach 111 = .ok (.iload 5, 2) := by decide +kernel
theorem dX4_reach_113 : decode cX4_reach 113 = .ok (.iastore, 1) := by decide +kernel
theorem dX4_reach_114 : decode cX4_reach 114 = .ok (.aload_n 0, 1) := by decide +kernel
theorem dX4_reach_115 : decode cX4_reach 115 = .ok (.getfield 24, 3) := by decide +kernel
theorem dX4_reach_118 : decode cX4_reach 118 = .ok (.iload_n 3, 1) := by decide +kernel
theorem dX4_reach_119 : decode cX4_reach 119 = .ok (.iinc 3 1, 3) := by decide +kernel
theorem dX4_reach_122 : decode cX4_reach 122 = .ok (.iload 6, 2) := by decide +kernel
theorem dX4_reach_124 : decode cX4_reach 124 = .ok (.iastore, 1) := by decide +kernel
theorem dX4_reach_125 : decode cX4_reach 125 = .ok (.iinc 6 1, 3) := by decide +kernel
theorem dX4_reach_128 : decode cX4_reach 128 = .ok (.goto (-60), 3) := by decide +kernel
theorem dX4_reach_131 : decode cX4_reach 131 = .ok (.iinc 4 1, 3) := by decide +kernel
theorem dX4_reach_134 : decode cX4_reach 134 = .ok (.goto (-94), 3) := by decide +kernel
theorem dX4_reach_137 : decode cX4_reach 137 = .ok (.aload_n 0, 1) := by decide +kernel
theorem dX4_reach_138 : decode cX4_reach 138 = .ok (.getfield 21, 3) := by decide +kernel
theorem dX4_reach_141 : decode cX4_reach 141 = .ok (.iload_n 2, 1) := by decide +kernel
theorem dX4_reach_142 : decode cX4_reach 142 = .ok (.iaload, 1) := by decide +kernel
theorem dX4_reach_143 : decode cX4_reach 143 = .ok (.iconst (-1), 1) := by decide +kernel
theorem dX4_reach_144 : decode cX4_reach 144 = .ok (.if_icmp .eq 7, 3) := by decide +kernel
theorem dX4_reach_147 : decode cX4_reach 147 = .ok (.iconst 1, 1) := by decide +kernel
theorem dX4_reach_148 : decode cX4_reach 148 = .ok (.goto 4, 3) := by decide +kernel
theorem dX4_reach_151 : decode cX4_reach 151 = .ok (.iconst 0, 1) := by decide +kernel
theorem dX4_reach_152 : decode cX4_reach 152 = .ok (.ireturn, 1) := by decide +kernel
theorem dX5_init_0 : decode cX5_init 0 = .ok (.aload_n 0, 1) := by decide +kernel
theorem dX5_init_1 : decode cX5_init 1 = .ok (.invokespecial 1, 3) := by decide +kernel
theorem dX5_init_4 : decode cX5_init 4 = .ok (.aload_n 0, 1) := by decide +kernel
theorem dX5_init_5 : decode cX5_init 5 = .ok (.bipush 100, 2) := by decide +kernel
theorem dX5_init_7 : decode cX5_init 7 = .ok (.newarray .int, 2) := by decide +kernel
theorem dX5_init_9 : decode cX5_init 9 = .ok (.putfield 7, 3) := by decide +kernel
theorem dX5_init_12 : decode cX5_init 12 = .ok (.aload_n 0, 1) := by decide +kernel
theorem dX5_init_13 : decode cX5_init 13 = .ok (.bipush 100, 2) := by decide +kernel
theorem dX5_init_15 : decode cX5_init 15 = .ok (.newarray .int, 2) := by decide +kernel
theorem dX5_init_17 : decode cX5_init 17 = .ok (.putfield 13, 3) := by decide +kernel
theorem dX5_init_20 : decode cX5_init 20 = .ok (.aload_n 0, 1) := by decide +kernel
theorem dX5_init_21 : decode cX5_init 21 = .ok (.sipush 1500, 3) := by decide +kernel
theorem dX5_init_24 : decode cX5_init 24 = .ok (.newarray .int, 2) := by decide +kernel
theorem dX5_init_26 : decode cX5_init 26 = .ok (.putfield 16, 3) := by decide +kernel
theorem dX5_init_29 : decode cX5_init 29 = .ok (.aload_n 0, 1) := by decide +kernel
theorem dX5_init_30 : decode cX5_init 30 = .ok (.sipush 1500, 3) := by decide +kernel
theorem dX5_init_33 : decode cX5_init 33 = .ok (.newarray .int, 2) := by decide +kernel
theorem dX5_init_35 : decode cX5_init 35 = .ok (.putfield 19, 3) := by decide +kernel
theorem dX5_init_38 : decode cX5_init 38 = .ok (.aload_n 0, 1) := by decide +kernel
theorem dX5_init_39 : decode cX5_init 39 = .ok (.sipush 1500, 3) := by decide +kernel
theorem dX5_init_42 : decode cX5_init 42 = .ok (.newarray .int, 2) := by decide +kernel
theorem dX5_init_44 : decode cX5_init 44 = .ok (.putfield 22, 3) := by decide +kernel
theorem dX5_init_47 : decode cX5_init 47 = .ok (.aload_n 0, 1) := by decide +kernel
theorem dX5_init_48 : decode cX5_init 48 = .ok (.sipush 1500, 3) := by decide +kernel
theorem dX5_init_51 : decode cX5_init 51 = .ok (.newarray .int, 2) := by decide +kernel
theorem dX5_init_53 : decode cX5_init 53 = .ok (.putfield 25, 3) := by decide +kernel
theorem dX5_init_56 : decode cX5_init 56 = .ok (.aload_n 0, 1) := by decide +kernel
theorem dX5_init_57 : decode cX5_init 57 = .ok (.sipush 1500, 3) := by decide +kernel
theorem dX5_init_60 : decode cX5_init 60 = .ok (.newarray .int, 2) := by decide +kernel
theorem dX5_init_62 : decode cX5_init 62 = .ok (.putfield 28, 3) := by decide +kernel
theorem dX5_init_65 : decode cX5_init 65 = .ok (.aload_n 0, 1) := by decide +kernel
theorem dX5_init_66 : decode cX5_init 66 = .ok (.sipush 1200, 3) := by decide +kernel
theorem dX5_init_69 : decode cX5_init 69 = .ok (.newarray .int, 2) := by decide +kernel
theorem dX5_init_71 : decode cX5_init 71 = .ok (.putfield 31, 3) := by decide +kernel
theorem dX5_init_74 : decode cX5_init 74 = .ok (.aload_n 0, 1) := by decide +kernel
theorem dX5_init_75 : decode cX5_init 75 = .ok (.bipush 6, 2) := by decide +kernel
theorem dX5_init_77 : decode cX5_init 77 = .ok (.newarray .int, 2) := by decide +kernel
theorem dX5_init_79 : decode cX5_init 79 = .ok (.putfield 34, 3) := by decide +kernel
theorem dX5_init_82 : decode cX5_init 82 = .ok (.aload_n 0, 1) := by decide +kernel
theorem dX5_init_83 : decode cX5_init 83 = .ok (.bipush 120, 2) := by decide +kernel
theorem dX5_init_85 : decode cX5_init 85 = .ok (.newarray .int, 2) := by decide +kernel
theorem dX5_init_87 : decode cX5_init 87 = .ok (.putfield 37, 3) := by decide +kernel
theorem dX5_init_90 : decode cX5_init 90 = .ok (.aload_n 0, 1) := by decide +kernel
theorem dX5_init_91 : decode cX5_init 91 = .ok (.bipush 120, 2) := by decide +kernel
theorem dX5_init_93 : decode cX5_init 93 = .ok (.newarray .long, 2) := by decide +kernel
theorem dX5_init_95 : decode cX5_init 95 = .ok (.putfield 40, 3) := by decide +kernel
theorem dX5_init_98 : decode cX5_init 98 = .ok (.aload_n 0, 1) := by decide +kernel
theorem dX5_init_99 : decode cX5_init 99 = .ok (.bipush 120, 2) := by decide +kernel
theorem dX5_init_101 : decode cX5_init 101 = .ok (.newarray .int, 2) := by decide +kernel
theorem dX5_init_103 : decode cX5_init 103 = .ok (.putfield 44, 3) := by decide +kernel
theorem dX5_init_106 : decode cX5_init 106 = .ok (.aload_n 0, 1) := by decide +kernel
theorem dX5_init_107 : decode cX5_init 107 = .ok (.bipush 120, 2) := by decide +kernel
theorem dX5_init_109 : decode cX5_init 109 = .ok (.newarray .int, 2) := by decide +kernel
theorem dX5_init_111 : decode cX5_init 111 = .ok (.putfield 47, 3) := by decide +kernel
theorem dX5_init_114 : decode cX5_init 114 = .ok (.aload_n 0, 1) := by decide +kernel
theorem dX5_init_115 : decode cX5_init 115 = .ok (.bipush 120, 2) := by decide +kernel
theorem dX5_init_117 : decode cX5_init 117 = .ok (.newarray .int, 2) := by decide +kernel
theorem dX5_init_119 : decode cX5_init 119 = .ok (.putfield 50, 3) := by decide +kernel
theorem dX5_init_122 : decode cX5_init 122 = .ok (.aload_n 0, 1) := by decide +kernel
theorem dX5_init_123 : decode cX5_init 123 = .ok (.bipush 120, 2) := by decide +kernel
theorem dX5_init_125 : decode cX5_init 125 = .ok (.newarray .int, 2) := by decide +kernel
theorem dX5_init_127 : decode cX5_init 127 = .ok (.putfield 53, 3) := by decide +kernel
theorem dX5_init_130 : decode cX5_init 130 = .ok (.aload_n 0, 1) := by decide +kernel
theorem dX5_init_131 : decode cX5_init 131 = .ok (.bipush 120, 2) := by decide +kernel
theorem dX5_init_133 : decode cX5_init 133 = .ok (.newarray .int, 2) := by decide +kernel
theorem dX5_init_135 : decode cX5_init 135 = .ok (.putfield 56, 3) := by decide +kernel
theorem dX5_init_138 : decode cX5_init 138 = .ok (.aload_n 0, 1) := by decide +kernel
theorem dX5_init_139 : decode cX5_init 139 = .ok (.bipush 120, 2) := by decide +kernel
theorem dX5_init_141 : decode cX5_init 141 = .ok (.newarray .int, 2) := by decide +kernel
theorem dX5_init_143 : decode cX5_init 143 = .ok (.putfield 59, 3) := by decide +kernel
theorem dX5_init_146 : decode cX5_init 146 = .ok (.aload_n 0, 1) := by decide +kernel
theorem dX5_init_147 : decode cX5_init 147 = .ok (.bipush 120, 2) := by decide +kernel
theorem dX5_init_149 : decode cX5_init 149 = .ok (.newarray .int, 2) := by decide +kernel
theorem dX5_init_151 : decode cX5_init 151 = .ok (.putfield 62, 3) := by decide +kernel
theorem dX5_init_154 : decode cX5_init 154 = .ok (.aload_n 0, 1) := by decide +kernel
theorem dX5_init_155 : decode cX5_init 155 = .ok (.sipush 7200, 3) := by decide +kernel
theorem dX5_init_158 : decode cX5_init 158 = .ok (.newarray .int, 2) := by decide +kernel
theorem dX5_init_160 : decode cX5_init 160 = .ok (.putfield 65, 3) := by decide +kernel
theorem dX5_init_163 : decode cX5_init 163 = .ok (.aload_n 0, 1) := by decide +kernel
theorem dX5_init_164 : decode cX5_init 164 = .ok (.sipush 7200, 3) := by decide +kernel
theorem dX5_init_167 : decode cX5_init 167 = .ok (.newarray .int, 2) := by decide +kernel
theorem dX5_init_169 : decode cX5_init 169 = .ok (.putfield 68, 3) := by decide +kernel
theorem dX5_init_172 : decode cX5_init 172 = .ok (.aload_n 0, 1) := by decide +kernel
theorem dX5_init_173 : decode cX5_init 173 = .ok (.bipush 20, 2) := by decide +kernel
theorem dX5_init_175 : decode cX5_init 175 = .ok (.newarray .int, 2) := by decide +kernel
theorem dX5_init_177 : decode cX5_init 177 = .ok (.putfield 71, 3) := by decide +kernel
theorem dX5_init_180 : decode cX5_init 180 = .ok (.aload_n 0, 1) := by decide +kernel
theorem dX5_init_181 : decode cX5_init 181 = .ok (.bipush 6, 2) := by decide +kernel
theorem dX5_init_183 : decode cX5_init 183 = .ok (.newarray .int, 2) := by decide +kernel
theorem dX5_init_185 : decode cX5_init 185 = .ok (.putfield 74, 3) := by decide +kernel
theorem dX5_init_188 : decode cX5_init 188 = .ok (.aload_n 0, 1) := by decide +kernel
theorem dX5_init_189 : decode cX5_init 189 = .ok (.bipush 60, 2) := by decide +kernel
theorem dX5_init_191 : decode cX5_init 191 = .ok (.newarray .int, 2) := by decide +kernel
theorem dX5_init_193 : decode cX5_init 193 = .ok (.putfield 77, 3) := by decide +kernel
theorem dX5_init_196 : decode cX5_init 196 = .ok (.aload_n 0, 1) := by decide +kernel
theorem dX5_init_197 : decode cX5_init 197 = .ok (.bipush 60, 2) := by decide +kernel
theorem dX5_init_199 : decode cX5_init 199 = .ok (.newarray .int, 2) := by decide +kernel
theorem dX5_init_201 : decode cX5_init 201 = .ok (.putfield 80, 3) := by decide +kernel
theorem dX5_init_204 : decode cX5_init 204 = .ok (.aload_n 0, 1) := by decide +kernel
theorem dX5_init_205 : decode cX5_init 205 = .ok (.sipush 360, 3) := by decide +kernel
theorem dX5_init_208 : decode cX5_init 208 = .ok (.newarray .int, 2) := by decide +kernel
theorem dX5_init_210 : decode cX5_init 210 = .ok (.putfield 83, 3) := by decide +kernel
theorem dX5_init_213 : decode cX5_init 213 = .ok (.aload_n 0, 1) := by decide +kernel
theorem dX5_init_214 : decode cX5_init 214 = .ok (.bipush 60, 2) := by decide +kernel
theorem dX5_init_216 : decode cX5_init 216 = .ok (.newarray .boolean, 2) := by decide +kernel
theorem dX5_init_218 : decode cX5_init 218 = .ok (.putfield 86, 3) := by decide +kernel
theorem dX5_init_221 : decode cX5_init 221 = .ok (.aload_n 0, 1) := by decide +kernel
theorem dX5_init_222 : decode cX5_init 222 = .ok (.sipush 1200, 3) := by decide +kernel
theorem dX5_init_225 : decode cX5_init 225 = .ok (.newarray .boolean, 2) := by decide +kernel
theorem dX5_init_227 : decode cX5_init 227 = .ok (.putfield 90, 3) := by decide +kernel
theorem dX5_init_230 : decode cX5_init 230 = .ok (.aload_n 0, 1) := by decide +kernel
theorem dX5_init_231 : decode cX5_init 231 = .ok (.sipush 1200, 3) := by decide +kernel
theorem dX5_init_234 : decode cX5_init 234 = .ok (.newarray .int, 2) := by decide +kernel
theorem dX5_init_236 : decode cX5_init 236 = .ok (.putfield 93, 3) := by decide +kernel
theorem dX5_init_239 : decode cX5_init 239 = .ok (.aload_n 0, 1) := by decide +kernel
theorem dX5_init_240 : decode cX5_init 240 = .ok (.sipush 1200, 3) := by decide +kernel
theorem dX5_init_243 : decode cX5_init 243 = .ok (.newarray .boolean, 2) := by decide +kernel
theorem dX5_init_245 : decode cX5_init 245 = .ok (.putfield 96, 3) := by decide +kernel
theorem dX5_init_248 : decode cX5_init 248 = .ok (.aload_n 0, 1) := by decide +kernel
theorem dX5_init_249 : decode cX5_init 249 = .ok (.sipush 1200, 3) := by decide +kernel
theorem dX5_init_252 : decode cX5_init 252 = .ok (.newarray .int, 2) := by decide +kernel
theorem dX5_init_254 : decode cX5_init 254 = .ok (.putfield 99, 3) := by decide +kernel
theorem dX5_init_257 : decode cX5_init 257 = .ok (.aload_n 0, 1) := by decide +kernel
theorem dX5_init_258 : decode cX5_init 258 = .ok (.sipush 1200, 3) := by decide +kernel
theorem dX5_init_261 : decode cX5_init 261 = .ok (.newarray .boolean, 2) := by decide +kernel
theorem dX5_init_263 : decode cX5_init 263 = .ok (.putfield 102, 3) := by decide +kernel
theorem dX5_init_266 : decode cX5_init 266 = .ok (.aload_n 0, 1) := by decide +kernel
theorem dX5_init_267 : decode cX5_init 267 = .ok (.bipush 60, 2) := by decide +kernel
theorem dX5_init_269 : decode cX5_init 269 = .ok (.newarray .int, 2) := by decide +kernel
theorem dX5_init_271 : decode cX5_init 271 = .ok (.putfield 105, 3) := by decide +kernel
theorem dX5_init_274 : decode cX5_init 274 = .ok (.aload_n 0, 1) := by decide +kernel
theorem dX5_init_275 : decode cX5_init 275 = .ok (.bipush 60, 2) := by decide +kernel
theorem dX5_init_277 : decode cX5_init 277 = .ok (.newarray .int, 2) := by decide +kernel
theorem dX5_init_279 : decode cX5_init 279 = .ok (.putfield 108, 3) := by decide +kernel
theorem dX5_init_282 : decode cX5_init 282 = .ok (.aload_n 0, 1) := by decide +kernel
theorem dX5_init_283 : decode cX5_init 283 = .ok (.bipush 60, 2) := by decide +kernel
theorem dX5_init_285 : decode cX5_init 285 = .ok (.newarray .int, 2) := by decide +kernel
theorem dX5_init_287 : decode cX5_init 287 = .ok (.putfield 111, 3) := by decide +kernel
theorem dX5_init_290 : decode cX5_init 290 = .ok (.aload_n 0, 1) := by decide +kernel
theorem dX5_init_291 : decode cX5_init 291 = .ok (.sipush 1200, 3) := by decide +kernel
theorem dX5_init_294 : decode cX5_init 294 = .ok (.newarray .int, 2) := by decide +kernel
theorem dX5_init_296 : decode cX5_init 296 = .ok (.putfield 114, 3) := by decide +kernel
theorem dX5_init_299 : decode cX5_init 299 = .ok (.aload_n 0, 1) := by decide +kernel
theorem dX5_init_300 : decode cX5_init 300 = .ok (.sipush 1200, 3) := by decide +kernel
theorem dX5_init_303 : decode cX5_init 303 = .ok (.newarray .int, 2) := by decide +kernel
theorem dX5_init_305 : decode cX5_init 305 = .ok (.putfield 117, 3) := by decide +kernel
theorem dX5_init_308 : decode cX5_init 308 = .ok (.aload_n 0, 1) := by decide +kernel
theorem dX5_init_309 : decode cX5_init 309 = .ok (.bipush 6, 2) := by decide +kernel
theorem dX5_init_311 : decode cX5_init 311 = .ok (.newarray .int, 2) := by decide +kernel
theorem dX5_init_313 : decode cX5_init 313 = .ok (.putfield 120, 3) := by decide +kernel
theorem dX5_init_316 : decode cX5_init 316 = .ok (.aload_n 0, 1) := by decide +kernel
theorem dX5_init_317 : decode cX5_init 317 = .ok (.bipush 96, 2) := by decide +kernel
theorem dX5_init_319 : decode cX5_init 319 = .ok (.newarray .int, 2) := by decide +kernel
theorem dX5_init_321 : decode cX5_init 321 = .ok (.putfield 123, 3) := by decide +kernel
theorem dX5_init_324 : decode cX5_init 324 = .ok (.aload_n 0, 1) := by decide +kernel
theorem dX5_init_325 : decode cX5_init 325 = .ok (.bipush 96, 2) := by decide +kernel
theorem dX5_init_327 : decode cX5_init 327 = .ok (.newarray .int, 2) := by decide +kernel
theorem dX5_init_329 : decode cX5_init 329 = .ok (.putfield 126, 3) := by decide +kernel
theorem dX5_init_332 : decode cX5_init 332 = .ok (.aload_n 0, 1) := by decide +kernel
theorem dX5_init_333 : decode cX5_init 333 = .ok (.bipush 96, 2) := by decide +kernel
theorem dX5_init_335 : decode cX5_init 335 = .ok (.newarray .int, 2) := by decide +kernel
theorem dX5_init_337 : decode cX5_init 337 = .ok (.putfield 129, 3) := by decide +kernel
theorem dX5_init_340 : decode cX5_init 340 = .ok (.aload_n 0, 1) := by decide +kernel
theorem dX5_init_341 : decode cX5_init 341 = .ok (.bipush 20, 2) := by decide +kernel
theorem dX5_init_343 : decode cX5_init 343 = .ok (.newarray .int, 2) := by decide +kernel
theorem dX5_init_345 : decode cX5_init 345 = .ok (.putfield 132, 3) := by decide +kernel
theorem dX5_init_348 : decode cX5_init 348 = .ok (.aload_n 0, 1) := by decide +kernel
theorem dX5_init_349 : decode cX5_init 349 = .ok (.sipush 1200, 3) := by decide +kernel
theorem dX5_init_352 : decode cX5_init 352 = .ok (.newarray .int, 2) := by decide +kernel
theorem dX5_init_354 : decode cX5_init 354 = .ok (.putfield 135, 3) := by decide +kernel
theorem dX5_init_357 : decode cX5_init 357 = .ok (.aload_n 0, 1) := by decide +kernel
theorem dX5_init_358 : decode cX5_init 358 = .ok (.sipush 1200, 3) := by decide +kernel
theorem dX5_init_361 : decode cX5_init 361 = .ok (.newarray .int, 2) := by decide +kernel
theorem dX5_init_363 : decode cX5_init 363 = .ok (.putfield 138, 3) := by decide +kernel
theorem dX5_init_366 : decode cX5_init 366 = .ok (.aload_n 0, 1) := by decide +kernel
theorem dX5_init_367 : decode cX5_init 367 = .ok (.sipush 1200, 3) := by decide +kernel
theorem dX5_init_370 : decode cX5_init 370 = .ok (.newarray .boolean, 2) := by decide +kernel
theorem dX5_init_372 : decode cX5_init 372 = .ok (.putfield 141, 3) := by decide +kernel
theorem dX5_init_375 : decode cX5_init 375 = .ok (.aload_n 0, 1) := by decide +kernel
theorem dX5_init_376 : decode cX5_init 376 = .ok (.bipush 100, 2) := by decide +kernel
theorem dX5_init_378 : decode cX5_init 378 = .ok (.newarray .int, 2) := by decide +kernel
theorem dX5_init_380 : decode cX5_init 380 = .ok (.putfield 144, 3) := by decide +kernel
theorem dX5_init_383 : decode cX5_init 383 = .ok (.aload_n 0, 1) := by decide +kernel
theorem dX5_init_384 : decode cX5_init 384 = .ok (.bipush 12, 2) := by decide +kernel
theorem dX5_init_386 : decode cX5_init 386 = .ok (.newarray .int, 2) := by decide +kernel
theorem dX5_init_388 : decode cX5_init 388 = .ok (.putfield 147, 3) := by decide +kernel
theorem dX5_init_391 : decode cX5_init 391 = .ok (.aload_n 0, 1) := by decide +kernel
theorem dX5_init_392 : decode cX5_init 392 = .ok (.bipush 12, 2) := by decide +kernel
theorem dX5_init_394 : decode cX5_init 394 = .ok (.newarray .int, 2) := by decide +kernel
theorem dX5_init_396 : decode cX5_init 396 = .ok (.putfield 150, 3) := by decide +kernel
theorem dX5_init_399 : decode cX5_init 399 = .ok (.aload_n 0, 1) := by decide +kernel
theorem dX5_init_400 : decode cX5_init 400 = .ok (.sipush 144, 3) := by decide +kernel
theorem dX5_init_403 : decode cX5_init 403 = .ok (.newarray .int, 2) := by decide +kernel
theorem dX5_init_405 : decode cX5_init 405 = .ok (.putfield 153, 3) := by decide +kernel
theorem dX5_init_408 : decode cX5_init 408 = .ok (.aload_n 0, 1) := by decide +kernel
theorem dX5_init_409 : decode cX5_init 409 = .ok (.sipush 144, 3) := by decide +kernel
theorem dX5_init_412 : decode cX5_init 412 = .ok (.newarray .int, 2) := by decide +kernel
theorem dX5_init_414 : decode cX5_init 414 = .ok (.putfield 156, 3) := by decide +kernel
theorem dX5_init_417 : decode cX5_init 417 = .ok (.aload_n 0, 1) := by decide +kernel
theorem dX5_init_418 : decode cX5_init 418 = .ok (.sipush 144, 3) := by decide +kernel
theorem dX5_init_421 : decode cX5_init 421 = .ok (.newarray .int, 2) := by decide +kernel
theorem dX5_init_423 : decode cX5_init 423 = .ok (.putfield 159, 3) := by decide +kernel
theorem dX5_init_426 : decode cX5_init 426 = .ok (.aload_n 0, 1) := by decide +kernel
theorem dX5_init_427 : decode cX5_init 427 = .ok (.sipush 144, 3) := by decide +kernel
theorem dX5_init_430 : decode cX5_init 430 = .ok (.newarray .int, 2) := by decide +kernel
theorem dX5_init_432 : decode cX5_init 432 = .ok (.putfield 162, 3) := by decide +kernel
theorem dX5_init_435 : decode cX5_init 435 = .ok (.aload_n 0, 1) := by decide +kernel
theorem dX5_init_436 : decode cX5_init 436 = .ok (.bipush 12, 2) := by decide +kernel
theorem dX5_init_438 : decode cX5_init 438 = .ok (.newarray .boolean, 2) := by decide +kernel
theorem dX5_init_440 : decode cX5_init 440 = .ok (.putfield 165, 3) := by decide +kernel
theorem dX5_init_443 : decode cX5_init 443 = .ok (.aload_n 0, 1) := by decide +kernel
theorem dX5_init_444 : decode cX5_init 444 = .ok (.bipush 12, 2) := by decide +kernel
theorem dX5_init_446 : decode cX5_init 446 = .ok (.newarray .int, 2) := by decide +kernel
theorem dX5_init_448 : decode cX5_init 448 = .ok (.putfield 168, 3) := by decide +kernel
theorem dX5_init_451 : decode cX5_init 451 = .ok (.aload_n 0, 1) := by decide +kernel
theorem dX5_init_452 : decode cX5_init 452 = .ok (.bipush 12, 2) := by decide +kernel
theorem dX5_init_454 : decode cX5_init 454 = .ok (.newarray .int, 2) := by decide +kernel
theorem dX5_init_456 : decode cX5_init 456 = .ok (.putfield 171, 3) := by decide +kernel
theorem dX5_init_459 : decode cX5_init 459 = .ok (.aload_n 0, 1) := by decide +kernel
theorem dX5_init_460 : decode cX5_init 460 = .ok (.bipush 12, 2) := by decide +kernel
theorem dX5_init_462 : decode cX5_init 462 = .ok (.newarray .int, 2) := by decide +kernel
theorem dX5_init_464 : decode cX5_init 464 = .ok (.putfield 174, 3) := by decide +kernel
theorem dX5_init_467 : decode cX5_init 467 = .ok (.aload_n 0, 1) := by decide +kernel
theorem dX5_init_468 : decode cX5_init 468 = .ok (.bipush 12, 2) := by decide +kernel
theorem dX5_init_470 : decode cX5_init 470 = .ok (.newarray .int, 2) := by decide +kernel
theorem dX5_init_472 : decode cX5_init 472 = .ok (.putfield 177, 3) := by decide +kernel
theorem dX5_init_475 : decode cX5_init 475 = .ok (.aload_n 0, 1) := by decide +kernel
theorem dX5_init_476 : decode cX5_init 476 = .ok (.bipush 12, 2) := by decide +kernel
theorem dX5_init_478 : decode cX5_init 478 = .ok (.newarray .int, 2) := by decide +kernel
theorem dX5_init_480 : decode cX5_init 480 = .ok (.putfield 180, 3) := by decide +kernel
theorem dX5_init_483 : decode cX5_init 483 = .ok (.aload_n 0, 1) := by decide +kernel
theorem dX5_init_484 : decode cX5_init 484 = .ok (.bipush 12, 2) := by decide +kernel
theorem dX5_init_486 : decode cX5_init 486 = .ok (.newarray .int, 2) := by decide +kernel
theorem dX5_init_488 : decode cX5_init 488 = .ok (.putfield 183, 3) := by decide +kernel
theorem dX5_init_491 : decode cX5_init 491 = .ok (.aload_n 0, 1) := by decide +kernel
theorem dX5_init_492 : decode cX5_init 492 = .ok (.bipush 12, 2) := by decide +kernel
theorem dX5_init_494 : decode cX5_init 494 = .ok (.newarray .int, 2) := by decide +kernel
theorem dX5_init_496 : decode cX5_init 496 = .ok (.putfield 186, 3) := by decide +kernel
theorem dX5_init_499 : decode cX5_init 499 = .ok (.aload_n 0, 1) := by decide +kernel
theorem dX5_init_500 : decode cX5_init 500 = .ok (.bipush 12, 2) := by decide +kernel
theorem dX5_init_502 : decode cX5_init 502 = .ok (.newarray .int, 2) := by decide +kernel
theorem dX5_init_504 : decode cX5_init 504 = .ok (.putfield 189, 3) := by decide +kernel
theorem dX5_init_507 : decode cX5_init 507 = .ok (.aload_n 0, 1) := by decide +kernel
theorem dX5_init_508 : decode cX5_init 508 = .ok (.sipush 144, 3) := by decide +kernel
theorem dX5_init_511 : decode cX5_init 511 = .ok (.newarray .int, 2) := by decide +kernel
theorem dX5_init_513 : decode cX5_init 513 = .ok (.putfield 192, 3) := by decide +kernel
theorem dX5_init_516 : decode cX5_init 516 = .ok (.aload_n 0, 1) := by decide +kernel
theorem dX5_init_517 : decode cX5_init 517 = .ok (.sipush 3000, 3) := by decide +kernel
theorem dX5_init_520 : decode cX5_init 520 = .ok (.newarray .int, 2) := by decide +kernel
theorem dX5_init_522 : decode cX5_init 522 = .ok (.putfield 195, 3) := by decide +kernel
theorem dX5_init_525 : decode cX5_init 525 = .ok (.return_, 1) := by decide +kernel
theorem dX5_thrown_0 : decode cX5_thrown 0 = .ok (.aload_n 0, 1) := by decide +kernel
theorem dX5_thrown_1 : decode cX5_thrown 1 = .ok (.getfield 198, 3) := by decide +kernel
theorem dX5_thrown_4 : decode cX5_thrown 4 = .ok (.ireturn, 1) := by decide +kernel
theorem dX5_tick_0 : decode cX5_tick 0 = .ok (.aload_n 0, 1) := by decide +kernel
theorem dX5_tick_1 : decode cX5_tick 1 = .ok (.iconst 0, 1) := by decide +kernel
theorem dX5_tick_2 : decode cX5_tick 2 = .ok (.putfield 198, 3) := by decide +kernel
theorem dX5_tick_5 : decode cX5_tick 5 = .ok (.iload_n 1, 1) := by decide +kernel
theorem dX5_tick_6 : decode cX5_tick 6 = .ok (.i2l, 1) := by decide +kernel
theorem dX5_tick_7 : decode cX5_tick 7 = .ok (.lconst 0, 1) := by decide +kernel
theorem dX5_tick_8 : decode cX5_tick 8 = .ok (.ldc2_w 205, 3) := by decide +kernel
theorem dX5_tick_11 : decode cX5_tick 11 = .ok (.invokestatic 207, 3) := by decide +kernel
theorem dX5_tick_14 : decode cX5_tick 14 = .ok (.ifCond .eq 18, 3) := by decide +kernel
theorem dX5_tick_17 : decode cX5_tick 17 = .ok (.aload_n 0, 1) := by decide +kernel
theorem dX5_tick_18 : decode cX5_tick 18 = .ok (.getfield 202, 3) := by decide +kernel
theorem dX5_tick_21 : decode cX5_tick 21 = .ok (.i2l, 1) := by decide +kernel
theorem dX5_tick_22 : decode cX5_tick 22 = .ok (.iload_n 1, 1) := by decide +kernel
theorem dX5_tick_23 : decode cX5_tick 23 = .ok (.i2l, 1) := by decide +kernel
theorem dX5_tick_24 : decode cX5_tick 24 = .ok (.ladd, 1) := by decide +kernel
theorem dX5_tick_25 : decode cX5_tick 25 = .ok (.ldc2_w 211, 3) := by decide +kernel
theorem dX5_tick_28 : decode cX5_tick 28 = .ok (.lcmp, 1) := by decide +kernel
theorem dX5_tick_29 : decode cX5_tick 29 = .ok (.ifCond .le 9, 3) := by decide +kernel
theorem dX5_tick_32 : decode cX5_tick 32 = .ok (.aload_n 0, 1) := by decide +kernel
theorem dX5_tick_33 : decode cX5_tick 33 = .ok (.iconst 1, 1) := by decide +kernel
theorem dX5_tick_34 : decode cX5_tick 34 = .ok (.invokevirtual 213, 3) := by decide +kernel
theorem dX5_tick_37 : decode cX5_tick 37 = .ok (.ireturn, 1) := by decide +kernel
theorem dX5_tick_38 : decode cX5_tick 38 = .ok (.aload_n 0, 1) := by decide +kernel
theorem dX5_tick_39 : decode cX5_tick 39 = .ok (.dup, 1) := by decide +kernel
theorem dX5_tick_40 : decode cX5_tick 40 = .ok (.getfield 202, 3) := by decide +kernel
theorem dX5_tick_43 : decode cX5_tick 43 = .ok (.iload_n 1, 1) := by decide +kernel
theorem dX5_tick_44 : decode cX5_tick 44 = .ok (.iadd, 1) := by decide +kernel
theorem dX5_tick_45 : decode cX5_tick 45 = .ok (.putfield 202, 3) := by decide +kernel
theorem dX5_tick_48 : decode cX5_tick 48 = .ok (.aload_n 0, 1) := by decide +kernel
theorem dX5_tick_49 : decode cX5_tick 49 = .ok (.getfield 202, 3) := by decide +kernel
theorem dX5_tick_52 : decode cX5_tick 52 = .ok (.ireturn, 1) := by decide +kernel
theorem dX5_isIn_0 : decode cX5_isIn 0 = .ok (.lload_n 0, 1) := by decide +kernel
theorem dX5_isIn_1 : decode cX5_isIn 1 = .ok (.lload_n 2, 1) := by decide +kernel
theorem dX5_isIn_2 : decode cX5_isIn 2 = .ok (.lcmp, 1) := by decide +kernel
theorem dX5_isIn_3 : decode cX5_isIn 3 = .ok (.ifCond .lt 14, 3) := by decide +kernel
theorem dX5_isIn_6 : decode cX5_isIn 6 = .ok (.lload_n 0, 1) := by decide +kernel
theorem dX5_isIn_7 : decode cX5_isIn 7 = .ok (.lload 4, 2) := by decide +kernel
theorem dX5_isIn_9 : decode cX5_isIn 9 = .ok (.lcmp, 1) := by decide +kernel
theorem dX5_isIn_10 : decode cX5_isIn 10 = .ok (.ifCond .gt 7, 3) := by decide +kernel
theorem dX5_isIn_13 : decode cX5_isIn 13 = .ok (.iconst 1, 1) := by decide +kernel
theorem dX5_isIn_14 : decode cX5_isIn 14 = .ok (.goto 4, 3) := by decide +kernel
theorem dX5_isIn_17 : decode cX5_isIn 17 = .ok (.iconst 0, 1) := by decide +kernel
theorem dX5_isIn_18 : decode cX5_isIn 18 = .ok (.ireturn, 1) := by decide +kernel
theorem dX5_fail_0 : decode cX5_fail 0 = .ok (.aload_n 0, 1) := by decide +kernel
theorem dX5_fail_1 : decode cX5_fail 1 = .ok (.iload_n 1, 1) := by decide +kernel
theorem dX5_fail_2 : decode cX5_fail 2 = .ok (.putfield 198, 3) := by decide +kernel
theorem dX5_fail_5 : decode cX5_fail 5 = .ok (.iconst 0, 1) := by decide +kernel
theorem dX5_fail_6 : decode cX5_fail 6 = .ok (.ireturn, 1) := by decide +kernel
theorem dX5_unit_0 : decode cX5_unit 0 = .ok (.aload_n 0, 1) := by decide +kernel
theorem dX5_unit_1 : decode cX5_unit 1 = .ok (.iconst 0, 1) := by decide +kernel
theorem dX5_unit_2 : decode cX5_unit 2 = .ok (.putfield 198, 3) := by decide +kernel
theorem dX5_unit_5 : decode cX5_unit 5 = .ok (.aload_n 0, 1) := by decide +kernel
theorem dX5_unit_6 : decode cX5_unit 6 = .ok (.getfield 217, 3) := by decide +kernel
theorem dX5_unit_9 : decode cX5_unit 9 = .ok (.bipush 100, 2) := by decide +kernel
theorem dX5_unit_11 : decode cX5_unit 11 = .ok (.if_icmp .ne 9, 3) := by decide +kernel
theorem dX5_unit_14 : decode cX5_unit 14 = .ok (.aload_n 0, 1) := by decide +kernel
theorem dX5_unit_15 : decode cX5_unit 15 = .ok (.iconst 1, 1) := by decide +kernel
theorem dX5_unit_16 : decode cX5_unit 16 = .ok (.invokevirtual 213, 3) := by decide +kernel
theorem dX5_unit_19 : decode cX5_unit 19 = .ok (.ireturn, 1) := by decide +kernel
theorem dX5_unit_20 : decode cX5_unit 20 = .ok (.aload_n 0, 1) := by decide +kernel
theorem dX5_unit_21 : decode cX5_unit 21 = .ok (.getfield 7, 3) := by decide +kernel
theorem dX5_unit_24 : decode cX5_unit 24 = .ok (.aload_n 0, 1) := by decide +kernel
theorem dX5_unit_25 : decode cX5_unit 25 = .ok (.getfield 217, 3) := by decide +kernel
theorem dX5_unit_28 : decode cX5_unit 28 = .ok (.iconst (-1), 1) := by decide +kernel
theorem dX5_unit_29 : decode cX5_unit 29 = .ok (.iastore, 1) := by decide +kernel
theorem dX5_unit_30 : decode cX5_unit 30 = .ok (.aload_n 0, 1) := by decide +kernel
theorem dX5_unit_31 : decode cX5_unit 31 = .ok (.dup, 1) := by decide +kernel
theorem dX5_unit_32 : decode cX5_unit 32 = .ok (.getfield 217, 3) := by decide +kernel
theorem dX5_unit_35 : decode cX5_unit 35 = .ok (.iconst 1, 1) := by decide +kernel
theorem dX5_unit_36 : decode cX5_unit 36 = .ok (.iadd, 1) := by decide +kernel
theorem dX5_unit_37 : decode cX5_unit 37 = .ok (.putfield 217, 3) := by decide +kernel
theorem dX5_unit_40 : decode cX5_unit 40 = .ok (.aload_n 0, 1) := by decide +kernel
theorem dX5_unit_41 : decode cX5_unit 41 = .ok (.getfield 217, 3) := by decide +kernel
theorem dX5_unit_44 : decode cX5_unit 44 = .ok (.iconst 1, 1) := by decide +kernel
theorem dX5_unit_45 : decode cX5_unit 45 = .ok (.isub, 1) := by decide +kernel
theorem dX5_unit_46 : decode cX5_unit 46 = .ok (.ireturn, 1) := by decide +kernel
theorem dX5_tell_0 : decode cX5_tell 0 = .ok (.aload_n 0, 1) := by decide +kernel
theorem dX5_tell_1 : decode cX5_tell 1 = .ok (.iconst 0, 1) := by decide +kernel
theorem dX5_tell_2 : decode cX5_tell 2 = .ok (.putfield 198, 3) := by decide +kernel
theorem dX5_tell_5 : decode cX5_tell 5 = .ok (.aload_n 0, 1) := by decide +kernel
theorem dX5_tell_6 : decode cX5_tell 6 = .ok (.iload_n 1, 1) := by decide +kernel
theorem dX5_tell_7 : decode cX5_tell 7 = .ok (.invokevirtual 220, 3) := by decide +kernel
theorem dX5_tell_10 : decode cX5_tell 10 = .ok (.ifCond .eq 15, 3) := by decide +kernel
theorem dX5_tell_13 : decode cX5_tell 13 = .ok (.iload_n 2, 1) := by decide +kernel
theorem dX5_tell_14 : decode cX5_tell 14 = .ok (.i2l, 1) := by decide +kernel
theorem dX5_tell_15 : decode cX5_tell 15 = .ok (.lconst 0, 1) := by decide +kernel
theorem dX5_tell_16 : decode cX5_tell 16 = .ok (.ldc2_w 224, 3) := by decide +kernel
theorem dX5_tell_19 : decode cX5_tell 19 = .ok (.invokestatic 207, 3) := by decide +kernel
theorem dX5_tell_22 : decode cX5_tell 22 = .ok (.ifCond .ne 9, 3) := by decide +kernel
theorem dX5_tell_25 : decode cX5_tell 25 = .ok (.aload_n 0, 1) := by decide +kernel
theorem dX5_tell_26 : decode cX5_tell 26 = .ok (.iconst 1, 1) := by decide +kernel
theorem dX5_tell_27 : decode cX5_tell 27 = .ok (.invokevirtual 213, 3) := by decide +kernel
theorem dX5_tell_30 : decode cX5_tell 30 = .ok (.ireturn, 1) := by decide +kernel
theorem dX5_tell_31 : decode cX5_tell 31 = .ok (.iload_n 3, 1) := by decide +kernel
theorem dX5_tell_32 : decode cX5_tell 32 = .ok (.i2l, 1) := by decide +kernel
theorem dX5_tell_33 : decode cX5_tell 33 = .ok (.lconst 0, 1) := by decide +kernel
theorem dX5_tell_34 : decode cX5_tell 34 = .ok (.ldc2_w 226, 3) := by decide +kernel
theorem dX5_tell_37 : decode cX5_tell 37 = .ok (.invokestatic 207, 3) := by decide +kernel
theorem dX5_tell_40 : decode cX5_tell 40 = .ok (.ifCond .eq 18, 3) := by decide +kernel
theorem dX5_tell_43 : decode cX5_tell 43 = .ok (.iload 4, 2) := by decide +kernel
theorem dX5_tell_45 : decode cX5_tell 45 = .ok (.i2l, 1) := by decide +kernel
