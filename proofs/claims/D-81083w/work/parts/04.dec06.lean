set_option maxRecDepth 100000
theorem dX1_isIn_1 : decode cX1_isIn 1 = .ok (.lload_n 2, 1) := by decide +kernel
theorem dX1_isIn_2 : decode cX1_isIn 2 = .ok (.lcmp, 1) := by decide +kernel
theorem dX1_isIn_3 : decode cX1_isIn 3 = .ok (.ifCond .lt 14, 3) := by decide +kernel
theorem dX1_isIn_6 : decode cX1_isIn 6 = .ok (.lload_n 0, 1) := by decide +kernel
theorem dX1_isIn_7 : decode cX1_isIn 7 = .ok (.lload 4, 2) := by decide +kernel
theorem dX1_isIn_9 : decode cX1_isIn 9 = .ok (.lcmp, 1) := by decide +kernel
theorem dX1_isIn_10 : decode cX1_isIn 10 = .ok (.ifCond .gt 7, 3) := by decide +kernel
theorem dX1_isIn_13 : decode cX1_isIn 13 = .ok (.iconst 1, 1) := by decide +kernel
theorem dX1_isIn_14 : decode cX1_isIn 14 = .ok (.goto 4, 3) := by decide +kernel
theorem dX1_isIn_17 : decode cX1_isIn 17 = .ok (.iconst 0, 1) := by decide +kernel
theorem dX1_isIn_18 : decode cX1_isIn 18 = .ok (.ireturn, 1) := by decide +kernel
theorem dX1_need_0 : decode cX1_need 0 = .ok (.iload_n 0, 1) := by decide +kernel
theorem dX1_need_1 : decode cX1_need 1 = .ok (.ifCond .ne 13, 3) := by decide +kernel
theorem dX1_need_4 : decode cX1_need 4 = .ok (.new 138, 3) := by decide +kernel
theorem dX1_need_7 : decode cX1_need 7 = .ok (.dup, 1) := by decide +kernel
theorem dX1_need_8 : decode cX1_need 8 = .ok (.ldc 140, 2) := by decide +kernel
theorem dX1_need_10 : decode cX1_need 10 = .ok (.invokespecial 142, 3) := by decide +kernel
theorem dX1_need_13 : decode cX1_need 13 = .ok (.athrow, 1) := by decide +kernel
theorem dX1_need_14 : decode cX1_need 14 = .ok (.return_, 1) := by decide +kernel
theorem dX1_unit_0 : decode cX1_unit 0 = .ok (.aload_n 0, 1) := by decide +kernel
theorem dX1_unit_1 : decode cX1_unit 1 = .ok (.getfield 168, 3) := by decide +kernel
theorem dX1_unit_4 : decode cX1_unit 4 = .ok (.bipush 100, 2) := by decide +kernel
theorem dX1_unit_6 : decode cX1_unit 6 = .ok (.if_icmp .ge 7, 3) := by decide +kernel
theorem dX1_unit_9 : decode cX1_unit 9 = .ok (.iconst 1, 1) := by decide +kernel
theorem dX1_unit_10 : decode cX1_unit 10 = .ok (.goto 4, 3) := by decide +kernel
theorem dX1_unit_13 : decode cX1_unit 13 = .ok (.iconst 0, 1) := by decide +kernel
theorem dX1_unit_14 : decode cX1_unit 14 = .ok (.invokestatic 176, 3) := by decide +kernel
theorem dX1_unit_17 : decode cX1_unit 17 = .ok (.aload_n 0, 1) := by decide +kernel
theorem dX1_unit_18 : decode cX1_unit 18 = .ok (.getfield 11, 3) := by decide +kernel
theorem dX1_unit_21 : decode cX1_unit 21 = .ok (.aload_n 0, 1) := by decide +kernel
theorem dX1_unit_22 : decode cX1_unit 22 = .ok (.getfield 168, 3) := by decide +kernel
theorem dX1_unit_25 : decode cX1_unit 25 = .ok (.iconst (-1), 1) := by decide +kernel
theorem dX1_unit_26 : decode cX1_unit 26 = .ok (.iastore, 1) := by decide +kernel
theorem dX1_unit_27 : decode cX1_unit 27 = .ok (.aload_n 0, 1) := by decide +kernel
theorem dX1_unit_28 : decode cX1_unit 28 = .ok (.dup, 1) := by decide +kernel
theorem dX1_unit_29 : decode cX1_unit 29 = .ok (.getfield 168, 3) := by decide +kernel
theorem dX1_unit_32 : decode cX1_unit 32 = .ok (.dup_x1, 1) := by decide +kernel
theorem dX1_unit_33 : decode cX1_unit 33 = .ok (.iconst 1, 1) := by decide +kernel
theorem dX1_unit_34 : decode cX1_unit 34 = .ok (.iadd, 1) := by decide +kernel
theorem dX1_unit_35 : decode cX1_unit 35 = .ok (.putfield 168, 3) := by decide +kernel
theorem dX1_unit_38 : decode cX1_unit 38 = .ok (.ireturn, 1) := by decide +kernel
theorem dX1_room_0 : decode cX1_room 0 = .ok (.iload_n 0, 1) := by decide +kernel
theorem dX1_room_1 : decode cX1_room 1 = .ok (.ifCond .ne 13, 3) := by decide +kernel
theorem dX1_room_4 : decode cX1_room 4 = .ok (.new 148, 3) := by decide +kernel
theorem dX1_room_7 : decode cX1_room 7 = .ok (.dup, 1) := by decide +kernel
theorem dX1_room_8 : decode cX1_room 8 = .ok (.ldc 150, 2) := by decide +kernel
theorem dX1_room_10 : decode cX1_room 10 = .ok (.invokespecial 152, 3) := by decide +kernel
theorem dX1_room_13 : decode cX1_room 13 = .ok (.athrow, 1) := by decide +kernel
theorem dX1_room_14 : decode cX1_room 14 = .ok (.return_, 1) := by decide +kernel
theorem dX1_tell_0 : decode cX1_tell 0 = .ok (.aload_n 0, 1) := by decide +kernel
theorem dX1_tell_1 : decode cX1_tell 1 = .ok (.iload_n 1, 1) := by decide +kernel
theorem dX1_tell_2 : decode cX1_tell 2 = .ok (.invokevirtual 179, 3) := by decide +kernel
theorem dX1_tell_5 : decode cX1_tell 5 = .ok (.iload_n 2, 1) := by decide +kernel
theorem dX1_tell_6 : decode cX1_tell 6 = .ok (.invokestatic 183, 3) := by decide +kernel
theorem dX1_tell_9 : decode cX1_tell 9 = .ok (.iload_n 3, 1) := by decide +kernel
theorem dX1_tell_10 : decode cX1_tell 10 = .ok (.i2l, 1) := by decide +kernel
theorem dX1_tell_11 : decode cX1_tell 11 = .ok (.lconst 0, 1) := by decide +kernel
theorem dX1_tell_12 : decode cX1_tell 12 = .ok (.ldc2_w 186, 3) := by decide +kernel
theorem dX1_tell_15 : decode cX1_tell 15 = .ok (.invokestatic 159, 3) := by decide +kernel
theorem dX1_tell_18 : decode cX1_tell 18 = .ok (.ifCond .eq 22, 3) := by decide +kernel
theorem dX1_tell_21 : decode cX1_tell 21 = .ok (.iload 4, 2) := by decide +kernel
theorem dX1_tell_23 : decode cX1_tell 23 = .ok (.i2l, 1) := by decide +kernel
theorem dX1_tell_24 : decode cX1_tell 24 = .ok (.ldc2_w 188, 3) := by decide +kernel
theorem dX1_tell_27 : decode cX1_tell 27 = .ok (.ldc2_w 157, 3) := by decide +kernel
theorem dX1_tell_30 : decode cX1_tell 30 = .ok (.invokestatic 159, 3) := by decide +kernel
theorem dX1_tell_33 : decode cX1_tell 33 = .ok (.ifCond .eq 7, 3) := by decide +kernel
theorem dX1_tell_36 : decode cX1_tell 36 = .ok (.iconst 1, 1) := by decide +kernel
theorem dX1_tell_37 : decode cX1_tell 37 = .ok (.goto 4, 3) := by decide +kernel
theorem dX1_tell_40 : decode cX1_tell 40 = .ok (.iconst 0, 1) := by decide +kernel
theorem dX1_tell_41 : decode cX1_tell 41 = .ok (.invokestatic 164, 3) := by decide +kernel
theorem dX1_tell_44 : decode cX1_tell 44 = .ok (.aload_n 0, 1) := by decide +kernel
theorem dX1_tell_45 : decode cX1_tell 45 = .ok (.getfield 11, 3) := by decide +kernel
theorem dX1_tell_48 : decode cX1_tell 48 = .ok (.iload_n 1, 1) := by decide +kernel
theorem dX1_tell_49 : decode cX1_tell 49 = .ok (.iaload, 1) := by decide +kernel
theorem dX1_tell_50 : decode cX1_tell 50 = .ok (.iconst (-1), 1) := by decide +kernel
theorem dX1_tell_51 : decode cX1_tell 51 = .ok (.if_icmp .ne 7, 3) := by decide +kernel
theorem dX1_tell_54 : decode cX1_tell 54 = .ok (.iconst 1, 1) := by decide +kernel
theorem dX1_tell_55 : decode cX1_tell 55 = .ok (.goto 4, 3) := by decide +kernel
theorem dX1_tell_58 : decode cX1_tell 58 = .ok (.iconst 0, 1) := by decide +kernel
theorem dX1_tell_59 : decode cX1_tell 59 = .ok (.invokestatic 190, 3) := by decide +kernel
theorem dX1_tell_62 : decode cX1_tell 62 = .ok (.aload_n 0, 1) := by decide +kernel
theorem dX1_tell_63 : decode cX1_tell 63 = .ok (.getfield 193, 3) := by decide +kernel
theorem dX1_tell_66 : decode cX1_tell 66 = .ok (.sipush 1500, 3) := by decide +kernel
theorem dX1_tell_69 : decode cX1_tell 69 = .ok (.if_icmp .ge 7, 3) := by decide +kernel
theorem dX1_tell_72 : decode cX1_tell 72 = .ok (.iconst 1, 1) := by decide +kernel
theorem dX1_tell_73 : decode cX1_tell 73 = .ok (.goto 4, 3) := by decide +kernel
theorem dX1_tell_76 : decode cX1_tell 76 = .ok (.iconst 0, 1) := by decide +kernel
theorem dX1_tell_77 : decode cX1_tell 77 = .ok (.invokestatic 176, 3) := by decide +kernel
theorem dX1_tell_80 : decode cX1_tell 80 = .ok (.bipush 6, 2) := by decide +kernel
theorem dX1_tell_82 : decode cX1_tell 82 = .ok (.iload_n 1, 1) := by decide +kernel
theorem dX1_tell_83 : decode cX1_tell 83 = .ok (.imul, 1) := by decide +kernel
theorem dX1_tell_84 : decode cX1_tell 84 = .ok (.iload_n 2, 1) := by decide +kernel
theorem dX1_tell_85 : decode cX1_tell 85 = .ok (.iadd, 1) := by decide +kernel
theorem dX1_tell_86 : decode cX1_tell 86 = .ok (.istore 5, 2) := by decide +kernel
theorem dX1_tell_88 : decode cX1_tell 88 = .ok (.aload_n 0, 1) := by decide +kernel
theorem dX1_tell_89 : decode cX1_tell 89 = .ok (.getfield 21, 3) := by decide +kernel
theorem dX1_tell_92 : decode cX1_tell 92 = .ok (.aload_n 0, 1) := by decide +kernel
theorem dX1_tell_93 : decode cX1_tell 93 = .ok (.getfield 193, 3) := by decide +kernel
theorem dX1_tell_96 : decode cX1_tell 96 = .ok (.aload_n 0, 1) := by decide +kernel
theorem dX1_tell_97 : decode cX1_tell 97 = .ok (.getfield 18, 3) := by decide +kernel
theorem dX1_tell_100 : decode cX1_tell 100 = .ok (.iload 5, 2) := by decide +kernel
theorem dX1_tell_102 : decode cX1_tell 102 = .ok (.iaload, 1) := by decide +kernel
theorem dX1_tell_103 : decode cX1_tell 103 = .ok (.iastore, 1) := by decide +kernel
theorem dX1_tell_104 : decode cX1_tell 104 = .ok (.aload_n 0, 1) := by decide +kernel
theorem dX1_tell_105 : decode cX1_tell 105 = .ok (.getfield 18, 3) := by decide +kernel
theorem dX1_tell_108 : decode cX1_tell 108 = .ok (.iload 5, 2) := by decide +kernel
theorem dX1_tell_110 : decode cX1_tell 110 = .ok (.aload_n 0, 1) := by decide +kernel
theorem dX1_tell_111 : decode cX1_tell 111 = .ok (.getfield 193, 3) := by decide +kernel
theorem dX1_tell_114 : decode cX1_tell 114 = .ok (.iastore, 1) := by decide +kernel
theorem dX1_tell_115 : decode cX1_tell 115 = .ok (.aload_n 0, 1) := by decide +kernel
theorem dX1_tell_116 : decode cX1_tell 116 = .ok (.getfield 24, 3) := by decide +kernel
theorem dX1_tell_119 : decode cX1_tell 119 = .ok (.aload_n 0, 1) := by decide +kernel
theorem dX1_tell_120 : decode cX1_tell 120 = .ok (.getfield 193, 3) := by decide +kernel
theorem dX1_tell_123 : decode cX1_tell 123 = .ok (.iload_n 3, 1) := by decide +kernel
theorem dX1_tell_124 : decode cX1_tell 124 = .ok (.iastore, 1) := by decide +kernel
theorem dX1_tell_125 : decode cX1_tell 125 = .ok (.aload_n 0, 1) := by decide +kernel
theorem dX1_tell_126 : decode cX1_tell 126 = .ok (.getfield 27, 3) := by decide +kernel
theorem dX1_tell_129 : decode cX1_tell 129 = .ok (.aload_n 0, 1) := by decide +kernel
theorem dX1_tell_130 : decode cX1_tell 130 = .ok (.getfield 193, 3) := by decide +kernel
theorem dX1_tell_133 : decode cX1_tell 133 = .ok (.iload 4, 2) := by decide +kernel
theorem dX1_tell_135 : decode cX1_tell 135 = .ok (.iastore, 1) := by decide +kernel
theorem dX1_tell_136 : decode cX1_tell 136 = .ok (.aload_n 0, 1) := by decide +kernel
theorem dX1_tell_137 : decode cX1_tell 137 = .ok (.getfield 30, 3) := by decide +kernel
theorem dX1_tell_140 : decode cX1_tell 140 = .ok (.aload_n 0, 1) := by decide +kernel
theorem dX1_tell_141 : decode cX1_tell 141 = .ok (.getfield 193, 3) := by decide +kernel
theorem dX1_tell_144 : decode cX1_tell 144 = .ok (.aload_n 0, 1) := by decide +kernel
theorem dX1_tell_145 : decode cX1_tell 145 = .ok (.invokevirtual 196, 3) := by decide +kernel
theorem dX1_tell_148 : decode cX1_tell 148 = .ok (.iastore, 1) := by decide +kernel
theorem dX1_tell_149 : decode cX1_tell 149 = .ok (.aload_n 0, 1) := by decide +kernel
theorem dX1_tell_150 : decode cX1_tell 150 = .ok (.dup, 1) := by decide +kernel
theorem dX1_tell_151 : decode cX1_tell 151 = .ok (.getfield 193, 3) := by decide +kernel
theorem dX1_tell_154 : decode cX1_tell 154 = .ok (.iconst 1, 1) := by decide +kernel
theorem dX1_tell_155 : decode cX1_tell 155 = .ok (.iadd, 1) := by decide +kernel
theorem dX1_tell_156 : decode cX1_tell 156 = .ok (.dup_x1, 1) := by decide +kernel
theorem dX1_tell_157 : decode cX1_tell 157 = .ok (.putfield 193, 3) := by decide +kernel
theorem dX1_tell_160 : decode cX1_tell 160 = .ok (.ireturn, 1) := by decide +kernel
theorem dX1_unitIn_0 : decode cX1_unitIn 0 = .ok (.iload_n 1, 1) := by decide +kernel
theorem dX1_unitIn_1 : decode cX1_unitIn 1 = .ok (.i2l, 1) := by decide +kernel
theorem dX1_unitIn_2 : decode cX1_unitIn 2 = .ok (.lconst 0, 1) := by decide +kernel
theorem dX1_unitIn_3 : decode cX1_unitIn 3 = .ok (.aload_n 0, 1) := by decide +kernel
theorem dX1_unitIn_4 : decode cX1_unitIn 4 = .ok (.getfield 168, 3) := by decide +kernel
theorem dX1_unitIn_7 : decode cX1_unitIn 7 = .ok (.iconst 1, 1) := by decide +kernel
theorem dX1_unitIn_8 : decode cX1_unitIn 8 = .ok (.isub, 1) := by decide +kernel
theorem dX1_unitIn_9 : decode cX1_unitIn 9 = .ok (.i2l, 1) := by decide +kernel
theorem dX1_unitIn_10 : decode cX1_unitIn 10 = .ok (.invokestatic 159, 3) := by decide +kernel
theorem dX1_unitIn_13 : decode cX1_unitIn 13 = .ok (.invokestatic 171, 3) := by decide +kernel
theorem dX1_unitIn_16 : decode cX1_unitIn 16 = .ok (.return_, 1) := by decide +kernel
theorem dX1_inside_0 : decode cX1_inside 0 = .ok (.iload_n 0, 1) := by decide +kernel
theorem dX1_inside_1 : decode cX1_inside 1 = .ok (.ifCond .ne 13, 3) := by decide +kernel
theorem dX1_inside_4 : decode cX1_inside 4 = .ok (.new 131, 3) := by decide +kernel
theorem dX1_inside_7 : decode cX1_inside 7 = .ok (.dup, 1) := by decide +kernel
theorem dX1_inside_8 : decode cX1_inside 8 = .ok (.ldc 133, 2) := by decide +kernel
theorem dX1_inside_10 : decode cX1_inside 10 = .ok (.invokespecial 135, 3) := by decide +kernel
theorem dX1_inside_13 : decode cX1_inside 13 = .ok (.athrow, 1) := by decide +kernel
theorem dX1_inside_14 : decode cX1_inside 14 = .ok (.return_, 1) := by decide +kernel
theorem dX1_fieldIn_0 : decode cX1_fieldIn 0 = .ok (.iload_n 0, 1) := by decide +kernel
theorem dX1_fieldIn_1 : decode cX1_fieldIn 1 = .ok (.i2l, 1) := by decide +kernel
theorem dX1_fieldIn_2 : decode cX1_fieldIn 2 = .ok (.lconst 0, 1) := by decide +kernel
theorem dX1_fieldIn_3 : decode cX1_fieldIn 3 = .ok (.ldc2_w 174, 3) := by decide +kernel
theorem dX1_fieldIn_6 : decode cX1_fieldIn 6 = .ok (.invokestatic 159, 3) := by decide +kernel
theorem dX1_fieldIn_9 : decode cX1_fieldIn 9 = .ok (.invokestatic 171, 3) := by decide +kernel
theorem dX1_fieldIn_12 : decode cX1_fieldIn 12 = .ok (.return_, 1) := by decide +kernel
theorem dX1_may_0 : decode cX1_may 0 = .ok (.iload_n 0, 1) := by decide +kernel
theorem dX1_may_1 : decode cX1_may 1 = .ok (.ifCond .ne 13, 3) := by decide +kernel
theorem dX1_may_4 : decode cX1_may 4 = .ok (.new 143, 3) := by decide +kernel
theorem dX1_may_7 : decode cX1_may 7 = .ok (.dup, 1) := by decide +kernel
theorem dX1_may_8 : decode cX1_may 8 = .ok (.ldc 145, 2) := by decide +kernel
theorem dX1_may_10 : decode cX1_may 10 = .ok (.invokespecial 147, 3) := by decide +kernel
theorem dX1_may_13 : decode cX1_may 13 = .ok (.athrow, 1) := by decide +kernel
theorem dX1_may_14 : decode cX1_may 14 = .ok (.return_, 1) := by decide +kernel
theorem dX1_day_0 : decode cX1_day 0 = .ok (.aload_n 0, 1) := by decide +kernel
theorem dX1_day_1 : decode cX1_day 1 = .ok (.getfield 153, 3) := by decide +kernel
theorem dX1_day_4 : decode cX1_day 4 = .ok (.sipush 1440, 3) := by decide +kernel
theorem dX1_day_7 : decode cX1_day 7 = .ok (.idiv, 1) := by decide +kernel
theorem dX1_day_8 : decode cX1_day 8 = .ok (.ireturn, 1) := by decide +kernel
theorem dX1_merge_0 : decode cX1_merge 0 = .ok (.aload_n 0, 1) := by decide +kernel
theorem dX1_merge_1 : decode cX1_merge 1 = .ok (.iload_n 1, 1) := by decide +kernel
theorem dX1_merge_2 : decode cX1_merge 2 = .ok (.invokevirtual 179, 3) := by decide +kernel
theorem dX1_merge_5 : decode cX1_merge 5 = .ok (.aload_n 0, 1) := by decide +kernel
theorem dX1_merge_6 : decode cX1_merge 6 = .ok (.iload_n 2, 1) := by decide +kernel
theorem dX1_merge_7 : decode cX1_merge 7 = .ok (.invokevirtual 179, 3) := by decide +kernel
theorem dX1_merge_10 : decode cX1_merge 10 = .ok (.aload_n 0, 1) := by decide +kernel
theorem dX1_merge_11 : decode cX1_merge 11 = .ok (.iload_n 2, 1) := by decide +kernel
theorem dX1_merge_12 : decode cX1_merge 12 = .ok (.ldc 202, 2) := by decide +kernel
theorem dX1_merge_14 : decode cX1_merge 14 = .ok (.invokevirtual 203, 3) := by decide +kernel
theorem dX1_merge_17 : decode cX1_merge 17 = .ok (.istore_n 3, 1) := by decide +kernel
theorem dX1_merge_18 : decode cX1_merge 18 = .ok (.aload_n 0, 1) := by decide +kernel
theorem dX1_merge_19 : decode cX1_merge 19 = .ok (.getfield 11, 3) := by decide +kernel
theorem dX1_merge_22 : decode cX1_merge 22 = .ok (.iload_n 1, 1) := by decide +kernel
theorem dX1_merge_23 : decode cX1_merge 23 = .ok (.iaload, 1) := by decide +kernel
theorem dX1_merge_24 : decode cX1_merge 24 = .ok (.iconst (-1), 1) := by decide +kernel
theorem dX1_merge_25 : decode cX1_merge 25 = .ok (.if_icmp .ne 12, 3) := by decide +kernel
theorem dX1_merge_28 : decode cX1_merge 28 = .ok (.iload_n 3, 1) := by decide +kernel
theorem dX1_merge_29 : decode cX1_merge 29 = .ok (.iload_n 1, 1) := by decide +kernel
theorem dX1_merge_30 : decode cX1_merge 30 = .ok (.if_icmp .eq 7, 3) := by decide +kernel
theorem dX1_merge_33 : decode cX1_merge 33 = .ok (.iconst 1, 1) := by decide +kernel
theorem dX1_merge_34 : decode cX1_merge 34 = .ok (.goto 4, 3) := by decide +kernel
theorem dX1_merge_37 : decode cX1_merge 37 = .ok (.iconst 0, 1) := by decide +kernel
theorem dX1_merge_38 : decode cX1_merge 38 = .ok (.invokestatic 190, 3) := by decide +kernel
theorem dX1_merge_41 : decode cX1_merge 41 = .ok (.aload_n 0, 1) := by decide +kernel
theorem dX1_merge_42 : decode cX1_merge 42 = .ok (.getfield 11, 3) := by decide +kernel
theorem dX1_merge_45 : decode cX1_merge 45 = .ok (.iload_n 1, 1) := by decide +kernel
theorem dX1_merge_46 : decode cX1_merge 46 = .ok (.iload_n 2, 1) := by decide +kernel
theorem dX1_merge_47 : decode cX1_merge 47 = .ok (.iastore, 1) := by decide +kernel
theorem dX1_merge_48 : decode cX1_merge 48 = .ok (.aload_n 0, 1) := by decide +kernel
theorem dX1_merge_49 : decode cX1_merge 49 = .ok (.getfield 15, 3) := by decide +kernel
theorem dX1_merge_52 : decode cX1_merge 52 = .ok (.iload_n 1, 1) := by decide +kernel
theorem dX1_merge_53 : decode cX1_merge 53 = .ok (.aload_n 0, 1) := by decide +kernel
theorem dX1_merge_54 : decode cX1_merge 54 = .ok (.invokevirtual 196, 3) := by decide +kernel
theorem dX1_merge_57 : decode cX1_merge 57 = .ok (.iastore, 1) := by decide +kernel
theorem dX1_merge_58 : decode cX1_merge 58 = .ok (.aload_n 0, 1) := by decide +kernel
theorem dX1_merge_59 : decode cX1_merge 59 = .ok (.dup, 1) := by decide +kernel
theorem dX1_merge_60 : decode cX1_merge 60 = .ok (.getfield 207, 3) := by decide +kernel
theorem dX1_merge_63 : decode cX1_merge 63 = .ok (.iconst 1, 1) := by decide +kernel
theorem dX1_merge_64 : decode cX1_merge 64 = .ok (.iadd, 1) := by decide +kernel
theorem dX1_merge_65 : decode cX1_merge 65 = .ok (.putfield 207, 3) := by decide +kernel
theorem dX1_merge_68 : decode cX1_merge 68 = .ok (.iload_n 3, 1) := by decide +kernel
theorem dX1_merge_69 : decode cX1_merge 69 = .ok (.ireturn, 1) := by decide +kernel
theorem dX1_lastOf_0 : decode cX1_lastOf 0 = .ok (.iload_n 1, 1) := by decide +kernel
theorem dX1_lastOf_1 : decode cX1_lastOf 1 = .ok (.istore_n 3, 1) := by decide +kernel
theorem dX1_lastOf_2 : decode cX1_lastOf 2 = .ok (.aload_n 0, 1) := by decide +kernel
theorem dX1_lastOf_3 : decode cX1_lastOf 3 = .ok (.getfield 11, 3) := by decide +kernel
theorem dX1_lastOf_6 : decode cX1_lastOf 6 = .ok (.iload_n 3, 1) := by decide +kernel
theorem dX1_lastOf_7 : decode cX1_lastOf 7 = .ok (.iaload, 1) := by decide +kernel
theorem dX1_lastOf_8 : decode cX1_lastOf 8 = .ok (.iconst (-1), 1) := by decide +kernel
theorem dX1_lastOf_9 : decode cX1_lastOf 9 = .ok (.if_icmp .eq 23, 3) := by decide +kernel
theorem dX1_lastOf_12 : decode cX1_lastOf 12 = .ok (.aload_n 0, 1) := by decide +kernel
theorem dX1_lastOf_13 : decode cX1_lastOf 13 = .ok (.getfield 15, 3) := by decide +kernel
theorem dX1_lastOf_16 : decode cX1_lastOf 16 = .ok (.iload_n 3, 1) := by decide +kernel
theorem dX1_lastOf_17 : decode cX1_lastOf 17 = .ok (.iaload, 1) := by decide +kernel
theorem dX1_lastOf_18 : decode cX1_lastOf 18 = .ok (.iload_n 2, 1) := by decide +kernel
theorem dX1_lastOf_19 : decode cX1_lastOf 19 = .ok (.if_icmp .gt 13, 3) := by decide +kernel
theorem dX1_lastOf_22 : decode cX1_lastOf 22 = .ok (.aload_n 0, 1) := by decide +kernel
theorem dX1_lastOf_23 : decode cX1_lastOf 23 = .ok (.getfield 11, 3) := by decide +kernel
theorem dX1_lastOf_26 : decode cX1_lastOf 26 = .ok (.iload_n 3, 1) := by decide +kernel
theorem dX1_lastOf_27 : decode cX1_lastOf 27 = .ok (.iaload, 1) := by decide +kernel
theorem dX1_lastOf_28 : decode cX1_lastOf 28 = .ok (.istore_n 3, 1) := by decide +kernel
theorem dX1_lastOf_29 : decode cX1_lastOf 29 = .ok (.goto (-27), 3) := by decide +kernel
theorem dX1_lastOf_32 : decode cX1_lastOf 32 = .ok (.iload_n 3, 1) := by decide +kernel
theorem dX1_lastOf_33 : decode cX1_lastOf 33 = .ok (.ireturn, 1) := by decide +kernel
theorem dX1_value_0 : decode cX1_value 0 = .ok (.aload_n 0, 1) := by decide +kernel
theorem dX1_value_1 : decode cX1_value 1 = .ok (.iload_n 1, 1) := by decide +kernel
theorem dX1_value_2 : decode cX1_value 2 = .ok (.invokevirtual 179, 3) := by decide +kernel
theorem dX1_value_5 : decode cX1_value 5 = .ok (.iload_n 2, 1) := by decide +kernel
theorem dX1_value_6 : decode cX1_value 6 = .ok (.invokestatic 183, 3) := by decide +kernel
theorem dX1_value_9 : decode cX1_value 9 = .ok (.iload_n 3, 1) := by decide +kernel
theorem dX1_value_10 : decode cX1_value 10 = .ok (.ifCond .lt 12, 3) := by decide +kernel
theorem dX1_value_13 : decode cX1_value 13 = .ok (.iload 4, 2) := by decide +kernel
theorem dX1_value_15 : decode cX1_value 15 = .ok (.ifCond .lt 7, 3) := by decide +kernel
theorem dX1_value_18 : decode cX1_value 18 = .ok (.iconst 1, 1) := by decide +kernel
theorem dX1_value_19 : decode cX1_value 19 = .ok (.goto 4, 3) := by decide +kernel
theorem dX1_value_22 : decode cX1_value 22 = .ok (.iconst 0, 1) := by decide +kernel
theorem dX1_value_23 : decode cX1_value 23 = .ok (.invokestatic 164, 3) := by decide +kernel
theorem dX1_value_26 : decode cX1_value 26 = .ok (.aload_n 0, 1) := by decide +kernel
theorem dX1_value_27 : decode cX1_value 27 = .ok (.iload_n 1, 1) := by decide +kernel
theorem dX1_value_28 : decode cX1_value 28 = .ok (.iload_n 2, 1) := by decide +kernel
theorem dX1_value_29 : decode cX1_value 29 = .ok (.iload_n 3, 1) := by decide +kernel
theorem dX1_value_30 : decode cX1_value 30 = .ok (.iload 4, 2) := by decide +kernel
theorem dX1_value_32 : decode cX1_value 32 = .ok (.invokevirtual 211, 3) := by decide +kernel
theorem dX1_value_35 : decode cX1_value 35 = .ok (.ireturn, 1) := by decide +kernel
theorem dX1_valueOf_0 : decode cX1_valueOf 0 = .ok (.aload_n 0, 1) := by decide +kernel
theorem dX1_valueOf_1 : decode cX1_valueOf 1 = .ok (.iload_n 1, 1) := by decide +kernel
theorem dX1_valueOf_2 : decode cX1_valueOf 2 = .ok (.iload 4, 2) := by decide +kernel
theorem dX1_valueOf_4 : decode cX1_valueOf 4 = .ok (.invokevirtual 203, 3) := by decide +kernel
theorem dX1_valueOf_7 : decode cX1_valueOf 7 = .ok (.istore 5, 2) := by decide +kernel
theorem dX1_valueOf_9 : decode cX1_valueOf 9 = .ok (.iconst (-1), 1) := by decide +kernel
theorem dX1_valueOf_10 : decode cX1_valueOf 10 = .ok (.istore 6, 2) := by decide +kernel
theorem dX1_valueOf_12 : decode cX1_valueOf 12 = .ok (.iconst 0, 1) := by decide +kernel
theorem dX1_valueOf_13 : decode cX1_valueOf 13 = .ok (.istore 7, 2) := by decide +kernel
theorem dX1_valueOf_15 : decode cX1_valueOf 15 = .ok (.iload 7, 2) := by decide +kernel
theorem dX1_valueOf_17 : decode cX1_valueOf 17 = .ok (.aload_n 0, 1) := by decide +kernel
theorem dX1_valueOf_18 : decode cX1_valueOf 18 = .ok (.getfield 168, 3) := by decide +kernel
theorem dX1_valueOf_21 : decode cX1_valueOf 21 = .ok (.if_icmp .ge 134, 3) := by decide +kernel
theorem dX1_valueOf_24 : decode cX1_valueOf 24 = .ok (.aload_n 0, 1) := by decide +kernel
theorem dX1_valueOf_25 : decode cX1_valueOf 25 = .ok (.iload 7, 2) := by decide +kernel
theorem dX1_valueOf_27 : decode cX1_valueOf 27 = .ok (.iload 4, 2) := by decide +kernel
theorem dX1_valueOf_29 : decode cX1_valueOf 29 = .ok (.invokevirtual 203, 3) := by decide +kernel
theorem dX1_valueOf_32 : decode cX1_valueOf 32 = .ok (.iload 5, 2) := by decide +kernel
theorem dX1_valueOf_34 : decode cX1_valueOf 34 = .ok (.if_icmp .eq 6, 3) := by decide +kernel
theorem dX1_valueOf_37 : decode cX1_valueOf 37 = .ok (.goto 112, 3) := by decide +kernel
theorem dX1_valueOf_40 : decode cX1_valueOf 40 = .ok (.aload_n 0, 1) := by decide +kernel
theorem dX1_valueOf_41 : decode cX1_valueOf 41 = .ok (.getfield 18, 3) := by decide +kernel
theorem dX1_valueOf_44 : decode cX1_valueOf 44 = .ok (.bipush 6, 2) := by decide +kernel
theorem dX1_valueOf_46 : decode cX1_valueOf 46 = .ok (.iload 7, 2) := by decide +kernel
theorem dX1_valueOf_48 : decode cX1_valueOf 48 = .ok (.imul, 1) := by decide +kernel
theorem dX1_valueOf_49 : decode cX1_valueOf 49 = .ok (.iload_n 2, 1) := by decide +kernel
theorem dX1_valueOf_50 : decode cX1_valueOf 50 = .ok (.iadd, 1) := by decide +kernel
theorem dX1_valueOf_51 : decode cX1_valueOf 51 = .ok (.iaload, 1) := by decide +kernel
theorem dX1_valueOf_52 : decode cX1_valueOf 52 = .ok (.istore 8, 2) := by decide +kernel
theorem dX1_valueOf_54 : decode cX1_valueOf 54 = .ok (.iload 8, 2) := by decide +kernel
theorem dX1_valueOf_56 : decode cX1_valueOf 56 = .ok (.iconst (-1), 1) := by decide +kernel
theorem dX1_valueOf_57 : decode cX1_valueOf 57 = .ok (.if_icmp .eq 92, 3) := by decide +kernel
theorem dX1_valueOf_60 : decode cX1_valueOf 60 = .ok (.aload_n 0, 1) := by decide +kernel
theorem dX1_valueOf_61 : decode cX1_valueOf 61 = .ok (.getfield 30, 3) := by decide +kernel
theorem dX1_valueOf_64 : decode cX1_valueOf 64 = .ok (.iload 8, 2) := by decide +kernel
theorem dX1_valueOf_66 : decode cX1_valueOf 66 = .ok (.iaload, 1) := by decide +kernel
theorem dX1_valueOf_67 : decode cX1_valueOf 67 = .ok (.iload 4, 2) := by decide +kernel
theorem dX1_valueOf_69 : decode cX1_valueOf 69 = .ok (.if_icmp .gt 68, 3) := by decide +kernel
theorem dX1_valueOf_72 : decode cX1_valueOf 72 = .ok (.aload_n 0, 1) := by decide +kernel
theorem dX1_valueOf_73 : decode cX1_valueOf 73 = .ok (.getfield 24, 3) := by decide +kernel
theorem dX1_valueOf_76 : decode cX1_valueOf 76 = .ok (.iload 8, 2) := by decide +kernel
theorem dX1_valueOf_78 : decode cX1_valueOf 78 = .ok (.iaload, 1) := by decide +kernel
theorem dX1_valueOf_79 : decode cX1_valueOf 79 = .ok (.iload_n 3, 1) := by decide +kernel
theorem dX1_valueOf_80 : decode cX1_valueOf 80 = .ok (.if_icmp .le 6, 3) := by decide +kernel
theorem dX1_valueOf_83 : decode cX1_valueOf 83 = .ok (.goto 54, 3) := by decide +kernel
theorem dX1_valueOf_86 : decode cX1_valueOf 86 = .ok (.iload 6, 2) := by decide +kernel
theorem dX1_valueOf_88 : decode cX1_valueOf 88 = .ok (.iconst (-1), 1) := by decide +kernel
theorem dX1_valueOf_89 : decode cX1_valueOf 89 = .ok (.if_icmp .eq 44, 3) := by decide +kernel
theorem dX1_valueOf_92 : decode cX1_valueOf 92 = .ok (.aload_n 0, 1) := by decide +kernel
theorem dX1_valueOf_93 : decode cX1_valueOf 93 = .ok (.getfield 24, 3) := by decide +kernel
theorem dX1_valueOf_96 : decode cX1_valueOf 96 = .ok (.iload 8, 2) := by decide +kernel
theorem dX1_valueOf_98 : decode cX1_valueOf 98 = .ok (.iaload, 1) := by decide +kernel
theorem dX1_valueOf_99 : decode cX1_valueOf 99 = .ok (.aload_n 0, 1) := by decide +kernel
theorem dX1_valueOf_100 : decode cX1_valueOf 100 = .ok (.getfield 24, 3) := by decide +kernel
theorem dX1_valueOf_103 : decode cX1_valueOf 103 = .ok (.iload 6, 2) := by decide +kernel
theorem dX1_valueOf_105 : decode cX1_valueOf 105 = .ok (.iaload, 1) := by decide +kernel
theorem dX1_valueOf_106 : decode cX1_valueOf 106 = .ok (.if_icmp .gt 27, 3) := by decide +kernel
theorem dX1_valueOf_109 : decode cX1_valueOf 109 = .ok (.aload_n 0, 1) := by decide +kernel
theorem dX1_valueOf_110 : decode cX1_valueOf 110 = .ok (.getfield 24, 3) := by decide +kernel
theorem dX1_valueOf_113 : decode cX1_valueOf 113 = .ok (.iload 8, 2) := by decide +kernel
theorem dX1_valueOf_115 : decode cX1_valueOf 115 = .ok (.iaload, 1) := by decide +kernel
theorem dX1_valueOf_116 : decode cX1_valueOf 116 = .ok (.aload_n 0, 1) := by decide +kernel
theorem dX1_valueOf_117 : decode cX1_valueOf 117 = .ok (.getfield 24, 3) := by decide +kernel
theorem dX1_valueOf_120 : decode cX1_valueOf 120 = .ok (.iload 6, 2) := by decide +kernel
theorem dX1_valueOf_122 : decode cX1_valueOf 122 = .ok (.iaload, 1) := by decide +kernel
theorem dX1_valueOf_123 : decode cX1_valueOf 123 = .ok (.if_icmp .ne 14, 3) := by decide +kernel
theorem dX1_valueOf_126 : decode cX1_valueOf 126 = .ok (.iload 8, 2) := by decide +kernel
theorem dX1_valueOf_128 : decode cX1_valueOf 128 = .ok (.iload 6, 2) := by decide +kernel
theorem dX1_valueOf_130 : decode cX1_valueOf 130 = .ok (.if_icmp .le 7, 3) := by decide +kernel
theorem dX1_valueOf_133 : decode cX1_valueOf 133 = .ok (.iload 8, 2) := by decide +kernel
theorem dX1_valueOf_135 : decode cX1_valueOf 135 = .ok (.istore 6, 2) := by decide +kernel
theorem dX1_valueOf_137 : decode cX1_valueOf 137 = .ok (.aload_n 0, 1) := by decide +kernel
theorem dX1_valueOf_138 : decode cX1_valueOf 138 = .ok (.getfield 21, 3) := by decide +kernel
theorem dX1_valueOf_141 : decode cX1_valueOf 141 = .ok (.iload 8, 2) := by decide +kernel
theorem dX1_valueOf_143 : decode cX1_valueOf 143 = .ok (.iaload, 1) := by decide +kernel
theorem dX1_valueOf_144 : decode cX1_valueOf 144 = .ok (.istore 8, 2) := by decide +kernel
theorem dX1_valueOf_146 : decode cX1_valueOf 146 = .ok (.goto (-92), 3) := by decide +kernel
theorem dX1_valueOf_149 : decode cX1_valueOf 149 = .ok (.iinc 7 1, 3) := by decide +kernel
theorem dX1_valueOf_152 : decode cX1_valueOf 152 = .ok (.goto (-137), 3) := by decide +kernel
theorem dX1_valueOf_155 : decode cX1_valueOf 155 = .ok (.iload 6, 2) := by decide +kernel
theorem dX1_valueOf_157 : decode cX1_valueOf 157 = .ok (.iconst (-1), 1) := by decide +kernel
theorem dX1_valueOf_158 : decode cX1_valueOf 158 = .ok (.if_icmp .ne 8, 3) := by decide +kernel
theorem dX1_valueOf_161 : decode cX1_valueOf 161 = .ok (.ldc 210, 2) := by decide +kernel
theorem dX1_valueOf_163 : decode cX1_valueOf 163 = .ok (.goto 10, 3) := by decide +kernel
theorem dX1_valueOf_166 : decode cX1_valueOf 166 = .ok (.aload_n 0, 1) := by decide +kernel
theorem dX1_valueOf_167 : decode cX1_valueOf 167 = .ok (.getfield 27, 3) := by decide +kernel
theorem dX1_valueOf_170 : decode cX1_valueOf 170 = .ok (.iload 6, 2) := by decide +kernel
theorem dX1_valueOf_172 : decode cX1_valueOf 172 = .ok (.iaload, 1) := by decide +kernel
theorem dX1_valueOf_173 : decode cX1_valueOf 173 = .ok (.ireturn, 1) := by decide +kernel
theorem dX1_last_0 : decode cX1_last 0 = .ok (.aload_n 0, 1) := by decide +kernel
theorem dX1_last_1 : decode cX1_last 1 = .ok (.iload_n 1, 1) := by decide +kernel
theorem dX1_last_2 : decode cX1_last 2 = .ok (.invokevirtual 179, 3) := by decide +kernel
theorem dX1_last_5 : decode cX1_last 5 = .ok (.aload_n 0, 1) := by decide +kernel
theorem dX1_last_6 : decode cX1_last 6 = .ok (.iload_n 1, 1) := by decide +kernel
theorem dX1_last_7 : decode cX1_last 7 = .ok (.ldc 202, 2) := by decide +kernel
theorem dX1_last_9 : decode cX1_last 9 = .ok (.invokevirtual 203, 3) := by decide +kernel
theorem dX1_last_12 : decode cX1_last 12 = .ok (.ireturn, 1) := by decide +kernel
theorem dX1_feed_0 : decode cX1_feed 0 = .ok (.aload_n 0, 1) := by decide +kernel
theorem dX1_feed_1 : decode cX1_feed 1 = .ok (.getfield 215, 3) := by decide +kernel
theorem dX1_feed_4 : decode cX1_feed 4 = .ok (.bipush 20, 2) := by decide +kernel
theorem dX1_feed_6 : decode cX1_feed 6 = .ok (.iadd, 1) := by decide +kernel
theorem dX1_feed_7 : decode cX1_feed 7 = .ok (.sipush 1200, 3) := by decide +kernel
theorem dX1_feed_10 : decode cX1_feed 10 = .ok (.if_icmp .gt 7, 3) := by decide +kernel
theorem dX1_feed_13 : decode cX1_feed 13 = .ok (.iconst 1, 1) := by decide +kernel
theorem dX1_feed_14 : decode cX1_feed 14 = .ok (.goto 4, 3) := by decide +kernel
theorem dX1_feed_17 : decode cX1_feed 17 = .ok (.iconst 0, 1) := by decide +kernel
theorem dX1_feed_18 : decode cX1_feed 18 = .ok (.invokestatic 176, 3) := by decide +kernel
theorem dX1_feed_21 : decode cX1_feed 21 = .ok (.iconst 0, 1) := by decide +kernel
theorem dX1_feed_22 : decode cX1_feed 22 = .ok (.istore 6, 2) := by decide +kernel
theorem dX1_feed_24 : decode cX1_feed 24 = .ok (.iload 6, 2) := by decide +kernel
theorem dX1_feed_26 : decode cX1_feed 26 = .ok (.bipush 20, 2) := by decide +kernel
theorem dX1_feed_28 : decode cX1_feed 28 = .ok (.if_icmp .ge 87, 3) := by decide +kernel
theorem dX1_feed_31 : decode cX1_feed 31 = .ok (.iload 6, 2) := by decide +kernel
theorem dX1_feed_33 : decode cX1_feed 33 = .ok (.iconst 4, 1) := by decide +kernel
theorem dX1_feed_34 : decode cX1_feed 34 = .ok (.if_icmp .ge 7, 3) := by decide +kernel
theorem dX1_feed_37 : decode cX1_feed 37 = .ok (.iload_n 1, 1) := by decide +kernel
theorem dX1_feed_38 : decode cX1_feed 38 = .ok (.goto 39, 3) := by decide +kernel
theorem dX1_feed_41 : decode cX1_feed 41 = .ok (.iload 6, 2) := by decide +kernel
theorem dX1_feed_43 : decode cX1_feed 43 = .ok (.bipush 8, 2) := by decide +kernel
theorem dX1_feed_45 : decode cX1_feed 45 = .ok (.if_icmp .ge 7, 3) := by decide +kernel
theorem dX1_feed_48 : decode cX1_feed 48 = .ok (.iload_n 2, 1) := by decide +kernel
theorem dX1_feed_49 : decode cX1_feed 49 = .ok (.goto 28, 3) := by decide +kernel
theorem dX1_feed_52 : decode cX1_feed 52 = .ok (.iload 6, 2) := by decide +kernel
theorem dX1_feed_54 : decode cX1_feed 54 = .ok (.bipush 12, 2) := by decide +kernel
theorem dX1_feed_56 : decode cX1_feed 56 = .ok (.if_icmp .ge 7, 3) := by decide +kernel
theorem dX1_feed_59 : decode cX1_feed 59 = .ok (.iload_n 3, 1) := by decide +kernel
theorem dX1_feed_60 : decode cX1_feed 60 = .ok (.goto 17, 3) := by decide +kernel
theorem dX1_feed_63 : decode cX1_feed 63 = .ok (.iload 6, 2) := by decide +kernel
theorem dX1_feed_65 : decode cX1_feed 65 = .ok (.bipush 16, 2) := by decide +kernel
theorem dX1_feed_67 : decode cX1_feed 67 = .ok (.if_icmp .ge 8, 3) := by decide +kernel
theorem dX1_feed_70 : decode cX1_feed 70 = .ok (.iload 4, 2) := by decide +kernel
theorem dX1_feed_72 : decode cX1_feed 72 = .ok (.goto 5, 3) := by decide +kernel
theorem dX1_feed_75 : decode cX1_feed 75 = .ok (.iload 5, 2) := by decide +kernel
theorem dX1_feed_77 : decode cX1_feed 77 = .ok (.istore 7, 2) := by decide +kernel
theorem dX1_feed_79 : decode cX1_feed 79 = .ok (.aload_n 0, 1) := by decide +kernel
theorem dX1_feed_80 : decode cX1_feed 80 = .ok (.getfield 44, 3) := by decide +kernel
theorem dX1_feed_83 : decode cX1_feed 83 = .ok (.aload_n 0, 1) := by decide +kernel
theorem dX1_feed_84 : decode cX1_feed 84 = .ok (.dup, 1) := by decide +kernel
theorem dX1_feed_85 : decode cX1_feed 85 = .ok (.getfield 215, 3) := by decide +kernel
theorem dX1_feed_88 : decode cX1_feed 88 = .ok (.dup_x1, 1) := by decide +kernel
theorem dX1_feed_89 : decode cX1_feed 89 = .ok (.iconst 1, 1) := by decide +kernel
theorem dX1_feed_90 : decode cX1_feed 90 = .ok (.iadd, 1) := by decide +kernel
theorem dX1_feed_91 : decode cX1_feed 91 = .ok (.putfield 215, 3) := by decide +kernel
theorem dX1_feed_94 : decode cX1_feed 94 = .ok (.iload 7, 2) := by decide +kernel
theorem dX1_feed_96 : decode cX1_feed 96 = .ok (.bipush 24, 2) := by decide +kernel
theorem dX1_feed_98 : decode cX1_feed 98 = .ok (.bipush 8, 2) := by decide +kernel
theorem dX1_feed_100 : decode cX1_feed 100 = .ok (.iload 6, 2) := by decide +kernel
theorem dX1_feed_102 : decode cX1_feed 102 = .ok (.iconst 3, 1) := by decide +kernel
theorem dX1_feed_103 : decode cX1_feed 103 = .ok (.iand, 1) := by decide +kernel
theorem dX1_feed_104 : decode cX1_feed 104 = .ok (.imul, 1) := by decide +kernel
theorem dX1_feed_105 : decode cX1_feed 105 = .ok (.isub, 1) := by decide +kernel
theorem dX1_feed_106 : decode cX1_feed 106 = .ok (.ishr, 1) := by decide +kernel
theorem dX1_feed_107 : decode cX1_feed 107 = .ok (.i2b, 1) := by decide +kernel
theorem dX1_feed_108 : decode cX1_feed 108 = .ok (.bastore, 1) := by decide +kernel
theorem dX1_feed_109 : decode cX1_feed 109 = .ok (.iinc 6 1, 3) := by decide +kernel
theorem dX1_feed_112 : decode cX1_feed 112 = .ok (.goto (-88), 3) := by decide +kernel
theorem dX1_feed_115 : decode cX1_feed 115 = .ok (.aload_n 0, 1) := by decide +kernel
theorem dX1_feed_116 : decode cX1_feed 116 = .ok (.getfield 215, 3) := by decide +kernel
theorem dX1_feed_119 : decode cX1_feed 119 = .ok (.ireturn, 1) := by decide +kernel
theorem dX1_trim_0 : decode cX1_trim 0 = .ok (.iload_n 1, 1) := by decide +kernel
theorem dX1_trim_1 : decode cX1_trim 1 = .ok (.i2l, 1) := by decide +kernel
theorem dX1_trim_2 : decode cX1_trim 2 = .ok (.lconst 0, 1) := by decide +kernel
theorem dX1_trim_3 : decode cX1_trim 3 = .ok (.aload_n 0, 1) := by decide +kernel
theorem dX1_trim_4 : decode cX1_trim 4 = .ok (.getfield 215, 3) := by decide +kernel
theorem dX1_trim_7 : decode cX1_trim 7 = .ok (.i2l, 1) := by decide +kernel
theorem dX1_trim_8 : decode cX1_trim 8 = .ok (.invokestatic 159, 3) := by decide +kernel
theorem dX1_trim_11 : decode cX1_trim 11 = .ok (.invokestatic 164, 3) := by decide +kernel
theorem dX1_trim_14 : decode cX1_trim 14 = .ok (.aload_n 0, 1) := by decide +kernel
theorem dX1_trim_15 : decode cX1_trim 15 = .ok (.getfield 215, 3) := by decide +kernel
theorem dX1_trim_18 : decode cX1_trim 18 = .ok (.istore_n 2, 1) := by decide +kernel
theorem dX1_trim_19 : decode cX1_trim 19 = .ok (.aload_n 0, 1) := by decide +kernel
theorem dX1_trim_20 : decode cX1_trim 20 = .ok (.iload_n 1, 1) := by decide +kernel
theorem dX1_trim_21 : decode cX1_trim 21 = .ok (.putfield 215, 3) := by decide +kernel
theorem dX1_trim_24 : decode cX1_trim 24 = .ok (.iload_n 2, 1) := by decide +kernel
theorem dX1_trim_25 : decode cX1_trim 25 = .ok (.ireturn, 1) := by decide +kernel
theorem dX1_form_0 : decode cX1_form 0 = .ok (.aload_n 0, 1) := by decide +kernel
theorem dX1_form_1 : decode cX1_form 1 = .ok (.getfield 218, 3) := by decide +kernel
theorem dX1_form_4 : decode cX1_form 4 = .ok (.bipush 6, 2) := by decide +kernel
theorem dX1_form_6 : decode cX1_form 6 = .ok (.if_icmp .ge 7, 3) := by decide +kernel
theorem dX1_form_9 : decode cX1_form 9 = .ok (.iconst 1, 1) := by decide +kernel
theorem dX1_form_10 : decode cX1_form 10 = .ok (.goto 4, 3) := by decide +kernel
theorem dX1_form_13 : decode cX1_form 13 = .ok (.iconst 0, 1) := by decide +kernel
theorem dX1_form_14 : decode cX1_form 14 = .ok (.invokestatic 176, 3) := by decide +kernel
theorem dX1_form_17 : decode cX1_form 17 = .ok (.aload_n 0, 1) := by decide +kernel
theorem dX1_form_18 : decode cX1_form 18 = .ok (.getfield 35, 3) := by decide +kernel
theorem dX1_form_21 : decode cX1_form 21 = .ok (.aload_n 0, 1) := by decide +kernel
theorem dX1_form_22 : decode cX1_form 22 = .ok (.getfield 218, 3) := by decide +kernel
theorem dX1_form_25 : decode cX1_form 25 = .ok (.new 221, 3) := by decide +kernel
theorem dX1_form_28 : decode cX1_form 28 = .ok (.dup, 1) := by decide +kernel
theorem dX1_form_29 : decode cX1_form 29 = .ok (.aload_n 0, 1) := by decide +kernel
theorem dX1_form_30 : decode cX1_form 30 = .ok (.invokespecial 223, 3) := by decide +kernel
theorem dX1_form_33 : decode cX1_form 33 = .ok (.invokevirtual 224, 3) := by decide +kernel
theorem dX1_form_36 : decode cX1_form 36 = .ok (.aastore, 1) := by decide +kernel
theorem dX1_form_37 : decode cX1_form 37 = .ok (.goto 16, 3) := by decide +kernel
theorem dX1_form_40 : decode cX1_form 40 = .ok (.astore_n 1, 1) := by decide +kernel
theorem dX1_form_41 : decode cX1_form 41 = .ok (.aload_n 0, 1) := by decide +kernel
theorem dX1_form_42 : decode cX1_form 42 = .ok (.iconst 0, 1) := by decide +kernel
theorem dX1_form_43 : decode cX1_form 43 = .ok (.putfield 215, 3) := by decide +kernel
theorem dX1_form_46 : decode cX1_form 46 = .ok (.iconst (-1), 1) := by decide +kernel
theorem dX1_form_47 : decode cX1_form 47 = .ok (.aload_n 1, 1) := by decide +kernel
theorem dX1_form_48 : decode cX1_form 48 = .ok (.getfield 229, 3) := by decide +kernel
theorem dX1_form_51 : decode cX1_form 51 = .ok (.isub, 1) := by decide +kernel
theorem dX1_form_52 : decode cX1_form 52 = .ok (.ireturn, 1) := by decide +kernel
theorem dX1_form_53 : decode cX1_form 53 = .ok (.aload_n 0, 1) := by decide +kernel
theorem dX1_form_54 : decode cX1_form 54 = .ok (.iconst 0, 1) := by decide +kernel
theorem dX1_form_55 : decode cX1_form 55 = .ok (.putfield 215, 3) := by decide +kernel
theorem dX1_form_58 : decode cX1_form 58 = .ok (.aload_n 0, 1) := by decide +kernel
theorem dX1_form_59 : decode cX1_form 59 = .ok (.new 33, 3) := by decide +kernel
theorem dX1_form_62 : decode cX1_form 62 = .ok (.dup, 1) := by decide +kernel
theorem dX1_form_63 : decode cX1_form 63 = .ok (.invokespecial 39, 3) := by decide +kernel
theorem dX1_form_66 : decode cX1_form 66 = .ok (.putfield 40, 3) := by decide +kernel
theorem dX1_form_69 : decode cX1_form 69 = .ok (.aload_n 0, 1) := by decide +kernel
theorem dX1_form_70 : decode cX1_form 70 = .ok (.dup, 1) := by decide +kernel
theorem dX1_form_71 : decode cX1_form 71 = .ok (.getfield 218, 3) := by decide +kernel
theorem dX1_form_74 : decode cX1_form 74 = .ok (.dup_x1, 1) := by decide +kernel
theorem dX1_form_75 : decode cX1_form 75 = .ok (.iconst 1, 1) := by decide +kernel
theorem dX1_form_76 : decode cX1_form 76 = .ok (.iadd, 1) := by decide +kernel
theorem dX1_form_77 : decode cX1_form 77 = .ok (.putfield 218, 3) := by decide +kernel
theorem dX1_form_80 : decode cX1_form 80 = .ok (.ireturn, 1) := by decide +kernel
theorem dX1_statement_0 : decode cX1_statement 0 = .ok (.aload_n 0, 1) := by decide +kernel
theorem dX1_statement_1 : decode cX1_statement 1 = .ok (.iload_n 1, 1) := by decide +kernel
theorem dX1_statement_2 : decode cX1_statement 2 = .ok (.invokevirtual 235, 3) := by decide +kernel
theorem dX1_statement_5 : decode cX1_statement 5 = .ok (.astore 4, 2) := by decide +kernel
theorem dX1_statement_7 : decode cX1_statement 7 = .ok (.aload 4, 2) := by decide +kernel
theorem dX1_statement_9 : decode cX1_statement 9 = .ok (.iload_n 2, 1) := by decide +kernel
theorem dX1_statement_10 : decode cX1_statement 10 = .ok (.invokestatic 239, 3) := by decide +kernel
theorem dX1_statement_13 : decode cX1_statement 13 = .ok (.iload_n 3, 1) := by decide +kernel
theorem dX1_statement_14 : decode cX1_statement 14 = .ok (.i2l, 1) := by decide +kernel
theorem dX1_statement_15 : decode cX1_statement 15 = .ok (.lconst 0, 1) := by decide +kernel
theorem dX1_statement_16 : decode cX1_statement 16 = .ok (.ldc2_w 243, 3) := by decide +kernel
theorem dX1_statement_19 : decode cX1_statement 19 = .ok (.invokestatic 159, 3) := by decide +kernel
theorem dX1_statement_22 : decode cX1_statement 22 = .ok (.invokestatic 164, 3) := by decide +kernel
theorem dX1_statement_25 : decode cX1_statement 25 = .ok (.iload_n 3, 1) := by decide +kernel
theorem dX1_statement_26 : decode cX1_statement 26 = .ok (.ifCond .ne 13, 3) := by decide +kernel
theorem dX1_statement_29 : decode cX1_statement 29 = .ok (.aload 4, 2) := by decide +kernel
theorem dX1_statement_31 : decode cX1_statement 31 = .ok (.getfield 245, 3) := by decide +kernel
theorem dX1_statement_34 : decode cX1_statement 34 = .ok (.iload_n 2, 1) := by decide +kernel
theorem dX1_statement_35 : decode cX1_statement 35 = .ok (.iaload, 1) := by decide +kernel
theorem dX1_statement_36 : decode cX1_statement 36 = .ok (.goto 40, 3) := by decide +kernel
theorem dX1_statement_39 : decode cX1_statement 39 = .ok (.iload_n 3, 1) := by decide +kernel
theorem dX1_statement_40 : decode cX1_statement 40 = .ok (.iconst 1, 1) := by decide +kernel
theorem dX1_statement_41 : decode cX1_statement 41 = .ok (.if_icmp .ne 13, 3) := by decide +kernel
theorem dX1_statement_44 : decode cX1_statement 44 = .ok (.aload 4, 2) := by decide +kernel
theorem dX1_statement_46 : decode cX1_statement 46 = .ok (.getfield 248, 3) := by decide +kernel
theorem dX1_statement_49 : decode cX1_statement 49 = .ok (.iload_n 2, 1) := by decide +kernel
theorem dX1_statement_50 : decode cX1_statement 50 = .ok (.iaload, 1) := by decide +kernel
theorem dX1_statement_51 : decode cX1_statement 51 = .ok (.goto 25, 3) := by decide +kernel
theorem dX1_statement_54 : decode cX1_statement 54 = .ok (.iload_n 3, 1) := by decide +kernel
theorem dX1_statement_55 : decode cX1_statement 55 = .ok (.iconst 2, 1) := by decide +kernel
theorem dX1_statement_56 : decode cX1_statement 56 = .ok (.if_icmp .ne 13, 3) := by decide +kernel
theorem dX1_statement_59 : decode cX1_statement 59 = .ok (.aload 4, 2) := by decide +kernel
theorem dX1_statement_61 : decode cX1_statement 61 = .ok (.getfield 251, 3) := by decide +kernel
theorem dX1_statement_64 : decode cX1_statement 64 = .ok (.iload_n 2, 1) := by decide +kernel
theorem dX1_statement_65 : decode cX1_statement 65 = .ok (.iaload, 1) := by decide +kernel
theorem dX1_statement_66 : decode cX1_statement 66 = .ok (.goto 10, 3) := by decide +kernel
theorem dX1_statement_69 : decode cX1_statement 69 = .ok (.aload 4, 2) := by decide +kernel
theorem dX1_statement_71 : decode cX1_statement 71 = .ok (.getfield 254, 3) := by decide +kernel
theorem dX1_statement_74 : decode cX1_statement 74 = .ok (.iload_n 2, 1) := by decide +kernel
theorem dX1_statement_75 : decode cX1_statement 75 = .ok (.iaload, 1) := by decide +kernel
theorem dX1_statement_76 : decode cX1_statement 76 = .ok (.ireturn, 1) := by decide +kernel
theorem dX1_formOf_0 : decode cX1_formOf 0 = .ok (.iload_n 1, 1) := by decide +kernel
theorem dX1_formOf_1 : decode cX1_formOf 1 = .ok (.i2l, 1) := by decide +kernel
theorem dX1_formOf_2 : decode cX1_formOf 2 = .ok (.lconst 0, 1) := by decide +kernel
theorem dX1_formOf_3 : decode cX1_formOf 3 = .ok (.aload_n 0, 1) := by decide +kernel
theorem dX1_formOf_4 : decode cX1_formOf 4 = .ok (.getfield 218, 3) := by decide +kernel
theorem dX1_formOf_7 : decode cX1_formOf 7 = .ok (.iconst 1, 1) := by decide +kernel
theorem dX1_formOf_8 : decode cX1_formOf 8 = .ok (.isub, 1) := by decide +kernel
theorem dX1_formOf_9 : decode cX1_formOf 9 = .ok (.i2l, 1) := by decide +kernel
theorem dX1_formOf_10 : decode cX1_formOf 10 = .ok (.invokestatic 159, 3) := by decide +kernel
theorem dX1_formOf_13 : decode cX1_formOf 13 = .ok (.invokestatic 171, 3) := by decide +kernel
theorem dX1_formOf_16 : decode cX1_formOf 16 = .ok (.aload_n 0, 1) := by decide +kernel
theorem dX1_formOf_17 : decode cX1_formOf 17 = .ok (.getfield 35, 3) := by decide +kernel
theorem dX1_formOf_20 : decode cX1_formOf 20 = .ok (.iload_n 1, 1) := by decide +kernel
theorem dX1_formOf_21 : decode cX1_formOf 21 = .ok (.aaload, 1) := by decide +kernel
theorem dX1_formOf_22 : decode cX1_formOf 22 = .ok (.areturn, 1) := by decide +kernel
theorem dX1_statementIn_0 : decode cX1_statementIn 0 = .ok (.iload_n 1, 1) := by decide +kernel
theorem dX1_statementIn_1 : decode cX1_statementIn 1 = .ok (.i2l, 1) := by decide +kernel
theorem dX1_statementIn_2 : decode cX1_statementIn 2 = .ok (.lconst 0, 1) := by decide +kernel
theorem dX1_statementIn_3 : decode cX1_statementIn 3 = .ok (.aload_n 0, 1) := by decide +kernel
theorem dX1_statementIn_4 : decode cX1_statementIn 4 = .ok (.getfield 232, 3) := by decide +kernel
theorem dX1_statementIn_7 : decode cX1_statementIn 7 = .ok (.iconst 1, 1) := by decide +kernel
theorem dX1_statementIn_8 : decode cX1_statementIn 8 = .ok (.isub, 1) := by decide +kernel
theorem dX1_statementIn_9 : decode cX1_statementIn 9 = .ok (.i2l, 1) := by decide +kernel
theorem dX1_statementIn_10 : decode cX1_statementIn 10 = .ok (.invokestatic 159, 3) := by decide +kernel
theorem dX1_statementIn_13 : decode cX1_statementIn 13 = .ok (.invokestatic 171, 3) := by decide +kernel
theorem dX1_statementIn_16 : decode cX1_statementIn 16 = .ok (.return_, 1) := by decide +kernel
theorem dX1_open_0 : decode cX1_open 0 = .ok (.aload_n 0, 1) := by decide +kernel
theorem dX1_open_1 : decode cX1_open 1 = .ok (.iload_n 1, 1) := by decide +kernel
theorem dX1_open_2 : decode cX1_open 2 = .ok (.invokevirtual 235, 3) := by decide +kernel
theorem dX1_open_5 : decode cX1_open 5 = .ok (.astore_n 3, 1) := by decide +kernel
theorem dX1_open_6 : decode cX1_open 6 = .ok (.aload_n 0, 1) := by decide +kernel
theorem dX1_open_7 : decode cX1_open 7 = .ok (.iload_n 2, 1) := by decide +kernel
theorem dX1_open_8 : decode cX1_open 8 = .ok (.invokevirtual 179, 3) := by decide +kernel
theorem dX1_open_11 : decode cX1_open 11 = .ok (.aload_n 0, 1) := by decide +kernel
theorem dX1_open_12 : decode cX1_open 12 = .ok (.getfield 11, 3) := by decide +kernel
theorem dX1_open_15 : decode cX1_open 15 = .ok (.iload_n 2, 1) := by decide +kernel
theorem dX1_open_16 : decode cX1_open 16 = .ok (.iaload, 1) := by decide +kernel
theorem dX1_open_17 : decode cX1_open 17 = .ok (.iconst (-1), 1) := by decide +kernel
theorem dX1_open_18 : decode cX1_open 18 = .ok (.if_icmp .ne 7, 3) := by decide +kernel
theorem dX1_open_21 : decode cX1_open 21 = .ok (.iconst 1, 1) := by decide +kernel
theorem dX1_open_22 : decode cX1_open 22 = .ok (.goto 4, 3) := by decide +kernel
theorem dX1_open_25 : decode cX1_open 25 = .ok (.iconst 0, 1) := by decide +kernel
theorem dX1_open_26 : decode cX1_open 26 = .ok (.invokestatic 190, 3) := by decide +kernel
theorem dX1_open_29 : decode cX1_open 29 = .ok (.aload_n 0, 1) := by decide +kernel
theorem dX1_open_30 : decode cX1_open 30 = .ok (.getfield 287, 3) := by decide +kernel
theorem dX1_open_33 : decode cX1_open 33 = .ok (.bipush 60, 2) := by decide +kernel
theorem dX1_open_35 : decode cX1_open 35 = .ok (.if_icmp .ge 7, 3) := by decide +kernel
theorem dX1_open_38 : decode cX1_open 38 = .ok (.iconst 1, 1) := by decide +kernel
theorem dX1_open_39 : decode cX1_open 39 = .ok (.goto 4, 3) := by decide +kernel
theorem dX1_open_42 : decode cX1_open 42 = .ok (.iconst 0, 1) := by decide +kernel
theorem dX1_open_43 : decode cX1_open 43 = .ok (.invokestatic 176, 3) := by decide +kernel
theorem dX1_open_46 : decode cX1_open 46 = .ok (.new 52, 3) := by decide +kernel
theorem dX1_open_49 : decode cX1_open 49 = .ok (.dup, 1) := by decide +kernel
theorem dX1_open_50 : decode cX1_open 50 = .ok (.aload_n 3, 1) := by decide +kernel
theorem dX1_open_51 : decode cX1_open 51 = .ok (.iload_n 1, 1) := by decide +kernel
theorem dX1_open_52 : decode cX1_open 52 = .ok (.iload_n 2, 1) := by decide +kernel
theorem dX1_open_53 : decode cX1_open 53 = .ok (.invokespecial 290, 3) := by decide +kernel
theorem dX1_open_56 : decode cX1_open 56 = .ok (.astore 4, 2) := by decide +kernel
theorem dX1_open_58 : decode cX1_open 58 = .ok (.iconst 0, 1) := by decide +kernel
theorem dX1_open_59 : decode cX1_open 59 = .ok (.istore 5, 2) := by decide +kernel
theorem dX1_open_61 : decode cX1_open 61 = .ok (.iload 5, 2) := by decide +kernel
theorem dX1_open_63 : decode cX1_open 63 = .ok (.bipush 6, 2) := by decide +kernel
theorem dX1_open_65 : decode cX1_open 65 = .ok (.if_icmp .ge 32, 3) := by decide +kernel
theorem dX1_open_68 : decode cX1_open 68 = .ok (.aload 4, 2) := by decide +kernel
theorem dX1_open_70 : decode cX1_open 70 = .ok (.getfield 293, 3) := by decide +kernel
theorem dX1_open_73 : decode cX1_open 73 = .ok (.iload 5, 2) := by decide +kernel
theorem dX1_open_75 : decode cX1_open 75 = .ok (.aload_n 0, 1) := by decide +kernel
theorem dX1_open_76 : decode cX1_open 76 = .ok (.iload_n 2, 1) := by decide +kernel
theorem dX1_open_77 : decode cX1_open 77 = .ok (.iload 5, 2) := by decide +kernel
theorem dX1_open_79 : decode cX1_open 79 = .ok (.aload_n 0, 1) := by decide +kernel
theorem dX1_open_80 : decode cX1_open 80 = .ok (.invokevirtual 196, 3) := by decide +kernel
theorem dX1_open_83 : decode cX1_open 83 = .ok (.aload_n 0, 1) := by decide +kernel
theorem dX1_open_84 : decode cX1_open 84 = .ok (.invokevirtual 196, 3) := by decide +kernel
theorem dX1_open_87 : decode cX1_open 87 = .ok (.invokevirtual 211, 3) := by decide +kernel
theorem dX1_open_90 : decode cX1_open 90 = .ok (.iastore, 1) := by decide +kernel
theorem dX1_open_91 : decode cX1_open 91 = .ok (.iinc 5 1, 3) := by decide +kernel
theorem dX1_open_94 : decode cX1_open 94 = .ok (.goto (-33), 3) := by decide +kernel
theorem dX1_open_97 : decode cX1_open 97 = .ok (.aload_n 0, 1) := by decide +kernel
theorem dX1_open_98 : decode cX1_open 98 = .ok (.aload 4, 2) := by decide +kernel
theorem dX1_open_100 : decode cX1_open 100 = .ok (.invokevirtual 296, 3) := by decide +kernel
theorem dX1_open_103 : decode cX1_open 103 = .ok (.aload_n 0, 1) := by decide +kernel
theorem dX1_open_104 : decode cX1_open 104 = .ok (.getfield 54, 3) := by decide +kernel
theorem dX1_open_107 : decode cX1_open 107 = .ok (.aload_n 0, 1) := by decide +kernel
theorem dX1_open_108 : decode cX1_open 108 = .ok (.getfield 287, 3) := by decide +kernel
theorem dX1_open_111 : decode cX1_open 111 = .ok (.aload 4, 2) := by decide +kernel
theorem dX1_open_113 : decode cX1_open 113 = .ok (.aastore, 1) := by decide +kernel
theorem dX1_open_114 : decode cX1_open 114 = .ok (.aload_n 0, 1) := by decide +kernel
theorem dX1_open_115 : decode cX1_open 115 = .ok (.dup, 1) := by decide +kernel
theorem dX1_open_116 : decode cX1_open 116 = .ok (.getfield 287, 3) := by decide +kernel
theorem dX1_open_119 : decode cX1_open 119 = .ok (.dup_x1, 1) := by decide +kernel
theorem dX1_open_120 : decode cX1_open 120 = .ok (.iconst 1, 1) := by decide +kernel
theorem dX1_open_121 : decode cX1_open 121 = .ok (.iadd, 1) := by decide +kernel
theorem dX1_open_122 : decode cX1_open 122 = .ok (.putfield 287, 3) := by decide +kernel
theorem dX1_open_125 : decode cX1_open 125 = .ok (.ireturn, 1) := by decide +kernel
theorem dX1_walk_0 : decode cX1_walk 0 = .ok (.aload_n 1, 1) := by decide +kernel
theorem dX1_walk_1 : decode cX1_walk 1 = .ok (.getfield 300, 3) := by decide +kernel
theorem dX1_walk_4 : decode cX1_walk 4 = .ok (.astore_n 2, 1) := by decide +kernel
theorem dX1_walk_5 : decode cX1_walk 5 = .ok (.iconst 0, 1) := by decide +kernel
theorem dX1_walk_6 : decode cX1_walk 6 = .ok (.istore_n 3, 1) := by decide +kernel
theorem dX1_walk_7 : decode cX1_walk 7 = .ok (.iload_n 3, 1) := by decide +kernel
theorem dX1_walk_8 : decode cX1_walk 8 = .ok (.bipush 20, 2) := by decide +kernel
theorem dX1_walk_10 : decode cX1_walk 10 = .ok (.if_icmp .ge 17, 3) := by decide +kernel
theorem dX1_walk_13 : decode cX1_walk 13 = .ok (.aload_n 1, 1) := by decide +kernel
theorem dX1_walk_14 : decode cX1_walk 14 = .ok (.getfield 302, 3) := by decide +kernel
theorem dX1_walk_17 : decode cX1_walk 17 = .ok (.iload_n 3, 1) := by decide +kernel
theorem dX1_walk_18 : decode cX1_walk 18 = .ok (.ldc 210, 2) := by decide +kernel
theorem dX1_walk_20 : decode cX1_walk 20 = .ok (.iastore, 1) := by decide +kernel
theorem dX1_walk_21 : decode cX1_walk 21 = .ok (.iinc 3 1, 3) := by decide +kernel
theorem dX1_walk_24 : decode cX1_walk 24 = .ok (.goto (-17), 3) := by decide +kernel
theorem dX1_walk_27 : decode cX1_walk 27 = .ok (.aload_n 1, 1) := by decide +kernel
theorem dX1_walk_28 : decode cX1_walk 28 = .ok (.aload_n 2, 1) := by decide +kernel
theorem dX1_walk_29 : decode cX1_walk 29 = .ok (.getfield 232, 3) := by decide +kernel
theorem dX1_walk_32 : decode cX1_walk 32 = .ok (.putfield 305, 3) := by decide +kernel
theorem dX1_walk_35 : decode cX1_walk 35 = .ok (.iconst 0, 1) := by decide +kernel
theorem dX1_walk_36 : decode cX1_walk 36 = .ok (.istore_n 3, 1) := by decide +kernel
theorem dX1_walk_37 : decode cX1_walk 37 = .ok (.iload_n 3, 1) := by decide +kernel
theorem dX1_walk_38 : decode cX1_walk 38 = .ok (.aload_n 1, 1) := by decide +kernel
theorem dX1_walk_39 : decode cX1_walk 39 = .ok (.getfield 305, 3) := by decide +kernel
theorem dX1_walk_42 : decode cX1_walk 42 = .ok (.if_icmp .ge 97, 3) := by decide +kernel
theorem dX1_walk_45 : decode cX1_walk 45 = .ok (.aload_n 2, 1) := by decide +kernel
theorem dX1_walk_46 : decode cX1_walk 46 = .ok (.getfield 245, 3) := by decide +kernel
theorem dX1_walk_49 : decode cX1_walk 49 = .ok (.iload_n 3, 1) := by decide +kernel
theorem dX1_walk_50 : decode cX1_walk 50 = .ok (.iaload, 1) := by decide +kernel
theorem dX1_walk_51 : decode cX1_walk 51 = .ok (.iconst 1, 1) := by decide +kernel
theorem dX1_walk_52 : decode cX1_walk 52 = .ok (.if_icmp .ne 26, 3) := by decide +kernel
theorem dX1_walk_55 : decode cX1_walk 55 = .ok (.aload_n 1, 1) := by decide +kernel
theorem dX1_walk_56 : decode cX1_walk 56 = .ok (.getfield 302, 3) := by decide +kernel
theorem dX1_walk_59 : decode cX1_walk 59 = .ok (.iload_n 3, 1) := by decide +kernel
theorem dX1_walk_60 : decode cX1_walk 60 = .ok (.aload_n 0, 1) := by decide +kernel
theorem dX1_walk_61 : decode cX1_walk 61 = .ok (.aload_n 2, 1) := by decide +kernel
theorem dX1_walk_62 : decode cX1_walk 62 = .ok (.iload_n 3, 1) := by decide +kernel
theorem dX1_walk_63 : decode cX1_walk 63 = .ok (.aload_n 1, 1) := by decide +kernel
theorem dX1_walk_64 : decode cX1_walk 64 = .ok (.getfield 302, 3) := by decide +kernel
theorem dX1_walk_67 : decode cX1_walk 67 = .ok (.aload_n 1, 1) := by decide +kernel
theorem dX1_walk_68 : decode cX1_walk 68 = .ok (.getfield 293, 3) := by decide +kernel
theorem dX1_walk_71 : decode cX1_walk 71 = .ok (.invokevirtual 308, 3) := by decide +kernel
theorem dX1_walk_74 : decode cX1_walk 74 = .ok (.iastore, 1) := by decide +kernel
theorem dX1_walk_75 : decode cX1_walk 75 = .ok (.goto 58, 3) := by decide +kernel
theorem dX1_walk_78 : decode cX1_walk 78 = .ok (.aload_n 2, 1) := by decide +kernel
theorem dX1_walk_79 : decode cX1_walk 79 = .ok (.getfield 245, 3) := by decide +kernel
theorem dX1_walk_82 : decode cX1_walk 82 = .ok (.iload_n 3, 1) := by decide +kernel
theorem dX1_walk_83 : decode cX1_walk 83 = .ok (.iaload, 1) := by decide +kernel
theorem dX1_walk_84 : decode cX1_walk 84 = .ok (.ifCond .ne 49, 3) := by decide +kernel
theorem dX1_walk_87 : decode cX1_walk 87 = .ok (.aload_n 0, 1) := by decide +kernel
theorem dX1_walk_88 : decode cX1_walk 88 = .ok (.aload_n 2, 1) := by decide +kernel
theorem dX1_walk_89 : decode cX1_walk 89 = .ok (.iload_n 3, 1) := by decide +kernel
theorem dX1_walk_90 : decode cX1_walk 90 = .ok (.aload_n 1, 1) := by decide +kernel
theorem dX1_walk_91 : decode cX1_walk 91 = .ok (.getfield 302, 3) := by decide +kernel
theorem dX1_walk_94 : decode cX1_walk 94 = .ok (.aload_n 1, 1) := by decide +kernel
theorem dX1_walk_95 : decode cX1_walk 95 = .ok (.getfield 293, 3) := by decide +kernel
theorem dX1_walk_98 : decode cX1_walk 98 = .ok (.invokevirtual 280, 3) := by decide +kernel
theorem dX1_walk_101 : decode cX1_walk 101 = .ok (.ifCond .eq 32, 3) := by decide +kernel
theorem dX1_walk_104 : decode cX1_walk 104 = .ok (.aload_n 1, 1) := by decide +kernel
theorem dX1_walk_105 : decode cX1_walk 105 = .ok (.getfield 312, 3) := by decide +kernel
theorem dX1_walk_108 : decode cX1_walk 108 = .ok (.iload_n 3, 1) := by decide +kernel
theorem dX1_walk_109 : decode cX1_walk 109 = .ok (.baload, 1) := by decide +kernel
theorem dX1_walk_110 : decode cX1_walk 110 = .ok (.ifCond .eq 18, 3) := by decide +kernel
theorem dX1_walk_113 : decode cX1_walk 113 = .ok (.aload_n 1, 1) := by decide +kernel
theorem dX1_walk_114 : decode cX1_walk 114 = .ok (.getfield 302, 3) := by decide +kernel
theorem dX1_walk_117 : decode cX1_walk 117 = .ok (.iload_n 3, 1) := by decide +kernel
theorem dX1_walk_118 : decode cX1_walk 118 = .ok (.aload_n 1, 1) := by decide +kernel
theorem dX1_walk_119 : decode cX1_walk 119 = .ok (.getfield 316, 3) := by decide +kernel
theorem dX1_walk_122 : decode cX1_walk 122 = .ok (.iload_n 3, 1) := by decide +kernel
theorem dX1_walk_123 : decode cX1_walk 123 = .ok (.iaload, 1) := by decide +kernel
theorem dX1_walk_124 : decode cX1_walk 124 = .ok (.iastore, 1) := by decide +kernel
theorem dX1_walk_125 : decode cX1_walk 125 = .ok (.goto 8, 3) := by decide +kernel
theorem dX1_walk_128 : decode cX1_walk 128 = .ok (.aload_n 1, 1) := by decide +kernel
theorem dX1_walk_129 : decode cX1_walk 129 = .ok (.iload_n 3, 1) := by decide +kernel
theorem dX1_walk_130 : decode cX1_walk 130 = .ok (.putfield 305, 3) := by decide +kernel
theorem dX1_walk_133 : decode cX1_walk 133 = .ok (.iinc 3 1, 3) := by decide +kernel
theorem dX1_walk_136 : decode cX1_walk 136 = .ok (.goto (-99), 3) := by decide +kernel
theorem dX1_walk_139 : decode cX1_walk 139 = .ok (.return_, 1) := by decide +kernel
theorem dX1_letOf_0 : decode cX1_letOf 0 = .ok (.aload_n 0, 1) := by decide +kernel
theorem dX1_letOf_1 : decode cX1_letOf 1 = .ok (.aload_n 1, 1) := by decide +kernel
theorem dX1_letOf_2 : decode cX1_letOf 2 = .ok (.iload_n 2, 1) := by decide +kernel
theorem dX1_letOf_3 : decode cX1_letOf 3 = .ok (.aload_n 3, 1) := by decide +kernel
theorem dX1_letOf_4 : decode cX1_letOf 4 = .ok (.aload 4, 2) := by decide +kernel
theorem dX1_letOf_6 : decode cX1_letOf 6 = .ok (.invokevirtual 280, 3) := by decide +kernel
theorem dX1_letOf_9 : decode cX1_letOf 9 = .ok (.ifCond .ne 6, 3) := by decide +kernel
theorem dX1_letOf_12 : decode cX1_letOf 12 = .ok (.ldc 210, 2) := by decide +kernel
theorem dX1_letOf_14 : decode cX1_letOf 14 = .ok (.ireturn, 1) := by decide +kernel
theorem dX1_letOf_15 : decode cX1_letOf 15 = .ok (.aload_n 0, 1) := by decide +kernel
theorem dX1_letOf_16 : decode cX1_letOf 16 = .ok (.aload_n 1, 1) := by decide +kernel
theorem dX1_letOf_17 : decode cX1_letOf 17 = .ok (.aload_n 1, 1) := by decide +kernel
theorem dX1_letOf_18 : decode cX1_letOf 18 = .ok (.getfield 284, 3) := by decide +kernel
theorem dX1_letOf_21 : decode cX1_letOf 21 = .ok (.iload_n 2, 1) := by decide +kernel
theorem dX1_letOf_22 : decode cX1_letOf 22 = .ok (.iaload, 1) := by decide +kernel
theorem dX1_letOf_23 : decode cX1_letOf 23 = .ok (.aload_n 1, 1) := by decide +kernel
theorem dX1_letOf_24 : decode cX1_letOf 24 = .ok (.getfield 270, 3) := by decide +kernel
theorem dX1_letOf_27 : decode cX1_letOf 27 = .ok (.iload_n 2, 1) := by decide +kernel
theorem dX1_letOf_28 : decode cX1_letOf 28 = .ok (.iaload, 1) := by decide +kernel
theorem dX1_letOf_29 : decode cX1_letOf 29 = .ok (.aload_n 3, 1) := by decide +kernel
theorem dX1_letOf_30 : decode cX1_letOf 30 = .ok (.aload 4, 2) := by decide +kernel
theorem dX1_letOf_32 : decode cX1_letOf 32 = .ok (.invokevirtual 276, 3) := by decide +kernel
theorem dX1_letOf_35 : decode cX1_letOf 35 = .ok (.ireturn, 1) := by decide +kernel
theorem dX1_holds_0 : decode cX1_holds 0 = .ok (.aload_n 1, 1) := by decide +kernel
theorem dX1_holds_1 : decode cX1_holds 1 = .ok (.getfield 270, 3) := by decide +kernel
theorem dX1_holds_4 : decode cX1_holds 4 = .ok (.iload_n 2, 1) := by decide +kernel
theorem dX1_holds_5 : decode cX1_holds 5 = .ok (.iaload, 1) := by decide +kernel
theorem dX1_holds_6 : decode cX1_holds 6 = .ok (.aload_n 1, 1) := by decide +kernel
theorem dX1_holds_7 : decode cX1_holds 7 = .ok (.getfield 273, 3) := by decide +kernel
theorem dX1_holds_10 : decode cX1_holds 10 = .ok (.iload_n 2, 1) := by decide +kernel
theorem dX1_holds_11 : decode cX1_holds 11 = .ok (.iaload, 1) := by decide +kernel
theorem dX1_holds_12 : decode cX1_holds 12 = .ok (.if_icmp .eq 27, 3) := by decide +kernel
theorem dX1_holds_15 : decode cX1_holds 15 = .ok (.aload_n 0, 1) := by decide +kernel
theorem dX1_holds_16 : decode cX1_holds 16 = .ok (.aload_n 1, 1) := by decide +kernel
theorem dX1_holds_17 : decode cX1_holds 17 = .ok (.aload_n 1, 1) := by decide +kernel
theorem dX1_holds_18 : decode cX1_holds 18 = .ok (.getfield 270, 3) := by decide +kernel
theorem dX1_holds_21 : decode cX1_holds 21 = .ok (.iload_n 2, 1) := by decide +kernel
theorem dX1_holds_22 : decode cX1_holds 22 = .ok (.iaload, 1) := by decide +kernel
theorem dX1_holds_23 : decode cX1_holds 23 = .ok (.aload_n 1, 1) := by decide +kernel
theorem dX1_holds_24 : decode cX1_holds 24 = .ok (.getfield 273, 3) := by decide +kernel
theorem dX1_holds_27 : decode cX1_holds 27 = .ok (.iload_n 2, 1) := by decide +kernel
theorem dX1_holds_28 : decode cX1_holds 28 = .ok (.iaload, 1) := by decide +kernel
theorem dX1_holds_29 : decode cX1_holds 29 = .ok (.aload_n 3, 1) := by decide +kernel
theorem dX1_holds_30 : decode cX1_holds 30 = .ok (.aload 4, 2) := by decide +kernel
theorem dX1_holds_32 : decode cX1_holds 32 = .ok (.invokevirtual 276, 3) := by decide +kernel
theorem dX1_holds_35 : decode cX1_holds 35 = .ok (.iconst 1, 1) := by decide +kernel
theorem dX1_holds_36 : decode cX1_holds 36 = .ok (.if_icmp .ne 7, 3) := by decide +kernel
theorem dX1_holds_39 : decode cX1_holds 39 = .ok (.iconst 1, 1) := by decide +kernel
theorem dX1_holds_40 : decode cX1_holds 40 = .ok (.goto 4, 3) := by decide +kernel
theorem dX1_holds_43 : decode cX1_holds 43 = .ok (.iconst 0, 1) := by decide +kernel
theorem dX1_holds_44 : decode cX1_holds 44 = .ok (.ireturn, 1) := by decide +kernel
theorem dX1_work_0 : decode cX1_work 0 = .ok (.iconst 0, 1) := by decide +kernel
theorem dX1_work_1 : decode cX1_work 1 = .ok (.istore 6, 2) := by decide +kernel
theorem dX1_work_3 : decode cX1_work 3 = .ok (.aload_n 0, 1) := by decide +kernel
theorem dX1_work_4 : decode cX1_work 4 = .ok (.iconst 0, 1) := by decide +kernel
theorem dX1_work_5 : decode cX1_work 5 = .ok (.putfield 257, 3) := by decide +kernel
theorem dX1_work_8 : decode cX1_work 8 = .ok (.iload_n 2, 1) := by decide +kernel
theorem dX1_work_9 : decode cX1_work 9 = .ok (.istore 7, 2) := by decide +kernel
theorem dX1_work_11 : decode cX1_work 11 = .ok (.iload 7, 2) := by decide +kernel
theorem dX1_work_13 : decode cX1_work 13 = .ok (.iload_n 3, 1) := by decide +kernel
theorem dX1_work_14 : decode cX1_work 14 = .ok (.if_icmp .ge 205, 3) := by decide +kernel
theorem dX1_work_17 : decode cX1_work 17 = .ok (.aload_n 1, 1) := by decide +kernel
theorem dX1_work_18 : decode cX1_work 18 = .ok (.getfield 261, 3) := by decide +kernel
theorem dX1_work_21 : decode cX1_work 21 = .ok (.iload 7, 2) := by decide +kernel
theorem dX1_work_23 : decode cX1_work 23 = .ok (.iaload, 1) := by decide +kernel
theorem dX1_work_24 : decode cX1_work 24 = .ok (.istore 8, 2) := by decide +kernel
theorem dX1_work_26 : decode cX1_work 26 = .ok (.aload_n 1, 1) := by decide +kernel
theorem dX1_work_27 : decode cX1_work 27 = .ok (.getfield 261, 3) := by decide +kernel
theorem dX1_work_30 : decode cX1_work 30 = .ok (.iload 7, 2) := by decide +kernel
theorem dX1_work_32 : decode cX1_work 32 = .ok (.iconst 1, 1) := by decide +kernel
theorem dX1_work_33 : decode cX1_work 33 = .ok (.iadd, 1) := by decide +kernel
theorem dX1_work_34 : decode cX1_work 34 = .ok (.iaload, 1) := by decide +kernel
theorem dX1_work_35 : decode cX1_work 35 = .ok (.istore 9, 2) := by decide +kernel
theorem dX1_work_37 : decode cX1_work 37 = .ok (.iload 8, 2) := by decide +kernel
theorem dX1_work_39 : decode cX1_work 39 = .ok (.iconst 2, 1) := by decide +kernel
theorem dX1_work_40 : decode cX1_work 40 = .ok (.if_icmp .gt 68, 3) := by decide +kernel
theorem dX1_work_43 : decode cX1_work 43 = .ok (.iload 8, 2) := by decide +kernel
theorem dX1_work_45 : decode cX1_work 45 = .ok (.ifCond .ne 8, 3) := by decide +kernel
theorem dX1_work_48 : decode cX1_work 48 = .ok (.iload 9, 2) := by decide +kernel
theorem dX1_work_50 : decode cX1_work 50 = .ok (.goto 22, 3) := by decide +kernel
theorem dX1_work_53 : decode cX1_work 53 = .ok (.iload 8, 2) := by decide +kernel
theorem dX1_work_55 : decode cX1_work 55 = .ok (.iconst 1, 1) := by decide +kernel
theorem dX1_work_56 : decode cX1_work 56 = .ok (.if_icmp .ne 11, 3) := by decide +kernel
theorem dX1_work_59 : decode cX1_work 59 = .ok (.aload 4, 2) := by decide +kernel
theorem dX1_work_61 : decode cX1_work 61 = .ok (.iload 9, 2) := by decide +kernel
theorem dX1_work_63 : decode cX1_work 63 = .ok (.iaload, 1) := by decide +kernel
theorem dX1_work_64 : decode cX1_work 64 = .ok (.goto 8, 3) := by decide +kernel
theorem dX1_work_67 : decode cX1_work 67 = .ok (.aload 5, 2) := by decide +kernel
theorem dX1_work_69 : decode cX1_work 69 = .ok (.iload 9, 2) := by decide +kernel
theorem dX1_work_71 : decode cX1_work 71 = .ok (.iaload, 1) := by decide +kernel
theorem dX1_work_72 : decode cX1_work 72 = .ok (.istore 10, 2) := by decide +kernel
theorem dX1_work_74 : decode cX1_work 74 = .ok (.aload_n 0, 1) := by decide +kernel
theorem dX1_work_75 : decode cX1_work 75 = .ok (.getfield 48, 3) := by decide +kernel
theorem dX1_work_78 : decode cX1_work 78 = .ok (.iload 6, 2) := by decide +kernel
theorem dX1_work_80 : decode cX1_work 80 = .ok (.iinc 6 1, 3) := by decide +kernel
theorem dX1_work_83 : decode cX1_work 83 = .ok (.iload 8, 2) := by decide +kernel
theorem dX1_work_85 : decode cX1_work 85 = .ok (.ifCond .eq 16, 3) := by decide +kernel
theorem dX1_work_88 : decode cX1_work 88 = .ok (.iload 10, 2) := by decide +kernel
theorem dX1_work_90 : decode cX1_work 90 = .ok (.ldc 210, 2) := by decide +kernel
theorem dX1_work_92 : decode cX1_work 92 = .ok (.if_icmp .ne 9, 3) := by decide +kernel
theorem dX1_work_95 : decode cX1_work 95 = .ok (.ldc2_w 264, 3) := by decide +kernel
theorem dX1_work_98 : decode cX1_work 98 = .ok (.goto 6, 3) := by decide +kernel
theorem dX1_work_101 : decode cX1_work 101 = .ok (.iload 10, 2) := by decide +kernel
theorem dX1_work_103 : decode cX1_work 103 = .ok (.i2l, 1) := by decide +kernel
theorem dX1_work_104 : decode cX1_work 104 = .ok (.lastore, 1) := by decide +kernel
theorem dX1_work_105 : decode cX1_work 105 = .ok (.goto 108, 3) := by decide +kernel
theorem dX1_work_108 : decode cX1_work 108 = .ok (.iload 8, 2) := by decide +kernel
theorem dX1_work_110 : decode cX1_work 110 = .ok (.iconst 5, 1) := by decide +kernel
theorem dX1_work_111 : decode cX1_work 111 = .ok (.if_icmp .ne 69, 3) := by decide +kernel
theorem dX1_work_114 : decode cX1_work 114 = .ok (.aload_n 0, 1) := by decide +kernel
theorem dX1_work_115 : decode cX1_work 115 = .ok (.getfield 48, 3) := by decide +kernel
theorem dX1_work_118 : decode cX1_work 118 = .ok (.iload 6, 2) := by decide +kernel
theorem dX1_work_120 : decode cX1_work 120 = .ok (.iconst 1, 1) := by decide +kernel
theorem dX1_work_121 : decode cX1_work 121 = .ok (.isub, 1) := by decide +kernel
theorem dX1_work_122 : decode cX1_work 122 = .ok (.laload, 1) := by decide +kernel
theorem dX1_work_123 : decode cX1_work 123 = .ok (.ldc2_w 188, 3) := by decide +kernel
theorem dX1_work_126 : decode cX1_work 126 = .ok (.ldc2_w 157, 3) := by decide +kernel
theorem dX1_work_129 : decode cX1_work 129 = .ok (.invokestatic 159, 3) := by decide +kernel
theorem dX1_work_132 : decode cX1_work 132 = .ok (.ifCond .ne 15, 3) := by decide +kernel
theorem dX1_work_135 : decode cX1_work 135 = .ok (.aload_n 0, 1) := by decide +kernel
theorem dX1_work_136 : decode cX1_work 136 = .ok (.getfield 48, 3) := by decide +kernel
theorem dX1_work_139 : decode cX1_work 139 = .ok (.iload 6, 2) := by decide +kernel
theorem dX1_work_141 : decode cX1_work 141 = .ok (.iconst 1, 1) := by decide +kernel
theorem dX1_work_142 : decode cX1_work 142 = .ok (.isub, 1) := by decide +kernel
theorem dX1_work_143 : decode cX1_work 143 = .ok (.ldc2_w 264, 3) := by decide +kernel
theorem dX1_work_146 : decode cX1_work 146 = .ok (.lastore, 1) := by decide +kernel
theorem dX1_work_147 : decode cX1_work 147 = .ok (.aload_n 0, 1) := by decide +kernel
theorem dX1_work_148 : decode cX1_work 148 = .ok (.dup, 1) := by decide +kernel
theorem dX1_work_149 : decode cX1_work 149 = .ok (.getfield 257, 3) := by decide +kernel
theorem dX1_work_152 : decode cX1_work 152 = .ok (.aload_n 0, 1) := by decide +kernel
theorem dX1_work_153 : decode cX1_work 153 = .ok (.getfield 48, 3) := by decide +kernel
theorem dX1_work_156 : decode cX1_work 156 = .ok (.iload 6, 2) := by decide +kernel
theorem dX1_work_158 : decode cX1_work 158 = .ok (.iconst 1, 1) := by decide +kernel
theorem dX1_work_159 : decode cX1_work 159 = .ok (.isub, 1) := by decide +kernel
theorem dX1_work_160 : decode cX1_work 160 = .ok (.laload, 1) := by decide +kernel
theorem dX1_work_161 : decode cX1_work 161 = .ok (.ldc2_w 264, 3) := by decide +kernel
theorem dX1_work_164 : decode cX1_work 164 = .ok (.lcmp, 1) := by decide +kernel
theorem dX1_work_165 : decode cX1_work 165 = .ok (.ifCond .ne 7, 3) := by decide +kernel
theorem dX1_work_168 : decode cX1_work 168 = .ok (.iconst 1, 1) := by decide +kernel
theorem dX1_work_169 : decode cX1_work 169 = .ok (.goto 4, 3) := by decide +kernel
theorem dX1_work_172 : decode cX1_work 172 = .ok (.iconst 0, 1) := by decide +kernel
theorem dX1_work_173 : decode cX1_work 173 = .ok (.ior, 1) := by decide +kernel
theorem dX1_work_174 : decode cX1_work 174 = .ok (.putfield 257, 3) := by decide +kernel
theorem dX1_work_177 : decode cX1_work 177 = .ok (.goto 36, 3) := by decide +kernel
theorem dX1_work_180 : decode cX1_work 180 = .ok (.iinc 6 (-1), 3) := by decide +kernel
theorem dX1_work_183 : decode cX1_work 183 = .ok (.aload_n 0, 1) := by decide +kernel
theorem dX1_work_184 : decode cX1_work 184 = .ok (.getfield 48, 3) := by decide +kernel
theorem dX1_work_187 : decode cX1_work 187 = .ok (.iload 6, 2) := by decide +kernel
theorem dX1_work_189 : decode cX1_work 189 = .ok (.iconst 1, 1) := by decide +kernel
theorem dX1_work_190 : decode cX1_work 190 = .ok (.isub, 1) := by decide +kernel
theorem dX1_work_191 : decode cX1_work 191 = .ok (.iload 8, 2) := by decide +kernel
theorem dX1_work_193 : decode cX1_work 193 = .ok (.aload_n 0, 1) := by decide +kernel
theorem dX1_work_194 : decode cX1_work 194 = .ok (.getfield 48, 3) := by decide +kernel
theorem dX1_work_197 : decode cX1_work 197 = .ok (.iload 6, 2) := by decide +kernel
theorem dX1_work_199 : decode cX1_work 199 = .ok (.iconst 1, 1) := by decide +kernel
theorem dX1_work_200 : decode cX1_work 200 = .ok (.isub, 1) := by decide +kernel
theorem dX1_work_201 : decode cX1_work 201 = .ok (.laload, 1) := by decide +kernel
theorem dX1_work_202 : decode cX1_work 202 = .ok (.aload_n 0, 1) := by decide +kernel
theorem dX1_work_203 : decode cX1_work 203 = .ok (.getfield 48, 3) := by decide +kernel
theorem dX1_work_206 : decode cX1_work 206 = .ok (.iload 6, 2) := by decide +kernel
theorem dX1_work_208 : decode cX1_work 208 = .ok (.laload, 1) := by decide +kernel
theorem dX1_work_209 : decode cX1_work 209 = .ok (.invokestatic 266, 3) := by decide +kernel
theorem dX1_work_212 : decode cX1_work 212 = .ok (.lastore, 1) := by decide +kernel
theorem dX1_work_213 : decode cX1_work 213 = .ok (.iinc 7 2, 3) := by decide +kernel
theorem dX1_work_216 : decode cX1_work 216 = .ok (.goto (-205), 3) := by decide +kernel
theorem dX1_work_219 : decode cX1_work 219 = .ok (.aload_n 0, 1) := by decide +kernel
theorem dX1_work_220 : decode cX1_work 220 = .ok (.getfield 48, 3) := by decide +kernel
theorem dX1_work_223 : decode cX1_work 223 = .ok (.iconst 0, 1) := by decide +kernel
theorem dX1_work_224 : decode cX1_work 224 = .ok (.laload, 1) := by decide +kernel
theorem dX1_work_225 : decode cX1_work 225 = .ok (.ldc2_w 264, 3) := by decide +kernel
theorem dX1_work_228 : decode cX1_work 228 = .ok (.lcmp, 1) := by decide +kernel
theorem dX1_work_229 : decode cX1_work 229 = .ok (.ifCond .ne 8, 3) := by decide +kernel
theorem dX1_work_232 : decode cX1_work 232 = .ok (.ldc 210, 2) := by decide +kernel
theorem dX1_work_234 : decode cX1_work 234 = .ok (.goto 10, 3) := by decide +kernel
theorem dX1_work_237 : decode cX1_work 237 = .ok (.aload_n 0, 1) := by decide +kernel
theorem dX1_work_238 : decode cX1_work 238 = .ok (.getfield 48, 3) := by decide +kernel
theorem dX1_work_241 : decode cX1_work 241 = .ok (.iconst 0, 1) := by decide +kernel
theorem dX1_work_242 : decode cX1_work 242 = .ok (.laload, 1) := by decide +kernel
theorem dX1_work_243 : decode cX1_work 243 = .ok (.l2i, 1) := by decide +kernel
theorem dX1_work_244 : decode cX1_work 244 = .ok (.ireturn, 1) := by decide +kernel
theorem dX1_both_0 : decode cX1_both 0 = .ok (.iload_n 0, 1) := by decide +kernel
theorem dX1_both_1 : decode cX1_both 1 = .ok (.bipush 6, 2) := by decide +kernel
theorem dX1_both_3 : decode cX1_both 3 = .ok (.if_icmp .ne 7, 3) := by decide +kernel
theorem dX1_both_6 : decode cX1_both 6 = .ok (.lload_n 1, 1) := by decide +kernel
theorem dX1_both_7 : decode cX1_both 7 = .ok (.lload_n 3, 1) := by decide +kernel
theorem dX1_both_8 : decode cX1_both 8 = .ok (.land, 1) := by decide +kernel
theorem dX1_both_9 : decode cX1_both 9 = .ok (.lreturn, 1) := by decide +kernel
theorem dX1_both_10 : decode cX1_both 10 = .ok (.iload_n 0, 1) := by decide +kernel
theorem dX1_both_11 : decode cX1_both 11 = .ok (.bipush 7, 2) := by decide +kernel
theorem dX1_both_13 : decode cX1_both 13 = .ok (.if_icmp .ne 7, 3) := by decide +kernel
theorem dX1_both_16 : decode cX1_both 16 = .ok (.lload_n 1, 1) := by decide +kernel
theorem dX1_both_17 : decode cX1_both 17 = .ok (.lload_n 3, 1) := by decide +kernel
theorem dX1_both_18 : decode cX1_both 18 = .ok (.lor, 1) := by decide +kernel
theorem dX1_both_19 : decode cX1_both 19 = .ok (.lreturn, 1) := by decide +kernel
theorem dX1_both_20 : decode cX1_both 20 = .ok (.lload_n 1, 1) := by decide +kernel
theorem dX1_both_21 : decode cX1_both 21 = .ok (.ldc2_w 264, 3) := by decide +kernel
theorem dX1_both_24 : decode cX1_both 24 = .ok (.lcmp, 1) := by decide +kernel
theorem dX1_both_25 : decode cX1_both 25 = .ok (.ifCond .eq 11, 3) := by decide +kernel
theorem dX1_both_28 : decode cX1_both 28 = .ok (.lload_n 3, 1) := by decide +kernel
theorem dX1_both_29 : decode cX1_both 29 = .ok (.ldc2_w 264, 3) := by decide +kernel
theorem dX1_both_32 : decode cX1_both 32 = .ok (.lcmp, 1) := by decide +kernel
theorem dX1_both_33 : decode cX1_both 33 = .ok (.ifCond .ne 7, 3) := by decide +kernel
theorem dX1_both_36 : decode cX1_both 36 = .ok (.iconst 1, 1) := by decide +kernel
theorem dX1_both_37 : decode cX1_both 37 = .ok (.goto 4, 3) := by decide +kernel
theorem dX1_both_40 : decode cX1_both 40 = .ok (.iconst 0, 1) := by decide +kernel
theorem dX1_both_41 : decode cX1_both 41 = .ok (.istore 5, 2) := by decide +kernel
theorem dX1_both_43 : decode cX1_both 43 = .ok (.iload_n 0, 1) := by decide +kernel
theorem dX1_both_44 : decode cX1_both 44 = .ok (.iconst 3, 1) := by decide +kernel
theorem dX1_both_45 : decode cX1_both 45 = .ok (.if_icmp .eq 8, 3) := by decide +kernel
theorem dX1_both_48 : decode cX1_both 48 = .ok (.iload_n 0, 1) := by decide +kernel
theorem dX1_both_49 : decode cX1_both 49 = .ok (.iconst 4, 1) := by decide +kernel
theorem dX1_both_50 : decode cX1_both 50 = .ok (.if_icmp .ne 29, 3) := by decide +kernel
theorem dX1_both_53 : decode cX1_both 53 = .ok (.iload 5, 2) := by decide +kernel
theorem dX1_both_55 : decode cX1_both 55 = .ok (.ifCond .eq 9, 3) := by decide +kernel
theorem dX1_both_58 : decode cX1_both 58 = .ok (.ldc2_w 264, 3) := by decide +kernel
theorem dX1_both_61 : decode cX1_both 61 = .ok (.goto 17, 3) := by decide +kernel
theorem dX1_both_64 : decode cX1_both 64 = .ok (.iload_n 0, 1) := by decide +kernel
theorem dX1_both_65 : decode cX1_both 65 = .ok (.iconst 3, 1) := by decide +kernel
theorem dX1_both_66 : decode cX1_both 66 = .ok (.if_icmp .ne 9, 3) := by decide +kernel
theorem dX1_both_69 : decode cX1_both 69 = .ok (.lload_n 1, 1) := by decide +kernel
theorem dX1_both_70 : decode cX1_both 70 = .ok (.lload_n 3, 1) := by decide +kernel
theorem dX1_both_71 : decode cX1_both 71 = .ok (.ladd, 1) := by decide +kernel
theorem dX1_both_72 : decode cX1_both 72 = .ok (.goto 6, 3) := by decide +kernel
theorem dX1_both_75 : decode cX1_both 75 = .ok (.lload_n 1, 1) := by decide +kernel
theorem dX1_both_76 : decode cX1_both 76 = .ok (.lload_n 3, 1) := by decide +kernel
theorem dX1_both_77 : decode cX1_both 77 = .ok (.lsub, 1) := by decide +kernel
theorem dX1_both_78 : decode cX1_both 78 = .ok (.lreturn, 1) := by decide +kernel
theorem dX1_both_79 : decode cX1_both 79 = .ok (.iload 5, 2) := by decide +kernel
theorem dX1_both_81 : decode cX1_both 81 = .ok (.ifCond .eq 5, 3) := by decide +kernel
theorem dX1_both_84 : decode cX1_both 84 = .ok (.lconst 0, 1) := by decide +kernel
theorem dX1_both_85 : decode cX1_both 85 = .ok (.lreturn, 1) := by decide +kernel
theorem dX1_both_86 : decode cX1_both 86 = .ok (.iload_n 0, 1) := by decide +kernel
theorem dX1_both_87 : decode cX1_both 87 = .ok (.bipush 8, 2) := by decide +kernel
theorem dX1_both_89 : decode cX1_both 89 = .ok (.isub, 1) := by decide +kernel
theorem dX1_both_90 : decode cX1_both 90 = .ok (.istore 6, 2) := by decide +kernel
theorem dX1_both_92 : decode cX1_both 92 = .ok (.iload 6, 2) := by decide +kernel
theorem dX1_both_94 : decode cX1_both 94 = .ok (.ifCond .ne 17, 3) := by decide +kernel
theorem dX1_both_97 : decode cX1_both 97 = .ok (.lload_n 1, 1) := by decide +kernel
theorem dX1_both_98 : decode cX1_both 98 = .ok (.lload_n 3, 1) := by decide +kernel
theorem dX1_both_99 : decode cX1_both 99 = .ok (.lcmp, 1) := by decide +kernel
theorem dX1_both_100 : decode cX1_both 100 = .ok (.ifCond .ge 7, 3) := by decide +kernel
theorem dX1_both_103 : decode cX1_both 103 = .ok (.iconst 1, 1) := by decide +kernel
theorem dX1_both_104 : decode cX1_both 104 = .ok (.goto 98, 3) := by decide +kernel
theorem dX1_both_107 : decode cX1_both 107 = .ok (.iconst 0, 1) := by decide +kernel
theorem dX1_both_108 : decode cX1_both 108 = .ok (.goto 94, 3) := by decide +kernel
theorem dX1_both_111 : decode cX1_both 111 = .ok (.iload 6, 2) := by decide +kernel
theorem dX1_both_113 : decode cX1_both 113 = .ok (.iconst 1, 1) := by decide +kernel
theorem dX1_both_114 : decode cX1_both 114 = .ok (.if_icmp .ne 17, 3) := by decide +kernel
theorem dX1_both_117 : decode cX1_both 117 = .ok (.lload_n 1, 1) := by decide +kernel
theorem dX1_both_118 : decode cX1_both 118 = .ok (.lload_n 3, 1) := by decide +kernel
theorem dX1_both_119 : decode cX1_both 119 = .ok (.lcmp, 1) := by decide +kernel
theorem dX1_both_120 : decode cX1_both 120 = .ok (.ifCond .gt 7, 3) := by decide +kernel
theorem dX1_both_123 : decode cX1_both 123 = .ok (.iconst 1, 1) := by decide +kernel
theorem dX1_both_124 : decode cX1_both 124 = .ok (.goto 78, 3) := by decide +kernel
theorem dX1_both_127 : decode cX1_both 127 = .ok (.iconst 0, 1) := by decide +kernel
theorem dX1_both_128 : decode cX1_both 128 = .ok (.goto 74, 3) := by decide +kernel
theorem dX1_both_131 : decode cX1_both 131 = .ok (.iload 6, 2) := by decide +kernel
theorem dX1_both_133 : decode cX1_both 133 = .ok (.iconst 2, 1) := by decide +kernel
theorem dX1_both_134 : decode cX1_both 134 = .ok (.if_icmp .ne 17, 3) := by decide +kernel
theorem dX1_both_137 : decode cX1_both 137 = .ok (.lload_n 1, 1) := by decide +kernel
theorem dX1_both_138 : decode cX1_both 138 = .ok (.lload_n 3, 1) := by decide +kernel
theorem dX1_both_139 : decode cX1_both 139 = .ok (.lcmp, 1) := by decide +kernel
theorem dX1_both_140 : decode cX1_both 140 = .ok (.ifCond .ne 7, 3) := by decide +kernel
theorem dX1_both_143 : decode cX1_both 143 = .ok (.iconst 1, 1) := by decide +kernel
theorem dX1_both_144 : decode cX1_both 144 = .ok (.goto 58, 3) := by decide +kernel
theorem dX1_both_147 : decode cX1_both 147 = .ok (.iconst 0, 1) := by decide +kernel
theorem dX1_both_148 : decode cX1_both 148 = .ok (.goto 54, 3) := by decide +kernel
theorem dX1_both_151 : decode cX1_both 151 = .ok (.iload 6, 2) := by decide +kernel
theorem dX1_both_153 : decode cX1_both 153 = .ok (.iconst 3, 1) := by decide +kernel
theorem dX1_both_154 : decode cX1_both 154 = .ok (.if_icmp .ne 17, 3) := by decide +kernel
theorem dX1_both_157 : decode cX1_both 157 = .ok (.lload_n 1, 1) := by decide +kernel
theorem dX1_both_158 : decode cX1_both 158 = .ok (.lload_n 3, 1) := by decide +kernel
theorem dX1_both_159 : decode cX1_both 159 = .ok (.lcmp, 1) := by decide +kernel
theorem dX1_both_160 : decode cX1_both 160 = .ok (.ifCond .eq 7, 3) := by decide +kernel
theorem dX1_both_163 : decode cX1_both 163 = .ok (.iconst 1, 1) := by decide +kernel
theorem dX1_both_164 : decode cX1_both 164 = .ok (.goto 38, 3) := by decide +kernel
theorem dX1_both_167 : decode cX1_both 167 = .ok (.iconst 0, 1) := by decide +kernel
theorem dX1_both_168 : decode cX1_both 168 = .ok (.goto 34, 3) := by decide +kernel
theorem dX1_both_171 : decode cX1_both 171 = .ok (.iload 6, 2) := by decide +kernel
theorem dX1_both_173 : decode cX1_both 173 = .ok (.iconst 4, 1) := by decide +kernel
theorem dX1_both_174 : decode cX1_both 174 = .ok (.if_icmp .ne 17, 3) := by decide +kernel
theorem dX1_both_177 : decode cX1_both 177 = .ok (.lload_n 1, 1) := by decide +kernel
theorem dX1_both_178 : decode cX1_both 178 = .ok (.lload_n 3, 1) := by decide +kernel
theorem dX1_both_179 : decode cX1_both 179 = .ok (.lcmp, 1) := by decide +kernel
theorem dX1_both_180 : decode cX1_both 180 = .ok (.ifCond .lt 7, 3) := by decide +kernel
theorem dX1_both_183 : decode cX1_both 183 = .ok (.iconst 1, 1) := by decide +kernel
theorem dX1_both_184 : decode cX1_both 184 = .ok (.goto 18, 3) := by decide +kernel
theorem dX1_both_187 : decode cX1_both 187 = .ok (.iconst 0, 1) := by decide +kernel
theorem dX1_both_188 : decode cX1_both 188 = .ok (.goto 14, 3) := by decide +kernel
theorem dX1_both_191 : decode cX1_both 191 = .ok (.lload_n 1, 1) := by decide +kernel
theorem dX1_both_192 : decode cX1_both 192 = .ok (.lload_n 3, 1) := by decide +kernel
theorem dX1_both_193 : decode cX1_both 193 = .ok (.lcmp, 1) := by decide +kernel
theorem dX1_both_194 : decode cX1_both 194 = .ok (.ifCond .le 7, 3) := by decide +kernel
theorem dX1_both_197 : decode cX1_both 197 = .ok (.iconst 1, 1) := by decide +kernel
theorem dX1_both_198 : decode cX1_both 198 = .ok (.goto 4, 3) := by decide +kernel
theorem dX1_both_201 : decode cX1_both 201 = .ok (.iconst 0, 1) := by decide +kernel
theorem dX1_both_202 : decode cX1_both 202 = .ok (.istore 7, 2) := by decide +kernel
theorem dX1_both_204 : decode cX1_both 204 = .ok (.iload 7, 2) := by decide +kernel
theorem dX1_both_206 : decode cX1_both 206 = .ok (.ifCond .eq 7, 3) := by decide +kernel
theorem dX1_both_209 : decode cX1_both 209 = .ok (.lconst 1, 1) := by decide +kernel
theorem dX1_both_210 : decode cX1_both 210 = .ok (.goto 4, 3) := by decide +kernel
theorem dX1_both_213 : decode cX1_both 213 = .ok (.lconst 0, 1) := by decide +kernel
theorem dX1_both_214 : decode cX1_both 214 = .ok (.lreturn, 1) := by decide +kernel
theorem dX1_question_0 : decode cX1_question 0 = .ok (.aload_n 0, 1) := by decide +kernel
theorem dX1_question_1 : decode cX1_question 1 = .ok (.iload_n 1, 1) := by decide +kernel
theorem dX1_question_2 : decode cX1_question 2 = .ok (.invokevirtual 322, 3) := by decide +kernel
theorem dX1_question_5 : decode cX1_question 5 = .ok (.astore_n 2, 1) := by decide +kernel
theorem dX1_question_6 : decode cX1_question 6 = .ok (.aload_n 2, 1) := by decide +kernel
theorem dX1_question_7 : decode cX1_question 7 = .ok (.invokestatic 326, 3) := by decide +kernel
theorem dX1_question_10 : decode cX1_question 10 = .ok (.ifCond .eq 7, 3) := by decide +kernel
theorem dX1_question_13 : decode cX1_question 13 = .ok (.iconst (-1), 1) := by decide +kernel
theorem dX1_question_14 : decode cX1_question 14 = .ok (.goto 7, 3) := by decide +kernel
theorem dX1_question_17 : decode cX1_question 17 = .ok (.aload_n 2, 1) := by decide +kernel
theorem dX1_question_18 : decode cX1_question 18 = .ok (.getfield 305, 3) := by decide +kernel
theorem dX1_question_21 : decode cX1_question 21 = .ok (.ireturn, 1) := by decide +kernel
theorem dX1_sessionOf_0 : decode cX1_sessionOf 0 = .ok (.iload_n 1, 1) := by decide +kernel
theorem dX1_sessionOf_1 : decode cX1_sessionOf 1 = .ok (.i2l, 1) := by decide +kernel
theorem dX1_sessionOf_2 : decode cX1_sessionOf 2 = .ok (.lconst 0, 1) := by decide +kernel
theorem dX1_sessionOf_3 : decode cX1_sessionOf 3 = .ok (.aload_n 0, 1) := by decide +kernel
theorem dX1_sessionOf_4 : decode cX1_sessionOf 4 = .ok (.getfield 287, 3) := by decide +kernel
theorem dX1_sessionOf_7 : decode cX1_sessionOf 7 = .ok (.iconst 1, 1) := by decide +kernel
theorem dX1_sessionOf_8 : decode cX1_sessionOf 8 = .ok (.isub, 1) := by decide +kernel
theorem dX1_sessionOf_9 : decode cX1_sessionOf 9 = .ok (.i2l, 1) := by decide +kernel
theorem dX1_sessionOf_10 : decode cX1_sessionOf 10 = .ok (.invokestatic 159, 3) := by decide +kernel
theorem dX1_sessionOf_13 : decode cX1_sessionOf 13 = .ok (.invokestatic 171, 3) := by decide +kernel
theorem dX1_sessionOf_16 : decode cX1_sessionOf 16 = .ok (.aload_n 0, 1) := by decide +kernel
theorem dX1_sessionOf_17 : decode cX1_sessionOf 17 = .ok (.getfield 54, 3) := by decide +kernel
theorem dX1_sessionOf_20 : decode cX1_sessionOf 20 = .ok (.iload_n 1, 1) := by decide +kernel
theorem dX1_sessionOf_21 : decode cX1_sessionOf 21 = .ok (.aaload, 1) := by decide +kernel
theorem dX1_sessionOf_22 : decode cX1_sessionOf 22 = .ok (.areturn, 1) := by decide +kernel
theorem dX1_isAtEnd_0 : decode cX1_isAtEnd 0 = .ok (.aload_n 0, 1) := by decide +kernel
theorem dX1_isAtEnd_1 : decode cX1_isAtEnd 1 = .ok (.getfield 305, 3) := by decide +kernel
theorem dX1_isAtEnd_4 : decode cX1_isAtEnd 4 = .ok (.aload_n 0, 1) := by decide +kernel
theorem dX1_isAtEnd_5 : decode cX1_isAtEnd 5 = .ok (.getfield 300, 3) := by decide +kernel
theorem dX1_isAtEnd_8 : decode cX1_isAtEnd 8 = .ok (.getfield 232, 3) := by decide +kernel
theorem dX1_isAtEnd_11 : decode cX1_isAtEnd 11 = .ok (.if_icmp .ne 7, 3) := by decide +kernel
theorem dX1_isAtEnd_14 : decode cX1_isAtEnd 14 = .ok (.iconst 1, 1) := by decide +kernel
theorem dX1_isAtEnd_15 : decode cX1_isAtEnd 15 = .ok (.goto 4, 3) := by decide +kernel
theorem dX1_isAtEnd_18 : decode cX1_isAtEnd 18 = .ok (.iconst 0, 1) := by decide +kernel
theorem dX1_isAtEnd_19 : decode cX1_isAtEnd 19 = .ok (.ireturn, 1) := by decide +kernel
theorem dX1_answer_0 : decode cX1_answer 0 = .ok (.aload_n 0, 1) := by decide +kernel
theorem dX1_answer_1 : decode cX1_answer 1 = .ok (.iload_n 1, 1) := by decide +kernel
theorem dX1_answer_2 : decode cX1_answer 2 = .ok (.invokevirtual 322, 3) := by decide +kernel
theorem dX1_answer_5 : decode cX1_answer 5 = .ok (.astore_n 3, 1) := by decide +kernel
theorem dX1_answer_6 : decode cX1_answer 6 = .ok (.aload_n 3, 1) := by decide +kernel
theorem dX1_answer_7 : decode cX1_answer 7 = .ok (.getfield 330, 3) := by decide +kernel
theorem dX1_answer_10 : decode cX1_answer 10 = .ok (.ifCond .ne 14, 3) := by decide +kernel
theorem dX1_answer_13 : decode cX1_answer 13 = .ok (.aload_n 3, 1) := by decide +kernel
theorem dX1_answer_14 : decode cX1_answer 14 = .ok (.invokestatic 326, 3) := by decide +kernel
theorem dX1_answer_17 : decode cX1_answer 17 = .ok (.ifCond .ne 7, 3) := by decide +kernel
theorem dX1_answer_20 : decode cX1_answer 20 = .ok (.iconst 1, 1) := by decide +kernel
theorem dX1_answer_21 : decode cX1_answer 21 = .ok (.goto 4, 3) := by decide +kernel
theorem dX1_answer_24 : decode cX1_answer 24 = .ok (.iconst 0, 1) := by decide +kernel
theorem dX1_answer_25 : decode cX1_answer 25 = .ok (.invokestatic 190, 3) := by decide +kernel
theorem dX1_answer_28 : decode cX1_answer 28 = .ok (.aload_n 3, 1) := by decide +kernel
theorem dX1_answer_29 : decode cX1_answer 29 = .ok (.getfield 305, 3) := by decide +kernel
theorem dX1_answer_32 : decode cX1_answer 32 = .ok (.istore 4, 2) := by decide +kernel
theorem dX1_answer_34 : decode cX1_answer 34 = .ok (.iload_n 2, 1) := by decide +kernel
theorem dX1_answer_35 : decode cX1_answer 35 = .ok (.i2l, 1) := by decide +kernel
theorem dX1_answer_36 : decode cX1_answer 36 = .ok (.aload_n 3, 1) := by decide +kernel
theorem dX1_answer_37 : decode cX1_answer 37 = .ok (.getfield 300, 3) := by decide +kernel
theorem dX1_answer_40 : decode cX1_answer 40 = .ok (.getfield 248, 3) := by decide +kernel
theorem dX1_answer_43 : decode cX1_answer 43 = .ok (.iload 4, 2) := by decide +kernel
theorem dX1_answer_45 : decode cX1_answer 45 = .ok (.iaload, 1) := by decide +kernel
theorem dX1_answer_46 : decode cX1_answer 46 = .ok (.i2l, 1) := by decide +kernel
theorem dX1_answer_47 : decode cX1_answer 47 = .ok (.aload_n 3, 1) := by decide +kernel
theorem dX1_answer_48 : decode cX1_answer 48 = .ok (.getfield 300, 3) := by decide +kernel
theorem dX1_answer_51 : decode cX1_answer 51 = .ok (.getfield 251, 3) := by decide +kernel
theorem dX1_answer_54 : decode cX1_answer 54 = .ok (.iload 4, 2) := by decide +kernel
theorem dX1_answer_56 : decode cX1_answer 56 = .ok (.iaload, 1) := by decide +kernel
theorem dX1_answer_57 : decode cX1_answer 57 = .ok (.i2l, 1) := by decide +kernel
theorem dX1_answer_58 : decode cX1_answer 58 = .ok (.invokestatic 159, 3) := by decide +kernel
theorem dX1_answer_61 : decode cX1_answer 61 = .ok (.invokestatic 164, 3) := by decide +kernel
theorem dX1_answer_64 : decode cX1_answer 64 = .ok (.iload 4, 2) := by decide +kernel
theorem dX1_answer_66 : decode cX1_answer 66 = .ok (.aload_n 3, 1) := by decide +kernel
theorem dX1_answer_67 : decode cX1_answer 67 = .ok (.getfield 333, 3) := by decide +kernel
theorem dX1_answer_70 : decode cX1_answer 70 = .ok (.if_icmp .ne 11, 3) := by decide +kernel
theorem dX1_answer_73 : decode cX1_answer 73 = .ok (.iload_n 2, 1) := by decide +kernel
theorem dX1_answer_74 : decode cX1_answer 74 = .ok (.aload_n 3, 1) := by decide +kernel
theorem dX1_answer_75 : decode cX1_answer 75 = .ok (.getfield 336, 3) := by decide +kernel
theorem dX1_answer_78 : decode cX1_answer 78 = .ok (.if_icmp .eq 8, 3) := by decide +kernel
theorem dX1_answer_81 : decode cX1_answer 81 = .ok (.aload_n 3, 1) := by decide +kernel
theorem dX1_answer_82 : decode cX1_answer 82 = .ok (.iconst 0, 1) := by decide +kernel
theorem dX1_answer_83 : decode cX1_answer 83 = .ok (.putfield 339, 3) := by decide +kernel
theorem dX1_answer_86 : decode cX1_answer 86 = .ok (.aload_n 3, 1) := by decide +kernel
theorem dX1_answer_87 : decode cX1_answer 87 = .ok (.iload 4, 2) := by decide +kernel
theorem dX1_answer_89 : decode cX1_answer 89 = .ok (.putfield 333, 3) := by decide +kernel
theorem dX1_answer_92 : decode cX1_answer 92 = .ok (.aload_n 3, 1) := by decide +kernel
theorem dX1_answer_93 : decode cX1_answer 93 = .ok (.iload_n 2, 1) := by decide +kernel
theorem dX1_answer_94 : decode cX1_answer 94 = .ok (.putfield 336, 3) := by decide +kernel
theorem dX1_answer_97 : decode cX1_answer 97 = .ok (.aload_n 0, 1) := by decide +kernel
theorem dX1_answer_98 : decode cX1_answer 98 = .ok (.aload_n 3, 1) := by decide +kernel
theorem dX1_answer_99 : decode cX1_answer 99 = .ok (.iload 4, 2) := by decide +kernel
theorem dX1_answer_101 : decode cX1_answer 101 = .ok (.iload_n 2, 1) := by decide +kernel
theorem dX1_answer_102 : decode cX1_answer 102 = .ok (.invokevirtual 342, 3) := by decide +kernel
theorem dX1_answer_105 : decode cX1_answer 105 = .ok (.aload_n 0, 1) := by decide +kernel
theorem dX1_answer_106 : decode cX1_answer 106 = .ok (.aload_n 3, 1) := by decide +kernel
theorem dX1_answer_107 : decode cX1_answer 107 = .ok (.iload 4, 2) := by decide +kernel
theorem dX1_answer_109 : decode cX1_answer 109 = .ok (.iconst 2, 1) := by decide +kernel
theorem dX1_answer_110 : decode cX1_answer 110 = .ok (.iconst 0, 1) := by decide +kernel
theorem dX1_answer_111 : decode cX1_answer 111 = .ok (.invokevirtual 346, 3) := by decide +kernel
theorem dX1_answer_114 : decode cX1_answer 114 = .ok (.istore 5, 2) := by decide +kernel
theorem dX1_answer_116 : decode cX1_answer 116 = .ok (.iload 5, 2) := by decide +kernel
theorem dX1_answer_118 : decode cX1_answer 118 = .ok (.iconst (-1), 1) := by decide +kernel
theorem dX1_answer_119 : decode cX1_answer 119 = .ok (.if_icmp .ne 18, 3) := by decide +kernel
theorem dX1_answer_122 : decode cX1_answer 122 = .ok (.aload_n 0, 1) := by decide +kernel
theorem dX1_answer_123 : decode cX1_answer 123 = .ok (.aload_n 3, 1) := by decide +kernel
theorem dX1_answer_124 : decode cX1_answer 124 = .ok (.iload 4, 2) := by decide +kernel
theorem dX1_answer_126 : decode cX1_answer 126 = .ok (.iconst 3, 1) := by decide +kernel
theorem dX1_answer_127 : decode cX1_answer 127 = .ok (.aload_n 3, 1) := by decide +kernel
theorem dX1_answer_128 : decode cX1_answer 128 = .ok (.getfield 339, 3) := by decide +kernel
theorem dX1_answer_131 : decode cX1_answer 131 = .ok (.invokevirtual 346, 3) := by decide +kernel
theorem dX1_answer_134 : decode cX1_answer 134 = .ok (.goto 4, 3) := by decide +kernel
theorem dX1_answer_137 : decode cX1_answer 137 = .ok (.iconst (-1), 1) := by decide +kernel
theorem dX1_answer_138 : decode cX1_answer 138 = .ok (.istore 6, 2) := by decide +kernel
theorem dX1_answer_140 : decode cX1_answer 140 = .ok (.iload 5, 2) := by decide +kernel
theorem dX1_answer_142 : decode cX1_answer 142 = .ok (.iconst (-1), 1) := by decide +kernel
theorem dX1_answer_143 : decode cX1_answer 143 = .ok (.if_icmp .ne 9, 3) := by decide +kernel
theorem dX1_answer_146 : decode cX1_answer 146 = .ok (.iload 6, 2) := by decide +kernel
theorem dX1_answer_148 : decode cX1_answer 148 = .ok (.iconst (-1), 1) := by decide +kernel
theorem dX1_answer_149 : decode cX1_answer 149 = .ok (.if_icmp .eq 50, 3) := by decide +kernel
theorem dX1_answer_152 : decode cX1_answer 152 = .ok (.aload_n 0, 1) := by decide +kernel
theorem dX1_answer_153 : decode cX1_answer 153 = .ok (.aload_n 3, 1) := by decide +kernel
theorem dX1_answer_154 : decode cX1_answer 154 = .ok (.iload 4, 2) := by decide +kernel
theorem dX1_answer_156 : decode cX1_answer 156 = .ok (.invokevirtual 350, 3) := by decide +kernel
theorem dX1_answer_159 : decode cX1_answer 159 = .ok (.iload 6, 2) := by decide +kernel
theorem dX1_answer_161 : decode cX1_answer 161 = .ok (.iconst (-1), 1) := by decide +kernel
theorem dX1_answer_162 : decode cX1_answer 162 = .ok (.if_icmp .eq 16, 3) := by decide +kernel
theorem dX1_answer_165 : decode cX1_answer 165 = .ok (.aload_n 3, 1) := by decide +kernel
theorem dX1_answer_166 : decode cX1_answer 166 = .ok (.dup, 1) := by decide +kernel
theorem dX1_answer_167 : decode cX1_answer 167 = .ok (.getfield 339, 3) := by decide +kernel
theorem dX1_answer_170 : decode cX1_answer 170 = .ok (.iconst 1, 1) := by decide +kernel
theorem dX1_answer_171 : decode cX1_answer 171 = .ok (.iload 6, 2) := by decide +kernel
theorem dX1_answer_173 : decode cX1_answer 173 = .ok (.ishl, 1) := by decide +kernel
theorem dX1_answer_174 : decode cX1_answer 174 = .ok (.ior, 1) := by decide +kernel
theorem dX1_answer_175 : decode cX1_answer 175 = .ok (.putfield 339, 3) := by decide +kernel
theorem dX1_answer_178 : decode cX1_answer 178 = .ok (.iload 5, 2) := by decide +kernel
theorem dX1_answer_180 : decode cX1_answer 180 = .ok (.iconst (-1), 1) := by decide +kernel
theorem dX1_answer_181 : decode cX1_answer 181 = .ok (.if_icmp .eq 11, 3) := by decide +kernel
theorem dX1_answer_184 : decode cX1_answer 184 = .ok (.bipush 100, 2) := by decide +kernel
theorem dX1_answer_186 : decode cX1_answer 186 = .ok (.iload 5, 2) := by decide +kernel
theorem dX1_answer_188 : decode cX1_answer 188 = .ok (.iadd, 1) := by decide +kernel
theorem dX1_answer_189 : decode cX1_answer 189 = .ok (.goto 9, 3) := by decide +kernel
theorem dX1_answer_192 : decode cX1_answer 192 = .ok (.sipush 200, 3) := by decide +kernel
theorem dX1_answer_195 : decode cX1_answer 195 = .ok (.iload 6, 2) := by decide +kernel
theorem dX1_answer_197 : decode cX1_answer 197 = .ok (.iadd, 1) := by decide +kernel
theorem dX1_answer_198 : decode cX1_answer 198 = .ok (.ireturn, 1) := by decide +kernel
theorem dX1_answer_199 : decode cX1_answer 199 = .ok (.aload_n 3, 1) := by decide +kernel
theorem dX1_answer_200 : decode cX1_answer 200 = .ok (.iconst 0, 1) := by decide +kernel
theorem dX1_answer_201 : decode cX1_answer 201 = .ok (.putfield 339, 3) := by decide +kernel
theorem dX1_answer_204 : decode cX1_answer 204 = .ok (.aload_n 3, 1) := by decide +kernel
theorem dX1_answer_205 : decode cX1_answer 205 = .ok (.getfield 354, 3) := by decide +kernel
theorem dX1_answer_208 : decode cX1_answer 208 = .ok (.iload 4, 2) := by decide +kernel
theorem dX1_answer_210 : decode cX1_answer 210 = .ok (.ldc 210, 2) := by decide +kernel
theorem dX1_answer_212 : decode cX1_answer 212 = .ok (.iastore, 1) := by decide +kernel
theorem dX1_answer_213 : decode cX1_answer 213 = .ok (.aload_n 0, 1) := by decide +kernel
theorem dX1_answer_214 : decode cX1_answer 214 = .ok (.aload_n 3, 1) := by decide +kernel
theorem dX1_answer_215 : decode cX1_answer 215 = .ok (.invokevirtual 357, 3) := by decide +kernel
theorem dX1_answer_218 : decode cX1_answer 218 = .ok (.iconst 0, 1) := by decide +kernel
theorem dX1_answer_219 : decode cX1_answer 219 = .ok (.ireturn, 1) := by decide +kernel
theorem dX1_give_0 : decode cX1_give 0 = .ok (.aload_n 1, 1) := by decide +kernel
theorem dX1_give_1 : decode cX1_give 1 = .ok (.getfield 312, 3) := by decide +kernel
theorem dX1_give_4 : decode cX1_give 4 = .ok (.iload_n 2, 1) := by decide +kernel
theorem dX1_give_5 : decode cX1_give 5 = .ok (.iconst 1, 1) := by decide +kernel
theorem dX1_give_6 : decode cX1_give 6 = .ok (.bastore, 1) := by decide +kernel
theorem dX1_give_7 : decode cX1_give 7 = .ok (.aload_n 1, 1) := by decide +kernel
theorem dX1_give_8 : decode cX1_give 8 = .ok (.getfield 316, 3) := by decide +kernel
theorem dX1_give_11 : decode cX1_give 11 = .ok (.iload_n 2, 1) := by decide +kernel
theorem dX1_give_12 : decode cX1_give 12 = .ok (.iload_n 3, 1) := by decide +kernel
theorem dX1_give_13 : decode cX1_give 13 = .ok (.iastore, 1) := by decide +kernel
theorem dX1_give_14 : decode cX1_give 14 = .ok (.aload_n 0, 1) := by decide +kernel
theorem dX1_give_15 : decode cX1_give 15 = .ok (.aload_n 1, 1) := by decide +kernel
theorem dX1_give_16 : decode cX1_give 16 = .ok (.invokevirtual 296, 3) := by decide +kernel
theorem dX1_give_19 : decode cX1_give 19 = .ok (.return_, 1) := by decide +kernel
theorem dX1_brokenBehind_0 : decode cX1_brokenBehind 0 = .ok (.iload_n 2, 1) := by decide +kernel
theorem dX1_brokenBehind_1 : decode cX1_brokenBehind 1 = .ok (.iconst 1, 1) := by decide +kernel
theorem dX1_brokenBehind_2 : decode cX1_brokenBehind 2 = .ok (.iadd, 1) := by decide +kernel
theorem dX1_brokenBehind_3 : decode cX1_brokenBehind 3 = .ok (.istore 5, 2) := by decide +kernel
theorem dX1_brokenBehind_5 : decode cX1_brokenBehind 5 = .ok (.iload 5, 2) := by decide +kernel
theorem dX1_brokenBehind_7 : decode cX1_brokenBehind 7 = .ok (.aload_n 1, 1) := by decide +kernel
theorem dX1_brokenBehind_8 : decode cX1_brokenBehind 8 = .ok (.getfield 305, 3) := by decide +kernel
theorem dX1_brokenBehind_11 : decode cX1_brokenBehind 11 = .ok (.if_icmp .ge 57, 3) := by decide +kernel
theorem dX1_brokenBehind_14 : decode cX1_brokenBehind 14 = .ok (.aload_n 1, 1) := by decide +kernel
theorem dX1_brokenBehind_15 : decode cX1_brokenBehind 15 = .ok (.getfield 300, 3) := by decide +kernel
theorem dX1_brokenBehind_18 : decode cX1_brokenBehind 18 = .ok (.getfield 245, 3) := by decide +kernel
theorem dX1_brokenBehind_21 : decode cX1_brokenBehind 21 = .ok (.iload 5, 2) := by decide +kernel
theorem dX1_brokenBehind_23 : decode cX1_brokenBehind 23 = .ok (.iaload, 1) := by decide +kernel
theorem dX1_brokenBehind_24 : decode cX1_brokenBehind 24 = .ok (.iload_n 3, 1) := by decide +kernel
theorem dX1_brokenBehind_25 : decode cX1_brokenBehind 25 = .ok (.if_icmp .ne 37, 3) := by decide +kernel
theorem dX1_brokenBehind_28 : decode cX1_brokenBehind 28 = .ok (.iload 4, 2) := by decide +kernel
theorem dX1_brokenBehind_30 : decode cX1_brokenBehind 30 = .ok (.iload 5, 2) := by decide +kernel
theorem dX1_brokenBehind_32 : decode cX1_brokenBehind 32 = .ok (.ishr, 1) := by decide +kernel
theorem dX1_brokenBehind_33 : decode cX1_brokenBehind 33 = .ok (.iconst 1, 1) := by decide +kernel
theorem dX1_brokenBehind_34 : decode cX1_brokenBehind 34 = .ok (.iand, 1) := by decide +kernel
theorem dX1_brokenBehind_35 : decode cX1_brokenBehind 35 = .ok (.ifCond .ne 27, 3) := by decide +kernel
theorem dX1_brokenBehind_38 : decode cX1_brokenBehind 38 = .ok (.aload_n 0, 1) := by decide +kernel
theorem dX1_brokenBehind_39 : decode cX1_brokenBehind 39 = .ok (.aload_n 1, 1) := by decide +kernel
theorem dX1_brokenBehind_40 : decode cX1_brokenBehind 40 = .ok (.getfield 300, 3) := by decide +kernel
theorem dX1_brokenBehind_43 : decode cX1_brokenBehind 43 = .ok (.iload 5, 2) := by decide +kernel
theorem dX1_brokenBehind_45 : decode cX1_brokenBehind 45 = .ok (.aload_n 1, 1) := by decide +kernel
theorem dX1_brokenBehind_46 : decode cX1_brokenBehind 46 = .ok (.getfield 302, 3) := by decide +kernel
theorem dX1_brokenBehind_49 : decode cX1_brokenBehind 49 = .ok (.aload_n 1, 1) := by decide +kernel
theorem dX1_brokenBehind_50 : decode cX1_brokenBehind 50 = .ok (.getfield 293, 3) := by decide +kernel
theorem dX1_brokenBehind_53 : decode cX1_brokenBehind 53 = .ok (.invokevirtual 319, 3) := by decide +kernel
theorem dX1_brokenBehind_56 : decode cX1_brokenBehind 56 = .ok (.ifCond .eq 6, 3) := by decide +kernel
theorem dX1_brokenBehind_59 : decode cX1_brokenBehind 59 = .ok (.iload 5, 2) := by decide +kernel
theorem dX1_brokenBehind_61 : decode cX1_brokenBehind 61 = .ok (.ireturn, 1) := by decide +kernel
theorem dX1_brokenBehind_62 : decode cX1_brokenBehind 62 = .ok (.iinc 5 1, 3) := by decide +kernel
theorem dX1_brokenBehind_65 : decode cX1_brokenBehind 65 = .ok (.goto (-60), 3) := by decide +kernel
theorem dX1_brokenBehind_68 : decode cX1_brokenBehind 68 = .ok (.iconst (-1), 1) := by decide +kernel
theorem dX1_brokenBehind_69 : decode cX1_brokenBehind 69 = .ok (.ireturn, 1) := by decide +kernel
theorem dX1_isBroken_0 : decode cX1_isBroken 0 = .ok (.aload_n 0, 1) := by decide +kernel
theorem dX1_isBroken_1 : decode cX1_isBroken 1 = .ok (.aload_n 1, 1) := by decide +kernel
theorem dX1_isBroken_2 : decode cX1_isBroken 2 = .ok (.aload_n 1, 1) := by decide +kernel
theorem dX1_isBroken_3 : decode cX1_isBroken 3 = .ok (.getfield 270, 3) := by decide +kernel
theorem dX1_isBroken_6 : decode cX1_isBroken 6 = .ok (.iload_n 2, 1) := by decide +kernel
theorem dX1_isBroken_7 : decode cX1_isBroken 7 = .ok (.iaload, 1) := by decide +kernel
theorem dX1_isBroken_8 : decode cX1_isBroken 8 = .ok (.aload_n 1, 1) := by decide +kernel
theorem dX1_isBroken_9 : decode cX1_isBroken 9 = .ok (.getfield 273, 3) := by decide +kernel
theorem dX1_isBroken_12 : decode cX1_isBroken 12 = .ok (.iload_n 2, 1) := by decide +kernel
theorem dX1_isBroken_13 : decode cX1_isBroken 13 = .ok (.iaload, 1) := by decide +kernel
theorem dX1_isBroken_14 : decode cX1_isBroken 14 = .ok (.aload_n 3, 1) := by decide +kernel
theorem dX1_isBroken_15 : decode cX1_isBroken 15 = .ok (.aload 4, 2) := by decide +kernel
theorem dX1_isBroken_17 : decode cX1_isBroken 17 = .ok (.invokevirtual 276, 3) := by decide +kernel
theorem dX1_isBroken_20 : decode cX1_isBroken 20 = .ok (.iconst 1, 1) := by decide +kernel
theorem dX1_isBroken_21 : decode cX1_isBroken 21 = .ok (.if_icmp .ne 7, 3) := by decide +kernel
theorem dX1_isBroken_24 : decode cX1_isBroken 24 = .ok (.iconst 1, 1) := by decide +kernel
theorem dX1_isBroken_25 : decode cX1_isBroken 25 = .ok (.goto 4, 3) := by decide +kernel
theorem dX1_isBroken_28 : decode cX1_isBroken 28 = .ok (.iconst 0, 1) := by decide +kernel
theorem dX1_isBroken_29 : decode cX1_isBroken 29 = .ok (.istore 5, 2) := by decide +kernel
theorem dX1_isBroken_31 : decode cX1_isBroken 31 = .ok (.iload 5, 2) := by decide +kernel
theorem dX1_isBroken_33 : decode cX1_isBroken 33 = .ok (.ifCond .ne 14, 3) := by decide +kernel
theorem dX1_isBroken_36 : decode cX1_isBroken 36 = .ok (.aload_n 0, 1) := by decide +kernel
theorem dX1_isBroken_37 : decode cX1_isBroken 37 = .ok (.getfield 257, 3) := by decide +kernel
theorem dX1_isBroken_40 : decode cX1_isBroken 40 = .ok (.ifCond .ne 7, 3) := by decide +kernel
theorem dX1_isBroken_43 : decode cX1_isBroken 43 = .ok (.iconst 1, 1) := by decide +kernel
theorem dX1_isBroken_44 : decode cX1_isBroken 44 = .ok (.goto 4, 3) := by decide +kernel
theorem dX1_isBroken_47 : decode cX1_isBroken 47 = .ok (.iconst 0, 1) := by decide +kernel
theorem dX1_isBroken_48 : decode cX1_isBroken 48 = .ok (.ireturn, 1) := by decide +kernel
theorem dX1_ungive_0 : decode cX1_ungive 0 = .ok (.aload_n 1, 1) := by decide +kernel
theorem dX1_ungive_1 : decode cX1_ungive 1 = .ok (.getfield 312, 3) := by decide +kernel
theorem dX1_ungive_4 : decode cX1_ungive 4 = .ok (.iload_n 2, 1) := by decide +kernel
theorem dX1_ungive_5 : decode cX1_ungive 5 = .ok (.iconst 0, 1) := by decide +kernel
theorem dX1_ungive_6 : decode cX1_ungive 6 = .ok (.bastore, 1) := by decide +kernel
theorem dX1_ungive_7 : decode cX1_ungive 7 = .ok (.aload_n 0, 1) := by decide +kernel
theorem dX1_ungive_8 : decode cX1_ungive 8 = .ok (.aload_n 1, 1) := by decide +kernel
theorem dX1_ungive_9 : decode cX1_ungive 9 = .ok (.invokevirtual 296, 3) := by decide +kernel
theorem dX1_ungive_12 : decode cX1_ungive 12 = .ok (.return_, 1) := by decide +kernel
theorem dX1_takeOn_0 : decode cX1_takeOn 0 = .ok (.iconst 1, 1) := by decide +kernel
theorem dX1_takeOn_1 : decode cX1_takeOn 1 = .ok (.istore_n 2, 1) := by decide +kernel
theorem dX1_takeOn_2 : decode cX1_takeOn 2 = .ok (.iload_n 2, 1) := by decide +kernel
theorem dX1_takeOn_3 : decode cX1_takeOn 3 = .ok (.ifCond .eq 95, 3) := by decide +kernel
theorem dX1_takeOn_6 : decode cX1_takeOn 6 = .ok (.aload_n 1, 1) := by decide +kernel
theorem dX1_takeOn_7 : decode cX1_takeOn 7 = .ok (.invokestatic 326, 3) := by decide +kernel
theorem dX1_takeOn_10 : decode cX1_takeOn 10 = .ok (.ifCond .ne 88, 3) := by decide +kernel
theorem dX1_takeOn_13 : decode cX1_takeOn 13 = .ok (.aload_n 1, 1) := by decide +kernel
theorem dX1_takeOn_14 : decode cX1_takeOn 14 = .ok (.getfield 354, 3) := by decide +kernel
theorem dX1_takeOn_17 : decode cX1_takeOn 17 = .ok (.aload_n 1, 1) := by decide +kernel
theorem dX1_takeOn_18 : decode cX1_takeOn 18 = .ok (.getfield 305, 3) := by decide +kernel
theorem dX1_takeOn_21 : decode cX1_takeOn 21 = .ok (.iaload, 1) := by decide +kernel
theorem dX1_takeOn_22 : decode cX1_takeOn 22 = .ok (.ldc 210, 2) := by decide +kernel
theorem dX1_takeOn_24 : decode cX1_takeOn 24 = .ok (.if_icmp .eq 74, 3) := by decide +kernel
theorem dX1_takeOn_27 : decode cX1_takeOn 27 = .ok (.aload_n 1, 1) := by decide +kernel
theorem dX1_takeOn_28 : decode cX1_takeOn 28 = .ok (.getfield 305, 3) := by decide +kernel
theorem dX1_takeOn_31 : decode cX1_takeOn 31 = .ok (.istore_n 3, 1) := by decide +kernel
theorem dX1_takeOn_32 : decode cX1_takeOn 32 = .ok (.aload_n 0, 1) := by decide +kernel
theorem dX1_takeOn_33 : decode cX1_takeOn 33 = .ok (.aload_n 1, 1) := by decide +kernel
theorem dX1_takeOn_34 : decode cX1_takeOn 34 = .ok (.iload_n 3, 1) := by decide +kernel
theorem dX1_takeOn_35 : decode cX1_takeOn 35 = .ok (.aload_n 1, 1) := by decide +kernel
theorem dX1_takeOn_36 : decode cX1_takeOn 36 = .ok (.getfield 354, 3) := by decide +kernel
theorem dX1_takeOn_39 : decode cX1_takeOn 39 = .ok (.iload_n 3, 1) := by decide +kernel
theorem dX1_takeOn_40 : decode cX1_takeOn 40 = .ok (.iaload, 1) := by decide +kernel
theorem dX1_takeOn_41 : decode cX1_takeOn 41 = .ok (.invokevirtual 342, 3) := by decide +kernel
theorem dX1_takeOn_44 : decode cX1_takeOn 44 = .ok (.aload_n 0, 1) := by decide +kernel
theorem dX1_takeOn_45 : decode cX1_takeOn 45 = .ok (.aload_n 1, 1) := by decide +kernel
theorem dX1_takeOn_46 : decode cX1_takeOn 46 = .ok (.iload_n 3, 1) := by decide +kernel
theorem dX1_takeOn_47 : decode cX1_takeOn 47 = .ok (.iconst 2, 1) := by decide +kernel
theorem dX1_takeOn_48 : decode cX1_takeOn 48 = .ok (.iconst 0, 1) := by decide +kernel
theorem dX1_takeOn_49 : decode cX1_takeOn 49 = .ok (.invokevirtual 346, 3) := by decide +kernel
theorem dX1_takeOn_52 : decode cX1_takeOn 52 = .ok (.iconst (-1), 1) := by decide +kernel
theorem dX1_takeOn_53 : decode cX1_takeOn 53 = .ok (.if_icmp .ne 19, 3) := by decide +kernel
theorem dX1_takeOn_56 : decode cX1_takeOn 56 = .ok (.aload_n 0, 1) := by decide +kernel
theorem dX1_takeOn_57 : decode cX1_takeOn 57 = .ok (.aload_n 1, 1) := by decide +kernel
theorem dX1_takeOn_58 : decode cX1_takeOn 58 = .ok (.iload_n 3, 1) := by decide +kernel
theorem dX1_takeOn_59 : decode cX1_takeOn 59 = .ok (.iconst 3, 1) := by decide +kernel
theorem dX1_takeOn_60 : decode cX1_takeOn 60 = .ok (.iconst 0, 1) := by decide +kernel
theorem dX1_takeOn_61 : decode cX1_takeOn 61 = .ok (.invokevirtual 346, 3) := by decide +kernel
theorem dX1_takeOn_64 : decode cX1_takeOn 64 = .ok (.iconst (-1), 1) := by decide +kernel
theorem dX1_takeOn_65 : decode cX1_takeOn 65 = .ok (.if_icmp .ne 7, 3) := by decide +kernel
theorem dX1_takeOn_68 : decode cX1_takeOn 68 = .ok (.iconst 1, 1) := by decide +kernel
theorem dX1_takeOn_69 : decode cX1_takeOn 69 = .ok (.goto 4, 3) := by decide +kernel
theorem dX1_takeOn_72 : decode cX1_takeOn 72 = .ok (.iconst 0, 1) := by decide +kernel
theorem dX1_takeOn_73 : decode cX1_takeOn 73 = .ok (.istore_n 2, 1) := by decide +kernel
theorem dX1_takeOn_74 : decode cX1_takeOn 74 = .ok (.iload_n 2, 1) := by decide +kernel
theorem dX1_takeOn_75 : decode cX1_takeOn 75 = .ok (.ifCond .eq 14, 3) := by decide +kernel
theorem dX1_takeOn_78 : decode cX1_takeOn 78 = .ok (.aload_n 1, 1) := by decide +kernel
theorem dX1_takeOn_79 : decode cX1_takeOn 79 = .ok (.getfield 354, 3) := by decide +kernel
theorem dX1_takeOn_82 : decode cX1_takeOn 82 = .ok (.iload_n 3, 1) := by decide +kernel
theorem dX1_takeOn_83 : decode cX1_takeOn 83 = .ok (.ldc 210, 2) := by decide +kernel
theorem dX1_takeOn_85 : decode cX1_takeOn 85 = .ok (.iastore, 1) := by decide +kernel
theorem dX1_takeOn_86 : decode cX1_takeOn 86 = .ok (.goto 9, 3) := by decide +kernel
theorem dX1_takeOn_89 : decode cX1_takeOn 89 = .ok (.aload_n 0, 1) := by decide +kernel
theorem dX1_takeOn_90 : decode cX1_takeOn 90 = .ok (.aload_n 1, 1) := by decide +kernel
theorem dX1_takeOn_91 : decode cX1_takeOn 91 = .ok (.iload_n 3, 1) := by decide +kernel
theorem dX1_takeOn_92 : decode cX1_takeOn 92 = .ok (.invokevirtual 350, 3) := by decide +kernel
theorem dX1_takeOn_95 : decode cX1_takeOn 95 = .ok (.goto (-93), 3) := by decide +kernel
theorem dX1_takeOn_98 : decode cX1_takeOn 98 = .ok (.return_, 1) := by decide +kernel
theorem dX1_back_0 : decode cX1_back 0 = .ok (.aload_n 0, 1) := by decide +kernel
theorem dX1_back_1 : decode cX1_back 1 = .ok (.iload_n 1, 1) := by decide +kernel
theorem dX1_back_2 : decode cX1_back 2 = .ok (.invokevirtual 322, 3) := by decide +kernel
theorem dX1_back_5 : decode cX1_back 5 = .ok (.astore_n 2, 1) := by decide +kernel
theorem dX1_back_6 : decode cX1_back 6 = .ok (.aload_n 2, 1) := by decide +kernel
theorem dX1_back_7 : decode cX1_back 7 = .ok (.getfield 330, 3) := by decide +kernel
theorem dX1_back_10 : decode cX1_back 10 = .ok (.ifCond .ne 7, 3) := by decide +kernel
theorem dX1_back_13 : decode cX1_back 13 = .ok (.iconst 1, 1) := by decide +kernel
theorem dX1_back_14 : decode cX1_back 14 = .ok (.goto 4, 3) := by decide +kernel
theorem dX1_back_17 : decode cX1_back 17 = .ok (.iconst 0, 1) := by decide +kernel
theorem dX1_back_18 : decode cX1_back 18 = .ok (.invokestatic 190, 3) := by decide +kernel
theorem dX1_back_21 : decode cX1_back 21 = .ok (.aload_n 2, 1) := by decide +kernel
theorem dX1_back_22 : decode cX1_back 22 = .ok (.getfield 305, 3) := by decide +kernel
theorem dX1_back_25 : decode cX1_back 25 = .ok (.iconst 1, 1) := by decide +kernel
theorem dX1_back_26 : decode cX1_back 26 = .ok (.isub, 1) := by decide +kernel
theorem dX1_back_27 : decode cX1_back 27 = .ok (.istore_n 3, 1) := by decide +kernel
theorem dX1_back_28 : decode cX1_back 28 = .ok (.iload_n 3, 1) := by decide +kernel
theorem dX1_back_29 : decode cX1_back 29 = .ok (.ifCond .lt 18, 3) := by decide +kernel
theorem dX1_back_32 : decode cX1_back 32 = .ok (.aload_n 2, 1) := by decide +kernel
theorem dX1_back_33 : decode cX1_back 33 = .ok (.getfield 312, 3) := by decide +kernel
theorem dX1_back_36 : decode cX1_back 36 = .ok (.iload_n 3, 1) := by decide +kernel
theorem dX1_back_37 : decode cX1_back 37 = .ok (.baload, 1) := by decide +kernel
theorem dX1_back_38 : decode cX1_back 38 = .ok (.ifCond .ne 9, 3) := by decide +kernel
theorem dX1_back_41 : decode cX1_back 41 = .ok (.iinc 3 (-1), 3) := by decide +kernel
theorem dX1_back_44 : decode cX1_back 44 = .ok (.goto (-16), 3) := by decide +kernel
theorem dX1_back_47 : decode cX1_back 47 = .ok (.iload_n 3, 1) := by decide +kernel
theorem dX1_back_48 : decode cX1_back 48 = .ok (.ifCond .ge 5, 3) := by decide +kernel
theorem dX1_back_51 : decode cX1_back 51 = .ok (.iconst (-1), 1) := by decide +kernel
theorem dX1_back_52 : decode cX1_back 52 = .ok (.ireturn, 1) := by decide +kernel
theorem dX1_back_53 : decode cX1_back 53 = .ok (.aload_n 2, 1) := by decide +kernel
theorem dX1_back_54 : decode cX1_back 54 = .ok (.getfield 354, 3) := by decide +kernel
theorem dX1_back_57 : decode cX1_back 57 = .ok (.iload_n 3, 1) := by decide +kernel
theorem dX1_back_58 : decode cX1_back 58 = .ok (.aload_n 2, 1) := by decide +kernel
theorem dX1_back_59 : decode cX1_back 59 = .ok (.getfield 316, 3) := by decide +kernel
theorem dX1_back_62 : decode cX1_back 62 = .ok (.iload_n 3, 1) := by decide +kernel
theorem dX1_back_63 : decode cX1_back 63 = .ok (.iaload, 1) := by decide +kernel
theorem dX1_back_64 : decode cX1_back 64 = .ok (.iastore, 1) := by decide +kernel
theorem dX1_back_65 : decode cX1_back 65 = .ok (.aload_n 2, 1) := by decide +kernel
theorem dX1_back_66 : decode cX1_back 66 = .ok (.iconst 0, 1) := by decide +kernel
theorem dX1_back_67 : decode cX1_back 67 = .ok (.putfield 339, 3) := by decide +kernel
theorem dX1_back_70 : decode cX1_back 70 = .ok (.aload_n 0, 1) := by decide +kernel
theorem dX1_back_71 : decode cX1_back 71 = .ok (.aload_n 2, 1) := by decide +kernel
theorem dX1_back_72 : decode cX1_back 72 = .ok (.iload_n 3, 1) := by decide +kernel
theorem dX1_back_73 : decode cX1_back 73 = .ok (.invokevirtual 350, 3) := by decide +kernel
theorem dX1_back_76 : decode cX1_back 76 = .ok (.iload_n 3, 1) := by decide +kernel
theorem dX1_back_77 : decode cX1_back 77 = .ok (.ireturn, 1) := by decide +kernel
theorem dX1_given_0 : decode cX1_given 0 = .ok (.aload_n 0, 1) := by decide +kernel
theorem dX1_given_1 : decode cX1_given 1 = .ok (.iload_n 1, 1) := by decide +kernel
theorem dX1_given_2 : decode cX1_given 2 = .ok (.invokevirtual 322, 3) := by decide +kernel
theorem dX1_given_5 : decode cX1_given 5 = .ok (.astore 4, 2) := by decide +kernel
theorem dX1_given_7 : decode cX1_given 7 = .ok (.aload 4, 2) := by decide +kernel
theorem dX1_given_9 : decode cX1_given 9 = .ok (.getfield 300, 3) := by decide +kernel
theorem dX1_given_12 : decode cX1_given 12 = .ok (.iload_n 2, 1) := by decide +kernel
theorem dX1_given_13 : decode cX1_given 13 = .ok (.invokestatic 239, 3) := by decide +kernel
theorem dX1_given_16 : decode cX1_given 16 = .ok (.iload_n 3, 1) := by decide +kernel
theorem dX1_given_17 : decode cX1_given 17 = .ok (.ifCond .eq 13, 3) := by decide +kernel
theorem dX1_given_20 : decode cX1_given 20 = .ok (.aload 4, 2) := by decide +kernel
theorem dX1_given_22 : decode cX1_given 22 = .ok (.getfield 354, 3) := by decide +kernel
theorem dX1_given_25 : decode cX1_given 25 = .ok (.iload_n 2, 1) := by decide +kernel
theorem dX1_given_26 : decode cX1_given 26 = .ok (.iaload, 1) := by decide +kernel
theorem dX1_given_27 : decode cX1_given 27 = .ok (.goto 10, 3) := by decide +kernel
theorem dX1_given_30 : decode cX1_given 30 = .ok (.aload 4, 2) := by decide +kernel
theorem dX1_given_32 : decode cX1_given 32 = .ok (.getfield 302, 3) := by decide +kernel
theorem dX1_given_35 : decode cX1_given 35 = .ok (.iload_n 2, 1) := by decide +kernel
theorem dX1_given_36 : decode cX1_given 36 = .ok (.iaload, 1) := by decide +kernel
theorem dX1_given_37 : decode cX1_given 37 = .ok (.ireturn, 1) := by decide +kernel
theorem dX1_close_0 : decode cX1_close 0 = .ok (.aload_n 0, 1) := by decide +kernel
theorem dX1_close_1 : decode cX1_close 1 = .ok (.iload_n 1, 1) := by decide +kernel
theorem dX1_close_2 : decode cX1_close 2 = .ok (.invokevirtual 322, 3) := by decide +kernel
theorem dX1_close_5 : decode cX1_close 5 = .ok (.astore_n 2, 1) := by decide +kernel
theorem dX1_close_6 : decode cX1_close 6 = .ok (.aload_n 2, 1) := by decide +kernel
theorem dX1_close_7 : decode cX1_close 7 = .ok (.getfield 330, 3) := by decide +kernel
theorem dX1_close_10 : decode cX1_close 10 = .ok (.ifCond .ne 14, 3) := by decide +kernel
theorem dX1_close_13 : decode cX1_close 13 = .ok (.aload_n 2, 1) := by decide +kernel
theorem dX1_close_14 : decode cX1_close 14 = .ok (.invokestatic 326, 3) := by decide +kernel
theorem dX1_close_17 : decode cX1_close 17 = .ok (.ifCond .eq 7, 3) := by decide +kernel
theorem dX1_close_20 : decode cX1_close 20 = .ok (.iconst 1, 1) := by decide +kernel
theorem dX1_close_21 : decode cX1_close 21 = .ok (.goto 4, 3) := by decide +kernel
theorem dX1_close_24 : decode cX1_close 24 = .ok (.iconst 0, 1) := by decide +kernel
theorem dX1_close_25 : decode cX1_close 25 = .ok (.invokestatic 190, 3) := by decide +kernel
theorem dX1_close_28 : decode cX1_close 28 = .ok (.aload_n 2, 1) := by decide +kernel
theorem dX1_close_29 : decode cX1_close 29 = .ok (.iconst 1, 1) := by decide +kernel
theorem dX1_close_30 : decode cX1_close 30 = .ok (.putfield 330, 3) := by decide +kernel
theorem dX1_close_33 : decode cX1_close 33 = .ok (.aload_n 0, 1) := by decide +kernel
theorem dX1_close_34 : decode cX1_close 34 = .ok (.getfield 60, 3) := by decide +kernel
theorem dX1_close_37 : decode cX1_close 37 = .ok (.aload_n 0, 1) := by decide +kernel
theorem dX1_close_38 : decode cX1_close 38 = .ok (.getfield 360, 3) := by decide +kernel
theorem dX1_close_41 : decode cX1_close 41 = .ok (.new 58, 3) := by decide +kernel
theorem dX1_close_44 : decode cX1_close 44 = .ok (.dup, 1) := by decide +kernel
theorem dX1_close_45 : decode cX1_close 45 = .ok (.aload_n 2, 1) := by decide +kernel
theorem dX1_close_46 : decode cX1_close 46 = .ok (.invokespecial 363, 3) := by decide +kernel
theorem dX1_close_49 : decode cX1_close 49 = .ok (.aastore, 1) := by decide +kernel
theorem dX1_close_50 : decode cX1_close 50 = .ok (.aload_n 0, 1) := by decide +kernel
theorem dX1_close_51 : decode cX1_close 51 = .ok (.dup, 1) := by decide +kernel
theorem dX1_close_52 : decode cX1_close 52 = .ok (.getfield 360, 3) := by decide +kernel
theorem dX1_close_55 : decode cX1_close 55 = .ok (.dup_x1, 1) := by decide +kernel
theorem dX1_close_56 : decode cX1_close 56 = .ok (.iconst 1, 1) := by decide +kernel
theorem dX1_close_57 : decode cX1_close 57 = .ok (.iadd, 1) := by decide +kernel
theorem dX1_close_58 : decode cX1_close 58 = .ok (.putfield 360, 3) := by decide +kernel
theorem dX1_close_61 : decode cX1_close 61 = .ok (.ireturn, 1) := by decide +kernel
theorem dX1_item_0 : decode cX1_item 0 = .ok (.aload_n 0, 1) := by decide +kernel
theorem dX1_item_1 : decode cX1_item 1 = .ok (.iload_n 1, 1) := by decide +kernel
theorem dX1_item_2 : decode cX1_item 2 = .ok (.invokevirtual 365, 3) := by decide +kernel
theorem dX1_item_5 : decode cX1_item 5 = .ok (.astore_n 3, 1) := by decide +kernel
theorem dX1_item_6 : decode cX1_item 6 = .ok (.aload_n 3, 1) := by decide +kernel
theorem dX1_item_7 : decode cX1_item 7 = .ok (.getfield 369, 3) := by decide +kernel
theorem dX1_item_10 : decode cX1_item 10 = .ok (.iload_n 2, 1) := by decide +kernel
theorem dX1_item_11 : decode cX1_item 11 = .ok (.invokestatic 239, 3) := by decide +kernel
theorem dX1_item_14 : decode cX1_item 14 = .ok (.aload_n 3, 1) := by decide +kernel
theorem dX1_item_15 : decode cX1_item 15 = .ok (.getfield 370, 3) := by decide +kernel
theorem dX1_item_18 : decode cX1_item 18 = .ok (.iload_n 2, 1) := by decide +kernel
theorem dX1_item_19 : decode cX1_item 19 = .ok (.iaload, 1) := by decide +kernel
theorem dX1_item_20 : decode cX1_item 20 = .ok (.ireturn, 1) := by decide +kernel
theorem dX1_recordOf_0 : decode cX1_recordOf 0 = .ok (.iload_n 1, 1) := by decide +kernel
theorem dX1_recordOf_1 : decode cX1_recordOf 1 = .ok (.i2l, 1) := by decide +kernel
theorem dX1_recordOf_2 : decode cX1_recordOf 2 = .ok (.lconst 0, 1) := by decide +kernel
theorem dX1_recordOf_3 : decode cX1_recordOf 3 = .ok (.aload_n 0, 1) := by decide +kernel
theorem dX1_recordOf_4 : decode cX1_recordOf 4 = .ok (.getfield 360, 3) := by decide +kernel
theorem dX1_recordOf_7 : decode cX1_recordOf 7 = .ok (.iconst 1, 1) := by decide +kernel
theorem dX1_recordOf_8 : decode cX1_recordOf 8 = .ok (.isub, 1) := by decide +kernel
theorem dX1_recordOf_9 : decode cX1_recordOf 9 = .ok (.i2l, 1) := by decide +kernel
theorem dX1_recordOf_10 : decode cX1_recordOf 10 = .ok (.invokestatic 159, 3) := by decide +kernel
theorem dX1_recordOf_13 : decode cX1_recordOf 13 = .ok (.invokestatic 171, 3) := by decide +kernel
theorem dX1_recordOf_16 : decode cX1_recordOf 16 = .ok (.aload_n 0, 1) := by decide +kernel
theorem dX1_recordOf_17 : decode cX1_recordOf 17 = .ok (.getfield 60, 3) := by decide +kernel
theorem dX1_recordOf_20 : decode cX1_recordOf 20 = .ok (.iload_n 1, 1) := by decide +kernel
theorem dX1_recordOf_21 : decode cX1_recordOf 21 = .ok (.aaload, 1) := by decide +kernel
theorem dX1_recordOf_22 : decode cX1_recordOf 22 = .ok (.areturn, 1) := by decide +kernel
theorem dX1_mark_0 : decode cX1_mark 0 = .ok (.aload_n 0, 1) := by decide +kernel
theorem dX1_mark_1 : decode cX1_mark 1 = .ok (.iload_n 1, 1) := by decide +kernel
theorem dX1_mark_2 : decode cX1_mark 2 = .ok (.invokevirtual 365, 3) := by decide +kernel
theorem dX1_mark_5 : decode cX1_mark 5 = .ok (.astore_n 3, 1) := by decide +kernel
theorem dX1_mark_6 : decode cX1_mark 6 = .ok (.aload_n 3, 1) := by decide +kernel
theorem dX1_mark_7 : decode cX1_mark 7 = .ok (.getfield 369, 3) := by decide +kernel
theorem dX1_mark_10 : decode cX1_mark 10 = .ok (.iload_n 2, 1) := by decide +kernel
theorem dX1_mark_11 : decode cX1_mark 11 = .ok (.invokestatic 239, 3) := by decide +kernel
theorem dX1_mark_14 : decode cX1_mark 14 = .ok (.aload_n 3, 1) := by decide +kernel
theorem dX1_mark_15 : decode cX1_mark 15 = .ok (.getfield 371, 3) := by decide +kernel
theorem dX1_mark_18 : decode cX1_mark 18 = .ok (.iload_n 2, 1) := by decide +kernel
theorem dX1_mark_19 : decode cX1_mark 19 = .ok (.iaload, 1) := by decide +kernel
theorem dX1_mark_20 : decode cX1_mark 20 = .ok (.ireturn, 1) := by decide +kernel
theorem dX1_rule_0 : decode cX1_rule 0 = .ok (.aload_n 0, 1) := by decide +kernel
theorem dX1_rule_1 : decode cX1_rule 1 = .ok (.iload_n 1, 1) := by decide +kernel
theorem dX1_rule_2 : decode cX1_rule 2 = .ok (.invokevirtual 235, 3) := by decide +kernel
theorem dX1_rule_5 : decode cX1_rule 5 = .ok (.astore 5, 2) := by decide +kernel
theorem dX1_rule_7 : decode cX1_rule 7 = .ok (.iload_n 2, 1) := by decide +kernel
theorem dX1_rule_8 : decode cX1_rule 8 = .ok (.i2l, 1) := by decide +kernel
theorem dX1_rule_9 : decode cX1_rule 9 = .ok (.ldc2_w 378, 3) := by decide +kernel
theorem dX1_rule_12 : decode cX1_rule 12 = .ok (.aload 5, 2) := by decide +kernel
theorem dX1_rule_14 : decode cX1_rule 14 = .ok (.getfield 232, 3) := by decide +kernel
theorem dX1_rule_17 : decode cX1_rule 17 = .ok (.iconst 1, 1) := by decide +kernel
theorem dX1_rule_18 : decode cX1_rule 18 = .ok (.isub, 1) := by decide +kernel
theorem dX1_rule_19 : decode cX1_rule 19 = .ok (.i2l, 1) := by decide +kernel
theorem dX1_rule_20 : decode cX1_rule 20 = .ok (.invokestatic 159, 3) := by decide +kernel
theorem dX1_rule_23 : decode cX1_rule 23 = .ok (.ifCond .eq 26, 3) := by decide +kernel
theorem dX1_rule_26 : decode cX1_rule 26 = .ok (.iload_n 3, 1) := by decide +kernel
theorem dX1_rule_27 : decode cX1_rule 27 = .ok (.i2l, 1) := by decide +kernel
theorem dX1_rule_28 : decode cX1_rule 28 = .ok (.ldc2_w 378, 3) := by decide +kernel
theorem dX1_rule_31 : decode cX1_rule 31 = .ok (.aload 5, 2) := by decide +kernel
theorem dX1_rule_33 : decode cX1_rule 33 = .ok (.getfield 232, 3) := by decide +kernel
theorem dX1_rule_36 : decode cX1_rule 36 = .ok (.iconst 1, 1) := by decide +kernel
theorem dX1_rule_37 : decode cX1_rule 37 = .ok (.isub, 1) := by decide +kernel
theorem dX1_rule_38 : decode cX1_rule 38 = .ok (.i2l, 1) := by decide +kernel
theorem dX1_rule_39 : decode cX1_rule 39 = .ok (.invokestatic 159, 3) := by decide +kernel
theorem dX1_rule_42 : decode cX1_rule 42 = .ok (.ifCond .eq 7, 3) := by decide +kernel
theorem dX1_rule_45 : decode cX1_rule 45 = .ok (.iconst 1, 1) := by decide +kernel
theorem dX1_rule_46 : decode cX1_rule 46 = .ok (.goto 4, 3) := by decide +kernel
theorem dX1_rule_49 : decode cX1_rule 49 = .ok (.iconst 0, 1) := by decide +kernel
theorem dX1_rule_50 : decode cX1_rule 50 = .ok (.invokestatic 171, 3) := by decide +kernel
theorem dX1_rule_53 : decode cX1_rule 53 = .ok (.aload 5, 2) := by decide +kernel
theorem dX1_rule_55 : decode cX1_rule 55 = .ok (.iload_n 2, 1) := by decide +kernel
theorem dX1_rule_56 : decode cX1_rule 56 = .ok (.invokestatic 380, 3) := by decide +kernel
theorem dX1_rule_59 : decode cX1_rule 59 = .ok (.aload 5, 2) := by decide +kernel
theorem dX1_rule_61 : decode cX1_rule 61 = .ok (.iload_n 3, 1) := by decide +kernel
theorem dX1_rule_62 : decode cX1_rule 62 = .ok (.invokestatic 380, 3) := by decide +kernel
theorem dX1_rule_65 : decode cX1_rule 65 = .ok (.iload_n 2, 1) := by decide +kernel
theorem dX1_rule_66 : decode cX1_rule 66 = .ok (.iload_n 3, 1) := by decide +kernel
theorem dX1_rule_67 : decode cX1_rule 67 = .ok (.if_icmp .eq 22, 3) := by decide +kernel
theorem dX1_rule_70 : decode cX1_rule 70 = .ok (.iload 4, 2) := by decide +kernel
theorem dX1_rule_72 : decode cX1_rule 72 = .ok (.i2l, 1) := by decide +kernel
theorem dX1_rule_73 : decode cX1_rule 73 = .ok (.ldc2_w 383, 3) := by decide +kernel
theorem dX1_rule_76 : decode cX1_rule 76 = .ok (.ldc2_w 385, 3) := by decide +kernel
theorem dX1_rule_79 : decode cX1_rule 79 = .ok (.invokestatic 159, 3) := by decide +kernel
theorem dX1_rule_82 : decode cX1_rule 82 = .ok (.ifCond .eq 7, 3) := by decide +kernel
theorem dX1_rule_85 : decode cX1_rule 85 = .ok (.iconst 1, 1) := by decide +kernel
theorem dX1_rule_86 : decode cX1_rule 86 = .ok (.goto 4, 3) := by decide +kernel
theorem dX1_rule_89 : decode cX1_rule 89 = .ok (.iconst 0, 1) := by decide +kernel
theorem dX1_rule_90 : decode cX1_rule 90 = .ok (.invokestatic 164, 3) := by decide +kernel
theorem dX1_rule_93 : decode cX1_rule 93 = .ok (.aload 5, 2) := by decide +kernel
theorem dX1_rule_95 : decode cX1_rule 95 = .ok (.getfield 387, 3) := by decide +kernel
theorem dX1_rule_98 : decode cX1_rule 98 = .ok (.bipush 16, 2) := by decide +kernel
theorem dX1_rule_100 : decode cX1_rule 100 = .ok (.if_icmp .ge 7, 3) := by decide +kernel
theorem dX1_rule_103 : decode cX1_rule 103 = .ok (.iconst 1, 1) := by decide +kernel
theorem dX1_rule_104 : decode cX1_rule 104 = .ok (.goto 4, 3) := by decide +kernel
theorem dX1_rule_107 : decode cX1_rule 107 = .ok (.iconst 0, 1) := by decide +kernel
theorem dX1_rule_108 : decode cX1_rule 108 = .ok (.invokestatic 176, 3) := by decide +kernel
theorem dX1_rule_111 : decode cX1_rule 111 = .ok (.aload 5, 2) := by decide +kernel
theorem dX1_rule_113 : decode cX1_rule 113 = .ok (.getfield 390, 3) := by decide +kernel
theorem dX1_rule_116 : decode cX1_rule 116 = .ok (.aload 5, 2) := by decide +kernel
theorem dX1_rule_118 : decode cX1_rule 118 = .ok (.getfield 387, 3) := by decide +kernel
theorem dX1_rule_121 : decode cX1_rule 121 = .ok (.iload_n 2, 1) := by decide +kernel
