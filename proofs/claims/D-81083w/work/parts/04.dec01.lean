set_option maxRecDepth 100000
theorem dX5_tell_46 : decode cX5_tell 46 = .ok (.ldc2_w 228, 3) := by decide +kernel
theorem dX5_tell_49 : decode cX5_tell 49 = .ok (.ldc2_w 205, 3) := by decide +kernel
theorem dX5_tell_52 : decode cX5_tell 52 = .ok (.invokestatic 207, 3) := by decide +kernel
theorem dX5_tell_55 : decode cX5_tell 55 = .ok (.ifCond .ne 9, 3) := by decide +kernel
theorem dX5_tell_58 : decode cX5_tell 58 = .ok (.aload_n 0, 1) := by decide +kernel
theorem dX5_tell_59 : decode cX5_tell 59 = .ok (.iconst 2, 1) := by decide +kernel
theorem dX5_tell_60 : decode cX5_tell 60 = .ok (.invokevirtual 213, 3) := by decide +kernel
theorem dX5_tell_63 : decode cX5_tell 63 = .ok (.ireturn, 1) := by decide +kernel
theorem dX5_tell_64 : decode cX5_tell 64 = .ok (.aload_n 0, 1) := by decide +kernel
theorem dX5_tell_65 : decode cX5_tell 65 = .ok (.getfield 7, 3) := by decide +kernel
theorem dX5_tell_68 : decode cX5_tell 68 = .ok (.iload_n 1, 1) := by decide +kernel
theorem dX5_tell_69 : decode cX5_tell 69 = .ok (.iaload, 1) := by decide +kernel
theorem dX5_tell_70 : decode cX5_tell 70 = .ok (.iconst (-1), 1) := by decide +kernel
theorem dX5_tell_71 : decode cX5_tell 71 = .ok (.if_icmp .eq 9, 3) := by decide +kernel
theorem dX5_tell_74 : decode cX5_tell 74 = .ok (.aload_n 0, 1) := by decide +kernel
theorem dX5_tell_75 : decode cX5_tell 75 = .ok (.iconst 3, 1) := by decide +kernel
theorem dX5_tell_76 : decode cX5_tell 76 = .ok (.invokevirtual 213, 3) := by decide +kernel
theorem dX5_tell_79 : decode cX5_tell 79 = .ok (.ireturn, 1) := by decide +kernel
theorem dX5_tell_80 : decode cX5_tell 80 = .ok (.aload_n 0, 1) := by decide +kernel
theorem dX5_tell_81 : decode cX5_tell 81 = .ok (.getfield 230, 3) := by decide +kernel
theorem dX5_tell_84 : decode cX5_tell 84 = .ok (.sipush 1500, 3) := by decide +kernel
theorem dX5_tell_87 : decode cX5_tell 87 = .ok (.if_icmp .ne 9, 3) := by decide +kernel
theorem dX5_tell_90 : decode cX5_tell 90 = .ok (.aload_n 0, 1) := by decide +kernel
theorem dX5_tell_91 : decode cX5_tell 91 = .ok (.iconst 4, 1) := by decide +kernel
theorem dX5_tell_92 : decode cX5_tell 92 = .ok (.invokevirtual 213, 3) := by decide +kernel
theorem dX5_tell_95 : decode cX5_tell 95 = .ok (.ireturn, 1) := by decide +kernel
theorem dX5_tell_96 : decode cX5_tell 96 = .ok (.aload_n 0, 1) := by decide +kernel
theorem dX5_tell_97 : decode cX5_tell 97 = .ok (.getfield 16, 3) := by decide +kernel
theorem dX5_tell_100 : decode cX5_tell 100 = .ok (.aload_n 0, 1) := by decide +kernel
theorem dX5_tell_101 : decode cX5_tell 101 = .ok (.getfield 230, 3) := by decide +kernel
theorem dX5_tell_104 : decode cX5_tell 104 = .ok (.iload_n 1, 1) := by decide +kernel
theorem dX5_tell_105 : decode cX5_tell 105 = .ok (.iastore, 1) := by decide +kernel
theorem dX5_tell_106 : decode cX5_tell 106 = .ok (.aload_n 0, 1) := by decide +kernel
theorem dX5_tell_107 : decode cX5_tell 107 = .ok (.getfield 19, 3) := by decide +kernel
theorem dX5_tell_110 : decode cX5_tell 110 = .ok (.aload_n 0, 1) := by decide +kernel
theorem dX5_tell_111 : decode cX5_tell 111 = .ok (.getfield 230, 3) := by decide +kernel
theorem dX5_tell_114 : decode cX5_tell 114 = .ok (.iload_n 2, 1) := by decide +kernel
theorem dX5_tell_115 : decode cX5_tell 115 = .ok (.iastore, 1) := by decide +kernel
theorem dX5_tell_116 : decode cX5_tell 116 = .ok (.aload_n 0, 1) := by decide +kernel
theorem dX5_tell_117 : decode cX5_tell 117 = .ok (.getfield 22, 3) := by decide +kernel
theorem dX5_tell_120 : decode cX5_tell 120 = .ok (.aload_n 0, 1) := by decide +kernel
theorem dX5_tell_121 : decode cX5_tell 121 = .ok (.getfield 230, 3) := by decide +kernel
theorem dX5_tell_124 : decode cX5_tell 124 = .ok (.iload_n 3, 1) := by decide +kernel
theorem dX5_tell_125 : decode cX5_tell 125 = .ok (.iastore, 1) := by decide +kernel
theorem dX5_tell_126 : decode cX5_tell 126 = .ok (.aload_n 0, 1) := by decide +kernel
theorem dX5_tell_127 : decode cX5_tell 127 = .ok (.getfield 25, 3) := by decide +kernel
theorem dX5_tell_130 : decode cX5_tell 130 = .ok (.aload_n 0, 1) := by decide +kernel
theorem dX5_tell_131 : decode cX5_tell 131 = .ok (.getfield 230, 3) := by decide +kernel
theorem dX5_tell_134 : decode cX5_tell 134 = .ok (.iload 4, 2) := by decide +kernel
theorem dX5_tell_136 : decode cX5_tell 136 = .ok (.iastore, 1) := by decide +kernel
theorem dX5_tell_137 : decode cX5_tell 137 = .ok (.aload_n 0, 1) := by decide +kernel
theorem dX5_tell_138 : decode cX5_tell 138 = .ok (.getfield 28, 3) := by decide +kernel
theorem dX5_tell_141 : decode cX5_tell 141 = .ok (.aload_n 0, 1) := by decide +kernel
theorem dX5_tell_142 : decode cX5_tell 142 = .ok (.getfield 230, 3) := by decide +kernel
theorem dX5_tell_145 : decode cX5_tell 145 = .ok (.aload_n 0, 1) := by decide +kernel
theorem dX5_tell_146 : decode cX5_tell 146 = .ok (.invokevirtual 233, 3) := by decide +kernel
theorem dX5_tell_149 : decode cX5_tell 149 = .ok (.iastore, 1) := by decide +kernel
theorem dX5_tell_150 : decode cX5_tell 150 = .ok (.aload_n 0, 1) := by decide +kernel
theorem dX5_tell_151 : decode cX5_tell 151 = .ok (.dup, 1) := by decide +kernel
theorem dX5_tell_152 : decode cX5_tell 152 = .ok (.getfield 230, 3) := by decide +kernel
theorem dX5_tell_155 : decode cX5_tell 155 = .ok (.iconst 1, 1) := by decide +kernel
theorem dX5_tell_156 : decode cX5_tell 156 = .ok (.iadd, 1) := by decide +kernel
theorem dX5_tell_157 : decode cX5_tell 157 = .ok (.putfield 230, 3) := by decide +kernel
theorem dX5_tell_160 : decode cX5_tell 160 = .ok (.aload_n 0, 1) := by decide +kernel
theorem dX5_tell_161 : decode cX5_tell 161 = .ok (.getfield 230, 3) := by decide +kernel
theorem dX5_tell_164 : decode cX5_tell 164 = .ok (.ireturn, 1) := by decide +kernel
theorem dX5_isUnit_0 : decode cX5_isUnit 0 = .ok (.iload_n 1, 1) := by decide +kernel
theorem dX5_isUnit_1 : decode cX5_isUnit 1 = .ok (.i2l, 1) := by decide +kernel
theorem dX5_isUnit_2 : decode cX5_isUnit 2 = .ok (.lconst 0, 1) := by decide +kernel
theorem dX5_isUnit_3 : decode cX5_isUnit 3 = .ok (.aload_n 0, 1) := by decide +kernel
theorem dX5_isUnit_4 : decode cX5_isUnit 4 = .ok (.getfield 217, 3) := by decide +kernel
theorem dX5_isUnit_7 : decode cX5_isUnit 7 = .ok (.iconst 1, 1) := by decide +kernel
theorem dX5_isUnit_8 : decode cX5_isUnit 8 = .ok (.isub, 1) := by decide +kernel
theorem dX5_isUnit_9 : decode cX5_isUnit 9 = .ok (.i2l, 1) := by decide +kernel
theorem dX5_isUnit_10 : decode cX5_isUnit 10 = .ok (.invokestatic 207, 3) := by decide +kernel
theorem dX5_isUnit_13 : decode cX5_isUnit 13 = .ok (.ireturn, 1) := by decide +kernel
theorem dX5_today_0 : decode cX5_today 0 = .ok (.aload_n 0, 1) := by decide +kernel
theorem dX5_today_1 : decode cX5_today 1 = .ok (.getfield 202, 3) := by decide +kernel
theorem dX5_today_4 : decode cX5_today 4 = .ok (.sipush 1440, 3) := by decide +kernel
theorem dX5_today_7 : decode cX5_today 7 = .ok (.idiv, 1) := by decide +kernel
theorem dX5_today_8 : decode cX5_today 8 = .ok (.ireturn, 1) := by decide +kernel
theorem dX5_merge_0 : decode cX5_merge 0 = .ok (.aload_n 0, 1) := by decide +kernel
theorem dX5_merge_1 : decode cX5_merge 1 = .ok (.iconst 0, 1) := by decide +kernel
theorem dX5_merge_2 : decode cX5_merge 2 = .ok (.putfield 198, 3) := by decide +kernel
theorem dX5_merge_5 : decode cX5_merge 5 = .ok (.aload_n 0, 1) := by decide +kernel
theorem dX5_merge_6 : decode cX5_merge 6 = .ok (.iload_n 1, 1) := by decide +kernel
theorem dX5_merge_7 : decode cX5_merge 7 = .ok (.invokevirtual 220, 3) := by decide +kernel
theorem dX5_merge_10 : decode cX5_merge 10 = .ok (.ifCond .eq 11, 3) := by decide +kernel
theorem dX5_merge_13 : decode cX5_merge 13 = .ok (.aload_n 0, 1) := by decide +kernel
theorem dX5_merge_14 : decode cX5_merge 14 = .ok (.iload_n 2, 1) := by decide +kernel
theorem dX5_merge_15 : decode cX5_merge 15 = .ok (.invokevirtual 220, 3) := by decide +kernel
theorem dX5_merge_18 : decode cX5_merge 18 = .ok (.ifCond .ne 9, 3) := by decide +kernel
theorem dX5_merge_21 : decode cX5_merge 21 = .ok (.aload_n 0, 1) := by decide +kernel
theorem dX5_merge_22 : decode cX5_merge 22 = .ok (.iconst 1, 1) := by decide +kernel
theorem dX5_merge_23 : decode cX5_merge 23 = .ok (.invokevirtual 213, 3) := by decide +kernel
theorem dX5_merge_26 : decode cX5_merge 26 = .ok (.ireturn, 1) := by decide +kernel
theorem dX5_merge_27 : decode cX5_merge 27 = .ok (.aload_n 0, 1) := by decide +kernel
theorem dX5_merge_28 : decode cX5_merge 28 = .ok (.getfield 7, 3) := by decide +kernel
theorem dX5_merge_31 : decode cX5_merge 31 = .ok (.iload_n 1, 1) := by decide +kernel
theorem dX5_merge_32 : decode cX5_merge 32 = .ok (.iaload, 1) := by decide +kernel
theorem dX5_merge_33 : decode cX5_merge 33 = .ok (.iconst (-1), 1) := by decide +kernel
theorem dX5_merge_34 : decode cX5_merge 34 = .ok (.if_icmp .ne 24, 3) := by decide +kernel
theorem dX5_merge_37 : decode cX5_merge 37 = .ok (.aload_n 0, 1) := by decide +kernel
theorem dX5_merge_38 : decode cX5_merge 38 = .ok (.iload_n 1, 1) := by decide +kernel
theorem dX5_merge_39 : decode cX5_merge 39 = .ok (.aload_n 0, 1) := by decide +kernel
theorem dX5_merge_40 : decode cX5_merge 40 = .ok (.invokevirtual 233, 3) := by decide +kernel
theorem dX5_merge_43 : decode cX5_merge 43 = .ok (.invokevirtual 237, 3) := by decide +kernel
theorem dX5_merge_46 : decode cX5_merge 46 = .ok (.aload_n 0, 1) := by decide +kernel
theorem dX5_merge_47 : decode cX5_merge 47 = .ok (.iload_n 2, 1) := by decide +kernel
theorem dX5_merge_48 : decode cX5_merge 48 = .ok (.aload_n 0, 1) := by decide +kernel
theorem dX5_merge_49 : decode cX5_merge 49 = .ok (.invokevirtual 233, 3) := by decide +kernel
theorem dX5_merge_52 : decode cX5_merge 52 = .ok (.invokevirtual 237, 3) := by decide +kernel
theorem dX5_merge_55 : decode cX5_merge 55 = .ok (.if_icmp .ne 9, 3) := by decide +kernel
theorem dX5_merge_58 : decode cX5_merge 58 = .ok (.aload_n 0, 1) := by decide +kernel
theorem dX5_merge_59 : decode cX5_merge 59 = .ok (.iconst 2, 1) := by decide +kernel
theorem dX5_merge_60 : decode cX5_merge 60 = .ok (.invokevirtual 213, 3) := by decide +kernel
theorem dX5_merge_63 : decode cX5_merge 63 = .ok (.ireturn, 1) := by decide +kernel
theorem dX5_merge_64 : decode cX5_merge 64 = .ok (.aload_n 0, 1) := by decide +kernel
theorem dX5_merge_65 : decode cX5_merge 65 = .ok (.getfield 7, 3) := by decide +kernel
theorem dX5_merge_68 : decode cX5_merge 68 = .ok (.iload_n 1, 1) := by decide +kernel
theorem dX5_merge_69 : decode cX5_merge 69 = .ok (.iload_n 2, 1) := by decide +kernel
theorem dX5_merge_70 : decode cX5_merge 70 = .ok (.iastore, 1) := by decide +kernel
theorem dX5_merge_71 : decode cX5_merge 71 = .ok (.aload_n 0, 1) := by decide +kernel
theorem dX5_merge_72 : decode cX5_merge 72 = .ok (.getfield 13, 3) := by decide +kernel
theorem dX5_merge_75 : decode cX5_merge 75 = .ok (.iload_n 1, 1) := by decide +kernel
theorem dX5_merge_76 : decode cX5_merge 76 = .ok (.aload_n 0, 1) := by decide +kernel
theorem dX5_merge_77 : decode cX5_merge 77 = .ok (.invokevirtual 233, 3) := by decide +kernel
theorem dX5_merge_80 : decode cX5_merge 80 = .ok (.iastore, 1) := by decide +kernel
theorem dX5_merge_81 : decode cX5_merge 81 = .ok (.aload_n 0, 1) := by decide +kernel
theorem dX5_merge_82 : decode cX5_merge 82 = .ok (.dup, 1) := by decide +kernel
theorem dX5_merge_83 : decode cX5_merge 83 = .ok (.getfield 241, 3) := by decide +kernel
theorem dX5_merge_86 : decode cX5_merge 86 = .ok (.iconst 1, 1) := by decide +kernel
theorem dX5_merge_87 : decode cX5_merge 87 = .ok (.iadd, 1) := by decide +kernel
theorem dX5_merge_88 : decode cX5_merge 88 = .ok (.putfield 241, 3) := by decide +kernel
theorem dX5_merge_91 : decode cX5_merge 91 = .ok (.aload_n 0, 1) := by decide +kernel
theorem dX5_merge_92 : decode cX5_merge 92 = .ok (.iload_n 1, 1) := by decide +kernel
theorem dX5_merge_93 : decode cX5_merge 93 = .ok (.aload_n 0, 1) := by decide +kernel
theorem dX5_merge_94 : decode cX5_merge 94 = .ok (.invokevirtual 233, 3) := by decide +kernel
theorem dX5_merge_97 : decode cX5_merge 97 = .ok (.invokevirtual 237, 3) := by decide +kernel
theorem dX5_merge_100 : decode cX5_merge 100 = .ok (.ireturn, 1) := by decide +kernel
theorem dX5_lastAs_0 : decode cX5_lastAs 0 = .ok (.iload_n 1, 1) := by decide +kernel
theorem dX5_lastAs_1 : decode cX5_lastAs 1 = .ok (.istore_n 3, 1) := by decide +kernel
theorem dX5_lastAs_2 : decode cX5_lastAs 2 = .ok (.aload_n 0, 1) := by decide +kernel
theorem dX5_lastAs_3 : decode cX5_lastAs 3 = .ok (.getfield 7, 3) := by decide +kernel
theorem dX5_lastAs_6 : decode cX5_lastAs 6 = .ok (.iload_n 3, 1) := by decide +kernel
theorem dX5_lastAs_7 : decode cX5_lastAs 7 = .ok (.iaload, 1) := by decide +kernel
theorem dX5_lastAs_8 : decode cX5_lastAs 8 = .ok (.iconst (-1), 1) := by decide +kernel
theorem dX5_lastAs_9 : decode cX5_lastAs 9 = .ok (.if_icmp .eq 23, 3) := by decide +kernel
theorem dX5_lastAs_12 : decode cX5_lastAs 12 = .ok (.aload_n 0, 1) := by decide +kernel
theorem dX5_lastAs_13 : decode cX5_lastAs 13 = .ok (.getfield 13, 3) := by decide +kernel
theorem dX5_lastAs_16 : decode cX5_lastAs 16 = .ok (.iload_n 3, 1) := by decide +kernel
theorem dX5_lastAs_17 : decode cX5_lastAs 17 = .ok (.iaload, 1) := by decide +kernel
theorem dX5_lastAs_18 : decode cX5_lastAs 18 = .ok (.iload_n 2, 1) := by decide +kernel
theorem dX5_lastAs_19 : decode cX5_lastAs 19 = .ok (.if_icmp .gt 13, 3) := by decide +kernel
theorem dX5_lastAs_22 : decode cX5_lastAs 22 = .ok (.aload_n 0, 1) := by decide +kernel
theorem dX5_lastAs_23 : decode cX5_lastAs 23 = .ok (.getfield 7, 3) := by decide +kernel
theorem dX5_lastAs_26 : decode cX5_lastAs 26 = .ok (.iload_n 3, 1) := by decide +kernel
theorem dX5_lastAs_27 : decode cX5_lastAs 27 = .ok (.iaload, 1) := by decide +kernel
theorem dX5_lastAs_28 : decode cX5_lastAs 28 = .ok (.istore_n 3, 1) := by decide +kernel
theorem dX5_lastAs_29 : decode cX5_lastAs 29 = .ok (.goto (-27), 3) := by decide +kernel
theorem dX5_lastAs_32 : decode cX5_lastAs 32 = .ok (.iload_n 3, 1) := by decide +kernel
theorem dX5_lastAs_33 : decode cX5_lastAs 33 = .ok (.ireturn, 1) := by decide +kernel
theorem dX5_value_0 : decode cX5_value 0 = .ok (.aload_n 0, 1) := by decide +kernel
theorem dX5_value_1 : decode cX5_value 1 = .ok (.iconst 0, 1) := by decide +kernel
theorem dX5_value_2 : decode cX5_value 2 = .ok (.putfield 198, 3) := by decide +kernel
theorem dX5_value_5 : decode cX5_value 5 = .ok (.aload_n 0, 1) := by decide +kernel
theorem dX5_value_6 : decode cX5_value 6 = .ok (.iload_n 1, 1) := by decide +kernel
theorem dX5_value_7 : decode cX5_value 7 = .ok (.invokevirtual 220, 3) := by decide +kernel
theorem dX5_value_10 : decode cX5_value 10 = .ok (.ifCond .eq 15, 3) := by decide +kernel
theorem dX5_value_13 : decode cX5_value 13 = .ok (.iload_n 2, 1) := by decide +kernel
theorem dX5_value_14 : decode cX5_value 14 = .ok (.i2l, 1) := by decide +kernel
theorem dX5_value_15 : decode cX5_value 15 = .ok (.lconst 0, 1) := by decide +kernel
theorem dX5_value_16 : decode cX5_value 16 = .ok (.ldc2_w 224, 3) := by decide +kernel
theorem dX5_value_19 : decode cX5_value 19 = .ok (.invokestatic 207, 3) := by decide +kernel
theorem dX5_value_22 : decode cX5_value 22 = .ok (.ifCond .ne 9, 3) := by decide +kernel
theorem dX5_value_25 : decode cX5_value 25 = .ok (.aload_n 0, 1) := by decide +kernel
theorem dX5_value_26 : decode cX5_value 26 = .ok (.iconst 1, 1) := by decide +kernel
theorem dX5_value_27 : decode cX5_value 27 = .ok (.invokevirtual 213, 3) := by decide +kernel
theorem dX5_value_30 : decode cX5_value 30 = .ok (.ireturn, 1) := by decide +kernel
theorem dX5_value_31 : decode cX5_value 31 = .ok (.iload_n 3, 1) := by decide +kernel
theorem dX5_value_32 : decode cX5_value 32 = .ok (.ifCond .lt 8, 3) := by decide +kernel
theorem dX5_value_35 : decode cX5_value 35 = .ok (.iload 4, 2) := by decide +kernel
theorem dX5_value_37 : decode cX5_value 37 = .ok (.ifCond .ge 11, 3) := by decide +kernel
theorem dX5_value_40 : decode cX5_value 40 = .ok (.aload_n 0, 1) := by decide +kernel
theorem dX5_value_41 : decode cX5_value 41 = .ok (.iconst 2, 1) := by decide +kernel
theorem dX5_value_42 : decode cX5_value 42 = .ok (.invokevirtual 213, 3) := by decide +kernel
theorem dX5_value_45 : decode cX5_value 45 = .ok (.goto 12, 3) := by decide +kernel
theorem dX5_value_48 : decode cX5_value 48 = .ok (.aload_n 0, 1) := by decide +kernel
theorem dX5_value_49 : decode cX5_value 49 = .ok (.iload_n 1, 1) := by decide +kernel
theorem dX5_value_50 : decode cX5_value 50 = .ok (.iload_n 2, 1) := by decide +kernel
theorem dX5_value_51 : decode cX5_value 51 = .ok (.iload_n 3, 1) := by decide +kernel
theorem dX5_value_52 : decode cX5_value 52 = .ok (.iload 4, 2) := by decide +kernel
theorem dX5_value_54 : decode cX5_value 54 = .ok (.invokevirtual 245, 3) := by decide +kernel
theorem dX5_value_57 : decode cX5_value 57 = .ok (.ireturn, 1) := by decide +kernel
theorem dX5_valueOf_0 : decode cX5_valueOf 0 = .ok (.iconst (-1), 1) := by decide +kernel
theorem dX5_valueOf_1 : decode cX5_valueOf 1 = .ok (.istore 5, 2) := by decide +kernel
theorem dX5_valueOf_3 : decode cX5_valueOf 3 = .ok (.iconst 0, 1) := by decide +kernel
theorem dX5_valueOf_4 : decode cX5_valueOf 4 = .ok (.istore 6, 2) := by decide +kernel
theorem dX5_valueOf_6 : decode cX5_valueOf 6 = .ok (.iload 6, 2) := by decide +kernel
theorem dX5_valueOf_8 : decode cX5_valueOf 8 = .ok (.aload_n 0, 1) := by decide +kernel
theorem dX5_valueOf_9 : decode cX5_valueOf 9 = .ok (.getfield 230, 3) := by decide +kernel
theorem dX5_valueOf_12 : decode cX5_valueOf 12 = .ok (.if_icmp .ge 110, 3) := by decide +kernel
theorem dX5_valueOf_15 : decode cX5_valueOf 15 = .ok (.aload_n 0, 1) := by decide +kernel
theorem dX5_valueOf_16 : decode cX5_valueOf 16 = .ok (.getfield 19, 3) := by decide +kernel
theorem dX5_valueOf_19 : decode cX5_valueOf 19 = .ok (.iload 6, 2) := by decide +kernel
theorem dX5_valueOf_21 : decode cX5_valueOf 21 = .ok (.iaload, 1) := by decide +kernel
theorem dX5_valueOf_22 : decode cX5_valueOf 22 = .ok (.iload_n 2, 1) := by decide +kernel
theorem dX5_valueOf_23 : decode cX5_valueOf 23 = .ok (.if_icmp .ne 53, 3) := by decide +kernel
theorem dX5_valueOf_26 : decode cX5_valueOf 26 = .ok (.aload_n 0, 1) := by decide +kernel
theorem dX5_valueOf_27 : decode cX5_valueOf 27 = .ok (.getfield 28, 3) := by decide +kernel
theorem dX5_valueOf_30 : decode cX5_valueOf 30 = .ok (.iload 6, 2) := by decide +kernel
theorem dX5_valueOf_32 : decode cX5_valueOf 32 = .ok (.iaload, 1) := by decide +kernel
theorem dX5_valueOf_33 : decode cX5_valueOf 33 = .ok (.iload 4, 2) := by decide +kernel
theorem dX5_valueOf_35 : decode cX5_valueOf 35 = .ok (.if_icmp .gt 41, 3) := by decide +kernel
theorem dX5_valueOf_38 : decode cX5_valueOf 38 = .ok (.aload_n 0, 1) := by decide +kernel
theorem dX5_valueOf_39 : decode cX5_valueOf 39 = .ok (.getfield 22, 3) := by decide +kernel
theorem dX5_valueOf_42 : decode cX5_valueOf 42 = .ok (.iload 6, 2) := by decide +kernel
theorem dX5_valueOf_44 : decode cX5_valueOf 44 = .ok (.iaload, 1) := by decide +kernel
theorem dX5_valueOf_45 : decode cX5_valueOf 45 = .ok (.iload_n 3, 1) := by decide +kernel
theorem dX5_valueOf_46 : decode cX5_valueOf 46 = .ok (.if_icmp .gt 30, 3) := by decide +kernel
theorem dX5_valueOf_49 : decode cX5_valueOf 49 = .ok (.aload_n 0, 1) := by decide +kernel
theorem dX5_valueOf_50 : decode cX5_valueOf 50 = .ok (.aload_n 0, 1) := by decide +kernel
theorem dX5_valueOf_51 : decode cX5_valueOf 51 = .ok (.getfield 16, 3) := by decide +kernel
theorem dX5_valueOf_54 : decode cX5_valueOf 54 = .ok (.iload 6, 2) := by decide +kernel
theorem dX5_valueOf_56 : decode cX5_valueOf 56 = .ok (.iaload, 1) := by decide +kernel
theorem dX5_valueOf_57 : decode cX5_valueOf 57 = .ok (.iload 4, 2) := by decide +kernel
theorem dX5_valueOf_59 : decode cX5_valueOf 59 = .ok (.invokevirtual 237, 3) := by decide +kernel
theorem dX5_valueOf_62 : decode cX5_valueOf 62 = .ok (.aload_n 0, 1) := by decide +kernel
theorem dX5_valueOf_63 : decode cX5_valueOf 63 = .ok (.iload_n 1, 1) := by decide +kernel
theorem dX5_valueOf_64 : decode cX5_valueOf 64 = .ok (.iload 4, 2) := by decide +kernel
theorem dX5_valueOf_66 : decode cX5_valueOf 66 = .ok (.invokevirtual 237, 3) := by decide +kernel
theorem dX5_valueOf_69 : decode cX5_valueOf 69 = .ok (.if_icmp .ne 7, 3) := by decide +kernel
theorem dX5_valueOf_72 : decode cX5_valueOf 72 = .ok (.iconst 1, 1) := by decide +kernel
theorem dX5_valueOf_73 : decode cX5_valueOf 73 = .ok (.goto 4, 3) := by decide +kernel
theorem dX5_valueOf_76 : decode cX5_valueOf 76 = .ok (.iconst 0, 1) := by decide +kernel
theorem dX5_valueOf_77 : decode cX5_valueOf 77 = .ok (.istore 7, 2) := by decide +kernel
theorem dX5_valueOf_79 : decode cX5_valueOf 79 = .ok (.iload 7, 2) := by decide +kernel
theorem dX5_valueOf_81 : decode cX5_valueOf 81 = .ok (.ifCond .eq 31, 3) := by decide +kernel
theorem dX5_valueOf_84 : decode cX5_valueOf 84 = .ok (.iload 5, 2) := by decide +kernel
theorem dX5_valueOf_86 : decode cX5_valueOf 86 = .ok (.iconst (-1), 1) := by decide +kernel
theorem dX5_valueOf_87 : decode cX5_valueOf 87 = .ok (.if_icmp .eq 20, 3) := by decide +kernel
theorem dX5_valueOf_90 : decode cX5_valueOf 90 = .ok (.aload_n 0, 1) := by decide +kernel
theorem dX5_valueOf_91 : decode cX5_valueOf 91 = .ok (.getfield 22, 3) := by decide +kernel
theorem dX5_valueOf_94 : decode cX5_valueOf 94 = .ok (.iload 6, 2) := by decide +kernel
theorem dX5_valueOf_96 : decode cX5_valueOf 96 = .ok (.iaload, 1) := by decide +kernel
theorem dX5_valueOf_97 : decode cX5_valueOf 97 = .ok (.aload_n 0, 1) := by decide +kernel
theorem dX5_valueOf_98 : decode cX5_valueOf 98 = .ok (.getfield 22, 3) := by decide +kernel
theorem dX5_valueOf_101 : decode cX5_valueOf 101 = .ok (.iload 5, 2) := by decide +kernel
theorem dX5_valueOf_103 : decode cX5_valueOf 103 = .ok (.iaload, 1) := by decide +kernel
theorem dX5_valueOf_104 : decode cX5_valueOf 104 = .ok (.if_icmp .lt 8, 3) := by decide +kernel
theorem dX5_valueOf_107 : decode cX5_valueOf 107 = .ok (.iload 6, 2) := by decide +kernel
theorem dX5_valueOf_109 : decode cX5_valueOf 109 = .ok (.goto 5, 3) := by decide +kernel
theorem dX5_valueOf_112 : decode cX5_valueOf 112 = .ok (.iload 5, 2) := by decide +kernel
theorem dX5_valueOf_114 : decode cX5_valueOf 114 = .ok (.istore 5, 2) := by decide +kernel
theorem dX5_valueOf_116 : decode cX5_valueOf 116 = .ok (.iinc 6 1, 3) := by decide +kernel
theorem dX5_valueOf_119 : decode cX5_valueOf 119 = .ok (.goto (-113), 3) := by decide +kernel
theorem dX5_valueOf_122 : decode cX5_valueOf 122 = .ok (.iload 5, 2) := by decide +kernel
theorem dX5_valueOf_124 : decode cX5_valueOf 124 = .ok (.iconst (-1), 1) := by decide +kernel
theorem dX5_valueOf_125 : decode cX5_valueOf 125 = .ok (.if_icmp .ne 8, 3) := by decide +kernel
theorem dX5_valueOf_128 : decode cX5_valueOf 128 = .ok (.ldc 244, 2) := by decide +kernel
theorem dX5_valueOf_130 : decode cX5_valueOf 130 = .ok (.goto 10, 3) := by decide +kernel
theorem dX5_valueOf_133 : decode cX5_valueOf 133 = .ok (.aload_n 0, 1) := by decide +kernel
theorem dX5_valueOf_134 : decode cX5_valueOf 134 = .ok (.getfield 25, 3) := by decide +kernel
theorem dX5_valueOf_137 : decode cX5_valueOf 137 = .ok (.iload 5, 2) := by decide +kernel
theorem dX5_valueOf_139 : decode cX5_valueOf 139 = .ok (.iaload, 1) := by decide +kernel
theorem dX5_valueOf_140 : decode cX5_valueOf 140 = .ok (.ireturn, 1) := by decide +kernel
theorem dX5_last_0 : decode cX5_last 0 = .ok (.aload_n 0, 1) := by decide +kernel
theorem dX5_last_1 : decode cX5_last 1 = .ok (.iconst 0, 1) := by decide +kernel
theorem dX5_last_2 : decode cX5_last 2 = .ok (.putfield 198, 3) := by decide +kernel
theorem dX5_last_5 : decode cX5_last 5 = .ok (.aload_n 0, 1) := by decide +kernel
theorem dX5_last_6 : decode cX5_last 6 = .ok (.iload_n 1, 1) := by decide +kernel
theorem dX5_last_7 : decode cX5_last 7 = .ok (.invokevirtual 220, 3) := by decide +kernel
theorem dX5_last_10 : decode cX5_last 10 = .ok (.ifCond .eq 15, 3) := by decide +kernel
theorem dX5_last_13 : decode cX5_last 13 = .ok (.aload_n 0, 1) := by decide +kernel
theorem dX5_last_14 : decode cX5_last 14 = .ok (.iload_n 1, 1) := by decide +kernel
theorem dX5_last_15 : decode cX5_last 15 = .ok (.aload_n 0, 1) := by decide +kernel
theorem dX5_last_16 : decode cX5_last 16 = .ok (.invokevirtual 233, 3) := by decide +kernel
theorem dX5_last_19 : decode cX5_last 19 = .ok (.invokevirtual 237, 3) := by decide +kernel
theorem dX5_last_22 : decode cX5_last 22 = .ok (.goto 8, 3) := by decide +kernel
theorem dX5_last_25 : decode cX5_last 25 = .ok (.aload_n 0, 1) := by decide +kernel
theorem dX5_last_26 : decode cX5_last 26 = .ok (.iconst 1, 1) := by decide +kernel
theorem dX5_last_27 : decode cX5_last 27 = .ok (.invokevirtual 213, 3) := by decide +kernel
theorem dX5_last_30 : decode cX5_last 30 = .ok (.ireturn, 1) := by decide +kernel
theorem dX5_feed_0 : decode cX5_feed 0 = .ok (.aload_n 0, 1) := by decide +kernel
theorem dX5_feed_1 : decode cX5_feed 1 = .ok (.iconst 0, 1) := by decide +kernel
theorem dX5_feed_2 : decode cX5_feed 2 = .ok (.putfield 198, 3) := by decide +kernel
theorem dX5_feed_5 : decode cX5_feed 5 = .ok (.aload_n 0, 1) := by decide +kernel
theorem dX5_feed_6 : decode cX5_feed 6 = .ok (.getfield 249, 3) := by decide +kernel
theorem dX5_feed_9 : decode cX5_feed 9 = .ok (.bipush 20, 2) := by decide +kernel
theorem dX5_feed_11 : decode cX5_feed 11 = .ok (.iadd, 1) := by decide +kernel
theorem dX5_feed_12 : decode cX5_feed 12 = .ok (.sipush 1200, 3) := by decide +kernel
theorem dX5_feed_15 : decode cX5_feed 15 = .ok (.if_icmp .le 9, 3) := by decide +kernel
theorem dX5_feed_18 : decode cX5_feed 18 = .ok (.aload_n 0, 1) := by decide +kernel
theorem dX5_feed_19 : decode cX5_feed 19 = .ok (.iconst 1, 1) := by decide +kernel
theorem dX5_feed_20 : decode cX5_feed 20 = .ok (.invokevirtual 213, 3) := by decide +kernel
theorem dX5_feed_23 : decode cX5_feed 23 = .ok (.ireturn, 1) := by decide +kernel
theorem dX5_feed_24 : decode cX5_feed 24 = .ok (.iconst 0, 1) := by decide +kernel
theorem dX5_feed_25 : decode cX5_feed 25 = .ok (.istore 6, 2) := by decide +kernel
theorem dX5_feed_27 : decode cX5_feed 27 = .ok (.iload 6, 2) := by decide +kernel
theorem dX5_feed_29 : decode cX5_feed 29 = .ok (.bipush 20, 2) := by decide +kernel
theorem dX5_feed_31 : decode cX5_feed 31 = .ok (.if_icmp .ge 93, 3) := by decide +kernel
theorem dX5_feed_34 : decode cX5_feed 34 = .ok (.iload 6, 2) := by decide +kernel
theorem dX5_feed_36 : decode cX5_feed 36 = .ok (.iconst 4, 1) := by decide +kernel
theorem dX5_feed_37 : decode cX5_feed 37 = .ok (.if_icmp .ge 7, 3) := by decide +kernel
theorem dX5_feed_40 : decode cX5_feed 40 = .ok (.iload_n 1, 1) := by decide +kernel
theorem dX5_feed_41 : decode cX5_feed 41 = .ok (.goto 39, 3) := by decide +kernel
theorem dX5_feed_44 : decode cX5_feed 44 = .ok (.iload 6, 2) := by decide +kernel
theorem dX5_feed_46 : decode cX5_feed 46 = .ok (.bipush 8, 2) := by decide +kernel
theorem dX5_feed_48 : decode cX5_feed 48 = .ok (.if_icmp .ge 7, 3) := by decide +kernel
theorem dX5_feed_51 : decode cX5_feed 51 = .ok (.iload_n 2, 1) := by decide +kernel
theorem dX5_feed_52 : decode cX5_feed 52 = .ok (.goto 28, 3) := by decide +kernel
theorem dX5_feed_55 : decode cX5_feed 55 = .ok (.iload 6, 2) := by decide +kernel
theorem dX5_feed_57 : decode cX5_feed 57 = .ok (.bipush 12, 2) := by decide +kernel
theorem dX5_feed_59 : decode cX5_feed 59 = .ok (.if_icmp .ge 7, 3) := by decide +kernel
theorem dX5_feed_62 : decode cX5_feed 62 = .ok (.iload_n 3, 1) := by decide +kernel
theorem dX5_feed_63 : decode cX5_feed 63 = .ok (.goto 17, 3) := by decide +kernel
theorem dX5_feed_66 : decode cX5_feed 66 = .ok (.iload 6, 2) := by decide +kernel
theorem dX5_feed_68 : decode cX5_feed 68 = .ok (.bipush 16, 2) := by decide +kernel
theorem dX5_feed_70 : decode cX5_feed 70 = .ok (.if_icmp .ge 8, 3) := by decide +kernel
theorem dX5_feed_73 : decode cX5_feed 73 = .ok (.iload 4, 2) := by decide +kernel
theorem dX5_feed_75 : decode cX5_feed 75 = .ok (.goto 5, 3) := by decide +kernel
theorem dX5_feed_78 : decode cX5_feed 78 = .ok (.iload 5, 2) := by decide +kernel
theorem dX5_feed_80 : decode cX5_feed 80 = .ok (.istore 7, 2) := by decide +kernel
theorem dX5_feed_82 : decode cX5_feed 82 = .ok (.aload_n 0, 1) := by decide +kernel
theorem dX5_feed_83 : decode cX5_feed 83 = .ok (.getfield 31, 3) := by decide +kernel
theorem dX5_feed_86 : decode cX5_feed 86 = .ok (.aload_n 0, 1) := by decide +kernel
theorem dX5_feed_87 : decode cX5_feed 87 = .ok (.getfield 249, 3) := by decide +kernel
theorem dX5_feed_90 : decode cX5_feed 90 = .ok (.iload 7, 2) := by decide +kernel
theorem dX5_feed_92 : decode cX5_feed 92 = .ok (.bipush 24, 2) := by decide +kernel
theorem dX5_feed_94 : decode cX5_feed 94 = .ok (.bipush 8, 2) := by decide +kernel
theorem dX5_feed_96 : decode cX5_feed 96 = .ok (.iload 6, 2) := by decide +kernel
theorem dX5_feed_98 : decode cX5_feed 98 = .ok (.iconst 4, 1) := by decide +kernel
theorem dX5_feed_99 : decode cX5_feed 99 = .ok (.irem, 1) := by decide +kernel
theorem dX5_feed_100 : decode cX5_feed 100 = .ok (.imul, 1) := by decide +kernel
theorem dX5_feed_101 : decode cX5_feed 101 = .ok (.isub, 1) := by decide +kernel
theorem dX5_feed_102 : decode cX5_feed 102 = .ok (.iushr, 1) := by decide +kernel
theorem dX5_feed_103 : decode cX5_feed 103 = .ok (.sipush 255, 3) := by decide +kernel
theorem dX5_feed_106 : decode cX5_feed 106 = .ok (.iand, 1) := by decide +kernel
theorem dX5_feed_107 : decode cX5_feed 107 = .ok (.iastore, 1) := by decide +kernel
theorem dX5_feed_108 : decode cX5_feed 108 = .ok (.aload_n 0, 1) := by decide +kernel
theorem dX5_feed_109 : decode cX5_feed 109 = .ok (.dup, 1) := by decide +kernel
theorem dX5_feed_110 : decode cX5_feed 110 = .ok (.getfield 249, 3) := by decide +kernel
theorem dX5_feed_113 : decode cX5_feed 113 = .ok (.iconst 1, 1) := by decide +kernel
theorem dX5_feed_114 : decode cX5_feed 114 = .ok (.iadd, 1) := by decide +kernel
theorem dX5_feed_115 : decode cX5_feed 115 = .ok (.putfield 249, 3) := by decide +kernel
theorem dX5_feed_118 : decode cX5_feed 118 = .ok (.iinc 6 1, 3) := by decide +kernel
theorem dX5_feed_121 : decode cX5_feed 121 = .ok (.goto (-94), 3) := by decide +kernel
theorem dX5_feed_124 : decode cX5_feed 124 = .ok (.aload_n 0, 1) := by decide +kernel
theorem dX5_feed_125 : decode cX5_feed 125 = .ok (.getfield 249, 3) := by decide +kernel
theorem dX5_feed_128 : decode cX5_feed 128 = .ok (.ireturn, 1) := by decide +kernel
theorem dX5_trim_0 : decode cX5_trim 0 = .ok (.aload_n 0, 1) := by decide +kernel
theorem dX5_trim_1 : decode cX5_trim 1 = .ok (.iconst 0, 1) := by decide +kernel
theorem dX5_trim_2 : decode cX5_trim 2 = .ok (.putfield 198, 3) := by decide +kernel
theorem dX5_trim_5 : decode cX5_trim 5 = .ok (.iload_n 1, 1) := by decide +kernel
theorem dX5_trim_6 : decode cX5_trim 6 = .ok (.i2l, 1) := by decide +kernel
theorem dX5_trim_7 : decode cX5_trim 7 = .ok (.lconst 0, 1) := by decide +kernel
theorem dX5_trim_8 : decode cX5_trim 8 = .ok (.aload_n 0, 1) := by decide +kernel
theorem dX5_trim_9 : decode cX5_trim 9 = .ok (.getfield 249, 3) := by decide +kernel
theorem dX5_trim_12 : decode cX5_trim 12 = .ok (.i2l, 1) := by decide +kernel
theorem dX5_trim_13 : decode cX5_trim 13 = .ok (.invokestatic 207, 3) := by decide +kernel
theorem dX5_trim_16 : decode cX5_trim 16 = .ok (.ifCond .ne 9, 3) := by decide +kernel
theorem dX5_trim_19 : decode cX5_trim 19 = .ok (.aload_n 0, 1) := by decide +kernel
theorem dX5_trim_20 : decode cX5_trim 20 = .ok (.iconst 1, 1) := by decide +kernel
theorem dX5_trim_21 : decode cX5_trim 21 = .ok (.invokevirtual 213, 3) := by decide +kernel
theorem dX5_trim_24 : decode cX5_trim 24 = .ok (.ireturn, 1) := by decide +kernel
theorem dX5_trim_25 : decode cX5_trim 25 = .ok (.aload_n 0, 1) := by decide +kernel
theorem dX5_trim_26 : decode cX5_trim 26 = .ok (.getfield 249, 3) := by decide +kernel
theorem dX5_trim_29 : decode cX5_trim 29 = .ok (.istore_n 2, 1) := by decide +kernel
theorem dX5_trim_30 : decode cX5_trim 30 = .ok (.aload_n 0, 1) := by decide +kernel
theorem dX5_trim_31 : decode cX5_trim 31 = .ok (.iload_n 1, 1) := by decide +kernel
theorem dX5_trim_32 : decode cX5_trim 32 = .ok (.putfield 249, 3) := by decide +kernel
theorem dX5_trim_35 : decode cX5_trim 35 = .ok (.iload_n 2, 1) := by decide +kernel
theorem dX5_trim_36 : decode cX5_trim 36 = .ok (.ireturn, 1) := by decide +kernel
theorem dX5_form_0 : decode cX5_form 0 = .ok (.aload_n 0, 1) := by decide +kernel
theorem dX5_form_1 : decode cX5_form 1 = .ok (.iconst 0, 1) := by decide +kernel
theorem dX5_form_2 : decode cX5_form 2 = .ok (.putfield 198, 3) := by decide +kernel
theorem dX5_form_5 : decode cX5_form 5 = .ok (.aload_n 0, 1) := by decide +kernel
theorem dX5_form_6 : decode cX5_form 6 = .ok (.getfield 320, 3) := by decide +kernel
theorem dX5_form_9 : decode cX5_form 9 = .ok (.bipush 6, 2) := by decide +kernel
theorem dX5_form_11 : decode cX5_form 11 = .ok (.if_icmp .ne 9, 3) := by decide +kernel
theorem dX5_form_14 : decode cX5_form 14 = .ok (.aload_n 0, 1) := by decide +kernel
theorem dX5_form_15 : decode cX5_form 15 = .ok (.iconst 1, 1) := by decide +kernel
theorem dX5_form_16 : decode cX5_form 16 = .ok (.invokevirtual 213, 3) := by decide +kernel
theorem dX5_form_19 : decode cX5_form 19 = .ok (.ireturn, 1) := by decide +kernel
theorem dX5_form_20 : decode cX5_form 20 = .ok (.aload_n 0, 1) := by decide +kernel
theorem dX5_form_21 : decode cX5_form 21 = .ok (.getfield 303, 3) := by decide +kernel
theorem dX5_form_24 : decode cX5_form 24 = .ok (.istore_n 1, 1) := by decide +kernel
theorem dX5_form_25 : decode cX5_form 25 = .ok (.aload_n 0, 1) := by decide +kernel
theorem dX5_form_26 : decode cX5_form 26 = .ok (.getfield 34, 3) := by decide +kernel
theorem dX5_form_29 : decode cX5_form 29 = .ok (.aload_n 0, 1) := by decide +kernel
theorem dX5_form_30 : decode cX5_form 30 = .ok (.getfield 320, 3) := by decide +kernel
theorem dX5_form_33 : decode cX5_form 33 = .ok (.iconst 0, 1) := by decide +kernel
theorem dX5_form_34 : decode cX5_form 34 = .ok (.iastore, 1) := by decide +kernel
theorem dX5_form_35 : decode cX5_form 35 = .ok (.aload_n 0, 1) := by decide +kernel
theorem dX5_form_36 : decode cX5_form 36 = .ok (.iconst 0, 1) := by decide +kernel
theorem dX5_form_37 : decode cX5_form 37 = .ok (.putfield 252, 3) := by decide +kernel
theorem dX5_form_40 : decode cX5_form 40 = .ok (.aload_n 0, 1) := by decide +kernel
theorem dX5_form_41 : decode cX5_form 41 = .ok (.invokevirtual 310, 3) := by decide +kernel
theorem dX5_form_44 : decode cX5_form 44 = .ok (.aload_n 0, 1) := by decide +kernel
theorem dX5_form_45 : decode cX5_form 45 = .ok (.getfield 261, 3) := by decide +kernel
theorem dX5_form_48 : decode cX5_form 48 = .ok (.ifCond .eq 7, 3) := by decide +kernel
theorem dX5_form_51 : decode cX5_form 51 = .ok (.iconst 1, 1) := by decide +kernel
theorem dX5_form_52 : decode cX5_form 52 = .ok (.goto 4, 3) := by decide +kernel
theorem dX5_form_55 : decode cX5_form 55 = .ok (.iconst 0, 1) := by decide +kernel
theorem dX5_form_56 : decode cX5_form 56 = .ok (.istore_n 2, 1) := by decide +kernel
theorem dX5_form_57 : decode cX5_form 57 = .ok (.iload_n 2, 1) := by decide +kernel
theorem dX5_form_58 : decode cX5_form 58 = .ok (.ifCond .eq 39, 3) := by decide +kernel
theorem dX5_form_61 : decode cX5_form 61 = .ok (.aload_n 0, 1) := by decide +kernel
theorem dX5_form_62 : decode cX5_form 62 = .ok (.getfield 261, 3) := by decide +kernel
theorem dX5_form_65 : decode cX5_form 65 = .ok (.ifCond .eq 32, 3) := by decide +kernel
theorem dX5_form_68 : decode cX5_form 68 = .ok (.aload_n 0, 1) := by decide +kernel
theorem dX5_form_69 : decode cX5_form 69 = .ok (.invokevirtual 346, 3) := by decide +kernel
theorem dX5_form_72 : decode cX5_form 72 = .ok (.istore_n 2, 1) := by decide +kernel
theorem dX5_form_73 : decode cX5_form 73 = .ok (.iload_n 2, 1) := by decide +kernel
theorem dX5_form_74 : decode cX5_form 74 = .ok (.ifCond .eq (-17), 3) := by decide +kernel
theorem dX5_form_77 : decode cX5_form 77 = .ok (.aload_n 0, 1) := by decide +kernel
theorem dX5_form_78 : decode cX5_form 78 = .ok (.getfield 34, 3) := by decide +kernel
theorem dX5_form_81 : decode cX5_form 81 = .ok (.aload_n 0, 1) := by decide +kernel
theorem dX5_form_82 : decode cX5_form 82 = .ok (.getfield 320, 3) := by decide +kernel
theorem dX5_form_85 : decode cX5_form 85 = .ok (.dup2, 1) := by decide +kernel
theorem dX5_form_86 : decode cX5_form 86 = .ok (.iaload, 1) := by decide +kernel
theorem dX5_form_87 : decode cX5_form 87 = .ok (.iconst 1, 1) := by decide +kernel
theorem dX5_form_88 : decode cX5_form 88 = .ok (.iadd, 1) := by decide +kernel
theorem dX5_form_89 : decode cX5_form 89 = .ok (.iastore, 1) := by decide +kernel
theorem dX5_form_90 : decode cX5_form 90 = .ok (.aload_n 0, 1) := by decide +kernel
theorem dX5_form_91 : decode cX5_form 91 = .ok (.invokevirtual 310, 3) := by decide +kernel
theorem dX5_form_94 : decode cX5_form 94 = .ok (.goto (-37), 3) := by decide +kernel
theorem dX5_form_97 : decode cX5_form 97 = .ok (.aload_n 0, 1) := by decide +kernel
theorem dX5_form_98 : decode cX5_form 98 = .ok (.iconst 0, 1) := by decide +kernel
theorem dX5_form_99 : decode cX5_form 99 = .ok (.putfield 249, 3) := by decide +kernel
theorem dX5_form_102 : decode cX5_form 102 = .ok (.iload_n 2, 1) := by decide +kernel
theorem dX5_form_103 : decode cX5_form 103 = .ok (.ifCond .ne 15, 3) := by decide +kernel
theorem dX5_form_106 : decode cX5_form 106 = .ok (.aload_n 0, 1) := by decide +kernel
theorem dX5_form_107 : decode cX5_form 107 = .ok (.iload_n 1, 1) := by decide +kernel
theorem dX5_form_108 : decode cX5_form 108 = .ok (.putfield 303, 3) := by decide +kernel
theorem dX5_form_111 : decode cX5_form 111 = .ok (.iconst (-1), 1) := by decide +kernel
theorem dX5_form_112 : decode cX5_form 112 = .ok (.aload_n 0, 1) := by decide +kernel
theorem dX5_form_113 : decode cX5_form 113 = .ok (.getfield 255, 3) := by decide +kernel
theorem dX5_form_116 : decode cX5_form 116 = .ok (.isub, 1) := by decide +kernel
theorem dX5_form_117 : decode cX5_form 117 = .ok (.ireturn, 1) := by decide +kernel
theorem dX5_form_118 : decode cX5_form 118 = .ok (.aload_n 0, 1) := by decide +kernel
theorem dX5_form_119 : decode cX5_form 119 = .ok (.dup, 1) := by decide +kernel
theorem dX5_form_120 : decode cX5_form 120 = .ok (.getfield 320, 3) := by decide +kernel
theorem dX5_form_123 : decode cX5_form 123 = .ok (.iconst 1, 1) := by decide +kernel
theorem dX5_form_124 : decode cX5_form 124 = .ok (.iadd, 1) := by decide +kernel
theorem dX5_form_125 : decode cX5_form 125 = .ok (.putfield 320, 3) := by decide +kernel
theorem dX5_form_128 : decode cX5_form 128 = .ok (.aload_n 0, 1) := by decide +kernel
theorem dX5_form_129 : decode cX5_form 129 = .ok (.getfield 320, 3) := by decide +kernel
theorem dX5_form_132 : decode cX5_form 132 = .ok (.iconst 1, 1) := by decide +kernel
theorem dX5_form_133 : decode cX5_form 133 = .ok (.isub, 1) := by decide +kernel
theorem dX5_form_134 : decode cX5_form 134 = .ok (.ireturn, 1) := by decide +kernel
theorem dX5_next_0 : decode cX5_next 0 = .ok (.aload_n 0, 1) := by decide +kernel
theorem dX5_next_1 : decode cX5_next 1 = .ok (.getfield 252, 3) := by decide +kernel
theorem dX5_next_4 : decode cX5_next 4 = .ok (.aload_n 0, 1) := by decide +kernel
theorem dX5_next_5 : decode cX5_next 5 = .ok (.getfield 249, 3) := by decide +kernel
theorem dX5_next_8 : decode cX5_next 8 = .ok (.if_icmp .ge 72, 3) := by decide +kernel
theorem dX5_next_11 : decode cX5_next 11 = .ok (.aload_n 0, 1) := by decide +kernel
theorem dX5_next_12 : decode cX5_next 12 = .ok (.getfield 31, 3) := by decide +kernel
theorem dX5_next_15 : decode cX5_next 15 = .ok (.aload_n 0, 1) := by decide +kernel
theorem dX5_next_16 : decode cX5_next 16 = .ok (.getfield 252, 3) := by decide +kernel
theorem dX5_next_19 : decode cX5_next 19 = .ok (.iaload, 1) := by decide +kernel
theorem dX5_next_20 : decode cX5_next 20 = .ok (.bipush 9, 2) := by decide +kernel
theorem dX5_next_22 : decode cX5_next 22 = .ok (.if_icmp .eq 45, 3) := by decide +kernel
theorem dX5_next_25 : decode cX5_next 25 = .ok (.aload_n 0, 1) := by decide +kernel
theorem dX5_next_26 : decode cX5_next 26 = .ok (.getfield 31, 3) := by decide +kernel
theorem dX5_next_29 : decode cX5_next 29 = .ok (.aload_n 0, 1) := by decide +kernel
theorem dX5_next_30 : decode cX5_next 30 = .ok (.getfield 252, 3) := by decide +kernel
theorem dX5_next_33 : decode cX5_next 33 = .ok (.iaload, 1) := by decide +kernel
theorem dX5_next_34 : decode cX5_next 34 = .ok (.bipush 10, 2) := by decide +kernel
theorem dX5_next_36 : decode cX5_next 36 = .ok (.if_icmp .eq 31, 3) := by decide +kernel
theorem dX5_next_39 : decode cX5_next 39 = .ok (.aload_n 0, 1) := by decide +kernel
theorem dX5_next_40 : decode cX5_next 40 = .ok (.getfield 31, 3) := by decide +kernel
theorem dX5_next_43 : decode cX5_next 43 = .ok (.aload_n 0, 1) := by decide +kernel
theorem dX5_next_44 : decode cX5_next 44 = .ok (.getfield 252, 3) := by decide +kernel
theorem dX5_next_47 : decode cX5_next 47 = .ok (.iaload, 1) := by decide +kernel
theorem dX5_next_48 : decode cX5_next 48 = .ok (.bipush 13, 2) := by decide +kernel
theorem dX5_next_50 : decode cX5_next 50 = .ok (.if_icmp .eq 17, 3) := by decide +kernel
theorem dX5_next_53 : decode cX5_next 53 = .ok (.aload_n 0, 1) := by decide +kernel
theorem dX5_next_54 : decode cX5_next 54 = .ok (.getfield 31, 3) := by decide +kernel
theorem dX5_next_57 : decode cX5_next 57 = .ok (.aload_n 0, 1) := by decide +kernel
theorem dX5_next_58 : decode cX5_next 58 = .ok (.getfield 252, 3) := by decide +kernel
theorem dX5_next_61 : decode cX5_next 61 = .ok (.iaload, 1) := by decide +kernel
theorem dX5_next_62 : decode cX5_next 62 = .ok (.bipush 32, 2) := by decide +kernel
theorem dX5_next_64 : decode cX5_next 64 = .ok (.if_icmp .ne 16, 3) := by decide +kernel
theorem dX5_next_67 : decode cX5_next 67 = .ok (.aload_n 0, 1) := by decide +kernel
theorem dX5_next_68 : decode cX5_next 68 = .ok (.dup, 1) := by decide +kernel
theorem dX5_next_69 : decode cX5_next 69 = .ok (.getfield 252, 3) := by decide +kernel
theorem dX5_next_72 : decode cX5_next 72 = .ok (.iconst 1, 1) := by decide +kernel
theorem dX5_next_73 : decode cX5_next 73 = .ok (.iadd, 1) := by decide +kernel
theorem dX5_next_74 : decode cX5_next 74 = .ok (.putfield 252, 3) := by decide +kernel
theorem dX5_next_77 : decode cX5_next 77 = .ok (.goto (-77), 3) := by decide +kernel
theorem dX5_next_80 : decode cX5_next 80 = .ok (.aload_n 0, 1) := by decide +kernel
theorem dX5_next_81 : decode cX5_next 81 = .ok (.aload_n 0, 1) := by decide +kernel
theorem dX5_next_82 : decode cX5_next 82 = .ok (.getfield 252, 3) := by decide +kernel
theorem dX5_next_85 : decode cX5_next 85 = .ok (.putfield 255, 3) := by decide +kernel
theorem dX5_next_88 : decode cX5_next 88 = .ok (.aload_n 0, 1) := by decide +kernel
theorem dX5_next_89 : decode cX5_next 89 = .ok (.aload_n 0, 1) := by decide +kernel
theorem dX5_next_90 : decode cX5_next 90 = .ok (.getfield 252, 3) := by decide +kernel
theorem dX5_next_93 : decode cX5_next 93 = .ok (.invokevirtual 258, 3) := by decide +kernel
theorem dX5_next_96 : decode cX5_next 96 = .ok (.istore_n 1, 1) := by decide +kernel
theorem dX5_next_97 : decode cX5_next 97 = .ok (.aload_n 0, 1) := by decide +kernel
theorem dX5_next_98 : decode cX5_next 98 = .ok (.getfield 252, 3) := by decide +kernel
theorem dX5_next_101 : decode cX5_next 101 = .ok (.aload_n 0, 1) := by decide +kernel
theorem dX5_next_102 : decode cX5_next 102 = .ok (.getfield 249, 3) := by decide +kernel
theorem dX5_next_105 : decode cX5_next 105 = .ok (.if_icmp .ne 11, 3) := by decide +kernel
theorem dX5_next_108 : decode cX5_next 108 = .ok (.aload_n 0, 1) := by decide +kernel
theorem dX5_next_109 : decode cX5_next 109 = .ok (.iconst 0, 1) := by decide +kernel
theorem dX5_next_110 : decode cX5_next 110 = .ok (.putfield 261, 3) := by decide +kernel
theorem dX5_next_113 : decode cX5_next 113 = .ok (.goto 239, 3) := by decide +kernel
theorem dX5_next_116 : decode cX5_next 116 = .ok (.iload_n 1, 1) := by decide +kernel
theorem dX5_next_117 : decode cX5_next 117 = .ok (.i2l, 1) := by decide +kernel
theorem dX5_next_118 : decode cX5_next 118 = .ok (.ldc2_w 264, 3) := by decide +kernel
theorem dX5_next_121 : decode cX5_next 121 = .ok (.ldc2_w 266, 3) := by decide +kernel
theorem dX5_next_124 : decode cX5_next 124 = .ok (.invokestatic 207, 3) := by decide +kernel
theorem dX5_next_127 : decode cX5_next 127 = .ok (.ifCond .eq 87, 3) := by decide +kernel
theorem dX5_next_130 : decode cX5_next 130 = .ok (.aload_n 0, 1) := by decide +kernel
theorem dX5_next_131 : decode cX5_next 131 = .ok (.lconst 0, 1) := by decide +kernel
theorem dX5_next_132 : decode cX5_next 132 = .ok (.putfield 268, 3) := by decide +kernel
theorem dX5_next_135 : decode cX5_next 135 = .ok (.aload_n 0, 1) := by decide +kernel
theorem dX5_next_136 : decode cX5_next 136 = .ok (.aload_n 0, 1) := by decide +kernel
theorem dX5_next_137 : decode cX5_next 137 = .ok (.getfield 252, 3) := by decide +kernel
theorem dX5_next_140 : decode cX5_next 140 = .ok (.invokevirtual 258, 3) := by decide +kernel
theorem dX5_next_143 : decode cX5_next 143 = .ok (.i2l, 1) := by decide +kernel
theorem dX5_next_144 : decode cX5_next 144 = .ok (.ldc2_w 264, 3) := by decide +kernel
theorem dX5_next_147 : decode cX5_next 147 = .ok (.ldc2_w 266, 3) := by decide +kernel
theorem dX5_next_150 : decode cX5_next 150 = .ok (.invokestatic 207, 3) := by decide +kernel
theorem dX5_next_153 : decode cX5_next 153 = .ok (.ifCond .eq 35, 3) := by decide +kernel
theorem dX5_next_156 : decode cX5_next 156 = .ok (.aload_n 0, 1) := by decide +kernel
theorem dX5_next_157 : decode cX5_next 157 = .ok (.aload_n 0, 1) := by decide +kernel
theorem dX5_next_158 : decode cX5_next 158 = .ok (.getfield 268, 3) := by decide +kernel
theorem dX5_next_161 : decode cX5_next 161 = .ok (.aload_n 0, 1) := by decide +kernel
theorem dX5_next_162 : decode cX5_next 162 = .ok (.aload_n 0, 1) := by decide +kernel
theorem dX5_next_163 : decode cX5_next 163 = .ok (.getfield 252, 3) := by decide +kernel
theorem dX5_next_166 : decode cX5_next 166 = .ok (.invokevirtual 258, 3) := by decide +kernel
theorem dX5_next_169 : decode cX5_next 169 = .ok (.invokestatic 272, 3) := by decide +kernel
theorem dX5_next_172 : decode cX5_next 172 = .ok (.putfield 268, 3) := by decide +kernel
theorem dX5_next_175 : decode cX5_next 175 = .ok (.aload_n 0, 1) := by decide +kernel
theorem dX5_next_176 : decode cX5_next 176 = .ok (.dup, 1) := by decide +kernel
theorem dX5_next_177 : decode cX5_next 177 = .ok (.getfield 252, 3) := by decide +kernel
theorem dX5_next_180 : decode cX5_next 180 = .ok (.iconst 1, 1) := by decide +kernel
theorem dX5_next_181 : decode cX5_next 181 = .ok (.iadd, 1) := by decide +kernel
theorem dX5_next_182 : decode cX5_next 182 = .ok (.putfield 252, 3) := by decide +kernel
theorem dX5_next_185 : decode cX5_next 185 = .ok (.goto (-50), 3) := by decide +kernel
theorem dX5_next_188 : decode cX5_next 188 = .ok (.aload_n 0, 1) := by decide +kernel
theorem dX5_next_189 : decode cX5_next 189 = .ok (.aload_n 0, 1) := by decide +kernel
theorem dX5_next_190 : decode cX5_next 190 = .ok (.getfield 252, 3) := by decide +kernel
theorem dX5_next_193 : decode cX5_next 193 = .ok (.aload_n 0, 1) := by decide +kernel
theorem dX5_next_194 : decode cX5_next 194 = .ok (.getfield 255, 3) := by decide +kernel
theorem dX5_next_197 : decode cX5_next 197 = .ok (.isub, 1) := by decide +kernel
theorem dX5_next_198 : decode cX5_next 198 = .ok (.bipush 8, 2) := by decide +kernel
theorem dX5_next_200 : decode cX5_next 200 = .ok (.if_icmp .le 7, 3) := by decide +kernel
theorem dX5_next_203 : decode cX5_next 203 = .ok (.iconst 1, 1) := by decide +kernel
theorem dX5_next_204 : decode cX5_next 204 = .ok (.goto 4, 3) := by decide +kernel
theorem dX5_next_207 : decode cX5_next 207 = .ok (.iconst 2, 1) := by decide +kernel
theorem dX5_next_208 : decode cX5_next 208 = .ok (.putfield 261, 3) := by decide +kernel
theorem dX5_next_211 : decode cX5_next 211 = .ok (.goto 141, 3) := by decide +kernel
theorem dX5_next_214 : decode cX5_next 214 = .ok (.iload_n 1, 1) := by decide +kernel
theorem dX5_next_215 : decode cX5_next 215 = .ok (.i2l, 1) := by decide +kernel
theorem dX5_next_216 : decode cX5_next 216 = .ok (.ldc2_w 276, 3) := by decide +kernel
theorem dX5_next_219 : decode cX5_next 219 = .ok (.ldc2_w 278, 3) := by decide +kernel
theorem dX5_next_222 : decode cX5_next 222 = .ok (.invokestatic 207, 3) := by decide +kernel
theorem dX5_next_225 : decode cX5_next 225 = .ok (.ifCond .eq 112, 3) := by decide +kernel
theorem dX5_next_228 : decode cX5_next 228 = .ok (.aload_n 0, 1) := by decide +kernel
theorem dX5_next_229 : decode cX5_next 229 = .ok (.iconst 0, 1) := by decide +kernel
theorem dX5_next_230 : decode cX5_next 230 = .ok (.putfield 280, 3) := by decide +kernel
theorem dX5_next_233 : decode cX5_next 233 = .ok (.aload_n 0, 1) := by decide +kernel
theorem dX5_next_234 : decode cX5_next 234 = .ok (.aload_n 0, 1) := by decide +kernel
theorem dX5_next_235 : decode cX5_next 235 = .ok (.getfield 252, 3) := by decide +kernel
theorem dX5_next_238 : decode cX5_next 238 = .ok (.invokevirtual 258, 3) := by decide +kernel
theorem dX5_next_241 : decode cX5_next 241 = .ok (.i2l, 1) := by decide +kernel
theorem dX5_next_242 : decode cX5_next 242 = .ok (.ldc2_w 276, 3) := by decide +kernel
theorem dX5_next_245 : decode cX5_next 245 = .ok (.ldc2_w 278, 3) := by decide +kernel
theorem dX5_next_248 : decode cX5_next 248 = .ok (.invokestatic 207, 3) := by decide +kernel
theorem dX5_next_251 : decode cX5_next 251 = .ok (.ifCond .eq 60, 3) := by decide +kernel
theorem dX5_next_254 : decode cX5_next 254 = .ok (.aload_n 0, 1) := by decide +kernel
theorem dX5_next_255 : decode cX5_next 255 = .ok (.aload_n 0, 1) := by decide +kernel
theorem dX5_next_256 : decode cX5_next 256 = .ok (.getfield 252, 3) := by decide +kernel
theorem dX5_next_259 : decode cX5_next 259 = .ok (.aload_n 0, 1) := by decide +kernel
theorem dX5_next_260 : decode cX5_next 260 = .ok (.getfield 255, 3) := by decide +kernel
theorem dX5_next_263 : decode cX5_next 263 = .ok (.isub, 1) := by decide +kernel
theorem dX5_next_264 : decode cX5_next 264 = .ok (.bipush 6, 2) := by decide +kernel
theorem dX5_next_266 : decode cX5_next 266 = .ok (.if_icmp .ge 25, 3) := by decide +kernel
theorem dX5_next_269 : decode cX5_next 269 = .ok (.bipush 10, 2) := by decide +kernel
theorem dX5_next_271 : decode cX5_next 271 = .ok (.aload_n 0, 1) := by decide +kernel
theorem dX5_next_272 : decode cX5_next 272 = .ok (.getfield 280, 3) := by decide +kernel
theorem dX5_next_275 : decode cX5_next 275 = .ok (.imul, 1) := by decide +kernel
theorem dX5_next_276 : decode cX5_next 276 = .ok (.aload_n 0, 1) := by decide +kernel
theorem dX5_next_277 : decode cX5_next 277 = .ok (.aload_n 0, 1) := by decide +kernel
theorem dX5_next_278 : decode cX5_next 278 = .ok (.getfield 252, 3) := by decide +kernel
theorem dX5_next_281 : decode cX5_next 281 = .ok (.invokevirtual 258, 3) := by decide +kernel
theorem dX5_next_284 : decode cX5_next 284 = .ok (.iadd, 1) := by decide +kernel
theorem dX5_next_285 : decode cX5_next 285 = .ok (.bipush 48, 2) := by decide +kernel
theorem dX5_next_287 : decode cX5_next 287 = .ok (.isub, 1) := by decide +kernel
theorem dX5_next_288 : decode cX5_next 288 = .ok (.goto 7, 3) := by decide +kernel
theorem dX5_next_291 : decode cX5_next 291 = .ok (.aload_n 0, 1) := by decide +kernel
theorem dX5_next_292 : decode cX5_next 292 = .ok (.getfield 280, 3) := by decide +kernel
theorem dX5_next_295 : decode cX5_next 295 = .ok (.putfield 280, 3) := by decide +kernel
theorem dX5_next_298 : decode cX5_next 298 = .ok (.aload_n 0, 1) := by decide +kernel
theorem dX5_next_299 : decode cX5_next 299 = .ok (.dup, 1) := by decide +kernel
theorem dX5_next_300 : decode cX5_next 300 = .ok (.getfield 252, 3) := by decide +kernel
theorem dX5_next_303 : decode cX5_next 303 = .ok (.iconst 1, 1) := by decide +kernel
theorem dX5_next_304 : decode cX5_next 304 = .ok (.iadd, 1) := by decide +kernel
theorem dX5_next_305 : decode cX5_next 305 = .ok (.putfield 252, 3) := by decide +kernel
theorem dX5_next_308 : decode cX5_next 308 = .ok (.goto (-75), 3) := by decide +kernel
theorem dX5_next_311 : decode cX5_next 311 = .ok (.aload_n 0, 1) := by decide +kernel
theorem dX5_next_312 : decode cX5_next 312 = .ok (.aload_n 0, 1) := by decide +kernel
theorem dX5_next_313 : decode cX5_next 313 = .ok (.getfield 252, 3) := by decide +kernel
theorem dX5_next_316 : decode cX5_next 316 = .ok (.aload_n 0, 1) := by decide +kernel
theorem dX5_next_317 : decode cX5_next 317 = .ok (.getfield 255, 3) := by decide +kernel
theorem dX5_next_320 : decode cX5_next 320 = .ok (.isub, 1) := by decide +kernel
theorem dX5_next_321 : decode cX5_next 321 = .ok (.bipush 6, 2) := by decide +kernel
theorem dX5_next_323 : decode cX5_next 323 = .ok (.if_icmp .le 7, 3) := by decide +kernel
theorem dX5_next_326 : decode cX5_next 326 = .ok (.iconst 1, 1) := by decide +kernel
theorem dX5_next_327 : decode cX5_next 327 = .ok (.goto 4, 3) := by decide +kernel
theorem dX5_next_330 : decode cX5_next 330 = .ok (.iconst 3, 1) := by decide +kernel
theorem dX5_next_331 : decode cX5_next 331 = .ok (.putfield 261, 3) := by decide +kernel
theorem dX5_next_334 : decode cX5_next 334 = .ok (.goto 18, 3) := by decide +kernel
theorem dX5_next_337 : decode cX5_next 337 = .ok (.aload_n 0, 1) := by decide +kernel
theorem dX5_next_338 : decode cX5_next 338 = .ok (.dup, 1) := by decide +kernel
theorem dX5_next_339 : decode cX5_next 339 = .ok (.getfield 252, 3) := by decide +kernel
theorem dX5_next_342 : decode cX5_next 342 = .ok (.iconst 1, 1) := by decide +kernel
theorem dX5_next_343 : decode cX5_next 343 = .ok (.iadd, 1) := by decide +kernel
theorem dX5_next_344 : decode cX5_next 344 = .ok (.putfield 252, 3) := by decide +kernel
theorem dX5_next_347 : decode cX5_next 347 = .ok (.aload_n 0, 1) := by decide +kernel
theorem dX5_next_348 : decode cX5_next 348 = .ok (.iload_n 1, 1) := by decide +kernel
theorem dX5_next_349 : decode cX5_next 349 = .ok (.invokevirtual 283, 3) := by decide +kernel
theorem dX5_next_352 : decode cX5_next 352 = .ok (.return_, 1) := by decide +kernel
theorem dX5_byteAt_0 : decode cX5_byteAt 0 = .ok (.iload_n 1, 1) := by decide +kernel
theorem dX5_byteAt_1 : decode cX5_byteAt 1 = .ok (.aload_n 0, 1) := by decide +kernel
theorem dX5_byteAt_2 : decode cX5_byteAt 2 = .ok (.getfield 249, 3) := by decide +kernel
theorem dX5_byteAt_5 : decode cX5_byteAt 5 = .ok (.if_icmp .ge 12, 3) := by decide +kernel
theorem dX5_byteAt_8 : decode cX5_byteAt 8 = .ok (.aload_n 0, 1) := by decide +kernel
theorem dX5_byteAt_9 : decode cX5_byteAt 9 = .ok (.getfield 31, 3) := by decide +kernel
theorem dX5_byteAt_12 : decode cX5_byteAt 12 = .ok (.iload_n 1, 1) := by decide +kernel
theorem dX5_byteAt_13 : decode cX5_byteAt 13 = .ok (.iaload, 1) := by decide +kernel
theorem dX5_byteAt_14 : decode cX5_byteAt 14 = .ok (.goto 4, 3) := by decide +kernel
theorem dX5_byteAt_17 : decode cX5_byteAt 17 = .ok (.iconst 0, 1) := by decide +kernel
theorem dX5_byteAt_18 : decode cX5_byteAt 18 = .ok (.ireturn, 1) := by decide +kernel
theorem dX5_letters_0 : decode cX5_letters 0 = .ok (.lload_n 0, 1) := by decide +kernel
theorem dX5_letters_1 : decode cX5_letters 1 = .ok (.bipush 8, 2) := by decide +kernel
theorem dX5_letters_3 : decode cX5_letters 3 = .ok (.lshl, 1) := by decide +kernel
theorem dX5_letters_4 : decode cX5_letters 4 = .ok (.iload_n 2, 1) := by decide +kernel
theorem dX5_letters_5 : decode cX5_letters 5 = .ok (.i2l, 1) := by decide +kernel
theorem dX5_letters_6 : decode cX5_letters 6 = .ok (.lor, 1) := by decide +kernel
theorem dX5_letters_7 : decode cX5_letters 7 = .ok (.lreturn, 1) := by decide +kernel
theorem dX5_nextSign_0 : decode cX5_nextSign 0 = .ok (.aload_n 0, 1) := by decide +kernel
theorem dX5_nextSign_1 : decode cX5_nextSign 1 = .ok (.aload_n 0, 1) := by decide +kernel
theorem dX5_nextSign_2 : decode cX5_nextSign 2 = .ok (.getfield 252, 3) := by decide +kernel
theorem dX5_nextSign_5 : decode cX5_nextSign 5 = .ok (.invokevirtual 258, 3) := by decide +kernel
theorem dX5_nextSign_8 : decode cX5_nextSign 8 = .ok (.istore_n 2, 1) := by decide +kernel
theorem dX5_nextSign_9 : decode cX5_nextSign 9 = .ok (.iload_n 1, 1) := by decide +kernel
theorem dX5_nextSign_10 : decode cX5_nextSign 10 = .ok (.bipush 59, 2) := by decide +kernel
theorem dX5_nextSign_12 : decode cX5_nextSign 12 = .ok (.if_icmp .ne 12, 3) := by decide +kernel
theorem dX5_nextSign_15 : decode cX5_nextSign 15 = .ok (.aload_n 0, 1) := by decide +kernel
theorem dX5_nextSign_16 : decode cX5_nextSign 16 = .ok (.bipush 6, 2) := by decide +kernel
theorem dX5_nextSign_18 : decode cX5_nextSign 18 = .ok (.putfield 261, 3) := by decide +kernel
theorem dX5_nextSign_21 : decode cX5_nextSign 21 = .ok (.goto 179, 3) := by decide +kernel
theorem dX5_nextSign_24 : decode cX5_nextSign 24 = .ok (.iload_n 1, 1) := by decide +kernel
theorem dX5_nextSign_25 : decode cX5_nextSign 25 = .ok (.bipush 43, 2) := by decide +kernel
theorem dX5_nextSign_27 : decode cX5_nextSign 27 = .ok (.if_icmp .eq 9, 3) := by decide +kernel
theorem dX5_nextSign_30 : decode cX5_nextSign 30 = .ok (.iload_n 1, 1) := by decide +kernel
theorem dX5_nextSign_31 : decode cX5_nextSign 31 = .ok (.bipush 45, 2) := by decide +kernel
theorem dX5_nextSign_33 : decode cX5_nextSign 33 = .ok (.if_icmp .ne 26, 3) := by decide +kernel
theorem dX5_nextSign_36 : decode cX5_nextSign 36 = .ok (.aload_n 0, 1) := by decide +kernel
theorem dX5_nextSign_37 : decode cX5_nextSign 37 = .ok (.iconst 4, 1) := by decide +kernel
theorem dX5_nextSign_38 : decode cX5_nextSign 38 = .ok (.putfield 261, 3) := by decide +kernel
theorem dX5_nextSign_41 : decode cX5_nextSign 41 = .ok (.aload_n 0, 1) := by decide +kernel
theorem dX5_nextSign_42 : decode cX5_nextSign 42 = .ok (.iload_n 1, 1) := by decide +kernel
theorem dX5_nextSign_43 : decode cX5_nextSign 43 = .ok (.bipush 43, 2) := by decide +kernel
theorem dX5_nextSign_45 : decode cX5_nextSign 45 = .ok (.if_icmp .ne 7, 3) := by decide +kernel
theorem dX5_nextSign_48 : decode cX5_nextSign 48 = .ok (.iconst 3, 1) := by decide +kernel
theorem dX5_nextSign_49 : decode cX5_nextSign 49 = .ok (.goto 4, 3) := by decide +kernel
theorem dX5_nextSign_52 : decode cX5_nextSign 52 = .ok (.iconst 4, 1) := by decide +kernel
theorem dX5_nextSign_53 : decode cX5_nextSign 53 = .ok (.putfield 280, 3) := by decide +kernel
theorem dX5_nextSign_56 : decode cX5_nextSign 56 = .ok (.goto 144, 3) := by decide +kernel
theorem dX5_nextSign_59 : decode cX5_nextSign 59 = .ok (.iload_n 1, 1) := by decide +kernel
theorem dX5_nextSign_60 : decode cX5_nextSign 60 = .ok (.bipush 60, 2) := by decide +kernel
theorem dX5_nextSign_62 : decode cX5_nextSign 62 = .ok (.if_icmp .eq 15, 3) := by decide +kernel
theorem dX5_nextSign_65 : decode cX5_nextSign 65 = .ok (.iload_n 1, 1) := by decide +kernel
theorem dX5_nextSign_66 : decode cX5_nextSign 66 = .ok (.bipush 61, 2) := by decide +kernel
theorem dX5_nextSign_68 : decode cX5_nextSign 68 = .ok (.if_icmp .eq 9, 3) := by decide +kernel
theorem dX5_nextSign_71 : decode cX5_nextSign 71 = .ok (.iload_n 1, 1) := by decide +kernel
theorem dX5_nextSign_72 : decode cX5_nextSign 72 = .ok (.bipush 62, 2) := by decide +kernel
theorem dX5_nextSign_74 : decode cX5_nextSign 74 = .ok (.if_icmp .ne 121, 3) := by decide +kernel
theorem dX5_nextSign_77 : decode cX5_nextSign 77 = .ok (.aload_n 0, 1) := by decide +kernel
theorem dX5_nextSign_78 : decode cX5_nextSign 78 = .ok (.iconst 5, 1) := by decide +kernel
theorem dX5_nextSign_79 : decode cX5_nextSign 79 = .ok (.putfield 261, 3) := by decide +kernel
theorem dX5_nextSign_82 : decode cX5_nextSign 82 = .ok (.iload_n 1, 1) := by decide +kernel
theorem dX5_nextSign_83 : decode cX5_nextSign 83 = .ok (.bipush 60, 2) := by decide +kernel
theorem dX5_nextSign_85 : decode cX5_nextSign 85 = .ok (.if_icmp .ne 15, 3) := by decide +kernel
theorem dX5_nextSign_88 : decode cX5_nextSign 88 = .ok (.iload_n 2, 1) := by decide +kernel
theorem dX5_nextSign_89 : decode cX5_nextSign 89 = .ok (.bipush 61, 2) := by decide +kernel
theorem dX5_nextSign_91 : decode cX5_nextSign 91 = .ok (.if_icmp .eq 21, 3) := by decide +kernel
theorem dX5_nextSign_94 : decode cX5_nextSign 94 = .ok (.iload_n 2, 1) := by decide +kernel
theorem dX5_nextSign_95 : decode cX5_nextSign 95 = .ok (.bipush 62, 2) := by decide +kernel
theorem dX5_nextSign_97 : decode cX5_nextSign 97 = .ok (.if_icmp .eq 15, 3) := by decide +kernel
theorem dX5_nextSign_100 : decode cX5_nextSign 100 = .ok (.iload_n 1, 1) := by decide +kernel
theorem dX5_nextSign_101 : decode cX5_nextSign 101 = .ok (.bipush 62, 2) := by decide +kernel
theorem dX5_nextSign_103 : decode cX5_nextSign 103 = .ok (.if_icmp .ne 13, 3) := by decide +kernel
theorem dX5_nextSign_106 : decode cX5_nextSign 106 = .ok (.iload_n 2, 1) := by decide +kernel
theorem dX5_nextSign_107 : decode cX5_nextSign 107 = .ok (.bipush 61, 2) := by decide +kernel
theorem dX5_nextSign_109 : decode cX5_nextSign 109 = .ok (.if_icmp .ne 7, 3) := by decide +kernel
theorem dX5_nextSign_112 : decode cX5_nextSign 112 = .ok (.iconst 1, 1) := by decide +kernel
theorem dX5_nextSign_113 : decode cX5_nextSign 113 = .ok (.goto 4, 3) := by decide +kernel
theorem dX5_nextSign_116 : decode cX5_nextSign 116 = .ok (.iconst 0, 1) := by decide +kernel
theorem dX5_nextSign_117 : decode cX5_nextSign 117 = .ok (.istore_n 3, 1) := by decide +kernel
theorem dX5_nextSign_118 : decode cX5_nextSign 118 = .ok (.aload_n 0, 1) := by decide +kernel
theorem dX5_nextSign_119 : decode cX5_nextSign 119 = .ok (.dup, 1) := by decide +kernel
theorem dX5_nextSign_120 : decode cX5_nextSign 120 = .ok (.getfield 252, 3) := by decide +kernel
theorem dX5_nextSign_123 : decode cX5_nextSign 123 = .ok (.iload_n 3, 1) := by decide +kernel
theorem dX5_nextSign_124 : decode cX5_nextSign 124 = .ok (.ifCond .eq 7, 3) := by decide +kernel
theorem dX5_nextSign_127 : decode cX5_nextSign 127 = .ok (.iconst 1, 1) := by decide +kernel
theorem dX5_nextSign_128 : decode cX5_nextSign 128 = .ok (.goto 4, 3) := by decide +kernel
theorem dX5_nextSign_131 : decode cX5_nextSign 131 = .ok (.iconst 0, 1) := by decide +kernel
theorem dX5_nextSign_132 : decode cX5_nextSign 132 = .ok (.iadd, 1) := by decide +kernel
theorem dX5_nextSign_133 : decode cX5_nextSign 133 = .ok (.putfield 252, 3) := by decide +kernel
theorem dX5_nextSign_136 : decode cX5_nextSign 136 = .ok (.aload_n 0, 1) := by decide +kernel
theorem dX5_nextSign_137 : decode cX5_nextSign 137 = .ok (.iload_n 1, 1) := by decide +kernel
theorem dX5_nextSign_138 : decode cX5_nextSign 138 = .ok (.bipush 61, 2) := by decide +kernel
theorem dX5_nextSign_140 : decode cX5_nextSign 140 = .ok (.if_icmp .ne 8, 3) := by decide +kernel
theorem dX5_nextSign_143 : decode cX5_nextSign 143 = .ok (.bipush 7, 2) := by decide +kernel
theorem dX5_nextSign_145 : decode cX5_nextSign 145 = .ok (.goto 44, 3) := by decide +kernel
theorem dX5_nextSign_148 : decode cX5_nextSign 148 = .ok (.iload_n 1, 1) := by decide +kernel
theorem dX5_nextSign_149 : decode cX5_nextSign 149 = .ok (.bipush 60, 2) := by decide +kernel
theorem dX5_nextSign_151 : decode cX5_nextSign 151 = .ok (.if_icmp .ne 27, 3) := by decide +kernel
theorem dX5_nextSign_154 : decode cX5_nextSign 154 = .ok (.iload_n 3, 1) := by decide +kernel
theorem dX5_nextSign_155 : decode cX5_nextSign 155 = .ok (.ifCond .ne 7, 3) := by decide +kernel
theorem dX5_nextSign_158 : decode cX5_nextSign 158 = .ok (.iconst 5, 1) := by decide +kernel
theorem dX5_nextSign_159 : decode cX5_nextSign 159 = .ok (.goto 30, 3) := by decide +kernel
theorem dX5_nextSign_162 : decode cX5_nextSign 162 = .ok (.iload_n 2, 1) := by decide +kernel
theorem dX5_nextSign_163 : decode cX5_nextSign 163 = .ok (.bipush 61, 2) := by decide +kernel
theorem dX5_nextSign_165 : decode cX5_nextSign 165 = .ok (.if_icmp .ne 8, 3) := by decide +kernel
theorem dX5_nextSign_168 : decode cX5_nextSign 168 = .ok (.bipush 6, 2) := by decide +kernel
theorem dX5_nextSign_170 : decode cX5_nextSign 170 = .ok (.goto 19, 3) := by decide +kernel
theorem dX5_nextSign_173 : decode cX5_nextSign 173 = .ok (.bipush 8, 2) := by decide +kernel
theorem dX5_nextSign_175 : decode cX5_nextSign 175 = .ok (.goto 14, 3) := by decide +kernel
theorem dX5_nextSign_178 : decode cX5_nextSign 178 = .ok (.iload_n 3, 1) := by decide +kernel
theorem dX5_nextSign_179 : decode cX5_nextSign 179 = .ok (.ifCond .eq 8, 3) := by decide +kernel
theorem dX5_nextSign_182 : decode cX5_nextSign 182 = .ok (.bipush 9, 2) := by decide +kernel
theorem dX5_nextSign_184 : decode cX5_nextSign 184 = .ok (.goto 5, 3) := by decide +kernel
theorem dX5_nextSign_187 : decode cX5_nextSign 187 = .ok (.bipush 10, 2) := by decide +kernel
theorem dX5_nextSign_189 : decode cX5_nextSign 189 = .ok (.putfield 280, 3) := by decide +kernel
theorem dX5_nextSign_192 : decode cX5_nextSign 192 = .ok (.goto 8, 3) := by decide +kernel
theorem dX5_nextSign_195 : decode cX5_nextSign 195 = .ok (.aload_n 0, 1) := by decide +kernel
theorem dX5_nextSign_196 : decode cX5_nextSign 196 = .ok (.iconst 1, 1) := by decide +kernel
theorem dX5_nextSign_197 : decode cX5_nextSign 197 = .ok (.putfield 261, 3) := by decide +kernel
theorem dX5_nextSign_200 : decode cX5_nextSign 200 = .ok (.return_, 1) := by decide +kernel
theorem dX5_isStatement_0 : decode cX5_isStatement 0 = .ok (.aload_n 0, 1) := by decide +kernel
theorem dX5_isStatement_1 : decode cX5_isStatement 1 = .ok (.getfield 261, 3) := by decide +kernel
theorem dX5_isStatement_4 : decode cX5_isStatement 4 = .ok (.iconst 2, 1) := by decide +kernel
theorem dX5_isStatement_5 : decode cX5_isStatement 5 = .ok (.if_icmp .ne 17, 3) := by decide +kernel
theorem dX5_isStatement_8 : decode cX5_isStatement 8 = .ok (.aload_n 0, 1) := by decide +kernel
theorem dX5_isStatement_9 : decode cX5_isStatement 9 = .ok (.getfield 34, 3) := by decide +kernel
theorem dX5_isStatement_12 : decode cX5_isStatement 12 = .ok (.aload_n 0, 1) := by decide +kernel
theorem dX5_isStatement_13 : decode cX5_isStatement 13 = .ok (.getfield 320, 3) := by decide +kernel
theorem dX5_isStatement_16 : decode cX5_isStatement 16 = .ok (.iaload, 1) := by decide +kernel
theorem dX5_isStatement_17 : decode cX5_isStatement 17 = .ok (.bipush 20, 2) := by decide +kernel
theorem dX5_isStatement_19 : decode cX5_isStatement 19 = .ok (.if_icmp .ne 5, 3) := by decide +kernel
theorem dX5_isStatement_22 : decode cX5_isStatement 22 = .ok (.iconst 0, 1) := by decide +kernel
theorem dX5_isStatement_23 : decode cX5_isStatement 23 = .ok (.ireturn, 1) := by decide +kernel
theorem dX5_isStatement_24 : decode cX5_isStatement 24 = .ok (.bipush 20, 2) := by decide +kernel
theorem dX5_isStatement_26 : decode cX5_isStatement 26 = .ok (.aload_n 0, 1) := by decide +kernel
theorem dX5_isStatement_27 : decode cX5_isStatement 27 = .ok (.getfield 320, 3) := by decide +kernel
theorem dX5_isStatement_30 : decode cX5_isStatement 30 = .ok (.imul, 1) := by decide +kernel
theorem dX5_isStatement_31 : decode cX5_isStatement 31 = .ok (.aload_n 0, 1) := by decide +kernel
theorem dX5_isStatement_32 : decode cX5_isStatement 32 = .ok (.getfield 34, 3) := by decide +kernel
theorem dX5_isStatement_35 : decode cX5_isStatement 35 = .ok (.aload_n 0, 1) := by decide +kernel
theorem dX5_isStatement_36 : decode cX5_isStatement 36 = .ok (.getfield 320, 3) := by decide +kernel
theorem dX5_isStatement_39 : decode cX5_isStatement 39 = .ok (.iaload, 1) := by decide +kernel
theorem dX5_isStatement_40 : decode cX5_isStatement 40 = .ok (.iadd, 1) := by decide +kernel
theorem dX5_isStatement_41 : decode cX5_isStatement 41 = .ok (.istore_n 1, 1) := by decide +kernel
theorem dX5_isStatement_42 : decode cX5_isStatement 42 = .ok (.aload_n 0, 1) := by decide +kernel
theorem dX5_isStatement_43 : decode cX5_isStatement 43 = .ok (.getfield 268, 3) := by decide +kernel
theorem dX5_isStatement_46 : decode cX5_isStatement 46 = .ok (.ldc2_w 287, 3) := by decide +kernel
theorem dX5_isStatement_49 : decode cX5_isStatement 49 = .ok (.lcmp, 1) := by decide +kernel
theorem dX5_isStatement_50 : decode cX5_isStatement 50 = .ok (.ifCond .ne 7, 3) := by decide +kernel
theorem dX5_isStatement_53 : decode cX5_isStatement 53 = .ok (.iconst 0, 1) := by decide +kernel
theorem dX5_isStatement_54 : decode cX5_isStatement 54 = .ok (.goto 49, 3) := by decide +kernel
theorem dX5_isStatement_57 : decode cX5_isStatement 57 = .ok (.aload_n 0, 1) := by decide +kernel
theorem dX5_isStatement_58 : decode cX5_isStatement 58 = .ok (.getfield 268, 3) := by decide +kernel
theorem dX5_isStatement_61 : decode cX5_isStatement 61 = .ok (.ldc2_w 289, 3) := by decide +kernel
theorem dX5_isStatement_64 : decode cX5_isStatement 64 = .ok (.lcmp, 1) := by decide +kernel
theorem dX5_isStatement_65 : decode cX5_isStatement 65 = .ok (.ifCond .ne 7, 3) := by decide +kernel
theorem dX5_isStatement_68 : decode cX5_isStatement 68 = .ok (.iconst 1, 1) := by decide +kernel
theorem dX5_isStatement_69 : decode cX5_isStatement 69 = .ok (.goto 34, 3) := by decide +kernel
theorem dX5_isStatement_72 : decode cX5_isStatement 72 = .ok (.aload_n 0, 1) := by decide +kernel
theorem dX5_isStatement_73 : decode cX5_isStatement 73 = .ok (.getfield 268, 3) := by decide +kernel
theorem dX5_isStatement_76 : decode cX5_isStatement 76 = .ok (.ldc2_w 291, 3) := by decide +kernel
theorem dX5_isStatement_79 : decode cX5_isStatement 79 = .ok (.lcmp, 1) := by decide +kernel
theorem dX5_isStatement_80 : decode cX5_isStatement 80 = .ok (.ifCond .ne 7, 3) := by decide +kernel
theorem dX5_isStatement_83 : decode cX5_isStatement 83 = .ok (.iconst 2, 1) := by decide +kernel
theorem dX5_isStatement_84 : decode cX5_isStatement 84 = .ok (.goto 19, 3) := by decide +kernel
theorem dX5_isStatement_87 : decode cX5_isStatement 87 = .ok (.aload_n 0, 1) := by decide +kernel
theorem dX5_isStatement_88 : decode cX5_isStatement 88 = .ok (.getfield 268, 3) := by decide +kernel
theorem dX5_isStatement_91 : decode cX5_isStatement 91 = .ok (.ldc2_w 293, 3) := by decide +kernel
theorem dX5_isStatement_94 : decode cX5_isStatement 94 = .ok (.lcmp, 1) := by decide +kernel
theorem dX5_isStatement_95 : decode cX5_isStatement 95 = .ok (.ifCond .ne 7, 3) := by decide +kernel
theorem dX5_isStatement_98 : decode cX5_isStatement 98 = .ok (.iconst 3, 1) := by decide +kernel
theorem dX5_isStatement_99 : decode cX5_isStatement 99 = .ok (.goto 4, 3) := by decide +kernel
theorem dX5_isStatement_102 : decode cX5_isStatement 102 = .ok (.iconst (-1), 1) := by decide +kernel
theorem dX5_isStatement_103 : decode cX5_isStatement 103 = .ok (.istore_n 2, 1) := by decide +kernel
theorem dX5_isStatement_104 : decode cX5_isStatement 104 = .ok (.iconst 0, 1) := by decide +kernel
theorem dX5_isStatement_105 : decode cX5_isStatement 105 = .ok (.istore_n 3, 1) := by decide +kernel
theorem dX5_isStatement_106 : decode cX5_isStatement 106 = .ok (.iconst 0, 1) := by decide +kernel
theorem dX5_isStatement_107 : decode cX5_isStatement 107 = .ok (.istore 4, 2) := by decide +kernel
theorem dX5_isStatement_109 : decode cX5_isStatement 109 = .ok (.iload 4, 2) := by decide +kernel
theorem dX5_isStatement_111 : decode cX5_isStatement 111 = .ok (.aload_n 0, 1) := by decide +kernel
theorem dX5_isStatement_112 : decode cX5_isStatement 112 = .ok (.getfield 34, 3) := by decide +kernel
theorem dX5_isStatement_115 : decode cX5_isStatement 115 = .ok (.aload_n 0, 1) := by decide +kernel
theorem dX5_isStatement_116 : decode cX5_isStatement 116 = .ok (.getfield 320, 3) := by decide +kernel
theorem dX5_isStatement_119 : decode cX5_isStatement 119 = .ok (.iaload, 1) := by decide +kernel
theorem dX5_isStatement_120 : decode cX5_isStatement 120 = .ok (.if_icmp .ge 35, 3) := by decide +kernel
theorem dX5_isStatement_123 : decode cX5_isStatement 123 = .ok (.iload_n 3, 1) := by decide +kernel
theorem dX5_isStatement_124 : decode cX5_isStatement 124 = .ok (.aload_n 0, 1) := by decide +kernel
theorem dX5_isStatement_125 : decode cX5_isStatement 125 = .ok (.getfield 37, 3) := by decide +kernel
theorem dX5_isStatement_128 : decode cX5_isStatement 128 = .ok (.bipush 20, 2) := by decide +kernel
theorem dX5_isStatement_130 : decode cX5_isStatement 130 = .ok (.aload_n 0, 1) := by decide +kernel
theorem dX5_isStatement_131 : decode cX5_isStatement 131 = .ok (.getfield 320, 3) := by decide +kernel
theorem dX5_isStatement_134 : decode cX5_isStatement 134 = .ok (.imul, 1) := by decide +kernel
theorem dX5_isStatement_135 : decode cX5_isStatement 135 = .ok (.iload 4, 2) := by decide +kernel
theorem dX5_isStatement_137 : decode cX5_isStatement 137 = .ok (.iadd, 1) := by decide +kernel
theorem dX5_isStatement_138 : decode cX5_isStatement 138 = .ok (.iaload, 1) := by decide +kernel
theorem dX5_isStatement_139 : decode cX5_isStatement 139 = .ok (.ifCond .ne 7, 3) := by decide +kernel
theorem dX5_isStatement_142 : decode cX5_isStatement 142 = .ok (.iconst 1, 1) := by decide +kernel
theorem dX5_isStatement_143 : decode cX5_isStatement 143 = .ok (.goto 4, 3) := by decide +kernel
theorem dX5_isStatement_146 : decode cX5_isStatement 146 = .ok (.iconst 0, 1) := by decide +kernel
theorem dX5_isStatement_147 : decode cX5_isStatement 147 = .ok (.iadd, 1) := by decide +kernel
theorem dX5_isStatement_148 : decode cX5_isStatement 148 = .ok (.istore_n 3, 1) := by decide +kernel
theorem dX5_isStatement_149 : decode cX5_isStatement 149 = .ok (.iinc 4 1, 3) := by decide +kernel
theorem dX5_isStatement_152 : decode cX5_isStatement 152 = .ok (.goto (-43), 3) := by decide +kernel
theorem dX5_isStatement_155 : decode cX5_isStatement 155 = .ok (.iload_n 2, 1) := by decide +kernel
theorem dX5_isStatement_156 : decode cX5_isStatement 156 = .ok (.iconst (-1), 1) := by decide +kernel
theorem dX5_isStatement_157 : decode cX5_isStatement 157 = .ok (.if_icmp .eq 13, 3) := by decide +kernel
theorem dX5_isStatement_160 : decode cX5_isStatement 160 = .ok (.iload_n 2, 1) := by decide +kernel
theorem dX5_isStatement_161 : decode cX5_isStatement 161 = .ok (.ifCond .ne 11, 3) := by decide +kernel
theorem dX5_isStatement_164 : decode cX5_isStatement 164 = .ok (.iload_n 3, 1) := by decide +kernel
theorem dX5_isStatement_165 : decode cX5_isStatement 165 = .ok (.bipush 10, 2) := by decide +kernel
theorem dX5_isStatement_167 : decode cX5_isStatement 167 = .ok (.if_icmp .ne 5, 3) := by decide +kernel
theorem dX5_isStatement_170 : decode cX5_isStatement 170 = .ok (.iconst 0, 1) := by decide +kernel
theorem dX5_isStatement_171 : decode cX5_isStatement 171 = .ok (.ireturn, 1) := by decide +kernel
theorem dX5_isStatement_172 : decode cX5_isStatement 172 = .ok (.aload_n 0, 1) := by decide +kernel
theorem dX5_isStatement_173 : decode cX5_isStatement 173 = .ok (.getfield 37, 3) := by decide +kernel
theorem dX5_isStatement_176 : decode cX5_isStatement 176 = .ok (.iload_n 1, 1) := by decide +kernel
theorem dX5_isStatement_177 : decode cX5_isStatement 177 = .ok (.iload_n 2, 1) := by decide +kernel
theorem dX5_isStatement_178 : decode cX5_isStatement 178 = .ok (.iastore, 1) := by decide +kernel
theorem dX5_isStatement_179 : decode cX5_isStatement 179 = .ok (.aload_n 0, 1) := by decide +kernel
theorem dX5_isStatement_180 : decode cX5_isStatement 180 = .ok (.getfield 44, 3) := by decide +kernel
theorem dX5_isStatement_183 : decode cX5_isStatement 183 = .ok (.iload_n 1, 1) := by decide +kernel
theorem dX5_isStatement_184 : decode cX5_isStatement 184 = .ok (.iconst 0, 1) := by decide +kernel
theorem dX5_isStatement_185 : decode cX5_isStatement 185 = .ok (.iastore, 1) := by decide +kernel
theorem dX5_isStatement_186 : decode cX5_isStatement 186 = .ok (.aload_n 0, 1) := by decide +kernel
theorem dX5_isStatement_187 : decode cX5_isStatement 187 = .ok (.getfield 47, 3) := by decide +kernel
theorem dX5_isStatement_190 : decode cX5_isStatement 190 = .ok (.iload_n 1, 1) := by decide +kernel
theorem dX5_isStatement_191 : decode cX5_isStatement 191 = .ok (.iconst 0, 1) := by decide +kernel
theorem dX5_isStatement_192 : decode cX5_isStatement 192 = .ok (.iastore, 1) := by decide +kernel
theorem dX5_isStatement_193 : decode cX5_isStatement 193 = .ok (.aload_n 0, 1) := by decide +kernel
theorem dX5_isStatement_194 : decode cX5_isStatement 194 = .ok (.getfield 50, 3) := by decide +kernel
theorem dX5_isStatement_197 : decode cX5_isStatement 197 = .ok (.iload_n 1, 1) := by decide +kernel
theorem dX5_isStatement_198 : decode cX5_isStatement 198 = .ok (.iload_n 2, 1) := by decide +kernel
theorem dX5_isStatement_199 : decode cX5_isStatement 199 = .ok (.ifCond .ne 7, 3) := by decide +kernel
theorem dX5_isStatement_202 : decode cX5_isStatement 202 = .ok (.iconst 1, 1) := by decide +kernel
theorem dX5_isStatement_203 : decode cX5_isStatement 203 = .ok (.goto 4, 3) := by decide +kernel
theorem dX5_isStatement_206 : decode cX5_isStatement 206 = .ok (.iconst 0, 1) := by decide +kernel
theorem dX5_isStatement_207 : decode cX5_isStatement 207 = .ok (.iastore, 1) := by decide +kernel
theorem dX5_isStatement_208 : decode cX5_isStatement 208 = .ok (.aload_n 0, 1) := by decide +kernel
theorem dX5_isStatement_209 : decode cX5_isStatement 209 = .ok (.getfield 53, 3) := by decide +kernel
theorem dX5_isStatement_212 : decode cX5_isStatement 212 = .ok (.iload_n 1, 1) := by decide +kernel
theorem dX5_isStatement_213 : decode cX5_isStatement 213 = .ok (.aload_n 0, 1) := by decide +kernel
theorem dX5_isStatement_214 : decode cX5_isStatement 214 = .ok (.getfield 303, 3) := by decide +kernel
theorem dX5_isStatement_217 : decode cX5_isStatement 217 = .ok (.iastore, 1) := by decide +kernel
theorem dX5_isStatement_218 : decode cX5_isStatement 218 = .ok (.aload_n 0, 1) := by decide +kernel
theorem dX5_isStatement_219 : decode cX5_isStatement 219 = .ok (.getfield 56, 3) := by decide +kernel
theorem dX5_isStatement_222 : decode cX5_isStatement 222 = .ok (.iload_n 1, 1) := by decide +kernel
theorem dX5_isStatement_223 : decode cX5_isStatement 223 = .ok (.aload_n 0, 1) := by decide +kernel
theorem dX5_isStatement_224 : decode cX5_isStatement 224 = .ok (.getfield 303, 3) := by decide +kernel
theorem dX5_isStatement_227 : decode cX5_isStatement 227 = .ok (.iastore, 1) := by decide +kernel
theorem dX5_isStatement_228 : decode cX5_isStatement 228 = .ok (.aload_n 0, 1) := by decide +kernel
theorem dX5_isStatement_229 : decode cX5_isStatement 229 = .ok (.getfield 59, 3) := by decide +kernel
theorem dX5_isStatement_232 : decode cX5_isStatement 232 = .ok (.iload_n 1, 1) := by decide +kernel
theorem dX5_isStatement_233 : decode cX5_isStatement 233 = .ok (.iconst (-1), 1) := by decide +kernel
theorem dX5_isStatement_234 : decode cX5_isStatement 234 = .ok (.iastore, 1) := by decide +kernel
theorem dX5_isStatement_235 : decode cX5_isStatement 235 = .ok (.aload_n 0, 1) := by decide +kernel
theorem dX5_isStatement_236 : decode cX5_isStatement 236 = .ok (.getfield 62, 3) := by decide +kernel
theorem dX5_isStatement_239 : decode cX5_isStatement 239 = .ok (.iload_n 1, 1) := by decide +kernel
theorem dX5_isStatement_240 : decode cX5_isStatement 240 = .ok (.iconst (-1), 1) := by decide +kernel
theorem dX5_isStatement_241 : decode cX5_isStatement 241 = .ok (.iastore, 1) := by decide +kernel
theorem dX5_isStatement_242 : decode cX5_isStatement 242 = .ok (.aload_n 0, 1) := by decide +kernel
theorem dX5_isStatement_243 : decode cX5_isStatement 243 = .ok (.invokevirtual 310, 3) := by decide +kernel
theorem dX5_isStatement_246 : decode cX5_isStatement 246 = .ok (.iload_n 2, 1) := by decide +kernel
theorem dX5_isStatement_247 : decode cX5_isStatement 247 = .ok (.iconst 1, 1) := by decide +kernel
theorem dX5_isStatement_248 : decode cX5_isStatement 248 = .ok (.if_icmp .gt 87, 3) := by decide +kernel
theorem dX5_isStatement_251 : decode cX5_isStatement 251 = .ok (.aload_n 0, 1) := by decide +kernel
theorem dX5_isStatement_252 : decode cX5_isStatement 252 = .ok (.getfield 261, 3) := by decide +kernel
theorem dX5_isStatement_255 : decode cX5_isStatement 255 = .ok (.iconst 2, 1) := by decide +kernel
theorem dX5_isStatement_256 : decode cX5_isStatement 256 = .ok (.if_icmp .ne 29, 3) := by decide +kernel
theorem dX5_isStatement_259 : decode cX5_isStatement 259 = .ok (.aload_n 0, 1) := by decide +kernel
theorem dX5_isStatement_260 : decode cX5_isStatement 260 = .ok (.getfield 268, 3) := by decide +kernel
theorem dX5_isStatement_263 : decode cX5_isStatement 263 = .ok (.invokestatic 317, 3) := by decide +kernel
theorem dX5_isStatement_266 : decode cX5_isStatement 266 = .ok (.ifCond .ne 19, 3) := by decide +kernel
theorem dX5_isStatement_269 : decode cX5_isStatement 269 = .ok (.aload_n 0, 1) := by decide +kernel
theorem dX5_isStatement_270 : decode cX5_isStatement 270 = .ok (.aload_n 0, 1) := by decide +kernel
theorem dX5_isStatement_271 : decode cX5_isStatement 271 = .ok (.getfield 320, 3) := by decide +kernel
theorem dX5_isStatement_274 : decode cX5_isStatement 274 = .ok (.aload_n 0, 1) := by decide +kernel
theorem dX5_isStatement_275 : decode cX5_isStatement 275 = .ok (.getfield 268, 3) := by decide +kernel
theorem dX5_isStatement_278 : decode cX5_isStatement 278 = .ok (.invokevirtual 323, 3) := by decide +kernel
theorem dX5_isStatement_281 : decode cX5_isStatement 281 = .ok (.iconst (-1), 1) := by decide +kernel
theorem dX5_isStatement_282 : decode cX5_isStatement 282 = .ok (.if_icmp .eq 5, 3) := by decide +kernel
theorem dX5_isStatement_285 : decode cX5_isStatement 285 = .ok (.iconst 0, 1) := by decide +kernel
theorem dX5_isStatement_286 : decode cX5_isStatement 286 = .ok (.ireturn, 1) := by decide +kernel
theorem dX5_isStatement_287 : decode cX5_isStatement 287 = .ok (.aload_n 0, 1) := by decide +kernel
theorem dX5_isStatement_288 : decode cX5_isStatement 288 = .ok (.getfield 40, 3) := by decide +kernel
theorem dX5_isStatement_291 : decode cX5_isStatement 291 = .ok (.iload_n 1, 1) := by decide +kernel
theorem dX5_isStatement_292 : decode cX5_isStatement 292 = .ok (.aload_n 0, 1) := by decide +kernel
theorem dX5_isStatement_293 : decode cX5_isStatement 293 = .ok (.getfield 268, 3) := by decide +kernel
theorem dX5_isStatement_296 : decode cX5_isStatement 296 = .ok (.lastore, 1) := by decide +kernel
theorem dX5_isStatement_297 : decode cX5_isStatement 297 = .ok (.aload_n 0, 1) := by decide +kernel
theorem dX5_isStatement_298 : decode cX5_isStatement 298 = .ok (.invokevirtual 310, 3) := by decide +kernel
theorem dX5_isStatement_301 : decode cX5_isStatement 301 = .ok (.iload_n 2, 1) := by decide +kernel
theorem dX5_isStatement_302 : decode cX5_isStatement 302 = .ok (.ifCond .ne 14, 3) := by decide +kernel
theorem dX5_isStatement_305 : decode cX5_isStatement 305 = .ok (.aload_n 0, 1) := by decide +kernel
theorem dX5_isStatement_306 : decode cX5_isStatement 306 = .ok (.iload_n 1, 1) := by decide +kernel
theorem dX5_isStatement_307 : decode cX5_isStatement 307 = .ok (.invokevirtual 337, 3) := by decide +kernel
theorem dX5_isStatement_310 : decode cX5_isStatement 310 = .ok (.ifCond .ne 15, 3) := by decide +kernel
theorem dX5_isStatement_313 : decode cX5_isStatement 313 = .ok (.goto 10, 3) := by decide +kernel
theorem dX5_isStatement_316 : decode cX5_isStatement 316 = .ok (.aload_n 0, 1) := by decide +kernel
theorem dX5_isStatement_317 : decode cX5_isStatement 317 = .ok (.invokevirtual 331, 3) := by decide +kernel
theorem dX5_isStatement_320 : decode cX5_isStatement 320 = .ok (.ifCond .ne 5, 3) := by decide +kernel
theorem dX5_isStatement_323 : decode cX5_isStatement 323 = .ok (.iconst 0, 1) := by decide +kernel
theorem dX5_isStatement_324 : decode cX5_isStatement 324 = .ok (.ireturn, 1) := by decide +kernel
theorem dX5_isStatement_325 : decode cX5_isStatement 325 = .ok (.aload_n 0, 1) := by decide +kernel
theorem dX5_isStatement_326 : decode cX5_isStatement 326 = .ok (.getfield 56, 3) := by decide +kernel
theorem dX5_isStatement_329 : decode cX5_isStatement 329 = .ok (.iload_n 1, 1) := by decide +kernel
theorem dX5_isStatement_330 : decode cX5_isStatement 330 = .ok (.aload_n 0, 1) := by decide +kernel
theorem dX5_isStatement_331 : decode cX5_isStatement 331 = .ok (.getfield 303, 3) := by decide +kernel
theorem dX5_isStatement_334 : decode cX5_isStatement 334 = .ok (.iastore, 1) := by decide +kernel
theorem dX5_isStatement_335 : decode cX5_isStatement 335 = .ok (.iload_n 2, 1) := by decide +kernel
theorem dX5_isStatement_336 : decode cX5_isStatement 336 = .ok (.iconst 2, 1) := by decide +kernel
theorem dX5_isStatement_337 : decode cX5_isStatement 337 = .ok (.if_icmp .lt 7, 3) := by decide +kernel
theorem dX5_isStatement_340 : decode cX5_isStatement 340 = .ok (.iconst 1, 1) := by decide +kernel
theorem dX5_isStatement_341 : decode cX5_isStatement 341 = .ok (.goto 4, 3) := by decide +kernel
theorem dX5_isStatement_344 : decode cX5_isStatement 344 = .ok (.iconst 0, 1) := by decide +kernel
theorem dX5_isStatement_345 : decode cX5_isStatement 345 = .ok (.istore 4, 2) := by decide +kernel
theorem dX5_isStatement_347 : decode cX5_isStatement 347 = .ok (.iload_n 2, 1) := by decide +kernel
theorem dX5_isStatement_348 : decode cX5_isStatement 348 = .ok (.iconst 1, 1) := by decide +kernel
theorem dX5_isStatement_349 : decode cX5_isStatement 349 = .ok (.if_icmp .gt 20, 3) := by decide +kernel
theorem dX5_isStatement_352 : decode cX5_isStatement 352 = .ok (.aload_n 0, 1) := by decide +kernel
theorem dX5_isStatement_353 : decode cX5_isStatement 353 = .ok (.ldc2_w 295, 3) := by decide +kernel
theorem dX5_isStatement_356 : decode cX5_isStatement 356 = .ok (.invokevirtual 313, 3) := by decide +kernel
theorem dX5_isStatement_359 : decode cX5_isStatement 359 = .ok (.ifCond .eq 10, 3) := by decide +kernel
theorem dX5_isStatement_362 : decode cX5_isStatement 362 = .ok (.iconst 1, 1) := by decide +kernel
theorem dX5_isStatement_363 : decode cX5_isStatement 363 = .ok (.istore 4, 2) := by decide +kernel
theorem dX5_isStatement_365 : decode cX5_isStatement 365 = .ok (.aload_n 0, 1) := by decide +kernel
theorem dX5_isStatement_366 : decode cX5_isStatement 366 = .ok (.invokevirtual 310, 3) := by decide +kernel
theorem dX5_isStatement_369 : decode cX5_isStatement 369 = .ok (.iload 4, 2) := by decide +kernel
theorem dX5_isStatement_371 : decode cX5_isStatement 371 = .ok (.ifCond .eq 32, 3) := by decide +kernel
theorem dX5_isStatement_374 : decode cX5_isStatement 374 = .ok (.aload_n 0, 1) := by decide +kernel
theorem dX5_isStatement_375 : decode cX5_isStatement 375 = .ok (.getfield 59, 3) := by decide +kernel
theorem dX5_isStatement_378 : decode cX5_isStatement 378 = .ok (.iload_n 1, 1) := by decide +kernel
theorem dX5_isStatement_379 : decode cX5_isStatement 379 = .ok (.aload_n 0, 1) := by decide +kernel
theorem dX5_isStatement_380 : decode cX5_isStatement 380 = .ok (.getfield 303, 3) := by decide +kernel
theorem dX5_isStatement_383 : decode cX5_isStatement 383 = .ok (.iastore, 1) := by decide +kernel
theorem dX5_isStatement_384 : decode cX5_isStatement 384 = .ok (.aload_n 0, 1) := by decide +kernel
theorem dX5_isStatement_385 : decode cX5_isStatement 385 = .ok (.invokevirtual 340, 3) := by decide +kernel
theorem dX5_isStatement_388 : decode cX5_isStatement 388 = .ok (.ifCond .ne 5, 3) := by decide +kernel
theorem dX5_isStatement_391 : decode cX5_isStatement 391 = .ok (.iconst 0, 1) := by decide +kernel
theorem dX5_isStatement_392 : decode cX5_isStatement 392 = .ok (.ireturn, 1) := by decide +kernel
theorem dX5_isStatement_393 : decode cX5_isStatement 393 = .ok (.aload_n 0, 1) := by decide +kernel
theorem dX5_isStatement_394 : decode cX5_isStatement 394 = .ok (.getfield 62, 3) := by decide +kernel
theorem dX5_isStatement_397 : decode cX5_isStatement 397 = .ok (.iload_n 1, 1) := by decide +kernel
theorem dX5_isStatement_398 : decode cX5_isStatement 398 = .ok (.aload_n 0, 1) := by decide +kernel
theorem dX5_isStatement_399 : decode cX5_isStatement 399 = .ok (.getfield 303, 3) := by decide +kernel
theorem dX5_isStatement_402 : decode cX5_isStatement 402 = .ok (.iastore, 1) := by decide +kernel
theorem dX5_isStatement_403 : decode cX5_isStatement 403 = .ok (.aload_n 0, 1) := by decide +kernel
theorem dX5_isStatement_404 : decode cX5_isStatement 404 = .ok (.getfield 261, 3) := by decide +kernel
theorem dX5_isStatement_407 : decode cX5_isStatement 407 = .ok (.bipush 6, 2) := by decide +kernel
theorem dX5_isStatement_409 : decode cX5_isStatement 409 = .ok (.if_icmp .ne 7, 3) := by decide +kernel
theorem dX5_isStatement_412 : decode cX5_isStatement 412 = .ok (.iconst 1, 1) := by decide +kernel
theorem dX5_isStatement_413 : decode cX5_isStatement 413 = .ok (.goto 4, 3) := by decide +kernel
theorem dX5_isStatement_416 : decode cX5_isStatement 416 = .ok (.iconst 0, 1) := by decide +kernel
theorem dX5_isStatement_417 : decode cX5_isStatement 417 = .ok (.ireturn, 1) := by decide +kernel
theorem dX5_isKept_0 : decode cX5_isKept 0 = .ok (.lload_n 0, 1) := by decide +kernel
theorem dX5_isKept_1 : decode cX5_isKept 1 = .ok (.ldc2_w 287, 3) := by decide +kernel
theorem dX5_isKept_4 : decode cX5_isKept 4 = .ok (.lcmp, 1) := by decide +kernel
theorem dX5_isKept_5 : decode cX5_isKept 5 = .ok (.ifCond .eq 59, 3) := by decide +kernel
theorem dX5_isKept_8 : decode cX5_isKept 8 = .ok (.lload_n 0, 1) := by decide +kernel
theorem dX5_isKept_9 : decode cX5_isKept 9 = .ok (.ldc2_w 289, 3) := by decide +kernel
theorem dX5_isKept_12 : decode cX5_isKept 12 = .ok (.lcmp, 1) := by decide +kernel
theorem dX5_isKept_13 : decode cX5_isKept 13 = .ok (.ifCond .eq 51, 3) := by decide +kernel
theorem dX5_isKept_16 : decode cX5_isKept 16 = .ok (.lload_n 0, 1) := by decide +kernel
theorem dX5_isKept_17 : decode cX5_isKept 17 = .ok (.ldc2_w 291, 3) := by decide +kernel
theorem dX5_isKept_20 : decode cX5_isKept 20 = .ok (.lcmp, 1) := by decide +kernel
theorem dX5_isKept_21 : decode cX5_isKept 21 = .ok (.ifCond .eq 43, 3) := by decide +kernel
theorem dX5_isKept_24 : decode cX5_isKept 24 = .ok (.lload_n 0, 1) := by decide +kernel
theorem dX5_isKept_25 : decode cX5_isKept 25 = .ok (.ldc2_w 293, 3) := by decide +kernel
theorem dX5_isKept_28 : decode cX5_isKept 28 = .ok (.lcmp, 1) := by decide +kernel
theorem dX5_isKept_29 : decode cX5_isKept 29 = .ok (.ifCond .eq 35, 3) := by decide +kernel
theorem dX5_isKept_32 : decode cX5_isKept 32 = .ok (.lload_n 0, 1) := by decide +kernel
theorem dX5_isKept_33 : decode cX5_isKept 33 = .ok (.ldc2_w 295, 3) := by decide +kernel
theorem dX5_isKept_36 : decode cX5_isKept 36 = .ok (.lcmp, 1) := by decide +kernel
theorem dX5_isKept_37 : decode cX5_isKept 37 = .ok (.ifCond .eq 27, 3) := by decide +kernel
theorem dX5_isKept_40 : decode cX5_isKept 40 = .ok (.lload_n 0, 1) := by decide +kernel
theorem dX5_isKept_41 : decode cX5_isKept 41 = .ok (.ldc2_w 297, 3) := by decide +kernel
theorem dX5_isKept_44 : decode cX5_isKept 44 = .ok (.lcmp, 1) := by decide +kernel
theorem dX5_isKept_45 : decode cX5_isKept 45 = .ok (.ifCond .eq 19, 3) := by decide +kernel
theorem dX5_isKept_48 : decode cX5_isKept 48 = .ok (.lload_n 0, 1) := by decide +kernel
theorem dX5_isKept_49 : decode cX5_isKept 49 = .ok (.ldc2_w 299, 3) := by decide +kernel
theorem dX5_isKept_52 : decode cX5_isKept 52 = .ok (.lcmp, 1) := by decide +kernel
theorem dX5_isKept_53 : decode cX5_isKept 53 = .ok (.ifCond .eq 11, 3) := by decide +kernel
theorem dX5_isKept_56 : decode cX5_isKept 56 = .ok (.lload_n 0, 1) := by decide +kernel
theorem dX5_isKept_57 : decode cX5_isKept 57 = .ok (.ldc2_w 301, 3) := by decide +kernel
theorem dX5_isKept_60 : decode cX5_isKept 60 = .ok (.lcmp, 1) := by decide +kernel
theorem dX5_isKept_61 : decode cX5_isKept 61 = .ok (.ifCond .ne 7, 3) := by decide +kernel
theorem dX5_isKept_64 : decode cX5_isKept 64 = .ok (.iconst 1, 1) := by decide +kernel
theorem dX5_isKept_65 : decode cX5_isKept 65 = .ok (.goto 4, 3) := by decide +kernel
theorem dX5_isKept_68 : decode cX5_isKept 68 = .ok (.iconst 0, 1) := by decide +kernel
theorem dX5_isKept_69 : decode cX5_isKept 69 = .ok (.ireturn, 1) := by decide +kernel
theorem dX5_nameOf_0 : decode cX5_nameOf 0 = .ok (.iconst 0, 1) := by decide +kernel
theorem dX5_nameOf_1 : decode cX5_nameOf 1 = .ok (.istore 4, 2) := by decide +kernel
theorem dX5_nameOf_3 : decode cX5_nameOf 3 = .ok (.iload 4, 2) := by decide +kernel
theorem dX5_nameOf_5 : decode cX5_nameOf 5 = .ok (.aload_n 0, 1) := by decide +kernel
theorem dX5_nameOf_6 : decode cX5_nameOf 6 = .ok (.getfield 34, 3) := by decide +kernel
theorem dX5_nameOf_9 : decode cX5_nameOf 9 = .ok (.iload_n 1, 1) := by decide +kernel
theorem dX5_nameOf_10 : decode cX5_nameOf 10 = .ok (.iaload, 1) := by decide +kernel
theorem dX5_nameOf_11 : decode cX5_nameOf 11 = .ok (.if_icmp .ge 45, 3) := by decide +kernel
theorem dX5_nameOf_14 : decode cX5_nameOf 14 = .ok (.aload_n 0, 1) := by decide +kernel
theorem dX5_nameOf_15 : decode cX5_nameOf 15 = .ok (.getfield 37, 3) := by decide +kernel
theorem dX5_nameOf_18 : decode cX5_nameOf 18 = .ok (.bipush 20, 2) := by decide +kernel
theorem dX5_nameOf_20 : decode cX5_nameOf 20 = .ok (.iload_n 1, 1) := by decide +kernel
theorem dX5_nameOf_21 : decode cX5_nameOf 21 = .ok (.imul, 1) := by decide +kernel
theorem dX5_nameOf_22 : decode cX5_nameOf 22 = .ok (.iload 4, 2) := by decide +kernel
theorem dX5_nameOf_24 : decode cX5_nameOf 24 = .ok (.iadd, 1) := by decide +kernel
theorem dX5_nameOf_25 : decode cX5_nameOf 25 = .ok (.iaload, 1) := by decide +kernel
theorem dX5_nameOf_26 : decode cX5_nameOf 26 = .ok (.iconst 1, 1) := by decide +kernel
theorem dX5_nameOf_27 : decode cX5_nameOf 27 = .ok (.if_icmp .gt 23, 3) := by decide +kernel
theorem dX5_nameOf_30 : decode cX5_nameOf 30 = .ok (.aload_n 0, 1) := by decide +kernel
theorem dX5_nameOf_31 : decode cX5_nameOf 31 = .ok (.getfield 40, 3) := by decide +kernel
theorem dX5_nameOf_34 : decode cX5_nameOf 34 = .ok (.bipush 20, 2) := by decide +kernel
theorem dX5_nameOf_36 : decode cX5_nameOf 36 = .ok (.iload_n 1, 1) := by decide +kernel
theorem dX5_nameOf_37 : decode cX5_nameOf 37 = .ok (.imul, 1) := by decide +kernel
theorem dX5_nameOf_38 : decode cX5_nameOf 38 = .ok (.iload 4, 2) := by decide +kernel
theorem dX5_nameOf_40 : decode cX5_nameOf 40 = .ok (.iadd, 1) := by decide +kernel
theorem dX5_nameOf_41 : decode cX5_nameOf 41 = .ok (.laload, 1) := by decide +kernel
theorem dX5_nameOf_42 : decode cX5_nameOf 42 = .ok (.lload_n 2, 1) := by decide +kernel
theorem dX5_nameOf_43 : decode cX5_nameOf 43 = .ok (.lcmp, 1) := by decide +kernel
theorem dX5_nameOf_44 : decode cX5_nameOf 44 = .ok (.ifCond .ne 6, 3) := by decide +kernel
theorem dX5_nameOf_47 : decode cX5_nameOf 47 = .ok (.iload 4, 2) := by decide +kernel
theorem dX5_nameOf_49 : decode cX5_nameOf 49 = .ok (.ireturn, 1) := by decide +kernel
theorem dX5_nameOf_50 : decode cX5_nameOf 50 = .ok (.iinc 4 1, 3) := by decide +kernel
theorem dX5_nameOf_53 : decode cX5_nameOf 53 = .ok (.goto (-50), 3) := by decide +kernel
theorem dX5_nameOf_56 : decode cX5_nameOf 56 = .ok (.iconst (-1), 1) := by decide +kernel
theorem dX5_nameOf_57 : decode cX5_nameOf 57 = .ok (.ireturn, 1) := by decide +kernel
theorem dX5_isBounds_0 : decode cX5_isBounds 0 = .ok (.aload_n 0, 1) := by decide +kernel
theorem dX5_isBounds_1 : decode cX5_isBounds 1 = .ok (.invokevirtual 343, 3) := by decide +kernel
theorem dX5_isBounds_4 : decode cX5_isBounds 4 = .ok (.ifCond .ne 5, 3) := by decide +kernel
theorem dX5_isBounds_7 : decode cX5_isBounds 7 = .ok (.iconst 0, 1) := by decide +kernel
theorem dX5_isBounds_8 : decode cX5_isBounds 8 = .ok (.ireturn, 1) := by decide +kernel
theorem dX5_isBounds_9 : decode cX5_isBounds 9 = .ok (.aload_n 0, 1) := by decide +kernel
theorem dX5_isBounds_10 : decode cX5_isBounds 10 = .ok (.getfield 44, 3) := by decide +kernel
theorem dX5_isBounds_13 : decode cX5_isBounds 13 = .ok (.iload_n 1, 1) := by decide +kernel
theorem dX5_isBounds_14 : decode cX5_isBounds 14 = .ok (.aload_n 0, 1) := by decide +kernel
theorem dX5_isBounds_15 : decode cX5_isBounds 15 = .ok (.getfield 334, 3) := by decide +kernel
theorem dX5_isBounds_18 : decode cX5_isBounds 18 = .ok (.iastore, 1) := by decide +kernel
theorem dX5_isBounds_19 : decode cX5_isBounds 19 = .ok (.aload_n 0, 1) := by decide +kernel
theorem dX5_isBounds_20 : decode cX5_isBounds 20 = .ok (.invokevirtual 310, 3) := by decide +kernel
theorem dX5_isBounds_23 : decode cX5_isBounds 23 = .ok (.aload_n 0, 1) := by decide +kernel
theorem dX5_isBounds_24 : decode cX5_isBounds 24 = .ok (.getfield 255, 3) := by decide +kernel
theorem dX5_isBounds_27 : decode cX5_isBounds 27 = .ok (.istore_n 2, 1) := by decide +kernel
theorem dX5_isBounds_28 : decode cX5_isBounds 28 = .ok (.aload_n 0, 1) := by decide +kernel
theorem dX5_isBounds_29 : decode cX5_isBounds 29 = .ok (.invokevirtual 343, 3) := by decide +kernel
theorem dX5_isBounds_32 : decode cX5_isBounds 32 = .ok (.ifCond .ne 5, 3) := by decide +kernel
theorem dX5_isBounds_35 : decode cX5_isBounds 35 = .ok (.iconst 0, 1) := by decide +kernel
theorem dX5_isBounds_36 : decode cX5_isBounds 36 = .ok (.ireturn, 1) := by decide +kernel
theorem dX5_isBounds_37 : decode cX5_isBounds 37 = .ok (.aload_n 0, 1) := by decide +kernel
theorem dX5_isBounds_38 : decode cX5_isBounds 38 = .ok (.getfield 334, 3) := by decide +kernel
theorem dX5_isBounds_41 : decode cX5_isBounds 41 = .ok (.aload_n 0, 1) := by decide +kernel
theorem dX5_isBounds_42 : decode cX5_isBounds 42 = .ok (.getfield 44, 3) := by decide +kernel
theorem dX5_isBounds_45 : decode cX5_isBounds 45 = .ok (.iload_n 1, 1) := by decide +kernel
theorem dX5_isBounds_46 : decode cX5_isBounds 46 = .ok (.iaload, 1) := by decide +kernel
theorem dX5_isBounds_47 : decode cX5_isBounds 47 = .ok (.if_icmp .ge 10, 3) := by decide +kernel
theorem dX5_isBounds_50 : decode cX5_isBounds 50 = .ok (.aload_n 0, 1) := by decide +kernel
theorem dX5_isBounds_51 : decode cX5_isBounds 51 = .ok (.iload_n 2, 1) := by decide +kernel
theorem dX5_isBounds_52 : decode cX5_isBounds 52 = .ok (.putfield 255, 3) := by decide +kernel
theorem dX5_isBounds_55 : decode cX5_isBounds 55 = .ok (.iconst 0, 1) := by decide +kernel
theorem dX5_isBounds_56 : decode cX5_isBounds 56 = .ok (.ireturn, 1) := by decide +kernel
theorem dX5_isBounds_57 : decode cX5_isBounds 57 = .ok (.aload_n 0, 1) := by decide +kernel
theorem dX5_isBounds_58 : decode cX5_isBounds 58 = .ok (.getfield 47, 3) := by decide +kernel
theorem dX5_isBounds_61 : decode cX5_isBounds 61 = .ok (.iload_n 1, 1) := by decide +kernel
theorem dX5_isBounds_62 : decode cX5_isBounds 62 = .ok (.aload_n 0, 1) := by decide +kernel
theorem dX5_isBounds_63 : decode cX5_isBounds 63 = .ok (.getfield 334, 3) := by decide +kernel
theorem dX5_isBounds_66 : decode cX5_isBounds 66 = .ok (.iastore, 1) := by decide +kernel
theorem dX5_isBounds_67 : decode cX5_isBounds 67 = .ok (.aload_n 0, 1) := by decide +kernel
theorem dX5_isBounds_68 : decode cX5_isBounds 68 = .ok (.invokevirtual 310, 3) := by decide +kernel
theorem dX5_isBounds_71 : decode cX5_isBounds 71 = .ok (.iconst 1, 1) := by decide +kernel
theorem dX5_isBounds_72 : decode cX5_isBounds 72 = .ok (.ireturn, 1) := by decide +kernel
theorem dX5_isBound_0 : decode cX5_isBound 0 = .ok (.aload_n 0, 1) := by decide +kernel
theorem dX5_isBound_1 : decode cX5_isBound 1 = .ok (.getfield 261, 3) := by decide +kernel
theorem dX5_isBound_4 : decode cX5_isBound 4 = .ok (.iconst 4, 1) := by decide +kernel
theorem dX5_isBound_5 : decode cX5_isBound 5 = .ok (.if_icmp .ne 15, 3) := by decide +kernel
theorem dX5_isBound_8 : decode cX5_isBound 8 = .ok (.aload_n 0, 1) := by decide +kernel
theorem dX5_isBound_9 : decode cX5_isBound 9 = .ok (.getfield 280, 3) := by decide +kernel
theorem dX5_isBound_12 : decode cX5_isBound 12 = .ok (.iconst 4, 1) := by decide +kernel
theorem dX5_isBound_13 : decode cX5_isBound 13 = .ok (.if_icmp .ne 7, 3) := by decide +kernel
theorem dX5_isBound_16 : decode cX5_isBound 16 = .ok (.iconst 1, 1) := by decide +kernel
theorem dX5_isBound_17 : decode cX5_isBound 17 = .ok (.goto 4, 3) := by decide +kernel
theorem dX5_isBound_20 : decode cX5_isBound 20 = .ok (.iconst 0, 1) := by decide +kernel
theorem dX5_isBound_21 : decode cX5_isBound 21 = .ok (.istore_n 1, 1) := by decide +kernel
theorem dX5_isBound_22 : decode cX5_isBound 22 = .ok (.iload_n 1, 1) := by decide +kernel
theorem dX5_isBound_23 : decode cX5_isBound 23 = .ok (.ifCond .eq 7, 3) := by decide +kernel
theorem dX5_isBound_26 : decode cX5_isBound 26 = .ok (.aload_n 0, 1) := by decide +kernel
theorem dX5_isBound_27 : decode cX5_isBound 27 = .ok (.invokevirtual 310, 3) := by decide +kernel
theorem dX5_isBound_30 : decode cX5_isBound 30 = .ok (.aload_n 0, 1) := by decide +kernel
theorem dX5_isBound_31 : decode cX5_isBound 31 = .ok (.getfield 261, 3) := by decide +kernel
theorem dX5_isBound_34 : decode cX5_isBound 34 = .ok (.iconst 3, 1) := by decide +kernel
theorem dX5_isBound_35 : decode cX5_isBound 35 = .ok (.if_icmp .eq 5, 3) := by decide +kernel
theorem dX5_isBound_38 : decode cX5_isBound 38 = .ok (.iconst 0, 1) := by decide +kernel
theorem dX5_isBound_39 : decode cX5_isBound 39 = .ok (.ireturn, 1) := by decide +kernel
theorem dX5_isBound_40 : decode cX5_isBound 40 = .ok (.aload_n 0, 1) := by decide +kernel
theorem dX5_isBound_41 : decode cX5_isBound 41 = .ok (.iload_n 1, 1) := by decide +kernel
theorem dX5_isBound_42 : decode cX5_isBound 42 = .ok (.ifCond .eq 11, 3) := by decide +kernel
theorem dX5_isBound_45 : decode cX5_isBound 45 = .ok (.aload_n 0, 1) := by decide +kernel
theorem dX5_isBound_46 : decode cX5_isBound 46 = .ok (.getfield 280, 3) := by decide +kernel
theorem dX5_isBound_49 : decode cX5_isBound 49 = .ok (.ineg, 1) := by decide +kernel
theorem dX5_isBound_50 : decode cX5_isBound 50 = .ok (.goto 7, 3) := by decide +kernel
theorem dX5_isBound_53 : decode cX5_isBound 53 = .ok (.aload_n 0, 1) := by decide +kernel
theorem dX5_isBound_54 : decode cX5_isBound 54 = .ok (.getfield 280, 3) := by decide +kernel
theorem dX5_isBound_57 : decode cX5_isBound 57 = .ok (.putfield 334, 3) := by decide +kernel
theorem dX5_isBound_60 : decode cX5_isBound 60 = .ok (.iconst 1, 1) := by decide +kernel
theorem dX5_isBound_61 : decode cX5_isBound 61 = .ok (.ireturn, 1) := by decide +kernel
theorem dX5_expr_0 : decode cX5_expr 0 = .ok (.aload_n 0, 1) := by decide +kernel
theorem dX5_expr_1 : decode cX5_expr 1 = .ok (.invokevirtual 327, 3) := by decide +kernel
theorem dX5_expr_4 : decode cX5_expr 4 = .ok (.ifCond .ne 5, 3) := by decide +kernel
theorem dX5_expr_7 : decode cX5_expr 7 = .ok (.iconst 0, 1) := by decide +kernel
theorem dX5_expr_8 : decode cX5_expr 8 = .ok (.ireturn, 1) := by decide +kernel
theorem dX5_expr_9 : decode cX5_expr 9 = .ok (.aload_n 0, 1) := by decide +kernel
theorem dX5_expr_10 : decode cX5_expr 10 = .ok (.getfield 261, 3) := by decide +kernel
theorem dX5_expr_13 : decode cX5_expr 13 = .ok (.iconst 4, 1) := by decide +kernel
theorem dX5_expr_14 : decode cX5_expr 14 = .ok (.if_icmp .ne 25, 3) := by decide +kernel
theorem dX5_expr_17 : decode cX5_expr 17 = .ok (.aload_n 0, 1) := by decide +kernel
theorem dX5_expr_18 : decode cX5_expr 18 = .ok (.aload_n 0, 1) := by decide +kernel
theorem dX5_expr_19 : decode cX5_expr 19 = .ok (.getfield 280, 3) := by decide +kernel
theorem dX5_expr_22 : decode cX5_expr 22 = .ok (.iconst 0, 1) := by decide +kernel
theorem dX5_expr_23 : decode cX5_expr 23 = .ok (.invokevirtual 306, 3) := by decide +kernel
theorem dX5_expr_26 : decode cX5_expr 26 = .ok (.aload_n 0, 1) := by decide +kernel
theorem dX5_expr_27 : decode cX5_expr 27 = .ok (.invokevirtual 310, 3) := by decide +kernel
theorem dX5_expr_30 : decode cX5_expr 30 = .ok (.aload_n 0, 1) := by decide +kernel
theorem dX5_expr_31 : decode cX5_expr 31 = .ok (.invokevirtual 327, 3) := by decide +kernel
theorem dX5_expr_34 : decode cX5_expr 34 = .ok (.ifCond .ne (-25), 3) := by decide +kernel
theorem dX5_expr_37 : decode cX5_expr 37 = .ok (.iconst 0, 1) := by decide +kernel
theorem dX5_expr_38 : decode cX5_expr 38 = .ok (.ireturn, 1) := by decide +kernel
theorem dX5_expr_39 : decode cX5_expr 39 = .ok (.iconst 1, 1) := by decide +kernel
theorem dX5_expr_40 : decode cX5_expr 40 = .ok (.ireturn, 1) := by decide +kernel
theorem dX5_term_0 : decode cX5_term 0 = .ok (.aload_n 0, 1) := by decide +kernel
theorem dX5_term_1 : decode cX5_term 1 = .ok (.getfield 261, 3) := by decide +kernel
theorem dX5_term_4 : decode cX5_term 4 = .ok (.iconst 3, 1) := by decide +kernel
theorem dX5_term_5 : decode cX5_term 5 = .ok (.if_icmp .ne 18, 3) := by decide +kernel
theorem dX5_term_8 : decode cX5_term 8 = .ok (.aload_n 0, 1) := by decide +kernel
theorem dX5_term_9 : decode cX5_term 9 = .ok (.iconst 0, 1) := by decide +kernel
theorem dX5_term_10 : decode cX5_term 10 = .ok (.aload_n 0, 1) := by decide +kernel
theorem dX5_term_11 : decode cX5_term 11 = .ok (.getfield 280, 3) := by decide +kernel
theorem dX5_term_14 : decode cX5_term 14 = .ok (.invokevirtual 306, 3) := by decide +kernel
theorem dX5_term_17 : decode cX5_term 17 = .ok (.aload_n 0, 1) := by decide +kernel
theorem dX5_term_18 : decode cX5_term 18 = .ok (.invokevirtual 310, 3) := by decide +kernel
theorem dX5_term_21 : decode cX5_term 21 = .ok (.iconst 1, 1) := by decide +kernel
theorem dX5_term_22 : decode cX5_term 22 = .ok (.ireturn, 1) := by decide +kernel
theorem dX5_term_23 : decode cX5_term 23 = .ok (.aload_n 0, 1) := by decide +kernel
theorem dX5_term_24 : decode cX5_term 24 = .ok (.getfield 261, 3) := by decide +kernel
theorem dX5_term_27 : decode cX5_term 27 = .ok (.iconst 4, 1) := by decide +kernel
theorem dX5_term_28 : decode cX5_term 28 = .ok (.if_icmp .ne 41, 3) := by decide +kernel
theorem dX5_term_31 : decode cX5_term 31 = .ok (.aload_n 0, 1) := by decide +kernel
theorem dX5_term_32 : decode cX5_term 32 = .ok (.getfield 280, 3) := by decide +kernel
theorem dX5_term_35 : decode cX5_term 35 = .ok (.iconst 4, 1) := by decide +kernel
theorem dX5_term_36 : decode cX5_term 36 = .ok (.if_icmp .ne 33, 3) := by decide +kernel
theorem dX5_term_39 : decode cX5_term 39 = .ok (.aload_n 0, 1) := by decide +kernel
theorem dX5_term_40 : decode cX5_term 40 = .ok (.invokevirtual 310, 3) := by decide +kernel
theorem dX5_term_43 : decode cX5_term 43 = .ok (.aload_n 0, 1) := by decide +kernel
theorem dX5_term_44 : decode cX5_term 44 = .ok (.getfield 261, 3) := by decide +kernel
theorem dX5_term_47 : decode cX5_term 47 = .ok (.iconst 3, 1) := by decide +kernel
theorem dX5_term_48 : decode cX5_term 48 = .ok (.if_icmp .eq 5, 3) := by decide +kernel
theorem dX5_term_51 : decode cX5_term 51 = .ok (.iconst 0, 1) := by decide +kernel
theorem dX5_term_52 : decode cX5_term 52 = .ok (.ireturn, 1) := by decide +kernel
theorem dX5_term_53 : decode cX5_term 53 = .ok (.aload_n 0, 1) := by decide +kernel
theorem dX5_term_54 : decode cX5_term 54 = .ok (.iconst 0, 1) := by decide +kernel
theorem dX5_term_55 : decode cX5_term 55 = .ok (.aload_n 0, 1) := by decide +kernel
theorem dX5_term_56 : decode cX5_term 56 = .ok (.getfield 280, 3) := by decide +kernel
theorem dX5_term_59 : decode cX5_term 59 = .ok (.ineg, 1) := by decide +kernel
theorem dX5_term_60 : decode cX5_term 60 = .ok (.invokevirtual 306, 3) := by decide +kernel
theorem dX5_term_63 : decode cX5_term 63 = .ok (.aload_n 0, 1) := by decide +kernel
theorem dX5_term_64 : decode cX5_term 64 = .ok (.invokevirtual 310, 3) := by decide +kernel
theorem dX5_term_67 : decode cX5_term 67 = .ok (.iconst 1, 1) := by decide +kernel
theorem dX5_term_68 : decode cX5_term 68 = .ok (.ireturn, 1) := by decide +kernel
theorem dX5_term_69 : decode cX5_term 69 = .ok (.aload_n 0, 1) := by decide +kernel
theorem dX5_term_70 : decode cX5_term 70 = .ok (.ldc2_w 301, 3) := by decide +kernel
theorem dX5_term_73 : decode cX5_term 73 = .ok (.invokevirtual 313, 3) := by decide +kernel
theorem dX5_term_76 : decode cX5_term 76 = .ok (.ifCond .eq 40, 3) := by decide +kernel
theorem dX5_term_79 : decode cX5_term 79 = .ok (.aload_n 0, 1) := by decide +kernel
theorem dX5_term_80 : decode cX5_term 80 = .ok (.invokevirtual 310, 3) := by decide +kernel
theorem dX5_term_83 : decode cX5_term 83 = .ok (.aload_n 0, 1) := by decide +kernel
theorem dX5_term_84 : decode cX5_term 84 = .ok (.getfield 261, 3) := by decide +kernel
theorem dX5_term_87 : decode cX5_term 87 = .ok (.iconst 3, 1) := by decide +kernel
theorem dX5_term_88 : decode cX5_term 88 = .ok (.if_icmp .ne 11, 3) := by decide +kernel
theorem dX5_term_91 : decode cX5_term 91 = .ok (.aload_n 0, 1) := by decide +kernel
theorem dX5_term_92 : decode cX5_term 92 = .ok (.getfield 280, 3) := by decide +kernel
theorem dX5_term_95 : decode cX5_term 95 = .ok (.iconst 5, 1) := by decide +kernel
theorem dX5_term_96 : decode cX5_term 96 = .ok (.if_icmp .le 5, 3) := by decide +kernel
theorem dX5_term_99 : decode cX5_term 99 = .ok (.iconst 0, 1) := by decide +kernel
theorem dX5_term_100 : decode cX5_term 100 = .ok (.ireturn, 1) := by decide +kernel
theorem dX5_term_101 : decode cX5_term 101 = .ok (.aload_n 0, 1) := by decide +kernel
theorem dX5_term_102 : decode cX5_term 102 = .ok (.iconst 2, 1) := by decide +kernel
theorem dX5_term_103 : decode cX5_term 103 = .ok (.aload_n 0, 1) := by decide +kernel
theorem dX5_term_104 : decode cX5_term 104 = .ok (.getfield 280, 3) := by decide +kernel
theorem dX5_term_107 : decode cX5_term 107 = .ok (.invokevirtual 306, 3) := by decide +kernel
theorem dX5_term_110 : decode cX5_term 110 = .ok (.aload_n 0, 1) := by decide +kernel
theorem dX5_term_111 : decode cX5_term 111 = .ok (.invokevirtual 310, 3) := by decide +kernel
theorem dX5_term_114 : decode cX5_term 114 = .ok (.iconst 1, 1) := by decide +kernel
theorem dX5_term_115 : decode cX5_term 115 = .ok (.ireturn, 1) := by decide +kernel
theorem dX5_term_116 : decode cX5_term 116 = .ok (.aload_n 0, 1) := by decide +kernel
theorem dX5_term_117 : decode cX5_term 117 = .ok (.getfield 261, 3) := by decide +kernel
theorem dX5_term_120 : decode cX5_term 120 = .ok (.iconst 2, 1) := by decide +kernel
theorem dX5_term_121 : decode cX5_term 121 = .ok (.if_icmp .ne 29, 3) := by decide +kernel
theorem dX5_term_124 : decode cX5_term 124 = .ok (.aload_n 0, 1) := by decide +kernel
theorem dX5_term_125 : decode cX5_term 125 = .ok (.getfield 268, 3) := by decide +kernel
theorem dX5_term_128 : decode cX5_term 128 = .ok (.invokestatic 317, 3) := by decide +kernel
theorem dX5_term_131 : decode cX5_term 131 = .ok (.ifCond .ne 19, 3) := by decide +kernel
theorem dX5_term_134 : decode cX5_term 134 = .ok (.aload_n 0, 1) := by decide +kernel
theorem dX5_term_135 : decode cX5_term 135 = .ok (.aload_n 0, 1) := by decide +kernel
theorem dX5_term_136 : decode cX5_term 136 = .ok (.getfield 320, 3) := by decide +kernel
theorem dX5_term_139 : decode cX5_term 139 = .ok (.aload_n 0, 1) := by decide +kernel
theorem dX5_term_140 : decode cX5_term 140 = .ok (.getfield 268, 3) := by decide +kernel
theorem dX5_term_143 : decode cX5_term 143 = .ok (.invokevirtual 323, 3) := by decide +kernel
theorem dX5_term_146 : decode cX5_term 146 = .ok (.iconst (-1), 1) := by decide +kernel
theorem dX5_term_147 : decode cX5_term 147 = .ok (.if_icmp .ne 5, 3) := by decide +kernel
theorem dX5_term_150 : decode cX5_term 150 = .ok (.iconst 0, 1) := by decide +kernel
theorem dX5_term_151 : decode cX5_term 151 = .ok (.ireturn, 1) := by decide +kernel
theorem dX5_term_152 : decode cX5_term 152 = .ok (.aload_n 0, 1) := by decide +kernel
theorem dX5_term_153 : decode cX5_term 153 = .ok (.iconst 1, 1) := by decide +kernel
theorem dX5_term_154 : decode cX5_term 154 = .ok (.aload_n 0, 1) := by decide +kernel
theorem dX5_term_155 : decode cX5_term 155 = .ok (.aload_n 0, 1) := by decide +kernel
theorem dX5_term_156 : decode cX5_term 156 = .ok (.getfield 320, 3) := by decide +kernel
theorem dX5_term_159 : decode cX5_term 159 = .ok (.aload_n 0, 1) := by decide +kernel
theorem dX5_term_160 : decode cX5_term 160 = .ok (.getfield 268, 3) := by decide +kernel
theorem dX5_term_163 : decode cX5_term 163 = .ok (.invokevirtual 323, 3) := by decide +kernel
theorem dX5_term_166 : decode cX5_term 166 = .ok (.invokevirtual 306, 3) := by decide +kernel
theorem dX5_term_169 : decode cX5_term 169 = .ok (.aload_n 0, 1) := by decide +kernel
theorem dX5_term_170 : decode cX5_term 170 = .ok (.invokevirtual 310, 3) := by decide +kernel
theorem dX5_term_173 : decode cX5_term 173 = .ok (.iconst 1, 1) := by decide +kernel
theorem dX5_term_174 : decode cX5_term 174 = .ok (.ireturn, 1) := by decide +kernel
theorem dX5_lay_0 : decode cX5_lay 0 = .ok (.aload_n 0, 1) := by decide +kernel
theorem dX5_lay_1 : decode cX5_lay 1 = .ok (.getfield 65, 3) := by decide +kernel
theorem dX5_lay_4 : decode cX5_lay 4 = .ok (.aload_n 0, 1) := by decide +kernel
theorem dX5_lay_5 : decode cX5_lay 5 = .ok (.getfield 303, 3) := by decide +kernel
theorem dX5_lay_8 : decode cX5_lay 8 = .ok (.iload_n 1, 1) := by decide +kernel
theorem dX5_lay_9 : decode cX5_lay 9 = .ok (.iastore, 1) := by decide +kernel
theorem dX5_lay_10 : decode cX5_lay 10 = .ok (.aload_n 0, 1) := by decide +kernel
theorem dX5_lay_11 : decode cX5_lay 11 = .ok (.getfield 68, 3) := by decide +kernel
theorem dX5_lay_14 : decode cX5_lay 14 = .ok (.aload_n 0, 1) := by decide +kernel
theorem dX5_lay_15 : decode cX5_lay 15 = .ok (.getfield 303, 3) := by decide +kernel
theorem dX5_lay_18 : decode cX5_lay 18 = .ok (.iload_n 2, 1) := by decide +kernel
theorem dX5_lay_19 : decode cX5_lay 19 = .ok (.iastore, 1) := by decide +kernel
theorem dX5_lay_20 : decode cX5_lay 20 = .ok (.aload_n 0, 1) := by decide +kernel
theorem dX5_lay_21 : decode cX5_lay 21 = .ok (.dup, 1) := by decide +kernel
theorem dX5_lay_22 : decode cX5_lay 22 = .ok (.getfield 303, 3) := by decide +kernel
theorem dX5_lay_25 : decode cX5_lay 25 = .ok (.iconst 1, 1) := by decide +kernel
theorem dX5_lay_26 : decode cX5_lay 26 = .ok (.iadd, 1) := by decide +kernel
theorem dX5_lay_27 : decode cX5_lay 27 = .ok (.putfield 303, 3) := by decide +kernel
theorem dX5_lay_30 : decode cX5_lay 30 = .ok (.return_, 1) := by decide +kernel
theorem dX5_isWord_0 : decode cX5_isWord 0 = .ok (.aload_n 0, 1) := by decide +kernel
theorem dX5_isWord_1 : decode cX5_isWord 1 = .ok (.getfield 261, 3) := by decide +kernel
theorem dX5_isWord_4 : decode cX5_isWord 4 = .ok (.iconst 2, 1) := by decide +kernel
theorem dX5_isWord_5 : decode cX5_isWord 5 = .ok (.if_icmp .ne 16, 3) := by decide +kernel
theorem dX5_isWord_8 : decode cX5_isWord 8 = .ok (.aload_n 0, 1) := by decide +kernel
theorem dX5_isWord_9 : decode cX5_isWord 9 = .ok (.getfield 268, 3) := by decide +kernel
theorem dX5_isWord_12 : decode cX5_isWord 12 = .ok (.lload_n 1, 1) := by decide +kernel
theorem dX5_isWord_13 : decode cX5_isWord 13 = .ok (.lcmp, 1) := by decide +kernel
theorem dX5_isWord_14 : decode cX5_isWord 14 = .ok (.ifCond .ne 7, 3) := by decide +kernel
theorem dX5_isWord_17 : decode cX5_isWord 17 = .ok (.iconst 1, 1) := by decide +kernel
theorem dX5_isWord_18 : decode cX5_isWord 18 = .ok (.goto 4, 3) := by decide +kernel
theorem dX5_isWord_21 : decode cX5_isWord 21 = .ok (.iconst 0, 1) := by decide +kernel
theorem dX5_isWord_22 : decode cX5_isWord 22 = .ok (.ireturn, 1) := by decide +kernel
theorem dX5_cond_0 : decode cX5_cond 0 = .ok (.iconst 1, 1) := by decide +kernel
theorem dX5_cond_1 : decode cX5_cond 1 = .ok (.istore_n 1, 1) := by decide +kernel
theorem dX5_cond_2 : decode cX5_cond 2 = .ok (.iload_n 1, 1) := by decide +kernel
theorem dX5_cond_3 : decode cX5_cond 3 = .ok (.ifCond .eq 102, 3) := by decide +kernel
theorem dX5_cond_6 : decode cX5_cond 6 = .ok (.aload_n 0, 1) := by decide +kernel
theorem dX5_cond_7 : decode cX5_cond 7 = .ok (.invokevirtual 331, 3) := by decide +kernel
theorem dX5_cond_10 : decode cX5_cond 10 = .ok (.ifCond .eq 11, 3) := by decide +kernel
theorem dX5_cond_13 : decode cX5_cond 13 = .ok (.aload_n 0, 1) := by decide +kernel
theorem dX5_cond_14 : decode cX5_cond 14 = .ok (.getfield 261, 3) := by decide +kernel
theorem dX5_cond_17 : decode cX5_cond 17 = .ok (.iconst 5, 1) := by decide +kernel
theorem dX5_cond_18 : decode cX5_cond 18 = .ok (.if_icmp .eq 5, 3) := by decide +kernel
theorem dX5_cond_21 : decode cX5_cond 21 = .ok (.iconst 0, 1) := by decide +kernel
theorem dX5_cond_22 : decode cX5_cond 22 = .ok (.ireturn, 1) := by decide +kernel
theorem dX5_cond_23 : decode cX5_cond 23 = .ok (.aload_n 0, 1) := by decide +kernel
theorem dX5_cond_24 : decode cX5_cond 24 = .ok (.aload_n 0, 1) := by decide +kernel
theorem dX5_cond_25 : decode cX5_cond 25 = .ok (.getfield 280, 3) := by decide +kernel
theorem dX5_cond_28 : decode cX5_cond 28 = .ok (.iconst 0, 1) := by decide +kernel
theorem dX5_cond_29 : decode cX5_cond 29 = .ok (.invokevirtual 306, 3) := by decide +kernel
theorem dX5_cond_32 : decode cX5_cond 32 = .ok (.aload_n 0, 1) := by decide +kernel
theorem dX5_cond_33 : decode cX5_cond 33 = .ok (.invokevirtual 310, 3) := by decide +kernel
theorem dX5_cond_36 : decode cX5_cond 36 = .ok (.aload_n 0, 1) := by decide +kernel
theorem dX5_cond_37 : decode cX5_cond 37 = .ok (.invokevirtual 331, 3) := by decide +kernel
theorem dX5_cond_40 : decode cX5_cond 40 = .ok (.ifCond .ne 5, 3) := by decide +kernel
theorem dX5_cond_43 : decode cX5_cond 43 = .ok (.iconst 0, 1) := by decide +kernel
theorem dX5_cond_44 : decode cX5_cond 44 = .ok (.ireturn, 1) := by decide +kernel
theorem dX5_cond_45 : decode cX5_cond 45 = .ok (.aload_n 0, 1) := by decide +kernel
theorem dX5_cond_46 : decode cX5_cond 46 = .ok (.ldc2_w 297, 3) := by decide +kernel
theorem dX5_cond_49 : decode cX5_cond 49 = .ok (.invokevirtual 313, 3) := by decide +kernel
theorem dX5_cond_52 : decode cX5_cond 52 = .ok (.ifCond .ne 13, 3) := by decide +kernel
theorem dX5_cond_55 : decode cX5_cond 55 = .ok (.aload_n 0, 1) := by decide +kernel
theorem dX5_cond_56 : decode cX5_cond 56 = .ok (.ldc2_w 299, 3) := by decide +kernel
theorem dX5_cond_59 : decode cX5_cond 59 = .ok (.invokevirtual 313, 3) := by decide +kernel
theorem dX5_cond_62 : decode cX5_cond 62 = .ok (.ifCond .eq 7, 3) := by decide +kernel
theorem dX5_cond_65 : decode cX5_cond 65 = .ok (.iconst 1, 1) := by decide +kernel
theorem dX5_cond_66 : decode cX5_cond 66 = .ok (.goto 4, 3) := by decide +kernel
theorem dX5_cond_69 : decode cX5_cond 69 = .ok (.iconst 0, 1) := by decide +kernel
theorem dX5_cond_70 : decode cX5_cond 70 = .ok (.istore_n 1, 1) := by decide +kernel
theorem dX5_cond_71 : decode cX5_cond 71 = .ok (.iload_n 1, 1) := by decide +kernel
theorem dX5_cond_72 : decode cX5_cond 72 = .ok (.ifCond .eq (-70), 3) := by decide +kernel
theorem dX5_cond_75 : decode cX5_cond 75 = .ok (.aload_n 0, 1) := by decide +kernel
theorem dX5_cond_76 : decode cX5_cond 76 = .ok (.aload_n 0, 1) := by decide +kernel
theorem dX5_cond_77 : decode cX5_cond 77 = .ok (.getfield 268, 3) := by decide +kernel
theorem dX5_cond_80 : decode cX5_cond 80 = .ok (.ldc2_w 297, 3) := by decide +kernel
theorem dX5_cond_83 : decode cX5_cond 83 = .ok (.lcmp, 1) := by decide +kernel
theorem dX5_cond_84 : decode cX5_cond 84 = .ok (.ifCond .ne 8, 3) := by decide +kernel
theorem dX5_cond_87 : decode cX5_cond 87 = .ok (.bipush 11, 2) := by decide +kernel
theorem dX5_cond_89 : decode cX5_cond 89 = .ok (.goto 5, 3) := by decide +kernel
theorem dX5_cond_92 : decode cX5_cond 92 = .ok (.bipush 12, 2) := by decide +kernel
theorem dX5_cond_94 : decode cX5_cond 94 = .ok (.iconst 0, 1) := by decide +kernel
theorem dX5_cond_95 : decode cX5_cond 95 = .ok (.invokevirtual 306, 3) := by decide +kernel
theorem dX5_cond_98 : decode cX5_cond 98 = .ok (.aload_n 0, 1) := by decide +kernel
theorem dX5_cond_99 : decode cX5_cond 99 = .ok (.invokevirtual 310, 3) := by decide +kernel
theorem dX5_cond_102 : decode cX5_cond 102 = .ok (.goto (-100), 3) := by decide +kernel
theorem dX5_cond_105 : decode cX5_cond 105 = .ok (.iconst 1, 1) := by decide +kernel
theorem dX5_cond_106 : decode cX5_cond 106 = .ok (.ireturn, 1) := by decide +kernel
theorem dX5_statement_0 : decode cX5_statement 0 = .ok (.aload_n 0, 1) := by decide +kernel
theorem dX5_statement_1 : decode cX5_statement 1 = .ok (.iconst 0, 1) := by decide +kernel
theorem dX5_statement_2 : decode cX5_statement 2 = .ok (.putfield 198, 3) := by decide +kernel
theorem dX5_statement_5 : decode cX5_statement 5 = .ok (.aload_n 0, 1) := by decide +kernel
theorem dX5_statement_6 : decode cX5_statement 6 = .ok (.iload_n 1, 1) := by decide +kernel
theorem dX5_statement_7 : decode cX5_statement 7 = .ok (.iload_n 2, 1) := by decide +kernel
theorem dX5_statement_8 : decode cX5_statement 8 = .ok (.invokevirtual 352, 3) := by decide +kernel
theorem dX5_statement_11 : decode cX5_statement 11 = .ok (.ifCond .ne 9, 3) := by decide +kernel
theorem dX5_statement_14 : decode cX5_statement 14 = .ok (.aload_n 0, 1) := by decide +kernel
theorem dX5_statement_15 : decode cX5_statement 15 = .ok (.iconst 1, 1) := by decide +kernel
theorem dX5_statement_16 : decode cX5_statement 16 = .ok (.invokevirtual 213, 3) := by decide +kernel
theorem dX5_statement_19 : decode cX5_statement 19 = .ok (.ireturn, 1) := by decide +kernel
theorem dX5_statement_20 : decode cX5_statement 20 = .ok (.iload_n 3, 1) := by decide +kernel
theorem dX5_statement_21 : decode cX5_statement 21 = .ok (.i2l, 1) := by decide +kernel
theorem dX5_statement_22 : decode cX5_statement 22 = .ok (.lconst 0, 1) := by decide +kernel
theorem dX5_statement_23 : decode cX5_statement 23 = .ok (.ldc2_w 356, 3) := by decide +kernel
theorem dX5_statement_26 : decode cX5_statement 26 = .ok (.invokestatic 207, 3) := by decide +kernel
theorem dX5_statement_29 : decode cX5_statement 29 = .ok (.ifCond .ne 9, 3) := by decide +kernel
theorem dX5_statement_32 : decode cX5_statement 32 = .ok (.aload_n 0, 1) := by decide +kernel
theorem dX5_statement_33 : decode cX5_statement 33 = .ok (.iconst 2, 1) := by decide +kernel
theorem dX5_statement_34 : decode cX5_statement 34 = .ok (.invokevirtual 213, 3) := by decide +kernel
theorem dX5_statement_37 : decode cX5_statement 37 = .ok (.ireturn, 1) := by decide +kernel
theorem dX5_statement_38 : decode cX5_statement 38 = .ok (.bipush 20, 2) := by decide +kernel
theorem dX5_statement_40 : decode cX5_statement 40 = .ok (.iload_n 1, 1) := by decide +kernel
theorem dX5_statement_41 : decode cX5_statement 41 = .ok (.imul, 1) := by decide +kernel
theorem dX5_statement_42 : decode cX5_statement 42 = .ok (.iload_n 2, 1) := by decide +kernel
theorem dX5_statement_43 : decode cX5_statement 43 = .ok (.iadd, 1) := by decide +kernel
theorem dX5_statement_44 : decode cX5_statement 44 = .ok (.istore 4, 2) := by decide +kernel
theorem dX5_statement_46 : decode cX5_statement 46 = .ok (.iload_n 3, 1) := by decide +kernel
theorem dX5_statement_47 : decode cX5_statement 47 = .ok (.ifCond .ne 13, 3) := by decide +kernel
theorem dX5_statement_50 : decode cX5_statement 50 = .ok (.aload_n 0, 1) := by decide +kernel
theorem dX5_statement_51 : decode cX5_statement 51 = .ok (.getfield 37, 3) := by decide +kernel
theorem dX5_statement_54 : decode cX5_statement 54 = .ok (.iload 4, 2) := by decide +kernel
theorem dX5_statement_56 : decode cX5_statement 56 = .ok (.iaload, 1) := by decide +kernel
theorem dX5_statement_57 : decode cX5_statement 57 = .ok (.goto 40, 3) := by decide +kernel
theorem dX5_statement_60 : decode cX5_statement 60 = .ok (.iload_n 3, 1) := by decide +kernel
theorem dX5_statement_61 : decode cX5_statement 61 = .ok (.iconst 1, 1) := by decide +kernel
theorem dX5_statement_62 : decode cX5_statement 62 = .ok (.if_icmp .ne 13, 3) := by decide +kernel
theorem dX5_statement_65 : decode cX5_statement 65 = .ok (.aload_n 0, 1) := by decide +kernel
theorem dX5_statement_66 : decode cX5_statement 66 = .ok (.getfield 44, 3) := by decide +kernel
theorem dX5_statement_69 : decode cX5_statement 69 = .ok (.iload 4, 2) := by decide +kernel
theorem dX5_statement_71 : decode cX5_statement 71 = .ok (.iaload, 1) := by decide +kernel
theorem dX5_statement_72 : decode cX5_statement 72 = .ok (.goto 25, 3) := by decide +kernel
theorem dX5_statement_75 : decode cX5_statement 75 = .ok (.iload_n 3, 1) := by decide +kernel
theorem dX5_statement_76 : decode cX5_statement 76 = .ok (.iconst 2, 1) := by decide +kernel
theorem dX5_statement_77 : decode cX5_statement 77 = .ok (.if_icmp .ne 13, 3) := by decide +kernel
theorem dX5_statement_80 : decode cX5_statement 80 = .ok (.aload_n 0, 1) := by decide +kernel
theorem dX5_statement_81 : decode cX5_statement 81 = .ok (.getfield 47, 3) := by decide +kernel
theorem dX5_statement_84 : decode cX5_statement 84 = .ok (.iload 4, 2) := by decide +kernel
theorem dX5_statement_86 : decode cX5_statement 86 = .ok (.iaload, 1) := by decide +kernel
theorem dX5_statement_87 : decode cX5_statement 87 = .ok (.goto 10, 3) := by decide +kernel
theorem dX5_statement_90 : decode cX5_statement 90 = .ok (.aload_n 0, 1) := by decide +kernel
theorem dX5_statement_91 : decode cX5_statement 91 = .ok (.getfield 50, 3) := by decide +kernel
theorem dX5_statement_94 : decode cX5_statement 94 = .ok (.iload 4, 2) := by decide +kernel
theorem dX5_statement_96 : decode cX5_statement 96 = .ok (.iaload, 1) := by decide +kernel
theorem dX5_statement_97 : decode cX5_statement 97 = .ok (.ireturn, 1) := by decide +kernel
theorem dX5_isStatementOf_0 : decode cX5_isStatementOf 0 = .ok (.aload_n 0, 1) := by decide +kernel
theorem dX5_isStatementOf_1 : decode cX5_isStatementOf 1 = .ok (.iload_n 1, 1) := by decide +kernel
theorem dX5_isStatementOf_2 : decode cX5_isStatementOf 2 = .ok (.invokevirtual 349, 3) := by decide +kernel
theorem dX5_isStatementOf_5 : decode cX5_isStatementOf 5 = .ok (.ifCond .eq 25, 3) := by decide +kernel
theorem dX5_isStatementOf_8 : decode cX5_isStatementOf 8 = .ok (.iload_n 2, 1) := by decide +kernel
theorem dX5_isStatementOf_9 : decode cX5_isStatementOf 9 = .ok (.i2l, 1) := by decide +kernel
theorem dX5_isStatementOf_10 : decode cX5_isStatementOf 10 = .ok (.lconst 0, 1) := by decide +kernel
theorem dX5_isStatementOf_11 : decode cX5_isStatementOf 11 = .ok (.aload_n 0, 1) := by decide +kernel
theorem dX5_isStatementOf_12 : decode cX5_isStatementOf 12 = .ok (.getfield 34, 3) := by decide +kernel
theorem dX5_isStatementOf_15 : decode cX5_isStatementOf 15 = .ok (.iload_n 1, 1) := by decide +kernel
theorem dX5_isStatementOf_16 : decode cX5_isStatementOf 16 = .ok (.iaload, 1) := by decide +kernel
theorem dX5_isStatementOf_17 : decode cX5_isStatementOf 17 = .ok (.iconst 1, 1) := by decide +kernel
theorem dX5_isStatementOf_18 : decode cX5_isStatementOf 18 = .ok (.isub, 1) := by decide +kernel
theorem dX5_isStatementOf_19 : decode cX5_isStatementOf 19 = .ok (.i2l, 1) := by decide +kernel
theorem dX5_isStatementOf_20 : decode cX5_isStatementOf 20 = .ok (.invokestatic 207, 3) := by decide +kernel
theorem dX5_isStatementOf_23 : decode cX5_isStatementOf 23 = .ok (.ifCond .eq 7, 3) := by decide +kernel
theorem dX5_isStatementOf_26 : decode cX5_isStatementOf 26 = .ok (.iconst 1, 1) := by decide +kernel
theorem dX5_isStatementOf_27 : decode cX5_isStatementOf 27 = .ok (.goto 4, 3) := by decide +kernel
theorem dX5_isStatementOf_30 : decode cX5_isStatementOf 30 = .ok (.iconst 0, 1) := by decide +kernel
theorem dX5_isStatementOf_31 : decode cX5_isStatementOf 31 = .ok (.ireturn, 1) := by decide +kernel
theorem dX5_isForm_0 : decode cX5_isForm 0 = .ok (.iload_n 1, 1) := by decide +kernel
theorem dX5_isForm_1 : decode cX5_isForm 1 = .ok (.i2l, 1) := by decide +kernel
theorem dX5_isForm_2 : decode cX5_isForm 2 = .ok (.lconst 0, 1) := by decide +kernel
theorem dX5_isForm_3 : decode cX5_isForm 3 = .ok (.aload_n 0, 1) := by decide +kernel
theorem dX5_isForm_4 : decode cX5_isForm 4 = .ok (.getfield 320, 3) := by decide +kernel
theorem dX5_isForm_7 : decode cX5_isForm 7 = .ok (.iconst 1, 1) := by decide +kernel
theorem dX5_isForm_8 : decode cX5_isForm 8 = .ok (.isub, 1) := by decide +kernel
theorem dX5_isForm_9 : decode cX5_isForm 9 = .ok (.i2l, 1) := by decide +kernel
theorem dX5_isForm_10 : decode cX5_isForm 10 = .ok (.invokestatic 207, 3) := by decide +kernel
theorem dX5_isForm_13 : decode cX5_isForm 13 = .ok (.ireturn, 1) := by decide +kernel
theorem dX5_open_0 : decode cX5_open 0 = .ok (.aload_n 0, 1) := by decide +kernel
theorem dX5_open_1 : decode cX5_open 1 = .ok (.iconst 0, 1) := by decide +kernel
theorem dX5_open_2 : decode cX5_open 2 = .ok (.putfield 198, 3) := by decide +kernel
theorem dX5_open_5 : decode cX5_open 5 = .ok (.aload_n 0, 1) := by decide +kernel
theorem dX5_open_6 : decode cX5_open 6 = .ok (.iload_n 1, 1) := by decide +kernel
theorem dX5_open_7 : decode cX5_open 7 = .ok (.invokevirtual 349, 3) := by decide +kernel
theorem dX5_open_10 : decode cX5_open 10 = .ok (.ifCond .eq 11, 3) := by decide +kernel
theorem dX5_open_13 : decode cX5_open 13 = .ok (.aload_n 0, 1) := by decide +kernel
theorem dX5_open_14 : decode cX5_open 14 = .ok (.iload_n 2, 1) := by decide +kernel
theorem dX5_open_15 : decode cX5_open 15 = .ok (.invokevirtual 220, 3) := by decide +kernel
theorem dX5_open_18 : decode cX5_open 18 = .ok (.ifCond .ne 9, 3) := by decide +kernel
theorem dX5_open_21 : decode cX5_open 21 = .ok (.aload_n 0, 1) := by decide +kernel
theorem dX5_open_22 : decode cX5_open 22 = .ok (.iconst 1, 1) := by decide +kernel
theorem dX5_open_23 : decode cX5_open 23 = .ok (.invokevirtual 213, 3) := by decide +kernel
theorem dX5_open_26 : decode cX5_open 26 = .ok (.ireturn, 1) := by decide +kernel
theorem dX5_open_27 : decode cX5_open 27 = .ok (.aload_n 0, 1) := by decide +kernel
theorem dX5_open_28 : decode cX5_open 28 = .ok (.getfield 7, 3) := by decide +kernel
theorem dX5_open_31 : decode cX5_open 31 = .ok (.iload_n 2, 1) := by decide +kernel
theorem dX5_open_32 : decode cX5_open 32 = .ok (.iaload, 1) := by decide +kernel
theorem dX5_open_33 : decode cX5_open 33 = .ok (.iconst (-1), 1) := by decide +kernel
theorem dX5_open_34 : decode cX5_open 34 = .ok (.if_icmp .eq 9, 3) := by decide +kernel
theorem dX5_open_37 : decode cX5_open 37 = .ok (.aload_n 0, 1) := by decide +kernel
theorem dX5_open_38 : decode cX5_open 38 = .ok (.iconst 2, 1) := by decide +kernel
theorem dX5_open_39 : decode cX5_open 39 = .ok (.invokevirtual 213, 3) := by decide +kernel
theorem dX5_open_42 : decode cX5_open 42 = .ok (.ireturn, 1) := by decide +kernel
theorem dX5_open_43 : decode cX5_open 43 = .ok (.aload_n 0, 1) := by decide +kernel
theorem dX5_open_44 : decode cX5_open 44 = .ok (.getfield 368, 3) := by decide +kernel
theorem dX5_open_47 : decode cX5_open 47 = .ok (.bipush 60, 2) := by decide +kernel
theorem dX5_open_49 : decode cX5_open 49 = .ok (.if_icmp .ne 9, 3) := by decide +kernel
theorem dX5_open_52 : decode cX5_open 52 = .ok (.aload_n 0, 1) := by decide +kernel
theorem dX5_open_53 : decode cX5_open 53 = .ok (.iconst 3, 1) := by decide +kernel
theorem dX5_open_54 : decode cX5_open 54 = .ok (.invokevirtual 213, 3) := by decide +kernel
theorem dX5_open_57 : decode cX5_open 57 = .ok (.ireturn, 1) := by decide +kernel
theorem dX5_open_58 : decode cX5_open 58 = .ok (.aload_n 0, 1) := by decide +kernel
theorem dX5_open_59 : decode cX5_open 59 = .ok (.getfield 77, 3) := by decide +kernel
theorem dX5_open_62 : decode cX5_open 62 = .ok (.aload_n 0, 1) := by decide +kernel
theorem dX5_open_63 : decode cX5_open 63 = .ok (.getfield 368, 3) := by decide +kernel
theorem dX5_open_66 : decode cX5_open 66 = .ok (.iload_n 1, 1) := by decide +kernel
theorem dX5_open_67 : decode cX5_open 67 = .ok (.iastore, 1) := by decide +kernel
theorem dX5_open_68 : decode cX5_open 68 = .ok (.aload_n 0, 1) := by decide +kernel
theorem dX5_open_69 : decode cX5_open 69 = .ok (.getfield 80, 3) := by decide +kernel
theorem dX5_open_72 : decode cX5_open 72 = .ok (.aload_n 0, 1) := by decide +kernel
theorem dX5_open_73 : decode cX5_open 73 = .ok (.getfield 368, 3) := by decide +kernel
theorem dX5_open_76 : decode cX5_open 76 = .ok (.iload_n 2, 1) := by decide +kernel
theorem dX5_open_77 : decode cX5_open 77 = .ok (.iastore, 1) := by decide +kernel
theorem dX5_open_78 : decode cX5_open 78 = .ok (.iconst 0, 1) := by decide +kernel
theorem dX5_open_79 : decode cX5_open 79 = .ok (.istore_n 3, 1) := by decide +kernel
theorem dX5_open_80 : decode cX5_open 80 = .ok (.iload_n 3, 1) := by decide +kernel
theorem dX5_open_81 : decode cX5_open 81 = .ok (.bipush 6, 2) := by decide +kernel
theorem dX5_open_83 : decode cX5_open 83 = .ok (.if_icmp .ge 37, 3) := by decide +kernel
theorem dX5_open_86 : decode cX5_open 86 = .ok (.aload_n 0, 1) := by decide +kernel
theorem dX5_open_87 : decode cX5_open 87 = .ok (.getfield 83, 3) := by decide +kernel
theorem dX5_open_90 : decode cX5_open 90 = .ok (.bipush 6, 2) := by decide +kernel
theorem dX5_open_92 : decode cX5_open 92 = .ok (.aload_n 0, 1) := by decide +kernel
theorem dX5_open_93 : decode cX5_open 93 = .ok (.getfield 368, 3) := by decide +kernel
theorem dX5_open_96 : decode cX5_open 96 = .ok (.imul, 1) := by decide +kernel
theorem dX5_open_97 : decode cX5_open 97 = .ok (.iload_n 3, 1) := by decide +kernel
theorem dX5_open_98 : decode cX5_open 98 = .ok (.iadd, 1) := by decide +kernel
theorem dX5_open_99 : decode cX5_open 99 = .ok (.aload_n 0, 1) := by decide +kernel
theorem dX5_open_100 : decode cX5_open 100 = .ok (.iload_n 2, 1) := by decide +kernel
theorem dX5_open_101 : decode cX5_open 101 = .ok (.iload_n 3, 1) := by decide +kernel
theorem dX5_open_102 : decode cX5_open 102 = .ok (.aload_n 0, 1) := by decide +kernel
theorem dX5_open_103 : decode cX5_open 103 = .ok (.invokevirtual 233, 3) := by decide +kernel
theorem dX5_open_106 : decode cX5_open 106 = .ok (.aload_n 0, 1) := by decide +kernel
theorem dX5_open_107 : decode cX5_open 107 = .ok (.invokevirtual 233, 3) := by decide +kernel
theorem dX5_open_110 : decode cX5_open 110 = .ok (.invokevirtual 245, 3) := by decide +kernel
theorem dX5_open_113 : decode cX5_open 113 = .ok (.iastore, 1) := by decide +kernel
theorem dX5_open_114 : decode cX5_open 114 = .ok (.iinc 3 1, 3) := by decide +kernel
theorem dX5_open_117 : decode cX5_open 117 = .ok (.goto (-37), 3) := by decide +kernel
theorem dX5_open_120 : decode cX5_open 120 = .ok (.aload_n 0, 1) := by decide +kernel
theorem dX5_open_121 : decode cX5_open 121 = .ok (.getfield 105, 3) := by decide +kernel
theorem dX5_open_124 : decode cX5_open 124 = .ok (.aload_n 0, 1) := by decide +kernel
theorem dX5_open_125 : decode cX5_open 125 = .ok (.getfield 368, 3) := by decide +kernel
theorem dX5_open_128 : decode cX5_open 128 = .ok (.iconst (-1), 1) := by decide +kernel
theorem dX5_open_129 : decode cX5_open 129 = .ok (.iastore, 1) := by decide +kernel
theorem dX5_open_130 : decode cX5_open 130 = .ok (.aload_n 0, 1) := by decide +kernel
theorem dX5_open_131 : decode cX5_open 131 = .ok (.dup, 1) := by decide +kernel
theorem dX5_open_132 : decode cX5_open 132 = .ok (.getfield 368, 3) := by decide +kernel
theorem dX5_open_135 : decode cX5_open 135 = .ok (.iconst 1, 1) := by decide +kernel
theorem dX5_open_136 : decode cX5_open 136 = .ok (.iadd, 1) := by decide +kernel
theorem dX5_open_137 : decode cX5_open 137 = .ok (.putfield 368, 3) := by decide +kernel
