set_option maxRecDepth 100000
theorem dX1_rule_122 : decode cX1_rule 122 = .ok (.iastore, 1) := by decide +kernel
theorem dX1_rule_123 : decode cX1_rule 123 = .ok (.aload 5, 2) := by decide +kernel
theorem dX1_rule_125 : decode cX1_rule 125 = .ok (.getfield 393, 3) := by decide +kernel
theorem dX1_rule_128 : decode cX1_rule 128 = .ok (.aload 5, 2) := by decide +kernel
theorem dX1_rule_130 : decode cX1_rule 130 = .ok (.getfield 387, 3) := by decide +kernel
theorem dX1_rule_133 : decode cX1_rule 133 = .ok (.iload_n 3, 1) := by decide +kernel
theorem dX1_rule_134 : decode cX1_rule 134 = .ok (.iastore, 1) := by decide +kernel
theorem dX1_rule_135 : decode cX1_rule 135 = .ok (.aload 5, 2) := by decide +kernel
theorem dX1_rule_137 : decode cX1_rule 137 = .ok (.getfield 396, 3) := by decide +kernel
theorem dX1_rule_140 : decode cX1_rule 140 = .ok (.aload 5, 2) := by decide +kernel
theorem dX1_rule_142 : decode cX1_rule 142 = .ok (.getfield 387, 3) := by decide +kernel
theorem dX1_rule_145 : decode cX1_rule 145 = .ok (.iload 4, 2) := by decide +kernel
theorem dX1_rule_147 : decode cX1_rule 147 = .ok (.iastore, 1) := by decide +kernel
theorem dX1_rule_148 : decode cX1_rule 148 = .ok (.aload 5, 2) := by decide +kernel
theorem dX1_rule_150 : decode cX1_rule 150 = .ok (.dup, 1) := by decide +kernel
theorem dX1_rule_151 : decode cX1_rule 151 = .ok (.getfield 387, 3) := by decide +kernel
theorem dX1_rule_154 : decode cX1_rule 154 = .ok (.dup_x1, 1) := by decide +kernel
theorem dX1_rule_155 : decode cX1_rule 155 = .ok (.iconst 1, 1) := by decide +kernel
theorem dX1_rule_156 : decode cX1_rule 156 = .ok (.iadd, 1) := by decide +kernel
theorem dX1_rule_157 : decode cX1_rule 157 = .ok (.putfield 387, 3) := by decide +kernel
theorem dX1_rule_160 : decode cX1_rule 160 = .ok (.ireturn, 1) := by decide +kernel
theorem dX1_askIn_0 : decode cX1_askIn 0 = .ok (.iload_n 1, 1) := by decide +kernel
theorem dX1_askIn_1 : decode cX1_askIn 1 = .ok (.iconst (-1), 1) := by decide +kernel
theorem dX1_askIn_2 : decode cX1_askIn 2 = .ok (.if_icmp .eq 11, 3) := by decide +kernel
theorem dX1_askIn_5 : decode cX1_askIn 5 = .ok (.aload_n 0, 1) := by decide +kernel
theorem dX1_askIn_6 : decode cX1_askIn 6 = .ok (.iload_n 1, 1) := by decide +kernel
theorem dX1_askIn_7 : decode cX1_askIn 7 = .ok (.invokevirtual 374, 3) := by decide +kernel
theorem dX1_askIn_10 : decode cX1_askIn 10 = .ok (.ifCond .eq 7, 3) := by decide +kernel
theorem dX1_askIn_13 : decode cX1_askIn 13 = .ok (.iconst 1, 1) := by decide +kernel
theorem dX1_askIn_14 : decode cX1_askIn 14 = .ok (.goto 4, 3) := by decide +kernel
theorem dX1_askIn_17 : decode cX1_askIn 17 = .ok (.iconst 0, 1) := by decide +kernel
theorem dX1_askIn_18 : decode cX1_askIn 18 = .ok (.invokestatic 164, 3) := by decide +kernel
theorem dX1_askIn_21 : decode cX1_askIn 21 = .ok (.return_, 1) := by decide +kernel
theorem dX1_cost_0 : decode cX1_cost 0 = .ok (.aload_n 0, 1) := by decide +kernel
theorem dX1_cost_1 : decode cX1_cost 1 = .ok (.iload_n 1, 1) := by decide +kernel
theorem dX1_cost_2 : decode cX1_cost 2 = .ok (.invokevirtual 235, 3) := by decide +kernel
theorem dX1_cost_5 : decode cX1_cost 5 = .ok (.astore 4, 2) := by decide +kernel
theorem dX1_cost_7 : decode cX1_cost 7 = .ok (.aload 4, 2) := by decide +kernel
theorem dX1_cost_9 : decode cX1_cost 9 = .ok (.iload_n 2, 1) := by decide +kernel
theorem dX1_cost_10 : decode cX1_cost 10 = .ok (.invokestatic 239, 3) := by decide +kernel
theorem dX1_cost_13 : decode cX1_cost 13 = .ok (.aload 4, 2) := by decide +kernel
theorem dX1_cost_15 : decode cX1_cost 15 = .ok (.iload_n 2, 1) := by decide +kernel
theorem dX1_cost_16 : decode cX1_cost 16 = .ok (.invokevirtual 374, 3) := by decide +kernel
theorem dX1_cost_19 : decode cX1_cost 19 = .ok (.ifCond .eq 19, 3) := by decide +kernel
theorem dX1_cost_22 : decode cX1_cost 22 = .ok (.iload_n 3, 1) := by decide +kernel
theorem dX1_cost_23 : decode cX1_cost 23 = .ok (.i2l, 1) := by decide +kernel
theorem dX1_cost_24 : decode cX1_cost 24 = .ok (.lconst 1, 1) := by decide +kernel
theorem dX1_cost_25 : decode cX1_cost 25 = .ok (.ldc2_w 399, 3) := by decide +kernel
theorem dX1_cost_28 : decode cX1_cost 28 = .ok (.invokestatic 159, 3) := by decide +kernel
theorem dX1_cost_31 : decode cX1_cost 31 = .ok (.ifCond .eq 7, 3) := by decide +kernel
theorem dX1_cost_34 : decode cX1_cost 34 = .ok (.iconst 1, 1) := by decide +kernel
theorem dX1_cost_35 : decode cX1_cost 35 = .ok (.goto 4, 3) := by decide +kernel
theorem dX1_cost_38 : decode cX1_cost 38 = .ok (.iconst 0, 1) := by decide +kernel
theorem dX1_cost_39 : decode cX1_cost 39 = .ok (.invokestatic 164, 3) := by decide +kernel
theorem dX1_cost_42 : decode cX1_cost 42 = .ok (.aload 4, 2) := by decide +kernel
theorem dX1_cost_44 : decode cX1_cost 44 = .ok (.getfield 254, 3) := by decide +kernel
theorem dX1_cost_47 : decode cX1_cost 47 = .ok (.iload_n 2, 1) := by decide +kernel
theorem dX1_cost_48 : decode cX1_cost 48 = .ok (.iaload, 1) := by decide +kernel
theorem dX1_cost_49 : decode cX1_cost 49 = .ok (.istore 5, 2) := by decide +kernel
theorem dX1_cost_51 : decode cX1_cost 51 = .ok (.aload 4, 2) := by decide +kernel
theorem dX1_cost_53 : decode cX1_cost 53 = .ok (.getfield 254, 3) := by decide +kernel
theorem dX1_cost_56 : decode cX1_cost 56 = .ok (.iload_n 2, 1) := by decide +kernel
theorem dX1_cost_57 : decode cX1_cost 57 = .ok (.iload_n 3, 1) := by decide +kernel
theorem dX1_cost_58 : decode cX1_cost 58 = .ok (.iastore, 1) := by decide +kernel
theorem dX1_cost_59 : decode cX1_cost 59 = .ok (.iload 5, 2) := by decide +kernel
theorem dX1_cost_61 : decode cX1_cost 61 = .ok (.ireturn, 1) := by decide +kernel
theorem dX1_broken_0 : decode cX1_broken 0 = .ok (.aload_n 0, 1) := by decide +kernel
theorem dX1_broken_1 : decode cX1_broken 1 = .ok (.iload_n 1, 1) := by decide +kernel
theorem dX1_broken_2 : decode cX1_broken 2 = .ok (.invokevirtual 365, 3) := by decide +kernel
theorem dX1_broken_5 : decode cX1_broken 5 = .ok (.astore_n 3, 1) := by decide +kernel
theorem dX1_broken_6 : decode cX1_broken 6 = .ok (.iload_n 2, 1) := by decide +kernel
theorem dX1_broken_7 : decode cX1_broken 7 = .ok (.iconst (-1), 1) := by decide +kernel
theorem dX1_broken_8 : decode cX1_broken 8 = .ok (.if_icmp .lt 7, 3) := by decide +kernel
theorem dX1_broken_11 : decode cX1_broken 11 = .ok (.iconst 1, 1) := by decide +kernel
theorem dX1_broken_12 : decode cX1_broken 12 = .ok (.goto 4, 3) := by decide +kernel
theorem dX1_broken_15 : decode cX1_broken 15 = .ok (.iconst 0, 1) := by decide +kernel
theorem dX1_broken_16 : decode cX1_broken 16 = .ok (.invokestatic 171, 3) := by decide +kernel
theorem dX1_broken_19 : decode cX1_broken 19 = .ok (.iload_n 2, 1) := by decide +kernel
theorem dX1_broken_20 : decode cX1_broken 20 = .ok (.iconst (-1), 1) := by decide +kernel
theorem dX1_broken_21 : decode cX1_broken 21 = .ok (.if_icmp .ne 15, 3) := by decide +kernel
theorem dX1_broken_24 : decode cX1_broken 24 = .ok (.aload_n 3, 1) := by decide +kernel
theorem dX1_broken_25 : decode cX1_broken 25 = .ok (.getfield 369, 3) := by decide +kernel
theorem dX1_broken_28 : decode cX1_broken 28 = .ok (.aload_n 3, 1) := by decide +kernel
theorem dX1_broken_29 : decode cX1_broken 29 = .ok (.getfield 370, 3) := by decide +kernel
theorem dX1_broken_32 : decode cX1_broken 32 = .ok (.invokestatic 405, 3) := by decide +kernel
theorem dX1_broken_35 : decode cX1_broken 35 = .ok (.ireturn, 1) := by decide +kernel
theorem dX1_broken_36 : decode cX1_broken 36 = .ok (.iconst 0, 1) := by decide +kernel
theorem dX1_broken_37 : decode cX1_broken 37 = .ok (.istore 4, 2) := by decide +kernel
theorem dX1_broken_39 : decode cX1_broken 39 = .ok (.iconst 0, 1) := by decide +kernel
theorem dX1_broken_40 : decode cX1_broken 40 = .ok (.istore 5, 2) := by decide +kernel
theorem dX1_broken_42 : decode cX1_broken 42 = .ok (.iload 5, 2) := by decide +kernel
theorem dX1_broken_44 : decode cX1_broken 44 = .ok (.aload_n 3, 1) := by decide +kernel
theorem dX1_broken_45 : decode cX1_broken 45 = .ok (.getfield 369, 3) := by decide +kernel
theorem dX1_broken_48 : decode cX1_broken 48 = .ok (.getfield 387, 3) := by decide +kernel
theorem dX1_broken_51 : decode cX1_broken 51 = .ok (.if_icmp .ge 40, 3) := by decide +kernel
theorem dX1_broken_54 : decode cX1_broken 54 = .ok (.aload_n 3, 1) := by decide +kernel
theorem dX1_broken_55 : decode cX1_broken 55 = .ok (.getfield 369, 3) := by decide +kernel
theorem dX1_broken_58 : decode cX1_broken 58 = .ok (.iload 5, 2) := by decide +kernel
theorem dX1_broken_60 : decode cX1_broken 60 = .ok (.aload_n 3, 1) := by decide +kernel
theorem dX1_broken_61 : decode cX1_broken 61 = .ok (.getfield 370, 3) := by decide +kernel
theorem dX1_broken_64 : decode cX1_broken 64 = .ok (.invokestatic 401, 3) := by decide +kernel
theorem dX1_broken_67 : decode cX1_broken 67 = .ok (.ifCond .ne 6, 3) := by decide +kernel
theorem dX1_broken_70 : decode cX1_broken 70 = .ok (.goto 15, 3) := by decide +kernel
theorem dX1_broken_73 : decode cX1_broken 73 = .ok (.iload 4, 2) := by decide +kernel
theorem dX1_broken_75 : decode cX1_broken 75 = .ok (.iload_n 2, 1) := by decide +kernel
theorem dX1_broken_76 : decode cX1_broken 76 = .ok (.if_icmp .ne 6, 3) := by decide +kernel
theorem dX1_broken_79 : decode cX1_broken 79 = .ok (.iload 5, 2) := by decide +kernel
theorem dX1_broken_81 : decode cX1_broken 81 = .ok (.ireturn, 1) := by decide +kernel
theorem dX1_broken_82 : decode cX1_broken 82 = .ok (.iinc 4 1, 3) := by decide +kernel
theorem dX1_broken_85 : decode cX1_broken 85 = .ok (.iinc 5 1, 3) := by decide +kernel
theorem dX1_broken_88 : decode cX1_broken 88 = .ok (.goto (-46), 3) := by decide +kernel
theorem dX1_broken_91 : decode cX1_broken 91 = .ok (.iconst (-1), 1) := by decide +kernel
theorem dX1_broken_92 : decode cX1_broken 92 = .ok (.ireturn, 1) := by decide +kernel
theorem dX1_countBroken_0 : decode cX1_countBroken 0 = .ok (.iconst 0, 1) := by decide +kernel
theorem dX1_countBroken_1 : decode cX1_countBroken 1 = .ok (.istore_n 2, 1) := by decide +kernel
theorem dX1_countBroken_2 : decode cX1_countBroken 2 = .ok (.iconst 0, 1) := by decide +kernel
theorem dX1_countBroken_3 : decode cX1_countBroken 3 = .ok (.istore_n 3, 1) := by decide +kernel
theorem dX1_countBroken_4 : decode cX1_countBroken 4 = .ok (.iload_n 3, 1) := by decide +kernel
theorem dX1_countBroken_5 : decode cX1_countBroken 5 = .ok (.aload_n 0, 1) := by decide +kernel
theorem dX1_countBroken_6 : decode cX1_countBroken 6 = .ok (.getfield 387, 3) := by decide +kernel
theorem dX1_countBroken_9 : decode cX1_countBroken 9 = .ok (.if_icmp .ge 26, 3) := by decide +kernel
theorem dX1_countBroken_12 : decode cX1_countBroken 12 = .ok (.iload_n 2, 1) := by decide +kernel
theorem dX1_countBroken_13 : decode cX1_countBroken 13 = .ok (.aload_n 0, 1) := by decide +kernel
theorem dX1_countBroken_14 : decode cX1_countBroken 14 = .ok (.iload_n 3, 1) := by decide +kernel
theorem dX1_countBroken_15 : decode cX1_countBroken 15 = .ok (.aload_n 1, 1) := by decide +kernel
theorem dX1_countBroken_16 : decode cX1_countBroken 16 = .ok (.invokestatic 401, 3) := by decide +kernel
theorem dX1_countBroken_19 : decode cX1_countBroken 19 = .ok (.ifCond .eq 7, 3) := by decide +kernel
theorem dX1_countBroken_22 : decode cX1_countBroken 22 = .ok (.iconst 1, 1) := by decide +kernel
theorem dX1_countBroken_23 : decode cX1_countBroken 23 = .ok (.goto 4, 3) := by decide +kernel
theorem dX1_countBroken_26 : decode cX1_countBroken 26 = .ok (.iconst 0, 1) := by decide +kernel
theorem dX1_countBroken_27 : decode cX1_countBroken 27 = .ok (.iadd, 1) := by decide +kernel
theorem dX1_countBroken_28 : decode cX1_countBroken 28 = .ok (.istore_n 2, 1) := by decide +kernel
theorem dX1_countBroken_29 : decode cX1_countBroken 29 = .ok (.iinc 3 1, 3) := by decide +kernel
theorem dX1_countBroken_32 : decode cX1_countBroken 32 = .ok (.goto (-28), 3) := by decide +kernel
theorem dX1_countBroken_35 : decode cX1_countBroken 35 = .ok (.iload_n 2, 1) := by decide +kernel
theorem dX1_countBroken_36 : decode cX1_countBroken 36 = .ok (.ireturn, 1) := by decide +kernel
theorem dX1_breaks_0 : decode cX1_breaks 0 = .ok (.aload_n 0, 1) := by decide +kernel
theorem dX1_breaks_1 : decode cX1_breaks 1 = .ok (.getfield 390, 3) := by decide +kernel
theorem dX1_breaks_4 : decode cX1_breaks 4 = .ok (.iload_n 1, 1) := by decide +kernel
theorem dX1_breaks_5 : decode cX1_breaks 5 = .ok (.iaload, 1) := by decide +kernel
theorem dX1_breaks_6 : decode cX1_breaks 6 = .ok (.iconst (-1), 1) := by decide +kernel
theorem dX1_breaks_7 : decode cX1_breaks 7 = .ok (.if_icmp .ne 7, 3) := by decide +kernel
theorem dX1_breaks_10 : decode cX1_breaks 10 = .ok (.iconst 0, 1) := by decide +kernel
theorem dX1_breaks_11 : decode cX1_breaks 11 = .ok (.goto 11, 3) := by decide +kernel
theorem dX1_breaks_14 : decode cX1_breaks 14 = .ok (.aload_n 2, 1) := by decide +kernel
theorem dX1_breaks_15 : decode cX1_breaks 15 = .ok (.aload_n 0, 1) := by decide +kernel
theorem dX1_breaks_16 : decode cX1_breaks 16 = .ok (.getfield 390, 3) := by decide +kernel
theorem dX1_breaks_19 : decode cX1_breaks 19 = .ok (.iload_n 1, 1) := by decide +kernel
theorem dX1_breaks_20 : decode cX1_breaks 20 = .ok (.iaload, 1) := by decide +kernel
theorem dX1_breaks_21 : decode cX1_breaks 21 = .ok (.iaload, 1) := by decide +kernel
theorem dX1_breaks_22 : decode cX1_breaks 22 = .ok (.istore_n 3, 1) := by decide +kernel
theorem dX1_breaks_23 : decode cX1_breaks 23 = .ok (.aload_n 0, 1) := by decide +kernel
theorem dX1_breaks_24 : decode cX1_breaks 24 = .ok (.getfield 393, 3) := by decide +kernel
theorem dX1_breaks_27 : decode cX1_breaks 27 = .ok (.iload_n 1, 1) := by decide +kernel
theorem dX1_breaks_28 : decode cX1_breaks 28 = .ok (.iaload, 1) := by decide +kernel
theorem dX1_breaks_29 : decode cX1_breaks 29 = .ok (.iconst (-1), 1) := by decide +kernel
theorem dX1_breaks_30 : decode cX1_breaks 30 = .ok (.if_icmp .ne 7, 3) := by decide +kernel
theorem dX1_breaks_33 : decode cX1_breaks 33 = .ok (.iconst 0, 1) := by decide +kernel
theorem dX1_breaks_34 : decode cX1_breaks 34 = .ok (.goto 11, 3) := by decide +kernel
theorem dX1_breaks_37 : decode cX1_breaks 37 = .ok (.aload_n 2, 1) := by decide +kernel
theorem dX1_breaks_38 : decode cX1_breaks 38 = .ok (.aload_n 0, 1) := by decide +kernel
theorem dX1_breaks_39 : decode cX1_breaks 39 = .ok (.getfield 393, 3) := by decide +kernel
theorem dX1_breaks_42 : decode cX1_breaks 42 = .ok (.iload_n 1, 1) := by decide +kernel
theorem dX1_breaks_43 : decode cX1_breaks 43 = .ok (.iaload, 1) := by decide +kernel
theorem dX1_breaks_44 : decode cX1_breaks 44 = .ok (.iaload, 1) := by decide +kernel
theorem dX1_breaks_45 : decode cX1_breaks 45 = .ok (.istore 4, 2) := by decide +kernel
theorem dX1_breaks_47 : decode cX1_breaks 47 = .ok (.iload_n 3, 1) := by decide +kernel
theorem dX1_breaks_48 : decode cX1_breaks 48 = .ok (.ldc 210, 2) := by decide +kernel
theorem dX1_breaks_50 : decode cX1_breaks 50 = .ok (.if_icmp .eq 27, 3) := by decide +kernel
theorem dX1_breaks_53 : decode cX1_breaks 53 = .ok (.iload 4, 2) := by decide +kernel
theorem dX1_breaks_55 : decode cX1_breaks 55 = .ok (.ldc 210, 2) := by decide +kernel
theorem dX1_breaks_57 : decode cX1_breaks 57 = .ok (.if_icmp .eq 20, 3) := by decide +kernel
theorem dX1_breaks_60 : decode cX1_breaks 60 = .ok (.iload_n 3, 1) := by decide +kernel
theorem dX1_breaks_61 : decode cX1_breaks 61 = .ok (.iload 4, 2) := by decide +kernel
theorem dX1_breaks_63 : decode cX1_breaks 63 = .ok (.isub, 1) := by decide +kernel
theorem dX1_breaks_64 : decode cX1_breaks 64 = .ok (.aload_n 0, 1) := by decide +kernel
theorem dX1_breaks_65 : decode cX1_breaks 65 = .ok (.getfield 396, 3) := by decide +kernel
theorem dX1_breaks_68 : decode cX1_breaks 68 = .ok (.iload_n 1, 1) := by decide +kernel
theorem dX1_breaks_69 : decode cX1_breaks 69 = .ok (.iaload, 1) := by decide +kernel
theorem dX1_breaks_70 : decode cX1_breaks 70 = .ok (.if_icmp .le 7, 3) := by decide +kernel
theorem dX1_breaks_73 : decode cX1_breaks 73 = .ok (.iconst 1, 1) := by decide +kernel
theorem dX1_breaks_74 : decode cX1_breaks 74 = .ok (.goto 4, 3) := by decide +kernel
theorem dX1_breaks_77 : decode cX1_breaks 77 = .ok (.iconst 0, 1) := by decide +kernel
theorem dX1_breaks_78 : decode cX1_breaks 78 = .ok (.ireturn, 1) := by decide +kernel
theorem dX1_least_0 : decode cX1_least 0 = .ok (.aload_n 0, 1) := by decide +kernel
theorem dX1_least_1 : decode cX1_least 1 = .ok (.iload_n 1, 1) := by decide +kernel
theorem dX1_least_2 : decode cX1_least 2 = .ok (.invokevirtual 365, 3) := by decide +kernel
theorem dX1_least_5 : decode cX1_least 5 = .ok (.astore_n 3, 1) := by decide +kernel
theorem dX1_least_6 : decode cX1_least 6 = .ok (.aload_n 0, 1) := by decide +kernel
theorem dX1_least_7 : decode cX1_least 7 = .ok (.getfield 69, 3) := by decide +kernel
theorem dX1_least_10 : decode cX1_least 10 = .ok (.aload_n 3, 1) := by decide +kernel
theorem dX1_least_11 : decode cX1_least 11 = .ok (.getfield 369, 3) := by decide +kernel
theorem dX1_least_14 : decode cX1_least 14 = .ok (.aload_n 3, 1) := by decide +kernel
theorem dX1_least_15 : decode cX1_least 15 = .ok (.getfield 370, 3) := by decide +kernel
theorem dX1_least_18 : decode cX1_least 18 = .ok (.invokevirtual 409, 3) := by decide +kernel
theorem dX1_least_21 : decode cX1_least 21 = .ok (.ifCond .ne 5, 3) := by decide +kernel
theorem dX1_least_24 : decode cX1_least 24 = .ok (.iconst (-1), 1) := by decide +kernel
theorem dX1_least_25 : decode cX1_least 25 = .ok (.ireturn, 1) := by decide +kernel
theorem dX1_least_26 : decode cX1_least 26 = .ok (.iload_n 2, 1) := by decide +kernel
theorem dX1_least_27 : decode cX1_least 27 = .ok (.ifCond .eq 13, 3) := by decide +kernel
theorem dX1_least_30 : decode cX1_least 30 = .ok (.aload_n 0, 1) := by decide +kernel
theorem dX1_least_31 : decode cX1_least 31 = .ok (.getfield 69, 3) := by decide +kernel
theorem dX1_least_34 : decode cX1_least 34 = .ok (.getfield 413, 3) := by decide +kernel
theorem dX1_least_37 : decode cX1_least 37 = .ok (.goto 10, 3) := by decide +kernel
theorem dX1_least_40 : decode cX1_least 40 = .ok (.aload_n 0, 1) := by decide +kernel
theorem dX1_least_41 : decode cX1_least 41 = .ok (.getfield 69, 3) := by decide +kernel
theorem dX1_least_44 : decode cX1_least 44 = .ok (.getfield 416, 3) := by decide +kernel
theorem dX1_least_47 : decode cX1_least 47 = .ok (.ireturn, 1) := by decide +kernel
theorem dX1_impute_0 : decode cX1_impute 0 = .ok (.aload_n 0, 1) := by decide +kernel
theorem dX1_impute_1 : decode cX1_impute 1 = .ok (.iload_n 1, 1) := by decide +kernel
theorem dX1_impute_2 : decode cX1_impute 2 = .ok (.invokevirtual 365, 3) := by decide +kernel
theorem dX1_impute_5 : decode cX1_impute 5 = .ok (.astore_n 3, 1) := by decide +kernel
theorem dX1_impute_6 : decode cX1_impute 6 = .ok (.iload_n 2, 1) := by decide +kernel
theorem dX1_impute_7 : decode cX1_impute 7 = .ok (.ifCond .eq 8, 3) := by decide +kernel
theorem dX1_impute_10 : decode cX1_impute 10 = .ok (.iload_n 2, 1) := by decide +kernel
theorem dX1_impute_11 : decode cX1_impute 11 = .ok (.iconst 1, 1) := by decide +kernel
theorem dX1_impute_12 : decode cX1_impute 12 = .ok (.if_icmp .ne 7, 3) := by decide +kernel
theorem dX1_impute_15 : decode cX1_impute 15 = .ok (.iconst 1, 1) := by decide +kernel
theorem dX1_impute_16 : decode cX1_impute 16 = .ok (.goto 4, 3) := by decide +kernel
theorem dX1_impute_19 : decode cX1_impute 19 = .ok (.iconst 0, 1) := by decide +kernel
theorem dX1_impute_20 : decode cX1_impute 20 = .ok (.invokestatic 164, 3) := by decide +kernel
theorem dX1_impute_23 : decode cX1_impute 23 = .ok (.aload_n 0, 1) := by decide +kernel
theorem dX1_impute_24 : decode cX1_impute 24 = .ok (.getfield 69, 3) := by decide +kernel
theorem dX1_impute_27 : decode cX1_impute 27 = .ok (.aload_n 3, 1) := by decide +kernel
theorem dX1_impute_28 : decode cX1_impute 28 = .ok (.getfield 369, 3) := by decide +kernel
theorem dX1_impute_31 : decode cX1_impute 31 = .ok (.aload_n 3, 1) := by decide +kernel
theorem dX1_impute_32 : decode cX1_impute 32 = .ok (.getfield 370, 3) := by decide +kernel
theorem dX1_impute_35 : decode cX1_impute 35 = .ok (.invokevirtual 409, 3) := by decide +kernel
theorem dX1_impute_38 : decode cX1_impute 38 = .ok (.invokestatic 190, 3) := by decide +kernel
theorem dX1_impute_41 : decode cX1_impute 41 = .ok (.aload_n 0, 1) := by decide +kernel
theorem dX1_impute_42 : decode cX1_impute 42 = .ok (.getfield 69, 3) := by decide +kernel
theorem dX1_impute_45 : decode cX1_impute 45 = .ok (.getfield 413, 3) := by decide +kernel
theorem dX1_impute_48 : decode cX1_impute 48 = .ok (.istore 4, 2) := by decide +kernel
theorem dX1_impute_50 : decode cX1_impute 50 = .ok (.iload_n 2, 1) := by decide +kernel
theorem dX1_impute_51 : decode cX1_impute 51 = .ok (.iconst 1, 1) := by decide +kernel
theorem dX1_impute_52 : decode cX1_impute 52 = .ok (.if_icmp .ne 17, 3) := by decide +kernel
theorem dX1_impute_55 : decode cX1_impute 55 = .ok (.aload_n 0, 1) := by decide +kernel
theorem dX1_impute_56 : decode cX1_impute 56 = .ok (.aload_n 3, 1) := by decide +kernel
theorem dX1_impute_57 : decode cX1_impute 57 = .ok (.iload 4, 2) := by decide +kernel
theorem dX1_impute_59 : decode cX1_impute 59 = .ok (.invokevirtual 419, 3) := by decide +kernel
theorem dX1_impute_62 : decode cX1_impute 62 = .ok (.ifCond .eq 7, 3) := by decide +kernel
theorem dX1_impute_65 : decode cX1_impute 65 = .ok (.iconst 1, 1) := by decide +kernel
theorem dX1_impute_66 : decode cX1_impute 66 = .ok (.goto 4, 3) := by decide +kernel
theorem dX1_impute_69 : decode cX1_impute 69 = .ok (.iconst 0, 1) := by decide +kernel
theorem dX1_impute_70 : decode cX1_impute 70 = .ok (.istore 5, 2) := by decide +kernel
theorem dX1_impute_72 : decode cX1_impute 72 = .ok (.iload 5, 2) := by decide +kernel
theorem dX1_impute_74 : decode cX1_impute 74 = .ok (.ifCond .ne 46, 3) := by decide +kernel
theorem dX1_impute_77 : decode cX1_impute 77 = .ok (.iconst 0, 1) := by decide +kernel
theorem dX1_impute_78 : decode cX1_impute 78 = .ok (.istore 6, 2) := by decide +kernel
theorem dX1_impute_80 : decode cX1_impute 80 = .ok (.iload 6, 2) := by decide +kernel
theorem dX1_impute_82 : decode cX1_impute 82 = .ok (.bipush 20, 2) := by decide +kernel
theorem dX1_impute_84 : decode cX1_impute 84 = .ok (.if_icmp .ge 23, 3) := by decide +kernel
theorem dX1_impute_87 : decode cX1_impute 87 = .ok (.aload_n 0, 1) := by decide +kernel
theorem dX1_impute_88 : decode cX1_impute 88 = .ok (.getfield 73, 3) := by decide +kernel
theorem dX1_impute_91 : decode cX1_impute 91 = .ok (.iload 6, 2) := by decide +kernel
theorem dX1_impute_93 : decode cX1_impute 93 = .ok (.aload_n 3, 1) := by decide +kernel
theorem dX1_impute_94 : decode cX1_impute 94 = .ok (.getfield 370, 3) := by decide +kernel
theorem dX1_impute_97 : decode cX1_impute 97 = .ok (.iload 6, 2) := by decide +kernel
theorem dX1_impute_99 : decode cX1_impute 99 = .ok (.iaload, 1) := by decide +kernel
theorem dX1_impute_100 : decode cX1_impute 100 = .ok (.iastore, 1) := by decide +kernel
theorem dX1_impute_101 : decode cX1_impute 101 = .ok (.iinc 6 1, 3) := by decide +kernel
theorem dX1_impute_104 : decode cX1_impute 104 = .ok (.goto (-24), 3) := by decide +kernel
theorem dX1_impute_107 : decode cX1_impute 107 = .ok (.aload_n 0, 1) := by decide +kernel
theorem dX1_impute_108 : decode cX1_impute 108 = .ok (.getfield 69, 3) := by decide +kernel
theorem dX1_impute_111 : decode cX1_impute 111 = .ok (.iload 4, 2) := by decide +kernel
theorem dX1_impute_113 : decode cX1_impute 113 = .ok (.aload_n 0, 1) := by decide +kernel
theorem dX1_impute_114 : decode cX1_impute 114 = .ok (.getfield 73, 3) := by decide +kernel
theorem dX1_impute_117 : decode cX1_impute 117 = .ok (.invokevirtual 423, 3) := by decide +kernel
theorem dX1_impute_120 : decode cX1_impute 120 = .ok (.iconst 0, 1) := by decide +kernel
theorem dX1_impute_121 : decode cX1_impute 121 = .ok (.istore 6, 2) := by decide +kernel
theorem dX1_impute_123 : decode cX1_impute 123 = .ok (.iload 6, 2) := by decide +kernel
theorem dX1_impute_125 : decode cX1_impute 125 = .ok (.aload_n 3, 1) := by decide +kernel
theorem dX1_impute_126 : decode cX1_impute 126 = .ok (.getfield 369, 3) := by decide +kernel
theorem dX1_impute_129 : decode cX1_impute 129 = .ok (.getfield 232, 3) := by decide +kernel
theorem dX1_impute_132 : decode cX1_impute 132 = .ok (.if_icmp .ge 53, 3) := by decide +kernel
theorem dX1_impute_135 : decode cX1_impute 135 = .ok (.iload 4, 2) := by decide +kernel
theorem dX1_impute_137 : decode cX1_impute 137 = .ok (.iload 6, 2) := by decide +kernel
theorem dX1_impute_139 : decode cX1_impute 139 = .ok (.ishr, 1) := by decide +kernel
theorem dX1_impute_140 : decode cX1_impute 140 = .ok (.iconst 1, 1) := by decide +kernel
theorem dX1_impute_141 : decode cX1_impute 141 = .ok (.iand, 1) := by decide +kernel
theorem dX1_impute_142 : decode cX1_impute 142 = .ok (.ifCond .ne 6, 3) := by decide +kernel
theorem dX1_impute_145 : decode cX1_impute 145 = .ok (.goto 34, 3) := by decide +kernel
theorem dX1_impute_148 : decode cX1_impute 148 = .ok (.aload_n 3, 1) := by decide +kernel
theorem dX1_impute_149 : decode cX1_impute 149 = .ok (.getfield 370, 3) := by decide +kernel
theorem dX1_impute_152 : decode cX1_impute 152 = .ok (.iload 6, 2) := by decide +kernel
theorem dX1_impute_154 : decode cX1_impute 154 = .ok (.aload_n 0, 1) := by decide +kernel
theorem dX1_impute_155 : decode cX1_impute 155 = .ok (.getfield 73, 3) := by decide +kernel
theorem dX1_impute_158 : decode cX1_impute 158 = .ok (.iload 6, 2) := by decide +kernel
theorem dX1_impute_160 : decode cX1_impute 160 = .ok (.iaload, 1) := by decide +kernel
theorem dX1_impute_161 : decode cX1_impute 161 = .ok (.iastore, 1) := by decide +kernel
theorem dX1_impute_162 : decode cX1_impute 162 = .ok (.aload_n 3, 1) := by decide +kernel
theorem dX1_impute_163 : decode cX1_impute 163 = .ok (.getfield 371, 3) := by decide +kernel
theorem dX1_impute_166 : decode cX1_impute 166 = .ok (.iload 6, 2) := by decide +kernel
theorem dX1_impute_168 : decode cX1_impute 168 = .ok (.iload 5, 2) := by decide +kernel
theorem dX1_impute_170 : decode cX1_impute 170 = .ok (.ifCond .eq 7, 3) := by decide +kernel
theorem dX1_impute_173 : decode cX1_impute 173 = .ok (.iconst 2, 1) := by decide +kernel
theorem dX1_impute_174 : decode cX1_impute 174 = .ok (.goto 4, 3) := by decide +kernel
theorem dX1_impute_177 : decode cX1_impute 177 = .ok (.iconst 1, 1) := by decide +kernel
theorem dX1_impute_178 : decode cX1_impute 178 = .ok (.iastore, 1) := by decide +kernel
theorem dX1_impute_179 : decode cX1_impute 179 = .ok (.iinc 6 1, 3) := by decide +kernel
theorem dX1_impute_182 : decode cX1_impute 182 = .ok (.goto (-59), 3) := by decide +kernel
theorem dX1_impute_185 : decode cX1_impute 185 = .ok (.iconst 0, 1) := by decide +kernel
theorem dX1_impute_186 : decode cX1_impute 186 = .ok (.istore 6, 2) := by decide +kernel
theorem dX1_impute_188 : decode cX1_impute 188 = .ok (.iload 6, 2) := by decide +kernel
theorem dX1_impute_190 : decode cX1_impute 190 = .ok (.aload_n 3, 1) := by decide +kernel
theorem dX1_impute_191 : decode cX1_impute 191 = .ok (.getfield 369, 3) := by decide +kernel
theorem dX1_impute_194 : decode cX1_impute 194 = .ok (.getfield 232, 3) := by decide +kernel
theorem dX1_impute_197 : decode cX1_impute 197 = .ok (.if_icmp .ge 51, 3) := by decide +kernel
theorem dX1_impute_200 : decode cX1_impute 200 = .ok (.aload_n 3, 1) := by decide +kernel
theorem dX1_impute_201 : decode cX1_impute 201 = .ok (.getfield 369, 3) := by decide +kernel
theorem dX1_impute_204 : decode cX1_impute 204 = .ok (.getfield 245, 3) := by decide +kernel
theorem dX1_impute_207 : decode cX1_impute 207 = .ok (.iload 6, 2) := by decide +kernel
theorem dX1_impute_209 : decode cX1_impute 209 = .ok (.iaload, 1) := by decide +kernel
theorem dX1_impute_210 : decode cX1_impute 210 = .ok (.iconst 1, 1) := by decide +kernel
theorem dX1_impute_211 : decode cX1_impute 211 = .ok (.if_icmp .ne 31, 3) := by decide +kernel
theorem dX1_impute_214 : decode cX1_impute 214 = .ok (.aload_n 3, 1) := by decide +kernel
theorem dX1_impute_215 : decode cX1_impute 215 = .ok (.getfield 370, 3) := by decide +kernel
theorem dX1_impute_218 : decode cX1_impute 218 = .ok (.iload 6, 2) := by decide +kernel
theorem dX1_impute_220 : decode cX1_impute 220 = .ok (.aload_n 0, 1) := by decide +kernel
theorem dX1_impute_221 : decode cX1_impute 221 = .ok (.aload_n 3, 1) := by decide +kernel
theorem dX1_impute_222 : decode cX1_impute 222 = .ok (.getfield 369, 3) := by decide +kernel
theorem dX1_impute_225 : decode cX1_impute 225 = .ok (.iload 6, 2) := by decide +kernel
theorem dX1_impute_227 : decode cX1_impute 227 = .ok (.aload_n 3, 1) := by decide +kernel
theorem dX1_impute_228 : decode cX1_impute 228 = .ok (.getfield 370, 3) := by decide +kernel
theorem dX1_impute_231 : decode cX1_impute 231 = .ok (.aload_n 3, 1) := by decide +kernel
theorem dX1_impute_232 : decode cX1_impute 232 = .ok (.getfield 427, 3) := by decide +kernel
theorem dX1_impute_235 : decode cX1_impute 235 = .ok (.getfield 293, 3) := by decide +kernel
theorem dX1_impute_238 : decode cX1_impute 238 = .ok (.invokevirtual 308, 3) := by decide +kernel
theorem dX1_impute_241 : decode cX1_impute 241 = .ok (.iastore, 1) := by decide +kernel
theorem dX1_impute_242 : decode cX1_impute 242 = .ok (.iinc 6 1, 3) := by decide +kernel
theorem dX1_impute_245 : decode cX1_impute 245 = .ok (.goto (-57), 3) := by decide +kernel
theorem dX1_impute_248 : decode cX1_impute 248 = .ok (.iload 4, 2) := by decide +kernel
theorem dX1_impute_250 : decode cX1_impute 250 = .ok (.invokestatic 431, 3) := by decide +kernel
theorem dX1_impute_253 : decode cX1_impute 253 = .ok (.ireturn, 1) := by decide +kernel
theorem dX1_takeFromDonor_0 : decode cX1_takeFromDonor 0 = .ok (.iconst 0, 1) := by decide +kernel
theorem dX1_takeFromDonor_1 : decode cX1_takeFromDonor 1 = .ok (.istore_n 3, 1) := by decide +kernel
theorem dX1_takeFromDonor_2 : decode cX1_takeFromDonor 2 = .ok (.iload_n 3, 1) := by decide +kernel
theorem dX1_takeFromDonor_3 : decode cX1_takeFromDonor 3 = .ok (.aload_n 0, 1) := by decide +kernel
theorem dX1_takeFromDonor_4 : decode cX1_takeFromDonor 4 = .ok (.getfield 360, 3) := by decide +kernel
theorem dX1_takeFromDonor_7 : decode cX1_takeFromDonor 7 = .ok (.if_icmp .ge 46, 3) := by decide +kernel
theorem dX1_takeFromDonor_10 : decode cX1_takeFromDonor 10 = .ok (.aload_n 0, 1) := by decide +kernel
theorem dX1_takeFromDonor_11 : decode cX1_takeFromDonor 11 = .ok (.getfield 76, 3) := by decide +kernel
theorem dX1_takeFromDonor_14 : decode cX1_takeFromDonor 14 = .ok (.iload_n 3, 1) := by decide +kernel
theorem dX1_takeFromDonor_15 : decode cX1_takeFromDonor 15 = .ok (.aload_n 1, 1) := by decide +kernel
theorem dX1_takeFromDonor_16 : decode cX1_takeFromDonor 16 = .ok (.aload_n 0, 1) := by decide +kernel
theorem dX1_takeFromDonor_17 : decode cX1_takeFromDonor 17 = .ok (.getfield 60, 3) := by decide +kernel
theorem dX1_takeFromDonor_20 : decode cX1_takeFromDonor 20 = .ok (.iload_n 3, 1) := by decide +kernel
theorem dX1_takeFromDonor_21 : decode cX1_takeFromDonor 21 = .ok (.aaload, 1) := by decide +kernel
theorem dX1_takeFromDonor_22 : decode cX1_takeFromDonor 22 = .ok (.iload_n 2, 1) := by decide +kernel
theorem dX1_takeFromDonor_23 : decode cX1_takeFromDonor 23 = .ok (.invokestatic 435, 3) := by decide +kernel
theorem dX1_takeFromDonor_26 : decode cX1_takeFromDonor 26 = .ok (.ifCond .eq 17, 3) := by decide +kernel
theorem dX1_takeFromDonor_29 : decode cX1_takeFromDonor 29 = .ok (.aload_n 1, 1) := by decide +kernel
theorem dX1_takeFromDonor_30 : decode cX1_takeFromDonor 30 = .ok (.aload_n 0, 1) := by decide +kernel
theorem dX1_takeFromDonor_31 : decode cX1_takeFromDonor 31 = .ok (.getfield 60, 3) := by decide +kernel
theorem dX1_takeFromDonor_34 : decode cX1_takeFromDonor 34 = .ok (.iload_n 3, 1) := by decide +kernel
theorem dX1_takeFromDonor_35 : decode cX1_takeFromDonor 35 = .ok (.aaload, 1) := by decide +kernel
theorem dX1_takeFromDonor_36 : decode cX1_takeFromDonor 36 = .ok (.iload_n 2, 1) := by decide +kernel
theorem dX1_takeFromDonor_37 : decode cX1_takeFromDonor 37 = .ok (.invokestatic 439, 3) := by decide +kernel
theorem dX1_takeFromDonor_40 : decode cX1_takeFromDonor 40 = .ok (.goto 6, 3) := by decide +kernel
theorem dX1_takeFromDonor_43 : decode cX1_takeFromDonor 43 = .ok (.ldc2_w 378, 3) := by decide +kernel
theorem dX1_takeFromDonor_46 : decode cX1_takeFromDonor 46 = .ok (.lastore, 1) := by decide +kernel
theorem dX1_takeFromDonor_47 : decode cX1_takeFromDonor 47 = .ok (.iinc 3 1, 3) := by decide +kernel
theorem dX1_takeFromDonor_50 : decode cX1_takeFromDonor 50 = .ok (.goto (-48), 3) := by decide +kernel
theorem dX1_takeFromDonor_53 : decode cX1_takeFromDonor 53 = .ok (.iconst 0, 1) := by decide +kernel
theorem dX1_takeFromDonor_54 : decode cX1_takeFromDonor 54 = .ok (.istore_n 3, 1) := by decide +kernel
theorem dX1_takeFromDonor_55 : decode cX1_takeFromDonor 55 = .ok (.iload_n 3, 1) := by decide +kernel
theorem dX1_takeFromDonor_56 : decode cX1_takeFromDonor 56 = .ok (.aload_n 0, 1) := by decide +kernel
theorem dX1_takeFromDonor_57 : decode cX1_takeFromDonor 57 = .ok (.getfield 360, 3) := by decide +kernel
theorem dX1_takeFromDonor_60 : decode cX1_takeFromDonor 60 = .ok (.if_icmp .ge 159, 3) := by decide +kernel
theorem dX1_takeFromDonor_63 : decode cX1_takeFromDonor 63 = .ok (.iconst (-1), 1) := by decide +kernel
theorem dX1_takeFromDonor_64 : decode cX1_takeFromDonor 64 = .ok (.istore 4, 2) := by decide +kernel
theorem dX1_takeFromDonor_66 : decode cX1_takeFromDonor 66 = .ok (.iconst 0, 1) := by decide +kernel
theorem dX1_takeFromDonor_67 : decode cX1_takeFromDonor 67 = .ok (.istore 5, 2) := by decide +kernel
theorem dX1_takeFromDonor_69 : decode cX1_takeFromDonor 69 = .ok (.iload 5, 2) := by decide +kernel
theorem dX1_takeFromDonor_71 : decode cX1_takeFromDonor 71 = .ok (.aload_n 0, 1) := by decide +kernel
theorem dX1_takeFromDonor_72 : decode cX1_takeFromDonor 72 = .ok (.getfield 360, 3) := by decide +kernel
theorem dX1_takeFromDonor_75 : decode cX1_takeFromDonor 75 = .ok (.if_icmp .ge 49, 3) := by decide +kernel
theorem dX1_takeFromDonor_78 : decode cX1_takeFromDonor 78 = .ok (.aload_n 0, 1) := by decide +kernel
theorem dX1_takeFromDonor_79 : decode cX1_takeFromDonor 79 = .ok (.getfield 76, 3) := by decide +kernel
theorem dX1_takeFromDonor_82 : decode cX1_takeFromDonor 82 = .ok (.iload 5, 2) := by decide +kernel
theorem dX1_takeFromDonor_84 : decode cX1_takeFromDonor 84 = .ok (.laload, 1) := by decide +kernel
theorem dX1_takeFromDonor_85 : decode cX1_takeFromDonor 85 = .ok (.lconst 0, 1) := by decide +kernel
theorem dX1_takeFromDonor_86 : decode cX1_takeFromDonor 86 = .ok (.lcmp, 1) := by decide +kernel
theorem dX1_takeFromDonor_87 : decode cX1_takeFromDonor 87 = .ok (.ifCond .lt 31, 3) := by decide +kernel
theorem dX1_takeFromDonor_90 : decode cX1_takeFromDonor 90 = .ok (.iload 4, 2) := by decide +kernel
theorem dX1_takeFromDonor_92 : decode cX1_takeFromDonor 92 = .ok (.iconst (-1), 1) := by decide +kernel
theorem dX1_takeFromDonor_93 : decode cX1_takeFromDonor 93 = .ok (.if_icmp .eq 21, 3) := by decide +kernel
theorem dX1_takeFromDonor_96 : decode cX1_takeFromDonor 96 = .ok (.aload_n 0, 1) := by decide +kernel
theorem dX1_takeFromDonor_97 : decode cX1_takeFromDonor 97 = .ok (.getfield 76, 3) := by decide +kernel
theorem dX1_takeFromDonor_100 : decode cX1_takeFromDonor 100 = .ok (.iload 5, 2) := by decide +kernel
theorem dX1_takeFromDonor_102 : decode cX1_takeFromDonor 102 = .ok (.laload, 1) := by decide +kernel
theorem dX1_takeFromDonor_103 : decode cX1_takeFromDonor 103 = .ok (.aload_n 0, 1) := by decide +kernel
theorem dX1_takeFromDonor_104 : decode cX1_takeFromDonor 104 = .ok (.getfield 76, 3) := by decide +kernel
theorem dX1_takeFromDonor_107 : decode cX1_takeFromDonor 107 = .ok (.iload 4, 2) := by decide +kernel
theorem dX1_takeFromDonor_109 : decode cX1_takeFromDonor 109 = .ok (.laload, 1) := by decide +kernel
theorem dX1_takeFromDonor_110 : decode cX1_takeFromDonor 110 = .ok (.lcmp, 1) := by decide +kernel
theorem dX1_takeFromDonor_111 : decode cX1_takeFromDonor 111 = .ok (.ifCond .ge 7, 3) := by decide +kernel
theorem dX1_takeFromDonor_114 : decode cX1_takeFromDonor 114 = .ok (.iload 5, 2) := by decide +kernel
theorem dX1_takeFromDonor_116 : decode cX1_takeFromDonor 116 = .ok (.istore 4, 2) := by decide +kernel
theorem dX1_takeFromDonor_118 : decode cX1_takeFromDonor 118 = .ok (.iinc 5 1, 3) := by decide +kernel
theorem dX1_takeFromDonor_121 : decode cX1_takeFromDonor 121 = .ok (.goto (-52), 3) := by decide +kernel
theorem dX1_takeFromDonor_124 : decode cX1_takeFromDonor 124 = .ok (.iload 4, 2) := by decide +kernel
theorem dX1_takeFromDonor_126 : decode cX1_takeFromDonor 126 = .ok (.iconst (-1), 1) := by decide +kernel
theorem dX1_takeFromDonor_127 : decode cX1_takeFromDonor 127 = .ok (.if_icmp .ne 5, 3) := by decide +kernel
theorem dX1_takeFromDonor_130 : decode cX1_takeFromDonor 130 = .ok (.iconst 0, 1) := by decide +kernel
theorem dX1_takeFromDonor_131 : decode cX1_takeFromDonor 131 = .ok (.ireturn, 1) := by decide +kernel
theorem dX1_takeFromDonor_132 : decode cX1_takeFromDonor 132 = .ok (.aload_n 0, 1) := by decide +kernel
theorem dX1_takeFromDonor_133 : decode cX1_takeFromDonor 133 = .ok (.getfield 76, 3) := by decide +kernel
theorem dX1_takeFromDonor_136 : decode cX1_takeFromDonor 136 = .ok (.iload 4, 2) := by decide +kernel
theorem dX1_takeFromDonor_138 : decode cX1_takeFromDonor 138 = .ok (.ldc2_w 378, 3) := by decide +kernel
theorem dX1_takeFromDonor_141 : decode cX1_takeFromDonor 141 = .ok (.lastore, 1) := by decide +kernel
theorem dX1_takeFromDonor_142 : decode cX1_takeFromDonor 142 = .ok (.iconst 0, 1) := by decide +kernel
theorem dX1_takeFromDonor_143 : decode cX1_takeFromDonor 143 = .ok (.istore 5, 2) := by decide +kernel
theorem dX1_takeFromDonor_145 : decode cX1_takeFromDonor 145 = .ok (.iload 5, 2) := by decide +kernel
theorem dX1_takeFromDonor_147 : decode cX1_takeFromDonor 147 = .ok (.bipush 20, 2) := by decide +kernel
theorem dX1_takeFromDonor_149 : decode cX1_takeFromDonor 149 = .ok (.if_icmp .ge 48, 3) := by decide +kernel
theorem dX1_takeFromDonor_152 : decode cX1_takeFromDonor 152 = .ok (.aload_n 0, 1) := by decide +kernel
theorem dX1_takeFromDonor_153 : decode cX1_takeFromDonor 153 = .ok (.getfield 73, 3) := by decide +kernel
theorem dX1_takeFromDonor_156 : decode cX1_takeFromDonor 156 = .ok (.iload 5, 2) := by decide +kernel
theorem dX1_takeFromDonor_158 : decode cX1_takeFromDonor 158 = .ok (.iload_n 2, 1) := by decide +kernel
theorem dX1_takeFromDonor_159 : decode cX1_takeFromDonor 159 = .ok (.iload 5, 2) := by decide +kernel
theorem dX1_takeFromDonor_161 : decode cX1_takeFromDonor 161 = .ok (.ishr, 1) := by decide +kernel
theorem dX1_takeFromDonor_162 : decode cX1_takeFromDonor 162 = .ok (.iconst 1, 1) := by decide +kernel
theorem dX1_takeFromDonor_163 : decode cX1_takeFromDonor 163 = .ok (.iand, 1) := by decide +kernel
theorem dX1_takeFromDonor_164 : decode cX1_takeFromDonor 164 = .ok (.ifCond .eq 19, 3) := by decide +kernel
theorem dX1_takeFromDonor_167 : decode cX1_takeFromDonor 167 = .ok (.aload_n 0, 1) := by decide +kernel
theorem dX1_takeFromDonor_168 : decode cX1_takeFromDonor 168 = .ok (.getfield 60, 3) := by decide +kernel
theorem dX1_takeFromDonor_171 : decode cX1_takeFromDonor 171 = .ok (.iload 4, 2) := by decide +kernel
theorem dX1_takeFromDonor_173 : decode cX1_takeFromDonor 173 = .ok (.aaload, 1) := by decide +kernel
theorem dX1_takeFromDonor_174 : decode cX1_takeFromDonor 174 = .ok (.getfield 370, 3) := by decide +kernel
theorem dX1_takeFromDonor_177 : decode cX1_takeFromDonor 177 = .ok (.iload 5, 2) := by decide +kernel
theorem dX1_takeFromDonor_179 : decode cX1_takeFromDonor 179 = .ok (.iaload, 1) := by decide +kernel
theorem dX1_takeFromDonor_180 : decode cX1_takeFromDonor 180 = .ok (.goto 10, 3) := by decide +kernel
theorem dX1_takeFromDonor_183 : decode cX1_takeFromDonor 183 = .ok (.aload_n 1, 1) := by decide +kernel
theorem dX1_takeFromDonor_184 : decode cX1_takeFromDonor 184 = .ok (.getfield 370, 3) := by decide +kernel
theorem dX1_takeFromDonor_187 : decode cX1_takeFromDonor 187 = .ok (.iload 5, 2) := by decide +kernel
theorem dX1_takeFromDonor_189 : decode cX1_takeFromDonor 189 = .ok (.iaload, 1) := by decide +kernel
theorem dX1_takeFromDonor_190 : decode cX1_takeFromDonor 190 = .ok (.iastore, 1) := by decide +kernel
theorem dX1_takeFromDonor_191 : decode cX1_takeFromDonor 191 = .ok (.iinc 5 1, 3) := by decide +kernel
theorem dX1_takeFromDonor_194 : decode cX1_takeFromDonor 194 = .ok (.goto (-49), 3) := by decide +kernel
theorem dX1_takeFromDonor_197 : decode cX1_takeFromDonor 197 = .ok (.aload_n 1, 1) := by decide +kernel
theorem dX1_takeFromDonor_198 : decode cX1_takeFromDonor 198 = .ok (.getfield 369, 3) := by decide +kernel
theorem dX1_takeFromDonor_201 : decode cX1_takeFromDonor 201 = .ok (.aload_n 0, 1) := by decide +kernel
theorem dX1_takeFromDonor_202 : decode cX1_takeFromDonor 202 = .ok (.getfield 73, 3) := by decide +kernel
theorem dX1_takeFromDonor_205 : decode cX1_takeFromDonor 205 = .ok (.invokestatic 405, 3) := by decide +kernel
theorem dX1_takeFromDonor_208 : decode cX1_takeFromDonor 208 = .ok (.ifCond .ne 5, 3) := by decide +kernel
theorem dX1_takeFromDonor_211 : decode cX1_takeFromDonor 211 = .ok (.iconst 1, 1) := by decide +kernel
theorem dX1_takeFromDonor_212 : decode cX1_takeFromDonor 212 = .ok (.ireturn, 1) := by decide +kernel
theorem dX1_takeFromDonor_213 : decode cX1_takeFromDonor 213 = .ok (.iinc 3 1, 3) := by decide +kernel
theorem dX1_takeFromDonor_216 : decode cX1_takeFromDonor 216 = .ok (.goto (-161), 3) := by decide +kernel
theorem dX1_takeFromDonor_219 : decode cX1_takeFromDonor 219 = .ok (.iconst 0, 1) := by decide +kernel
theorem dX1_takeFromDonor_220 : decode cX1_takeFromDonor 220 = .ok (.ireturn, 1) := by decide +kernel
theorem dX1_isDonor_0 : decode cX1_isDonor 0 = .ok (.aload_n 1, 1) := by decide +kernel
theorem dX1_isDonor_1 : decode cX1_isDonor 1 = .ok (.aload_n 0, 1) := by decide +kernel
theorem dX1_isDonor_2 : decode cX1_isDonor 2 = .ok (.if_acmp .eq 32, 3) := by decide +kernel
theorem dX1_isDonor_5 : decode cX1_isDonor 5 = .ok (.aload_n 1, 1) := by decide +kernel
theorem dX1_isDonor_6 : decode cX1_isDonor 6 = .ok (.getfield 369, 3) := by decide +kernel
theorem dX1_isDonor_9 : decode cX1_isDonor 9 = .ok (.aload_n 0, 1) := by decide +kernel
theorem dX1_isDonor_10 : decode cX1_isDonor 10 = .ok (.getfield 369, 3) := by decide +kernel
theorem dX1_isDonor_13 : decode cX1_isDonor 13 = .ok (.if_acmp .ne 21, 3) := by decide +kernel
theorem dX1_isDonor_16 : decode cX1_isDonor 16 = .ok (.aload_n 1, 1) := by decide +kernel
theorem dX1_isDonor_17 : decode cX1_isDonor 17 = .ok (.getfield 369, 3) := by decide +kernel
theorem dX1_isDonor_20 : decode cX1_isDonor 20 = .ok (.aload_n 1, 1) := by decide +kernel
theorem dX1_isDonor_21 : decode cX1_isDonor 21 = .ok (.getfield 370, 3) := by decide +kernel
theorem dX1_isDonor_24 : decode cX1_isDonor 24 = .ok (.invokestatic 405, 3) := by decide +kernel
theorem dX1_isDonor_27 : decode cX1_isDonor 27 = .ok (.ifCond .ne 7, 3) := by decide +kernel
theorem dX1_isDonor_30 : decode cX1_isDonor 30 = .ok (.iconst 1, 1) := by decide +kernel
theorem dX1_isDonor_31 : decode cX1_isDonor 31 = .ok (.goto 4, 3) := by decide +kernel
theorem dX1_isDonor_34 : decode cX1_isDonor 34 = .ok (.iconst 0, 1) := by decide +kernel
theorem dX1_isDonor_35 : decode cX1_isDonor 35 = .ok (.istore_n 3, 1) := by decide +kernel
theorem dX1_isDonor_36 : decode cX1_isDonor 36 = .ok (.iconst 0, 1) := by decide +kernel
theorem dX1_isDonor_37 : decode cX1_isDonor 37 = .ok (.istore 4, 2) := by decide +kernel
theorem dX1_isDonor_39 : decode cX1_isDonor 39 = .ok (.iload 4, 2) := by decide +kernel
theorem dX1_isDonor_41 : decode cX1_isDonor 41 = .ok (.aload_n 0, 1) := by decide +kernel
theorem dX1_isDonor_42 : decode cX1_isDonor 42 = .ok (.getfield 369, 3) := by decide +kernel
theorem dX1_isDonor_45 : decode cX1_isDonor 45 = .ok (.getfield 232, 3) := by decide +kernel
theorem dX1_isDonor_48 : decode cX1_isDonor 48 = .ok (.if_icmp .ge 38, 3) := by decide +kernel
theorem dX1_isDonor_51 : decode cX1_isDonor 51 = .ok (.iload_n 3, 1) := by decide +kernel
theorem dX1_isDonor_52 : decode cX1_isDonor 52 = .ok (.iload_n 2, 1) := by decide +kernel
theorem dX1_isDonor_53 : decode cX1_isDonor 53 = .ok (.iload 4, 2) := by decide +kernel
theorem dX1_isDonor_55 : decode cX1_isDonor 55 = .ok (.ishr, 1) := by decide +kernel
theorem dX1_isDonor_56 : decode cX1_isDonor 56 = .ok (.iconst 1, 1) := by decide +kernel
theorem dX1_isDonor_57 : decode cX1_isDonor 57 = .ok (.iand, 1) := by decide +kernel
theorem dX1_isDonor_58 : decode cX1_isDonor 58 = .ok (.ifCond .eq 15, 3) := by decide +kernel
theorem dX1_isDonor_61 : decode cX1_isDonor 61 = .ok (.aload_n 1, 1) := by decide +kernel
theorem dX1_isDonor_62 : decode cX1_isDonor 62 = .ok (.getfield 370, 3) := by decide +kernel
theorem dX1_isDonor_65 : decode cX1_isDonor 65 = .ok (.iload 4, 2) := by decide +kernel
theorem dX1_isDonor_67 : decode cX1_isDonor 67 = .ok (.iaload, 1) := by decide +kernel
theorem dX1_isDonor_68 : decode cX1_isDonor 68 = .ok (.ldc 210, 2) := by decide +kernel
theorem dX1_isDonor_70 : decode cX1_isDonor 70 = .ok (.if_icmp .eq 7, 3) := by decide +kernel
theorem dX1_isDonor_73 : decode cX1_isDonor 73 = .ok (.iconst 1, 1) := by decide +kernel
theorem dX1_isDonor_74 : decode cX1_isDonor 74 = .ok (.goto 4, 3) := by decide +kernel
theorem dX1_isDonor_77 : decode cX1_isDonor 77 = .ok (.iconst 0, 1) := by decide +kernel
theorem dX1_isDonor_78 : decode cX1_isDonor 78 = .ok (.iand, 1) := by decide +kernel
theorem dX1_isDonor_79 : decode cX1_isDonor 79 = .ok (.istore_n 3, 1) := by decide +kernel
theorem dX1_isDonor_80 : decode cX1_isDonor 80 = .ok (.iinc 4 1, 3) := by decide +kernel
theorem dX1_isDonor_83 : decode cX1_isDonor 83 = .ok (.goto (-44), 3) := by decide +kernel
theorem dX1_isDonor_86 : decode cX1_isDonor 86 = .ok (.iload_n 3, 1) := by decide +kernel
theorem dX1_isDonor_87 : decode cX1_isDonor 87 = .ok (.ireturn, 1) := by decide +kernel
theorem dX1_distanceOf_0 : decode cX1_distanceOf 0 = .ok (.lconst 0, 1) := by decide +kernel
theorem dX1_distanceOf_1 : decode cX1_distanceOf 1 = .ok (.lstore_n 3, 1) := by decide +kernel
theorem dX1_distanceOf_2 : decode cX1_distanceOf 2 = .ok (.iconst 0, 1) := by decide +kernel
theorem dX1_distanceOf_3 : decode cX1_distanceOf 3 = .ok (.istore 5, 2) := by decide +kernel
theorem dX1_distanceOf_5 : decode cX1_distanceOf 5 = .ok (.iload 5, 2) := by decide +kernel
theorem dX1_distanceOf_7 : decode cX1_distanceOf 7 = .ok (.aload_n 0, 1) := by decide +kernel
theorem dX1_distanceOf_8 : decode cX1_distanceOf 8 = .ok (.getfield 369, 3) := by decide +kernel
theorem dX1_distanceOf_11 : decode cX1_distanceOf 11 = .ok (.getfield 232, 3) := by decide +kernel
theorem dX1_distanceOf_14 : decode cX1_distanceOf 14 = .ok (.if_icmp .ge 92, 3) := by decide +kernel
theorem dX1_distanceOf_17 : decode cX1_distanceOf 17 = .ok (.aload_n 0, 1) := by decide +kernel
theorem dX1_distanceOf_18 : decode cX1_distanceOf 18 = .ok (.getfield 369, 3) := by decide +kernel
theorem dX1_distanceOf_21 : decode cX1_distanceOf 21 = .ok (.iload 5, 2) := by decide +kernel
theorem dX1_distanceOf_23 : decode cX1_distanceOf 23 = .ok (.invokevirtual 374, 3) := by decide +kernel
theorem dX1_distanceOf_26 : decode cX1_distanceOf 26 = .ok (.ifCond .eq 40, 3) := by decide +kernel
theorem dX1_distanceOf_29 : decode cX1_distanceOf 29 = .ok (.iload_n 2, 1) := by decide +kernel
theorem dX1_distanceOf_30 : decode cX1_distanceOf 30 = .ok (.iload 5, 2) := by decide +kernel
theorem dX1_distanceOf_32 : decode cX1_distanceOf 32 = .ok (.ishr, 1) := by decide +kernel
theorem dX1_distanceOf_33 : decode cX1_distanceOf 33 = .ok (.iconst 1, 1) := by decide +kernel
theorem dX1_distanceOf_34 : decode cX1_distanceOf 34 = .ok (.iand, 1) := by decide +kernel
theorem dX1_distanceOf_35 : decode cX1_distanceOf 35 = .ok (.ifCond .ne 31, 3) := by decide +kernel
theorem dX1_distanceOf_38 : decode cX1_distanceOf 38 = .ok (.aload_n 0, 1) := by decide +kernel
theorem dX1_distanceOf_39 : decode cX1_distanceOf 39 = .ok (.getfield 370, 3) := by decide +kernel
theorem dX1_distanceOf_42 : decode cX1_distanceOf 42 = .ok (.iload 5, 2) := by decide +kernel
theorem dX1_distanceOf_44 : decode cX1_distanceOf 44 = .ok (.iaload, 1) := by decide +kernel
theorem dX1_distanceOf_45 : decode cX1_distanceOf 45 = .ok (.ldc 210, 2) := by decide +kernel
theorem dX1_distanceOf_47 : decode cX1_distanceOf 47 = .ok (.if_icmp .eq 19, 3) := by decide +kernel
theorem dX1_distanceOf_50 : decode cX1_distanceOf 50 = .ok (.aload_n 1, 1) := by decide +kernel
theorem dX1_distanceOf_51 : decode cX1_distanceOf 51 = .ok (.getfield 370, 3) := by decide +kernel
theorem dX1_distanceOf_54 : decode cX1_distanceOf 54 = .ok (.iload 5, 2) := by decide +kernel
theorem dX1_distanceOf_56 : decode cX1_distanceOf 56 = .ok (.iaload, 1) := by decide +kernel
theorem dX1_distanceOf_57 : decode cX1_distanceOf 57 = .ok (.ldc 210, 2) := by decide +kernel
theorem dX1_distanceOf_59 : decode cX1_distanceOf 59 = .ok (.if_icmp .eq 7, 3) := by decide +kernel
theorem dX1_distanceOf_62 : decode cX1_distanceOf 62 = .ok (.iconst 1, 1) := by decide +kernel
theorem dX1_distanceOf_63 : decode cX1_distanceOf 63 = .ok (.goto 4, 3) := by decide +kernel
theorem dX1_distanceOf_66 : decode cX1_distanceOf 66 = .ok (.iconst 0, 1) := by decide +kernel
theorem dX1_distanceOf_67 : decode cX1_distanceOf 67 = .ok (.istore 6, 2) := by decide +kernel
theorem dX1_distanceOf_69 : decode cX1_distanceOf 69 = .ok (.lload_n 3, 1) := by decide +kernel
theorem dX1_distanceOf_70 : decode cX1_distanceOf 70 = .ok (.iload 6, 2) := by decide +kernel
theorem dX1_distanceOf_72 : decode cX1_distanceOf 72 = .ok (.ifCond .eq 25, 3) := by decide +kernel
theorem dX1_distanceOf_75 : decode cX1_distanceOf 75 = .ok (.aload_n 0, 1) := by decide +kernel
theorem dX1_distanceOf_76 : decode cX1_distanceOf 76 = .ok (.getfield 370, 3) := by decide +kernel
theorem dX1_distanceOf_79 : decode cX1_distanceOf 79 = .ok (.iload 5, 2) := by decide +kernel
theorem dX1_distanceOf_81 : decode cX1_distanceOf 81 = .ok (.iaload, 1) := by decide +kernel
theorem dX1_distanceOf_82 : decode cX1_distanceOf 82 = .ok (.aload_n 1, 1) := by decide +kernel
theorem dX1_distanceOf_83 : decode cX1_distanceOf 83 = .ok (.getfield 370, 3) := by decide +kernel
theorem dX1_distanceOf_86 : decode cX1_distanceOf 86 = .ok (.iload 5, 2) := by decide +kernel
theorem dX1_distanceOf_88 : decode cX1_distanceOf 88 = .ok (.iaload, 1) := by decide +kernel
theorem dX1_distanceOf_89 : decode cX1_distanceOf 89 = .ok (.isub, 1) := by decide +kernel
theorem dX1_distanceOf_90 : decode cX1_distanceOf 90 = .ok (.invokestatic 443, 3) := by decide +kernel
theorem dX1_distanceOf_93 : decode cX1_distanceOf 93 = .ok (.i2l, 1) := by decide +kernel
theorem dX1_distanceOf_94 : decode cX1_distanceOf 94 = .ok (.goto 4, 3) := by decide +kernel
theorem dX1_distanceOf_97 : decode cX1_distanceOf 97 = .ok (.lconst 0, 1) := by decide +kernel
theorem dX1_distanceOf_98 : decode cX1_distanceOf 98 = .ok (.ladd, 1) := by decide +kernel
theorem dX1_distanceOf_99 : decode cX1_distanceOf 99 = .ok (.lstore_n 3, 1) := by decide +kernel
theorem dX1_distanceOf_100 : decode cX1_distanceOf 100 = .ok (.iinc 5 1, 3) := by decide +kernel
theorem dX1_distanceOf_103 : decode cX1_distanceOf 103 = .ok (.goto (-98), 3) := by decide +kernel
theorem dX1_distanceOf_106 : decode cX1_distanceOf 106 = .ok (.lload_n 3, 1) := by decide +kernel
theorem dX1_distanceOf_107 : decode cX1_distanceOf 107 = .ok (.lreturn, 1) := by decide +kernel
theorem dX1_sample_0 : decode cX1_sample 0 = .ok (.iload_n 1, 1) := by decide +kernel
theorem dX1_sample_1 : decode cX1_sample 1 = .ok (.invokestatic 183, 3) := by decide +kernel
theorem dX1_sample_4 : decode cX1_sample 4 = .ok (.iload 4, 2) := by decide +kernel
theorem dX1_sample_6 : decode cX1_sample 6 = .ok (.invokestatic 183, 3) := by decide +kernel
theorem dX1_sample_9 : decode cX1_sample 9 = .ok (.aload_n 0, 1) := by decide +kernel
theorem dX1_sample_10 : decode cX1_sample 10 = .ok (.iload_n 1, 1) := by decide +kernel
theorem dX1_sample_11 : decode cX1_sample 11 = .ok (.iload_n 2, 1) := by decide +kernel
theorem dX1_sample_12 : decode cX1_sample 12 = .ok (.iload_n 3, 1) := by decide +kernel
theorem dX1_sample_13 : decode cX1_sample 13 = .ok (.iload 4, 2) := by decide +kernel
theorem dX1_sample_15 : decode cX1_sample 15 = .ok (.invokevirtual 451, 3) := by decide +kernel
theorem dX1_sample_18 : decode cX1_sample 18 = .ok (.istore 7, 2) := by decide +kernel
theorem dX1_sample_20 : decode cX1_sample 20 = .ok (.iload 5, 2) := by decide +kernel
theorem dX1_sample_22 : decode cX1_sample 22 = .ok (.i2l, 1) := by decide +kernel
theorem dX1_sample_23 : decode cX1_sample 23 = .ok (.lconst 0, 1) := by decide +kernel
theorem dX1_sample_24 : decode cX1_sample 24 = .ok (.iload 7, 2) := by decide +kernel
theorem dX1_sample_26 : decode cX1_sample 26 = .ok (.i2l, 1) := by decide +kernel
theorem dX1_sample_27 : decode cX1_sample 27 = .ok (.invokestatic 159, 3) := by decide +kernel
theorem dX1_sample_30 : decode cX1_sample 30 = .ok (.invokestatic 164, 3) := by decide +kernel
theorem dX1_sample_33 : decode cX1_sample 33 = .ok (.aload_n 0, 1) := by decide +kernel
theorem dX1_sample_34 : decode cX1_sample 34 = .ok (.getfield 454, 3) := by decide +kernel
theorem dX1_sample_37 : decode cX1_sample 37 = .ok (.bipush 12, 2) := by decide +kernel
theorem dX1_sample_39 : decode cX1_sample 39 = .ok (.if_icmp .ge 7, 3) := by decide +kernel
theorem dX1_sample_42 : decode cX1_sample 42 = .ok (.iconst 1, 1) := by decide +kernel
theorem dX1_sample_43 : decode cX1_sample 43 = .ok (.goto 4, 3) := by decide +kernel
theorem dX1_sample_46 : decode cX1_sample 46 = .ok (.iconst 0, 1) := by decide +kernel
theorem dX1_sample_47 : decode cX1_sample 47 = .ok (.invokestatic 176, 3) := by decide +kernel
theorem dX1_sample_50 : decode cX1_sample 50 = .ok (.iconst 0, 1) := by decide +kernel
theorem dX1_sample_51 : decode cX1_sample 51 = .ok (.istore 8, 2) := by decide +kernel
theorem dX1_sample_53 : decode cX1_sample 53 = .ok (.iconst 0, 1) := by decide +kernel
theorem dX1_sample_54 : decode cX1_sample 54 = .ok (.istore 9, 2) := by decide +kernel
theorem dX1_sample_56 : decode cX1_sample 56 = .ok (.iload 9, 2) := by decide +kernel
theorem dX1_sample_58 : decode cX1_sample 58 = .ok (.iload 7, 2) := by decide +kernel
theorem dX1_sample_60 : decode cX1_sample 60 = .ok (.if_icmp .ge 151, 3) := by decide +kernel
theorem dX1_sample_63 : decode cX1_sample 63 = .ok (.iconst 0, 1) := by decide +kernel
theorem dX1_sample_64 : decode cX1_sample 64 = .ok (.istore 10, 2) := by decide +kernel
theorem dX1_sample_66 : decode cX1_sample 66 = .ok (.iload 10, 2) := by decide +kernel
theorem dX1_sample_68 : decode cX1_sample 68 = .ok (.iload 8, 2) := by decide +kernel
theorem dX1_sample_70 : decode cX1_sample 70 = .ok (.if_icmp .ge 26, 3) := by decide +kernel
theorem dX1_sample_73 : decode cX1_sample 73 = .ok (.aload_n 0, 1) := by decide +kernel
theorem dX1_sample_74 : decode cX1_sample 74 = .ok (.getfield 91, 3) := by decide +kernel
theorem dX1_sample_77 : decode cX1_sample 77 = .ok (.iload 10, 2) := by decide +kernel
theorem dX1_sample_79 : decode cX1_sample 79 = .ok (.iaload, 1) := by decide +kernel
theorem dX1_sample_80 : decode cX1_sample 80 = .ok (.aload_n 0, 1) := by decide +kernel
theorem dX1_sample_81 : decode cX1_sample 81 = .ok (.getfield 88, 3) := by decide +kernel
theorem dX1_sample_84 : decode cX1_sample 84 = .ok (.iload 9, 2) := by decide +kernel
theorem dX1_sample_86 : decode cX1_sample 86 = .ok (.iaload, 1) := by decide +kernel
theorem dX1_sample_87 : decode cX1_sample 87 = .ok (.if_icmp .ge 9, 3) := by decide +kernel
theorem dX1_sample_90 : decode cX1_sample 90 = .ok (.iinc 10 1, 3) := by decide +kernel
theorem dX1_sample_93 : decode cX1_sample 93 = .ok (.goto (-27), 3) := by decide +kernel
theorem dX1_sample_96 : decode cX1_sample 96 = .ok (.iload 10, 2) := by decide +kernel
theorem dX1_sample_98 : decode cX1_sample 98 = .ok (.iload 8, 2) := by decide +kernel
theorem dX1_sample_100 : decode cX1_sample 100 = .ok (.if_icmp .eq 20, 3) := by decide +kernel
theorem dX1_sample_103 : decode cX1_sample 103 = .ok (.aload_n 0, 1) := by decide +kernel
theorem dX1_sample_104 : decode cX1_sample 104 = .ok (.getfield 91, 3) := by decide +kernel
theorem dX1_sample_107 : decode cX1_sample 107 = .ok (.iload 10, 2) := by decide +kernel
theorem dX1_sample_109 : decode cX1_sample 109 = .ok (.iaload, 1) := by decide +kernel
theorem dX1_sample_110 : decode cX1_sample 110 = .ok (.aload_n 0, 1) := by decide +kernel
theorem dX1_sample_111 : decode cX1_sample 111 = .ok (.getfield 88, 3) := by decide +kernel
theorem dX1_sample_114 : decode cX1_sample 114 = .ok (.iload 9, 2) := by decide +kernel
theorem dX1_sample_116 : decode cX1_sample 116 = .ok (.iaload, 1) := by decide +kernel
theorem dX1_sample_117 : decode cX1_sample 117 = .ok (.if_icmp .eq 77, 3) := by decide +kernel
theorem dX1_sample_120 : decode cX1_sample 120 = .ok (.iload 8, 2) := by decide +kernel
theorem dX1_sample_122 : decode cX1_sample 122 = .ok (.istore 11, 2) := by decide +kernel
theorem dX1_sample_124 : decode cX1_sample 124 = .ok (.iload 11, 2) := by decide +kernel
theorem dX1_sample_126 : decode cX1_sample 126 = .ok (.iload 10, 2) := by decide +kernel
theorem dX1_sample_128 : decode cX1_sample 128 = .ok (.if_icmp .le 41, 3) := by decide +kernel
theorem dX1_sample_131 : decode cX1_sample 131 = .ok (.aload_n 0, 1) := by decide +kernel
theorem dX1_sample_132 : decode cX1_sample 132 = .ok (.getfield 91, 3) := by decide +kernel
theorem dX1_sample_135 : decode cX1_sample 135 = .ok (.iload 11, 2) := by decide +kernel
theorem dX1_sample_137 : decode cX1_sample 137 = .ok (.aload_n 0, 1) := by decide +kernel
theorem dX1_sample_138 : decode cX1_sample 138 = .ok (.getfield 91, 3) := by decide +kernel
theorem dX1_sample_141 : decode cX1_sample 141 = .ok (.iload 11, 2) := by decide +kernel
theorem dX1_sample_143 : decode cX1_sample 143 = .ok (.iconst 1, 1) := by decide +kernel
theorem dX1_sample_144 : decode cX1_sample 144 = .ok (.isub, 1) := by decide +kernel
theorem dX1_sample_145 : decode cX1_sample 145 = .ok (.iaload, 1) := by decide +kernel
theorem dX1_sample_146 : decode cX1_sample 146 = .ok (.iastore, 1) := by decide +kernel
theorem dX1_sample_147 : decode cX1_sample 147 = .ok (.aload_n 0, 1) := by decide +kernel
theorem dX1_sample_148 : decode cX1_sample 148 = .ok (.getfield 94, 3) := by decide +kernel
theorem dX1_sample_151 : decode cX1_sample 151 = .ok (.iload 11, 2) := by decide +kernel
theorem dX1_sample_153 : decode cX1_sample 153 = .ok (.aload_n 0, 1) := by decide +kernel
theorem dX1_sample_154 : decode cX1_sample 154 = .ok (.getfield 94, 3) := by decide +kernel
theorem dX1_sample_157 : decode cX1_sample 157 = .ok (.iload 11, 2) := by decide +kernel
theorem dX1_sample_159 : decode cX1_sample 159 = .ok (.iconst 1, 1) := by decide +kernel
theorem dX1_sample_160 : decode cX1_sample 160 = .ok (.isub, 1) := by decide +kernel
theorem dX1_sample_161 : decode cX1_sample 161 = .ok (.iaload, 1) := by decide +kernel
theorem dX1_sample_162 : decode cX1_sample 162 = .ok (.iastore, 1) := by decide +kernel
theorem dX1_sample_163 : decode cX1_sample 163 = .ok (.iinc 11 (-1), 3) := by decide +kernel
theorem dX1_sample_166 : decode cX1_sample 166 = .ok (.goto (-42), 3) := by decide +kernel
theorem dX1_sample_169 : decode cX1_sample 169 = .ok (.aload_n 0, 1) := by decide +kernel
theorem dX1_sample_170 : decode cX1_sample 170 = .ok (.getfield 91, 3) := by decide +kernel
theorem dX1_sample_173 : decode cX1_sample 173 = .ok (.iload 10, 2) := by decide +kernel
theorem dX1_sample_175 : decode cX1_sample 175 = .ok (.aload_n 0, 1) := by decide +kernel
theorem dX1_sample_176 : decode cX1_sample 176 = .ok (.getfield 88, 3) := by decide +kernel
theorem dX1_sample_179 : decode cX1_sample 179 = .ok (.iload 9, 2) := by decide +kernel
theorem dX1_sample_181 : decode cX1_sample 181 = .ok (.iaload, 1) := by decide +kernel
theorem dX1_sample_182 : decode cX1_sample 182 = .ok (.iastore, 1) := by decide +kernel
theorem dX1_sample_183 : decode cX1_sample 183 = .ok (.aload_n 0, 1) := by decide +kernel
theorem dX1_sample_184 : decode cX1_sample 184 = .ok (.getfield 94, 3) := by decide +kernel
theorem dX1_sample_187 : decode cX1_sample 187 = .ok (.iload 10, 2) := by decide +kernel
theorem dX1_sample_189 : decode cX1_sample 189 = .ok (.iconst 0, 1) := by decide +kernel
theorem dX1_sample_190 : decode cX1_sample 190 = .ok (.iastore, 1) := by decide +kernel
theorem dX1_sample_191 : decode cX1_sample 191 = .ok (.iinc 8 1, 3) := by decide +kernel
theorem dX1_sample_194 : decode cX1_sample 194 = .ok (.aload_n 0, 1) := by decide +kernel
theorem dX1_sample_195 : decode cX1_sample 195 = .ok (.getfield 94, 3) := by decide +kernel
theorem dX1_sample_198 : decode cX1_sample 198 = .ok (.iload 10, 2) := by decide +kernel
theorem dX1_sample_200 : decode cX1_sample 200 = .ok (.dup2, 1) := by decide +kernel
theorem dX1_sample_201 : decode cX1_sample 201 = .ok (.iaload, 1) := by decide +kernel
theorem dX1_sample_202 : decode cX1_sample 202 = .ok (.iconst 1, 1) := by decide +kernel
theorem dX1_sample_203 : decode cX1_sample 203 = .ok (.iadd, 1) := by decide +kernel
theorem dX1_sample_204 : decode cX1_sample 204 = .ok (.iastore, 1) := by decide +kernel
theorem dX1_sample_205 : decode cX1_sample 205 = .ok (.iinc 9 1, 3) := by decide +kernel
theorem dX1_sample_208 : decode cX1_sample 208 = .ok (.goto (-152), 3) := by decide +kernel
theorem dX1_sample_211 : decode cX1_sample 211 = .ok (.aload_n 0, 1) := by decide +kernel
theorem dX1_sample_212 : decode cX1_sample 212 = .ok (.iload 8, 2) := by decide +kernel
theorem dX1_sample_214 : decode cX1_sample 214 = .ok (.iload 5, 2) := by decide +kernel
theorem dX1_sample_216 : decode cX1_sample 216 = .ok (.iload 7, 2) := by decide +kernel
theorem dX1_sample_218 : decode cX1_sample 218 = .ok (.invokevirtual 457, 3) := by decide +kernel
theorem dX1_sample_221 : decode cX1_sample 221 = .ok (.new 79, 3) := by decide +kernel
theorem dX1_sample_224 : decode cX1_sample 224 = .ok (.dup, 1) := by decide +kernel
theorem dX1_sample_225 : decode cX1_sample 225 = .ok (.invokespecial 461, 3) := by decide +kernel
theorem dX1_sample_228 : decode cX1_sample 228 = .ok (.astore 9, 2) := by decide +kernel
theorem dX1_sample_230 : decode cX1_sample 230 = .ok (.iconst 0, 1) := by decide +kernel
theorem dX1_sample_231 : decode cX1_sample 231 = .ok (.istore 10, 2) := by decide +kernel
theorem dX1_sample_233 : decode cX1_sample 233 = .ok (.iload 10, 2) := by decide +kernel
theorem dX1_sample_235 : decode cX1_sample 235 = .ok (.bipush 100, 2) := by decide +kernel
theorem dX1_sample_237 : decode cX1_sample 237 = .ok (.if_icmp .ge 18, 3) := by decide +kernel
theorem dX1_sample_240 : decode cX1_sample 240 = .ok (.aload 9, 2) := by decide +kernel
theorem dX1_sample_242 : decode cX1_sample 242 = .ok (.getfield 462, 3) := by decide +kernel
theorem dX1_sample_245 : decode cX1_sample 245 = .ok (.iload 10, 2) := by decide +kernel
theorem dX1_sample_247 : decode cX1_sample 247 = .ok (.iconst 1, 1) := by decide +kernel
theorem dX1_sample_248 : decode cX1_sample 248 = .ok (.iastore, 1) := by decide +kernel
theorem dX1_sample_249 : decode cX1_sample 249 = .ok (.iinc 10 1, 3) := by decide +kernel
theorem dX1_sample_252 : decode cX1_sample 252 = .ok (.goto (-19), 3) := by decide +kernel
theorem dX1_sample_255 : decode cX1_sample 255 = .ok (.iconst 0, 1) := by decide +kernel
theorem dX1_sample_256 : decode cX1_sample 256 = .ok (.istore 10, 2) := by decide +kernel
theorem dX1_sample_258 : decode cX1_sample 258 = .ok (.iload 10, 2) := by decide +kernel
theorem dX1_sample_260 : decode cX1_sample 260 = .ok (.iload 8, 2) := by decide +kernel
theorem dX1_sample_262 : decode cX1_sample 262 = .ok (.if_icmp .ge 21, 3) := by decide +kernel
theorem dX1_sample_265 : decode cX1_sample 265 = .ok (.aload_n 0, 1) := by decide +kernel
theorem dX1_sample_266 : decode cX1_sample 266 = .ok (.aload 9, 2) := by decide +kernel
theorem dX1_sample_268 : decode cX1_sample 268 = .ok (.iload 10, 2) := by decide +kernel
theorem dX1_sample_270 : decode cX1_sample 270 = .ok (.iload 7, 2) := by decide +kernel
theorem dX1_sample_272 : decode cX1_sample 272 = .ok (.iload 6, 2) := by decide +kernel
theorem dX1_sample_274 : decode cX1_sample 274 = .ok (.invokevirtual 465, 3) := by decide +kernel
theorem dX1_sample_277 : decode cX1_sample 277 = .ok (.iinc 10 1, 3) := by decide +kernel
theorem dX1_sample_280 : decode cX1_sample 280 = .ok (.goto (-22), 3) := by decide +kernel
theorem dX1_sample_283 : decode cX1_sample 283 = .ok (.aload_n 0, 1) := by decide +kernel
theorem dX1_sample_284 : decode cX1_sample 284 = .ok (.getfield 81, 3) := by decide +kernel
theorem dX1_sample_287 : decode cX1_sample 287 = .ok (.aload_n 0, 1) := by decide +kernel
theorem dX1_sample_288 : decode cX1_sample 288 = .ok (.getfield 454, 3) := by decide +kernel
theorem dX1_sample_291 : decode cX1_sample 291 = .ok (.aload 9, 2) := by decide +kernel
theorem dX1_sample_293 : decode cX1_sample 293 = .ok (.aastore, 1) := by decide +kernel
theorem dX1_sample_294 : decode cX1_sample 294 = .ok (.aload_n 0, 1) := by decide +kernel
theorem dX1_sample_295 : decode cX1_sample 295 = .ok (.dup, 1) := by decide +kernel
theorem dX1_sample_296 : decode cX1_sample 296 = .ok (.getfield 454, 3) := by decide +kernel
theorem dX1_sample_299 : decode cX1_sample 299 = .ok (.dup_x1, 1) := by decide +kernel
theorem dX1_sample_300 : decode cX1_sample 300 = .ok (.iconst 1, 1) := by decide +kernel
theorem dX1_sample_301 : decode cX1_sample 301 = .ok (.iadd, 1) := by decide +kernel
theorem dX1_sample_302 : decode cX1_sample 302 = .ok (.putfield 454, 3) := by decide +kernel
theorem dX1_sample_305 : decode cX1_sample 305 = .ok (.ireturn, 1) := by decide +kernel
theorem dX1_lookAtFrame_0 : decode cX1_lookAtFrame 0 = .ok (.iconst 0, 1) := by decide +kernel
theorem dX1_lookAtFrame_1 : decode cX1_lookAtFrame 1 = .ok (.istore 5, 2) := by decide +kernel
theorem dX1_lookAtFrame_3 : decode cX1_lookAtFrame 3 = .ok (.iconst 0, 1) := by decide +kernel
theorem dX1_lookAtFrame_4 : decode cX1_lookAtFrame 4 = .ok (.istore 6, 2) := by decide +kernel
theorem dX1_lookAtFrame_6 : decode cX1_lookAtFrame 6 = .ok (.iload 6, 2) := by decide +kernel
theorem dX1_lookAtFrame_8 : decode cX1_lookAtFrame 8 = .ok (.aload_n 0, 1) := by decide +kernel
theorem dX1_lookAtFrame_9 : decode cX1_lookAtFrame 9 = .ok (.getfield 168, 3) := by decide +kernel
theorem dX1_lookAtFrame_12 : decode cX1_lookAtFrame 12 = .ok (.if_icmp .ge 108, 3) := by decide +kernel
theorem dX1_lookAtFrame_15 : decode cX1_lookAtFrame 15 = .ok (.aload_n 0, 1) := by decide +kernel
theorem dX1_lookAtFrame_16 : decode cX1_lookAtFrame 16 = .ok (.getfield 11, 3) := by decide +kernel
theorem dX1_lookAtFrame_19 : decode cX1_lookAtFrame 19 = .ok (.iload 6, 2) := by decide +kernel
theorem dX1_lookAtFrame_21 : decode cX1_lookAtFrame 21 = .ok (.iaload, 1) := by decide +kernel
theorem dX1_lookAtFrame_22 : decode cX1_lookAtFrame 22 = .ok (.iconst (-1), 1) := by decide +kernel
theorem dX1_lookAtFrame_23 : decode cX1_lookAtFrame 23 = .ok (.if_icmp .eq 6, 3) := by decide +kernel
theorem dX1_lookAtFrame_26 : decode cX1_lookAtFrame 26 = .ok (.goto 88, 3) := by decide +kernel
theorem dX1_lookAtFrame_29 : decode cX1_lookAtFrame 29 = .ok (.aload_n 0, 1) := by decide +kernel
theorem dX1_lookAtFrame_30 : decode cX1_lookAtFrame 30 = .ok (.iload 6, 2) := by decide +kernel
theorem dX1_lookAtFrame_32 : decode cX1_lookAtFrame 32 = .ok (.iload_n 1, 1) := by decide +kernel
theorem dX1_lookAtFrame_33 : decode cX1_lookAtFrame 33 = .ok (.aload_n 0, 1) := by decide +kernel
theorem dX1_lookAtFrame_34 : decode cX1_lookAtFrame 34 = .ok (.invokevirtual 196, 3) := by decide +kernel
theorem dX1_lookAtFrame_37 : decode cX1_lookAtFrame 37 = .ok (.aload_n 0, 1) := by decide +kernel
theorem dX1_lookAtFrame_38 : decode cX1_lookAtFrame 38 = .ok (.invokevirtual 196, 3) := by decide +kernel
theorem dX1_lookAtFrame_41 : decode cX1_lookAtFrame 41 = .ok (.invokevirtual 211, 3) := by decide +kernel
theorem dX1_lookAtFrame_44 : decode cX1_lookAtFrame 44 = .ok (.istore 7, 2) := by decide +kernel
theorem dX1_lookAtFrame_46 : decode cX1_lookAtFrame 46 = .ok (.aload_n 0, 1) := by decide +kernel
theorem dX1_lookAtFrame_47 : decode cX1_lookAtFrame 47 = .ok (.iload 6, 2) := by decide +kernel
theorem dX1_lookAtFrame_49 : decode cX1_lookAtFrame 49 = .ok (.iload 4, 2) := by decide +kernel
theorem dX1_lookAtFrame_51 : decode cX1_lookAtFrame 51 = .ok (.aload_n 0, 1) := by decide +kernel
theorem dX1_lookAtFrame_52 : decode cX1_lookAtFrame 52 = .ok (.invokevirtual 196, 3) := by decide +kernel
theorem dX1_lookAtFrame_55 : decode cX1_lookAtFrame 55 = .ok (.aload_n 0, 1) := by decide +kernel
theorem dX1_lookAtFrame_56 : decode cX1_lookAtFrame 56 = .ok (.invokevirtual 196, 3) := by decide +kernel
theorem dX1_lookAtFrame_59 : decode cX1_lookAtFrame 59 = .ok (.invokevirtual 211, 3) := by decide +kernel
theorem dX1_lookAtFrame_62 : decode cX1_lookAtFrame 62 = .ok (.istore 8, 2) := by decide +kernel
theorem dX1_lookAtFrame_64 : decode cX1_lookAtFrame 64 = .ok (.iload 7, 2) := by decide +kernel
theorem dX1_lookAtFrame_66 : decode cX1_lookAtFrame 66 = .ok (.ldc 210, 2) := by decide +kernel
theorem dX1_lookAtFrame_68 : decode cX1_lookAtFrame 68 = .ok (.if_icmp .eq 46, 3) := by decide +kernel
theorem dX1_lookAtFrame_71 : decode cX1_lookAtFrame 71 = .ok (.iload 7, 2) := by decide +kernel
theorem dX1_lookAtFrame_73 : decode cX1_lookAtFrame 73 = .ok (.iload_n 2, 1) := by decide +kernel
theorem dX1_lookAtFrame_74 : decode cX1_lookAtFrame 74 = .ok (.if_icmp .lt 40, 3) := by decide +kernel
theorem dX1_lookAtFrame_77 : decode cX1_lookAtFrame 77 = .ok (.iload 7, 2) := by decide +kernel
theorem dX1_lookAtFrame_79 : decode cX1_lookAtFrame 79 = .ok (.iload_n 3, 1) := by decide +kernel
theorem dX1_lookAtFrame_80 : decode cX1_lookAtFrame 80 = .ok (.if_icmp .gt 34, 3) := by decide +kernel
theorem dX1_lookAtFrame_83 : decode cX1_lookAtFrame 83 = .ok (.iload 8, 2) := by decide +kernel
theorem dX1_lookAtFrame_85 : decode cX1_lookAtFrame 85 = .ok (.ldc 210, 2) := by decide +kernel
theorem dX1_lookAtFrame_87 : decode cX1_lookAtFrame 87 = .ok (.if_icmp .ne 6, 3) := by decide +kernel
theorem dX1_lookAtFrame_90 : decode cX1_lookAtFrame 90 = .ok (.goto 24, 3) := by decide +kernel
theorem dX1_lookAtFrame_93 : decode cX1_lookAtFrame 93 = .ok (.aload_n 0, 1) := by decide +kernel
theorem dX1_lookAtFrame_94 : decode cX1_lookAtFrame 94 = .ok (.getfield 85, 3) := by decide +kernel
theorem dX1_lookAtFrame_97 : decode cX1_lookAtFrame 97 = .ok (.iload 5, 2) := by decide +kernel
theorem dX1_lookAtFrame_99 : decode cX1_lookAtFrame 99 = .ok (.iload 6, 2) := by decide +kernel
theorem dX1_lookAtFrame_101 : decode cX1_lookAtFrame 101 = .ok (.iastore, 1) := by decide +kernel
theorem dX1_lookAtFrame_102 : decode cX1_lookAtFrame 102 = .ok (.aload_n 0, 1) := by decide +kernel
theorem dX1_lookAtFrame_103 : decode cX1_lookAtFrame 103 = .ok (.getfield 88, 3) := by decide +kernel
theorem dX1_lookAtFrame_106 : decode cX1_lookAtFrame 106 = .ok (.iload 5, 2) := by decide +kernel
theorem dX1_lookAtFrame_108 : decode cX1_lookAtFrame 108 = .ok (.iload 8, 2) := by decide +kernel
theorem dX1_lookAtFrame_110 : decode cX1_lookAtFrame 110 = .ok (.iastore, 1) := by decide +kernel
theorem dX1_lookAtFrame_111 : decode cX1_lookAtFrame 111 = .ok (.iinc 5 1, 3) := by decide +kernel
theorem dX1_lookAtFrame_114 : decode cX1_lookAtFrame 114 = .ok (.iinc 6 1, 3) := by decide +kernel
theorem dX1_lookAtFrame_117 : decode cX1_lookAtFrame 117 = .ok (.goto (-111), 3) := by decide +kernel
theorem dX1_lookAtFrame_120 : decode cX1_lookAtFrame 120 = .ok (.iload 5, 2) := by decide +kernel
theorem dX1_lookAtFrame_122 : decode cX1_lookAtFrame 122 = .ok (.ireturn, 1) := by decide +kernel
theorem dX1_share_0 : decode cX1_share 0 = .ok (.iload_n 2, 1) := by decide +kernel
theorem dX1_share_1 : decode cX1_share 1 = .ok (.istore 4, 2) := by decide +kernel
theorem dX1_share_3 : decode cX1_share 3 = .ok (.iconst 0, 1) := by decide +kernel
theorem dX1_share_4 : decode cX1_share 4 = .ok (.istore 5, 2) := by decide +kernel
theorem dX1_share_6 : decode cX1_share 6 = .ok (.iload 5, 2) := by decide +kernel
theorem dX1_share_8 : decode cX1_share 8 = .ok (.iload_n 1, 1) := by decide +kernel
theorem dX1_share_9 : decode cX1_share 9 = .ok (.if_icmp .ge 57, 3) := by decide +kernel
theorem dX1_share_12 : decode cX1_share 12 = .ok (.aload_n 0, 1) := by decide +kernel
theorem dX1_share_13 : decode cX1_share 13 = .ok (.getfield 97, 3) := by decide +kernel
theorem dX1_share_16 : decode cX1_share 16 = .ok (.iload 5, 2) := by decide +kernel
theorem dX1_share_18 : decode cX1_share 18 = .ok (.iload_n 2, 1) := by decide +kernel
theorem dX1_share_19 : decode cX1_share 19 = .ok (.aload_n 0, 1) := by decide +kernel
theorem dX1_share_20 : decode cX1_share 20 = .ok (.getfield 94, 3) := by decide +kernel
theorem dX1_share_23 : decode cX1_share 23 = .ok (.iload 5, 2) := by decide +kernel
theorem dX1_share_25 : decode cX1_share 25 = .ok (.iaload, 1) := by decide +kernel
theorem dX1_share_26 : decode cX1_share 26 = .ok (.imul, 1) := by decide +kernel
theorem dX1_share_27 : decode cX1_share 27 = .ok (.iload_n 3, 1) := by decide +kernel
theorem dX1_share_28 : decode cX1_share 28 = .ok (.idiv, 1) := by decide +kernel
theorem dX1_share_29 : decode cX1_share 29 = .ok (.iastore, 1) := by decide +kernel
theorem dX1_share_30 : decode cX1_share 30 = .ok (.aload_n 0, 1) := by decide +kernel
theorem dX1_share_31 : decode cX1_share 31 = .ok (.getfield 100, 3) := by decide +kernel
theorem dX1_share_34 : decode cX1_share 34 = .ok (.iload 5, 2) := by decide +kernel
theorem dX1_share_36 : decode cX1_share 36 = .ok (.iload_n 2, 1) := by decide +kernel
theorem dX1_share_37 : decode cX1_share 37 = .ok (.aload_n 0, 1) := by decide +kernel
theorem dX1_share_38 : decode cX1_share 38 = .ok (.getfield 94, 3) := by decide +kernel
theorem dX1_share_41 : decode cX1_share 41 = .ok (.iload 5, 2) := by decide +kernel
theorem dX1_share_43 : decode cX1_share 43 = .ok (.iaload, 1) := by decide +kernel
theorem dX1_share_44 : decode cX1_share 44 = .ok (.imul, 1) := by decide +kernel
theorem dX1_share_45 : decode cX1_share 45 = .ok (.iload_n 3, 1) := by decide +kernel
theorem dX1_share_46 : decode cX1_share 46 = .ok (.irem, 1) := by decide +kernel
theorem dX1_share_47 : decode cX1_share 47 = .ok (.iastore, 1) := by decide +kernel
theorem dX1_share_48 : decode cX1_share 48 = .ok (.iload 4, 2) := by decide +kernel
theorem dX1_share_50 : decode cX1_share 50 = .ok (.aload_n 0, 1) := by decide +kernel
theorem dX1_share_51 : decode cX1_share 51 = .ok (.getfield 97, 3) := by decide +kernel
theorem dX1_share_54 : decode cX1_share 54 = .ok (.iload 5, 2) := by decide +kernel
theorem dX1_share_56 : decode cX1_share 56 = .ok (.iaload, 1) := by decide +kernel
theorem dX1_share_57 : decode cX1_share 57 = .ok (.isub, 1) := by decide +kernel
theorem dX1_share_58 : decode cX1_share 58 = .ok (.istore 4, 2) := by decide +kernel
theorem dX1_share_60 : decode cX1_share 60 = .ok (.iinc 5 1, 3) := by decide +kernel
theorem dX1_share_63 : decode cX1_share 63 = .ok (.goto (-57), 3) := by decide +kernel
theorem dX1_share_66 : decode cX1_share 66 = .ok (.iload 4, 2) := by decide +kernel
theorem dX1_share_68 : decode cX1_share 68 = .ok (.ifCond .le 67, 3) := by decide +kernel
theorem dX1_share_71 : decode cX1_share 71 = .ok (.iconst 0, 1) := by decide +kernel
theorem dX1_share_72 : decode cX1_share 72 = .ok (.istore 5, 2) := by decide +kernel
theorem dX1_share_74 : decode cX1_share 74 = .ok (.iconst 1, 1) := by decide +kernel
theorem dX1_share_75 : decode cX1_share 75 = .ok (.istore 6, 2) := by decide +kernel
theorem dX1_share_77 : decode cX1_share 77 = .ok (.iload 6, 2) := by decide +kernel
theorem dX1_share_79 : decode cX1_share 79 = .ok (.iload_n 1, 1) := by decide +kernel
theorem dX1_share_80 : decode cX1_share 80 = .ok (.if_icmp .ge 30, 3) := by decide +kernel
theorem dX1_share_83 : decode cX1_share 83 = .ok (.aload_n 0, 1) := by decide +kernel
theorem dX1_share_84 : decode cX1_share 84 = .ok (.getfield 100, 3) := by decide +kernel
theorem dX1_share_87 : decode cX1_share 87 = .ok (.iload 6, 2) := by decide +kernel
theorem dX1_share_89 : decode cX1_share 89 = .ok (.iaload, 1) := by decide +kernel
theorem dX1_share_90 : decode cX1_share 90 = .ok (.aload_n 0, 1) := by decide +kernel
theorem dX1_share_91 : decode cX1_share 91 = .ok (.getfield 100, 3) := by decide +kernel
theorem dX1_share_94 : decode cX1_share 94 = .ok (.iload 5, 2) := by decide +kernel
theorem dX1_share_96 : decode cX1_share 96 = .ok (.iaload, 1) := by decide +kernel
theorem dX1_share_97 : decode cX1_share 97 = .ok (.if_icmp .le 7, 3) := by decide +kernel
theorem dX1_share_100 : decode cX1_share 100 = .ok (.iload 6, 2) := by decide +kernel
theorem dX1_share_102 : decode cX1_share 102 = .ok (.istore 5, 2) := by decide +kernel
theorem dX1_share_104 : decode cX1_share 104 = .ok (.iinc 6 1, 3) := by decide +kernel
theorem dX1_share_107 : decode cX1_share 107 = .ok (.goto (-30), 3) := by decide +kernel
theorem dX1_share_110 : decode cX1_share 110 = .ok (.aload_n 0, 1) := by decide +kernel
theorem dX1_share_111 : decode cX1_share 111 = .ok (.getfield 97, 3) := by decide +kernel
theorem dX1_share_114 : decode cX1_share 114 = .ok (.iload 5, 2) := by decide +kernel
theorem dX1_share_116 : decode cX1_share 116 = .ok (.dup2, 1) := by decide +kernel
theorem dX1_share_117 : decode cX1_share 117 = .ok (.iaload, 1) := by decide +kernel
theorem dX1_share_118 : decode cX1_share 118 = .ok (.iconst 1, 1) := by decide +kernel
theorem dX1_share_119 : decode cX1_share 119 = .ok (.iadd, 1) := by decide +kernel
theorem dX1_share_120 : decode cX1_share 120 = .ok (.iastore, 1) := by decide +kernel
theorem dX1_share_121 : decode cX1_share 121 = .ok (.aload_n 0, 1) := by decide +kernel
theorem dX1_share_122 : decode cX1_share 122 = .ok (.getfield 100, 3) := by decide +kernel
theorem dX1_share_125 : decode cX1_share 125 = .ok (.iload 5, 2) := by decide +kernel
theorem dX1_share_127 : decode cX1_share 127 = .ok (.iconst (-1), 1) := by decide +kernel
theorem dX1_share_128 : decode cX1_share 128 = .ok (.iastore, 1) := by decide +kernel
theorem dX1_share_129 : decode cX1_share 129 = .ok (.iinc 4 (-1), 3) := by decide +kernel
theorem dX1_share_132 : decode cX1_share 132 = .ok (.goto (-66), 3) := by decide +kernel
theorem dX1_share_135 : decode cX1_share 135 = .ok (.return_, 1) := by decide +kernel
theorem dX1_draw_0 : decode cX1_draw 0 = .ok (.aload_n 0, 1) := by decide +kernel
theorem dX1_draw_1 : decode cX1_draw 1 = .ok (.getfield 97, 3) := by decide +kernel
theorem dX1_draw_4 : decode cX1_draw 4 = .ok (.iload_n 2, 1) := by decide +kernel
theorem dX1_draw_5 : decode cX1_draw 5 = .ok (.iaload, 1) := by decide +kernel
theorem dX1_draw_6 : decode cX1_draw 6 = .ok (.istore 5, 2) := by decide +kernel
theorem dX1_draw_8 : decode cX1_draw 8 = .ok (.aload_n 0, 1) := by decide +kernel
theorem dX1_draw_9 : decode cX1_draw 9 = .ok (.getfield 94, 3) := by decide +kernel
theorem dX1_draw_12 : decode cX1_draw 12 = .ok (.iload_n 2, 1) := by decide +kernel
theorem dX1_draw_13 : decode cX1_draw 13 = .ok (.iaload, 1) := by decide +kernel
theorem dX1_draw_14 : decode cX1_draw 14 = .ok (.istore 6, 2) := by decide +kernel
theorem dX1_draw_16 : decode cX1_draw 16 = .ok (.iload 6, 2) := by decide +kernel
theorem dX1_draw_18 : decode cX1_draw 18 = .ok (.ifCond .le 21, 3) := by decide +kernel
theorem dX1_draw_21 : decode cX1_draw 21 = .ok (.iload 5, 2) := by decide +kernel
theorem dX1_draw_23 : decode cX1_draw 23 = .ok (.iload 6, 2) := by decide +kernel
theorem dX1_draw_25 : decode cX1_draw 25 = .ok (.irem, 1) := by decide +kernel
theorem dX1_draw_26 : decode cX1_draw 26 = .ok (.istore 7, 2) := by decide +kernel
theorem dX1_draw_28 : decode cX1_draw 28 = .ok (.iload 6, 2) := by decide +kernel
theorem dX1_draw_30 : decode cX1_draw 30 = .ok (.istore 5, 2) := by decide +kernel
theorem dX1_draw_32 : decode cX1_draw 32 = .ok (.iload 7, 2) := by decide +kernel
theorem dX1_draw_34 : decode cX1_draw 34 = .ok (.istore 6, 2) := by decide +kernel
theorem dX1_draw_36 : decode cX1_draw 36 = .ok (.goto (-20), 3) := by decide +kernel
theorem dX1_draw_39 : decode cX1_draw 39 = .ok (.iconst 0, 1) := by decide +kernel
theorem dX1_draw_40 : decode cX1_draw 40 = .ok (.istore 7, 2) := by decide +kernel
theorem dX1_draw_42 : decode cX1_draw 42 = .ok (.iload 7, 2) := by decide +kernel
theorem dX1_draw_44 : decode cX1_draw 44 = .ok (.iload_n 3, 1) := by decide +kernel
theorem dX1_draw_45 : decode cX1_draw 45 = .ok (.if_icmp .ge 70, 3) := by decide +kernel
theorem dX1_draw_48 : decode cX1_draw 48 = .ok (.aload_n 0, 1) := by decide +kernel
theorem dX1_draw_49 : decode cX1_draw 49 = .ok (.getfield 88, 3) := by decide +kernel
theorem dX1_draw_52 : decode cX1_draw 52 = .ok (.iload 7, 2) := by decide +kernel
theorem dX1_draw_54 : decode cX1_draw 54 = .ok (.iaload, 1) := by decide +kernel
theorem dX1_draw_55 : decode cX1_draw 55 = .ok (.aload_n 0, 1) := by decide +kernel
theorem dX1_draw_56 : decode cX1_draw 56 = .ok (.getfield 91, 3) := by decide +kernel
theorem dX1_draw_59 : decode cX1_draw 59 = .ok (.iload_n 2, 1) := by decide +kernel
theorem dX1_draw_60 : decode cX1_draw 60 = .ok (.iaload, 1) := by decide +kernel
theorem dX1_draw_61 : decode cX1_draw 61 = .ok (.if_icmp .eq 6, 3) := by decide +kernel
theorem dX1_draw_64 : decode cX1_draw 64 = .ok (.goto 45, 3) := by decide +kernel
theorem dX1_draw_67 : decode cX1_draw 67 = .ok (.aload_n 1, 1) := by decide +kernel
theorem dX1_draw_68 : decode cX1_draw 68 = .ok (.getfield 469, 3) := by decide +kernel
theorem dX1_draw_71 : decode cX1_draw 71 = .ok (.aload_n 0, 1) := by decide +kernel
theorem dX1_draw_72 : decode cX1_draw 72 = .ok (.getfield 85, 3) := by decide +kernel
theorem dX1_draw_75 : decode cX1_draw 75 = .ok (.iload 7, 2) := by decide +kernel
theorem dX1_draw_77 : decode cX1_draw 77 = .ok (.iaload, 1) := by decide +kernel
theorem dX1_draw_78 : decode cX1_draw 78 = .ok (.aload_n 0, 1) := by decide +kernel
theorem dX1_draw_79 : decode cX1_draw 79 = .ok (.getfield 97, 3) := by decide +kernel
theorem dX1_draw_82 : decode cX1_draw 82 = .ok (.iload_n 2, 1) := by decide +kernel
theorem dX1_draw_83 : decode cX1_draw 83 = .ok (.iaload, 1) := by decide +kernel
theorem dX1_draw_84 : decode cX1_draw 84 = .ok (.iload 5, 2) := by decide +kernel
theorem dX1_draw_86 : decode cX1_draw 86 = .ok (.idiv, 1) := by decide +kernel
theorem dX1_draw_87 : decode cX1_draw 87 = .ok (.iastore, 1) := by decide +kernel
theorem dX1_draw_88 : decode cX1_draw 88 = .ok (.aload_n 1, 1) := by decide +kernel
theorem dX1_draw_89 : decode cX1_draw 89 = .ok (.getfield 462, 3) := by decide +kernel
theorem dX1_draw_92 : decode cX1_draw 92 = .ok (.aload_n 0, 1) := by decide +kernel
theorem dX1_draw_93 : decode cX1_draw 93 = .ok (.getfield 85, 3) := by decide +kernel
theorem dX1_draw_96 : decode cX1_draw 96 = .ok (.iload 7, 2) := by decide +kernel
theorem dX1_draw_98 : decode cX1_draw 98 = .ok (.iaload, 1) := by decide +kernel
theorem dX1_draw_99 : decode cX1_draw 99 = .ok (.aload_n 0, 1) := by decide +kernel
theorem dX1_draw_100 : decode cX1_draw 100 = .ok (.getfield 94, 3) := by decide +kernel
theorem dX1_draw_103 : decode cX1_draw 103 = .ok (.iload_n 2, 1) := by decide +kernel
theorem dX1_draw_104 : decode cX1_draw 104 = .ok (.iaload, 1) := by decide +kernel
theorem dX1_draw_105 : decode cX1_draw 105 = .ok (.iload 5, 2) := by decide +kernel
theorem dX1_draw_107 : decode cX1_draw 107 = .ok (.idiv, 1) := by decide +kernel
theorem dX1_draw_108 : decode cX1_draw 108 = .ok (.iastore, 1) := by decide +kernel
theorem dX1_draw_109 : decode cX1_draw 109 = .ok (.iinc 7 1, 3) := by decide +kernel
theorem dX1_draw_112 : decode cX1_draw 112 = .ok (.goto (-70), 3) := by decide +kernel
theorem dX1_draw_115 : decode cX1_draw 115 = .ok (.iconst 0, 1) := by decide +kernel
theorem dX1_draw_116 : decode cX1_draw 116 = .ok (.istore 7, 2) := by decide +kernel
theorem dX1_draw_118 : decode cX1_draw 118 = .ok (.iload 7, 2) := by decide +kernel
theorem dX1_draw_120 : decode cX1_draw 120 = .ok (.aload_n 0, 1) := by decide +kernel
theorem dX1_draw_121 : decode cX1_draw 121 = .ok (.getfield 97, 3) := by decide +kernel
theorem dX1_draw_124 : decode cX1_draw 124 = .ok (.iload_n 2, 1) := by decide +kernel
theorem dX1_draw_125 : decode cX1_draw 125 = .ok (.iaload, 1) := by decide +kernel
theorem dX1_draw_126 : decode cX1_draw 126 = .ok (.if_icmp .ge 111, 3) := by decide +kernel
theorem dX1_draw_129 : decode cX1_draw 129 = .ok (.iconst (-1), 1) := by decide +kernel
theorem dX1_draw_130 : decode cX1_draw 130 = .ok (.istore 8, 2) := by decide +kernel
theorem dX1_draw_132 : decode cX1_draw 132 = .ok (.iconst 0, 1) := by decide +kernel
theorem dX1_draw_133 : decode cX1_draw 133 = .ok (.istore 9, 2) := by decide +kernel
theorem dX1_draw_135 : decode cX1_draw 135 = .ok (.iload 9, 2) := by decide +kernel
theorem dX1_draw_137 : decode cX1_draw 137 = .ok (.iload_n 3, 1) := by decide +kernel
theorem dX1_draw_138 : decode cX1_draw 138 = .ok (.if_icmp .ge 80, 3) := by decide +kernel
theorem dX1_draw_141 : decode cX1_draw 141 = .ok (.aload_n 0, 1) := by decide +kernel
theorem dX1_draw_142 : decode cX1_draw 142 = .ok (.getfield 88, 3) := by decide +kernel
theorem dX1_draw_145 : decode cX1_draw 145 = .ok (.iload 9, 2) := by decide +kernel
theorem dX1_draw_147 : decode cX1_draw 147 = .ok (.iaload, 1) := by decide +kernel
theorem dX1_draw_148 : decode cX1_draw 148 = .ok (.aload_n 0, 1) := by decide +kernel
theorem dX1_draw_149 : decode cX1_draw 149 = .ok (.getfield 91, 3) := by decide +kernel
theorem dX1_draw_152 : decode cX1_draw 152 = .ok (.iload_n 2, 1) := by decide +kernel
theorem dX1_draw_153 : decode cX1_draw 153 = .ok (.iaload, 1) := by decide +kernel
theorem dX1_draw_154 : decode cX1_draw 154 = .ok (.if_icmp .ne 58, 3) := by decide +kernel
theorem dX1_draw_157 : decode cX1_draw 157 = .ok (.aload_n 1, 1) := by decide +kernel
theorem dX1_draw_158 : decode cX1_draw 158 = .ok (.getfield 472, 3) := by decide +kernel
theorem dX1_draw_161 : decode cX1_draw 161 = .ok (.aload_n 0, 1) := by decide +kernel
theorem dX1_draw_162 : decode cX1_draw 162 = .ok (.getfield 85, 3) := by decide +kernel
theorem dX1_draw_165 : decode cX1_draw 165 = .ok (.iload 9, 2) := by decide +kernel
theorem dX1_draw_167 : decode cX1_draw 167 = .ok (.iaload, 1) := by decide +kernel
theorem dX1_draw_168 : decode cX1_draw 168 = .ok (.baload, 1) := by decide +kernel
theorem dX1_draw_169 : decode cX1_draw 169 = .ok (.ifCond .eq 6, 3) := by decide +kernel
theorem dX1_draw_172 : decode cX1_draw 172 = .ok (.goto 40, 3) := by decide +kernel
theorem dX1_draw_175 : decode cX1_draw 175 = .ok (.iload 8, 2) := by decide +kernel
theorem dX1_draw_177 : decode cX1_draw 177 = .ok (.iconst (-1), 1) := by decide +kernel
theorem dX1_draw_178 : decode cX1_draw 178 = .ok (.if_icmp .eq 30, 3) := by decide +kernel
theorem dX1_draw_181 : decode cX1_draw 181 = .ok (.iload 4, 2) := by decide +kernel
theorem dX1_draw_183 : decode cX1_draw 183 = .ok (.aload_n 0, 1) := by decide +kernel
theorem dX1_draw_184 : decode cX1_draw 184 = .ok (.getfield 85, 3) := by decide +kernel
theorem dX1_draw_187 : decode cX1_draw 187 = .ok (.iload 9, 2) := by decide +kernel
theorem dX1_draw_189 : decode cX1_draw 189 = .ok (.iaload, 1) := by decide +kernel
theorem dX1_draw_190 : decode cX1_draw 190 = .ok (.invokestatic 475, 3) := by decide +kernel
theorem dX1_draw_193 : decode cX1_draw 193 = .ok (.iload 4, 2) := by decide +kernel
theorem dX1_draw_195 : decode cX1_draw 195 = .ok (.aload_n 0, 1) := by decide +kernel
theorem dX1_draw_196 : decode cX1_draw 196 = .ok (.getfield 85, 3) := by decide +kernel
theorem dX1_draw_199 : decode cX1_draw 199 = .ok (.iload 8, 2) := by decide +kernel
theorem dX1_draw_201 : decode cX1_draw 201 = .ok (.iaload, 1) := by decide +kernel
theorem dX1_draw_202 : decode cX1_draw 202 = .ok (.invokestatic 475, 3) := by decide +kernel
theorem dX1_draw_205 : decode cX1_draw 205 = .ok (.if_icmp .ge 7, 3) := by decide +kernel
theorem dX1_draw_208 : decode cX1_draw 208 = .ok (.iload 9, 2) := by decide +kernel
theorem dX1_draw_210 : decode cX1_draw 210 = .ok (.istore 8, 2) := by decide +kernel
theorem dX1_draw_212 : decode cX1_draw 212 = .ok (.iinc 9 1, 3) := by decide +kernel
theorem dX1_draw_215 : decode cX1_draw 215 = .ok (.goto (-80), 3) := by decide +kernel
theorem dX1_draw_218 : decode cX1_draw 218 = .ok (.aload_n 1, 1) := by decide +kernel
theorem dX1_draw_219 : decode cX1_draw 219 = .ok (.getfield 472, 3) := by decide +kernel
theorem dX1_draw_222 : decode cX1_draw 222 = .ok (.aload_n 0, 1) := by decide +kernel
theorem dX1_draw_223 : decode cX1_draw 223 = .ok (.getfield 85, 3) := by decide +kernel
theorem dX1_draw_226 : decode cX1_draw 226 = .ok (.iload 8, 2) := by decide +kernel
theorem dX1_draw_228 : decode cX1_draw 228 = .ok (.iaload, 1) := by decide +kernel
theorem dX1_draw_229 : decode cX1_draw 229 = .ok (.iconst 1, 1) := by decide +kernel
theorem dX1_draw_230 : decode cX1_draw 230 = .ok (.bastore, 1) := by decide +kernel
theorem dX1_draw_231 : decode cX1_draw 231 = .ok (.iinc 7 1, 3) := by decide +kernel
theorem dX1_draw_234 : decode cX1_draw 234 = .ok (.goto (-116), 3) := by decide +kernel
theorem dX1_draw_237 : decode cX1_draw 237 = .ok (.return_, 1) := by decide +kernel
theorem dX1_key_0 : decode cX1_key 0 = .ok (.iload_n 0, 1) := by decide +kernel
theorem dX1_key_1 : decode cX1_key 1 = .ok (.iload_n 1, 1) := by decide +kernel
theorem dX1_key_2 : decode cX1_key 2 = .ok (.ldc_w 448, 3) := by decide +kernel
theorem dX1_key_5 : decode cX1_key 5 = .ok (.imul, 1) := by decide +kernel
theorem dX1_key_6 : decode cX1_key 6 = .ok (.ixor, 1) := by decide +kernel
theorem dX1_key_7 : decode cX1_key 7 = .ok (.istore_n 2, 1) := by decide +kernel
theorem dX1_key_8 : decode cX1_key 8 = .ok (.iload_n 2, 1) := by decide +kernel
theorem dX1_key_9 : decode cX1_key 9 = .ok (.ldc_w 449, 3) := by decide +kernel
theorem dX1_key_12 : decode cX1_key 12 = .ok (.imul, 1) := by decide +kernel
theorem dX1_key_13 : decode cX1_key 13 = .ok (.istore_n 2, 1) := by decide +kernel
theorem dX1_key_14 : decode cX1_key 14 = .ok (.iload_n 2, 1) := by decide +kernel
theorem dX1_key_15 : decode cX1_key 15 = .ok (.iload_n 2, 1) := by decide +kernel
theorem dX1_key_16 : decode cX1_key 16 = .ok (.bipush 13, 2) := by decide +kernel
theorem dX1_key_18 : decode cX1_key 18 = .ok (.iushr, 1) := by decide +kernel
theorem dX1_key_19 : decode cX1_key 19 = .ok (.ixor, 1) := by decide +kernel
theorem dX1_key_20 : decode cX1_key 20 = .ok (.istore_n 2, 1) := by decide +kernel
theorem dX1_key_21 : decode cX1_key 21 = .ok (.iload_n 2, 1) := by decide +kernel
theorem dX1_key_22 : decode cX1_key 22 = .ok (.ldc_w 450, 3) := by decide +kernel
theorem dX1_key_25 : decode cX1_key 25 = .ok (.imul, 1) := by decide +kernel
theorem dX1_key_26 : decode cX1_key 26 = .ok (.istore_n 2, 1) := by decide +kernel
theorem dX1_key_27 : decode cX1_key 27 = .ok (.iload_n 2, 1) := by decide +kernel
theorem dX1_key_28 : decode cX1_key 28 = .ok (.iload_n 2, 1) := by decide +kernel
theorem dX1_key_29 : decode cX1_key 29 = .ok (.bipush 16, 2) := by decide +kernel
theorem dX1_key_31 : decode cX1_key 31 = .ok (.iushr, 1) := by decide +kernel
theorem dX1_key_32 : decode cX1_key 32 = .ok (.ixor, 1) := by decide +kernel
theorem dX1_key_33 : decode cX1_key 33 = .ok (.ireturn, 1) := by decide +kernel
theorem dX1_drawn_0 : decode cX1_drawn 0 = .ok (.aload_n 0, 1) := by decide +kernel
theorem dX1_drawn_1 : decode cX1_drawn 1 = .ok (.iload_n 1, 1) := by decide +kernel
theorem dX1_drawn_2 : decode cX1_drawn 2 = .ok (.invokevirtual 478, 3) := by decide +kernel
theorem dX1_drawn_5 : decode cX1_drawn 5 = .ok (.astore_n 3, 1) := by decide +kernel
theorem dX1_drawn_6 : decode cX1_drawn 6 = .ok (.iload_n 2, 1) := by decide +kernel
theorem dX1_drawn_7 : decode cX1_drawn 7 = .ok (.ifCond .lt 7, 3) := by decide +kernel
theorem dX1_drawn_10 : decode cX1_drawn 10 = .ok (.iconst 1, 1) := by decide +kernel
theorem dX1_drawn_11 : decode cX1_drawn 11 = .ok (.goto 4, 3) := by decide +kernel
theorem dX1_drawn_14 : decode cX1_drawn 14 = .ok (.iconst 0, 1) := by decide +kernel
theorem dX1_drawn_15 : decode cX1_drawn 15 = .ok (.invokestatic 171, 3) := by decide +kernel
theorem dX1_drawn_18 : decode cX1_drawn 18 = .ok (.iconst 0, 1) := by decide +kernel
theorem dX1_drawn_19 : decode cX1_drawn 19 = .ok (.istore 4, 2) := by decide +kernel
theorem dX1_drawn_21 : decode cX1_drawn 21 = .ok (.iconst 0, 1) := by decide +kernel
theorem dX1_drawn_22 : decode cX1_drawn 22 = .ok (.istore 5, 2) := by decide +kernel
theorem dX1_drawn_24 : decode cX1_drawn 24 = .ok (.iload 5, 2) := by decide +kernel
theorem dX1_drawn_26 : decode cX1_drawn 26 = .ok (.bipush 100, 2) := by decide +kernel
theorem dX1_drawn_28 : decode cX1_drawn 28 = .ok (.if_icmp .ge 34, 3) := by decide +kernel
theorem dX1_drawn_31 : decode cX1_drawn 31 = .ok (.aload_n 3, 1) := by decide +kernel
theorem dX1_drawn_32 : decode cX1_drawn 32 = .ok (.getfield 472, 3) := by decide +kernel
theorem dX1_drawn_35 : decode cX1_drawn 35 = .ok (.iload 5, 2) := by decide +kernel
theorem dX1_drawn_37 : decode cX1_drawn 37 = .ok (.baload, 1) := by decide +kernel
theorem dX1_drawn_38 : decode cX1_drawn 38 = .ok (.ifCond .ne 6, 3) := by decide +kernel
theorem dX1_drawn_41 : decode cX1_drawn 41 = .ok (.goto 15, 3) := by decide +kernel
theorem dX1_drawn_44 : decode cX1_drawn 44 = .ok (.iload 4, 2) := by decide +kernel
theorem dX1_drawn_46 : decode cX1_drawn 46 = .ok (.iload_n 2, 1) := by decide +kernel
theorem dX1_drawn_47 : decode cX1_drawn 47 = .ok (.if_icmp .ne 6, 3) := by decide +kernel
theorem dX1_drawn_50 : decode cX1_drawn 50 = .ok (.iload 5, 2) := by decide +kernel
theorem dX1_drawn_52 : decode cX1_drawn 52 = .ok (.ireturn, 1) := by decide +kernel
theorem dX1_drawn_53 : decode cX1_drawn 53 = .ok (.iinc 4 1, 3) := by decide +kernel
theorem dX1_drawn_56 : decode cX1_drawn 56 = .ok (.iinc 5 1, 3) := by decide +kernel
theorem dX1_drawn_59 : decode cX1_drawn 59 = .ok (.goto (-35), 3) := by decide +kernel
theorem dX1_drawn_62 : decode cX1_drawn 62 = .ok (.iconst (-1), 1) := by decide +kernel
theorem dX1_drawn_63 : decode cX1_drawn 63 = .ok (.ireturn, 1) := by decide +kernel
theorem dX1_sampleOf_0 : decode cX1_sampleOf 0 = .ok (.iload_n 1, 1) := by decide +kernel
theorem dX1_sampleOf_1 : decode cX1_sampleOf 1 = .ok (.i2l, 1) := by decide +kernel
theorem dX1_sampleOf_2 : decode cX1_sampleOf 2 = .ok (.lconst 0, 1) := by decide +kernel
theorem dX1_sampleOf_3 : decode cX1_sampleOf 3 = .ok (.aload_n 0, 1) := by decide +kernel
theorem dX1_sampleOf_4 : decode cX1_sampleOf 4 = .ok (.getfield 454, 3) := by decide +kernel
theorem dX1_sampleOf_7 : decode cX1_sampleOf 7 = .ok (.iconst 1, 1) := by decide +kernel
theorem dX1_sampleOf_8 : decode cX1_sampleOf 8 = .ok (.isub, 1) := by decide +kernel
theorem dX1_sampleOf_9 : decode cX1_sampleOf 9 = .ok (.i2l, 1) := by decide +kernel
theorem dX1_sampleOf_10 : decode cX1_sampleOf 10 = .ok (.invokestatic 159, 3) := by decide +kernel
theorem dX1_sampleOf_13 : decode cX1_sampleOf 13 = .ok (.invokestatic 171, 3) := by decide +kernel
theorem dX1_sampleOf_16 : decode cX1_sampleOf 16 = .ok (.aload_n 0, 1) := by decide +kernel
theorem dX1_sampleOf_17 : decode cX1_sampleOf 17 = .ok (.getfield 81, 3) := by decide +kernel
theorem dX1_sampleOf_20 : decode cX1_sampleOf 20 = .ok (.iload_n 1, 1) := by decide +kernel
theorem dX1_sampleOf_21 : decode cX1_sampleOf 21 = .ok (.aaload, 1) := by decide +kernel
theorem dX1_sampleOf_22 : decode cX1_sampleOf 22 = .ok (.areturn, 1) := by decide +kernel
theorem dX1_chance_0 : decode cX1_chance 0 = .ok (.aload_n 0, 1) := by decide +kernel
theorem dX1_chance_1 : decode cX1_chance 1 = .ok (.iload_n 1, 1) := by decide +kernel
theorem dX1_chance_2 : decode cX1_chance 2 = .ok (.invokevirtual 478, 3) := by decide +kernel
theorem dX1_chance_5 : decode cX1_chance 5 = .ok (.astore 4, 2) := by decide +kernel
theorem dX1_chance_7 : decode cX1_chance 7 = .ok (.aload_n 0, 1) := by decide +kernel
theorem dX1_chance_8 : decode cX1_chance 8 = .ok (.iload_n 2, 1) := by decide +kernel
theorem dX1_chance_9 : decode cX1_chance 9 = .ok (.invokevirtual 179, 3) := by decide +kernel
theorem dX1_chance_12 : decode cX1_chance 12 = .ok (.iload_n 3, 1) := by decide +kernel
theorem dX1_chance_13 : decode cX1_chance 13 = .ok (.ifCond .eq 13, 3) := by decide +kernel
theorem dX1_chance_16 : decode cX1_chance 16 = .ok (.aload 4, 2) := by decide +kernel
theorem dX1_chance_18 : decode cX1_chance 18 = .ok (.getfield 462, 3) := by decide +kernel
theorem dX1_chance_21 : decode cX1_chance 21 = .ok (.iload_n 2, 1) := by decide +kernel
theorem dX1_chance_22 : decode cX1_chance 22 = .ok (.iaload, 1) := by decide +kernel
theorem dX1_chance_23 : decode cX1_chance 23 = .ok (.goto 10, 3) := by decide +kernel
theorem dX1_chance_26 : decode cX1_chance 26 = .ok (.aload 4, 2) := by decide +kernel
theorem dX1_chance_28 : decode cX1_chance 28 = .ok (.getfield 469, 3) := by decide +kernel
theorem dX1_chance_31 : decode cX1_chance 31 = .ok (.iload_n 2, 1) := by decide +kernel
theorem dX1_chance_32 : decode cX1_chance 32 = .ok (.iaload, 1) := by decide +kernel
theorem dX1_chance_33 : decode cX1_chance 33 = .ok (.ireturn, 1) := by decide +kernel
theorem dX1_overlap_0 : decode cX1_overlap 0 = .ok (.aload_n 0, 1) := by decide +kernel
theorem dX1_overlap_1 : decode cX1_overlap 1 = .ok (.iload_n 1, 1) := by decide +kernel
theorem dX1_overlap_2 : decode cX1_overlap 2 = .ok (.invokevirtual 478, 3) := by decide +kernel
theorem dX1_overlap_5 : decode cX1_overlap 5 = .ok (.astore_n 3, 1) := by decide +kernel
theorem dX1_overlap_6 : decode cX1_overlap 6 = .ok (.aload_n 0, 1) := by decide +kernel
theorem dX1_overlap_7 : decode cX1_overlap 7 = .ok (.iload_n 2, 1) := by decide +kernel
theorem dX1_overlap_8 : decode cX1_overlap 8 = .ok (.invokevirtual 478, 3) := by decide +kernel
theorem dX1_overlap_11 : decode cX1_overlap 11 = .ok (.astore 4, 2) := by decide +kernel
theorem dX1_overlap_13 : decode cX1_overlap 13 = .ok (.iconst 0, 1) := by decide +kernel
theorem dX1_overlap_14 : decode cX1_overlap 14 = .ok (.istore 5, 2) := by decide +kernel
theorem dX1_overlap_16 : decode cX1_overlap 16 = .ok (.iconst 0, 1) := by decide +kernel
theorem dX1_overlap_17 : decode cX1_overlap 17 = .ok (.istore 6, 2) := by decide +kernel
theorem dX1_overlap_19 : decode cX1_overlap 19 = .ok (.iload 6, 2) := by decide +kernel
theorem dX1_overlap_21 : decode cX1_overlap 21 = .ok (.bipush 100, 2) := by decide +kernel
theorem dX1_overlap_23 : decode cX1_overlap 23 = .ok (.if_icmp .ge 40, 3) := by decide +kernel
theorem dX1_overlap_26 : decode cX1_overlap 26 = .ok (.iload 5, 2) := by decide +kernel
theorem dX1_overlap_28 : decode cX1_overlap 28 = .ok (.aload_n 3, 1) := by decide +kernel
theorem dX1_overlap_29 : decode cX1_overlap 29 = .ok (.getfield 472, 3) := by decide +kernel
theorem dX1_overlap_32 : decode cX1_overlap 32 = .ok (.iload 6, 2) := by decide +kernel
theorem dX1_overlap_34 : decode cX1_overlap 34 = .ok (.baload, 1) := by decide +kernel
theorem dX1_overlap_35 : decode cX1_overlap 35 = .ok (.ifCond .eq 18, 3) := by decide +kernel
theorem dX1_overlap_38 : decode cX1_overlap 38 = .ok (.aload 4, 2) := by decide +kernel
theorem dX1_overlap_40 : decode cX1_overlap 40 = .ok (.getfield 472, 3) := by decide +kernel
theorem dX1_overlap_43 : decode cX1_overlap 43 = .ok (.iload 6, 2) := by decide +kernel
theorem dX1_overlap_45 : decode cX1_overlap 45 = .ok (.baload, 1) := by decide +kernel
theorem dX1_overlap_46 : decode cX1_overlap 46 = .ok (.ifCond .eq 7, 3) := by decide +kernel
theorem dX1_overlap_49 : decode cX1_overlap 49 = .ok (.iconst 1, 1) := by decide +kernel
theorem dX1_overlap_50 : decode cX1_overlap 50 = .ok (.goto 4, 3) := by decide +kernel
theorem dX1_overlap_53 : decode cX1_overlap 53 = .ok (.iconst 0, 1) := by decide +kernel
theorem dX1_overlap_54 : decode cX1_overlap 54 = .ok (.iadd, 1) := by decide +kernel
theorem dX1_overlap_55 : decode cX1_overlap 55 = .ok (.istore 5, 2) := by decide +kernel
theorem dX1_overlap_57 : decode cX1_overlap 57 = .ok (.iinc 6 1, 3) := by decide +kernel
theorem dX1_overlap_60 : decode cX1_overlap 60 = .ok (.goto (-41), 3) := by decide +kernel
theorem dX1_overlap_63 : decode cX1_overlap 63 = .ok (.iload 5, 2) := by decide +kernel
theorem dX1_overlap_65 : decode cX1_overlap 65 = .ok (.ireturn, 1) := by decide +kernel
theorem dX1_table_0 : decode cX1_table 0 = .ok (.aload_n 0, 1) := by decide +kernel
theorem dX1_table_1 : decode cX1_table 1 = .ok (.iload_n 1, 1) := by decide +kernel
theorem dX1_table_2 : decode cX1_table 2 = .ok (.invokevirtual 235, 3) := by decide +kernel
theorem dX1_table_5 : decode cX1_table 5 = .ok (.astore 6, 2) := by decide +kernel
theorem dX1_table_7 : decode cX1_table 7 = .ok (.aload 6, 2) := by decide +kernel
theorem dX1_table_9 : decode cX1_table 9 = .ok (.iload_n 2, 1) := by decide +kernel
theorem dX1_table_10 : decode cX1_table 10 = .ok (.invokestatic 239, 3) := by decide +kernel
theorem dX1_table_13 : decode cX1_table 13 = .ok (.aload 6, 2) := by decide +kernel
theorem dX1_table_15 : decode cX1_table 15 = .ok (.iload_n 3, 1) := by decide +kernel
theorem dX1_table_16 : decode cX1_table 16 = .ok (.invokestatic 239, 3) := by decide +kernel
theorem dX1_table_19 : decode cX1_table 19 = .ok (.iload 4, 2) := by decide +kernel
theorem dX1_table_21 : decode cX1_table 21 = .ok (.i2l, 1) := by decide +kernel
theorem dX1_table_22 : decode cX1_table 22 = .ok (.ldc2_w 378, 3) := by decide +kernel
theorem dX1_table_25 : decode cX1_table 25 = .ok (.aload 6, 2) := by decide +kernel
theorem dX1_table_27 : decode cX1_table 27 = .ok (.getfield 232, 3) := by decide +kernel
theorem dX1_table_30 : decode cX1_table 30 = .ok (.iconst 1, 1) := by decide +kernel
theorem dX1_table_31 : decode cX1_table 31 = .ok (.isub, 1) := by decide +kernel
theorem dX1_table_32 : decode cX1_table 32 = .ok (.i2l, 1) := by decide +kernel
theorem dX1_table_33 : decode cX1_table 33 = .ok (.invokestatic 159, 3) := by decide +kernel
theorem dX1_table_36 : decode cX1_table 36 = .ok (.ifCond .eq 26, 3) := by decide +kernel
theorem dX1_table_39 : decode cX1_table 39 = .ok (.iload 5, 2) := by decide +kernel
theorem dX1_table_41 : decode cX1_table 41 = .ok (.i2l, 1) := by decide +kernel
theorem dX1_table_42 : decode cX1_table 42 = .ok (.ldc2_w 378, 3) := by decide +kernel
theorem dX1_table_45 : decode cX1_table 45 = .ok (.aload_n 0, 1) := by decide +kernel
theorem dX1_table_46 : decode cX1_table 46 = .ok (.getfield 454, 3) := by decide +kernel
theorem dX1_table_49 : decode cX1_table 49 = .ok (.iconst 1, 1) := by decide +kernel
theorem dX1_table_50 : decode cX1_table 50 = .ok (.isub, 1) := by decide +kernel
theorem dX1_table_51 : decode cX1_table 51 = .ok (.i2l, 1) := by decide +kernel
theorem dX1_table_52 : decode cX1_table 52 = .ok (.invokestatic 159, 3) := by decide +kernel
theorem dX1_table_55 : decode cX1_table 55 = .ok (.ifCond .eq 7, 3) := by decide +kernel
theorem dX1_table_58 : decode cX1_table 58 = .ok (.iconst 1, 1) := by decide +kernel
theorem dX1_table_59 : decode cX1_table 59 = .ok (.goto 4, 3) := by decide +kernel
theorem dX1_table_62 : decode cX1_table 62 = .ok (.iconst 0, 1) := by decide +kernel
theorem dX1_table_63 : decode cX1_table 63 = .ok (.invokestatic 171, 3) := by decide +kernel
theorem dX1_table_66 : decode cX1_table 66 = .ok (.aload 6, 2) := by decide +kernel
theorem dX1_table_68 : decode cX1_table 68 = .ok (.iload_n 2, 1) := by decide +kernel
theorem dX1_table_69 : decode cX1_table 69 = .ok (.invokevirtual 374, 3) := by decide +kernel
theorem dX1_table_72 : decode cX1_table 72 = .ok (.ifCond .eq 39, 3) := by decide +kernel
theorem dX1_table_75 : decode cX1_table 75 = .ok (.aload 6, 2) := by decide +kernel
theorem dX1_table_77 : decode cX1_table 77 = .ok (.iload_n 3, 1) := by decide +kernel
theorem dX1_table_78 : decode cX1_table 78 = .ok (.invokevirtual 374, 3) := by decide +kernel
theorem dX1_table_81 : decode cX1_table 81 = .ok (.ifCond .eq 30, 3) := by decide +kernel
theorem dX1_table_84 : decode cX1_table 84 = .ok (.iload_n 2, 1) := by decide +kernel
theorem dX1_table_85 : decode cX1_table 85 = .ok (.iload_n 3, 1) := by decide +kernel
theorem dX1_table_86 : decode cX1_table 86 = .ok (.if_icmp .eq 25, 3) := by decide +kernel
theorem dX1_table_89 : decode cX1_table 89 = .ok (.iload 4, 2) := by decide +kernel
theorem dX1_table_91 : decode cX1_table 91 = .ok (.iconst (-1), 1) := by decide +kernel
theorem dX1_table_92 : decode cX1_table 92 = .ok (.if_icmp .eq 15, 3) := by decide +kernel
theorem dX1_table_95 : decode cX1_table 95 = .ok (.aload 6, 2) := by decide +kernel
theorem dX1_table_97 : decode cX1_table 97 = .ok (.getfield 245, 3) := by decide +kernel
theorem dX1_table_100 : decode cX1_table 100 = .ok (.iload 4, 2) := by decide +kernel
theorem dX1_table_102 : decode cX1_table 102 = .ok (.iaload, 1) := by decide +kernel
theorem dX1_table_103 : decode cX1_table 103 = .ok (.iconst 1, 1) := by decide +kernel
theorem dX1_table_104 : decode cX1_table 104 = .ok (.if_icmp .gt 7, 3) := by decide +kernel
theorem dX1_table_107 : decode cX1_table 107 = .ok (.iconst 1, 1) := by decide +kernel
theorem dX1_table_108 : decode cX1_table 108 = .ok (.goto 4, 3) := by decide +kernel
theorem dX1_table_111 : decode cX1_table 111 = .ok (.iconst 0, 1) := by decide +kernel
theorem dX1_table_112 : decode cX1_table 112 = .ok (.invokestatic 164, 3) := by decide +kernel
theorem dX1_table_115 : decode cX1_table 115 = .ok (.aload 6, 2) := by decide +kernel
theorem dX1_table_117 : decode cX1_table 117 = .ok (.getfield 251, 3) := by decide +kernel
theorem dX1_table_120 : decode cX1_table 120 = .ok (.iload_n 2, 1) := by decide +kernel
theorem dX1_table_121 : decode cX1_table 121 = .ok (.iaload, 1) := by decide +kernel
theorem dX1_table_122 : decode cX1_table 122 = .ok (.aload 6, 2) := by decide +kernel
theorem dX1_table_124 : decode cX1_table 124 = .ok (.getfield 248, 3) := by decide +kernel
theorem dX1_table_127 : decode cX1_table 127 = .ok (.iload_n 2, 1) := by decide +kernel
theorem dX1_table_128 : decode cX1_table 128 = .ok (.iaload, 1) := by decide +kernel
theorem dX1_table_129 : decode cX1_table 129 = .ok (.isub, 1) := by decide +kernel
theorem dX1_table_130 : decode cX1_table 130 = .ok (.iconst 4, 1) := by decide +kernel
theorem dX1_table_131 : decode cX1_table 131 = .ok (.if_icmp .ge 26, 3) := by decide +kernel
theorem dX1_table_134 : decode cX1_table 134 = .ok (.aload 6, 2) := by decide +kernel
theorem dX1_table_136 : decode cX1_table 136 = .ok (.getfield 251, 3) := by decide +kernel
theorem dX1_table_139 : decode cX1_table 139 = .ok (.iload_n 3, 1) := by decide +kernel
theorem dX1_table_140 : decode cX1_table 140 = .ok (.iaload, 1) := by decide +kernel
theorem dX1_table_141 : decode cX1_table 141 = .ok (.aload 6, 2) := by decide +kernel
theorem dX1_table_143 : decode cX1_table 143 = .ok (.getfield 248, 3) := by decide +kernel
theorem dX1_table_146 : decode cX1_table 146 = .ok (.iload_n 3, 1) := by decide +kernel
theorem dX1_table_147 : decode cX1_table 147 = .ok (.iaload, 1) := by decide +kernel
theorem dX1_table_148 : decode cX1_table 148 = .ok (.isub, 1) := by decide +kernel
theorem dX1_table_149 : decode cX1_table 149 = .ok (.iconst 3, 1) := by decide +kernel
theorem dX1_table_150 : decode cX1_table 150 = .ok (.if_icmp .ge 7, 3) := by decide +kernel
theorem dX1_table_153 : decode cX1_table 153 = .ok (.iconst 1, 1) := by decide +kernel
theorem dX1_table_154 : decode cX1_table 154 = .ok (.goto 4, 3) := by decide +kernel
theorem dX1_table_157 : decode cX1_table 157 = .ok (.iconst 0, 1) := by decide +kernel
theorem dX1_table_158 : decode cX1_table 158 = .ok (.invokestatic 164, 3) := by decide +kernel
theorem dX1_table_161 : decode cX1_table 161 = .ok (.aload_n 0, 1) := by decide +kernel
theorem dX1_table_162 : decode cX1_table 162 = .ok (.getfield 482, 3) := by decide +kernel
theorem dX1_table_165 : decode cX1_table 165 = .ok (.bipush 12, 2) := by decide +kernel
theorem dX1_table_167 : decode cX1_table 167 = .ok (.if_icmp .ge 7, 3) := by decide +kernel
theorem dX1_table_170 : decode cX1_table 170 = .ok (.iconst 1, 1) := by decide +kernel
theorem dX1_table_171 : decode cX1_table 171 = .ok (.goto 4, 3) := by decide +kernel
theorem dX1_table_174 : decode cX1_table 174 = .ok (.iconst 0, 1) := by decide +kernel
theorem dX1_table_175 : decode cX1_table 175 = .ok (.invokestatic 176, 3) := by decide +kernel
theorem dX1_table_178 : decode cX1_table 178 = .ok (.new 110, 3) := by decide +kernel
theorem dX1_table_181 : decode cX1_table 181 = .ok (.dup, 1) := by decide +kernel
theorem dX1_table_182 : decode cX1_table 182 = .ok (.aload 6, 2) := by decide +kernel
theorem dX1_table_184 : decode cX1_table 184 = .ok (.getfield 251, 3) := by decide +kernel
theorem dX1_table_187 : decode cX1_table 187 = .ok (.iload_n 2, 1) := by decide +kernel
theorem dX1_table_188 : decode cX1_table 188 = .ok (.iaload, 1) := by decide +kernel
theorem dX1_table_189 : decode cX1_table 189 = .ok (.aload 6, 2) := by decide +kernel
theorem dX1_table_191 : decode cX1_table 191 = .ok (.getfield 248, 3) := by decide +kernel
theorem dX1_table_194 : decode cX1_table 194 = .ok (.iload_n 2, 1) := by decide +kernel
theorem dX1_table_195 : decode cX1_table 195 = .ok (.iaload, 1) := by decide +kernel
theorem dX1_table_196 : decode cX1_table 196 = .ok (.isub, 1) := by decide +kernel
theorem dX1_table_197 : decode cX1_table 197 = .ok (.iconst 1, 1) := by decide +kernel
theorem dX1_table_198 : decode cX1_table 198 = .ok (.iadd, 1) := by decide +kernel
theorem dX1_table_199 : decode cX1_table 199 = .ok (.aload 6, 2) := by decide +kernel
theorem dX1_table_201 : decode cX1_table 201 = .ok (.getfield 251, 3) := by decide +kernel
theorem dX1_table_204 : decode cX1_table 204 = .ok (.iload_n 3, 1) := by decide +kernel
theorem dX1_table_205 : decode cX1_table 205 = .ok (.iaload, 1) := by decide +kernel
theorem dX1_table_206 : decode cX1_table 206 = .ok (.aload 6, 2) := by decide +kernel
theorem dX1_table_208 : decode cX1_table 208 = .ok (.getfield 248, 3) := by decide +kernel
theorem dX1_table_211 : decode cX1_table 211 = .ok (.iload_n 3, 1) := by decide +kernel
theorem dX1_table_212 : decode cX1_table 212 = .ok (.iaload, 1) := by decide +kernel
theorem dX1_table_213 : decode cX1_table 213 = .ok (.isub, 1) := by decide +kernel
theorem dX1_table_214 : decode cX1_table 214 = .ok (.iconst 1, 1) := by decide +kernel
theorem dX1_table_215 : decode cX1_table 215 = .ok (.iadd, 1) := by decide +kernel
theorem dX1_table_216 : decode cX1_table 216 = .ok (.invokespecial 485, 3) := by decide +kernel
theorem dX1_table_219 : decode cX1_table 219 = .ok (.astore 7, 2) := by decide +kernel
theorem dX1_table_221 : decode cX1_table 221 = .ok (.iconst 0, 1) := by decide +kernel
theorem dX1_table_222 : decode cX1_table 222 = .ok (.istore 8, 2) := by decide +kernel
theorem dX1_table_224 : decode cX1_table 224 = .ok (.iload 8, 2) := by decide +kernel
theorem dX1_table_226 : decode cX1_table 226 = .ok (.aload_n 0, 1) := by decide +kernel
theorem dX1_table_227 : decode cX1_table 227 = .ok (.getfield 360, 3) := by decide +kernel
theorem dX1_table_230 : decode cX1_table 230 = .ok (.if_icmp .ge 215, 3) := by decide +kernel
theorem dX1_table_233 : decode cX1_table 233 = .ok (.aload_n 0, 1) := by decide +kernel
theorem dX1_table_234 : decode cX1_table 234 = .ok (.getfield 60, 3) := by decide +kernel
theorem dX1_table_237 : decode cX1_table 237 = .ok (.iload 8, 2) := by decide +kernel
theorem dX1_table_239 : decode cX1_table 239 = .ok (.aaload, 1) := by decide +kernel
theorem dX1_table_240 : decode cX1_table 240 = .ok (.astore 9, 2) := by decide +kernel
theorem dX1_table_242 : decode cX1_table 242 = .ok (.aload 9, 2) := by decide +kernel
theorem dX1_table_244 : decode cX1_table 244 = .ok (.getfield 369, 3) := by decide +kernel
theorem dX1_table_247 : decode cX1_table 247 = .ok (.aload 6, 2) := by decide +kernel
theorem dX1_table_249 : decode cX1_table 249 = .ok (.if_acmp .ne 190, 3) := by decide +kernel
theorem dX1_table_252 : decode cX1_table 252 = .ok (.aload 6, 2) := by decide +kernel
theorem dX1_table_254 : decode cX1_table 254 = .ok (.aload 9, 2) := by decide +kernel
theorem dX1_table_256 : decode cX1_table 256 = .ok (.getfield 370, 3) := by decide +kernel
theorem dX1_table_259 : decode cX1_table 259 = .ok (.invokestatic 405, 3) := by decide +kernel
theorem dX1_table_262 : decode cX1_table 262 = .ok (.ifCond .gt 177, 3) := by decide +kernel
theorem dX1_table_265 : decode cX1_table 265 = .ok (.iload 5, 2) := by decide +kernel
theorem dX1_table_267 : decode cX1_table 267 = .ok (.iconst (-1), 1) := by decide +kernel
theorem dX1_table_268 : decode cX1_table 268 = .ok (.if_icmp .eq 34, 3) := by decide +kernel
theorem dX1_table_271 : decode cX1_table 271 = .ok (.aload_n 0, 1) := by decide +kernel
theorem dX1_table_272 : decode cX1_table 272 = .ok (.getfield 81, 3) := by decide +kernel
theorem dX1_table_275 : decode cX1_table 275 = .ok (.iload 5, 2) := by decide +kernel
theorem dX1_table_277 : decode cX1_table 277 = .ok (.aaload, 1) := by decide +kernel
theorem dX1_table_278 : decode cX1_table 278 = .ok (.getfield 472, 3) := by decide +kernel
theorem dX1_table_281 : decode cX1_table 281 = .ok (.aload_n 0, 1) := by decide +kernel
theorem dX1_table_282 : decode cX1_table 282 = .ok (.aload 9, 2) := by decide +kernel
theorem dX1_table_284 : decode cX1_table 284 = .ok (.getfield 427, 3) := by decide +kernel
theorem dX1_table_287 : decode cX1_table 287 = .ok (.getfield 488, 3) := by decide +kernel
theorem dX1_table_290 : decode cX1_table 290 = .ok (.ldc 202, 2) := by decide +kernel
theorem dX1_table_292 : decode cX1_table 292 = .ok (.invokevirtual 203, 3) := by decide +kernel
theorem dX1_table_295 : decode cX1_table 295 = .ok (.baload, 1) := by decide +kernel
theorem dX1_table_296 : decode cX1_table 296 = .ok (.ifCond .ne 6, 3) := by decide +kernel
theorem dX1_table_299 : decode cX1_table 299 = .ok (.goto 140, 3) := by decide +kernel
theorem dX1_table_302 : decode cX1_table 302 = .ok (.iload 4, 2) := by decide +kernel
theorem dX1_table_304 : decode cX1_table 304 = .ok (.iconst (-1), 1) := by decide +kernel
theorem dX1_table_305 : decode cX1_table 305 = .ok (.if_icmp .ne 7, 3) := by decide +kernel
theorem dX1_table_308 : decode cX1_table 308 = .ok (.iconst 1, 1) := by decide +kernel
theorem dX1_table_309 : decode cX1_table 309 = .ok (.goto 11, 3) := by decide +kernel
theorem dX1_table_312 : decode cX1_table 312 = .ok (.aload 9, 2) := by decide +kernel
theorem dX1_table_314 : decode cX1_table 314 = .ok (.getfield 370, 3) := by decide +kernel
theorem dX1_table_317 : decode cX1_table 317 = .ok (.iload 4, 2) := by decide +kernel
theorem dX1_table_319 : decode cX1_table 319 = .ok (.iaload, 1) := by decide +kernel
theorem dX1_table_320 : decode cX1_table 320 = .ok (.istore 10, 2) := by decide +kernel
theorem dX1_table_322 : decode cX1_table 322 = .ok (.aload 9, 2) := by decide +kernel
theorem dX1_table_324 : decode cX1_table 324 = .ok (.getfield 370, 3) := by decide +kernel
theorem dX1_table_327 : decode cX1_table 327 = .ok (.iload_n 2, 1) := by decide +kernel
theorem dX1_table_328 : decode cX1_table 328 = .ok (.iaload, 1) := by decide +kernel
theorem dX1_table_329 : decode cX1_table 329 = .ok (.ldc 210, 2) := by decide +kernel
theorem dX1_table_331 : decode cX1_table 331 = .ok (.if_icmp .eq 108, 3) := by decide +kernel
theorem dX1_table_334 : decode cX1_table 334 = .ok (.aload 9, 2) := by decide +kernel
theorem dX1_table_336 : decode cX1_table 336 = .ok (.getfield 370, 3) := by decide +kernel
theorem dX1_table_339 : decode cX1_table 339 = .ok (.iload_n 3, 1) := by decide +kernel
theorem dX1_table_340 : decode cX1_table 340 = .ok (.iaload, 1) := by decide +kernel
theorem dX1_table_341 : decode cX1_table 341 = .ok (.ldc 210, 2) := by decide +kernel
theorem dX1_table_343 : decode cX1_table 343 = .ok (.if_icmp .eq 96, 3) := by decide +kernel
theorem dX1_table_346 : decode cX1_table 346 = .ok (.iload 10, 2) := by decide +kernel
theorem dX1_table_348 : decode cX1_table 348 = .ok (.ifCond .ge 6, 3) := by decide +kernel
theorem dX1_table_351 : decode cX1_table 351 = .ok (.goto 88, 3) := by decide +kernel
theorem dX1_table_354 : decode cX1_table 354 = .ok (.aload 9, 2) := by decide +kernel
theorem dX1_table_356 : decode cX1_table 356 = .ok (.getfield 370, 3) := by decide +kernel
theorem dX1_table_359 : decode cX1_table 359 = .ok (.iload_n 2, 1) := by decide +kernel
theorem dX1_table_360 : decode cX1_table 360 = .ok (.iaload, 1) := by decide +kernel
theorem dX1_table_361 : decode cX1_table 361 = .ok (.aload 6, 2) := by decide +kernel
theorem dX1_table_363 : decode cX1_table 363 = .ok (.getfield 248, 3) := by decide +kernel
theorem dX1_table_366 : decode cX1_table 366 = .ok (.iload_n 2, 1) := by decide +kernel
theorem dX1_table_367 : decode cX1_table 367 = .ok (.iaload, 1) := by decide +kernel
theorem dX1_table_368 : decode cX1_table 368 = .ok (.isub, 1) := by decide +kernel
theorem dX1_table_369 : decode cX1_table 369 = .ok (.aload 7, 2) := by decide +kernel
theorem dX1_table_371 : decode cX1_table 371 = .ok (.getfield 491, 3) := by decide +kernel
theorem dX1_table_374 : decode cX1_table 374 = .ok (.imul, 1) := by decide +kernel
theorem dX1_table_375 : decode cX1_table 375 = .ok (.aload 9, 2) := by decide +kernel
theorem dX1_table_377 : decode cX1_table 377 = .ok (.getfield 370, 3) := by decide +kernel
theorem dX1_table_380 : decode cX1_table 380 = .ok (.iload_n 3, 1) := by decide +kernel
theorem dX1_table_381 : decode cX1_table 381 = .ok (.iaload, 1) := by decide +kernel
theorem dX1_table_382 : decode cX1_table 382 = .ok (.iadd, 1) := by decide +kernel
theorem dX1_table_383 : decode cX1_table 383 = .ok (.aload 6, 2) := by decide +kernel
theorem dX1_table_385 : decode cX1_table 385 = .ok (.getfield 248, 3) := by decide +kernel
theorem dX1_table_388 : decode cX1_table 388 = .ok (.iload_n 3, 1) := by decide +kernel
theorem dX1_table_389 : decode cX1_table 389 = .ok (.iaload, 1) := by decide +kernel
theorem dX1_table_390 : decode cX1_table 390 = .ok (.isub, 1) := by decide +kernel
theorem dX1_table_391 : decode cX1_table 391 = .ok (.istore 11, 2) := by decide +kernel
theorem dX1_table_393 : decode cX1_table 393 = .ok (.aload 7, 2) := by decide +kernel
theorem dX1_table_395 : decode cX1_table 395 = .ok (.getfield 494, 3) := by decide +kernel
theorem dX1_table_398 : decode cX1_table 398 = .ok (.iload 11, 2) := by decide +kernel
theorem dX1_table_400 : decode cX1_table 400 = .ok (.dup2, 1) := by decide +kernel
theorem dX1_table_401 : decode cX1_table 401 = .ok (.iaload, 1) := by decide +kernel
theorem dX1_table_402 : decode cX1_table 402 = .ok (.iload 10, 2) := by decide +kernel
theorem dX1_table_404 : decode cX1_table 404 = .ok (.iadd, 1) := by decide +kernel
theorem dX1_table_405 : decode cX1_table 405 = .ok (.iastore, 1) := by decide +kernel
theorem dX1_table_406 : decode cX1_table 406 = .ok (.aload 7, 2) := by decide +kernel
theorem dX1_table_408 : decode cX1_table 408 = .ok (.getfield 497, 3) := by decide +kernel
theorem dX1_table_411 : decode cX1_table 411 = .ok (.iload 11, 2) := by decide +kernel
theorem dX1_table_413 : decode cX1_table 413 = .ok (.dup2, 1) := by decide +kernel
theorem dX1_table_414 : decode cX1_table 414 = .ok (.iaload, 1) := by decide +kernel
theorem dX1_table_415 : decode cX1_table 415 = .ok (.iconst 1, 1) := by decide +kernel
theorem dX1_table_416 : decode cX1_table 416 = .ok (.iadd, 1) := by decide +kernel
theorem dX1_table_417 : decode cX1_table 417 = .ok (.iastore, 1) := by decide +kernel
theorem dX1_table_418 : decode cX1_table 418 = .ok (.aload 7, 2) := by decide +kernel
theorem dX1_table_420 : decode cX1_table 420 = .ok (.getfield 498, 3) := by decide +kernel
theorem dX1_table_423 : decode cX1_table 423 = .ok (.iload 11, 2) := by decide +kernel
theorem dX1_table_425 : decode cX1_table 425 = .ok (.aload 7, 2) := by decide +kernel
theorem dX1_table_427 : decode cX1_table 427 = .ok (.getfield 498, 3) := by decide +kernel
theorem dX1_table_430 : decode cX1_table 430 = .ok (.iload 11, 2) := by decide +kernel
theorem dX1_table_432 : decode cX1_table 432 = .ok (.iaload, 1) := by decide +kernel
theorem dX1_table_433 : decode cX1_table 433 = .ok (.iload 10, 2) := by decide +kernel
theorem dX1_table_435 : decode cX1_table 435 = .ok (.invokestatic 500, 3) := by decide +kernel
theorem dX1_table_438 : decode cX1_table 438 = .ok (.iastore, 1) := by decide +kernel
theorem dX1_table_439 : decode cX1_table 439 = .ok (.iinc 8 1, 3) := by decide +kernel
theorem dX1_table_442 : decode cX1_table 442 = .ok (.goto (-218), 3) := by decide +kernel
theorem dX1_table_445 : decode cX1_table 445 = .ok (.iconst 0, 1) := by decide +kernel
theorem dX1_table_446 : decode cX1_table 446 = .ok (.istore 8, 2) := by decide +kernel
theorem dX1_table_448 : decode cX1_table 448 = .ok (.iload 8, 2) := by decide +kernel
theorem dX1_table_450 : decode cX1_table 450 = .ok (.aload 7, 2) := by decide +kernel
theorem dX1_table_452 : decode cX1_table 452 = .ok (.invokevirtual 503, 3) := by decide +kernel
theorem dX1_table_455 : decode cX1_table 455 = .ok (.if_icmp .ge 25, 3) := by decide +kernel
theorem dX1_table_458 : decode cX1_table 458 = .ok (.aload 7, 2) := by decide +kernel
theorem dX1_table_460 : decode cX1_table 460 = .ok (.getfield 506, 3) := by decide +kernel
theorem dX1_table_463 : decode cX1_table 463 = .ok (.iload 8, 2) := by decide +kernel
theorem dX1_table_465 : decode cX1_table 465 = .ok (.aload 7, 2) := by decide +kernel
theorem dX1_table_467 : decode cX1_table 467 = .ok (.getfield 494, 3) := by decide +kernel
theorem dX1_table_470 : decode cX1_table 470 = .ok (.iload 8, 2) := by decide +kernel
theorem dX1_table_472 : decode cX1_table 472 = .ok (.iaload, 1) := by decide +kernel
theorem dX1_table_473 : decode cX1_table 473 = .ok (.iastore, 1) := by decide +kernel
theorem dX1_table_474 : decode cX1_table 474 = .ok (.iinc 8 1, 3) := by decide +kernel
theorem dX1_table_477 : decode cX1_table 477 = .ok (.goto (-29), 3) := by decide +kernel
theorem dX1_table_480 : decode cX1_table 480 = .ok (.aload_n 0, 1) := by decide +kernel
theorem dX1_table_481 : decode cX1_table 481 = .ok (.getfield 112, 3) := by decide +kernel
theorem dX1_table_484 : decode cX1_table 484 = .ok (.aload_n 0, 1) := by decide +kernel
theorem dX1_table_485 : decode cX1_table 485 = .ok (.getfield 482, 3) := by decide +kernel
theorem dX1_table_488 : decode cX1_table 488 = .ok (.aload 7, 2) := by decide +kernel
theorem dX1_table_490 : decode cX1_table 490 = .ok (.aastore, 1) := by decide +kernel
theorem dX1_table_491 : decode cX1_table 491 = .ok (.aload_n 0, 1) := by decide +kernel
theorem dX1_table_492 : decode cX1_table 492 = .ok (.dup, 1) := by decide +kernel
theorem dX1_table_493 : decode cX1_table 493 = .ok (.getfield 482, 3) := by decide +kernel
theorem dX1_table_496 : decode cX1_table 496 = .ok (.dup_x1, 1) := by decide +kernel
theorem dX1_table_497 : decode cX1_table 497 = .ok (.iconst 1, 1) := by decide +kernel
theorem dX1_table_498 : decode cX1_table 498 = .ok (.iadd, 1) := by decide +kernel
theorem dX1_table_499 : decode cX1_table 499 = .ok (.putfield 482, 3) := by decide +kernel
theorem dX1_table_502 : decode cX1_table 502 = .ok (.ireturn, 1) := by decide +kernel
theorem dX1_cell_0 : decode cX1_cell 0 = .ok (.aload_n 0, 1) := by decide +kernel
theorem dX1_cell_1 : decode cX1_cell 1 = .ok (.iload_n 1, 1) := by decide +kernel
theorem dX1_cell_2 : decode cX1_cell 2 = .ok (.invokevirtual 509, 3) := by decide +kernel
theorem dX1_cell_5 : decode cX1_cell 5 = .ok (.astore 5, 2) := by decide +kernel
theorem dX1_cell_7 : decode cX1_cell 7 = .ok (.iload_n 2, 1) := by decide +kernel
theorem dX1_cell_8 : decode cX1_cell 8 = .ok (.i2l, 1) := by decide +kernel
theorem dX1_cell_9 : decode cX1_cell 9 = .ok (.lconst 0, 1) := by decide +kernel
theorem dX1_cell_10 : decode cX1_cell 10 = .ok (.aload 5, 2) := by decide +kernel
theorem dX1_cell_12 : decode cX1_cell 12 = .ok (.getfield 513, 3) := by decide +kernel
theorem dX1_cell_15 : decode cX1_cell 15 = .ok (.i2l, 1) := by decide +kernel
theorem dX1_cell_16 : decode cX1_cell 16 = .ok (.invokestatic 159, 3) := by decide +kernel
theorem dX1_cell_19 : decode cX1_cell 19 = .ok (.ifCond .eq 22, 3) := by decide +kernel
theorem dX1_cell_22 : decode cX1_cell 22 = .ok (.iload_n 3, 1) := by decide +kernel
theorem dX1_cell_23 : decode cX1_cell 23 = .ok (.i2l, 1) := by decide +kernel
theorem dX1_cell_24 : decode cX1_cell 24 = .ok (.lconst 0, 1) := by decide +kernel
theorem dX1_cell_25 : decode cX1_cell 25 = .ok (.aload 5, 2) := by decide +kernel
theorem dX1_cell_27 : decode cX1_cell 27 = .ok (.getfield 491, 3) := by decide +kernel
theorem dX1_cell_30 : decode cX1_cell 30 = .ok (.i2l, 1) := by decide +kernel
theorem dX1_cell_31 : decode cX1_cell 31 = .ok (.invokestatic 159, 3) := by decide +kernel
theorem dX1_cell_34 : decode cX1_cell 34 = .ok (.ifCond .eq 7, 3) := by decide +kernel
theorem dX1_cell_37 : decode cX1_cell 37 = .ok (.iconst 1, 1) := by decide +kernel
theorem dX1_cell_38 : decode cX1_cell 38 = .ok (.goto 4, 3) := by decide +kernel
theorem dX1_cell_41 : decode cX1_cell 41 = .ok (.iconst 0, 1) := by decide +kernel
theorem dX1_cell_42 : decode cX1_cell 42 = .ok (.invokestatic 171, 3) := by decide +kernel
theorem dX1_cell_45 : decode cX1_cell 45 = .ok (.iload 4, 2) := by decide +kernel
theorem dX1_cell_47 : decode cX1_cell 47 = .ok (.i2l, 1) := by decide +kernel
theorem dX1_cell_48 : decode cX1_cell 48 = .ok (.lconst 0, 1) := by decide +kernel
theorem dX1_cell_49 : decode cX1_cell 49 = .ok (.ldc2_w 243, 3) := by decide +kernel
theorem dX1_cell_52 : decode cX1_cell 52 = .ok (.invokestatic 159, 3) := by decide +kernel
theorem dX1_cell_55 : decode cX1_cell 55 = .ok (.invokestatic 164, 3) := by decide +kernel
theorem dX1_cell_58 : decode cX1_cell 58 = .ok (.aload 5, 2) := by decide +kernel
theorem dX1_cell_60 : decode cX1_cell 60 = .ok (.iload 4, 2) := by decide +kernel
theorem dX1_cell_62 : decode cX1_cell 62 = .ok (.ifCond .ne 11, 3) := by decide +kernel
theorem dX1_cell_65 : decode cX1_cell 65 = .ok (.aload 5, 2) := by decide +kernel
theorem dX1_cell_67 : decode cX1_cell 67 = .ok (.getfield 494, 3) := by decide +kernel
theorem dX1_cell_70 : decode cX1_cell 70 = .ok (.goto 36, 3) := by decide +kernel
theorem dX1_cell_73 : decode cX1_cell 73 = .ok (.iload 4, 2) := by decide +kernel
theorem dX1_cell_75 : decode cX1_cell 75 = .ok (.iconst 1, 1) := by decide +kernel
theorem dX1_cell_76 : decode cX1_cell 76 = .ok (.if_icmp .ne 11, 3) := by decide +kernel
theorem dX1_cell_79 : decode cX1_cell 79 = .ok (.aload 5, 2) := by decide +kernel
theorem dX1_cell_81 : decode cX1_cell 81 = .ok (.getfield 497, 3) := by decide +kernel
theorem dX1_cell_84 : decode cX1_cell 84 = .ok (.goto 22, 3) := by decide +kernel
theorem dX1_cell_87 : decode cX1_cell 87 = .ok (.iload 4, 2) := by decide +kernel
theorem dX1_cell_89 : decode cX1_cell 89 = .ok (.iconst 2, 1) := by decide +kernel
theorem dX1_cell_90 : decode cX1_cell 90 = .ok (.if_icmp .ne 11, 3) := by decide +kernel
theorem dX1_cell_93 : decode cX1_cell 93 = .ok (.aload 5, 2) := by decide +kernel
theorem dX1_cell_95 : decode cX1_cell 95 = .ok (.getfield 498, 3) := by decide +kernel
theorem dX1_cell_98 : decode cX1_cell 98 = .ok (.goto 8, 3) := by decide +kernel
theorem dX1_cell_101 : decode cX1_cell 101 = .ok (.aload 5, 2) := by decide +kernel
theorem dX1_cell_103 : decode cX1_cell 103 = .ok (.getfield 506, 3) := by decide +kernel
theorem dX1_cell_106 : decode cX1_cell 106 = .ok (.iload_n 2, 1) := by decide +kernel
theorem dX1_cell_107 : decode cX1_cell 107 = .ok (.iload_n 3, 1) := by decide +kernel
theorem dX1_cell_108 : decode cX1_cell 108 = .ok (.iload 4, 2) := by decide +kernel
theorem dX1_cell_110 : decode cX1_cell 110 = .ok (.iconst 2, 1) := by decide +kernel
theorem dX1_cell_111 : decode cX1_cell 111 = .ok (.if_icmp .ne 7, 3) := by decide +kernel
theorem dX1_cell_114 : decode cX1_cell 114 = .ok (.iconst 1, 1) := by decide +kernel
theorem dX1_cell_115 : decode cX1_cell 115 = .ok (.goto 4, 3) := by decide +kernel
theorem dX1_cell_118 : decode cX1_cell 118 = .ok (.iconst 0, 1) := by decide +kernel
theorem dX1_cell_119 : decode cX1_cell 119 = .ok (.invokevirtual 516, 3) := by decide +kernel
theorem dX1_cell_122 : decode cX1_cell 122 = .ok (.ireturn, 1) := by decide +kernel
theorem dX1_tableOf_0 : decode cX1_tableOf 0 = .ok (.iload_n 1, 1) := by decide +kernel
theorem dX1_tableOf_1 : decode cX1_tableOf 1 = .ok (.i2l, 1) := by decide +kernel
theorem dX1_tableOf_2 : decode cX1_tableOf 2 = .ok (.lconst 0, 1) := by decide +kernel
theorem dX1_tableOf_3 : decode cX1_tableOf 3 = .ok (.aload_n 0, 1) := by decide +kernel
theorem dX1_tableOf_4 : decode cX1_tableOf 4 = .ok (.getfield 482, 3) := by decide +kernel
theorem dX1_tableOf_7 : decode cX1_tableOf 7 = .ok (.iconst 1, 1) := by decide +kernel
theorem dX1_tableOf_8 : decode cX1_tableOf 8 = .ok (.isub, 1) := by decide +kernel
theorem dX1_tableOf_9 : decode cX1_tableOf 9 = .ok (.i2l, 1) := by decide +kernel
theorem dX1_tableOf_10 : decode cX1_tableOf 10 = .ok (.invokestatic 159, 3) := by decide +kernel
theorem dX1_tableOf_13 : decode cX1_tableOf 13 = .ok (.invokestatic 171, 3) := by decide +kernel
theorem dX1_tableOf_16 : decode cX1_tableOf 16 = .ok (.aload_n 0, 1) := by decide +kernel
theorem dX1_tableOf_17 : decode cX1_tableOf 17 = .ok (.getfield 112, 3) := by decide +kernel
theorem dX1_tableOf_20 : decode cX1_tableOf 20 = .ok (.iload_n 1, 1) := by decide +kernel
theorem dX1_tableOf_21 : decode cX1_tableOf 21 = .ok (.aaload, 1) := by decide +kernel
theorem dX1_tableOf_22 : decode cX1_tableOf 22 = .ok (.areturn, 1) := by decide +kernel
theorem dX1_secrecy_0 : decode cX1_secrecy 0 = .ok (.aload_n 0, 1) := by decide +kernel
theorem dX1_secrecy_1 : decode cX1_secrecy 1 = .ok (.iload_n 1, 1) := by decide +kernel
theorem dX1_secrecy_2 : decode cX1_secrecy 2 = .ok (.invokevirtual 509, 3) := by decide +kernel
theorem dX1_secrecy_5 : decode cX1_secrecy 5 = .ok (.astore 5, 2) := by decide +kernel
theorem dX1_secrecy_7 : decode cX1_secrecy 7 = .ok (.iload_n 2, 1) := by decide +kernel
theorem dX1_secrecy_8 : decode cX1_secrecy 8 = .ok (.i2l, 1) := by decide +kernel
theorem dX1_secrecy_9 : decode cX1_secrecy 9 = .ok (.lconst 0, 1) := by decide +kernel
theorem dX1_secrecy_10 : decode cX1_secrecy 10 = .ok (.ldc2_w 399, 3) := by decide +kernel
theorem dX1_secrecy_13 : decode cX1_secrecy 13 = .ok (.invokestatic 159, 3) := by decide +kernel
theorem dX1_secrecy_16 : decode cX1_secrecy 16 = .ok (.ifCond .eq 32, 3) := by decide +kernel
theorem dX1_secrecy_19 : decode cX1_secrecy 19 = .ok (.iload_n 3, 1) := by decide +kernel
theorem dX1_secrecy_20 : decode cX1_secrecy 20 = .ok (.i2l, 1) := by decide +kernel
theorem dX1_secrecy_21 : decode cX1_secrecy 21 = .ok (.lconst 0, 1) := by decide +kernel
theorem dX1_secrecy_22 : decode cX1_secrecy 22 = .ok (.ldc2_w 399, 3) := by decide +kernel
theorem dX1_secrecy_25 : decode cX1_secrecy 25 = .ok (.invokestatic 159, 3) := by decide +kernel
theorem dX1_secrecy_28 : decode cX1_secrecy 28 = .ok (.ifCond .eq 20, 3) := by decide +kernel
theorem dX1_secrecy_31 : decode cX1_secrecy 31 = .ok (.iload 4, 2) := by decide +kernel
theorem dX1_secrecy_33 : decode cX1_secrecy 33 = .ok (.i2l, 1) := by decide +kernel
theorem dX1_secrecy_34 : decode cX1_secrecy 34 = .ok (.lconst 0, 1) := by decide +kernel
theorem dX1_secrecy_35 : decode cX1_secrecy 35 = .ok (.ldc2_w 157, 3) := by decide +kernel
theorem dX1_secrecy_38 : decode cX1_secrecy 38 = .ok (.invokestatic 159, 3) := by decide +kernel
theorem dX1_secrecy_41 : decode cX1_secrecy 41 = .ok (.ifCond .eq 7, 3) := by decide +kernel
theorem dX1_secrecy_44 : decode cX1_secrecy 44 = .ok (.iconst 1, 1) := by decide +kernel
theorem dX1_secrecy_45 : decode cX1_secrecy 45 = .ok (.goto 4, 3) := by decide +kernel
theorem dX1_secrecy_48 : decode cX1_secrecy 48 = .ok (.iconst 0, 1) := by decide +kernel
theorem dX1_secrecy_49 : decode cX1_secrecy 49 = .ok (.invokestatic 164, 3) := by decide +kernel
theorem dX1_secrecy_52 : decode cX1_secrecy 52 = .ok (.aload 5, 2) := by decide +kernel
theorem dX1_secrecy_54 : decode cX1_secrecy 54 = .ok (.iconst 0, 1) := by decide +kernel
theorem dX1_secrecy_55 : decode cX1_secrecy 55 = .ok (.putfield 535, 3) := by decide +kernel
theorem dX1_secrecy_58 : decode cX1_secrecy 58 = .ok (.iconst 0, 1) := by decide +kernel
theorem dX1_secrecy_59 : decode cX1_secrecy 59 = .ok (.istore 6, 2) := by decide +kernel
theorem dX1_secrecy_61 : decode cX1_secrecy 61 = .ok (.iload 6, 2) := by decide +kernel
theorem dX1_secrecy_63 : decode cX1_secrecy 63 = .ok (.aload 5, 2) := by decide +kernel
theorem dX1_secrecy_65 : decode cX1_secrecy 65 = .ok (.invokevirtual 503, 3) := by decide +kernel
theorem dX1_secrecy_68 : decode cX1_secrecy 68 = .ok (.if_icmp .ge 87, 3) := by decide +kernel
theorem dX1_secrecy_71 : decode cX1_secrecy 71 = .ok (.aload 5, 2) := by decide +kernel
theorem dX1_secrecy_73 : decode cX1_secrecy 73 = .ok (.getfield 497, 3) := by decide +kernel
theorem dX1_secrecy_76 : decode cX1_secrecy 76 = .ok (.iload 6, 2) := by decide +kernel
theorem dX1_secrecy_78 : decode cX1_secrecy 78 = .ok (.iaload, 1) := by decide +kernel
theorem dX1_secrecy_79 : decode cX1_secrecy 79 = .ok (.ifCond .le 15, 3) := by decide +kernel
theorem dX1_secrecy_82 : decode cX1_secrecy 82 = .ok (.aload 5, 2) := by decide +kernel
theorem dX1_secrecy_84 : decode cX1_secrecy 84 = .ok (.getfield 497, 3) := by decide +kernel
theorem dX1_secrecy_87 : decode cX1_secrecy 87 = .ok (.iload 6, 2) := by decide +kernel
theorem dX1_secrecy_89 : decode cX1_secrecy 89 = .ok (.iaload, 1) := by decide +kernel
theorem dX1_secrecy_90 : decode cX1_secrecy 90 = .ok (.iload_n 2, 1) := by decide +kernel
theorem dX1_secrecy_91 : decode cX1_secrecy 91 = .ok (.if_icmp .lt 32, 3) := by decide +kernel
theorem dX1_secrecy_94 : decode cX1_secrecy 94 = .ok (.ldc2_w 399, 3) := by decide +kernel
theorem dX1_secrecy_97 : decode cX1_secrecy 97 = .ok (.aload 5, 2) := by decide +kernel
theorem dX1_secrecy_99 : decode cX1_secrecy 99 = .ok (.getfield 498, 3) := by decide +kernel
theorem dX1_secrecy_102 : decode cX1_secrecy 102 = .ok (.iload 6, 2) := by decide +kernel
theorem dX1_secrecy_104 : decode cX1_secrecy 104 = .ok (.iaload, 1) := by decide +kernel
theorem dX1_secrecy_105 : decode cX1_secrecy 105 = .ok (.i2l, 1) := by decide +kernel
