set_option maxRecDepth 100000
theorem dX1_secrecy_106 : decode cX1_secrecy 106 = .ok (.lmul, 1) := by decide +kernel
theorem dX1_secrecy_107 : decode cX1_secrecy 107 = .ok (.iload_n 3, 1) := by decide +kernel
theorem dX1_secrecy_108 : decode cX1_secrecy 108 = .ok (.i2l, 1) := by decide +kernel
theorem dX1_secrecy_109 : decode cX1_secrecy 109 = .ok (.aload 5, 2) := by decide +kernel
theorem dX1_secrecy_111 : decode cX1_secrecy 111 = .ok (.getfield 494, 3) := by decide +kernel
theorem dX1_secrecy_114 : decode cX1_secrecy 114 = .ok (.iload 6, 2) := by decide +kernel
theorem dX1_secrecy_116 : decode cX1_secrecy 116 = .ok (.iaload, 1) := by decide +kernel
theorem dX1_secrecy_117 : decode cX1_secrecy 117 = .ok (.i2l, 1) := by decide +kernel
theorem dX1_secrecy_118 : decode cX1_secrecy 118 = .ok (.lmul, 1) := by decide +kernel
theorem dX1_secrecy_119 : decode cX1_secrecy 119 = .ok (.lcmp, 1) := by decide +kernel
theorem dX1_secrecy_120 : decode cX1_secrecy 120 = .ok (.ifCond .le 7, 3) := by decide +kernel
theorem dX1_secrecy_123 : decode cX1_secrecy 123 = .ok (.iconst 1, 1) := by decide +kernel
theorem dX1_secrecy_124 : decode cX1_secrecy 124 = .ok (.goto 4, 3) := by decide +kernel
theorem dX1_secrecy_127 : decode cX1_secrecy 127 = .ok (.iconst 0, 1) := by decide +kernel
theorem dX1_secrecy_128 : decode cX1_secrecy 128 = .ok (.istore 7, 2) := by decide +kernel
theorem dX1_secrecy_130 : decode cX1_secrecy 130 = .ok (.iload 7, 2) := by decide +kernel
theorem dX1_secrecy_132 : decode cX1_secrecy 132 = .ok (.ifCond .eq 17, 3) := by decide +kernel
theorem dX1_secrecy_135 : decode cX1_secrecy 135 = .ok (.aload 5, 2) := by decide +kernel
theorem dX1_secrecy_137 : decode cX1_secrecy 137 = .ok (.dup, 1) := by decide +kernel
theorem dX1_secrecy_138 : decode cX1_secrecy 138 = .ok (.getfield 535, 3) := by decide +kernel
theorem dX1_secrecy_141 : decode cX1_secrecy 141 = .ok (.iconst 1, 1) := by decide +kernel
theorem dX1_secrecy_142 : decode cX1_secrecy 142 = .ok (.iload 6, 2) := by decide +kernel
theorem dX1_secrecy_144 : decode cX1_secrecy 144 = .ok (.ishl, 1) := by decide +kernel
theorem dX1_secrecy_145 : decode cX1_secrecy 145 = .ok (.ior, 1) := by decide +kernel
theorem dX1_secrecy_146 : decode cX1_secrecy 146 = .ok (.putfield 535, 3) := by decide +kernel
theorem dX1_secrecy_149 : decode cX1_secrecy 149 = .ok (.iinc 6 1, 3) := by decide +kernel
theorem dX1_secrecy_152 : decode cX1_secrecy 152 = .ok (.goto (-91), 3) := by decide +kernel
theorem dX1_secrecy_155 : decode cX1_secrecy 155 = .ok (.aload_n 0, 1) := by decide +kernel
theorem dX1_secrecy_156 : decode cX1_secrecy 156 = .ok (.ldc 202, 2) := by decide +kernel
theorem dX1_secrecy_158 : decode cX1_secrecy 158 = .ok (.putfield 541, 3) := by decide +kernel
theorem dX1_secrecy_161 : decode cX1_secrecy 161 = .ok (.aload_n 0, 1) := by decide +kernel
theorem dX1_secrecy_162 : decode cX1_secrecy 162 = .ok (.iconst 1, 1) := by decide +kernel
theorem dX1_secrecy_163 : decode cX1_secrecy 163 = .ok (.aload 5, 2) := by decide +kernel
theorem dX1_secrecy_165 : decode cX1_secrecy 165 = .ok (.invokevirtual 503, 3) := by decide +kernel
theorem dX1_secrecy_168 : decode cX1_secrecy 168 = .ok (.ishl, 1) := by decide +kernel
theorem dX1_secrecy_169 : decode cX1_secrecy 169 = .ok (.iconst 1, 1) := by decide +kernel
theorem dX1_secrecy_170 : decode cX1_secrecy 170 = .ok (.isub, 1) := by decide +kernel
theorem dX1_secrecy_171 : decode cX1_secrecy 171 = .ok (.putfield 546, 3) := by decide +kernel
theorem dX1_secrecy_174 : decode cX1_secrecy 174 = .ok (.aload_n 0, 1) := by decide +kernel
theorem dX1_secrecy_175 : decode cX1_secrecy 175 = .ok (.aload 5, 2) := by decide +kernel
theorem dX1_secrecy_177 : decode cX1_secrecy 177 = .ok (.aload 5, 2) := by decide +kernel
theorem dX1_secrecy_179 : decode cX1_secrecy 179 = .ok (.getfield 535, 3) := by decide +kernel
theorem dX1_secrecy_182 : decode cX1_secrecy 182 = .ok (.iconst 0, 1) := by decide +kernel
theorem dX1_secrecy_183 : decode cX1_secrecy 183 = .ok (.iconst 0, 1) := by decide +kernel
theorem dX1_secrecy_184 : decode cX1_secrecy 184 = .ok (.iload 4, 2) := by decide +kernel
theorem dX1_secrecy_186 : decode cX1_secrecy 186 = .ok (.invokevirtual 547, 3) := by decide +kernel
theorem dX1_secrecy_189 : decode cX1_secrecy 189 = .ok (.aload 5, 2) := by decide +kernel
theorem dX1_secrecy_191 : decode cX1_secrecy 191 = .ok (.aload_n 0, 1) := by decide +kernel
theorem dX1_secrecy_192 : decode cX1_secrecy 192 = .ok (.getfield 546, 3) := by decide +kernel
theorem dX1_secrecy_195 : decode cX1_secrecy 195 = .ok (.putfield 551, 3) := by decide +kernel
theorem dX1_secrecy_198 : decode cX1_secrecy 198 = .ok (.aload_n 0, 1) := by decide +kernel
theorem dX1_secrecy_199 : decode cX1_secrecy 199 = .ok (.getfield 541, 3) := by decide +kernel
theorem dX1_secrecy_202 : decode cX1_secrecy 202 = .ok (.ldc 202, 2) := by decide +kernel
theorem dX1_secrecy_204 : decode cX1_secrecy 204 = .ok (.if_icmp .ne 7, 3) := by decide +kernel
theorem dX1_secrecy_207 : decode cX1_secrecy 207 = .ok (.iconst (-1), 1) := by decide +kernel
theorem dX1_secrecy_208 : decode cX1_secrecy 208 = .ok (.goto 7, 3) := by decide +kernel
theorem dX1_secrecy_211 : decode cX1_secrecy 211 = .ok (.aload_n 0, 1) := by decide +kernel
theorem dX1_secrecy_212 : decode cX1_secrecy 212 = .ok (.getfield 541, 3) := by decide +kernel
theorem dX1_secrecy_215 : decode cX1_secrecy 215 = .ok (.ireturn, 1) := by decide +kernel
theorem dX1_choose_0 : decode cX1_choose 0 = .ok (.iload 4, 2) := by decide +kernel
theorem dX1_choose_2 : decode cX1_choose 2 = .ok (.aload_n 0, 1) := by decide +kernel
theorem dX1_choose_3 : decode cX1_choose 3 = .ok (.getfield 541, 3) := by decide +kernel
theorem dX1_choose_6 : decode cX1_choose 6 = .ok (.if_icmp .le 4, 3) := by decide +kernel
theorem dX1_choose_9 : decode cX1_choose 9 = .ok (.return_, 1) := by decide +kernel
theorem dX1_choose_10 : decode cX1_choose 10 = .ok (.aload_n 0, 1) := by decide +kernel
theorem dX1_choose_11 : decode cX1_choose 11 = .ok (.aload_n 1, 1) := by decide +kernel
theorem dX1_choose_12 : decode cX1_choose 12 = .ok (.iload_n 2, 1) := by decide +kernel
theorem dX1_choose_13 : decode cX1_choose 13 = .ok (.iload 5, 2) := by decide +kernel
theorem dX1_choose_15 : decode cX1_choose 15 = .ok (.invokevirtual 542, 3) := by decide +kernel
theorem dX1_choose_18 : decode cX1_choose 18 = .ok (.ifCond .eq 32, 3) := by decide +kernel
theorem dX1_choose_21 : decode cX1_choose 21 = .ok (.iload 4, 2) := by decide +kernel
theorem dX1_choose_23 : decode cX1_choose 23 = .ok (.aload_n 0, 1) := by decide +kernel
theorem dX1_choose_24 : decode cX1_choose 24 = .ok (.getfield 541, 3) := by decide +kernel
theorem dX1_choose_27 : decode cX1_choose 27 = .ok (.if_icmp .lt 11, 3) := by decide +kernel
theorem dX1_choose_30 : decode cX1_choose 30 = .ok (.iload_n 2, 1) := by decide +kernel
theorem dX1_choose_31 : decode cX1_choose 31 = .ok (.aload_n 0, 1) := by decide +kernel
theorem dX1_choose_32 : decode cX1_choose 32 = .ok (.getfield 546, 3) := by decide +kernel
theorem dX1_choose_35 : decode cX1_choose 35 = .ok (.if_icmp .ge 14, 3) := by decide +kernel
theorem dX1_choose_38 : decode cX1_choose 38 = .ok (.aload_n 0, 1) := by decide +kernel
theorem dX1_choose_39 : decode cX1_choose 39 = .ok (.iload 4, 2) := by decide +kernel
theorem dX1_choose_41 : decode cX1_choose 41 = .ok (.putfield 541, 3) := by decide +kernel
theorem dX1_choose_44 : decode cX1_choose 44 = .ok (.aload_n 0, 1) := by decide +kernel
theorem dX1_choose_45 : decode cX1_choose 45 = .ok (.iload_n 2, 1) := by decide +kernel
theorem dX1_choose_46 : decode cX1_choose 46 = .ok (.putfield 546, 3) := by decide +kernel
theorem dX1_choose_49 : decode cX1_choose 49 = .ok (.return_, 1) := by decide +kernel
theorem dX1_choose_50 : decode cX1_choose 50 = .ok (.iconst 1, 1) := by decide +kernel
theorem dX1_choose_51 : decode cX1_choose 51 = .ok (.aload_n 1, 1) := by decide +kernel
theorem dX1_choose_52 : decode cX1_choose 52 = .ok (.invokevirtual 503, 3) := by decide +kernel
theorem dX1_choose_55 : decode cX1_choose 55 = .ok (.ishl, 1) := by decide +kernel
theorem dX1_choose_56 : decode cX1_choose 56 = .ok (.iconst 1, 1) := by decide +kernel
theorem dX1_choose_57 : decode cX1_choose 57 = .ok (.iload_n 3, 1) := by decide +kernel
theorem dX1_choose_58 : decode cX1_choose 58 = .ok (.aload_n 1, 1) := by decide +kernel
theorem dX1_choose_59 : decode cX1_choose 59 = .ok (.invokevirtual 503, 3) := by decide +kernel
theorem dX1_choose_62 : decode cX1_choose 62 = .ok (.invokestatic 538, 3) := by decide +kernel
theorem dX1_choose_65 : decode cX1_choose 65 = .ok (.ishl, 1) := by decide +kernel
theorem dX1_choose_66 : decode cX1_choose 66 = .ok (.isub, 1) := by decide +kernel
theorem dX1_choose_67 : decode cX1_choose 67 = .ok (.istore 6, 2) := by decide +kernel
theorem dX1_choose_69 : decode cX1_choose 69 = .ok (.iload_n 3, 1) := by decide +kernel
theorem dX1_choose_70 : decode cX1_choose 70 = .ok (.aload_n 1, 1) := by decide +kernel
theorem dX1_choose_71 : decode cX1_choose 71 = .ok (.invokevirtual 503, 3) := by decide +kernel
theorem dX1_choose_74 : decode cX1_choose 74 = .ok (.if_icmp .eq 17, 3) := by decide +kernel
theorem dX1_choose_77 : decode cX1_choose 77 = .ok (.aload_n 0, 1) := by decide +kernel
theorem dX1_choose_78 : decode cX1_choose 78 = .ok (.aload_n 1, 1) := by decide +kernel
theorem dX1_choose_79 : decode cX1_choose 79 = .ok (.iload_n 2, 1) := by decide +kernel
theorem dX1_choose_80 : decode cX1_choose 80 = .ok (.iload 6, 2) := by decide +kernel
theorem dX1_choose_82 : decode cX1_choose 82 = .ok (.ior, 1) := by decide +kernel
theorem dX1_choose_83 : decode cX1_choose 83 = .ok (.iload 5, 2) := by decide +kernel
theorem dX1_choose_85 : decode cX1_choose 85 = .ok (.invokevirtual 542, 3) := by decide +kernel
theorem dX1_choose_88 : decode cX1_choose 88 = .ok (.ifCond .ne 4, 3) := by decide +kernel
theorem dX1_choose_91 : decode cX1_choose 91 = .ok (.return_, 1) := by decide +kernel
theorem dX1_choose_92 : decode cX1_choose 92 = .ok (.iload_n 2, 1) := by decide +kernel
theorem dX1_choose_93 : decode cX1_choose 93 = .ok (.iload_n 3, 1) := by decide +kernel
theorem dX1_choose_94 : decode cX1_choose 94 = .ok (.ishr, 1) := by decide +kernel
theorem dX1_choose_95 : decode cX1_choose 95 = .ok (.iconst 1, 1) := by decide +kernel
theorem dX1_choose_96 : decode cX1_choose 96 = .ok (.iand, 1) := by decide +kernel
theorem dX1_choose_97 : decode cX1_choose 97 = .ok (.ifCond .ne 29, 3) := by decide +kernel
theorem dX1_choose_100 : decode cX1_choose 100 = .ok (.aload_n 0, 1) := by decide +kernel
theorem dX1_choose_101 : decode cX1_choose 101 = .ok (.aload_n 1, 1) := by decide +kernel
theorem dX1_choose_102 : decode cX1_choose 102 = .ok (.iload_n 2, 1) := by decide +kernel
theorem dX1_choose_103 : decode cX1_choose 103 = .ok (.iconst 1, 1) := by decide +kernel
theorem dX1_choose_104 : decode cX1_choose 104 = .ok (.iload_n 3, 1) := by decide +kernel
theorem dX1_choose_105 : decode cX1_choose 105 = .ok (.ishl, 1) := by decide +kernel
theorem dX1_choose_106 : decode cX1_choose 106 = .ok (.ior, 1) := by decide +kernel
theorem dX1_choose_107 : decode cX1_choose 107 = .ok (.iload_n 3, 1) := by decide +kernel
theorem dX1_choose_108 : decode cX1_choose 108 = .ok (.iconst 1, 1) := by decide +kernel
theorem dX1_choose_109 : decode cX1_choose 109 = .ok (.iadd, 1) := by decide +kernel
theorem dX1_choose_110 : decode cX1_choose 110 = .ok (.iload 4, 2) := by decide +kernel
theorem dX1_choose_112 : decode cX1_choose 112 = .ok (.aload_n 1, 1) := by decide +kernel
theorem dX1_choose_113 : decode cX1_choose 113 = .ok (.getfield 494, 3) := by decide +kernel
theorem dX1_choose_116 : decode cX1_choose 116 = .ok (.iload_n 3, 1) := by decide +kernel
theorem dX1_choose_117 : decode cX1_choose 117 = .ok (.iaload, 1) := by decide +kernel
theorem dX1_choose_118 : decode cX1_choose 118 = .ok (.iadd, 1) := by decide +kernel
theorem dX1_choose_119 : decode cX1_choose 119 = .ok (.iconst 1, 1) := by decide +kernel
theorem dX1_choose_120 : decode cX1_choose 120 = .ok (.iadd, 1) := by decide +kernel
theorem dX1_choose_121 : decode cX1_choose 121 = .ok (.iload 5, 2) := by decide +kernel
theorem dX1_choose_123 : decode cX1_choose 123 = .ok (.invokevirtual 547, 3) := by decide +kernel
theorem dX1_choose_126 : decode cX1_choose 126 = .ok (.aload_n 0, 1) := by decide +kernel
theorem dX1_choose_127 : decode cX1_choose 127 = .ok (.aload_n 1, 1) := by decide +kernel
theorem dX1_choose_128 : decode cX1_choose 128 = .ok (.iload_n 2, 1) := by decide +kernel
theorem dX1_choose_129 : decode cX1_choose 129 = .ok (.iload_n 3, 1) := by decide +kernel
theorem dX1_choose_130 : decode cX1_choose 130 = .ok (.iconst 1, 1) := by decide +kernel
theorem dX1_choose_131 : decode cX1_choose 131 = .ok (.iadd, 1) := by decide +kernel
theorem dX1_choose_132 : decode cX1_choose 132 = .ok (.iload 4, 2) := by decide +kernel
theorem dX1_choose_134 : decode cX1_choose 134 = .ok (.iload 5, 2) := by decide +kernel
theorem dX1_choose_136 : decode cX1_choose 136 = .ok (.invokevirtual 547, 3) := by decide +kernel
theorem dX1_choose_139 : decode cX1_choose 139 = .ok (.return_, 1) := by decide +kernel
theorem dX1_isGood_0 : decode cX1_isGood 0 = .ok (.iconst 0, 1) := by decide +kernel
theorem dX1_isGood_1 : decode cX1_isGood 1 = .ok (.istore 4, 2) := by decide +kernel
theorem dX1_isGood_3 : decode cX1_isGood 3 = .ok (.iload 4, 2) := by decide +kernel
theorem dX1_isGood_5 : decode cX1_isGood 5 = .ok (.aload_n 1, 1) := by decide +kernel
theorem dX1_isGood_6 : decode cX1_isGood 6 = .ok (.invokevirtual 503, 3) := by decide +kernel
theorem dX1_isGood_9 : decode cX1_isGood 9 = .ok (.if_icmp .ge 71, 3) := by decide +kernel
theorem dX1_isGood_12 : decode cX1_isGood 12 = .ok (.aload_n 1, 1) := by decide +kernel
theorem dX1_isGood_13 : decode cX1_isGood 13 = .ok (.getfield 535, 3) := by decide +kernel
theorem dX1_isGood_16 : decode cX1_isGood 16 = .ok (.iload 4, 2) := by decide +kernel
theorem dX1_isGood_18 : decode cX1_isGood 18 = .ok (.ishr, 1) := by decide +kernel
theorem dX1_isGood_19 : decode cX1_isGood 19 = .ok (.iconst 1, 1) := by decide +kernel
theorem dX1_isGood_20 : decode cX1_isGood 20 = .ok (.iand, 1) := by decide +kernel
theorem dX1_isGood_21 : decode cX1_isGood 21 = .ok (.ifCond .ne 6, 3) := by decide +kernel
theorem dX1_isGood_24 : decode cX1_isGood 24 = .ok (.goto 50, 3) := by decide +kernel
theorem dX1_isGood_27 : decode cX1_isGood 27 = .ok (.aload_n 0, 1) := by decide +kernel
theorem dX1_isGood_28 : decode cX1_isGood 28 = .ok (.aload_n 1, 1) := by decide +kernel
theorem dX1_isGood_29 : decode cX1_isGood 29 = .ok (.iload_n 2, 1) := by decide +kernel
theorem dX1_isGood_30 : decode cX1_isGood 30 = .ok (.iload 4, 2) := by decide +kernel
theorem dX1_isGood_32 : decode cX1_isGood 32 = .ok (.iconst 1, 1) := by decide +kernel
theorem dX1_isGood_33 : decode cX1_isGood 33 = .ok (.iload_n 3, 1) := by decide +kernel
theorem dX1_isGood_34 : decode cX1_isGood 34 = .ok (.invokevirtual 531, 3) := by decide +kernel
theorem dX1_isGood_37 : decode cX1_isGood 37 = .ok (.iload_n 3, 1) := by decide +kernel
theorem dX1_isGood_38 : decode cX1_isGood 38 = .ok (.if_icmp .ge 5, 3) := by decide +kernel
theorem dX1_isGood_41 : decode cX1_isGood 41 = .ok (.iconst 0, 1) := by decide +kernel
theorem dX1_isGood_42 : decode cX1_isGood 42 = .ok (.ireturn, 1) := by decide +kernel
theorem dX1_isGood_43 : decode cX1_isGood 43 = .ok (.iload_n 3, 1) := by decide +kernel
theorem dX1_isGood_44 : decode cX1_isGood 44 = .ok (.aload_n 1, 1) := by decide +kernel
theorem dX1_isGood_45 : decode cX1_isGood 45 = .ok (.getfield 494, 3) := by decide +kernel
theorem dX1_isGood_48 : decode cX1_isGood 48 = .ok (.iload 4, 2) := by decide +kernel
theorem dX1_isGood_50 : decode cX1_isGood 50 = .ok (.iaload, 1) := by decide +kernel
theorem dX1_isGood_51 : decode cX1_isGood 51 = .ok (.invokestatic 538, 3) := by decide +kernel
theorem dX1_isGood_54 : decode cX1_isGood 54 = .ok (.istore 5, 2) := by decide +kernel
theorem dX1_isGood_56 : decode cX1_isGood 56 = .ok (.aload_n 0, 1) := by decide +kernel
theorem dX1_isGood_57 : decode cX1_isGood 57 = .ok (.aload_n 1, 1) := by decide +kernel
theorem dX1_isGood_58 : decode cX1_isGood 58 = .ok (.iload_n 2, 1) := by decide +kernel
theorem dX1_isGood_59 : decode cX1_isGood 59 = .ok (.iload 4, 2) := by decide +kernel
theorem dX1_isGood_61 : decode cX1_isGood 61 = .ok (.iconst 0, 1) := by decide +kernel
theorem dX1_isGood_62 : decode cX1_isGood 62 = .ok (.iload 5, 2) := by decide +kernel
theorem dX1_isGood_64 : decode cX1_isGood 64 = .ok (.invokevirtual 531, 3) := by decide +kernel
theorem dX1_isGood_67 : decode cX1_isGood 67 = .ok (.iload 5, 2) := by decide +kernel
theorem dX1_isGood_69 : decode cX1_isGood 69 = .ok (.if_icmp .ge 5, 3) := by decide +kernel
theorem dX1_isGood_72 : decode cX1_isGood 72 = .ok (.iconst 0, 1) := by decide +kernel
theorem dX1_isGood_73 : decode cX1_isGood 73 = .ok (.ireturn, 1) := by decide +kernel
theorem dX1_isGood_74 : decode cX1_isGood 74 = .ok (.iinc 4 1, 3) := by decide +kernel
theorem dX1_isGood_77 : decode cX1_isGood 77 = .ok (.goto (-74), 3) := by decide +kernel
theorem dX1_isGood_80 : decode cX1_isGood 80 = .ok (.iconst 1, 1) := by decide +kernel
theorem dX1_isGood_81 : decode cX1_isGood 81 = .ok (.ireturn, 1) := by decide +kernel
theorem dX1_reach_0 : decode cX1_reach 0 = .ok (.aload_n 0, 1) := by decide +kernel
theorem dX1_reach_1 : decode cX1_reach 1 = .ok (.getfield 106, 3) := by decide +kernel
theorem dX1_reach_4 : decode cX1_reach 4 = .ok (.invokevirtual 520, 3) := by decide +kernel
theorem dX1_reach_7 : decode cX1_reach 7 = .ok (.iconst 0, 1) := by decide +kernel
theorem dX1_reach_8 : decode cX1_reach 8 = .ok (.istore 6, 2) := by decide +kernel
theorem dX1_reach_10 : decode cX1_reach 10 = .ok (.iload 6, 2) := by decide +kernel
theorem dX1_reach_12 : decode cX1_reach 12 = .ok (.aload_n 1, 1) := by decide +kernel
theorem dX1_reach_13 : decode cX1_reach 13 = .ok (.invokevirtual 503, 3) := by decide +kernel
theorem dX1_reach_16 : decode cX1_reach 16 = .ok (.if_icmp .ge 119, 3) := by decide +kernel
theorem dX1_reach_19 : decode cX1_reach 19 = .ok (.iload_n 2, 1) := by decide +kernel
theorem dX1_reach_20 : decode cX1_reach 20 = .ok (.iload 6, 2) := by decide +kernel
theorem dX1_reach_22 : decode cX1_reach 22 = .ok (.ishr, 1) := by decide +kernel
theorem dX1_reach_23 : decode cX1_reach 23 = .ok (.iconst 1, 1) := by decide +kernel
theorem dX1_reach_24 : decode cX1_reach 24 = .ok (.iand, 1) := by decide +kernel
theorem dX1_reach_25 : decode cX1_reach 25 = .ok (.ifCond .eq 104, 3) := by decide +kernel
theorem dX1_reach_28 : decode cX1_reach 28 = .ok (.iload 6, 2) := by decide +kernel
theorem dX1_reach_30 : decode cX1_reach 30 = .ok (.iload_n 3, 1) := by decide +kernel
theorem dX1_reach_31 : decode cX1_reach 31 = .ok (.if_icmp .ne 6, 3) := by decide +kernel
theorem dX1_reach_34 : decode cX1_reach 34 = .ok (.goto 95, 3) := by decide +kernel
theorem dX1_reach_37 : decode cX1_reach 37 = .ok (.iload 6, 2) := by decide +kernel
theorem dX1_reach_39 : decode cX1_reach 39 = .ok (.aload_n 1, 1) := by decide +kernel
theorem dX1_reach_40 : decode cX1_reach 40 = .ok (.getfield 491, 3) := by decide +kernel
theorem dX1_reach_43 : decode cX1_reach 43 = .ok (.idiv, 1) := by decide +kernel
theorem dX1_reach_44 : decode cX1_reach 44 = .ok (.istore 7, 2) := by decide +kernel
theorem dX1_reach_46 : decode cX1_reach 46 = .ok (.iconst 4, 1) := by decide +kernel
theorem dX1_reach_47 : decode cX1_reach 47 = .ok (.iload 6, 2) := by decide +kernel
theorem dX1_reach_49 : decode cX1_reach 49 = .ok (.aload_n 1, 1) := by decide +kernel
theorem dX1_reach_50 : decode cX1_reach 50 = .ok (.getfield 491, 3) := by decide +kernel
theorem dX1_reach_53 : decode cX1_reach 53 = .ok (.irem, 1) := by decide +kernel
theorem dX1_reach_54 : decode cX1_reach 54 = .ok (.iadd, 1) := by decide +kernel
theorem dX1_reach_55 : decode cX1_reach 55 = .ok (.istore 8, 2) := by decide +kernel
theorem dX1_reach_57 : decode cX1_reach 57 = .ok (.aload_n 0, 1) := by decide +kernel
theorem dX1_reach_58 : decode cX1_reach 58 = .ok (.getfield 106, 3) := by decide +kernel
theorem dX1_reach_61 : decode cX1_reach 61 = .ok (.iload 4, 2) := by decide +kernel
theorem dX1_reach_63 : decode cX1_reach 63 = .ok (.ifCond .eq 8, 3) := by decide +kernel
theorem dX1_reach_66 : decode cX1_reach 66 = .ok (.iload 7, 2) := by decide +kernel
theorem dX1_reach_68 : decode cX1_reach 68 = .ok (.goto 5, 3) := by decide +kernel
theorem dX1_reach_71 : decode cX1_reach 71 = .ok (.iload 8, 2) := by decide +kernel
theorem dX1_reach_73 : decode cX1_reach 73 = .ok (.iload 4, 2) := by decide +kernel
theorem dX1_reach_75 : decode cX1_reach 75 = .ok (.ifCond .eq 8, 3) := by decide +kernel
theorem dX1_reach_78 : decode cX1_reach 78 = .ok (.iload 8, 2) := by decide +kernel
theorem dX1_reach_80 : decode cX1_reach 80 = .ok (.goto 5, 3) := by decide +kernel
theorem dX1_reach_83 : decode cX1_reach 83 = .ok (.iload 7, 2) := by decide +kernel
theorem dX1_reach_85 : decode cX1_reach 85 = .ok (.aload_n 1, 1) := by decide +kernel
theorem dX1_reach_86 : decode cX1_reach 86 = .ok (.getfield 494, 3) := by decide +kernel
theorem dX1_reach_89 : decode cX1_reach 89 = .ok (.iload 6, 2) := by decide +kernel
theorem dX1_reach_91 : decode cX1_reach 91 = .ok (.iaload, 1) := by decide +kernel
theorem dX1_reach_92 : decode cX1_reach 92 = .ok (.invokevirtual 523, 3) := by decide +kernel
theorem dX1_reach_95 : decode cX1_reach 95 = .ok (.aload_n 0, 1) := by decide +kernel
theorem dX1_reach_96 : decode cX1_reach 96 = .ok (.getfield 106, 3) := by decide +kernel
theorem dX1_reach_99 : decode cX1_reach 99 = .ok (.iload 4, 2) := by decide +kernel
theorem dX1_reach_101 : decode cX1_reach 101 = .ok (.ifCond .eq 8, 3) := by decide +kernel
theorem dX1_reach_104 : decode cX1_reach 104 = .ok (.iload 8, 2) := by decide +kernel
theorem dX1_reach_106 : decode cX1_reach 106 = .ok (.goto 5, 3) := by decide +kernel
theorem dX1_reach_109 : decode cX1_reach 109 = .ok (.iload 7, 2) := by decide +kernel
theorem dX1_reach_111 : decode cX1_reach 111 = .ok (.iload 4, 2) := by decide +kernel
theorem dX1_reach_113 : decode cX1_reach 113 = .ok (.ifCond .eq 8, 3) := by decide +kernel
theorem dX1_reach_116 : decode cX1_reach 116 = .ok (.iload 7, 2) := by decide +kernel
theorem dX1_reach_118 : decode cX1_reach 118 = .ok (.goto 5, 3) := by decide +kernel
theorem dX1_reach_121 : decode cX1_reach 121 = .ok (.iload 8, 2) := by decide +kernel
theorem dX1_reach_123 : decode cX1_reach 123 = .ok (.ldc_w 526, 3) := by decide +kernel
theorem dX1_reach_126 : decode cX1_reach 126 = .ok (.invokevirtual 523, 3) := by decide +kernel
theorem dX1_reach_129 : decode cX1_reach 129 = .ok (.iinc 6 1, 3) := by decide +kernel
theorem dX1_reach_132 : decode cX1_reach 132 = .ok (.goto (-122), 3) := by decide +kernel
theorem dX1_reach_135 : decode cX1_reach 135 = .ok (.aload_n 0, 1) := by decide +kernel
theorem dX1_reach_136 : decode cX1_reach 136 = .ok (.getfield 106, 3) := by decide +kernel
theorem dX1_reach_139 : decode cX1_reach 139 = .ok (.iload_n 3, 1) := by decide +kernel
theorem dX1_reach_140 : decode cX1_reach 140 = .ok (.aload_n 1, 1) := by decide +kernel
theorem dX1_reach_141 : decode cX1_reach 141 = .ok (.getfield 491, 3) := by decide +kernel
theorem dX1_reach_144 : decode cX1_reach 144 = .ok (.idiv, 1) := by decide +kernel
theorem dX1_reach_145 : decode cX1_reach 145 = .ok (.iconst 4, 1) := by decide +kernel
theorem dX1_reach_146 : decode cX1_reach 146 = .ok (.iload_n 3, 1) := by decide +kernel
theorem dX1_reach_147 : decode cX1_reach 147 = .ok (.aload_n 1, 1) := by decide +kernel
theorem dX1_reach_148 : decode cX1_reach 148 = .ok (.getfield 491, 3) := by decide +kernel
theorem dX1_reach_151 : decode cX1_reach 151 = .ok (.irem, 1) := by decide +kernel
theorem dX1_reach_152 : decode cX1_reach 152 = .ok (.iadd, 1) := by decide +kernel
theorem dX1_reach_153 : decode cX1_reach 153 = .ok (.iload 5, 2) := by decide +kernel
theorem dX1_reach_155 : decode cX1_reach 155 = .ok (.invokevirtual 527, 3) := by decide +kernel
theorem dX1_reach_158 : decode cX1_reach 158 = .ok (.ireturn, 1) := by decide +kernel
theorem dX1_secret_0 : decode cX1_secret 0 = .ok (.aload_n 0, 1) := by decide +kernel
theorem dX1_secret_1 : decode cX1_secret 1 = .ok (.iload_n 1, 1) := by decide +kernel
theorem dX1_secret_2 : decode cX1_secret 2 = .ok (.iload_n 2, 1) := by decide +kernel
theorem dX1_secret_3 : decode cX1_secret 3 = .ok (.iload_n 3, 1) := by decide +kernel
theorem dX1_secret_4 : decode cX1_secret 4 = .ok (.invokevirtual 554, 3) := by decide +kernel
theorem dX1_secret_7 : decode cX1_secret 7 = .ok (.astore 4, 2) := by decide +kernel
theorem dX1_secret_9 : decode cX1_secret 9 = .ok (.iload_n 2, 1) := by decide +kernel
theorem dX1_secret_10 : decode cX1_secret 10 = .ok (.aload 4, 2) := by decide +kernel
theorem dX1_secret_12 : decode cX1_secret 12 = .ok (.getfield 491, 3) := by decide +kernel
theorem dX1_secret_15 : decode cX1_secret 15 = .ok (.imul, 1) := by decide +kernel
theorem dX1_secret_16 : decode cX1_secret 16 = .ok (.iload_n 3, 1) := by decide +kernel
theorem dX1_secret_17 : decode cX1_secret 17 = .ok (.iadd, 1) := by decide +kernel
theorem dX1_secret_18 : decode cX1_secret 18 = .ok (.istore 5, 2) := by decide +kernel
theorem dX1_secret_20 : decode cX1_secret 20 = .ok (.aload 4, 2) := by decide +kernel
theorem dX1_secret_22 : decode cX1_secret 22 = .ok (.getfield 551, 3) := by decide +kernel
theorem dX1_secret_25 : decode cX1_secret 25 = .ok (.iload 5, 2) := by decide +kernel
theorem dX1_secret_27 : decode cX1_secret 27 = .ok (.ishr, 1) := by decide +kernel
theorem dX1_secret_28 : decode cX1_secret 28 = .ok (.iconst 1, 1) := by decide +kernel
theorem dX1_secret_29 : decode cX1_secret 29 = .ok (.iand, 1) := by decide +kernel
theorem dX1_secret_30 : decode cX1_secret 30 = .ok (.ifCond .ne 7, 3) := by decide +kernel
theorem dX1_secret_33 : decode cX1_secret 33 = .ok (.iconst 0, 1) := by decide +kernel
theorem dX1_secret_34 : decode cX1_secret 34 = .ok (.goto 21, 3) := by decide +kernel
theorem dX1_secret_37 : decode cX1_secret 37 = .ok (.aload 4, 2) := by decide +kernel
theorem dX1_secret_39 : decode cX1_secret 39 = .ok (.getfield 535, 3) := by decide +kernel
theorem dX1_secret_42 : decode cX1_secret 42 = .ok (.iload 5, 2) := by decide +kernel
theorem dX1_secret_44 : decode cX1_secret 44 = .ok (.ishr, 1) := by decide +kernel
theorem dX1_secret_45 : decode cX1_secret 45 = .ok (.iconst 1, 1) := by decide +kernel
theorem dX1_secret_46 : decode cX1_secret 46 = .ok (.iand, 1) := by decide +kernel
theorem dX1_secret_47 : decode cX1_secret 47 = .ok (.ifCond .eq 7, 3) := by decide +kernel
theorem dX1_secret_50 : decode cX1_secret 50 = .ok (.iconst 1, 1) := by decide +kernel
theorem dX1_secret_51 : decode cX1_secret 51 = .ok (.goto 4, 3) := by decide +kernel
theorem dX1_secret_54 : decode cX1_secret 54 = .ok (.iconst 2, 1) := by decide +kernel
theorem dX1_secret_55 : decode cX1_secret 55 = .ok (.ireturn, 1) := by decide +kernel
theorem dX1_cellIn_0 : decode cX1_cellIn 0 = .ok (.aload_n 0, 1) := by decide +kernel
theorem dX1_cellIn_1 : decode cX1_cellIn 1 = .ok (.iload_n 1, 1) := by decide +kernel
theorem dX1_cellIn_2 : decode cX1_cellIn 2 = .ok (.invokevirtual 509, 3) := by decide +kernel
theorem dX1_cellIn_5 : decode cX1_cellIn 5 = .ok (.astore 4, 2) := by decide +kernel
theorem dX1_cellIn_7 : decode cX1_cellIn 7 = .ok (.iload_n 2, 1) := by decide +kernel
theorem dX1_cellIn_8 : decode cX1_cellIn 8 = .ok (.i2l, 1) := by decide +kernel
theorem dX1_cellIn_9 : decode cX1_cellIn 9 = .ok (.lconst 0, 1) := by decide +kernel
theorem dX1_cellIn_10 : decode cX1_cellIn 10 = .ok (.aload 4, 2) := by decide +kernel
theorem dX1_cellIn_12 : decode cX1_cellIn 12 = .ok (.getfield 513, 3) := by decide +kernel
theorem dX1_cellIn_15 : decode cX1_cellIn 15 = .ok (.iconst 1, 1) := by decide +kernel
theorem dX1_cellIn_16 : decode cX1_cellIn 16 = .ok (.isub, 1) := by decide +kernel
theorem dX1_cellIn_17 : decode cX1_cellIn 17 = .ok (.i2l, 1) := by decide +kernel
theorem dX1_cellIn_18 : decode cX1_cellIn 18 = .ok (.invokestatic 159, 3) := by decide +kernel
theorem dX1_cellIn_21 : decode cX1_cellIn 21 = .ok (.ifCond .eq 24, 3) := by decide +kernel
theorem dX1_cellIn_24 : decode cX1_cellIn 24 = .ok (.iload_n 3, 1) := by decide +kernel
theorem dX1_cellIn_25 : decode cX1_cellIn 25 = .ok (.i2l, 1) := by decide +kernel
theorem dX1_cellIn_26 : decode cX1_cellIn 26 = .ok (.lconst 0, 1) := by decide +kernel
theorem dX1_cellIn_27 : decode cX1_cellIn 27 = .ok (.aload 4, 2) := by decide +kernel
theorem dX1_cellIn_29 : decode cX1_cellIn 29 = .ok (.getfield 491, 3) := by decide +kernel
theorem dX1_cellIn_32 : decode cX1_cellIn 32 = .ok (.iconst 1, 1) := by decide +kernel
theorem dX1_cellIn_33 : decode cX1_cellIn 33 = .ok (.isub, 1) := by decide +kernel
theorem dX1_cellIn_34 : decode cX1_cellIn 34 = .ok (.i2l, 1) := by decide +kernel
theorem dX1_cellIn_35 : decode cX1_cellIn 35 = .ok (.invokestatic 159, 3) := by decide +kernel
theorem dX1_cellIn_38 : decode cX1_cellIn 38 = .ok (.ifCond .eq 7, 3) := by decide +kernel
theorem dX1_cellIn_41 : decode cX1_cellIn 41 = .ok (.iconst 1, 1) := by decide +kernel
theorem dX1_cellIn_42 : decode cX1_cellIn 42 = .ok (.goto 4, 3) := by decide +kernel
theorem dX1_cellIn_45 : decode cX1_cellIn 45 = .ok (.iconst 0, 1) := by decide +kernel
theorem dX1_cellIn_46 : decode cX1_cellIn 46 = .ok (.invokestatic 171, 3) := by decide +kernel
theorem dX1_cellIn_49 : decode cX1_cellIn 49 = .ok (.aload 4, 2) := by decide +kernel
theorem dX1_cellIn_51 : decode cX1_cellIn 51 = .ok (.areturn, 1) := by decide +kernel
theorem dX1_interval_0 : decode cX1_interval 0 = .ok (.aload_n 0, 1) := by decide +kernel
theorem dX1_interval_1 : decode cX1_interval 1 = .ok (.iload_n 1, 1) := by decide +kernel
theorem dX1_interval_2 : decode cX1_interval 2 = .ok (.iload_n 2, 1) := by decide +kernel
theorem dX1_interval_3 : decode cX1_interval 3 = .ok (.iload_n 3, 1) := by decide +kernel
theorem dX1_interval_4 : decode cX1_interval 4 = .ok (.invokevirtual 554, 3) := by decide +kernel
theorem dX1_interval_7 : decode cX1_interval 7 = .ok (.astore 5, 2) := by decide +kernel
theorem dX1_interval_9 : decode cX1_interval 9 = .ok (.aload_n 0, 1) := by decide +kernel
theorem dX1_interval_10 : decode cX1_interval 10 = .ok (.aload 5, 2) := by decide +kernel
theorem dX1_interval_12 : decode cX1_interval 12 = .ok (.aload 5, 2) := by decide +kernel
theorem dX1_interval_14 : decode cX1_interval 14 = .ok (.getfield 551, 3) := by decide +kernel
theorem dX1_interval_17 : decode cX1_interval 17 = .ok (.iload_n 2, 1) := by decide +kernel
theorem dX1_interval_18 : decode cX1_interval 18 = .ok (.aload 5, 2) := by decide +kernel
theorem dX1_interval_20 : decode cX1_interval 20 = .ok (.getfield 491, 3) := by decide +kernel
theorem dX1_interval_23 : decode cX1_interval 23 = .ok (.imul, 1) := by decide +kernel
theorem dX1_interval_24 : decode cX1_interval 24 = .ok (.iload_n 3, 1) := by decide +kernel
theorem dX1_interval_25 : decode cX1_interval 25 = .ok (.iadd, 1) := by decide +kernel
theorem dX1_interval_26 : decode cX1_interval 26 = .ok (.iload 4, 2) := by decide +kernel
theorem dX1_interval_28 : decode cX1_interval 28 = .ok (.invokevirtual 558, 3) := by decide +kernel
theorem dX1_interval_31 : decode cX1_interval 31 = .ok (.ireturn, 1) := by decide +kernel
theorem dX1_end_0 : decode cX1_end 0 = .ok (.iload_n 2, 1) := by decide +kernel
theorem dX1_end_1 : decode cX1_end 1 = .ok (.iload_n 3, 1) := by decide +kernel
theorem dX1_end_2 : decode cX1_end 2 = .ok (.ishr, 1) := by decide +kernel
theorem dX1_end_3 : decode cX1_end 3 = .ok (.iconst 1, 1) := by decide +kernel
theorem dX1_end_4 : decode cX1_end 4 = .ok (.iand, 1) := by decide +kernel
theorem dX1_end_5 : decode cX1_end 5 = .ok (.ifCond .ne 10, 3) := by decide +kernel
theorem dX1_end_8 : decode cX1_end 8 = .ok (.aload_n 1, 1) := by decide +kernel
theorem dX1_end_9 : decode cX1_end 9 = .ok (.getfield 494, 3) := by decide +kernel
theorem dX1_end_12 : decode cX1_end 12 = .ok (.iload_n 3, 1) := by decide +kernel
theorem dX1_end_13 : decode cX1_end 13 = .ok (.iaload, 1) := by decide +kernel
theorem dX1_end_14 : decode cX1_end 14 = .ok (.ireturn, 1) := by decide +kernel
theorem dX1_end_15 : decode cX1_end 15 = .ok (.iload 4, 2) := by decide +kernel
theorem dX1_end_17 : decode cX1_end 17 = .ok (.ifCond .eq 24, 3) := by decide +kernel
theorem dX1_end_20 : decode cX1_end 20 = .ok (.aload_n 1, 1) := by decide +kernel
theorem dX1_end_21 : decode cX1_end 21 = .ok (.getfield 494, 3) := by decide +kernel
theorem dX1_end_24 : decode cX1_end 24 = .ok (.iload_n 3, 1) := by decide +kernel
theorem dX1_end_25 : decode cX1_end 25 = .ok (.iaload, 1) := by decide +kernel
theorem dX1_end_26 : decode cX1_end 26 = .ok (.aload_n 0, 1) := by decide +kernel
theorem dX1_end_27 : decode cX1_end 27 = .ok (.aload_n 1, 1) := by decide +kernel
theorem dX1_end_28 : decode cX1_end 28 = .ok (.iload_n 2, 1) := by decide +kernel
theorem dX1_end_29 : decode cX1_end 29 = .ok (.iload_n 3, 1) := by decide +kernel
theorem dX1_end_30 : decode cX1_end 30 = .ok (.iconst 1, 1) := by decide +kernel
theorem dX1_end_31 : decode cX1_end 31 = .ok (.ldc_w 526, 3) := by decide +kernel
theorem dX1_end_34 : decode cX1_end 34 = .ok (.invokevirtual 531, 3) := by decide +kernel
theorem dX1_end_37 : decode cX1_end 37 = .ok (.iadd, 1) := by decide +kernel
theorem dX1_end_38 : decode cX1_end 38 = .ok (.goto 24, 3) := by decide +kernel
theorem dX1_end_41 : decode cX1_end 41 = .ok (.aload_n 1, 1) := by decide +kernel
theorem dX1_end_42 : decode cX1_end 42 = .ok (.getfield 494, 3) := by decide +kernel
theorem dX1_end_45 : decode cX1_end 45 = .ok (.iload_n 3, 1) := by decide +kernel
theorem dX1_end_46 : decode cX1_end 46 = .ok (.iaload, 1) := by decide +kernel
theorem dX1_end_47 : decode cX1_end 47 = .ok (.aload_n 0, 1) := by decide +kernel
theorem dX1_end_48 : decode cX1_end 48 = .ok (.aload_n 1, 1) := by decide +kernel
theorem dX1_end_49 : decode cX1_end 49 = .ok (.iload_n 2, 1) := by decide +kernel
theorem dX1_end_50 : decode cX1_end 50 = .ok (.iload_n 3, 1) := by decide +kernel
theorem dX1_end_51 : decode cX1_end 51 = .ok (.iconst 0, 1) := by decide +kernel
theorem dX1_end_52 : decode cX1_end 52 = .ok (.aload_n 1, 1) := by decide +kernel
theorem dX1_end_53 : decode cX1_end 53 = .ok (.getfield 494, 3) := by decide +kernel
theorem dX1_end_56 : decode cX1_end 56 = .ok (.iload_n 3, 1) := by decide +kernel
theorem dX1_end_57 : decode cX1_end 57 = .ok (.iaload, 1) := by decide +kernel
theorem dX1_end_58 : decode cX1_end 58 = .ok (.invokevirtual 531, 3) := by decide +kernel
theorem dX1_end_61 : decode cX1_end 61 = .ok (.isub, 1) := by decide +kernel
theorem dX1_end_62 : decode cX1_end 62 = .ok (.ireturn, 1) := by decide +kernel
theorem dX1_round_0 : decode cX1_round 0 = .ok (.aload_n 0, 1) := by decide +kernel
theorem dX1_round_1 : decode cX1_round 1 = .ok (.iload_n 1, 1) := by decide +kernel
theorem dX1_round_2 : decode cX1_round 2 = .ok (.invokevirtual 509, 3) := by decide +kernel
theorem dX1_round_5 : decode cX1_round 5 = .ok (.astore_n 3, 1) := by decide +kernel
theorem dX1_round_6 : decode cX1_round 6 = .ok (.iload_n 2, 1) := by decide +kernel
theorem dX1_round_7 : decode cX1_round 7 = .ok (.i2l, 1) := by decide +kernel
theorem dX1_round_8 : decode cX1_round 8 = .ok (.lconst 1, 1) := by decide +kernel
theorem dX1_round_9 : decode cX1_round 9 = .ok (.ldc2_w 573, 3) := by decide +kernel
theorem dX1_round_12 : decode cX1_round 12 = .ok (.invokestatic 159, 3) := by decide +kernel
theorem dX1_round_15 : decode cX1_round 15 = .ok (.invokestatic 164, 3) := by decide +kernel
theorem dX1_round_18 : decode cX1_round 18 = .ok (.iconst 0, 1) := by decide +kernel
theorem dX1_round_19 : decode cX1_round 19 = .ok (.istore 4, 2) := by decide +kernel
theorem dX1_round_21 : decode cX1_round 21 = .ok (.iconst 0, 1) := by decide +kernel
theorem dX1_round_22 : decode cX1_round 22 = .ok (.istore 5, 2) := by decide +kernel
theorem dX1_round_24 : decode cX1_round 24 = .ok (.iload 5, 2) := by decide +kernel
theorem dX1_round_26 : decode cX1_round 26 = .ok (.aload_n 3, 1) := by decide +kernel
theorem dX1_round_27 : decode cX1_round 27 = .ok (.invokevirtual 503, 3) := by decide +kernel
theorem dX1_round_30 : decode cX1_round 30 = .ok (.if_icmp .ge 88, 3) := by decide +kernel
theorem dX1_round_33 : decode cX1_round 33 = .ok (.aload_n 0, 1) := by decide +kernel
theorem dX1_round_34 : decode cX1_round 34 = .ok (.getfield 116, 3) := by decide +kernel
theorem dX1_round_37 : decode cX1_round 37 = .ok (.iload 5, 2) := by decide +kernel
theorem dX1_round_39 : decode cX1_round 39 = .ok (.iconst 0, 1) := by decide +kernel
theorem dX1_round_40 : decode cX1_round 40 = .ok (.iastore, 1) := by decide +kernel
theorem dX1_round_41 : decode cX1_round 41 = .ok (.aload_n 3, 1) := by decide +kernel
theorem dX1_round_42 : decode cX1_round 42 = .ok (.getfield 494, 3) := by decide +kernel
theorem dX1_round_45 : decode cX1_round 45 = .ok (.iload 5, 2) := by decide +kernel
theorem dX1_round_47 : decode cX1_round 47 = .ok (.iaload, 1) := by decide +kernel
theorem dX1_round_48 : decode cX1_round 48 = .ok (.iload_n 2, 1) := by decide +kernel
theorem dX1_round_49 : decode cX1_round 49 = .ok (.irem, 1) := by decide +kernel
theorem dX1_round_50 : decode cX1_round 50 = .ok (.ifCond .eq 24, 3) := by decide +kernel
theorem dX1_round_53 : decode cX1_round 53 = .ok (.aload_n 0, 1) := by decide +kernel
theorem dX1_round_54 : decode cX1_round 54 = .ok (.aload_n 3, 1) := by decide +kernel
theorem dX1_round_55 : decode cX1_round 55 = .ok (.iload_n 2, 1) := by decide +kernel
theorem dX1_round_56 : decode cX1_round 56 = .ok (.iload 5, 2) := by decide +kernel
theorem dX1_round_58 : decode cX1_round 58 = .ok (.iconst 1, 1) := by decide +kernel
theorem dX1_round_59 : decode cX1_round 59 = .ok (.iadd, 1) := by decide +kernel
theorem dX1_round_60 : decode cX1_round 60 = .ok (.invokevirtual 575, 3) := by decide +kernel
theorem dX1_round_63 : decode cX1_round 63 = .ok (.ifCond .ne 11, 3) := by decide +kernel
theorem dX1_round_66 : decode cX1_round 66 = .ok (.aload_n 0, 1) := by decide +kernel
theorem dX1_round_67 : decode cX1_round 67 = .ok (.getfield 116, 3) := by decide +kernel
theorem dX1_round_70 : decode cX1_round 70 = .ok (.iload 5, 2) := by decide +kernel
theorem dX1_round_72 : decode cX1_round 72 = .ok (.iconst 1, 1) := by decide +kernel
theorem dX1_round_73 : decode cX1_round 73 = .ok (.iastore, 1) := by decide +kernel
theorem dX1_round_74 : decode cX1_round 74 = .ok (.aload_n 3, 1) := by decide +kernel
theorem dX1_round_75 : decode cX1_round 75 = .ok (.getfield 506, 3) := by decide +kernel
theorem dX1_round_78 : decode cX1_round 78 = .ok (.iload 5, 2) := by decide +kernel
theorem dX1_round_80 : decode cX1_round 80 = .ok (.aload_n 3, 1) := by decide +kernel
theorem dX1_round_81 : decode cX1_round 81 = .ok (.getfield 494, 3) := by decide +kernel
theorem dX1_round_84 : decode cX1_round 84 = .ok (.iload 5, 2) := by decide +kernel
theorem dX1_round_86 : decode cX1_round 86 = .ok (.iaload, 1) := by decide +kernel
theorem dX1_round_87 : decode cX1_round 87 = .ok (.iload_n 2, 1) := by decide +kernel
theorem dX1_round_88 : decode cX1_round 88 = .ok (.idiv, 1) := by decide +kernel
theorem dX1_round_89 : decode cX1_round 89 = .ok (.aload_n 0, 1) := by decide +kernel
theorem dX1_round_90 : decode cX1_round 90 = .ok (.getfield 116, 3) := by decide +kernel
theorem dX1_round_93 : decode cX1_round 93 = .ok (.iload 5, 2) := by decide +kernel
theorem dX1_round_95 : decode cX1_round 95 = .ok (.iaload, 1) := by decide +kernel
theorem dX1_round_96 : decode cX1_round 96 = .ok (.iadd, 1) := by decide +kernel
theorem dX1_round_97 : decode cX1_round 97 = .ok (.iload_n 2, 1) := by decide +kernel
theorem dX1_round_98 : decode cX1_round 98 = .ok (.imul, 1) := by decide +kernel
theorem dX1_round_99 : decode cX1_round 99 = .ok (.iastore, 1) := by decide +kernel
theorem dX1_round_100 : decode cX1_round 100 = .ok (.iload 4, 2) := by decide +kernel
theorem dX1_round_102 : decode cX1_round 102 = .ok (.aload_n 0, 1) := by decide +kernel
theorem dX1_round_103 : decode cX1_round 103 = .ok (.getfield 116, 3) := by decide +kernel
theorem dX1_round_106 : decode cX1_round 106 = .ok (.iload 5, 2) := by decide +kernel
theorem dX1_round_108 : decode cX1_round 108 = .ok (.iaload, 1) := by decide +kernel
theorem dX1_round_109 : decode cX1_round 109 = .ok (.iadd, 1) := by decide +kernel
theorem dX1_round_110 : decode cX1_round 110 = .ok (.istore 4, 2) := by decide +kernel
theorem dX1_round_112 : decode cX1_round 112 = .ok (.iinc 5 1, 3) := by decide +kernel
theorem dX1_round_115 : decode cX1_round 115 = .ok (.goto (-91), 3) := by decide +kernel
theorem dX1_round_118 : decode cX1_round 118 = .ok (.iload 4, 2) := by decide +kernel
theorem dX1_round_120 : decode cX1_round 120 = .ok (.ireturn, 1) := by decide +kernel
theorem dX1_isRight_0 : decode cX1_isRight 0 = .ok (.bipush 7, 2) := by decide +kernel
theorem dX1_isRight_2 : decode cX1_isRight 2 = .ok (.istore 4, 2) := by decide +kernel
theorem dX1_isRight_4 : decode cX1_isRight 4 = .ok (.iload 4, 2) := by decide +kernel
theorem dX1_isRight_6 : decode cX1_isRight 6 = .ok (.iconst 1, 1) := by decide +kernel
theorem dX1_isRight_7 : decode cX1_isRight 7 = .ok (.iadd, 1) := by decide +kernel
theorem dX1_isRight_8 : decode cX1_isRight 8 = .ok (.istore 5, 2) := by decide +kernel
theorem dX1_isRight_10 : decode cX1_isRight 10 = .ok (.iload 4, 2) := by decide +kernel
theorem dX1_isRight_12 : decode cX1_isRight 12 = .ok (.iconst 2, 1) := by decide +kernel
theorem dX1_isRight_13 : decode cX1_isRight 13 = .ok (.iadd, 1) := by decide +kernel
theorem dX1_isRight_14 : decode cX1_isRight 14 = .ok (.istore 6, 2) := by decide +kernel
theorem dX1_isRight_16 : decode cX1_isRight 16 = .ok (.iload 4, 2) := by decide +kernel
theorem dX1_isRight_18 : decode cX1_isRight 18 = .ok (.iconst 3, 1) := by decide +kernel
theorem dX1_isRight_19 : decode cX1_isRight 19 = .ok (.iadd, 1) := by decide +kernel
theorem dX1_isRight_20 : decode cX1_isRight 20 = .ok (.istore 7, 2) := by decide +kernel
theorem dX1_isRight_22 : decode cX1_isRight 22 = .ok (.aload_n 0, 1) := by decide +kernel
theorem dX1_isRight_23 : decode cX1_isRight 23 = .ok (.getfield 106, 3) := by decide +kernel
theorem dX1_isRight_26 : decode cX1_isRight 26 = .ok (.invokevirtual 520, 3) := by decide +kernel
theorem dX1_isRight_29 : decode cX1_isRight 29 = .ok (.aload_n 0, 1) := by decide +kernel
theorem dX1_isRight_30 : decode cX1_isRight 30 = .ok (.iload 5, 2) := by decide +kernel
theorem dX1_isRight_32 : decode cX1_isRight 32 = .ok (.iload 4, 2) := by decide +kernel
theorem dX1_isRight_34 : decode cX1_isRight 34 = .ok (.aload_n 1, 1) := by decide +kernel
theorem dX1_isRight_35 : decode cX1_isRight 35 = .ok (.iload_n 2, 1) := by decide +kernel
theorem dX1_isRight_36 : decode cX1_isRight 36 = .ok (.aload_n 1, 1) := by decide +kernel
theorem dX1_isRight_37 : decode cX1_isRight 37 = .ok (.getfield 513, 3) := by decide +kernel
theorem dX1_isRight_40 : decode cX1_isRight 40 = .ok (.aload_n 1, 1) := by decide +kernel
theorem dX1_isRight_41 : decode cX1_isRight 41 = .ok (.getfield 491, 3) := by decide +kernel
theorem dX1_isRight_44 : decode cX1_isRight 44 = .ok (.iconst 0, 1) := by decide +kernel
theorem dX1_isRight_45 : decode cX1_isRight 45 = .ok (.invokestatic 565, 3) := by decide +kernel
theorem dX1_isRight_48 : decode cX1_isRight 48 = .ok (.aload_n 1, 1) := by decide +kernel
theorem dX1_isRight_49 : decode cX1_isRight 49 = .ok (.iload_n 2, 1) := by decide +kernel
theorem dX1_isRight_50 : decode cX1_isRight 50 = .ok (.aload_n 1, 1) := by decide +kernel
theorem dX1_isRight_51 : decode cX1_isRight 51 = .ok (.getfield 513, 3) := by decide +kernel
theorem dX1_isRight_54 : decode cX1_isRight 54 = .ok (.aload_n 1, 1) := by decide +kernel
theorem dX1_isRight_55 : decode cX1_isRight 55 = .ok (.getfield 491, 3) := by decide +kernel
theorem dX1_isRight_58 : decode cX1_isRight 58 = .ok (.iconst 1, 1) := by decide +kernel
theorem dX1_isRight_59 : decode cX1_isRight 59 = .ok (.invokestatic 565, 3) := by decide +kernel
theorem dX1_isRight_62 : decode cX1_isRight 62 = .ok (.iload 6, 2) := by decide +kernel
theorem dX1_isRight_64 : decode cX1_isRight 64 = .ok (.iload 7, 2) := by decide +kernel
theorem dX1_isRight_66 : decode cX1_isRight 66 = .ok (.invokevirtual 569, 3) := by decide +kernel
theorem dX1_isRight_69 : decode cX1_isRight 69 = .ok (.istore 8, 2) := by decide +kernel
theorem dX1_isRight_71 : decode cX1_isRight 71 = .ok (.iconst 0, 1) := by decide +kernel
theorem dX1_isRight_72 : decode cX1_isRight 72 = .ok (.istore 9, 2) := by decide +kernel
theorem dX1_isRight_74 : decode cX1_isRight 74 = .ok (.iload 9, 2) := by decide +kernel
theorem dX1_isRight_76 : decode cX1_isRight 76 = .ok (.aload_n 1, 1) := by decide +kernel
theorem dX1_isRight_77 : decode cX1_isRight 77 = .ok (.getfield 513, 3) := by decide +kernel
theorem dX1_isRight_80 : decode cX1_isRight 80 = .ok (.if_icmp .ge 50, 3) := by decide +kernel
theorem dX1_isRight_83 : decode cX1_isRight 83 = .ok (.iload 8, 2) := by decide +kernel
theorem dX1_isRight_85 : decode cX1_isRight 85 = .ok (.aload_n 0, 1) := by decide +kernel
theorem dX1_isRight_86 : decode cX1_isRight 86 = .ok (.iload 4, 2) := by decide +kernel
theorem dX1_isRight_88 : decode cX1_isRight 88 = .ok (.iload 9, 2) := by decide +kernel
theorem dX1_isRight_90 : decode cX1_isRight 90 = .ok (.aload_n 1, 1) := by decide +kernel
theorem dX1_isRight_91 : decode cX1_isRight 91 = .ok (.iload_n 2, 1) := by decide +kernel
theorem dX1_isRight_92 : decode cX1_isRight 92 = .ok (.iload 9, 2) := by decide +kernel
theorem dX1_isRight_94 : decode cX1_isRight 94 = .ok (.aload_n 1, 1) := by decide +kernel
theorem dX1_isRight_95 : decode cX1_isRight 95 = .ok (.getfield 491, 3) := by decide +kernel
theorem dX1_isRight_98 : decode cX1_isRight 98 = .ok (.iconst 0, 1) := by decide +kernel
theorem dX1_isRight_99 : decode cX1_isRight 99 = .ok (.invokestatic 565, 3) := by decide +kernel
theorem dX1_isRight_102 : decode cX1_isRight 102 = .ok (.aload_n 1, 1) := by decide +kernel
theorem dX1_isRight_103 : decode cX1_isRight 103 = .ok (.iload_n 2, 1) := by decide +kernel
theorem dX1_isRight_104 : decode cX1_isRight 104 = .ok (.iload 9, 2) := by decide +kernel
theorem dX1_isRight_106 : decode cX1_isRight 106 = .ok (.aload_n 1, 1) := by decide +kernel
theorem dX1_isRight_107 : decode cX1_isRight 107 = .ok (.getfield 491, 3) := by decide +kernel
theorem dX1_isRight_110 : decode cX1_isRight 110 = .ok (.iconst 1, 1) := by decide +kernel
theorem dX1_isRight_111 : decode cX1_isRight 111 = .ok (.invokestatic 565, 3) := by decide +kernel
theorem dX1_isRight_114 : decode cX1_isRight 114 = .ok (.iload 6, 2) := by decide +kernel
theorem dX1_isRight_116 : decode cX1_isRight 116 = .ok (.iload 7, 2) := by decide +kernel
theorem dX1_isRight_118 : decode cX1_isRight 118 = .ok (.invokevirtual 569, 3) := by decide +kernel
theorem dX1_isRight_121 : decode cX1_isRight 121 = .ok (.iadd, 1) := by decide +kernel
theorem dX1_isRight_122 : decode cX1_isRight 122 = .ok (.istore 8, 2) := by decide +kernel
theorem dX1_isRight_124 : decode cX1_isRight 124 = .ok (.iinc 9 1, 3) := by decide +kernel
theorem dX1_isRight_127 : decode cX1_isRight 127 = .ok (.goto (-53), 3) := by decide +kernel
theorem dX1_isRight_130 : decode cX1_isRight 130 = .ok (.iconst 0, 1) := by decide +kernel
theorem dX1_isRight_131 : decode cX1_isRight 131 = .ok (.istore 9, 2) := by decide +kernel
theorem dX1_isRight_133 : decode cX1_isRight 133 = .ok (.iload 9, 2) := by decide +kernel
theorem dX1_isRight_135 : decode cX1_isRight 135 = .ok (.aload_n 1, 1) := by decide +kernel
theorem dX1_isRight_136 : decode cX1_isRight 136 = .ok (.getfield 491, 3) := by decide +kernel
theorem dX1_isRight_139 : decode cX1_isRight 139 = .ok (.if_icmp .ge 52, 3) := by decide +kernel
theorem dX1_isRight_142 : decode cX1_isRight 142 = .ok (.iload 8, 2) := by decide +kernel
theorem dX1_isRight_144 : decode cX1_isRight 144 = .ok (.aload_n 0, 1) := by decide +kernel
theorem dX1_isRight_145 : decode cX1_isRight 145 = .ok (.iconst 4, 1) := by decide +kernel
theorem dX1_isRight_146 : decode cX1_isRight 146 = .ok (.iload 9, 2) := by decide +kernel
theorem dX1_isRight_148 : decode cX1_isRight 148 = .ok (.iadd, 1) := by decide +kernel
theorem dX1_isRight_149 : decode cX1_isRight 149 = .ok (.iload 5, 2) := by decide +kernel
theorem dX1_isRight_151 : decode cX1_isRight 151 = .ok (.aload_n 1, 1) := by decide +kernel
theorem dX1_isRight_152 : decode cX1_isRight 152 = .ok (.iload_n 2, 1) := by decide +kernel
theorem dX1_isRight_153 : decode cX1_isRight 153 = .ok (.aload_n 1, 1) := by decide +kernel
theorem dX1_isRight_154 : decode cX1_isRight 154 = .ok (.getfield 513, 3) := by decide +kernel
theorem dX1_isRight_157 : decode cX1_isRight 157 = .ok (.iload 9, 2) := by decide +kernel
theorem dX1_isRight_159 : decode cX1_isRight 159 = .ok (.iconst 0, 1) := by decide +kernel
theorem dX1_isRight_160 : decode cX1_isRight 160 = .ok (.invokestatic 565, 3) := by decide +kernel
theorem dX1_isRight_163 : decode cX1_isRight 163 = .ok (.aload_n 1, 1) := by decide +kernel
theorem dX1_isRight_164 : decode cX1_isRight 164 = .ok (.iload_n 2, 1) := by decide +kernel
theorem dX1_isRight_165 : decode cX1_isRight 165 = .ok (.aload_n 1, 1) := by decide +kernel
theorem dX1_isRight_166 : decode cX1_isRight 166 = .ok (.getfield 513, 3) := by decide +kernel
theorem dX1_isRight_169 : decode cX1_isRight 169 = .ok (.iload 9, 2) := by decide +kernel
theorem dX1_isRight_171 : decode cX1_isRight 171 = .ok (.iconst 1, 1) := by decide +kernel
theorem dX1_isRight_172 : decode cX1_isRight 172 = .ok (.invokestatic 565, 3) := by decide +kernel
theorem dX1_isRight_175 : decode cX1_isRight 175 = .ok (.iload 6, 2) := by decide +kernel
theorem dX1_isRight_177 : decode cX1_isRight 177 = .ok (.iload 7, 2) := by decide +kernel
theorem dX1_isRight_179 : decode cX1_isRight 179 = .ok (.invokevirtual 569, 3) := by decide +kernel
theorem dX1_isRight_182 : decode cX1_isRight 182 = .ok (.iadd, 1) := by decide +kernel
theorem dX1_isRight_183 : decode cX1_isRight 183 = .ok (.istore 8, 2) := by decide +kernel
theorem dX1_isRight_185 : decode cX1_isRight 185 = .ok (.iinc 9 1, 3) := by decide +kernel
theorem dX1_isRight_188 : decode cX1_isRight 188 = .ok (.goto (-55), 3) := by decide +kernel
theorem dX1_isRight_191 : decode cX1_isRight 191 = .ok (.iconst 0, 1) := by decide +kernel
theorem dX1_isRight_192 : decode cX1_isRight 192 = .ok (.istore 9, 2) := by decide +kernel
theorem dX1_isRight_194 : decode cX1_isRight 194 = .ok (.iload 9, 2) := by decide +kernel
theorem dX1_isRight_196 : decode cX1_isRight 196 = .ok (.aload_n 1, 1) := by decide +kernel
theorem dX1_isRight_197 : decode cX1_isRight 197 = .ok (.invokevirtual 503, 3) := by decide +kernel
theorem dX1_isRight_200 : decode cX1_isRight 200 = .ok (.if_icmp .ge 96, 3) := by decide +kernel
theorem dX1_isRight_203 : decode cX1_isRight 203 = .ok (.iload 9, 2) := by decide +kernel
theorem dX1_isRight_205 : decode cX1_isRight 205 = .ok (.iload_n 3, 1) := by decide +kernel
theorem dX1_isRight_206 : decode cX1_isRight 206 = .ok (.if_icmp .ge 13, 3) := by decide +kernel
theorem dX1_isRight_209 : decode cX1_isRight 209 = .ok (.aload_n 0, 1) := by decide +kernel
theorem dX1_isRight_210 : decode cX1_isRight 210 = .ok (.getfield 116, 3) := by decide +kernel
theorem dX1_isRight_213 : decode cX1_isRight 213 = .ok (.iload 9, 2) := by decide +kernel
theorem dX1_isRight_215 : decode cX1_isRight 215 = .ok (.iaload, 1) := by decide +kernel
theorem dX1_isRight_216 : decode cX1_isRight 216 = .ok (.goto 4, 3) := by decide +kernel
theorem dX1_isRight_219 : decode cX1_isRight 219 = .ok (.iconst 0, 1) := by decide +kernel
theorem dX1_isRight_220 : decode cX1_isRight 220 = .ok (.istore 10, 2) := by decide +kernel
theorem dX1_isRight_222 : decode cX1_isRight 222 = .ok (.iload 9, 2) := by decide +kernel
theorem dX1_isRight_224 : decode cX1_isRight 224 = .ok (.iload_n 3, 1) := by decide +kernel
theorem dX1_isRight_225 : decode cX1_isRight 225 = .ok (.if_icmp .ge 13, 3) := by decide +kernel
theorem dX1_isRight_228 : decode cX1_isRight 228 = .ok (.aload_n 0, 1) := by decide +kernel
theorem dX1_isRight_229 : decode cX1_isRight 229 = .ok (.getfield 116, 3) := by decide +kernel
theorem dX1_isRight_232 : decode cX1_isRight 232 = .ok (.iload 9, 2) := by decide +kernel
theorem dX1_isRight_234 : decode cX1_isRight 234 = .ok (.iaload, 1) := by decide +kernel
theorem dX1_isRight_235 : decode cX1_isRight 235 = .ok (.goto 20, 3) := by decide +kernel
theorem dX1_isRight_238 : decode cX1_isRight 238 = .ok (.aload_n 1, 1) := by decide +kernel
theorem dX1_isRight_239 : decode cX1_isRight 239 = .ok (.getfield 494, 3) := by decide +kernel
theorem dX1_isRight_242 : decode cX1_isRight 242 = .ok (.iload 9, 2) := by decide +kernel
theorem dX1_isRight_244 : decode cX1_isRight 244 = .ok (.iaload, 1) := by decide +kernel
theorem dX1_isRight_245 : decode cX1_isRight 245 = .ok (.iload_n 2, 1) := by decide +kernel
theorem dX1_isRight_246 : decode cX1_isRight 246 = .ok (.irem, 1) := by decide +kernel
theorem dX1_isRight_247 : decode cX1_isRight 247 = .ok (.ifCond .ne 7, 3) := by decide +kernel
theorem dX1_isRight_250 : decode cX1_isRight 250 = .ok (.iconst 0, 1) := by decide +kernel
theorem dX1_isRight_251 : decode cX1_isRight 251 = .ok (.goto 4, 3) := by decide +kernel
theorem dX1_isRight_254 : decode cX1_isRight 254 = .ok (.iconst 1, 1) := by decide +kernel
theorem dX1_isRight_255 : decode cX1_isRight 255 = .ok (.istore 11, 2) := by decide +kernel
theorem dX1_isRight_257 : decode cX1_isRight 257 = .ok (.iload 8, 2) := by decide +kernel
theorem dX1_isRight_259 : decode cX1_isRight 259 = .ok (.aload_n 0, 1) := by decide +kernel
theorem dX1_isRight_260 : decode cX1_isRight 260 = .ok (.iload 9, 2) := by decide +kernel
theorem dX1_isRight_262 : decode cX1_isRight 262 = .ok (.aload_n 1, 1) := by decide +kernel
theorem dX1_isRight_263 : decode cX1_isRight 263 = .ok (.getfield 491, 3) := by decide +kernel
theorem dX1_isRight_266 : decode cX1_isRight 266 = .ok (.idiv, 1) := by decide +kernel
theorem dX1_isRight_267 : decode cX1_isRight 267 = .ok (.iconst 4, 1) := by decide +kernel
theorem dX1_isRight_268 : decode cX1_isRight 268 = .ok (.iload 9, 2) := by decide +kernel
theorem dX1_isRight_270 : decode cX1_isRight 270 = .ok (.aload_n 1, 1) := by decide +kernel
theorem dX1_isRight_271 : decode cX1_isRight 271 = .ok (.getfield 491, 3) := by decide +kernel
theorem dX1_isRight_274 : decode cX1_isRight 274 = .ok (.irem, 1) := by decide +kernel
theorem dX1_isRight_275 : decode cX1_isRight 275 = .ok (.iadd, 1) := by decide +kernel
theorem dX1_isRight_276 : decode cX1_isRight 276 = .ok (.iload 10, 2) := by decide +kernel
theorem dX1_isRight_278 : decode cX1_isRight 278 = .ok (.iload 11, 2) := by decide +kernel
theorem dX1_isRight_280 : decode cX1_isRight 280 = .ok (.iload 6, 2) := by decide +kernel
theorem dX1_isRight_282 : decode cX1_isRight 282 = .ok (.iload 7, 2) := by decide +kernel
theorem dX1_isRight_284 : decode cX1_isRight 284 = .ok (.invokevirtual 569, 3) := by decide +kernel
theorem dX1_isRight_287 : decode cX1_isRight 287 = .ok (.iadd, 1) := by decide +kernel
theorem dX1_isRight_288 : decode cX1_isRight 288 = .ok (.istore 8, 2) := by decide +kernel
theorem dX1_isRight_290 : decode cX1_isRight 290 = .ok (.iinc 9 1, 3) := by decide +kernel
theorem dX1_isRight_293 : decode cX1_isRight 293 = .ok (.goto (-99), 3) := by decide +kernel
theorem dX1_isRight_296 : decode cX1_isRight 296 = .ok (.aload_n 0, 1) := by decide +kernel
theorem dX1_isRight_297 : decode cX1_isRight 297 = .ok (.getfield 106, 3) := by decide +kernel
theorem dX1_isRight_300 : decode cX1_isRight 300 = .ok (.iload 6, 2) := by decide +kernel
theorem dX1_isRight_302 : decode cX1_isRight 302 = .ok (.iload 7, 2) := by decide +kernel
theorem dX1_isRight_304 : decode cX1_isRight 304 = .ok (.iload 8, 2) := by decide +kernel
theorem dX1_isRight_306 : decode cX1_isRight 306 = .ok (.invokevirtual 527, 3) := by decide +kernel
theorem dX1_isRight_309 : decode cX1_isRight 309 = .ok (.iload 8, 2) := by decide +kernel
theorem dX1_isRight_311 : decode cX1_isRight 311 = .ok (.if_icmp .ne 7, 3) := by decide +kernel
theorem dX1_isRight_314 : decode cX1_isRight 314 = .ok (.iconst 1, 1) := by decide +kernel
theorem dX1_isRight_315 : decode cX1_isRight 315 = .ok (.goto 4, 3) := by decide +kernel
theorem dX1_isRight_318 : decode cX1_isRight 318 = .ok (.iconst 0, 1) := by decide +kernel
theorem dX1_isRight_319 : decode cX1_isRight 319 = .ok (.ireturn, 1) := by decide +kernel
theorem dX1_rising_0 : decode cX1_rising 0 = .ok (.iconst 0, 1) := by decide +kernel
theorem dX1_rising_1 : decode cX1_rising 1 = .ok (.istore 5, 2) := by decide +kernel
theorem dX1_rising_3 : decode cX1_rising 3 = .ok (.iconst 0, 1) := by decide +kernel
theorem dX1_rising_4 : decode cX1_rising 4 = .ok (.istore 6, 2) := by decide +kernel
theorem dX1_rising_6 : decode cX1_rising 6 = .ok (.iconst 0, 1) := by decide +kernel
theorem dX1_rising_7 : decode cX1_rising 7 = .ok (.istore 7, 2) := by decide +kernel
theorem dX1_rising_9 : decode cX1_rising 9 = .ok (.iload 7, 2) := by decide +kernel
theorem dX1_rising_11 : decode cX1_rising 11 = .ok (.aload_n 0, 1) := by decide +kernel
theorem dX1_rising_12 : decode cX1_rising 12 = .ok (.invokevirtual 503, 3) := by decide +kernel
theorem dX1_rising_15 : decode cX1_rising 15 = .ok (.if_icmp .ge 49, 3) := by decide +kernel
theorem dX1_rising_18 : decode cX1_rising 18 = .ok (.aload_n 0, 1) := by decide +kernel
theorem dX1_rising_19 : decode cX1_rising 19 = .ok (.iload 7, 2) := by decide +kernel
theorem dX1_rising_21 : decode cX1_rising 21 = .ok (.iload_n 2, 1) := by decide +kernel
theorem dX1_rising_22 : decode cX1_rising 22 = .ok (.iload_n 3, 1) := by decide +kernel
theorem dX1_rising_23 : decode cX1_rising 23 = .ok (.invokevirtual 561, 3) := by decide +kernel
theorem dX1_rising_26 : decode cX1_rising 26 = .ok (.ifCond .ne 6, 3) := by decide +kernel
theorem dX1_rising_29 : decode cX1_rising 29 = .ok (.goto 29, 3) := by decide +kernel
theorem dX1_rising_32 : decode cX1_rising 32 = .ok (.iload 5, 2) := by decide +kernel
theorem dX1_rising_34 : decode cX1_rising 34 = .ok (.aload_n 0, 1) := by decide +kernel
theorem dX1_rising_35 : decode cX1_rising 35 = .ok (.getfield 494, 3) := by decide +kernel
theorem dX1_rising_38 : decode cX1_rising 38 = .ok (.iload 7, 2) := by decide +kernel
theorem dX1_rising_40 : decode cX1_rising 40 = .ok (.iaload, 1) := by decide +kernel
theorem dX1_rising_41 : decode cX1_rising 41 = .ok (.iadd, 1) := by decide +kernel
theorem dX1_rising_42 : decode cX1_rising 42 = .ok (.istore 5, 2) := by decide +kernel
theorem dX1_rising_44 : decode cX1_rising 44 = .ok (.iload 6, 2) := by decide +kernel
theorem dX1_rising_46 : decode cX1_rising 46 = .ok (.aload_n 0, 1) := by decide +kernel
theorem dX1_rising_47 : decode cX1_rising 47 = .ok (.getfield 494, 3) := by decide +kernel
theorem dX1_rising_50 : decode cX1_rising 50 = .ok (.iload 7, 2) := by decide +kernel
theorem dX1_rising_52 : decode cX1_rising 52 = .ok (.iaload, 1) := by decide +kernel
theorem dX1_rising_53 : decode cX1_rising 53 = .ok (.iload_n 1, 1) := by decide +kernel
theorem dX1_rising_54 : decode cX1_rising 54 = .ok (.idiv, 1) := by decide +kernel
theorem dX1_rising_55 : decode cX1_rising 55 = .ok (.iadd, 1) := by decide +kernel
theorem dX1_rising_56 : decode cX1_rising 56 = .ok (.istore 6, 2) := by decide +kernel
theorem dX1_rising_58 : decode cX1_rising 58 = .ok (.iinc 7 1, 3) := by decide +kernel
theorem dX1_rising_61 : decode cX1_rising 61 = .ok (.goto (-52), 3) := by decide +kernel
theorem dX1_rising_64 : decode cX1_rising 64 = .ok (.iload 4, 2) := by decide +kernel
theorem dX1_rising_66 : decode cX1_rising 66 = .ok (.ifCond .eq 19, 3) := by decide +kernel
theorem dX1_rising_69 : decode cX1_rising 69 = .ok (.iload 5, 2) := by decide +kernel
theorem dX1_rising_71 : decode cX1_rising 71 = .ok (.iload_n 1, 1) := by decide +kernel
theorem dX1_rising_72 : decode cX1_rising 72 = .ok (.irem, 1) := by decide +kernel
theorem dX1_rising_73 : decode cX1_rising 73 = .ok (.ifCond .eq 12, 3) := by decide +kernel
theorem dX1_rising_76 : decode cX1_rising 76 = .ok (.iload 5, 2) := by decide +kernel
theorem dX1_rising_78 : decode cX1_rising 78 = .ok (.iload_n 1, 1) := by decide +kernel
theorem dX1_rising_79 : decode cX1_rising 79 = .ok (.idiv, 1) := by decide +kernel
theorem dX1_rising_80 : decode cX1_rising 80 = .ok (.iconst 1, 1) := by decide +kernel
theorem dX1_rising_81 : decode cX1_rising 81 = .ok (.iadd, 1) := by decide +kernel
theorem dX1_rising_82 : decode cX1_rising 82 = .ok (.goto 7, 3) := by decide +kernel
theorem dX1_rising_85 : decode cX1_rising 85 = .ok (.iload 5, 2) := by decide +kernel
theorem dX1_rising_87 : decode cX1_rising 87 = .ok (.iload_n 1, 1) := by decide +kernel
theorem dX1_rising_88 : decode cX1_rising 88 = .ok (.idiv, 1) := by decide +kernel
theorem dX1_rising_89 : decode cX1_rising 89 = .ok (.iload 6, 2) := by decide +kernel
theorem dX1_rising_91 : decode cX1_rising 91 = .ok (.isub, 1) := by decide +kernel
theorem dX1_rising_92 : decode cX1_rising 92 = .ok (.ireturn, 1) := by decide +kernel
theorem dX1_between_0 : decode cX1_between 0 = .ok (.aload_n 0, 1) := by decide +kernel
theorem dX1_between_1 : decode cX1_between 1 = .ok (.getfield 106, 3) := by decide +kernel
theorem dX1_between_4 : decode cX1_between 4 = .ok (.iload_n 1, 1) := by decide +kernel
theorem dX1_between_5 : decode cX1_between 5 = .ok (.iload_n 2, 1) := by decide +kernel
theorem dX1_between_6 : decode cX1_between 6 = .ok (.iload 4, 2) := by decide +kernel
theorem dX1_between_8 : decode cX1_between 8 = .ok (.iload_n 3, 1) := by decide +kernel
theorem dX1_between_9 : decode cX1_between 9 = .ok (.isub, 1) := by decide +kernel
theorem dX1_between_10 : decode cX1_between 10 = .ok (.invokevirtual 523, 3) := by decide +kernel
theorem dX1_between_13 : decode cX1_between 13 = .ok (.aload_n 0, 1) := by decide +kernel
theorem dX1_between_14 : decode cX1_between 14 = .ok (.getfield 106, 3) := by decide +kernel
theorem dX1_between_17 : decode cX1_between 17 = .ok (.iload 5, 2) := by decide +kernel
theorem dX1_between_19 : decode cX1_between 19 = .ok (.iload_n 2, 1) := by decide +kernel
theorem dX1_between_20 : decode cX1_between 20 = .ok (.iload_n 3, 1) := by decide +kernel
theorem dX1_between_21 : decode cX1_between 21 = .ok (.invokevirtual 523, 3) := by decide +kernel
theorem dX1_between_24 : decode cX1_between 24 = .ok (.aload_n 0, 1) := by decide +kernel
theorem dX1_between_25 : decode cX1_between 25 = .ok (.getfield 106, 3) := by decide +kernel
theorem dX1_between_28 : decode cX1_between 28 = .ok (.iload_n 1, 1) := by decide +kernel
theorem dX1_between_29 : decode cX1_between 29 = .ok (.iload 6, 2) := by decide +kernel
theorem dX1_between_31 : decode cX1_between 31 = .ok (.iload_n 3, 1) := by decide +kernel
theorem dX1_between_32 : decode cX1_between 32 = .ok (.invokevirtual 523, 3) := by decide +kernel
theorem dX1_between_35 : decode cX1_between 35 = .ok (.iload_n 3, 1) := by decide +kernel
theorem dX1_between_36 : decode cX1_between 36 = .ok (.ireturn, 1) := by decide +kernel
theorem dX1_person_0 : decode cX1_person 0 = .ok (.iload_n 1, 1) := by decide +kernel
theorem dX1_person_1 : decode cX1_person 1 = .ok (.i2l, 1) := by decide +kernel
theorem dX1_person_2 : decode cX1_person 2 = .ok (.lconst 0, 1) := by decide +kernel
theorem dX1_person_3 : decode cX1_person 3 = .ok (.ldc2_w 578, 3) := by decide +kernel
theorem dX1_person_6 : decode cX1_person 6 = .ok (.invokestatic 159, 3) := by decide +kernel
theorem dX1_person_9 : decode cX1_person 9 = .ok (.invokestatic 164, 3) := by decide +kernel
theorem dX1_person_12 : decode cX1_person 12 = .ok (.aload_n 0, 1) := by decide +kernel
theorem dX1_person_13 : decode cX1_person 13 = .ok (.getfield 580, 3) := by decide +kernel
theorem dX1_person_16 : decode cX1_person 16 = .ok (.bipush 12, 2) := by decide +kernel
theorem dX1_person_18 : decode cX1_person 18 = .ok (.if_icmp .ge 7, 3) := by decide +kernel
theorem dX1_person_21 : decode cX1_person 21 = .ok (.iconst 1, 1) := by decide +kernel
theorem dX1_person_22 : decode cX1_person 22 = .ok (.goto 4, 3) := by decide +kernel
theorem dX1_person_25 : decode cX1_person 25 = .ok (.iconst 0, 1) := by decide +kernel
theorem dX1_person_26 : decode cX1_person 26 = .ok (.invokestatic 176, 3) := by decide +kernel
theorem dX1_person_29 : decode cX1_person 29 = .ok (.aload_n 0, 1) := by decide +kernel
theorem dX1_person_30 : decode cX1_person 30 = .ok (.getfield 119, 3) := by decide +kernel
theorem dX1_person_33 : decode cX1_person 33 = .ok (.aload_n 0, 1) := by decide +kernel
theorem dX1_person_34 : decode cX1_person 34 = .ok (.getfield 580, 3) := by decide +kernel
theorem dX1_person_37 : decode cX1_person 37 = .ok (.iload_n 1, 1) := by decide +kernel
theorem dX1_person_38 : decode cX1_person 38 = .ok (.iastore, 1) := by decide +kernel
theorem dX1_person_39 : decode cX1_person 39 = .ok (.aload_n 0, 1) := by decide +kernel
theorem dX1_person_40 : decode cX1_person 40 = .ok (.dup, 1) := by decide +kernel
theorem dX1_person_41 : decode cX1_person 41 = .ok (.getfield 580, 3) := by decide +kernel
theorem dX1_person_44 : decode cX1_person 44 = .ok (.dup_x1, 1) := by decide +kernel
theorem dX1_person_45 : decode cX1_person 45 = .ok (.iconst 1, 1) := by decide +kernel
theorem dX1_person_46 : decode cX1_person 46 = .ok (.iadd, 1) := by decide +kernel
theorem dX1_person_47 : decode cX1_person 47 = .ok (.putfield 580, 3) := by decide +kernel
theorem dX1_person_50 : decode cX1_person 50 = .ok (.ireturn, 1) := by decide +kernel
theorem dX1_release_0 : decode cX1_release 0 = .ok (.aload_n 0, 1) := by decide +kernel
theorem dX1_release_1 : decode cX1_release 1 = .ok (.iload_n 1, 1) := by decide +kernel
theorem dX1_release_2 : decode cX1_release 2 = .ok (.invokevirtual 583, 3) := by decide +kernel
theorem dX1_release_5 : decode cX1_release 5 = .ok (.aload_n 0, 1) := by decide +kernel
theorem dX1_release_6 : decode cX1_release 6 = .ok (.iload_n 2, 1) := by decide +kernel
theorem dX1_release_7 : decode cX1_release 7 = .ok (.invokevirtual 509, 3) := by decide +kernel
theorem dX1_release_10 : decode cX1_release 10 = .ok (.astore 4, 2) := by decide +kernel
theorem dX1_release_12 : decode cX1_release 12 = .ok (.aload_n 0, 1) := by decide +kernel
theorem dX1_release_13 : decode cX1_release 13 = .ok (.getfield 119, 3) := by decide +kernel
theorem dX1_release_16 : decode cX1_release 16 = .ok (.iload_n 1, 1) := by decide +kernel
theorem dX1_release_17 : decode cX1_release 17 = .ok (.iaload, 1) := by decide +kernel
theorem dX1_release_18 : decode cX1_release 18 = .ok (.iconst 1, 1) := by decide +kernel
theorem dX1_release_19 : decode cX1_release 19 = .ok (.iand, 1) := by decide +kernel
theorem dX1_release_20 : decode cX1_release 20 = .ok (.ifCond .eq 7, 3) := by decide +kernel
theorem dX1_release_23 : decode cX1_release 23 = .ok (.iconst 1, 1) := by decide +kernel
theorem dX1_release_24 : decode cX1_release 24 = .ok (.goto 4, 3) := by decide +kernel
theorem dX1_release_27 : decode cX1_release 27 = .ok (.iconst 0, 1) := by decide +kernel
theorem dX1_release_28 : decode cX1_release 28 = .ok (.invokestatic 190, 3) := by decide +kernel
theorem dX1_release_31 : decode cX1_release 31 = .ok (.iload_n 3, 1) := by decide +kernel
theorem dX1_release_32 : decode cX1_release 32 = .ok (.aload_n 0, 1) := by decide +kernel
theorem dX1_release_33 : decode cX1_release 33 = .ok (.getfield 153, 3) := by decide +kernel
theorem dX1_release_36 : decode cX1_release 36 = .ok (.if_icmp .lt 7, 3) := by decide +kernel
theorem dX1_release_39 : decode cX1_release 39 = .ok (.iconst 1, 1) := by decide +kernel
theorem dX1_release_40 : decode cX1_release 40 = .ok (.goto 4, 3) := by decide +kernel
theorem dX1_release_43 : decode cX1_release 43 = .ok (.iconst 0, 1) := by decide +kernel
theorem dX1_release_44 : decode cX1_release 44 = .ok (.invokestatic 164, 3) := by decide +kernel
theorem dX1_release_47 : decode cX1_release 47 = .ok (.aload_n 0, 1) := by decide +kernel
theorem dX1_release_48 : decode cX1_release 48 = .ok (.getfield 586, 3) := by decide +kernel
theorem dX1_release_51 : decode cX1_release 51 = .ok (.bipush 12, 2) := by decide +kernel
theorem dX1_release_53 : decode cX1_release 53 = .ok (.if_icmp .ge 7, 3) := by decide +kernel
theorem dX1_release_56 : decode cX1_release 56 = .ok (.iconst 1, 1) := by decide +kernel
theorem dX1_release_57 : decode cX1_release 57 = .ok (.goto 4, 3) := by decide +kernel
theorem dX1_release_60 : decode cX1_release 60 = .ok (.iconst 0, 1) := by decide +kernel
theorem dX1_release_61 : decode cX1_release 61 = .ok (.invokestatic 176, 3) := by decide +kernel
theorem dX1_release_64 : decode cX1_release 64 = .ok (.aload_n 0, 1) := by decide +kernel
theorem dX1_release_65 : decode cX1_release 65 = .ok (.getfield 124, 3) := by decide +kernel
theorem dX1_release_68 : decode cX1_release 68 = .ok (.aload_n 0, 1) := by decide +kernel
theorem dX1_release_69 : decode cX1_release 69 = .ok (.getfield 586, 3) := by decide +kernel
theorem dX1_release_72 : decode cX1_release 72 = .ok (.new 122, 3) := by decide +kernel
theorem dX1_release_75 : decode cX1_release 75 = .ok (.dup, 1) := by decide +kernel
theorem dX1_release_76 : decode cX1_release 76 = .ok (.iload_n 1, 1) := by decide +kernel
theorem dX1_release_77 : decode cX1_release 77 = .ok (.iload_n 3, 1) := by decide +kernel
theorem dX1_release_78 : decode cX1_release 78 = .ok (.aload 4, 2) := by decide +kernel
theorem dX1_release_80 : decode cX1_release 80 = .ok (.invokespecial 589, 3) := by decide +kernel
theorem dX1_release_83 : decode cX1_release 83 = .ok (.aastore, 1) := by decide +kernel
theorem dX1_release_84 : decode cX1_release 84 = .ok (.aload_n 0, 1) := by decide +kernel
theorem dX1_release_85 : decode cX1_release 85 = .ok (.dup, 1) := by decide +kernel
theorem dX1_release_86 : decode cX1_release 86 = .ok (.getfield 586, 3) := by decide +kernel
theorem dX1_release_89 : decode cX1_release 89 = .ok (.dup_x1, 1) := by decide +kernel
theorem dX1_release_90 : decode cX1_release 90 = .ok (.iconst 1, 1) := by decide +kernel
theorem dX1_release_91 : decode cX1_release 91 = .ok (.iadd, 1) := by decide +kernel
theorem dX1_release_92 : decode cX1_release 92 = .ok (.putfield 586, 3) := by decide +kernel
theorem dX1_release_95 : decode cX1_release 95 = .ok (.ireturn, 1) := by decide +kernel
theorem dX1_personIn_0 : decode cX1_personIn 0 = .ok (.iload_n 1, 1) := by decide +kernel
theorem dX1_personIn_1 : decode cX1_personIn 1 = .ok (.i2l, 1) := by decide +kernel
theorem dX1_personIn_2 : decode cX1_personIn 2 = .ok (.lconst 0, 1) := by decide +kernel
theorem dX1_personIn_3 : decode cX1_personIn 3 = .ok (.aload_n 0, 1) := by decide +kernel
theorem dX1_personIn_4 : decode cX1_personIn 4 = .ok (.getfield 580, 3) := by decide +kernel
theorem dX1_personIn_7 : decode cX1_personIn 7 = .ok (.iconst 1, 1) := by decide +kernel
theorem dX1_personIn_8 : decode cX1_personIn 8 = .ok (.isub, 1) := by decide +kernel
theorem dX1_personIn_9 : decode cX1_personIn 9 = .ok (.i2l, 1) := by decide +kernel
theorem dX1_personIn_10 : decode cX1_personIn 10 = .ok (.invokestatic 159, 3) := by decide +kernel
theorem dX1_personIn_13 : decode cX1_personIn 13 = .ok (.invokestatic 171, 3) := by decide +kernel
theorem dX1_personIn_16 : decode cX1_personIn 16 = .ok (.return_, 1) := by decide +kernel
theorem dX1_look_0 : decode cX1_look 0 = .ok (.aload_n 0, 1) := by decide +kernel
theorem dX1_look_1 : decode cX1_look 1 = .ok (.iload_n 1, 1) := by decide +kernel
theorem dX1_look_2 : decode cX1_look 2 = .ok (.invokevirtual 583, 3) := by decide +kernel
theorem dX1_look_5 : decode cX1_look 5 = .ok (.iload_n 2, 1) := by decide +kernel
theorem dX1_look_6 : decode cX1_look 6 = .ok (.i2l, 1) := by decide +kernel
theorem dX1_look_7 : decode cX1_look 7 = .ok (.lconst 0, 1) := by decide +kernel
theorem dX1_look_8 : decode cX1_look 8 = .ok (.aload_n 0, 1) := by decide +kernel
theorem dX1_look_9 : decode cX1_look 9 = .ok (.getfield 586, 3) := by decide +kernel
theorem dX1_look_12 : decode cX1_look 12 = .ok (.iconst 1, 1) := by decide +kernel
theorem dX1_look_13 : decode cX1_look 13 = .ok (.isub, 1) := by decide +kernel
theorem dX1_look_14 : decode cX1_look 14 = .ok (.i2l, 1) := by decide +kernel
theorem dX1_look_15 : decode cX1_look 15 = .ok (.invokestatic 159, 3) := by decide +kernel
theorem dX1_look_18 : decode cX1_look 18 = .ok (.invokestatic 171, 3) := by decide +kernel
theorem dX1_look_21 : decode cX1_look 21 = .ok (.aload_n 0, 1) := by decide +kernel
theorem dX1_look_22 : decode cX1_look 22 = .ok (.getfield 124, 3) := by decide +kernel
theorem dX1_look_25 : decode cX1_look 25 = .ok (.iload_n 2, 1) := by decide +kernel
theorem dX1_look_26 : decode cX1_look 26 = .ok (.aaload, 1) := by decide +kernel
theorem dX1_look_27 : decode cX1_look 27 = .ok (.astore 5, 2) := by decide +kernel
theorem dX1_look_29 : decode cX1_look 29 = .ok (.iload_n 3, 1) := by decide +kernel
theorem dX1_look_30 : decode cX1_look 30 = .ok (.i2l, 1) := by decide +kernel
theorem dX1_look_31 : decode cX1_look 31 = .ok (.lconst 0, 1) := by decide +kernel
theorem dX1_look_32 : decode cX1_look 32 = .ok (.aload 5, 2) := by decide +kernel
theorem dX1_look_34 : decode cX1_look 34 = .ok (.getfield 592, 3) := by decide +kernel
theorem dX1_look_37 : decode cX1_look 37 = .ok (.getfield 513, 3) := by decide +kernel
theorem dX1_look_40 : decode cX1_look 40 = .ok (.i2l, 1) := by decide +kernel
theorem dX1_look_41 : decode cX1_look 41 = .ok (.invokestatic 159, 3) := by decide +kernel
theorem dX1_look_44 : decode cX1_look 44 = .ok (.ifCond .eq 26, 3) := by decide +kernel
theorem dX1_look_47 : decode cX1_look 47 = .ok (.iload 4, 2) := by decide +kernel
theorem dX1_look_49 : decode cX1_look 49 = .ok (.i2l, 1) := by decide +kernel
theorem dX1_look_50 : decode cX1_look 50 = .ok (.lconst 0, 1) := by decide +kernel
theorem dX1_look_51 : decode cX1_look 51 = .ok (.aload 5, 2) := by decide +kernel
theorem dX1_look_53 : decode cX1_look 53 = .ok (.getfield 592, 3) := by decide +kernel
theorem dX1_look_56 : decode cX1_look 56 = .ok (.getfield 491, 3) := by decide +kernel
theorem dX1_look_59 : decode cX1_look 59 = .ok (.i2l, 1) := by decide +kernel
theorem dX1_look_60 : decode cX1_look 60 = .ok (.invokestatic 159, 3) := by decide +kernel
theorem dX1_look_63 : decode cX1_look 63 = .ok (.ifCond .eq 7, 3) := by decide +kernel
theorem dX1_look_66 : decode cX1_look 66 = .ok (.iconst 1, 1) := by decide +kernel
theorem dX1_look_67 : decode cX1_look 67 = .ok (.goto 4, 3) := by decide +kernel
theorem dX1_look_70 : decode cX1_look 70 = .ok (.iconst 0, 1) := by decide +kernel
theorem dX1_look_71 : decode cX1_look 71 = .ok (.invokestatic 171, 3) := by decide +kernel
theorem dX1_look_74 : decode cX1_look 74 = .ok (.aload_n 0, 1) := by decide +kernel
theorem dX1_look_75 : decode cX1_look 75 = .ok (.getfield 595, 3) := by decide +kernel
theorem dX1_look_78 : decode cX1_look 78 = .ok (.sipush 500, 3) := by decide +kernel
theorem dX1_look_81 : decode cX1_look 81 = .ok (.if_icmp .ge 7, 3) := by decide +kernel
theorem dX1_look_84 : decode cX1_look 84 = .ok (.iconst 1, 1) := by decide +kernel
theorem dX1_look_85 : decode cX1_look 85 = .ok (.goto 4, 3) := by decide +kernel
theorem dX1_look_88 : decode cX1_look 88 = .ok (.iconst 0, 1) := by decide +kernel
theorem dX1_look_89 : decode cX1_look 89 = .ok (.invokestatic 176, 3) := by decide +kernel
theorem dX1_look_92 : decode cX1_look 92 = .ok (.iload_n 3, 1) := by decide +kernel
theorem dX1_look_93 : decode cX1_look 93 = .ok (.aload 5, 2) := by decide +kernel
theorem dX1_look_95 : decode cX1_look 95 = .ok (.getfield 592, 3) := by decide +kernel
theorem dX1_look_98 : decode cX1_look 98 = .ok (.getfield 513, 3) := by decide +kernel
theorem dX1_look_101 : decode cX1_look 101 = .ok (.if_icmp .ge 20, 3) := by decide +kernel
theorem dX1_look_104 : decode cX1_look 104 = .ok (.iload 4, 2) := by decide +kernel
theorem dX1_look_106 : decode cX1_look 106 = .ok (.aload 5, 2) := by decide +kernel
theorem dX1_look_108 : decode cX1_look 108 = .ok (.getfield 592, 3) := by decide +kernel
theorem dX1_look_111 : decode cX1_look 111 = .ok (.getfield 491, 3) := by decide +kernel
theorem dX1_look_114 : decode cX1_look 114 = .ok (.if_icmp .ge 7, 3) := by decide +kernel
theorem dX1_look_117 : decode cX1_look 117 = .ok (.iconst 1, 1) := by decide +kernel
theorem dX1_look_118 : decode cX1_look 118 = .ok (.goto 4, 3) := by decide +kernel
theorem dX1_look_121 : decode cX1_look 121 = .ok (.iconst 0, 1) := by decide +kernel
theorem dX1_look_122 : decode cX1_look 122 = .ok (.istore 6, 2) := by decide +kernel
theorem dX1_look_124 : decode cX1_look 124 = .ok (.aload_n 0, 1) := by decide +kernel
theorem dX1_look_125 : decode cX1_look 125 = .ok (.getfield 153, 3) := by decide +kernel
theorem dX1_look_128 : decode cX1_look 128 = .ok (.aload 5, 2) := by decide +kernel
theorem dX1_look_130 : decode cX1_look 130 = .ok (.getfield 598, 3) := by decide +kernel
theorem dX1_look_133 : decode cX1_look 133 = .ok (.if_icmp .ge 19, 3) := by decide +kernel
theorem dX1_look_136 : decode cX1_look 136 = .ok (.iload_n 1, 1) := by decide +kernel
theorem dX1_look_137 : decode cX1_look 137 = .ok (.aload 5, 2) := by decide +kernel
theorem dX1_look_139 : decode cX1_look 139 = .ok (.getfield 599, 3) := by decide +kernel
theorem dX1_look_142 : decode cX1_look 142 = .ok (.if_icmp .eq 10, 3) := by decide +kernel
theorem dX1_look_145 : decode cX1_look 145 = .ok (.bipush (-12), 2) := by decide +kernel
theorem dX1_look_147 : decode cX1_look 147 = .ok (.istore 7, 2) := by decide +kernel
theorem dX1_look_149 : decode cX1_look 149 = .ok (.goto 85, 3) := by decide +kernel
theorem dX1_look_152 : decode cX1_look 152 = .ok (.aload_n 0, 1) := by decide +kernel
theorem dX1_look_153 : decode cX1_look 153 = .ok (.getfield 119, 3) := by decide +kernel
theorem dX1_look_156 : decode cX1_look 156 = .ok (.iload_n 1, 1) := by decide +kernel
theorem dX1_look_157 : decode cX1_look 157 = .ok (.iaload, 1) := by decide +kernel
theorem dX1_look_158 : decode cX1_look 158 = .ok (.ifCond .ne 10, 3) := by decide +kernel
theorem dX1_look_161 : decode cX1_look 161 = .ok (.bipush (-13), 2) := by decide +kernel
theorem dX1_look_163 : decode cX1_look 163 = .ok (.istore 7, 2) := by decide +kernel
theorem dX1_look_165 : decode cX1_look 165 = .ok (.goto 69, 3) := by decide +kernel
theorem dX1_look_168 : decode cX1_look 168 = .ok (.iload 6, 2) := by decide +kernel
theorem dX1_look_170 : decode cX1_look 170 = .ok (.ifCond .eq 45, 3) := by decide +kernel
theorem dX1_look_173 : decode cX1_look 173 = .ok (.aload 5, 2) := by decide +kernel
theorem dX1_look_175 : decode cX1_look 175 = .ok (.getfield 602, 3) := by decide +kernel
theorem dX1_look_178 : decode cX1_look 178 = .ok (.iload_n 3, 1) := by decide +kernel
theorem dX1_look_179 : decode cX1_look 179 = .ok (.aload 5, 2) := by decide +kernel
theorem dX1_look_181 : decode cX1_look 181 = .ok (.getfield 592, 3) := by decide +kernel
theorem dX1_look_184 : decode cX1_look 184 = .ok (.getfield 491, 3) := by decide +kernel
theorem dX1_look_187 : decode cX1_look 187 = .ok (.imul, 1) := by decide +kernel
theorem dX1_look_188 : decode cX1_look 188 = .ok (.iload 4, 2) := by decide +kernel
theorem dX1_look_190 : decode cX1_look 190 = .ok (.iadd, 1) := by decide +kernel
theorem dX1_look_191 : decode cX1_look 191 = .ok (.ishr, 1) := by decide +kernel
theorem dX1_look_192 : decode cX1_look 192 = .ok (.iconst 1, 1) := by decide +kernel
theorem dX1_look_193 : decode cX1_look 193 = .ok (.iand, 1) := by decide +kernel
theorem dX1_look_194 : decode cX1_look 194 = .ok (.ifCond .eq 21, 3) := by decide +kernel
theorem dX1_look_197 : decode cX1_look 197 = .ok (.aload_n 0, 1) := by decide +kernel
theorem dX1_look_198 : decode cX1_look 198 = .ok (.getfield 119, 3) := by decide +kernel
theorem dX1_look_201 : decode cX1_look 201 = .ok (.iload_n 1, 1) := by decide +kernel
theorem dX1_look_202 : decode cX1_look 202 = .ok (.iaload, 1) := by decide +kernel
theorem dX1_look_203 : decode cX1_look 203 = .ok (.iconst 4, 1) := by decide +kernel
theorem dX1_look_204 : decode cX1_look 204 = .ok (.iand, 1) := by decide +kernel
theorem dX1_look_205 : decode cX1_look 205 = .ok (.ifCond .ne 10, 3) := by decide +kernel
theorem dX1_look_208 : decode cX1_look 208 = .ok (.bipush (-14), 2) := by decide +kernel
theorem dX1_look_210 : decode cX1_look 210 = .ok (.istore 7, 2) := by decide +kernel
theorem dX1_look_212 : decode cX1_look 212 = .ok (.goto 22, 3) := by decide +kernel
theorem dX1_look_215 : decode cX1_look 215 = .ok (.aload 5, 2) := by decide +kernel
theorem dX1_look_217 : decode cX1_look 217 = .ok (.getfield 592, 3) := by decide +kernel
theorem dX1_look_220 : decode cX1_look 220 = .ok (.aload 5, 2) := by decide +kernel
theorem dX1_look_222 : decode cX1_look 222 = .ok (.getfield 603, 3) := by decide +kernel
theorem dX1_look_225 : decode cX1_look 225 = .ok (.iload_n 3, 1) := by decide +kernel
theorem dX1_look_226 : decode cX1_look 226 = .ok (.iload 4, 2) := by decide +kernel
theorem dX1_look_228 : decode cX1_look 228 = .ok (.iconst 0, 1) := by decide +kernel
theorem dX1_look_229 : decode cX1_look 229 = .ok (.invokevirtual 516, 3) := by decide +kernel
theorem dX1_look_232 : decode cX1_look 232 = .ok (.istore 7, 2) := by decide +kernel
theorem dX1_look_234 : decode cX1_look 234 = .ok (.bipush 6, 2) := by decide +kernel
theorem dX1_look_236 : decode cX1_look 236 = .ok (.aload_n 0, 1) := by decide +kernel
theorem dX1_look_237 : decode cX1_look 237 = .ok (.getfield 595, 3) := by decide +kernel
theorem dX1_look_240 : decode cX1_look 240 = .ok (.imul, 1) := by decide +kernel
theorem dX1_look_241 : decode cX1_look 241 = .ok (.istore 8, 2) := by decide +kernel
theorem dX1_look_243 : decode cX1_look 243 = .ok (.aload_n 0, 1) := by decide +kernel
theorem dX1_look_244 : decode cX1_look 244 = .ok (.getfield 128, 3) := by decide +kernel
theorem dX1_look_247 : decode cX1_look 247 = .ok (.iload 8, 2) := by decide +kernel
theorem dX1_look_249 : decode cX1_look 249 = .ok (.iload_n 1, 1) := by decide +kernel
theorem dX1_look_250 : decode cX1_look 250 = .ok (.iastore, 1) := by decide +kernel
theorem dX1_look_251 : decode cX1_look 251 = .ok (.aload_n 0, 1) := by decide +kernel
theorem dX1_look_252 : decode cX1_look 252 = .ok (.getfield 128, 3) := by decide +kernel
theorem dX1_look_255 : decode cX1_look 255 = .ok (.iload 8, 2) := by decide +kernel
theorem dX1_look_257 : decode cX1_look 257 = .ok (.iconst 1, 1) := by decide +kernel
theorem dX1_look_258 : decode cX1_look 258 = .ok (.iadd, 1) := by decide +kernel
theorem dX1_look_259 : decode cX1_look 259 = .ok (.iload_n 2, 1) := by decide +kernel
theorem dX1_look_260 : decode cX1_look 260 = .ok (.iastore, 1) := by decide +kernel
theorem dX1_look_261 : decode cX1_look 261 = .ok (.aload_n 0, 1) := by decide +kernel
theorem dX1_look_262 : decode cX1_look 262 = .ok (.getfield 128, 3) := by decide +kernel
theorem dX1_look_265 : decode cX1_look 265 = .ok (.iload 8, 2) := by decide +kernel
theorem dX1_look_267 : decode cX1_look 267 = .ok (.iconst 2, 1) := by decide +kernel
theorem dX1_look_268 : decode cX1_look 268 = .ok (.iadd, 1) := by decide +kernel
theorem dX1_look_269 : decode cX1_look 269 = .ok (.iload_n 3, 1) := by decide +kernel
theorem dX1_look_270 : decode cX1_look 270 = .ok (.iastore, 1) := by decide +kernel
theorem dX1_look_271 : decode cX1_look 271 = .ok (.aload_n 0, 1) := by decide +kernel
theorem dX1_look_272 : decode cX1_look 272 = .ok (.getfield 128, 3) := by decide +kernel
theorem dX1_look_275 : decode cX1_look 275 = .ok (.iload 8, 2) := by decide +kernel
theorem dX1_look_277 : decode cX1_look 277 = .ok (.iconst 3, 1) := by decide +kernel
theorem dX1_look_278 : decode cX1_look 278 = .ok (.iadd, 1) := by decide +kernel
theorem dX1_look_279 : decode cX1_look 279 = .ok (.iload 4, 2) := by decide +kernel
theorem dX1_look_281 : decode cX1_look 281 = .ok (.iastore, 1) := by decide +kernel
theorem dX1_look_282 : decode cX1_look 282 = .ok (.aload_n 0, 1) := by decide +kernel
theorem dX1_look_283 : decode cX1_look 283 = .ok (.getfield 128, 3) := by decide +kernel
theorem dX1_look_286 : decode cX1_look 286 = .ok (.iload 8, 2) := by decide +kernel
theorem dX1_look_288 : decode cX1_look 288 = .ok (.iconst 4, 1) := by decide +kernel
theorem dX1_look_289 : decode cX1_look 289 = .ok (.iadd, 1) := by decide +kernel
theorem dX1_look_290 : decode cX1_look 290 = .ok (.iload 7, 2) := by decide +kernel
theorem dX1_look_292 : decode cX1_look 292 = .ok (.iastore, 1) := by decide +kernel
theorem dX1_look_293 : decode cX1_look 293 = .ok (.aload_n 0, 1) := by decide +kernel
theorem dX1_look_294 : decode cX1_look 294 = .ok (.getfield 128, 3) := by decide +kernel
theorem dX1_look_297 : decode cX1_look 297 = .ok (.iload 8, 2) := by decide +kernel
theorem dX1_look_299 : decode cX1_look 299 = .ok (.iconst 5, 1) := by decide +kernel
theorem dX1_look_300 : decode cX1_look 300 = .ok (.iadd, 1) := by decide +kernel
theorem dX1_look_301 : decode cX1_look 301 = .ok (.aload_n 0, 1) := by decide +kernel
theorem dX1_look_302 : decode cX1_look 302 = .ok (.getfield 153, 3) := by decide +kernel
theorem dX1_look_305 : decode cX1_look 305 = .ok (.iastore, 1) := by decide +kernel
theorem dX1_look_306 : decode cX1_look 306 = .ok (.aload_n 0, 1) := by decide +kernel
theorem dX1_look_307 : decode cX1_look 307 = .ok (.dup, 1) := by decide +kernel
theorem dX1_look_308 : decode cX1_look 308 = .ok (.getfield 595, 3) := by decide +kernel
theorem dX1_look_311 : decode cX1_look 311 = .ok (.iconst 1, 1) := by decide +kernel
theorem dX1_look_312 : decode cX1_look 312 = .ok (.iadd, 1) := by decide +kernel
theorem dX1_look_313 : decode cX1_look 313 = .ok (.putfield 595, 3) := by decide +kernel
theorem dX1_look_316 : decode cX1_look 316 = .ok (.iload 7, 2) := by decide +kernel
theorem dX1_look_318 : decode cX1_look 318 = .ok (.ireturn, 1) := by decide +kernel
theorem dX1_looked_0 : decode cX1_looked 0 = .ok (.iload_n 1, 1) := by decide +kernel
theorem dX1_looked_1 : decode cX1_looked 1 = .ok (.i2l, 1) := by decide +kernel
theorem dX1_looked_2 : decode cX1_looked 2 = .ok (.lconst 0, 1) := by decide +kernel
theorem dX1_looked_3 : decode cX1_looked 3 = .ok (.aload_n 0, 1) := by decide +kernel
theorem dX1_looked_4 : decode cX1_looked 4 = .ok (.getfield 595, 3) := by decide +kernel
theorem dX1_looked_7 : decode cX1_looked 7 = .ok (.iconst 1, 1) := by decide +kernel
theorem dX1_looked_8 : decode cX1_looked 8 = .ok (.isub, 1) := by decide +kernel
theorem dX1_looked_9 : decode cX1_looked 9 = .ok (.i2l, 1) := by decide +kernel
theorem dX1_looked_10 : decode cX1_looked 10 = .ok (.invokestatic 159, 3) := by decide +kernel
theorem dX1_looked_13 : decode cX1_looked 13 = .ok (.invokestatic 171, 3) := by decide +kernel
theorem dX1_looked_16 : decode cX1_looked 16 = .ok (.iload_n 2, 1) := by decide +kernel
theorem dX1_looked_17 : decode cX1_looked 17 = .ok (.i2l, 1) := by decide +kernel
theorem dX1_looked_18 : decode cX1_looked 18 = .ok (.lconst 0, 1) := by decide +kernel
theorem dX1_looked_19 : decode cX1_looked 19 = .ok (.ldc2_w 174, 3) := by decide +kernel
theorem dX1_looked_22 : decode cX1_looked 22 = .ok (.invokestatic 159, 3) := by decide +kernel
theorem dX1_looked_25 : decode cX1_looked 25 = .ok (.invokestatic 164, 3) := by decide +kernel
theorem dX1_looked_28 : decode cX1_looked 28 = .ok (.aload_n 0, 1) := by decide +kernel
theorem dX1_looked_29 : decode cX1_looked 29 = .ok (.getfield 128, 3) := by decide +kernel
theorem dX1_looked_32 : decode cX1_looked 32 = .ok (.bipush 6, 2) := by decide +kernel
theorem dX1_looked_34 : decode cX1_looked 34 = .ok (.iload_n 1, 1) := by decide +kernel
theorem dX1_looked_35 : decode cX1_looked 35 = .ok (.imul, 1) := by decide +kernel
theorem dX1_looked_36 : decode cX1_looked 36 = .ok (.iload_n 2, 1) := by decide +kernel
theorem dX1_looked_37 : decode cX1_looked 37 = .ok (.iadd, 1) := by decide +kernel
theorem dX1_looked_38 : decode cX1_looked 38 = .ok (.iaload, 1) := by decide +kernel
theorem dX1_looked_39 : decode cX1_looked 39 = .ok (.ireturn, 1) := by decide +kernel
theorem dX1_told_0 : decode cX1_told 0 = .ok (.iload_n 1, 1) := by decide +kernel
theorem dX1_told_1 : decode cX1_told 1 = .ok (.tableswitch 155 0 14 #[75, 80, 85, 90, 95, 100, 110, 115, 120, 125, 130, 135, 140, 145, 150], 75) := by decide +kernel
theorem dX1_told_76 : decode cX1_told 76 = .ok (.aload_n 0, 1) := by decide +kernel
theorem dX1_told_77 : decode cX1_told 77 = .ok (.getfield 168, 3) := by decide +kernel
theorem dX1_told_80 : decode cX1_told 80 = .ok (.ireturn, 1) := by decide +kernel
theorem dX1_told_81 : decode cX1_told 81 = .ok (.aload_n 0, 1) := by decide +kernel
theorem dX1_told_82 : decode cX1_told 82 = .ok (.getfield 193, 3) := by decide +kernel
theorem dX1_told_85 : decode cX1_told 85 = .ok (.ireturn, 1) := by decide +kernel
theorem dX1_told_86 : decode cX1_told 86 = .ok (.aload_n 0, 1) := by decide +kernel
theorem dX1_told_87 : decode cX1_told 87 = .ok (.getfield 207, 3) := by decide +kernel
theorem dX1_told_90 : decode cX1_told 90 = .ok (.ireturn, 1) := by decide +kernel
theorem dX1_told_91 : decode cX1_told 91 = .ok (.aload_n 0, 1) := by decide +kernel
theorem dX1_told_92 : decode cX1_told 92 = .ok (.getfield 218, 3) := by decide +kernel
theorem dX1_told_95 : decode cX1_told 95 = .ok (.ireturn, 1) := by decide +kernel
theorem dX1_told_96 : decode cX1_told 96 = .ok (.aload_n 0, 1) := by decide +kernel
theorem dX1_told_97 : decode cX1_told 97 = .ok (.getfield 287, 3) := by decide +kernel
theorem dX1_told_100 : decode cX1_told 100 = .ok (.ireturn, 1) := by decide +kernel
theorem dX1_told_101 : decode cX1_told 101 = .ok (.aload_n 0, 1) := by decide +kernel
theorem dX1_told_102 : decode cX1_told 102 = .ok (.getfield 287, 3) := by decide +kernel
theorem dX1_told_105 : decode cX1_told 105 = .ok (.aload_n 0, 1) := by decide +kernel
theorem dX1_told_106 : decode cX1_told 106 = .ok (.getfield 360, 3) := by decide +kernel
theorem dX1_told_109 : decode cX1_told 109 = .ok (.isub, 1) := by decide +kernel
theorem dX1_told_110 : decode cX1_told 110 = .ok (.ireturn, 1) := by decide +kernel
theorem dX1_told_111 : decode cX1_told 111 = .ok (.aload_n 0, 1) := by decide +kernel
theorem dX1_told_112 : decode cX1_told 112 = .ok (.getfield 360, 3) := by decide +kernel
theorem dX1_told_115 : decode cX1_told 115 = .ok (.ireturn, 1) := by decide +kernel
theorem dX1_told_116 : decode cX1_told 116 = .ok (.aload_n 0, 1) := by decide +kernel
theorem dX1_told_117 : decode cX1_told 117 = .ok (.getfield 454, 3) := by decide +kernel
theorem dX1_told_120 : decode cX1_told 120 = .ok (.ireturn, 1) := by decide +kernel
theorem dX1_told_121 : decode cX1_told 121 = .ok (.aload_n 0, 1) := by decide +kernel
theorem dX1_told_122 : decode cX1_told 122 = .ok (.getfield 482, 3) := by decide +kernel
theorem dX1_told_125 : decode cX1_told 125 = .ok (.ireturn, 1) := by decide +kernel
theorem dX1_told_126 : decode cX1_told 126 = .ok (.aload_n 0, 1) := by decide +kernel
theorem dX1_told_127 : decode cX1_told 127 = .ok (.getfield 580, 3) := by decide +kernel
theorem dX1_told_130 : decode cX1_told 130 = .ok (.ireturn, 1) := by decide +kernel
theorem dX1_told_131 : decode cX1_told 131 = .ok (.aload_n 0, 1) := by decide +kernel
theorem dX1_told_132 : decode cX1_told 132 = .ok (.getfield 586, 3) := by decide +kernel
theorem dX1_told_135 : decode cX1_told 135 = .ok (.ireturn, 1) := by decide +kernel
theorem dX1_told_136 : decode cX1_told 136 = .ok (.aload_n 0, 1) := by decide +kernel
theorem dX1_told_137 : decode cX1_told 137 = .ok (.getfield 595, 3) := by decide +kernel
theorem dX1_told_140 : decode cX1_told 140 = .ok (.ireturn, 1) := by decide +kernel
theorem dX1_told_141 : decode cX1_told 141 = .ok (.aload_n 0, 1) := by decide +kernel
theorem dX1_told_142 : decode cX1_told 142 = .ok (.getfield 215, 3) := by decide +kernel
theorem dX1_told_145 : decode cX1_told 145 = .ok (.ireturn, 1) := by decide +kernel
theorem dX1_told_146 : decode cX1_told 146 = .ok (.aload_n 0, 1) := by decide +kernel
theorem dX1_told_147 : decode cX1_told 147 = .ok (.getfield 153, 3) := by decide +kernel
theorem dX1_told_150 : decode cX1_told 150 = .ok (.ireturn, 1) := by decide +kernel
theorem dX1_told_151 : decode cX1_told 151 = .ok (.aload_n 0, 1) := by decide +kernel
theorem dX1_told_152 : decode cX1_told 152 = .ok (.invokevirtual 196, 3) := by decide +kernel
theorem dX1_told_155 : decode cX1_told 155 = .ok (.ireturn, 1) := by decide +kernel
theorem dX1_told_156 : decode cX1_told 156 = .ok (.new 138, 3) := by decide +kernel
theorem dX1_told_159 : decode cX1_told 159 = .ok (.dup, 1) := by decide +kernel
theorem dX1_told_160 : decode cX1_told 160 = .ok (.ldc_w 606, 3) := by decide +kernel
theorem dX1_told_163 : decode cX1_told 163 = .ok (.invokespecial 142, 3) := by decide +kernel
theorem dX1_told_166 : decode cX1_told 166 = .ok (.athrow, 1) := by decide +kernel
theorem dX0_tick_0 : decode cX0_tick 0 = .ok (.aload_n 2, 1) := by decide +kernel
theorem dX0_tick_1 : decode cX0_tick 1 = .ok (.iconst 0, 1) := by decide +kernel
theorem dX0_tick_2 : decode cX0_tick 2 = .ok (.aload_n 0, 1) := by decide +kernel
theorem dX0_tick_3 : decode cX0_tick 3 = .ok (.iload_n 1, 1) := by decide +kernel
theorem dX0_tick_4 : decode cX0_tick 4 = .ok (.invokevirtual 7, 3) := by decide +kernel
theorem dX0_tick_7 : decode cX0_tick 7 = .ok (.i2l, 1) := by decide +kernel
theorem dX0_tick_8 : decode cX0_tick 8 = .ok (.lastore, 1) := by decide +kernel
theorem dX0_tick_9 : decode cX0_tick 9 = .ok (.goto 6, 3) := by decide +kernel
theorem dX0_tick_12 : decode cX0_tick 12 = .ok (.astore_n 3, 1) := by decide +kernel
theorem dX0_tick_13 : decode cX0_tick 13 = .ok (.iconst 1, 1) := by decide +kernel
theorem dX0_tick_14 : decode cX0_tick 14 = .ok (.ireturn, 1) := by decide +kernel
theorem dX0_tick_15 : decode cX0_tick 15 = .ok (.iconst 0, 1) := by decide +kernel
theorem dX0_tick_16 : decode cX0_tick 16 = .ok (.ireturn, 1) := by decide +kernel
theorem dX0_unit_0 : decode cX0_unit 0 = .ok (.aload_n 1, 1) := by decide +kernel
theorem dX0_unit_1 : decode cX0_unit 1 = .ok (.iconst 0, 1) := by decide +kernel
theorem dX0_unit_2 : decode cX0_unit 2 = .ok (.aload_n 0, 1) := by decide +kernel
theorem dX0_unit_3 : decode cX0_unit 3 = .ok (.invokevirtual 15, 3) := by decide +kernel
theorem dX0_unit_6 : decode cX0_unit 6 = .ok (.i2l, 1) := by decide +kernel
theorem dX0_unit_7 : decode cX0_unit 7 = .ok (.lastore, 1) := by decide +kernel
theorem dX0_unit_8 : decode cX0_unit 8 = .ok (.goto 6, 3) := by decide +kernel
theorem dX0_unit_11 : decode cX0_unit 11 = .ok (.astore_n 2, 1) := by decide +kernel
theorem dX0_unit_12 : decode cX0_unit 12 = .ok (.iconst 1, 1) := by decide +kernel
theorem dX0_unit_13 : decode cX0_unit 13 = .ok (.ireturn, 1) := by decide +kernel
theorem dX0_unit_14 : decode cX0_unit 14 = .ok (.iconst 0, 1) := by decide +kernel
theorem dX0_unit_15 : decode cX0_unit 15 = .ok (.ireturn, 1) := by decide +kernel
theorem dX0_tell_0 : decode cX0_tell 0 = .ok (.aload 5, 2) := by decide +kernel
theorem dX0_tell_2 : decode cX0_tell 2 = .ok (.iconst 0, 1) := by decide +kernel
theorem dX0_tell_3 : decode cX0_tell 3 = .ok (.aload_n 0, 1) := by decide +kernel
theorem dX0_tell_4 : decode cX0_tell 4 = .ok (.iload_n 1, 1) := by decide +kernel
theorem dX0_tell_5 : decode cX0_tell 5 = .ok (.iload_n 2, 1) := by decide +kernel
theorem dX0_tell_6 : decode cX0_tell 6 = .ok (.iload_n 3, 1) := by decide +kernel
theorem dX0_tell_7 : decode cX0_tell 7 = .ok (.iload 4, 2) := by decide +kernel
theorem dX0_tell_9 : decode cX0_tell 9 = .ok (.invokevirtual 21, 3) := by decide +kernel
theorem dX0_tell_12 : decode cX0_tell 12 = .ok (.i2l, 1) := by decide +kernel
theorem dX0_tell_13 : decode cX0_tell 13 = .ok (.lastore, 1) := by decide +kernel
theorem dX0_tell_14 : decode cX0_tell 14 = .ok (.goto 19, 3) := by decide +kernel
theorem dX0_tell_17 : decode cX0_tell 17 = .ok (.astore 6, 2) := by decide +kernel
theorem dX0_tell_19 : decode cX0_tell 19 = .ok (.iconst 1, 1) := by decide +kernel
theorem dX0_tell_20 : decode cX0_tell 20 = .ok (.ireturn, 1) := by decide +kernel
theorem dX0_tell_21 : decode cX0_tell 21 = .ok (.astore 6, 2) := by decide +kernel
theorem dX0_tell_23 : decode cX0_tell 23 = .ok (.iconst 2, 1) := by decide +kernel
theorem dX0_tell_24 : decode cX0_tell 24 = .ok (.ireturn, 1) := by decide +kernel
theorem dX0_tell_25 : decode cX0_tell 25 = .ok (.astore 6, 2) := by decide +kernel
theorem dX0_tell_27 : decode cX0_tell 27 = .ok (.iconst 3, 1) := by decide +kernel
theorem dX0_tell_28 : decode cX0_tell 28 = .ok (.ireturn, 1) := by decide +kernel
theorem dX0_tell_29 : decode cX0_tell 29 = .ok (.astore 6, 2) := by decide +kernel
theorem dX0_tell_31 : decode cX0_tell 31 = .ok (.iconst 4, 1) := by decide +kernel
theorem dX0_tell_32 : decode cX0_tell 32 = .ok (.ireturn, 1) := by decide +kernel
theorem dX0_tell_33 : decode cX0_tell 33 = .ok (.iconst 0, 1) := by decide +kernel
theorem dX0_tell_34 : decode cX0_tell 34 = .ok (.ireturn, 1) := by decide +kernel
theorem dX0_merge_0 : decode cX0_merge 0 = .ok (.aload_n 3, 1) := by decide +kernel
theorem dX0_merge_1 : decode cX0_merge 1 = .ok (.iconst 0, 1) := by decide +kernel
theorem dX0_merge_2 : decode cX0_merge 2 = .ok (.aload_n 0, 1) := by decide +kernel
theorem dX0_merge_3 : decode cX0_merge 3 = .ok (.iload_n 1, 1) := by decide +kernel
theorem dX0_merge_4 : decode cX0_merge 4 = .ok (.iload_n 2, 1) := by decide +kernel
theorem dX0_merge_5 : decode cX0_merge 5 = .ok (.invokevirtual 29, 3) := by decide +kernel
theorem dX0_merge_8 : decode cX0_merge 8 = .ok (.i2l, 1) := by decide +kernel
theorem dX0_merge_9 : decode cX0_merge 9 = .ok (.lastore, 1) := by decide +kernel
theorem dX0_merge_10 : decode cX0_merge 10 = .ok (.goto 11, 3) := by decide +kernel
theorem dX0_merge_13 : decode cX0_merge 13 = .ok (.astore 4, 2) := by decide +kernel
theorem dX0_merge_15 : decode cX0_merge 15 = .ok (.iconst 1, 1) := by decide +kernel
theorem dX0_merge_16 : decode cX0_merge 16 = .ok (.ireturn, 1) := by decide +kernel
theorem dX0_merge_17 : decode cX0_merge 17 = .ok (.astore 4, 2) := by decide +kernel
theorem dX0_merge_19 : decode cX0_merge 19 = .ok (.iconst 2, 1) := by decide +kernel
theorem dX0_merge_20 : decode cX0_merge 20 = .ok (.ireturn, 1) := by decide +kernel
theorem dX0_merge_21 : decode cX0_merge 21 = .ok (.iconst 0, 1) := by decide +kernel
theorem dX0_merge_22 : decode cX0_merge 22 = .ok (.ireturn, 1) := by decide +kernel
theorem dX0_value_0 : decode cX0_value 0 = .ok (.aload 5, 2) := by decide +kernel
theorem dX0_value_2 : decode cX0_value 2 = .ok (.iconst 0, 1) := by decide +kernel
theorem dX0_value_3 : decode cX0_value 3 = .ok (.aload_n 0, 1) := by decide +kernel
theorem dX0_value_4 : decode cX0_value 4 = .ok (.iload_n 1, 1) := by decide +kernel
theorem dX0_value_5 : decode cX0_value 5 = .ok (.iload_n 2, 1) := by decide +kernel
theorem dX0_value_6 : decode cX0_value 6 = .ok (.iload_n 3, 1) := by decide +kernel
theorem dX0_value_7 : decode cX0_value 7 = .ok (.iload 4, 2) := by decide +kernel
theorem dX0_value_9 : decode cX0_value 9 = .ok (.invokevirtual 33, 3) := by decide +kernel
theorem dX0_value_12 : decode cX0_value 12 = .ok (.i2l, 1) := by decide +kernel
theorem dX0_value_13 : decode cX0_value 13 = .ok (.lastore, 1) := by decide +kernel
theorem dX0_value_14 : decode cX0_value 14 = .ok (.goto 11, 3) := by decide +kernel
theorem dX0_value_17 : decode cX0_value 17 = .ok (.astore 6, 2) := by decide +kernel
theorem dX0_value_19 : decode cX0_value 19 = .ok (.iconst 1, 1) := by decide +kernel
theorem dX0_value_20 : decode cX0_value 20 = .ok (.ireturn, 1) := by decide +kernel
theorem dX0_value_21 : decode cX0_value 21 = .ok (.astore 6, 2) := by decide +kernel
theorem dX0_value_23 : decode cX0_value 23 = .ok (.iconst 2, 1) := by decide +kernel
theorem dX0_value_24 : decode cX0_value 24 = .ok (.ireturn, 1) := by decide +kernel
theorem dX0_value_25 : decode cX0_value 25 = .ok (.iconst 0, 1) := by decide +kernel
theorem dX0_value_26 : decode cX0_value 26 = .ok (.ireturn, 1) := by decide +kernel
theorem dX0_last_0 : decode cX0_last 0 = .ok (.aload_n 2, 1) := by decide +kernel
theorem dX0_last_1 : decode cX0_last 1 = .ok (.iconst 0, 1) := by decide +kernel
theorem dX0_last_2 : decode cX0_last 2 = .ok (.aload_n 0, 1) := by decide +kernel
theorem dX0_last_3 : decode cX0_last 3 = .ok (.iload_n 1, 1) := by decide +kernel
theorem dX0_last_4 : decode cX0_last 4 = .ok (.invokevirtual 36, 3) := by decide +kernel
theorem dX0_last_7 : decode cX0_last 7 = .ok (.i2l, 1) := by decide +kernel
theorem dX0_last_8 : decode cX0_last 8 = .ok (.lastore, 1) := by decide +kernel
theorem dX0_last_9 : decode cX0_last 9 = .ok (.goto 6, 3) := by decide +kernel
theorem dX0_last_12 : decode cX0_last 12 = .ok (.astore_n 3, 1) := by decide +kernel
theorem dX0_last_13 : decode cX0_last 13 = .ok (.iconst 1, 1) := by decide +kernel
theorem dX0_last_14 : decode cX0_last 14 = .ok (.ireturn, 1) := by decide +kernel
theorem dX0_last_15 : decode cX0_last 15 = .ok (.iconst 0, 1) := by decide +kernel
theorem dX0_last_16 : decode cX0_last 16 = .ok (.ireturn, 1) := by decide +kernel
theorem dX0_feed_0 : decode cX0_feed 0 = .ok (.aload 6, 2) := by decide +kernel
theorem dX0_feed_2 : decode cX0_feed 2 = .ok (.iconst 0, 1) := by decide +kernel
theorem dX0_feed_3 : decode cX0_feed 3 = .ok (.aload_n 0, 1) := by decide +kernel
theorem dX0_feed_4 : decode cX0_feed 4 = .ok (.iload_n 1, 1) := by decide +kernel
theorem dX0_feed_5 : decode cX0_feed 5 = .ok (.iload_n 2, 1) := by decide +kernel
theorem dX0_feed_6 : decode cX0_feed 6 = .ok (.iload_n 3, 1) := by decide +kernel
theorem dX0_feed_7 : decode cX0_feed 7 = .ok (.iload 4, 2) := by decide +kernel
theorem dX0_feed_9 : decode cX0_feed 9 = .ok (.iload 5, 2) := by decide +kernel
theorem dX0_feed_11 : decode cX0_feed 11 = .ok (.invokevirtual 39, 3) := by decide +kernel
theorem dX0_feed_14 : decode cX0_feed 14 = .ok (.i2l, 1) := by decide +kernel
theorem dX0_feed_15 : decode cX0_feed 15 = .ok (.lastore, 1) := by decide +kernel
theorem dX0_feed_16 : decode cX0_feed 16 = .ok (.goto 7, 3) := by decide +kernel
theorem dX0_feed_19 : decode cX0_feed 19 = .ok (.astore 7, 2) := by decide +kernel
theorem dX0_feed_21 : decode cX0_feed 21 = .ok (.iconst 1, 1) := by decide +kernel
theorem dX0_feed_22 : decode cX0_feed 22 = .ok (.ireturn, 1) := by decide +kernel
theorem dX0_feed_23 : decode cX0_feed 23 = .ok (.iconst 0, 1) := by decide +kernel
theorem dX0_feed_24 : decode cX0_feed 24 = .ok (.ireturn, 1) := by decide +kernel
theorem dX0_trim_0 : decode cX0_trim 0 = .ok (.aload_n 2, 1) := by decide +kernel
theorem dX0_trim_1 : decode cX0_trim 1 = .ok (.iconst 0, 1) := by decide +kernel
theorem dX0_trim_2 : decode cX0_trim 2 = .ok (.aload_n 0, 1) := by decide +kernel
theorem dX0_trim_3 : decode cX0_trim 3 = .ok (.iload_n 1, 1) := by decide +kernel
theorem dX0_trim_4 : decode cX0_trim 4 = .ok (.invokevirtual 43, 3) := by decide +kernel
theorem dX0_trim_7 : decode cX0_trim 7 = .ok (.i2l, 1) := by decide +kernel
theorem dX0_trim_8 : decode cX0_trim 8 = .ok (.lastore, 1) := by decide +kernel
theorem dX0_trim_9 : decode cX0_trim 9 = .ok (.goto 6, 3) := by decide +kernel
theorem dX0_trim_12 : decode cX0_trim 12 = .ok (.astore_n 3, 1) := by decide +kernel
theorem dX0_trim_13 : decode cX0_trim 13 = .ok (.iconst 1, 1) := by decide +kernel
theorem dX0_trim_14 : decode cX0_trim 14 = .ok (.ireturn, 1) := by decide +kernel
theorem dX0_trim_15 : decode cX0_trim 15 = .ok (.iconst 0, 1) := by decide +kernel
theorem dX0_trim_16 : decode cX0_trim 16 = .ok (.ireturn, 1) := by decide +kernel
theorem dX0_form_0 : decode cX0_form 0 = .ok (.aload_n 1, 1) := by decide +kernel
theorem dX0_form_1 : decode cX0_form 1 = .ok (.iconst 0, 1) := by decide +kernel
theorem dX0_form_2 : decode cX0_form 2 = .ok (.aload_n 0, 1) := by decide +kernel
theorem dX0_form_3 : decode cX0_form 3 = .ok (.invokevirtual 46, 3) := by decide +kernel
theorem dX0_form_6 : decode cX0_form 6 = .ok (.i2l, 1) := by decide +kernel
theorem dX0_form_7 : decode cX0_form 7 = .ok (.lastore, 1) := by decide +kernel
theorem dX0_form_8 : decode cX0_form 8 = .ok (.goto 6, 3) := by decide +kernel
theorem dX0_form_11 : decode cX0_form 11 = .ok (.astore_n 2, 1) := by decide +kernel
theorem dX0_form_12 : decode cX0_form 12 = .ok (.iconst 1, 1) := by decide +kernel
theorem dX0_form_13 : decode cX0_form 13 = .ok (.ireturn, 1) := by decide +kernel
theorem dX0_form_14 : decode cX0_form 14 = .ok (.iconst 0, 1) := by decide +kernel
theorem dX0_form_15 : decode cX0_form 15 = .ok (.ireturn, 1) := by decide +kernel
theorem dX0_statement_0 : decode cX0_statement 0 = .ok (.aload 4, 2) := by decide +kernel
theorem dX0_statement_2 : decode cX0_statement 2 = .ok (.iconst 0, 1) := by decide +kernel
theorem dX0_statement_3 : decode cX0_statement 3 = .ok (.aload_n 0, 1) := by decide +kernel
theorem dX0_statement_4 : decode cX0_statement 4 = .ok (.iload_n 1, 1) := by decide +kernel
theorem dX0_statement_5 : decode cX0_statement 5 = .ok (.iload_n 2, 1) := by decide +kernel
theorem dX0_statement_6 : decode cX0_statement 6 = .ok (.iload_n 3, 1) := by decide +kernel
theorem dX0_statement_7 : decode cX0_statement 7 = .ok (.invokevirtual 49, 3) := by decide +kernel
theorem dX0_statement_10 : decode cX0_statement 10 = .ok (.i2l, 1) := by decide +kernel
theorem dX0_statement_11 : decode cX0_statement 11 = .ok (.lastore, 1) := by decide +kernel
theorem dX0_statement_12 : decode cX0_statement 12 = .ok (.goto 11, 3) := by decide +kernel
theorem dX0_statement_15 : decode cX0_statement 15 = .ok (.astore 5, 2) := by decide +kernel
theorem dX0_statement_17 : decode cX0_statement 17 = .ok (.iconst 1, 1) := by decide +kernel
theorem dX0_statement_18 : decode cX0_statement 18 = .ok (.ireturn, 1) := by decide +kernel
theorem dX0_statement_19 : decode cX0_statement 19 = .ok (.astore 5, 2) := by decide +kernel
theorem dX0_statement_21 : decode cX0_statement 21 = .ok (.iconst 2, 1) := by decide +kernel
theorem dX0_statement_22 : decode cX0_statement 22 = .ok (.ireturn, 1) := by decide +kernel
theorem dX0_statement_23 : decode cX0_statement 23 = .ok (.iconst 0, 1) := by decide +kernel
theorem dX0_statement_24 : decode cX0_statement 24 = .ok (.ireturn, 1) := by decide +kernel
theorem dX0_open_0 : decode cX0_open 0 = .ok (.aload_n 3, 1) := by decide +kernel
theorem dX0_open_1 : decode cX0_open 1 = .ok (.iconst 0, 1) := by decide +kernel
theorem dX0_open_2 : decode cX0_open 2 = .ok (.aload_n 0, 1) := by decide +kernel
theorem dX0_open_3 : decode cX0_open 3 = .ok (.iload_n 1, 1) := by decide +kernel
theorem dX0_open_4 : decode cX0_open 4 = .ok (.iload_n 2, 1) := by decide +kernel
theorem dX0_open_5 : decode cX0_open 5 = .ok (.invokevirtual 53, 3) := by decide +kernel
theorem dX0_open_8 : decode cX0_open 8 = .ok (.i2l, 1) := by decide +kernel
theorem dX0_open_9 : decode cX0_open 9 = .ok (.lastore, 1) := by decide +kernel
theorem dX0_open_10 : decode cX0_open 10 = .ok (.goto 15, 3) := by decide +kernel
theorem dX0_open_13 : decode cX0_open 13 = .ok (.astore 4, 2) := by decide +kernel
theorem dX0_open_15 : decode cX0_open 15 = .ok (.iconst 1, 1) := by decide +kernel
theorem dX0_open_16 : decode cX0_open 16 = .ok (.ireturn, 1) := by decide +kernel
theorem dX0_open_17 : decode cX0_open 17 = .ok (.astore 4, 2) := by decide +kernel
theorem dX0_open_19 : decode cX0_open 19 = .ok (.iconst 2, 1) := by decide +kernel
theorem dX0_open_20 : decode cX0_open 20 = .ok (.ireturn, 1) := by decide +kernel
theorem dX0_open_21 : decode cX0_open 21 = .ok (.astore 4, 2) := by decide +kernel
theorem dX0_open_23 : decode cX0_open 23 = .ok (.iconst 3, 1) := by decide +kernel
theorem dX0_open_24 : decode cX0_open 24 = .ok (.ireturn, 1) := by decide +kernel
theorem dX0_open_25 : decode cX0_open 25 = .ok (.iconst 0, 1) := by decide +kernel
theorem dX0_open_26 : decode cX0_open 26 = .ok (.ireturn, 1) := by decide +kernel
theorem dX0_question_0 : decode cX0_question 0 = .ok (.aload_n 2, 1) := by decide +kernel
theorem dX0_question_1 : decode cX0_question 1 = .ok (.iconst 0, 1) := by decide +kernel
theorem dX0_question_2 : decode cX0_question 2 = .ok (.aload_n 0, 1) := by decide +kernel
theorem dX0_question_3 : decode cX0_question 3 = .ok (.iload_n 1, 1) := by decide +kernel
theorem dX0_question_4 : decode cX0_question 4 = .ok (.invokevirtual 56, 3) := by decide +kernel
theorem dX0_question_7 : decode cX0_question 7 = .ok (.i2l, 1) := by decide +kernel
theorem dX0_question_8 : decode cX0_question 8 = .ok (.lastore, 1) := by decide +kernel
theorem dX0_question_9 : decode cX0_question 9 = .ok (.goto 6, 3) := by decide +kernel
theorem dX0_question_12 : decode cX0_question 12 = .ok (.astore_n 3, 1) := by decide +kernel
theorem dX0_question_13 : decode cX0_question 13 = .ok (.iconst 1, 1) := by decide +kernel
theorem dX0_question_14 : decode cX0_question 14 = .ok (.ireturn, 1) := by decide +kernel
theorem dX0_question_15 : decode cX0_question 15 = .ok (.iconst 0, 1) := by decide +kernel
theorem dX0_question_16 : decode cX0_question 16 = .ok (.ireturn, 1) := by decide +kernel
theorem dX0_answer_0 : decode cX0_answer 0 = .ok (.aload_n 3, 1) := by decide +kernel
theorem dX0_answer_1 : decode cX0_answer 1 = .ok (.iconst 0, 1) := by decide +kernel
theorem dX0_answer_2 : decode cX0_answer 2 = .ok (.aload_n 0, 1) := by decide +kernel
theorem dX0_answer_3 : decode cX0_answer 3 = .ok (.iload_n 1, 1) := by decide +kernel
theorem dX0_answer_4 : decode cX0_answer 4 = .ok (.iload_n 2, 1) := by decide +kernel
theorem dX0_answer_5 : decode cX0_answer 5 = .ok (.invokevirtual 59, 3) := by decide +kernel
theorem dX0_answer_8 : decode cX0_answer 8 = .ok (.i2l, 1) := by decide +kernel
theorem dX0_answer_9 : decode cX0_answer 9 = .ok (.lastore, 1) := by decide +kernel
theorem dX0_answer_10 : decode cX0_answer 10 = .ok (.goto 15, 3) := by decide +kernel
theorem dX0_answer_13 : decode cX0_answer 13 = .ok (.astore 4, 2) := by decide +kernel
theorem dX0_answer_15 : decode cX0_answer 15 = .ok (.iconst 1, 1) := by decide +kernel
theorem dX0_answer_16 : decode cX0_answer 16 = .ok (.ireturn, 1) := by decide +kernel
theorem dX0_answer_17 : decode cX0_answer 17 = .ok (.astore 4, 2) := by decide +kernel
theorem dX0_answer_19 : decode cX0_answer 19 = .ok (.iconst 2, 1) := by decide +kernel
theorem dX0_answer_20 : decode cX0_answer 20 = .ok (.ireturn, 1) := by decide +kernel
theorem dX0_answer_21 : decode cX0_answer 21 = .ok (.astore 4, 2) := by decide +kernel
theorem dX0_answer_23 : decode cX0_answer 23 = .ok (.iconst 3, 1) := by decide +kernel
theorem dX0_answer_24 : decode cX0_answer 24 = .ok (.ireturn, 1) := by decide +kernel
theorem dX0_answer_25 : decode cX0_answer 25 = .ok (.iconst 0, 1) := by decide +kernel
theorem dX0_answer_26 : decode cX0_answer 26 = .ok (.ireturn, 1) := by decide +kernel
theorem dX0_back_0 : decode cX0_back 0 = .ok (.aload_n 2, 1) := by decide +kernel
theorem dX0_back_1 : decode cX0_back 1 = .ok (.iconst 0, 1) := by decide +kernel
theorem dX0_back_2 : decode cX0_back 2 = .ok (.aload_n 0, 1) := by decide +kernel
theorem dX0_back_3 : decode cX0_back 3 = .ok (.iload_n 1, 1) := by decide +kernel
theorem dX0_back_4 : decode cX0_back 4 = .ok (.invokevirtual 62, 3) := by decide +kernel
theorem dX0_back_7 : decode cX0_back 7 = .ok (.i2l, 1) := by decide +kernel
theorem dX0_back_8 : decode cX0_back 8 = .ok (.lastore, 1) := by decide +kernel
theorem dX0_back_9 : decode cX0_back 9 = .ok (.goto 9, 3) := by decide +kernel
theorem dX0_back_12 : decode cX0_back 12 = .ok (.astore_n 3, 1) := by decide +kernel
theorem dX0_back_13 : decode cX0_back 13 = .ok (.iconst 1, 1) := by decide +kernel
theorem dX0_back_14 : decode cX0_back 14 = .ok (.ireturn, 1) := by decide +kernel
theorem dX0_back_15 : decode cX0_back 15 = .ok (.astore_n 3, 1) := by decide +kernel
theorem dX0_back_16 : decode cX0_back 16 = .ok (.iconst 2, 1) := by decide +kernel
theorem dX0_back_17 : decode cX0_back 17 = .ok (.ireturn, 1) := by decide +kernel
theorem dX0_back_18 : decode cX0_back 18 = .ok (.iconst 0, 1) := by decide +kernel
theorem dX0_back_19 : decode cX0_back 19 = .ok (.ireturn, 1) := by decide +kernel
theorem dX0_given_0 : decode cX0_given 0 = .ok (.aload 4, 2) := by decide +kernel
theorem dX0_given_2 : decode cX0_given 2 = .ok (.iconst 0, 1) := by decide +kernel
theorem dX0_given_3 : decode cX0_given 3 = .ok (.aload_n 0, 1) := by decide +kernel
theorem dX0_given_4 : decode cX0_given 4 = .ok (.iload_n 1, 1) := by decide +kernel
theorem dX0_given_5 : decode cX0_given 5 = .ok (.iload_n 2, 1) := by decide +kernel
theorem dX0_given_6 : decode cX0_given 6 = .ok (.iload_n 3, 1) := by decide +kernel
theorem dX0_given_7 : decode cX0_given 7 = .ok (.invokevirtual 65, 3) := by decide +kernel
theorem dX0_given_10 : decode cX0_given 10 = .ok (.i2l, 1) := by decide +kernel
theorem dX0_given_11 : decode cX0_given 11 = .ok (.lastore, 1) := by decide +kernel
theorem dX0_given_12 : decode cX0_given 12 = .ok (.goto 7, 3) := by decide +kernel
theorem dX0_given_15 : decode cX0_given 15 = .ok (.astore 5, 2) := by decide +kernel
theorem dX0_given_17 : decode cX0_given 17 = .ok (.iconst 1, 1) := by decide +kernel
theorem dX0_given_18 : decode cX0_given 18 = .ok (.ireturn, 1) := by decide +kernel
theorem dX0_given_19 : decode cX0_given 19 = .ok (.iconst 0, 1) := by decide +kernel
theorem dX0_given_20 : decode cX0_given 20 = .ok (.ireturn, 1) := by decide +kernel
theorem dX0_close_0 : decode cX0_close 0 = .ok (.aload_n 2, 1) := by decide +kernel
theorem dX0_close_1 : decode cX0_close 1 = .ok (.iconst 0, 1) := by decide +kernel
theorem dX0_close_2 : decode cX0_close 2 = .ok (.aload_n 0, 1) := by decide +kernel
theorem dX0_close_3 : decode cX0_close 3 = .ok (.iload_n 1, 1) := by decide +kernel
theorem dX0_close_4 : decode cX0_close 4 = .ok (.invokevirtual 69, 3) := by decide +kernel
theorem dX0_close_7 : decode cX0_close 7 = .ok (.i2l, 1) := by decide +kernel
theorem dX0_close_8 : decode cX0_close 8 = .ok (.lastore, 1) := by decide +kernel
theorem dX0_close_9 : decode cX0_close 9 = .ok (.goto 9, 3) := by decide +kernel
theorem dX0_close_12 : decode cX0_close 12 = .ok (.astore_n 3, 1) := by decide +kernel
theorem dX0_close_13 : decode cX0_close 13 = .ok (.iconst 1, 1) := by decide +kernel
theorem dX0_close_14 : decode cX0_close 14 = .ok (.ireturn, 1) := by decide +kernel
theorem dX0_close_15 : decode cX0_close 15 = .ok (.astore_n 3, 1) := by decide +kernel
theorem dX0_close_16 : decode cX0_close 16 = .ok (.iconst 2, 1) := by decide +kernel
theorem dX0_close_17 : decode cX0_close 17 = .ok (.ireturn, 1) := by decide +kernel
theorem dX0_close_18 : decode cX0_close 18 = .ok (.iconst 0, 1) := by decide +kernel
theorem dX0_close_19 : decode cX0_close 19 = .ok (.ireturn, 1) := by decide +kernel
theorem dX0_item_0 : decode cX0_item 0 = .ok (.aload_n 3, 1) := by decide +kernel
theorem dX0_item_1 : decode cX0_item 1 = .ok (.iconst 0, 1) := by decide +kernel
theorem dX0_item_2 : decode cX0_item 2 = .ok (.aload_n 0, 1) := by decide +kernel
theorem dX0_item_3 : decode cX0_item 3 = .ok (.iload_n 1, 1) := by decide +kernel
theorem dX0_item_4 : decode cX0_item 4 = .ok (.iload_n 2, 1) := by decide +kernel
theorem dX0_item_5 : decode cX0_item 5 = .ok (.invokevirtual 72, 3) := by decide +kernel
theorem dX0_item_8 : decode cX0_item 8 = .ok (.i2l, 1) := by decide +kernel
theorem dX0_item_9 : decode cX0_item 9 = .ok (.lastore, 1) := by decide +kernel
theorem dX0_item_10 : decode cX0_item 10 = .ok (.goto 7, 3) := by decide +kernel
theorem dX0_item_13 : decode cX0_item 13 = .ok (.astore 4, 2) := by decide +kernel
theorem dX0_item_15 : decode cX0_item 15 = .ok (.iconst 1, 1) := by decide +kernel
theorem dX0_item_16 : decode cX0_item 16 = .ok (.ireturn, 1) := by decide +kernel
theorem dX0_item_17 : decode cX0_item 17 = .ok (.iconst 0, 1) := by decide +kernel
theorem dX0_item_18 : decode cX0_item 18 = .ok (.ireturn, 1) := by decide +kernel
theorem dX0_mark_0 : decode cX0_mark 0 = .ok (.aload_n 3, 1) := by decide +kernel
theorem dX0_mark_1 : decode cX0_mark 1 = .ok (.iconst 0, 1) := by decide +kernel
theorem dX0_mark_2 : decode cX0_mark 2 = .ok (.aload_n 0, 1) := by decide +kernel
theorem dX0_mark_3 : decode cX0_mark 3 = .ok (.iload_n 1, 1) := by decide +kernel
theorem dX0_mark_4 : decode cX0_mark 4 = .ok (.iload_n 2, 1) := by decide +kernel
theorem dX0_mark_5 : decode cX0_mark 5 = .ok (.invokevirtual 75, 3) := by decide +kernel
theorem dX0_mark_8 : decode cX0_mark 8 = .ok (.i2l, 1) := by decide +kernel
theorem dX0_mark_9 : decode cX0_mark 9 = .ok (.lastore, 1) := by decide +kernel
theorem dX0_mark_10 : decode cX0_mark 10 = .ok (.goto 7, 3) := by decide +kernel
theorem dX0_mark_13 : decode cX0_mark 13 = .ok (.astore 4, 2) := by decide +kernel
theorem dX0_mark_15 : decode cX0_mark 15 = .ok (.iconst 1, 1) := by decide +kernel
theorem dX0_mark_16 : decode cX0_mark 16 = .ok (.ireturn, 1) := by decide +kernel
theorem dX0_mark_17 : decode cX0_mark 17 = .ok (.iconst 0, 1) := by decide +kernel
theorem dX0_mark_18 : decode cX0_mark 18 = .ok (.ireturn, 1) := by decide +kernel
theorem dX0_rule_0 : decode cX0_rule 0 = .ok (.aload 5, 2) := by decide +kernel
theorem dX0_rule_2 : decode cX0_rule 2 = .ok (.iconst 0, 1) := by decide +kernel
theorem dX0_rule_3 : decode cX0_rule 3 = .ok (.aload_n 0, 1) := by decide +kernel
theorem dX0_rule_4 : decode cX0_rule 4 = .ok (.iload_n 1, 1) := by decide +kernel
theorem dX0_rule_5 : decode cX0_rule 5 = .ok (.iload_n 2, 1) := by decide +kernel
theorem dX0_rule_6 : decode cX0_rule 6 = .ok (.iload_n 3, 1) := by decide +kernel
theorem dX0_rule_7 : decode cX0_rule 7 = .ok (.iload 4, 2) := by decide +kernel
theorem dX0_rule_9 : decode cX0_rule 9 = .ok (.invokevirtual 78, 3) := by decide +kernel
theorem dX0_rule_12 : decode cX0_rule 12 = .ok (.i2l, 1) := by decide +kernel
theorem dX0_rule_13 : decode cX0_rule 13 = .ok (.lastore, 1) := by decide +kernel
theorem dX0_rule_14 : decode cX0_rule 14 = .ok (.goto 15, 3) := by decide +kernel
theorem dX0_rule_17 : decode cX0_rule 17 = .ok (.astore 6, 2) := by decide +kernel
theorem dX0_rule_19 : decode cX0_rule 19 = .ok (.iconst 1, 1) := by decide +kernel
theorem dX0_rule_20 : decode cX0_rule 20 = .ok (.ireturn, 1) := by decide +kernel
theorem dX0_rule_21 : decode cX0_rule 21 = .ok (.astore 6, 2) := by decide +kernel
theorem dX0_rule_23 : decode cX0_rule 23 = .ok (.iconst 2, 1) := by decide +kernel
theorem dX0_rule_24 : decode cX0_rule 24 = .ok (.ireturn, 1) := by decide +kernel
theorem dX0_rule_25 : decode cX0_rule 25 = .ok (.astore 6, 2) := by decide +kernel
theorem dX0_rule_27 : decode cX0_rule 27 = .ok (.iconst 3, 1) := by decide +kernel
theorem dX0_rule_28 : decode cX0_rule 28 = .ok (.ireturn, 1) := by decide +kernel
theorem dX0_rule_29 : decode cX0_rule 29 = .ok (.iconst 0, 1) := by decide +kernel
theorem dX0_rule_30 : decode cX0_rule 30 = .ok (.ireturn, 1) := by decide +kernel
theorem dX0_cost_0 : decode cX0_cost 0 = .ok (.aload 4, 2) := by decide +kernel
theorem dX0_cost_2 : decode cX0_cost 2 = .ok (.iconst 0, 1) := by decide +kernel
theorem dX0_cost_3 : decode cX0_cost 3 = .ok (.aload_n 0, 1) := by decide +kernel
theorem dX0_cost_4 : decode cX0_cost 4 = .ok (.iload_n 1, 1) := by decide +kernel
theorem dX0_cost_5 : decode cX0_cost 5 = .ok (.iload_n 2, 1) := by decide +kernel
theorem dX0_cost_6 : decode cX0_cost 6 = .ok (.iload_n 3, 1) := by decide +kernel
theorem dX0_cost_7 : decode cX0_cost 7 = .ok (.invokevirtual 81, 3) := by decide +kernel
theorem dX0_cost_10 : decode cX0_cost 10 = .ok (.i2l, 1) := by decide +kernel
theorem dX0_cost_11 : decode cX0_cost 11 = .ok (.lastore, 1) := by decide +kernel
theorem dX0_cost_12 : decode cX0_cost 12 = .ok (.goto 11, 3) := by decide +kernel
theorem dX0_cost_15 : decode cX0_cost 15 = .ok (.astore 5, 2) := by decide +kernel
theorem dX0_cost_17 : decode cX0_cost 17 = .ok (.iconst 1, 1) := by decide +kernel
theorem dX0_cost_18 : decode cX0_cost 18 = .ok (.ireturn, 1) := by decide +kernel
theorem dX0_cost_19 : decode cX0_cost 19 = .ok (.astore 5, 2) := by decide +kernel
theorem dX0_cost_21 : decode cX0_cost 21 = .ok (.iconst 2, 1) := by decide +kernel
theorem dX0_cost_22 : decode cX0_cost 22 = .ok (.ireturn, 1) := by decide +kernel
theorem dX0_cost_23 : decode cX0_cost 23 = .ok (.iconst 0, 1) := by decide +kernel
theorem dX0_cost_24 : decode cX0_cost 24 = .ok (.ireturn, 1) := by decide +kernel
theorem dX0_broken_0 : decode cX0_broken 0 = .ok (.aload_n 3, 1) := by decide +kernel
theorem dX0_broken_1 : decode cX0_broken 1 = .ok (.iconst 0, 1) := by decide +kernel
theorem dX0_broken_2 : decode cX0_broken 2 = .ok (.aload_n 0, 1) := by decide +kernel
theorem dX0_broken_3 : decode cX0_broken 3 = .ok (.iload_n 1, 1) := by decide +kernel
theorem dX0_broken_4 : decode cX0_broken 4 = .ok (.iload_n 2, 1) := by decide +kernel
theorem dX0_broken_5 : decode cX0_broken 5 = .ok (.invokevirtual 84, 3) := by decide +kernel
theorem dX0_broken_8 : decode cX0_broken 8 = .ok (.i2l, 1) := by decide +kernel
theorem dX0_broken_9 : decode cX0_broken 9 = .ok (.lastore, 1) := by decide +kernel
theorem dX0_broken_10 : decode cX0_broken 10 = .ok (.goto 7, 3) := by decide +kernel
theorem dX0_broken_13 : decode cX0_broken 13 = .ok (.astore 4, 2) := by decide +kernel
theorem dX0_broken_15 : decode cX0_broken 15 = .ok (.iconst 1, 1) := by decide +kernel
theorem dX0_broken_16 : decode cX0_broken 16 = .ok (.ireturn, 1) := by decide +kernel
theorem dX0_broken_17 : decode cX0_broken 17 = .ok (.iconst 0, 1) := by decide +kernel
theorem dX0_broken_18 : decode cX0_broken 18 = .ok (.ireturn, 1) := by decide +kernel
theorem dX0_least_0 : decode cX0_least 0 = .ok (.aload_n 3, 1) := by decide +kernel
theorem dX0_least_1 : decode cX0_least 1 = .ok (.iconst 0, 1) := by decide +kernel
theorem dX0_least_2 : decode cX0_least 2 = .ok (.aload_n 0, 1) := by decide +kernel
theorem dX0_least_3 : decode cX0_least 3 = .ok (.iload_n 1, 1) := by decide +kernel
theorem dX0_least_4 : decode cX0_least 4 = .ok (.iload_n 2, 1) := by decide +kernel
theorem dX0_least_5 : decode cX0_least 5 = .ok (.invokevirtual 87, 3) := by decide +kernel
theorem dX0_least_8 : decode cX0_least 8 = .ok (.i2l, 1) := by decide +kernel
theorem dX0_least_9 : decode cX0_least 9 = .ok (.lastore, 1) := by decide +kernel
theorem dX0_least_10 : decode cX0_least 10 = .ok (.goto 7, 3) := by decide +kernel
theorem dX0_least_13 : decode cX0_least 13 = .ok (.astore 4, 2) := by decide +kernel
theorem dX0_least_15 : decode cX0_least 15 = .ok (.iconst 1, 1) := by decide +kernel
theorem dX0_least_16 : decode cX0_least 16 = .ok (.ireturn, 1) := by decide +kernel
theorem dX0_least_17 : decode cX0_least 17 = .ok (.iconst 0, 1) := by decide +kernel
theorem dX0_least_18 : decode cX0_least 18 = .ok (.ireturn, 1) := by decide +kernel
theorem dX0_impute_0 : decode cX0_impute 0 = .ok (.aload_n 3, 1) := by decide +kernel
theorem dX0_impute_1 : decode cX0_impute 1 = .ok (.iconst 0, 1) := by decide +kernel
theorem dX0_impute_2 : decode cX0_impute 2 = .ok (.aload_n 0, 1) := by decide +kernel
theorem dX0_impute_3 : decode cX0_impute 3 = .ok (.iload_n 1, 1) := by decide +kernel
theorem dX0_impute_4 : decode cX0_impute 4 = .ok (.iload_n 2, 1) := by decide +kernel
theorem dX0_impute_5 : decode cX0_impute 5 = .ok (.invokevirtual 91, 3) := by decide +kernel
theorem dX0_impute_8 : decode cX0_impute 8 = .ok (.i2l, 1) := by decide +kernel
theorem dX0_impute_9 : decode cX0_impute 9 = .ok (.lastore, 1) := by decide +kernel
theorem dX0_impute_10 : decode cX0_impute 10 = .ok (.goto 15, 3) := by decide +kernel
theorem dX0_impute_13 : decode cX0_impute 13 = .ok (.astore 4, 2) := by decide +kernel
theorem dX0_impute_15 : decode cX0_impute 15 = .ok (.iconst 1, 1) := by decide +kernel
theorem dX0_impute_16 : decode cX0_impute 16 = .ok (.ireturn, 1) := by decide +kernel
theorem dX0_impute_17 : decode cX0_impute 17 = .ok (.astore 4, 2) := by decide +kernel
theorem dX0_impute_19 : decode cX0_impute 19 = .ok (.iconst 2, 1) := by decide +kernel
theorem dX0_impute_20 : decode cX0_impute 20 = .ok (.ireturn, 1) := by decide +kernel
theorem dX0_impute_21 : decode cX0_impute 21 = .ok (.astore 4, 2) := by decide +kernel
theorem dX0_impute_23 : decode cX0_impute 23 = .ok (.iconst 3, 1) := by decide +kernel
theorem dX0_impute_24 : decode cX0_impute 24 = .ok (.ireturn, 1) := by decide +kernel
theorem dX0_impute_25 : decode cX0_impute 25 = .ok (.iconst 0, 1) := by decide +kernel
theorem dX0_impute_26 : decode cX0_impute 26 = .ok (.ireturn, 1) := by decide +kernel
theorem dX0_sample_0 : decode cX0_sample 0 = .ok (.aload 7, 2) := by decide +kernel
theorem dX0_sample_2 : decode cX0_sample 2 = .ok (.iconst 0, 1) := by decide +kernel
theorem dX0_sample_3 : decode cX0_sample 3 = .ok (.aload_n 0, 1) := by decide +kernel
theorem dX0_sample_4 : decode cX0_sample 4 = .ok (.iload_n 1, 1) := by decide +kernel
theorem dX0_sample_5 : decode cX0_sample 5 = .ok (.iload_n 2, 1) := by decide +kernel
theorem dX0_sample_6 : decode cX0_sample 6 = .ok (.iload_n 3, 1) := by decide +kernel
theorem dX0_sample_7 : decode cX0_sample 7 = .ok (.iload 4, 2) := by decide +kernel
theorem dX0_sample_9 : decode cX0_sample 9 = .ok (.iload 5, 2) := by decide +kernel
theorem dX0_sample_11 : decode cX0_sample 11 = .ok (.iload 6, 2) := by decide +kernel
theorem dX0_sample_13 : decode cX0_sample 13 = .ok (.invokevirtual 94, 3) := by decide +kernel
theorem dX0_sample_16 : decode cX0_sample 16 = .ok (.i2l, 1) := by decide +kernel
theorem dX0_sample_17 : decode cX0_sample 17 = .ok (.lastore, 1) := by decide +kernel
theorem dX0_sample_18 : decode cX0_sample 18 = .ok (.goto 15, 3) := by decide +kernel
theorem dX0_sample_21 : decode cX0_sample 21 = .ok (.astore 8, 2) := by decide +kernel
theorem dX0_sample_23 : decode cX0_sample 23 = .ok (.iconst 1, 1) := by decide +kernel
theorem dX0_sample_24 : decode cX0_sample 24 = .ok (.ireturn, 1) := by decide +kernel
theorem dX0_sample_25 : decode cX0_sample 25 = .ok (.astore 8, 2) := by decide +kernel
theorem dX0_sample_27 : decode cX0_sample 27 = .ok (.iconst 2, 1) := by decide +kernel
theorem dX0_sample_28 : decode cX0_sample 28 = .ok (.ireturn, 1) := by decide +kernel
theorem dX0_sample_29 : decode cX0_sample 29 = .ok (.astore 8, 2) := by decide +kernel
theorem dX0_sample_31 : decode cX0_sample 31 = .ok (.iconst 3, 1) := by decide +kernel
theorem dX0_sample_32 : decode cX0_sample 32 = .ok (.ireturn, 1) := by decide +kernel
theorem dX0_sample_33 : decode cX0_sample 33 = .ok (.iconst 0, 1) := by decide +kernel
theorem dX0_sample_34 : decode cX0_sample 34 = .ok (.ireturn, 1) := by decide +kernel
theorem dX0_drawn_0 : decode cX0_drawn 0 = .ok (.aload_n 3, 1) := by decide +kernel
theorem dX0_drawn_1 : decode cX0_drawn 1 = .ok (.iconst 0, 1) := by decide +kernel
theorem dX0_drawn_2 : decode cX0_drawn 2 = .ok (.aload_n 0, 1) := by decide +kernel
theorem dX0_drawn_3 : decode cX0_drawn 3 = .ok (.iload_n 1, 1) := by decide +kernel
theorem dX0_drawn_4 : decode cX0_drawn 4 = .ok (.iload_n 2, 1) := by decide +kernel
theorem dX0_drawn_5 : decode cX0_drawn 5 = .ok (.invokevirtual 98, 3) := by decide +kernel
theorem dX0_drawn_8 : decode cX0_drawn 8 = .ok (.i2l, 1) := by decide +kernel
theorem dX0_drawn_9 : decode cX0_drawn 9 = .ok (.lastore, 1) := by decide +kernel
theorem dX0_drawn_10 : decode cX0_drawn 10 = .ok (.goto 7, 3) := by decide +kernel
theorem dX0_drawn_13 : decode cX0_drawn 13 = .ok (.astore 4, 2) := by decide +kernel
theorem dX0_drawn_15 : decode cX0_drawn 15 = .ok (.iconst 1, 1) := by decide +kernel
theorem dX0_drawn_16 : decode cX0_drawn 16 = .ok (.ireturn, 1) := by decide +kernel
theorem dX0_drawn_17 : decode cX0_drawn 17 = .ok (.iconst 0, 1) := by decide +kernel
theorem dX0_drawn_18 : decode cX0_drawn 18 = .ok (.ireturn, 1) := by decide +kernel
theorem dX0_chance_0 : decode cX0_chance 0 = .ok (.aload 4, 2) := by decide +kernel
theorem dX0_chance_2 : decode cX0_chance 2 = .ok (.iconst 0, 1) := by decide +kernel
theorem dX0_chance_3 : decode cX0_chance 3 = .ok (.aload_n 0, 1) := by decide +kernel
theorem dX0_chance_4 : decode cX0_chance 4 = .ok (.iload_n 1, 1) := by decide +kernel
theorem dX0_chance_5 : decode cX0_chance 5 = .ok (.iload_n 2, 1) := by decide +kernel
theorem dX0_chance_6 : decode cX0_chance 6 = .ok (.iload_n 3, 1) := by decide +kernel
theorem dX0_chance_7 : decode cX0_chance 7 = .ok (.invokevirtual 101, 3) := by decide +kernel
theorem dX0_chance_10 : decode cX0_chance 10 = .ok (.i2l, 1) := by decide +kernel
theorem dX0_chance_11 : decode cX0_chance 11 = .ok (.lastore, 1) := by decide +kernel
theorem dX0_chance_12 : decode cX0_chance 12 = .ok (.goto 7, 3) := by decide +kernel
theorem dX0_chance_15 : decode cX0_chance 15 = .ok (.astore 5, 2) := by decide +kernel
theorem dX0_chance_17 : decode cX0_chance 17 = .ok (.iconst 1, 1) := by decide +kernel
theorem dX0_chance_18 : decode cX0_chance 18 = .ok (.ireturn, 1) := by decide +kernel
theorem dX0_chance_19 : decode cX0_chance 19 = .ok (.iconst 0, 1) := by decide +kernel
theorem dX0_chance_20 : decode cX0_chance 20 = .ok (.ireturn, 1) := by decide +kernel
theorem dX0_overlap_0 : decode cX0_overlap 0 = .ok (.aload_n 3, 1) := by decide +kernel
theorem dX0_overlap_1 : decode cX0_overlap 1 = .ok (.iconst 0, 1) := by decide +kernel
theorem dX0_overlap_2 : decode cX0_overlap 2 = .ok (.aload_n 0, 1) := by decide +kernel
theorem dX0_overlap_3 : decode cX0_overlap 3 = .ok (.iload_n 1, 1) := by decide +kernel
theorem dX0_overlap_4 : decode cX0_overlap 4 = .ok (.iload_n 2, 1) := by decide +kernel
theorem dX0_overlap_5 : decode cX0_overlap 5 = .ok (.invokevirtual 104, 3) := by decide +kernel
theorem dX0_overlap_8 : decode cX0_overlap 8 = .ok (.i2l, 1) := by decide +kernel
theorem dX0_overlap_9 : decode cX0_overlap 9 = .ok (.lastore, 1) := by decide +kernel
theorem dX0_overlap_10 : decode cX0_overlap 10 = .ok (.goto 7, 3) := by decide +kernel
theorem dX0_overlap_13 : decode cX0_overlap 13 = .ok (.astore 4, 2) := by decide +kernel
theorem dX0_overlap_15 : decode cX0_overlap 15 = .ok (.iconst 1, 1) := by decide +kernel
theorem dX0_overlap_16 : decode cX0_overlap 16 = .ok (.ireturn, 1) := by decide +kernel
theorem dX0_overlap_17 : decode cX0_overlap 17 = .ok (.iconst 0, 1) := by decide +kernel
theorem dX0_overlap_18 : decode cX0_overlap 18 = .ok (.ireturn, 1) := by decide +kernel
theorem dX0_table_0 : decode cX0_table 0 = .ok (.aload 6, 2) := by decide +kernel
theorem dX0_table_2 : decode cX0_table 2 = .ok (.iconst 0, 1) := by decide +kernel
