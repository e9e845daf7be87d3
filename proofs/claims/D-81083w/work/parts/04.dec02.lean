set_option maxRecDepth 100000
theorem dX5_open_140 : decode cX5_open 140 = .ok (.aload_n 0, 1) := by decide +kernel
theorem dX5_open_141 : decode cX5_open 141 = .ok (.getfield 368, 3) := by decide +kernel
theorem dX5_open_144 : decode cX5_open 144 = .ok (.iconst 1, 1) := by decide +kernel
theorem dX5_open_145 : decode cX5_open 145 = .ok (.isub, 1) := by decide +kernel
theorem dX5_open_146 : decode cX5_open 146 = .ok (.ireturn, 1) := by decide +kernel
theorem dX5_question_0 : decode cX5_question 0 = .ok (.aload_n 0, 1) := by decide +kernel
theorem dX5_question_1 : decode cX5_question 1 = .ok (.iconst 0, 1) := by decide +kernel
theorem dX5_question_2 : decode cX5_question 2 = .ok (.putfield 198, 3) := by decide +kernel
theorem dX5_question_5 : decode cX5_question 5 = .ok (.aload_n 0, 1) := by decide +kernel
theorem dX5_question_6 : decode cX5_question 6 = .ok (.iload_n 1, 1) := by decide +kernel
theorem dX5_question_7 : decode cX5_question 7 = .ok (.invokevirtual 386, 3) := by decide +kernel
theorem dX5_question_10 : decode cX5_question 10 = .ok (.ifCond .eq 11, 3) := by decide +kernel
theorem dX5_question_13 : decode cX5_question 13 = .ok (.aload_n 0, 1) := by decide +kernel
theorem dX5_question_14 : decode cX5_question 14 = .ok (.iload_n 1, 1) := by decide +kernel
theorem dX5_question_15 : decode cX5_question 15 = .ok (.invokevirtual 389, 3) := by decide +kernel
theorem dX5_question_18 : decode cX5_question 18 = .ok (.goto 8, 3) := by decide +kernel
theorem dX5_question_21 : decode cX5_question 21 = .ok (.aload_n 0, 1) := by decide +kernel
theorem dX5_question_22 : decode cX5_question 22 = .ok (.iconst 1, 1) := by decide +kernel
theorem dX5_question_23 : decode cX5_question 23 = .ok (.invokevirtual 213, 3) := by decide +kernel
theorem dX5_question_26 : decode cX5_question 26 = .ok (.ireturn, 1) := by decide +kernel
theorem dX5_isSession_0 : decode cX5_isSession 0 = .ok (.iload_n 1, 1) := by decide +kernel
theorem dX5_isSession_1 : decode cX5_isSession 1 = .ok (.i2l, 1) := by decide +kernel
theorem dX5_isSession_2 : decode cX5_isSession 2 = .ok (.lconst 0, 1) := by decide +kernel
theorem dX5_isSession_3 : decode cX5_isSession 3 = .ok (.aload_n 0, 1) := by decide +kernel
theorem dX5_isSession_4 : decode cX5_isSession 4 = .ok (.getfield 368, 3) := by decide +kernel
theorem dX5_isSession_7 : decode cX5_isSession 7 = .ok (.iconst 1, 1) := by decide +kernel
theorem dX5_isSession_8 : decode cX5_isSession 8 = .ok (.isub, 1) := by decide +kernel
theorem dX5_isSession_9 : decode cX5_isSession 9 = .ok (.i2l, 1) := by decide +kernel
theorem dX5_isSession_10 : decode cX5_isSession 10 = .ok (.invokestatic 207, 3) := by decide +kernel
theorem dX5_isSession_13 : decode cX5_isSession 13 = .ok (.ireturn, 1) := by decide +kernel
theorem dX5_questionOf_0 : decode cX5_questionOf 0 = .ok (.aload_n 0, 1) := by decide +kernel
theorem dX5_questionOf_1 : decode cX5_questionOf 1 = .ok (.iload_n 1, 1) := by decide +kernel
theorem dX5_questionOf_2 : decode cX5_questionOf 2 = .ok (.iconst (-1), 1) := by decide +kernel
theorem dX5_questionOf_3 : decode cX5_questionOf 3 = .ok (.invokevirtual 383, 3) := by decide +kernel
theorem dX5_questionOf_6 : decode cX5_questionOf 6 = .ok (.aload_n 0, 1) := by decide +kernel
theorem dX5_questionOf_7 : decode cX5_questionOf 7 = .ok (.getfield 86, 3) := by decide +kernel
theorem dX5_questionOf_10 : decode cX5_questionOf 10 = .ok (.iload_n 1, 1) := by decide +kernel
theorem dX5_questionOf_11 : decode cX5_questionOf 11 = .ok (.baload, 1) := by decide +kernel
theorem dX5_questionOf_12 : decode cX5_questionOf 12 = .ok (.ifCond .ne 21, 3) := by decide +kernel
theorem dX5_questionOf_15 : decode cX5_questionOf 15 = .ok (.aload_n 0, 1) := by decide +kernel
theorem dX5_questionOf_16 : decode cX5_questionOf 16 = .ok (.getfield 377, 3) := by decide +kernel
theorem dX5_questionOf_19 : decode cX5_questionOf 19 = .ok (.aload_n 0, 1) := by decide +kernel
theorem dX5_questionOf_20 : decode cX5_questionOf 20 = .ok (.getfield 34, 3) := by decide +kernel
theorem dX5_questionOf_23 : decode cX5_questionOf 23 = .ok (.aload_n 0, 1) := by decide +kernel
theorem dX5_questionOf_24 : decode cX5_questionOf 24 = .ok (.getfield 77, 3) := by decide +kernel
theorem dX5_questionOf_27 : decode cX5_questionOf 27 = .ok (.iload_n 1, 1) := by decide +kernel
theorem dX5_questionOf_28 : decode cX5_questionOf 28 = .ok (.iaload, 1) := by decide +kernel
theorem dX5_questionOf_29 : decode cX5_questionOf 29 = .ok (.iaload, 1) := by decide +kernel
theorem dX5_questionOf_30 : decode cX5_questionOf 30 = .ok (.if_icmp .ne 7, 3) := by decide +kernel
theorem dX5_questionOf_33 : decode cX5_questionOf 33 = .ok (.iconst (-1), 1) := by decide +kernel
theorem dX5_questionOf_34 : decode cX5_questionOf 34 = .ok (.goto 7, 3) := by decide +kernel
theorem dX5_questionOf_37 : decode cX5_questionOf 37 = .ok (.aload_n 0, 1) := by decide +kernel
theorem dX5_questionOf_38 : decode cX5_questionOf 38 = .ok (.getfield 377, 3) := by decide +kernel
theorem dX5_questionOf_41 : decode cX5_questionOf 41 = .ok (.ireturn, 1) := by decide +kernel
theorem dX5_walk_0 : decode cX5_walk 0 = .ok (.aload_n 0, 1) := by decide +kernel
theorem dX5_walk_1 : decode cX5_walk 1 = .ok (.getfield 77, 3) := by decide +kernel
theorem dX5_walk_4 : decode cX5_walk 4 = .ok (.iload_n 1, 1) := by decide +kernel
theorem dX5_walk_5 : decode cX5_walk 5 = .ok (.iaload, 1) := by decide +kernel
theorem dX5_walk_6 : decode cX5_walk 6 = .ok (.istore_n 3, 1) := by decide +kernel
theorem dX5_walk_7 : decode cX5_walk 7 = .ok (.iconst 0, 1) := by decide +kernel
theorem dX5_walk_8 : decode cX5_walk 8 = .ok (.istore 4, 2) := by decide +kernel
theorem dX5_walk_10 : decode cX5_walk 10 = .ok (.iload 4, 2) := by decide +kernel
theorem dX5_walk_12 : decode cX5_walk 12 = .ok (.bipush 20, 2) := by decide +kernel
theorem dX5_walk_14 : decode cX5_walk 14 = .ok (.if_icmp .ge 18, 3) := by decide +kernel
theorem dX5_walk_17 : decode cX5_walk 17 = .ok (.aload_n 0, 1) := by decide +kernel
theorem dX5_walk_18 : decode cX5_walk 18 = .ok (.getfield 71, 3) := by decide +kernel
theorem dX5_walk_21 : decode cX5_walk 21 = .ok (.iload 4, 2) := by decide +kernel
theorem dX5_walk_23 : decode cX5_walk 23 = .ok (.ldc 244, 2) := by decide +kernel
theorem dX5_walk_25 : decode cX5_walk 25 = .ok (.iastore, 1) := by decide +kernel
theorem dX5_walk_26 : decode cX5_walk 26 = .ok (.iinc 4 1, 3) := by decide +kernel
theorem dX5_walk_29 : decode cX5_walk 29 = .ok (.goto (-19), 3) := by decide +kernel
theorem dX5_walk_32 : decode cX5_walk 32 = .ok (.iconst 0, 1) := by decide +kernel
theorem dX5_walk_33 : decode cX5_walk 33 = .ok (.istore 4, 2) := by decide +kernel
theorem dX5_walk_35 : decode cX5_walk 35 = .ok (.iload 4, 2) := by decide +kernel
theorem dX5_walk_37 : decode cX5_walk 37 = .ok (.bipush 6, 2) := by decide +kernel
theorem dX5_walk_39 : decode cX5_walk 39 = .ok (.if_icmp .ge 28, 3) := by decide +kernel
theorem dX5_walk_42 : decode cX5_walk 42 = .ok (.aload_n 0, 1) := by decide +kernel
theorem dX5_walk_43 : decode cX5_walk 43 = .ok (.getfield 74, 3) := by decide +kernel
theorem dX5_walk_46 : decode cX5_walk 46 = .ok (.iload 4, 2) := by decide +kernel
theorem dX5_walk_48 : decode cX5_walk 48 = .ok (.aload_n 0, 1) := by decide +kernel
theorem dX5_walk_49 : decode cX5_walk 49 = .ok (.getfield 83, 3) := by decide +kernel
theorem dX5_walk_52 : decode cX5_walk 52 = .ok (.bipush 6, 2) := by decide +kernel
theorem dX5_walk_54 : decode cX5_walk 54 = .ok (.iload_n 1, 1) := by decide +kernel
theorem dX5_walk_55 : decode cX5_walk 55 = .ok (.imul, 1) := by decide +kernel
theorem dX5_walk_56 : decode cX5_walk 56 = .ok (.iload 4, 2) := by decide +kernel
theorem dX5_walk_58 : decode cX5_walk 58 = .ok (.iadd, 1) := by decide +kernel
theorem dX5_walk_59 : decode cX5_walk 59 = .ok (.iaload, 1) := by decide +kernel
theorem dX5_walk_60 : decode cX5_walk 60 = .ok (.iastore, 1) := by decide +kernel
theorem dX5_walk_61 : decode cX5_walk 61 = .ok (.iinc 4 1, 3) := by decide +kernel
theorem dX5_walk_64 : decode cX5_walk 64 = .ok (.goto (-29), 3) := by decide +kernel
theorem dX5_walk_67 : decode cX5_walk 67 = .ok (.aload_n 0, 1) := by decide +kernel
theorem dX5_walk_68 : decode cX5_walk 68 = .ok (.iconst (-1), 1) := by decide +kernel
theorem dX5_walk_69 : decode cX5_walk 69 = .ok (.putfield 371, 3) := by decide +kernel
theorem dX5_walk_72 : decode cX5_walk 72 = .ok (.aload_n 0, 1) := by decide +kernel
theorem dX5_walk_73 : decode cX5_walk 73 = .ok (.iconst (-1), 1) := by decide +kernel
theorem dX5_walk_74 : decode cX5_walk 74 = .ok (.putfield 374, 3) := by decide +kernel
theorem dX5_walk_77 : decode cX5_walk 77 = .ok (.aload_n 0, 1) := by decide +kernel
theorem dX5_walk_78 : decode cX5_walk 78 = .ok (.iconst 0, 1) := by decide +kernel
theorem dX5_walk_79 : decode cX5_walk 79 = .ok (.putfield 377, 3) := by decide +kernel
theorem dX5_walk_82 : decode cX5_walk 82 = .ok (.aload_n 0, 1) := by decide +kernel
theorem dX5_walk_83 : decode cX5_walk 83 = .ok (.getfield 377, 3) := by decide +kernel
theorem dX5_walk_86 : decode cX5_walk 86 = .ok (.aload_n 0, 1) := by decide +kernel
theorem dX5_walk_87 : decode cX5_walk 87 = .ok (.getfield 34, 3) := by decide +kernel
theorem dX5_walk_90 : decode cX5_walk 90 = .ok (.iload_n 3, 1) := by decide +kernel
theorem dX5_walk_91 : decode cX5_walk 91 = .ok (.iaload, 1) := by decide +kernel
theorem dX5_walk_92 : decode cX5_walk 92 = .ok (.if_icmp .ge 314, 3) := by decide +kernel
theorem dX5_walk_95 : decode cX5_walk 95 = .ok (.bipush 20, 2) := by decide +kernel
theorem dX5_walk_97 : decode cX5_walk 97 = .ok (.iload_n 3, 1) := by decide +kernel
theorem dX5_walk_98 : decode cX5_walk 98 = .ok (.imul, 1) := by decide +kernel
theorem dX5_walk_99 : decode cX5_walk 99 = .ok (.aload_n 0, 1) := by decide +kernel
theorem dX5_walk_100 : decode cX5_walk 100 = .ok (.getfield 377, 3) := by decide +kernel
theorem dX5_walk_103 : decode cX5_walk 103 = .ok (.iadd, 1) := by decide +kernel
theorem dX5_walk_104 : decode cX5_walk 104 = .ok (.istore 4, 2) := by decide +kernel
theorem dX5_walk_106 : decode cX5_walk 106 = .ok (.aload_n 0, 1) := by decide +kernel
theorem dX5_walk_107 : decode cX5_walk 107 = .ok (.getfield 59, 3) := by decide +kernel
theorem dX5_walk_110 : decode cX5_walk 110 = .ok (.iload 4, 2) := by decide +kernel
theorem dX5_walk_112 : decode cX5_walk 112 = .ok (.iaload, 1) := by decide +kernel
theorem dX5_walk_113 : decode cX5_walk 113 = .ok (.iconst (-1), 1) := by decide +kernel
theorem dX5_walk_114 : decode cX5_walk 114 = .ok (.if_icmp .eq 24, 3) := by decide +kernel
theorem dX5_walk_117 : decode cX5_walk 117 = .ok (.aload_n 0, 1) := by decide +kernel
theorem dX5_walk_118 : decode cX5_walk 118 = .ok (.aload_n 0, 1) := by decide +kernel
theorem dX5_walk_119 : decode cX5_walk 119 = .ok (.getfield 59, 3) := by decide +kernel
theorem dX5_walk_122 : decode cX5_walk 122 = .ok (.iload 4, 2) := by decide +kernel
theorem dX5_walk_124 : decode cX5_walk 124 = .ok (.iaload, 1) := by decide +kernel
theorem dX5_walk_125 : decode cX5_walk 125 = .ok (.aload_n 0, 1) := by decide +kernel
theorem dX5_walk_126 : decode cX5_walk 126 = .ok (.getfield 62, 3) := by decide +kernel
theorem dX5_walk_129 : decode cX5_walk 129 = .ok (.iload 4, 2) := by decide +kernel
theorem dX5_walk_131 : decode cX5_walk 131 = .ok (.iaload, 1) := by decide +kernel
theorem dX5_walk_132 : decode cX5_walk 132 = .ok (.invokevirtual 380, 3) := by decide +kernel
theorem dX5_walk_135 : decode cX5_walk 135 = .ok (.ifCond .eq 7, 3) := by decide +kernel
theorem dX5_walk_138 : decode cX5_walk 138 = .ok (.iconst 1, 1) := by decide +kernel
theorem dX5_walk_139 : decode cX5_walk 139 = .ok (.goto 4, 3) := by decide +kernel
theorem dX5_walk_142 : decode cX5_walk 142 = .ok (.iconst 0, 1) := by decide +kernel
theorem dX5_walk_143 : decode cX5_walk 143 = .ok (.istore 5, 2) := by decide +kernel
theorem dX5_walk_145 : decode cX5_walk 145 = .ok (.aload_n 0, 1) := by decide +kernel
theorem dX5_walk_146 : decode cX5_walk 146 = .ok (.getfield 37, 3) := by decide +kernel
theorem dX5_walk_149 : decode cX5_walk 149 = .ok (.iload 4, 2) := by decide +kernel
theorem dX5_walk_151 : decode cX5_walk 151 = .ok (.iaload, 1) := by decide +kernel
theorem dX5_walk_152 : decode cX5_walk 152 = .ok (.ifCond .ne 62, 3) := by decide +kernel
theorem dX5_walk_155 : decode cX5_walk 155 = .ok (.iload 5, 2) := by decide +kernel
theorem dX5_walk_157 : decode cX5_walk 157 = .ok (.ifCond .eq 21, 3) := by decide +kernel
theorem dX5_walk_160 : decode cX5_walk 160 = .ok (.aload_n 0, 1) := by decide +kernel
theorem dX5_walk_161 : decode cX5_walk 161 = .ok (.getfield 90, 3) := by decide +kernel
theorem dX5_walk_164 : decode cX5_walk 164 = .ok (.bipush 20, 2) := by decide +kernel
theorem dX5_walk_166 : decode cX5_walk 166 = .ok (.iload_n 1, 1) := by decide +kernel
theorem dX5_walk_167 : decode cX5_walk 167 = .ok (.imul, 1) := by decide +kernel
theorem dX5_walk_168 : decode cX5_walk 168 = .ok (.aload_n 0, 1) := by decide +kernel
theorem dX5_walk_169 : decode cX5_walk 169 = .ok (.getfield 377, 3) := by decide +kernel
theorem dX5_walk_172 : decode cX5_walk 172 = .ok (.iadd, 1) := by decide +kernel
theorem dX5_walk_173 : decode cX5_walk 173 = .ok (.baload, 1) := by decide +kernel
theorem dX5_walk_174 : decode cX5_walk 174 = .ok (.ifCond .ne 4, 3) := by decide +kernel
theorem dX5_walk_177 : decode cX5_walk 177 = .ok (.return_, 1) := by decide +kernel
theorem dX5_walk_178 : decode cX5_walk 178 = .ok (.aload_n 0, 1) := by decide +kernel
theorem dX5_walk_179 : decode cX5_walk 179 = .ok (.getfield 71, 3) := by decide +kernel
theorem dX5_walk_182 : decode cX5_walk 182 = .ok (.aload_n 0, 1) := by decide +kernel
theorem dX5_walk_183 : decode cX5_walk 183 = .ok (.getfield 377, 3) := by decide +kernel
theorem dX5_walk_186 : decode cX5_walk 186 = .ok (.iload 5, 2) := by decide +kernel
theorem dX5_walk_188 : decode cX5_walk 188 = .ok (.ifCond .eq 20, 3) := by decide +kernel
theorem dX5_walk_191 : decode cX5_walk 191 = .ok (.aload_n 0, 1) := by decide +kernel
theorem dX5_walk_192 : decode cX5_walk 192 = .ok (.getfield 93, 3) := by decide +kernel
theorem dX5_walk_195 : decode cX5_walk 195 = .ok (.bipush 20, 2) := by decide +kernel
theorem dX5_walk_197 : decode cX5_walk 197 = .ok (.iload_n 1, 1) := by decide +kernel
theorem dX5_walk_198 : decode cX5_walk 198 = .ok (.imul, 1) := by decide +kernel
theorem dX5_walk_199 : decode cX5_walk 199 = .ok (.aload_n 0, 1) := by decide +kernel
theorem dX5_walk_200 : decode cX5_walk 200 = .ok (.getfield 377, 3) := by decide +kernel
theorem dX5_walk_203 : decode cX5_walk 203 = .ok (.iadd, 1) := by decide +kernel
theorem dX5_walk_204 : decode cX5_walk 204 = .ok (.iaload, 1) := by decide +kernel
theorem dX5_walk_205 : decode cX5_walk 205 = .ok (.goto 5, 3) := by decide +kernel
theorem dX5_walk_208 : decode cX5_walk 208 = .ok (.ldc 244, 2) := by decide +kernel
theorem dX5_walk_210 : decode cX5_walk 210 = .ok (.iastore, 1) := by decide +kernel
theorem dX5_walk_211 : decode cX5_walk 211 = .ok (.goto 182, 3) := by decide +kernel
theorem dX5_walk_214 : decode cX5_walk 214 = .ok (.aload_n 0, 1) := by decide +kernel
theorem dX5_walk_215 : decode cX5_walk 215 = .ok (.getfield 37, 3) := by decide +kernel
theorem dX5_walk_218 : decode cX5_walk 218 = .ok (.iload 4, 2) := by decide +kernel
theorem dX5_walk_220 : decode cX5_walk 220 = .ok (.iaload, 1) := by decide +kernel
theorem dX5_walk_221 : decode cX5_walk 221 = .ok (.iconst 1, 1) := by decide +kernel
theorem dX5_walk_222 : decode cX5_walk 222 = .ok (.if_icmp .ne 43, 3) := by decide +kernel
theorem dX5_walk_225 : decode cX5_walk 225 = .ok (.aload_n 0, 1) := by decide +kernel
theorem dX5_walk_226 : decode cX5_walk 226 = .ok (.getfield 71, 3) := by decide +kernel
theorem dX5_walk_229 : decode cX5_walk 229 = .ok (.aload_n 0, 1) := by decide +kernel
theorem dX5_walk_230 : decode cX5_walk 230 = .ok (.getfield 377, 3) := by decide +kernel
theorem dX5_walk_233 : decode cX5_walk 233 = .ok (.iload 5, 2) := by decide +kernel
theorem dX5_walk_235 : decode cX5_walk 235 = .ok (.ifCond .eq 24, 3) := by decide +kernel
theorem dX5_walk_238 : decode cX5_walk 238 = .ok (.aload_n 0, 1) := by decide +kernel
theorem dX5_walk_239 : decode cX5_walk 239 = .ok (.aload_n 0, 1) := by decide +kernel
theorem dX5_walk_240 : decode cX5_walk 240 = .ok (.getfield 53, 3) := by decide +kernel
theorem dX5_walk_243 : decode cX5_walk 243 = .ok (.iload 4, 2) := by decide +kernel
theorem dX5_walk_245 : decode cX5_walk 245 = .ok (.iaload, 1) := by decide +kernel
theorem dX5_walk_246 : decode cX5_walk 246 = .ok (.aload_n 0, 1) := by decide +kernel
theorem dX5_walk_247 : decode cX5_walk 247 = .ok (.getfield 56, 3) := by decide +kernel
theorem dX5_walk_250 : decode cX5_walk 250 = .ok (.iload 4, 2) := by decide +kernel
theorem dX5_walk_252 : decode cX5_walk 252 = .ok (.iaload, 1) := by decide +kernel
theorem dX5_walk_253 : decode cX5_walk 253 = .ok (.invokevirtual 365, 3) := by decide +kernel
theorem dX5_walk_256 : decode cX5_walk 256 = .ok (.goto 5, 3) := by decide +kernel
theorem dX5_walk_259 : decode cX5_walk 259 = .ok (.ldc 244, 2) := by decide +kernel
theorem dX5_walk_261 : decode cX5_walk 261 = .ok (.iastore, 1) := by decide +kernel
theorem dX5_walk_262 : decode cX5_walk 262 = .ok (.goto 131, 3) := by decide +kernel
theorem dX5_walk_265 : decode cX5_walk 265 = .ok (.iload 5, 2) := by decide +kernel
theorem dX5_walk_267 : decode cX5_walk 267 = .ok (.ifCond .ne 126, 3) := by decide +kernel
theorem dX5_walk_270 : decode cX5_walk 270 = .ok (.aload_n 0, 1) := by decide +kernel
theorem dX5_walk_271 : decode cX5_walk 271 = .ok (.getfield 361, 3) := by decide +kernel
theorem dX5_walk_274 : decode cX5_walk 274 = .ok (.ifCond .ne 119, 3) := by decide +kernel
theorem dX5_walk_277 : decode cX5_walk 277 = .ok (.aload_n 0, 1) := by decide +kernel
theorem dX5_walk_278 : decode cX5_walk 278 = .ok (.getfield 377, 3) := by decide +kernel
theorem dX5_walk_281 : decode cX5_walk 281 = .ok (.iload_n 2, 1) := by decide +kernel
theorem dX5_walk_282 : decode cX5_walk 282 = .ok (.if_icmp .le 111, 3) := by decide +kernel
theorem dX5_walk_285 : decode cX5_walk 285 = .ok (.aload_n 0, 1) := by decide +kernel
theorem dX5_walk_286 : decode cX5_walk 286 = .ok (.getfield 37, 3) := by decide +kernel
theorem dX5_walk_289 : decode cX5_walk 289 = .ok (.iload 4, 2) := by decide +kernel
theorem dX5_walk_291 : decode cX5_walk 291 = .ok (.iaload, 1) := by decide +kernel
theorem dX5_walk_292 : decode cX5_walk 292 = .ok (.iconst 2, 1) := by decide +kernel
theorem dX5_walk_293 : decode cX5_walk 293 = .ok (.if_icmp .eq 20, 3) := by decide +kernel
theorem dX5_walk_296 : decode cX5_walk 296 = .ok (.aload_n 0, 1) := by decide +kernel
theorem dX5_walk_297 : decode cX5_walk 297 = .ok (.getfield 102, 3) := by decide +kernel
theorem dX5_walk_300 : decode cX5_walk 300 = .ok (.bipush 20, 2) := by decide +kernel
theorem dX5_walk_302 : decode cX5_walk 302 = .ok (.iload_n 1, 1) := by decide +kernel
theorem dX5_walk_303 : decode cX5_walk 303 = .ok (.imul, 1) := by decide +kernel
theorem dX5_walk_304 : decode cX5_walk 304 = .ok (.aload_n 0, 1) := by decide +kernel
theorem dX5_walk_305 : decode cX5_walk 305 = .ok (.getfield 377, 3) := by decide +kernel
theorem dX5_walk_308 : decode cX5_walk 308 = .ok (.iadd, 1) := by decide +kernel
theorem dX5_walk_309 : decode cX5_walk 309 = .ok (.baload, 1) := by decide +kernel
theorem dX5_walk_310 : decode cX5_walk 310 = .ok (.ifCond .ne 7, 3) := by decide +kernel
theorem dX5_walk_313 : decode cX5_walk 313 = .ok (.iconst 1, 1) := by decide +kernel
theorem dX5_walk_314 : decode cX5_walk 314 = .ok (.goto 4, 3) := by decide +kernel
theorem dX5_walk_317 : decode cX5_walk 317 = .ok (.iconst 0, 1) := by decide +kernel
theorem dX5_walk_318 : decode cX5_walk 318 = .ok (.istore 6, 2) := by decide +kernel
theorem dX5_walk_320 : decode cX5_walk 320 = .ok (.aload_n 0, 1) := by decide +kernel
theorem dX5_walk_321 : decode cX5_walk 321 = .ok (.aload_n 0, 1) := by decide +kernel
theorem dX5_walk_322 : decode cX5_walk 322 = .ok (.getfield 37, 3) := by decide +kernel
theorem dX5_walk_325 : decode cX5_walk 325 = .ok (.iload 4, 2) := by decide +kernel
theorem dX5_walk_327 : decode cX5_walk 327 = .ok (.iaload, 1) := by decide +kernel
theorem dX5_walk_328 : decode cX5_walk 328 = .ok (.iconst 2, 1) := by decide +kernel
theorem dX5_walk_329 : decode cX5_walk 329 = .ok (.if_icmp .ne 18, 3) := by decide +kernel
theorem dX5_walk_332 : decode cX5_walk 332 = .ok (.aload_n 0, 1) := by decide +kernel
theorem dX5_walk_333 : decode cX5_walk 333 = .ok (.getfield 371, 3) := by decide +kernel
theorem dX5_walk_336 : decode cX5_walk 336 = .ok (.iconst (-1), 1) := by decide +kernel
theorem dX5_walk_337 : decode cX5_walk 337 = .ok (.if_icmp .ne 10, 3) := by decide +kernel
theorem dX5_walk_340 : decode cX5_walk 340 = .ok (.aload_n 0, 1) := by decide +kernel
theorem dX5_walk_341 : decode cX5_walk 341 = .ok (.getfield 377, 3) := by decide +kernel
theorem dX5_walk_344 : decode cX5_walk 344 = .ok (.goto 7, 3) := by decide +kernel
theorem dX5_walk_347 : decode cX5_walk 347 = .ok (.aload_n 0, 1) := by decide +kernel
theorem dX5_walk_348 : decode cX5_walk 348 = .ok (.getfield 371, 3) := by decide +kernel
theorem dX5_walk_351 : decode cX5_walk 351 = .ok (.putfield 371, 3) := by decide +kernel
theorem dX5_walk_354 : decode cX5_walk 354 = .ok (.aload_n 0, 1) := by decide +kernel
theorem dX5_walk_355 : decode cX5_walk 355 = .ok (.aload_n 0, 1) := by decide +kernel
theorem dX5_walk_356 : decode cX5_walk 356 = .ok (.getfield 37, 3) := by decide +kernel
theorem dX5_walk_359 : decode cX5_walk 359 = .ok (.iload 4, 2) := by decide +kernel
theorem dX5_walk_361 : decode cX5_walk 361 = .ok (.iaload, 1) := by decide +kernel
theorem dX5_walk_362 : decode cX5_walk 362 = .ok (.iconst 3, 1) := by decide +kernel
theorem dX5_walk_363 : decode cX5_walk 363 = .ok (.if_icmp .ne 23, 3) := by decide +kernel
theorem dX5_walk_366 : decode cX5_walk 366 = .ok (.aload_n 0, 1) := by decide +kernel
theorem dX5_walk_367 : decode cX5_walk 367 = .ok (.getfield 374, 3) := by decide +kernel
theorem dX5_walk_370 : decode cX5_walk 370 = .ok (.iconst (-1), 1) := by decide +kernel
theorem dX5_walk_371 : decode cX5_walk 371 = .ok (.if_icmp .ne 15, 3) := by decide +kernel
theorem dX5_walk_374 : decode cX5_walk 374 = .ok (.iload 6, 2) := by decide +kernel
theorem dX5_walk_376 : decode cX5_walk 376 = .ok (.ifCond .eq 10, 3) := by decide +kernel
theorem dX5_walk_379 : decode cX5_walk 379 = .ok (.aload_n 0, 1) := by decide +kernel
theorem dX5_walk_380 : decode cX5_walk 380 = .ok (.getfield 377, 3) := by decide +kernel
theorem dX5_walk_383 : decode cX5_walk 383 = .ok (.goto 7, 3) := by decide +kernel
theorem dX5_walk_386 : decode cX5_walk 386 = .ok (.aload_n 0, 1) := by decide +kernel
theorem dX5_walk_387 : decode cX5_walk 387 = .ok (.getfield 374, 3) := by decide +kernel
theorem dX5_walk_390 : decode cX5_walk 390 = .ok (.putfield 374, 3) := by decide +kernel
theorem dX5_walk_393 : decode cX5_walk 393 = .ok (.aload_n 0, 1) := by decide +kernel
theorem dX5_walk_394 : decode cX5_walk 394 = .ok (.dup, 1) := by decide +kernel
theorem dX5_walk_395 : decode cX5_walk 395 = .ok (.getfield 377, 3) := by decide +kernel
theorem dX5_walk_398 : decode cX5_walk 398 = .ok (.iconst 1, 1) := by decide +kernel
theorem dX5_walk_399 : decode cX5_walk 399 = .ok (.iadd, 1) := by decide +kernel
theorem dX5_walk_400 : decode cX5_walk 400 = .ok (.putfield 377, 3) := by decide +kernel
theorem dX5_walk_403 : decode cX5_walk 403 = .ok (.goto (-321), 3) := by decide +kernel
theorem dX5_walk_406 : decode cX5_walk 406 = .ok (.return_, 1) := by decide +kernel
theorem dX5_holds_0 : decode cX5_holds 0 = .ok (.aload_n 0, 1) := by decide +kernel
theorem dX5_holds_1 : decode cX5_holds 1 = .ok (.iconst 0, 1) := by decide +kernel
theorem dX5_holds_2 : decode cX5_holds 2 = .ok (.putfield 361, 3) := by decide +kernel
theorem dX5_holds_5 : decode cX5_holds 5 = .ok (.iconst 0, 1) := by decide +kernel
theorem dX5_holds_6 : decode cX5_holds 6 = .ok (.istore_n 3, 1) := by decide +kernel
theorem dX5_holds_7 : decode cX5_holds 7 = .ok (.iconst 1, 1) := by decide +kernel
theorem dX5_holds_8 : decode cX5_holds 8 = .ok (.istore 4, 2) := by decide +kernel
theorem dX5_holds_10 : decode cX5_holds 10 = .ok (.iload_n 1, 1) := by decide +kernel
theorem dX5_holds_11 : decode cX5_holds 11 = .ok (.istore 5, 2) := by decide +kernel
theorem dX5_holds_13 : decode cX5_holds 13 = .ok (.iload 5, 2) := by decide +kernel
theorem dX5_holds_15 : decode cX5_holds 15 = .ok (.iload_n 2, 1) := by decide +kernel
theorem dX5_holds_16 : decode cX5_holds 16 = .ok (.if_icmp .ge 246, 3) := by decide +kernel
theorem dX5_holds_19 : decode cX5_holds 19 = .ok (.aload_n 0, 1) := by decide +kernel
theorem dX5_holds_20 : decode cX5_holds 20 = .ok (.iload 5, 2) := by decide +kernel
theorem dX5_holds_22 : decode cX5_holds 22 = .ok (.iload_n 2, 1) := by decide +kernel
theorem dX5_holds_23 : decode cX5_holds 23 = .ok (.invokevirtual 365, 3) := by decide +kernel
theorem dX5_holds_26 : decode cX5_holds 26 = .ok (.istore 6, 2) := by decide +kernel
theorem dX5_holds_28 : decode cX5_holds 28 = .ok (.aload_n 0, 1) := by decide +kernel
theorem dX5_holds_29 : decode cX5_holds 29 = .ok (.getfield 65, 3) := by decide +kernel
theorem dX5_holds_32 : decode cX5_holds 32 = .ok (.aload_n 0, 1) := by decide +kernel
theorem dX5_holds_33 : decode cX5_holds 33 = .ok (.getfield 358, 3) := by decide +kernel
theorem dX5_holds_36 : decode cX5_holds 36 = .ok (.iaload, 1) := by decide +kernel
theorem dX5_holds_37 : decode cX5_holds 37 = .ok (.istore 7, 2) := by decide +kernel
theorem dX5_holds_39 : decode cX5_holds 39 = .ok (.aload_n 0, 1) := by decide +kernel
theorem dX5_holds_40 : decode cX5_holds 40 = .ok (.aload_n 0, 1) := by decide +kernel
theorem dX5_holds_41 : decode cX5_holds 41 = .ok (.getfield 358, 3) := by decide +kernel
theorem dX5_holds_44 : decode cX5_holds 44 = .ok (.iconst 1, 1) := by decide +kernel
theorem dX5_holds_45 : decode cX5_holds 45 = .ok (.iadd, 1) := by decide +kernel
theorem dX5_holds_46 : decode cX5_holds 46 = .ok (.iload_n 2, 1) := by decide +kernel
theorem dX5_holds_47 : decode cX5_holds 47 = .ok (.invokevirtual 365, 3) := by decide +kernel
theorem dX5_holds_50 : decode cX5_holds 50 = .ok (.istore 8, 2) := by decide +kernel
theorem dX5_holds_52 : decode cX5_holds 52 = .ok (.aload_n 0, 1) := by decide +kernel
theorem dX5_holds_53 : decode cX5_holds 53 = .ok (.aload_n 0, 1) := by decide +kernel
theorem dX5_holds_54 : decode cX5_holds 54 = .ok (.getfield 361, 3) := by decide +kernel
theorem dX5_holds_57 : decode cX5_holds 57 = .ok (.ifCond .ne 17, 3) := by decide +kernel
theorem dX5_holds_60 : decode cX5_holds 60 = .ok (.iload 6, 2) := by decide +kernel
theorem dX5_holds_62 : decode cX5_holds 62 = .ok (.ldc 244, 2) := by decide +kernel
theorem dX5_holds_64 : decode cX5_holds 64 = .ok (.if_icmp .eq 10, 3) := by decide +kernel
theorem dX5_holds_67 : decode cX5_holds 67 = .ok (.iload 8, 2) := by decide +kernel
theorem dX5_holds_69 : decode cX5_holds 69 = .ok (.ldc 244, 2) := by decide +kernel
theorem dX5_holds_71 : decode cX5_holds 71 = .ok (.if_icmp .ne 7, 3) := by decide +kernel
theorem dX5_holds_74 : decode cX5_holds 74 = .ok (.iconst 1, 1) := by decide +kernel
theorem dX5_holds_75 : decode cX5_holds 75 = .ok (.goto 4, 3) := by decide +kernel
theorem dX5_holds_78 : decode cX5_holds 78 = .ok (.iconst 0, 1) := by decide +kernel
theorem dX5_holds_79 : decode cX5_holds 79 = .ok (.putfield 361, 3) := by decide +kernel
theorem dX5_holds_82 : decode cX5_holds 82 = .ok (.iload 6, 2) := by decide +kernel
theorem dX5_holds_84 : decode cX5_holds 84 = .ok (.ldc 244, 2) := by decide +kernel
theorem dX5_holds_86 : decode cX5_holds 86 = .ok (.if_icmp .eq 105, 3) := by decide +kernel
theorem dX5_holds_89 : decode cX5_holds 89 = .ok (.iload 8, 2) := by decide +kernel
theorem dX5_holds_91 : decode cX5_holds 91 = .ok (.ldc 244, 2) := by decide +kernel
theorem dX5_holds_93 : decode cX5_holds 93 = .ok (.if_icmp .eq 98, 3) := by decide +kernel
theorem dX5_holds_96 : decode cX5_holds 96 = .ok (.iload 7, 2) := by decide +kernel
theorem dX5_holds_98 : decode cX5_holds 98 = .ok (.iconst 5, 1) := by decide +kernel
theorem dX5_holds_99 : decode cX5_holds 99 = .ok (.if_icmp .ne 13, 3) := by decide +kernel
theorem dX5_holds_102 : decode cX5_holds 102 = .ok (.iload 6, 2) := by decide +kernel
theorem dX5_holds_104 : decode cX5_holds 104 = .ok (.iload 8, 2) := by decide +kernel
theorem dX5_holds_106 : decode cX5_holds 106 = .ok (.if_icmp .ge 85, 3) := by decide +kernel
theorem dX5_holds_109 : decode cX5_holds 109 = .ok (.goto 78, 3) := by decide +kernel
theorem dX5_holds_112 : decode cX5_holds 112 = .ok (.iload 7, 2) := by decide +kernel
theorem dX5_holds_114 : decode cX5_holds 114 = .ok (.bipush 6, 2) := by decide +kernel
theorem dX5_holds_116 : decode cX5_holds 116 = .ok (.if_icmp .ne 13, 3) := by decide +kernel
theorem dX5_holds_119 : decode cX5_holds 119 = .ok (.iload 6, 2) := by decide +kernel
theorem dX5_holds_121 : decode cX5_holds 121 = .ok (.iload 8, 2) := by decide +kernel
theorem dX5_holds_123 : decode cX5_holds 123 = .ok (.if_icmp .gt 68, 3) := by decide +kernel
theorem dX5_holds_126 : decode cX5_holds 126 = .ok (.goto 61, 3) := by decide +kernel
theorem dX5_holds_129 : decode cX5_holds 129 = .ok (.iload 7, 2) := by decide +kernel
theorem dX5_holds_131 : decode cX5_holds 131 = .ok (.bipush 7, 2) := by decide +kernel
theorem dX5_holds_133 : decode cX5_holds 133 = .ok (.if_icmp .ne 13, 3) := by decide +kernel
theorem dX5_holds_136 : decode cX5_holds 136 = .ok (.iload 6, 2) := by decide +kernel
theorem dX5_holds_138 : decode cX5_holds 138 = .ok (.iload 8, 2) := by decide +kernel
theorem dX5_holds_140 : decode cX5_holds 140 = .ok (.if_icmp .ne 51, 3) := by decide +kernel
theorem dX5_holds_143 : decode cX5_holds 143 = .ok (.goto 44, 3) := by decide +kernel
theorem dX5_holds_146 : decode cX5_holds 146 = .ok (.iload 7, 2) := by decide +kernel
theorem dX5_holds_148 : decode cX5_holds 148 = .ok (.bipush 8, 2) := by decide +kernel
theorem dX5_holds_150 : decode cX5_holds 150 = .ok (.if_icmp .ne 13, 3) := by decide +kernel
theorem dX5_holds_153 : decode cX5_holds 153 = .ok (.iload 6, 2) := by decide +kernel
theorem dX5_holds_155 : decode cX5_holds 155 = .ok (.iload 8, 2) := by decide +kernel
theorem dX5_holds_157 : decode cX5_holds 157 = .ok (.if_icmp .eq 34, 3) := by decide +kernel
theorem dX5_holds_160 : decode cX5_holds 160 = .ok (.goto 27, 3) := by decide +kernel
theorem dX5_holds_163 : decode cX5_holds 163 = .ok (.iload 7, 2) := by decide +kernel
theorem dX5_holds_165 : decode cX5_holds 165 = .ok (.bipush 9, 2) := by decide +kernel
theorem dX5_holds_167 : decode cX5_holds 167 = .ok (.if_icmp .ne 13, 3) := by decide +kernel
theorem dX5_holds_170 : decode cX5_holds 170 = .ok (.iload 6, 2) := by decide +kernel
theorem dX5_holds_172 : decode cX5_holds 172 = .ok (.iload 8, 2) := by decide +kernel
theorem dX5_holds_174 : decode cX5_holds 174 = .ok (.if_icmp .lt 17, 3) := by decide +kernel
theorem dX5_holds_177 : decode cX5_holds 177 = .ok (.goto 10, 3) := by decide +kernel
theorem dX5_holds_180 : decode cX5_holds 180 = .ok (.iload 6, 2) := by decide +kernel
theorem dX5_holds_182 : decode cX5_holds 182 = .ok (.iload 8, 2) := by decide +kernel
theorem dX5_holds_184 : decode cX5_holds 184 = .ok (.if_icmp .le 7, 3) := by decide +kernel
theorem dX5_holds_187 : decode cX5_holds 187 = .ok (.iconst 1, 1) := by decide +kernel
theorem dX5_holds_188 : decode cX5_holds 188 = .ok (.goto 4, 3) := by decide +kernel
theorem dX5_holds_191 : decode cX5_holds 191 = .ok (.iconst 0, 1) := by decide +kernel
theorem dX5_holds_192 : decode cX5_holds 192 = .ok (.istore 9, 2) := by decide +kernel
theorem dX5_holds_194 : decode cX5_holds 194 = .ok (.iload 4, 2) := by decide +kernel
theorem dX5_holds_196 : decode cX5_holds 196 = .ok (.ifCond .eq 12, 3) := by decide +kernel
theorem dX5_holds_199 : decode cX5_holds 199 = .ok (.iload 9, 2) := by decide +kernel
theorem dX5_holds_201 : decode cX5_holds 201 = .ok (.ifCond .eq 7, 3) := by decide +kernel
theorem dX5_holds_204 : decode cX5_holds 204 = .ok (.iconst 1, 1) := by decide +kernel
theorem dX5_holds_205 : decode cX5_holds 205 = .ok (.goto 4, 3) := by decide +kernel
theorem dX5_holds_208 : decode cX5_holds 208 = .ok (.iconst 0, 1) := by decide +kernel
theorem dX5_holds_209 : decode cX5_holds 209 = .ok (.istore 4, 2) := by decide +kernel
theorem dX5_holds_211 : decode cX5_holds 211 = .ok (.aload_n 0, 1) := by decide +kernel
theorem dX5_holds_212 : decode cX5_holds 212 = .ok (.getfield 358, 3) := by decide +kernel
theorem dX5_holds_215 : decode cX5_holds 215 = .ok (.iload_n 2, 1) := by decide +kernel
theorem dX5_holds_216 : decode cX5_holds 216 = .ok (.if_icmp .ge 35, 3) := by decide +kernel
theorem dX5_holds_219 : decode cX5_holds 219 = .ok (.aload_n 0, 1) := by decide +kernel
theorem dX5_holds_220 : decode cX5_holds 220 = .ok (.getfield 65, 3) := by decide +kernel
theorem dX5_holds_223 : decode cX5_holds 223 = .ok (.aload_n 0, 1) := by decide +kernel
theorem dX5_holds_224 : decode cX5_holds 224 = .ok (.getfield 358, 3) := by decide +kernel
theorem dX5_holds_227 : decode cX5_holds 227 = .ok (.iaload, 1) := by decide +kernel
theorem dX5_holds_228 : decode cX5_holds 228 = .ok (.bipush 12, 2) := by decide +kernel
theorem dX5_holds_230 : decode cX5_holds 230 = .ok (.if_icmp .ne 21, 3) := by decide +kernel
theorem dX5_holds_233 : decode cX5_holds 233 = .ok (.iload_n 3, 1) := by decide +kernel
theorem dX5_holds_234 : decode cX5_holds 234 = .ok (.ifCond .ne 8, 3) := by decide +kernel
theorem dX5_holds_237 : decode cX5_holds 237 = .ok (.iload 4, 2) := by decide +kernel
theorem dX5_holds_239 : decode cX5_holds 239 = .ok (.ifCond .eq 7, 3) := by decide +kernel
theorem dX5_holds_242 : decode cX5_holds 242 = .ok (.iconst 1, 1) := by decide +kernel
theorem dX5_holds_243 : decode cX5_holds 243 = .ok (.goto 4, 3) := by decide +kernel
theorem dX5_holds_246 : decode cX5_holds 246 = .ok (.iconst 0, 1) := by decide +kernel
theorem dX5_holds_247 : decode cX5_holds 247 = .ok (.istore_n 3, 1) := by decide +kernel
theorem dX5_holds_248 : decode cX5_holds 248 = .ok (.iconst 1, 1) := by decide +kernel
theorem dX5_holds_249 : decode cX5_holds 249 = .ok (.istore 4, 2) := by decide +kernel
theorem dX5_holds_251 : decode cX5_holds 251 = .ok (.aload_n 0, 1) := by decide +kernel
theorem dX5_holds_252 : decode cX5_holds 252 = .ok (.getfield 358, 3) := by decide +kernel
theorem dX5_holds_255 : decode cX5_holds 255 = .ok (.iconst 1, 1) := by decide +kernel
theorem dX5_holds_256 : decode cX5_holds 256 = .ok (.iadd, 1) := by decide +kernel
theorem dX5_holds_257 : decode cX5_holds 257 = .ok (.istore 5, 2) := by decide +kernel
theorem dX5_holds_259 : decode cX5_holds 259 = .ok (.goto (-246), 3) := by decide +kernel
theorem dX5_holds_262 : decode cX5_holds 262 = .ok (.iload_n 3, 1) := by decide +kernel
theorem dX5_holds_263 : decode cX5_holds 263 = .ok (.ifCond .ne 8, 3) := by decide +kernel
theorem dX5_holds_266 : decode cX5_holds 266 = .ok (.iload 4, 2) := by decide +kernel
theorem dX5_holds_268 : decode cX5_holds 268 = .ok (.ifCond .eq 7, 3) := by decide +kernel
theorem dX5_holds_271 : decode cX5_holds 271 = .ok (.iconst 1, 1) := by decide +kernel
theorem dX5_holds_272 : decode cX5_holds 272 = .ok (.goto 4, 3) := by decide +kernel
theorem dX5_holds_275 : decode cX5_holds 275 = .ok (.iconst 0, 1) := by decide +kernel
theorem dX5_holds_276 : decode cX5_holds 276 = .ok (.ireturn, 1) := by decide +kernel
theorem dX5_sum_0 : decode cX5_sum 0 = .ok (.lconst 0, 1) := by decide +kernel
theorem dX5_sum_1 : decode cX5_sum 1 = .ok (.lstore_n 3, 1) := by decide +kernel
theorem dX5_sum_2 : decode cX5_sum 2 = .ok (.iconst 0, 1) := by decide +kernel
theorem dX5_sum_3 : decode cX5_sum 3 = .ok (.istore 5, 2) := by decide +kernel
theorem dX5_sum_5 : decode cX5_sum 5 = .ok (.iconst 1, 1) := by decide +kernel
theorem dX5_sum_6 : decode cX5_sum 6 = .ok (.istore 6, 2) := by decide +kernel
theorem dX5_sum_8 : decode cX5_sum 8 = .ok (.aload_n 0, 1) := by decide +kernel
theorem dX5_sum_9 : decode cX5_sum 9 = .ok (.iload_n 1, 1) := by decide +kernel
theorem dX5_sum_10 : decode cX5_sum 10 = .ok (.putfield 358, 3) := by decide +kernel
theorem dX5_sum_13 : decode cX5_sum 13 = .ok (.aload_n 0, 1) := by decide +kernel
theorem dX5_sum_14 : decode cX5_sum 14 = .ok (.getfield 358, 3) := by decide +kernel
theorem dX5_sum_17 : decode cX5_sum 17 = .ok (.iload_n 2, 1) := by decide +kernel
theorem dX5_sum_18 : decode cX5_sum 18 = .ok (.if_icmp .ge 164, 3) := by decide +kernel
theorem dX5_sum_21 : decode cX5_sum 21 = .ok (.aload_n 0, 1) := by decide +kernel
theorem dX5_sum_22 : decode cX5_sum 22 = .ok (.getfield 65, 3) := by decide +kernel
theorem dX5_sum_25 : decode cX5_sum 25 = .ok (.aload_n 0, 1) := by decide +kernel
theorem dX5_sum_26 : decode cX5_sum 26 = .ok (.getfield 358, 3) := by decide +kernel
theorem dX5_sum_29 : decode cX5_sum 29 = .ok (.iaload, 1) := by decide +kernel
theorem dX5_sum_30 : decode cX5_sum 30 = .ok (.iconst 4, 1) := by decide +kernel
theorem dX5_sum_31 : decode cX5_sum 31 = .ok (.if_icmp .gt 151, 3) := by decide +kernel
theorem dX5_sum_34 : decode cX5_sum 34 = .ok (.aload_n 0, 1) := by decide +kernel
theorem dX5_sum_35 : decode cX5_sum 35 = .ok (.getfield 65, 3) := by decide +kernel
theorem dX5_sum_38 : decode cX5_sum 38 = .ok (.aload_n 0, 1) := by decide +kernel
theorem dX5_sum_39 : decode cX5_sum 39 = .ok (.getfield 358, 3) := by decide +kernel
theorem dX5_sum_42 : decode cX5_sum 42 = .ok (.iaload, 1) := by decide +kernel
theorem dX5_sum_43 : decode cX5_sum 43 = .ok (.iconst 3, 1) := by decide +kernel
theorem dX5_sum_44 : decode cX5_sum 44 = .ok (.if_icmp .lt 26, 3) := by decide +kernel
theorem dX5_sum_47 : decode cX5_sum 47 = .ok (.aload_n 0, 1) := by decide +kernel
theorem dX5_sum_48 : decode cX5_sum 48 = .ok (.getfield 65, 3) := by decide +kernel
theorem dX5_sum_51 : decode cX5_sum 51 = .ok (.aload_n 0, 1) := by decide +kernel
theorem dX5_sum_52 : decode cX5_sum 52 = .ok (.getfield 358, 3) := by decide +kernel
theorem dX5_sum_55 : decode cX5_sum 55 = .ok (.iaload, 1) := by decide +kernel
theorem dX5_sum_56 : decode cX5_sum 56 = .ok (.iconst 3, 1) := by decide +kernel
theorem dX5_sum_57 : decode cX5_sum 57 = .ok (.if_icmp .ne 7, 3) := by decide +kernel
theorem dX5_sum_60 : decode cX5_sum 60 = .ok (.iconst 1, 1) := by decide +kernel
theorem dX5_sum_61 : decode cX5_sum 61 = .ok (.goto 4, 3) := by decide +kernel
theorem dX5_sum_64 : decode cX5_sum 64 = .ok (.iconst (-1), 1) := by decide +kernel
theorem dX5_sum_65 : decode cX5_sum 65 = .ok (.istore 6, 2) := by decide +kernel
theorem dX5_sum_67 : decode cX5_sum 67 = .ok (.goto 102, 3) := by decide +kernel
theorem dX5_sum_70 : decode cX5_sum 70 = .ok (.aload_n 0, 1) := by decide +kernel
theorem dX5_sum_71 : decode cX5_sum 71 = .ok (.getfield 65, 3) := by decide +kernel
theorem dX5_sum_74 : decode cX5_sum 74 = .ok (.aload_n 0, 1) := by decide +kernel
theorem dX5_sum_75 : decode cX5_sum 75 = .ok (.getfield 358, 3) := by decide +kernel
theorem dX5_sum_78 : decode cX5_sum 78 = .ok (.iaload, 1) := by decide +kernel
theorem dX5_sum_79 : decode cX5_sum 79 = .ok (.ifCond .ne 15, 3) := by decide +kernel
theorem dX5_sum_82 : decode cX5_sum 82 = .ok (.aload_n 0, 1) := by decide +kernel
theorem dX5_sum_83 : decode cX5_sum 83 = .ok (.getfield 68, 3) := by decide +kernel
theorem dX5_sum_86 : decode cX5_sum 86 = .ok (.aload_n 0, 1) := by decide +kernel
theorem dX5_sum_87 : decode cX5_sum 87 = .ok (.getfield 358, 3) := by decide +kernel
theorem dX5_sum_90 : decode cX5_sum 90 = .ok (.iaload, 1) := by decide +kernel
theorem dX5_sum_91 : decode cX5_sum 91 = .ok (.goto 47, 3) := by decide +kernel
theorem dX5_sum_94 : decode cX5_sum 94 = .ok (.aload_n 0, 1) := by decide +kernel
theorem dX5_sum_95 : decode cX5_sum 95 = .ok (.getfield 65, 3) := by decide +kernel
theorem dX5_sum_98 : decode cX5_sum 98 = .ok (.aload_n 0, 1) := by decide +kernel
theorem dX5_sum_99 : decode cX5_sum 99 = .ok (.getfield 358, 3) := by decide +kernel
theorem dX5_sum_102 : decode cX5_sum 102 = .ok (.iaload, 1) := by decide +kernel
theorem dX5_sum_103 : decode cX5_sum 103 = .ok (.iconst 1, 1) := by decide +kernel
theorem dX5_sum_104 : decode cX5_sum 104 = .ok (.if_icmp .ne 20, 3) := by decide +kernel
theorem dX5_sum_107 : decode cX5_sum 107 = .ok (.aload_n 0, 1) := by decide +kernel
theorem dX5_sum_108 : decode cX5_sum 108 = .ok (.getfield 71, 3) := by decide +kernel
theorem dX5_sum_111 : decode cX5_sum 111 = .ok (.aload_n 0, 1) := by decide +kernel
theorem dX5_sum_112 : decode cX5_sum 112 = .ok (.getfield 68, 3) := by decide +kernel
theorem dX5_sum_115 : decode cX5_sum 115 = .ok (.aload_n 0, 1) := by decide +kernel
theorem dX5_sum_116 : decode cX5_sum 116 = .ok (.getfield 358, 3) := by decide +kernel
theorem dX5_sum_119 : decode cX5_sum 119 = .ok (.iaload, 1) := by decide +kernel
theorem dX5_sum_120 : decode cX5_sum 120 = .ok (.iaload, 1) := by decide +kernel
theorem dX5_sum_121 : decode cX5_sum 121 = .ok (.goto 17, 3) := by decide +kernel
theorem dX5_sum_124 : decode cX5_sum 124 = .ok (.aload_n 0, 1) := by decide +kernel
theorem dX5_sum_125 : decode cX5_sum 125 = .ok (.getfield 74, 3) := by decide +kernel
theorem dX5_sum_128 : decode cX5_sum 128 = .ok (.aload_n 0, 1) := by decide +kernel
theorem dX5_sum_129 : decode cX5_sum 129 = .ok (.getfield 68, 3) := by decide +kernel
theorem dX5_sum_132 : decode cX5_sum 132 = .ok (.aload_n 0, 1) := by decide +kernel
theorem dX5_sum_133 : decode cX5_sum 133 = .ok (.getfield 358, 3) := by decide +kernel
theorem dX5_sum_136 : decode cX5_sum 136 = .ok (.iaload, 1) := by decide +kernel
theorem dX5_sum_137 : decode cX5_sum 137 = .ok (.iaload, 1) := by decide +kernel
theorem dX5_sum_138 : decode cX5_sum 138 = .ok (.istore 7, 2) := by decide +kernel
theorem dX5_sum_140 : decode cX5_sum 140 = .ok (.iload 5, 2) := by decide +kernel
theorem dX5_sum_142 : decode cX5_sum 142 = .ok (.ifCond .ne 10, 3) := by decide +kernel
theorem dX5_sum_145 : decode cX5_sum 145 = .ok (.iload 7, 2) := by decide +kernel
theorem dX5_sum_147 : decode cX5_sum 147 = .ok (.ldc 244, 2) := by decide +kernel
theorem dX5_sum_149 : decode cX5_sum 149 = .ok (.if_icmp .ne 7, 3) := by decide +kernel
theorem dX5_sum_152 : decode cX5_sum 152 = .ok (.iconst 1, 1) := by decide +kernel
theorem dX5_sum_153 : decode cX5_sum 153 = .ok (.goto 4, 3) := by decide +kernel
theorem dX5_sum_156 : decode cX5_sum 156 = .ok (.iconst 0, 1) := by decide +kernel
theorem dX5_sum_157 : decode cX5_sum 157 = .ok (.istore 5, 2) := by decide +kernel
theorem dX5_sum_159 : decode cX5_sum 159 = .ok (.lload_n 3, 1) := by decide +kernel
theorem dX5_sum_160 : decode cX5_sum 160 = .ok (.iload 6, 2) := by decide +kernel
theorem dX5_sum_162 : decode cX5_sum 162 = .ok (.i2l, 1) := by decide +kernel
theorem dX5_sum_163 : decode cX5_sum 163 = .ok (.iload 7, 2) := by decide +kernel
theorem dX5_sum_165 : decode cX5_sum 165 = .ok (.i2l, 1) := by decide +kernel
theorem dX5_sum_166 : decode cX5_sum 166 = .ok (.lmul, 1) := by decide +kernel
theorem dX5_sum_167 : decode cX5_sum 167 = .ok (.ladd, 1) := by decide +kernel
theorem dX5_sum_168 : decode cX5_sum 168 = .ok (.lstore_n 3, 1) := by decide +kernel
theorem dX5_sum_169 : decode cX5_sum 169 = .ok (.aload_n 0, 1) := by decide +kernel
theorem dX5_sum_170 : decode cX5_sum 170 = .ok (.dup, 1) := by decide +kernel
theorem dX5_sum_171 : decode cX5_sum 171 = .ok (.getfield 358, 3) := by decide +kernel
theorem dX5_sum_174 : decode cX5_sum 174 = .ok (.iconst 1, 1) := by decide +kernel
theorem dX5_sum_175 : decode cX5_sum 175 = .ok (.iadd, 1) := by decide +kernel
theorem dX5_sum_176 : decode cX5_sum 176 = .ok (.putfield 358, 3) := by decide +kernel
theorem dX5_sum_179 : decode cX5_sum 179 = .ok (.goto (-166), 3) := by decide +kernel
theorem dX5_sum_182 : decode cX5_sum 182 = .ok (.iload 5, 2) := by decide +kernel
theorem dX5_sum_184 : decode cX5_sum 184 = .ok (.ifCond .ne 16, 3) := by decide +kernel
theorem dX5_sum_187 : decode cX5_sum 187 = .ok (.lload_n 3, 1) := by decide +kernel
theorem dX5_sum_188 : decode cX5_sum 188 = .ok (.ldc2_w 228, 3) := by decide +kernel
theorem dX5_sum_191 : decode cX5_sum 191 = .ok (.ldc2_w 205, 3) := by decide +kernel
theorem dX5_sum_194 : decode cX5_sum 194 = .ok (.invokestatic 207, 3) := by decide +kernel
theorem dX5_sum_197 : decode cX5_sum 197 = .ok (.ifCond .ne 8, 3) := by decide +kernel
theorem dX5_sum_200 : decode cX5_sum 200 = .ok (.ldc 244, 2) := by decide +kernel
theorem dX5_sum_202 : decode cX5_sum 202 = .ok (.goto 5, 3) := by decide +kernel
theorem dX5_sum_205 : decode cX5_sum 205 = .ok (.lload_n 3, 1) := by decide +kernel
theorem dX5_sum_206 : decode cX5_sum 206 = .ok (.l2i, 1) := by decide +kernel
theorem dX5_sum_207 : decode cX5_sum 207 = .ok (.ireturn, 1) := by decide +kernel
theorem dX5_answer_0 : decode cX5_answer 0 = .ok (.aload_n 0, 1) := by decide +kernel
theorem dX5_answer_1 : decode cX5_answer 1 = .ok (.iconst 0, 1) := by decide +kernel
theorem dX5_answer_2 : decode cX5_answer 2 = .ok (.putfield 198, 3) := by decide +kernel
theorem dX5_answer_5 : decode cX5_answer 5 = .ok (.aload_n 0, 1) := by decide +kernel
theorem dX5_answer_6 : decode cX5_answer 6 = .ok (.iload_n 1, 1) := by decide +kernel
theorem dX5_answer_7 : decode cX5_answer 7 = .ok (.invokevirtual 386, 3) := by decide +kernel
theorem dX5_answer_10 : decode cX5_answer 10 = .ok (.ifCond .ne 9, 3) := by decide +kernel
theorem dX5_answer_13 : decode cX5_answer 13 = .ok (.aload_n 0, 1) := by decide +kernel
theorem dX5_answer_14 : decode cX5_answer 14 = .ok (.iconst 1, 1) := by decide +kernel
theorem dX5_answer_15 : decode cX5_answer 15 = .ok (.invokevirtual 213, 3) := by decide +kernel
theorem dX5_answer_18 : decode cX5_answer 18 = .ok (.ireturn, 1) := by decide +kernel
theorem dX5_answer_19 : decode cX5_answer 19 = .ok (.aload_n 0, 1) := by decide +kernel
theorem dX5_answer_20 : decode cX5_answer 20 = .ok (.iload_n 1, 1) := by decide +kernel
theorem dX5_answer_21 : decode cX5_answer 21 = .ok (.invokevirtual 389, 3) := by decide +kernel
theorem dX5_answer_24 : decode cX5_answer 24 = .ok (.istore_n 3, 1) := by decide +kernel
theorem dX5_answer_25 : decode cX5_answer 25 = .ok (.iload_n 3, 1) := by decide +kernel
theorem dX5_answer_26 : decode cX5_answer 26 = .ok (.iconst (-1), 1) := by decide +kernel
theorem dX5_answer_27 : decode cX5_answer 27 = .ok (.if_icmp .ne 9, 3) := by decide +kernel
theorem dX5_answer_30 : decode cX5_answer 30 = .ok (.aload_n 0, 1) := by decide +kernel
theorem dX5_answer_31 : decode cX5_answer 31 = .ok (.iconst 2, 1) := by decide +kernel
theorem dX5_answer_32 : decode cX5_answer 32 = .ok (.invokevirtual 213, 3) := by decide +kernel
theorem dX5_answer_35 : decode cX5_answer 35 = .ok (.ireturn, 1) := by decide +kernel
theorem dX5_answer_36 : decode cX5_answer 36 = .ok (.aload_n 0, 1) := by decide +kernel
theorem dX5_answer_37 : decode cX5_answer 37 = .ok (.getfield 77, 3) := by decide +kernel
theorem dX5_answer_40 : decode cX5_answer 40 = .ok (.iload_n 1, 1) := by decide +kernel
theorem dX5_answer_41 : decode cX5_answer 41 = .ok (.iaload, 1) := by decide +kernel
theorem dX5_answer_42 : decode cX5_answer 42 = .ok (.istore 4, 2) := by decide +kernel
theorem dX5_answer_44 : decode cX5_answer 44 = .ok (.iload_n 2, 1) := by decide +kernel
theorem dX5_answer_45 : decode cX5_answer 45 = .ok (.i2l, 1) := by decide +kernel
theorem dX5_answer_46 : decode cX5_answer 46 = .ok (.aload_n 0, 1) := by decide +kernel
theorem dX5_answer_47 : decode cX5_answer 47 = .ok (.getfield 44, 3) := by decide +kernel
theorem dX5_answer_50 : decode cX5_answer 50 = .ok (.bipush 20, 2) := by decide +kernel
theorem dX5_answer_52 : decode cX5_answer 52 = .ok (.iload 4, 2) := by decide +kernel
theorem dX5_answer_54 : decode cX5_answer 54 = .ok (.imul, 1) := by decide +kernel
theorem dX5_answer_55 : decode cX5_answer 55 = .ok (.iload_n 3, 1) := by decide +kernel
theorem dX5_answer_56 : decode cX5_answer 56 = .ok (.iadd, 1) := by decide +kernel
theorem dX5_answer_57 : decode cX5_answer 57 = .ok (.iaload, 1) := by decide +kernel
theorem dX5_answer_58 : decode cX5_answer 58 = .ok (.i2l, 1) := by decide +kernel
theorem dX5_answer_59 : decode cX5_answer 59 = .ok (.aload_n 0, 1) := by decide +kernel
theorem dX5_answer_60 : decode cX5_answer 60 = .ok (.getfield 47, 3) := by decide +kernel
theorem dX5_answer_63 : decode cX5_answer 63 = .ok (.bipush 20, 2) := by decide +kernel
theorem dX5_answer_65 : decode cX5_answer 65 = .ok (.iload 4, 2) := by decide +kernel
theorem dX5_answer_67 : decode cX5_answer 67 = .ok (.imul, 1) := by decide +kernel
theorem dX5_answer_68 : decode cX5_answer 68 = .ok (.iload_n 3, 1) := by decide +kernel
theorem dX5_answer_69 : decode cX5_answer 69 = .ok (.iadd, 1) := by decide +kernel
theorem dX5_answer_70 : decode cX5_answer 70 = .ok (.iaload, 1) := by decide +kernel
theorem dX5_answer_71 : decode cX5_answer 71 = .ok (.i2l, 1) := by decide +kernel
theorem dX5_answer_72 : decode cX5_answer 72 = .ok (.invokestatic 207, 3) := by decide +kernel
theorem dX5_answer_75 : decode cX5_answer 75 = .ok (.ifCond .ne 9, 3) := by decide +kernel
theorem dX5_answer_78 : decode cX5_answer 78 = .ok (.aload_n 0, 1) := by decide +kernel
theorem dX5_answer_79 : decode cX5_answer 79 = .ok (.iconst 3, 1) := by decide +kernel
theorem dX5_answer_80 : decode cX5_answer 80 = .ok (.invokevirtual 213, 3) := by decide +kernel
theorem dX5_answer_83 : decode cX5_answer 83 = .ok (.ireturn, 1) := by decide +kernel
theorem dX5_answer_84 : decode cX5_answer 84 = .ok (.aload_n 0, 1) := by decide +kernel
theorem dX5_answer_85 : decode cX5_answer 85 = .ok (.getfield 105, 3) := by decide +kernel
theorem dX5_answer_88 : decode cX5_answer 88 = .ok (.iload_n 1, 1) := by decide +kernel
theorem dX5_answer_89 : decode cX5_answer 89 = .ok (.iaload, 1) := by decide +kernel
theorem dX5_answer_90 : decode cX5_answer 90 = .ok (.iload_n 3, 1) := by decide +kernel
theorem dX5_answer_91 : decode cX5_answer 91 = .ok (.if_icmp .ne 13, 3) := by decide +kernel
theorem dX5_answer_94 : decode cX5_answer 94 = .ok (.aload_n 0, 1) := by decide +kernel
theorem dX5_answer_95 : decode cX5_answer 95 = .ok (.getfield 108, 3) := by decide +kernel
theorem dX5_answer_98 : decode cX5_answer 98 = .ok (.iload_n 1, 1) := by decide +kernel
theorem dX5_answer_99 : decode cX5_answer 99 = .ok (.iaload, 1) := by decide +kernel
theorem dX5_answer_100 : decode cX5_answer 100 = .ok (.iload_n 2, 1) := by decide +kernel
theorem dX5_answer_101 : decode cX5_answer 101 = .ok (.if_icmp .eq 8, 3) := by decide +kernel
theorem dX5_answer_104 : decode cX5_answer 104 = .ok (.aload_n 0, 1) := by decide +kernel
theorem dX5_answer_105 : decode cX5_answer 105 = .ok (.iload_n 1, 1) := by decide +kernel
theorem dX5_answer_106 : decode cX5_answer 106 = .ok (.invokevirtual 392, 3) := by decide +kernel
theorem dX5_answer_109 : decode cX5_answer 109 = .ok (.aload_n 0, 1) := by decide +kernel
theorem dX5_answer_110 : decode cX5_answer 110 = .ok (.getfield 105, 3) := by decide +kernel
theorem dX5_answer_113 : decode cX5_answer 113 = .ok (.iload_n 1, 1) := by decide +kernel
theorem dX5_answer_114 : decode cX5_answer 114 = .ok (.iload_n 3, 1) := by decide +kernel
theorem dX5_answer_115 : decode cX5_answer 115 = .ok (.iastore, 1) := by decide +kernel
theorem dX5_answer_116 : decode cX5_answer 116 = .ok (.aload_n 0, 1) := by decide +kernel
theorem dX5_answer_117 : decode cX5_answer 117 = .ok (.getfield 108, 3) := by decide +kernel
theorem dX5_answer_120 : decode cX5_answer 120 = .ok (.iload_n 1, 1) := by decide +kernel
theorem dX5_answer_121 : decode cX5_answer 121 = .ok (.iload_n 2, 1) := by decide +kernel
theorem dX5_answer_122 : decode cX5_answer 122 = .ok (.iastore, 1) := by decide +kernel
theorem dX5_answer_123 : decode cX5_answer 123 = .ok (.aload_n 0, 1) := by decide +kernel
theorem dX5_answer_124 : decode cX5_answer 124 = .ok (.getfield 90, 3) := by decide +kernel
theorem dX5_answer_127 : decode cX5_answer 127 = .ok (.bipush 20, 2) := by decide +kernel
theorem dX5_answer_129 : decode cX5_answer 129 = .ok (.iload_n 1, 1) := by decide +kernel
theorem dX5_answer_130 : decode cX5_answer 130 = .ok (.imul, 1) := by decide +kernel
theorem dX5_answer_131 : decode cX5_answer 131 = .ok (.iload_n 3, 1) := by decide +kernel
theorem dX5_answer_132 : decode cX5_answer 132 = .ok (.iadd, 1) := by decide +kernel
theorem dX5_answer_133 : decode cX5_answer 133 = .ok (.iconst 1, 1) := by decide +kernel
theorem dX5_answer_134 : decode cX5_answer 134 = .ok (.bastore, 1) := by decide +kernel
theorem dX5_answer_135 : decode cX5_answer 135 = .ok (.aload_n 0, 1) := by decide +kernel
theorem dX5_answer_136 : decode cX5_answer 136 = .ok (.getfield 93, 3) := by decide +kernel
theorem dX5_answer_139 : decode cX5_answer 139 = .ok (.bipush 20, 2) := by decide +kernel
theorem dX5_answer_141 : decode cX5_answer 141 = .ok (.iload_n 1, 1) := by decide +kernel
theorem dX5_answer_142 : decode cX5_answer 142 = .ok (.imul, 1) := by decide +kernel
theorem dX5_answer_143 : decode cX5_answer 143 = .ok (.iload_n 3, 1) := by decide +kernel
theorem dX5_answer_144 : decode cX5_answer 144 = .ok (.iadd, 1) := by decide +kernel
theorem dX5_answer_145 : decode cX5_answer 145 = .ok (.iload_n 2, 1) := by decide +kernel
theorem dX5_answer_146 : decode cX5_answer 146 = .ok (.iastore, 1) := by decide +kernel
theorem dX5_answer_147 : decode cX5_answer 147 = .ok (.aload_n 0, 1) := by decide +kernel
theorem dX5_answer_148 : decode cX5_answer 148 = .ok (.iload_n 1, 1) := by decide +kernel
theorem dX5_answer_149 : decode cX5_answer 149 = .ok (.iload_n 3, 1) := by decide +kernel
theorem dX5_answer_150 : decode cX5_answer 150 = .ok (.invokevirtual 383, 3) := by decide +kernel
theorem dX5_answer_153 : decode cX5_answer 153 = .ok (.aload_n 0, 1) := by decide +kernel
theorem dX5_answer_154 : decode cX5_answer 154 = .ok (.getfield 371, 3) := by decide +kernel
theorem dX5_answer_157 : decode cX5_answer 157 = .ok (.iconst (-1), 1) := by decide +kernel
theorem dX5_answer_158 : decode cX5_answer 158 = .ok (.if_icmp .eq 23, 3) := by decide +kernel
theorem dX5_answer_161 : decode cX5_answer 161 = .ok (.aload_n 0, 1) := by decide +kernel
theorem dX5_answer_162 : decode cX5_answer 162 = .ok (.getfield 90, 3) := by decide +kernel
theorem dX5_answer_165 : decode cX5_answer 165 = .ok (.bipush 20, 2) := by decide +kernel
theorem dX5_answer_167 : decode cX5_answer 167 = .ok (.iload_n 1, 1) := by decide +kernel
theorem dX5_answer_168 : decode cX5_answer 168 = .ok (.imul, 1) := by decide +kernel
theorem dX5_answer_169 : decode cX5_answer 169 = .ok (.iload_n 3, 1) := by decide +kernel
theorem dX5_answer_170 : decode cX5_answer 170 = .ok (.iadd, 1) := by decide +kernel
theorem dX5_answer_171 : decode cX5_answer 171 = .ok (.iconst 0, 1) := by decide +kernel
theorem dX5_answer_172 : decode cX5_answer 172 = .ok (.bastore, 1) := by decide +kernel
theorem dX5_answer_173 : decode cX5_answer 173 = .ok (.bipush 100, 2) := by decide +kernel
theorem dX5_answer_175 : decode cX5_answer 175 = .ok (.aload_n 0, 1) := by decide +kernel
theorem dX5_answer_176 : decode cX5_answer 176 = .ok (.getfield 371, 3) := by decide +kernel
theorem dX5_answer_179 : decode cX5_answer 179 = .ok (.iadd, 1) := by decide +kernel
theorem dX5_answer_180 : decode cX5_answer 180 = .ok (.ireturn, 1) := by decide +kernel
theorem dX5_answer_181 : decode cX5_answer 181 = .ok (.aload_n 0, 1) := by decide +kernel
theorem dX5_answer_182 : decode cX5_answer 182 = .ok (.getfield 374, 3) := by decide +kernel
theorem dX5_answer_185 : decode cX5_answer 185 = .ok (.iconst (-1), 1) := by decide +kernel
theorem dX5_answer_186 : decode cX5_answer 186 = .ok (.if_icmp .eq 39, 3) := by decide +kernel
theorem dX5_answer_189 : decode cX5_answer 189 = .ok (.aload_n 0, 1) := by decide +kernel
theorem dX5_answer_190 : decode cX5_answer 190 = .ok (.getfield 90, 3) := by decide +kernel
theorem dX5_answer_193 : decode cX5_answer 193 = .ok (.bipush 20, 2) := by decide +kernel
theorem dX5_answer_195 : decode cX5_answer 195 = .ok (.iload_n 1, 1) := by decide +kernel
theorem dX5_answer_196 : decode cX5_answer 196 = .ok (.imul, 1) := by decide +kernel
theorem dX5_answer_197 : decode cX5_answer 197 = .ok (.iload_n 3, 1) := by decide +kernel
theorem dX5_answer_198 : decode cX5_answer 198 = .ok (.iadd, 1) := by decide +kernel
theorem dX5_answer_199 : decode cX5_answer 199 = .ok (.iconst 0, 1) := by decide +kernel
theorem dX5_answer_200 : decode cX5_answer 200 = .ok (.bastore, 1) := by decide +kernel
theorem dX5_answer_201 : decode cX5_answer 201 = .ok (.aload_n 0, 1) := by decide +kernel
theorem dX5_answer_202 : decode cX5_answer 202 = .ok (.getfield 102, 3) := by decide +kernel
theorem dX5_answer_205 : decode cX5_answer 205 = .ok (.bipush 20, 2) := by decide +kernel
theorem dX5_answer_207 : decode cX5_answer 207 = .ok (.iload_n 1, 1) := by decide +kernel
theorem dX5_answer_208 : decode cX5_answer 208 = .ok (.imul, 1) := by decide +kernel
theorem dX5_answer_209 : decode cX5_answer 209 = .ok (.aload_n 0, 1) := by decide +kernel
theorem dX5_answer_210 : decode cX5_answer 210 = .ok (.getfield 374, 3) := by decide +kernel
theorem dX5_answer_213 : decode cX5_answer 213 = .ok (.iadd, 1) := by decide +kernel
theorem dX5_answer_214 : decode cX5_answer 214 = .ok (.iconst 1, 1) := by decide +kernel
theorem dX5_answer_215 : decode cX5_answer 215 = .ok (.bastore, 1) := by decide +kernel
theorem dX5_answer_216 : decode cX5_answer 216 = .ok (.sipush 200, 3) := by decide +kernel
theorem dX5_answer_219 : decode cX5_answer 219 = .ok (.aload_n 0, 1) := by decide +kernel
theorem dX5_answer_220 : decode cX5_answer 220 = .ok (.getfield 374, 3) := by decide +kernel
theorem dX5_answer_223 : decode cX5_answer 223 = .ok (.iadd, 1) := by decide +kernel
theorem dX5_answer_224 : decode cX5_answer 224 = .ok (.ireturn, 1) := by decide +kernel
theorem dX5_answer_225 : decode cX5_answer 225 = .ok (.aload_n 0, 1) := by decide +kernel
theorem dX5_answer_226 : decode cX5_answer 226 = .ok (.iload_n 1, 1) := by decide +kernel
theorem dX5_answer_227 : decode cX5_answer 227 = .ok (.invokevirtual 392, 3) := by decide +kernel
theorem dX5_answer_230 : decode cX5_answer 230 = .ok (.aload_n 0, 1) := by decide +kernel
theorem dX5_answer_231 : decode cX5_answer 231 = .ok (.getfield 105, 3) := by decide +kernel
theorem dX5_answer_234 : decode cX5_answer 234 = .ok (.iload_n 1, 1) := by decide +kernel
theorem dX5_answer_235 : decode cX5_answer 235 = .ok (.iconst (-1), 1) := by decide +kernel
theorem dX5_answer_236 : decode cX5_answer 236 = .ok (.iastore, 1) := by decide +kernel
theorem dX5_answer_237 : decode cX5_answer 237 = .ok (.aload_n 0, 1) := by decide +kernel
theorem dX5_answer_238 : decode cX5_answer 238 = .ok (.getfield 96, 3) := by decide +kernel
theorem dX5_answer_241 : decode cX5_answer 241 = .ok (.bipush 20, 2) := by decide +kernel
theorem dX5_answer_243 : decode cX5_answer 243 = .ok (.iload_n 1, 1) := by decide +kernel
theorem dX5_answer_244 : decode cX5_answer 244 = .ok (.imul, 1) := by decide +kernel
theorem dX5_answer_245 : decode cX5_answer 245 = .ok (.iload_n 3, 1) := by decide +kernel
theorem dX5_answer_246 : decode cX5_answer 246 = .ok (.iadd, 1) := by decide +kernel
theorem dX5_answer_247 : decode cX5_answer 247 = .ok (.iconst 0, 1) := by decide +kernel
theorem dX5_answer_248 : decode cX5_answer 248 = .ok (.bastore, 1) := by decide +kernel
theorem dX5_answer_249 : decode cX5_answer 249 = .ok (.aload_n 0, 1) := by decide +kernel
theorem dX5_answer_250 : decode cX5_answer 250 = .ok (.iload_n 1, 1) := by decide +kernel
theorem dX5_answer_251 : decode cX5_answer 251 = .ok (.invokevirtual 395, 3) := by decide +kernel
theorem dX5_answer_254 : decode cX5_answer 254 = .ok (.iconst 0, 1) := by decide +kernel
theorem dX5_answer_255 : decode cX5_answer 255 = .ok (.ireturn, 1) := by decide +kernel
theorem dX5_forgetNotes_0 : decode cX5_forgetNotes 0 = .ok (.iconst 0, 1) := by decide +kernel
theorem dX5_forgetNotes_1 : decode cX5_forgetNotes 1 = .ok (.istore_n 2, 1) := by decide +kernel
theorem dX5_forgetNotes_2 : decode cX5_forgetNotes 2 = .ok (.iload_n 2, 1) := by decide +kernel
theorem dX5_forgetNotes_3 : decode cX5_forgetNotes 3 = .ok (.bipush 20, 2) := by decide +kernel
theorem dX5_forgetNotes_5 : decode cX5_forgetNotes 5 = .ok (.if_icmp .ge 21, 3) := by decide +kernel
theorem dX5_forgetNotes_8 : decode cX5_forgetNotes 8 = .ok (.aload_n 0, 1) := by decide +kernel
theorem dX5_forgetNotes_9 : decode cX5_forgetNotes 9 = .ok (.getfield 102, 3) := by decide +kernel
theorem dX5_forgetNotes_12 : decode cX5_forgetNotes 12 = .ok (.bipush 20, 2) := by decide +kernel
theorem dX5_forgetNotes_14 : decode cX5_forgetNotes 14 = .ok (.iload_n 1, 1) := by decide +kernel
theorem dX5_forgetNotes_15 : decode cX5_forgetNotes 15 = .ok (.imul, 1) := by decide +kernel
theorem dX5_forgetNotes_16 : decode cX5_forgetNotes 16 = .ok (.iload_n 2, 1) := by decide +kernel
theorem dX5_forgetNotes_17 : decode cX5_forgetNotes 17 = .ok (.iadd, 1) := by decide +kernel
theorem dX5_forgetNotes_18 : decode cX5_forgetNotes 18 = .ok (.iconst 0, 1) := by decide +kernel
theorem dX5_forgetNotes_19 : decode cX5_forgetNotes 19 = .ok (.bastore, 1) := by decide +kernel
theorem dX5_forgetNotes_20 : decode cX5_forgetNotes 20 = .ok (.iinc 2 1, 3) := by decide +kernel
theorem dX5_forgetNotes_23 : decode cX5_forgetNotes 23 = .ok (.goto (-21), 3) := by decide +kernel
theorem dX5_forgetNotes_26 : decode cX5_forgetNotes 26 = .ok (.return_, 1) := by decide +kernel
theorem dX5_takeUp_0 : decode cX5_takeUp 0 = .ok (.aload_n 0, 1) := by decide +kernel
theorem dX5_takeUp_1 : decode cX5_takeUp 1 = .ok (.iload_n 1, 1) := by decide +kernel
theorem dX5_takeUp_2 : decode cX5_takeUp 2 = .ok (.invokevirtual 389, 3) := by decide +kernel
theorem dX5_takeUp_5 : decode cX5_takeUp 5 = .ok (.istore_n 2, 1) := by decide +kernel
theorem dX5_takeUp_6 : decode cX5_takeUp 6 = .ok (.iload_n 2, 1) := by decide +kernel
theorem dX5_takeUp_7 : decode cX5_takeUp 7 = .ok (.iconst (-1), 1) := by decide +kernel
theorem dX5_takeUp_8 : decode cX5_takeUp 8 = .ok (.if_icmp .eq 107, 3) := by decide +kernel
theorem dX5_takeUp_11 : decode cX5_takeUp 11 = .ok (.aload_n 0, 1) := by decide +kernel
theorem dX5_takeUp_12 : decode cX5_takeUp 12 = .ok (.getfield 96, 3) := by decide +kernel
theorem dX5_takeUp_15 : decode cX5_takeUp 15 = .ok (.bipush 20, 2) := by decide +kernel
theorem dX5_takeUp_17 : decode cX5_takeUp 17 = .ok (.iload_n 1, 1) := by decide +kernel
theorem dX5_takeUp_18 : decode cX5_takeUp 18 = .ok (.imul, 1) := by decide +kernel
theorem dX5_takeUp_19 : decode cX5_takeUp 19 = .ok (.iload_n 2, 1) := by decide +kernel
theorem dX5_takeUp_20 : decode cX5_takeUp 20 = .ok (.iadd, 1) := by decide +kernel
theorem dX5_takeUp_21 : decode cX5_takeUp 21 = .ok (.baload, 1) := by decide +kernel
theorem dX5_takeUp_22 : decode cX5_takeUp 22 = .ok (.ifCond .eq 93, 3) := by decide +kernel
theorem dX5_takeUp_25 : decode cX5_takeUp 25 = .ok (.aload_n 0, 1) := by decide +kernel
theorem dX5_takeUp_26 : decode cX5_takeUp 26 = .ok (.getfield 90, 3) := by decide +kernel
theorem dX5_takeUp_29 : decode cX5_takeUp 29 = .ok (.bipush 20, 2) := by decide +kernel
theorem dX5_takeUp_31 : decode cX5_takeUp 31 = .ok (.iload_n 1, 1) := by decide +kernel
theorem dX5_takeUp_32 : decode cX5_takeUp 32 = .ok (.imul, 1) := by decide +kernel
theorem dX5_takeUp_33 : decode cX5_takeUp 33 = .ok (.iload_n 2, 1) := by decide +kernel
theorem dX5_takeUp_34 : decode cX5_takeUp 34 = .ok (.iadd, 1) := by decide +kernel
theorem dX5_takeUp_35 : decode cX5_takeUp 35 = .ok (.iconst 1, 1) := by decide +kernel
theorem dX5_takeUp_36 : decode cX5_takeUp 36 = .ok (.bastore, 1) := by decide +kernel
theorem dX5_takeUp_37 : decode cX5_takeUp 37 = .ok (.aload_n 0, 1) := by decide +kernel
theorem dX5_takeUp_38 : decode cX5_takeUp 38 = .ok (.getfield 93, 3) := by decide +kernel
theorem dX5_takeUp_41 : decode cX5_takeUp 41 = .ok (.bipush 20, 2) := by decide +kernel
theorem dX5_takeUp_43 : decode cX5_takeUp 43 = .ok (.iload_n 1, 1) := by decide +kernel
theorem dX5_takeUp_44 : decode cX5_takeUp 44 = .ok (.imul, 1) := by decide +kernel
theorem dX5_takeUp_45 : decode cX5_takeUp 45 = .ok (.iload_n 2, 1) := by decide +kernel
theorem dX5_takeUp_46 : decode cX5_takeUp 46 = .ok (.iadd, 1) := by decide +kernel
theorem dX5_takeUp_47 : decode cX5_takeUp 47 = .ok (.aload_n 0, 1) := by decide +kernel
theorem dX5_takeUp_48 : decode cX5_takeUp 48 = .ok (.getfield 99, 3) := by decide +kernel
theorem dX5_takeUp_51 : decode cX5_takeUp 51 = .ok (.bipush 20, 2) := by decide +kernel
theorem dX5_takeUp_53 : decode cX5_takeUp 53 = .ok (.iload_n 1, 1) := by decide +kernel
theorem dX5_takeUp_54 : decode cX5_takeUp 54 = .ok (.imul, 1) := by decide +kernel
theorem dX5_takeUp_55 : decode cX5_takeUp 55 = .ok (.iload_n 2, 1) := by decide +kernel
theorem dX5_takeUp_56 : decode cX5_takeUp 56 = .ok (.iadd, 1) := by decide +kernel
theorem dX5_takeUp_57 : decode cX5_takeUp 57 = .ok (.iaload, 1) := by decide +kernel
theorem dX5_takeUp_58 : decode cX5_takeUp 58 = .ok (.iastore, 1) := by decide +kernel
theorem dX5_takeUp_59 : decode cX5_takeUp 59 = .ok (.aload_n 0, 1) := by decide +kernel
theorem dX5_takeUp_60 : decode cX5_takeUp 60 = .ok (.iload_n 1, 1) := by decide +kernel
theorem dX5_takeUp_61 : decode cX5_takeUp 61 = .ok (.iload_n 2, 1) := by decide +kernel
theorem dX5_takeUp_62 : decode cX5_takeUp 62 = .ok (.invokevirtual 383, 3) := by decide +kernel
theorem dX5_takeUp_65 : decode cX5_takeUp 65 = .ok (.aload_n 0, 1) := by decide +kernel
theorem dX5_takeUp_66 : decode cX5_takeUp 66 = .ok (.getfield 371, 3) := by decide +kernel
theorem dX5_takeUp_69 : decode cX5_takeUp 69 = .ok (.iconst (-1), 1) := by decide +kernel
theorem dX5_takeUp_70 : decode cX5_takeUp 70 = .ok (.if_icmp .ne 11, 3) := by decide +kernel
theorem dX5_takeUp_73 : decode cX5_takeUp 73 = .ok (.aload_n 0, 1) := by decide +kernel
theorem dX5_takeUp_74 : decode cX5_takeUp 74 = .ok (.getfield 374, 3) := by decide +kernel
theorem dX5_takeUp_77 : decode cX5_takeUp 77 = .ok (.iconst (-1), 1) := by decide +kernel
theorem dX5_takeUp_78 : decode cX5_takeUp 78 = .ok (.if_icmp .eq 16, 3) := by decide +kernel
theorem dX5_takeUp_81 : decode cX5_takeUp 81 = .ok (.aload_n 0, 1) := by decide +kernel
theorem dX5_takeUp_82 : decode cX5_takeUp 82 = .ok (.getfield 90, 3) := by decide +kernel
theorem dX5_takeUp_85 : decode cX5_takeUp 85 = .ok (.bipush 20, 2) := by decide +kernel
theorem dX5_takeUp_87 : decode cX5_takeUp 87 = .ok (.iload_n 1, 1) := by decide +kernel
theorem dX5_takeUp_88 : decode cX5_takeUp 88 = .ok (.imul, 1) := by decide +kernel
theorem dX5_takeUp_89 : decode cX5_takeUp 89 = .ok (.iload_n 2, 1) := by decide +kernel
theorem dX5_takeUp_90 : decode cX5_takeUp 90 = .ok (.iadd, 1) := by decide +kernel
theorem dX5_takeUp_91 : decode cX5_takeUp 91 = .ok (.iconst 0, 1) := by decide +kernel
theorem dX5_takeUp_92 : decode cX5_takeUp 92 = .ok (.bastore, 1) := by decide +kernel
theorem dX5_takeUp_93 : decode cX5_takeUp 93 = .ok (.return_, 1) := by decide +kernel
theorem dX5_takeUp_94 : decode cX5_takeUp 94 = .ok (.aload_n 0, 1) := by decide +kernel
theorem dX5_takeUp_95 : decode cX5_takeUp 95 = .ok (.getfield 96, 3) := by decide +kernel
theorem dX5_takeUp_98 : decode cX5_takeUp 98 = .ok (.bipush 20, 2) := by decide +kernel
theorem dX5_takeUp_100 : decode cX5_takeUp 100 = .ok (.iload_n 1, 1) := by decide +kernel
theorem dX5_takeUp_101 : decode cX5_takeUp 101 = .ok (.imul, 1) := by decide +kernel
theorem dX5_takeUp_102 : decode cX5_takeUp 102 = .ok (.iload_n 2, 1) := by decide +kernel
theorem dX5_takeUp_103 : decode cX5_takeUp 103 = .ok (.iadd, 1) := by decide +kernel
theorem dX5_takeUp_104 : decode cX5_takeUp 104 = .ok (.iconst 0, 1) := by decide +kernel
theorem dX5_takeUp_105 : decode cX5_takeUp 105 = .ok (.bastore, 1) := by decide +kernel
theorem dX5_takeUp_106 : decode cX5_takeUp 106 = .ok (.aload_n 0, 1) := by decide +kernel
theorem dX5_takeUp_107 : decode cX5_takeUp 107 = .ok (.iload_n 1, 1) := by decide +kernel
theorem dX5_takeUp_108 : decode cX5_takeUp 108 = .ok (.invokevirtual 389, 3) := by decide +kernel
theorem dX5_takeUp_111 : decode cX5_takeUp 111 = .ok (.istore_n 2, 1) := by decide +kernel
theorem dX5_takeUp_112 : decode cX5_takeUp 112 = .ok (.goto (-106), 3) := by decide +kernel
theorem dX5_takeUp_115 : decode cX5_takeUp 115 = .ok (.return_, 1) := by decide +kernel
theorem dX5_back_0 : decode cX5_back 0 = .ok (.aload_n 0, 1) := by decide +kernel
theorem dX5_back_1 : decode cX5_back 1 = .ok (.iconst 0, 1) := by decide +kernel
theorem dX5_back_2 : decode cX5_back 2 = .ok (.putfield 198, 3) := by decide +kernel
theorem dX5_back_5 : decode cX5_back 5 = .ok (.aload_n 0, 1) := by decide +kernel
theorem dX5_back_6 : decode cX5_back 6 = .ok (.iload_n 1, 1) := by decide +kernel
theorem dX5_back_7 : decode cX5_back 7 = .ok (.invokevirtual 386, 3) := by decide +kernel
theorem dX5_back_10 : decode cX5_back 10 = .ok (.ifCond .ne 9, 3) := by decide +kernel
theorem dX5_back_13 : decode cX5_back 13 = .ok (.aload_n 0, 1) := by decide +kernel
theorem dX5_back_14 : decode cX5_back 14 = .ok (.iconst 1, 1) := by decide +kernel
theorem dX5_back_15 : decode cX5_back 15 = .ok (.invokevirtual 213, 3) := by decide +kernel
theorem dX5_back_18 : decode cX5_back 18 = .ok (.ireturn, 1) := by decide +kernel
theorem dX5_back_19 : decode cX5_back 19 = .ok (.aload_n 0, 1) := by decide +kernel
theorem dX5_back_20 : decode cX5_back 20 = .ok (.getfield 86, 3) := by decide +kernel
theorem dX5_back_23 : decode cX5_back 23 = .ok (.iload_n 1, 1) := by decide +kernel
theorem dX5_back_24 : decode cX5_back 24 = .ok (.baload, 1) := by decide +kernel
theorem dX5_back_25 : decode cX5_back 25 = .ok (.ifCond .eq 9, 3) := by decide +kernel
theorem dX5_back_28 : decode cX5_back 28 = .ok (.aload_n 0, 1) := by decide +kernel
theorem dX5_back_29 : decode cX5_back 29 = .ok (.iconst 2, 1) := by decide +kernel
theorem dX5_back_30 : decode cX5_back 30 = .ok (.invokevirtual 213, 3) := by decide +kernel
theorem dX5_back_33 : decode cX5_back 33 = .ok (.ireturn, 1) := by decide +kernel
theorem dX5_back_34 : decode cX5_back 34 = .ok (.iconst (-1), 1) := by decide +kernel
theorem dX5_back_35 : decode cX5_back 35 = .ok (.istore_n 2, 1) := by decide +kernel
theorem dX5_back_36 : decode cX5_back 36 = .ok (.iconst 0, 1) := by decide +kernel
theorem dX5_back_37 : decode cX5_back 37 = .ok (.istore_n 3, 1) := by decide +kernel
theorem dX5_back_38 : decode cX5_back 38 = .ok (.iload_n 3, 1) := by decide +kernel
theorem dX5_back_39 : decode cX5_back 39 = .ok (.aload_n 0, 1) := by decide +kernel
theorem dX5_back_40 : decode cX5_back 40 = .ok (.getfield 34, 3) := by decide +kernel
theorem dX5_back_43 : decode cX5_back 43 = .ok (.aload_n 0, 1) := by decide +kernel
theorem dX5_back_44 : decode cX5_back 44 = .ok (.getfield 77, 3) := by decide +kernel
theorem dX5_back_47 : decode cX5_back 47 = .ok (.iload_n 1, 1) := by decide +kernel
theorem dX5_back_48 : decode cX5_back 48 = .ok (.iaload, 1) := by decide +kernel
theorem dX5_back_49 : decode cX5_back 49 = .ok (.iaload, 1) := by decide +kernel
theorem dX5_back_50 : decode cX5_back 50 = .ok (.if_icmp .ge 29, 3) := by decide +kernel
theorem dX5_back_53 : decode cX5_back 53 = .ok (.aload_n 0, 1) := by decide +kernel
theorem dX5_back_54 : decode cX5_back 54 = .ok (.getfield 90, 3) := by decide +kernel
theorem dX5_back_57 : decode cX5_back 57 = .ok (.bipush 20, 2) := by decide +kernel
theorem dX5_back_59 : decode cX5_back 59 = .ok (.iload_n 1, 1) := by decide +kernel
theorem dX5_back_60 : decode cX5_back 60 = .ok (.imul, 1) := by decide +kernel
theorem dX5_back_61 : decode cX5_back 61 = .ok (.iload_n 3, 1) := by decide +kernel
theorem dX5_back_62 : decode cX5_back 62 = .ok (.iadd, 1) := by decide +kernel
theorem dX5_back_63 : decode cX5_back 63 = .ok (.baload, 1) := by decide +kernel
theorem dX5_back_64 : decode cX5_back 64 = .ok (.ifCond .eq 7, 3) := by decide +kernel
theorem dX5_back_67 : decode cX5_back 67 = .ok (.iload_n 3, 1) := by decide +kernel
theorem dX5_back_68 : decode cX5_back 68 = .ok (.goto 4, 3) := by decide +kernel
theorem dX5_back_71 : decode cX5_back 71 = .ok (.iload_n 2, 1) := by decide +kernel
theorem dX5_back_72 : decode cX5_back 72 = .ok (.istore_n 2, 1) := by decide +kernel
theorem dX5_back_73 : decode cX5_back 73 = .ok (.iinc 3 1, 3) := by decide +kernel
theorem dX5_back_76 : decode cX5_back 76 = .ok (.goto (-38), 3) := by decide +kernel
theorem dX5_back_79 : decode cX5_back 79 = .ok (.iload_n 2, 1) := by decide +kernel
theorem dX5_back_80 : decode cX5_back 80 = .ok (.iconst (-1), 1) := by decide +kernel
theorem dX5_back_81 : decode cX5_back 81 = .ok (.if_icmp .ne 5, 3) := by decide +kernel
theorem dX5_back_84 : decode cX5_back 84 = .ok (.iconst (-1), 1) := by decide +kernel
theorem dX5_back_85 : decode cX5_back 85 = .ok (.ireturn, 1) := by decide +kernel
theorem dX5_back_86 : decode cX5_back 86 = .ok (.aload_n 0, 1) := by decide +kernel
theorem dX5_back_87 : decode cX5_back 87 = .ok (.iload_n 1, 1) := by decide +kernel
theorem dX5_back_88 : decode cX5_back 88 = .ok (.invokevirtual 392, 3) := by decide +kernel
theorem dX5_back_91 : decode cX5_back 91 = .ok (.aload_n 0, 1) := by decide +kernel
theorem dX5_back_92 : decode cX5_back 92 = .ok (.getfield 105, 3) := by decide +kernel
theorem dX5_back_95 : decode cX5_back 95 = .ok (.iload_n 1, 1) := by decide +kernel
theorem dX5_back_96 : decode cX5_back 96 = .ok (.iconst (-1), 1) := by decide +kernel
theorem dX5_back_97 : decode cX5_back 97 = .ok (.iastore, 1) := by decide +kernel
theorem dX5_back_98 : decode cX5_back 98 = .ok (.aload_n 0, 1) := by decide +kernel
theorem dX5_back_99 : decode cX5_back 99 = .ok (.getfield 90, 3) := by decide +kernel
theorem dX5_back_102 : decode cX5_back 102 = .ok (.bipush 20, 2) := by decide +kernel
theorem dX5_back_104 : decode cX5_back 104 = .ok (.iload_n 1, 1) := by decide +kernel
theorem dX5_back_105 : decode cX5_back 105 = .ok (.imul, 1) := by decide +kernel
theorem dX5_back_106 : decode cX5_back 106 = .ok (.iload_n 2, 1) := by decide +kernel
theorem dX5_back_107 : decode cX5_back 107 = .ok (.iadd, 1) := by decide +kernel
theorem dX5_back_108 : decode cX5_back 108 = .ok (.iconst 0, 1) := by decide +kernel
theorem dX5_back_109 : decode cX5_back 109 = .ok (.bastore, 1) := by decide +kernel
theorem dX5_back_110 : decode cX5_back 110 = .ok (.aload_n 0, 1) := by decide +kernel
theorem dX5_back_111 : decode cX5_back 111 = .ok (.getfield 96, 3) := by decide +kernel
theorem dX5_back_114 : decode cX5_back 114 = .ok (.bipush 20, 2) := by decide +kernel
theorem dX5_back_116 : decode cX5_back 116 = .ok (.iload_n 1, 1) := by decide +kernel
theorem dX5_back_117 : decode cX5_back 117 = .ok (.imul, 1) := by decide +kernel
theorem dX5_back_118 : decode cX5_back 118 = .ok (.iload_n 2, 1) := by decide +kernel
theorem dX5_back_119 : decode cX5_back 119 = .ok (.iadd, 1) := by decide +kernel
theorem dX5_back_120 : decode cX5_back 120 = .ok (.iconst 1, 1) := by decide +kernel
theorem dX5_back_121 : decode cX5_back 121 = .ok (.bastore, 1) := by decide +kernel
theorem dX5_back_122 : decode cX5_back 122 = .ok (.aload_n 0, 1) := by decide +kernel
theorem dX5_back_123 : decode cX5_back 123 = .ok (.getfield 99, 3) := by decide +kernel
theorem dX5_back_126 : decode cX5_back 126 = .ok (.bipush 20, 2) := by decide +kernel
theorem dX5_back_128 : decode cX5_back 128 = .ok (.iload_n 1, 1) := by decide +kernel
theorem dX5_back_129 : decode cX5_back 129 = .ok (.imul, 1) := by decide +kernel
theorem dX5_back_130 : decode cX5_back 130 = .ok (.iload_n 2, 1) := by decide +kernel
theorem dX5_back_131 : decode cX5_back 131 = .ok (.iadd, 1) := by decide +kernel
theorem dX5_back_132 : decode cX5_back 132 = .ok (.aload_n 0, 1) := by decide +kernel
theorem dX5_back_133 : decode cX5_back 133 = .ok (.getfield 93, 3) := by decide +kernel
theorem dX5_back_136 : decode cX5_back 136 = .ok (.bipush 20, 2) := by decide +kernel
theorem dX5_back_138 : decode cX5_back 138 = .ok (.iload_n 1, 1) := by decide +kernel
theorem dX5_back_139 : decode cX5_back 139 = .ok (.imul, 1) := by decide +kernel
theorem dX5_back_140 : decode cX5_back 140 = .ok (.iload_n 2, 1) := by decide +kernel
theorem dX5_back_141 : decode cX5_back 141 = .ok (.iadd, 1) := by decide +kernel
theorem dX5_back_142 : decode cX5_back 142 = .ok (.iaload, 1) := by decide +kernel
theorem dX5_back_143 : decode cX5_back 143 = .ok (.iastore, 1) := by decide +kernel
theorem dX5_back_144 : decode cX5_back 144 = .ok (.aload_n 0, 1) := by decide +kernel
theorem dX5_back_145 : decode cX5_back 145 = .ok (.iload_n 1, 1) := by decide +kernel
theorem dX5_back_146 : decode cX5_back 146 = .ok (.invokevirtual 389, 3) := by decide +kernel
theorem dX5_back_149 : decode cX5_back 149 = .ok (.ireturn, 1) := by decide +kernel
theorem dX5_given_0 : decode cX5_given 0 = .ok (.aload_n 0, 1) := by decide +kernel
theorem dX5_given_1 : decode cX5_given 1 = .ok (.iconst 0, 1) := by decide +kernel
theorem dX5_given_2 : decode cX5_given 2 = .ok (.putfield 198, 3) := by decide +kernel
theorem dX5_given_5 : decode cX5_given 5 = .ok (.aload_n 0, 1) := by decide +kernel
theorem dX5_given_6 : decode cX5_given 6 = .ok (.iload_n 1, 1) := by decide +kernel
theorem dX5_given_7 : decode cX5_given 7 = .ok (.invokevirtual 386, 3) := by decide +kernel
theorem dX5_given_10 : decode cX5_given 10 = .ok (.ifCond .eq 26, 3) := by decide +kernel
theorem dX5_given_13 : decode cX5_given 13 = .ok (.iload_n 2, 1) := by decide +kernel
theorem dX5_given_14 : decode cX5_given 14 = .ok (.i2l, 1) := by decide +kernel
theorem dX5_given_15 : decode cX5_given 15 = .ok (.lconst 0, 1) := by decide +kernel
theorem dX5_given_16 : decode cX5_given 16 = .ok (.aload_n 0, 1) := by decide +kernel
theorem dX5_given_17 : decode cX5_given 17 = .ok (.getfield 34, 3) := by decide +kernel
theorem dX5_given_20 : decode cX5_given 20 = .ok (.aload_n 0, 1) := by decide +kernel
theorem dX5_given_21 : decode cX5_given 21 = .ok (.getfield 77, 3) := by decide +kernel
theorem dX5_given_24 : decode cX5_given 24 = .ok (.iload_n 1, 1) := by decide +kernel
theorem dX5_given_25 : decode cX5_given 25 = .ok (.iaload, 1) := by decide +kernel
theorem dX5_given_26 : decode cX5_given 26 = .ok (.iaload, 1) := by decide +kernel
theorem dX5_given_27 : decode cX5_given 27 = .ok (.iconst 1, 1) := by decide +kernel
theorem dX5_given_28 : decode cX5_given 28 = .ok (.isub, 1) := by decide +kernel
theorem dX5_given_29 : decode cX5_given 29 = .ok (.i2l, 1) := by decide +kernel
theorem dX5_given_30 : decode cX5_given 30 = .ok (.invokestatic 207, 3) := by decide +kernel
theorem dX5_given_33 : decode cX5_given 33 = .ok (.ifCond .ne 9, 3) := by decide +kernel
theorem dX5_given_36 : decode cX5_given 36 = .ok (.aload_n 0, 1) := by decide +kernel
theorem dX5_given_37 : decode cX5_given 37 = .ok (.iconst 1, 1) := by decide +kernel
theorem dX5_given_38 : decode cX5_given 38 = .ok (.invokevirtual 213, 3) := by decide +kernel
theorem dX5_given_41 : decode cX5_given 41 = .ok (.ireturn, 1) := by decide +kernel
theorem dX5_given_42 : decode cX5_given 42 = .ok (.iload_n 3, 1) := by decide +kernel
theorem dX5_given_43 : decode cX5_given 43 = .ok (.ifCond .eq 34, 3) := by decide +kernel
theorem dX5_given_46 : decode cX5_given 46 = .ok (.aload_n 0, 1) := by decide +kernel
theorem dX5_given_47 : decode cX5_given 47 = .ok (.getfield 96, 3) := by decide +kernel
theorem dX5_given_50 : decode cX5_given 50 = .ok (.bipush 20, 2) := by decide +kernel
theorem dX5_given_52 : decode cX5_given 52 = .ok (.iload_n 1, 1) := by decide +kernel
theorem dX5_given_53 : decode cX5_given 53 = .ok (.imul, 1) := by decide +kernel
theorem dX5_given_54 : decode cX5_given 54 = .ok (.iload_n 2, 1) := by decide +kernel
theorem dX5_given_55 : decode cX5_given 55 = .ok (.iadd, 1) := by decide +kernel
theorem dX5_given_56 : decode cX5_given 56 = .ok (.baload, 1) := by decide +kernel
theorem dX5_given_57 : decode cX5_given 57 = .ok (.ifCond .eq 17, 3) := by decide +kernel
theorem dX5_given_60 : decode cX5_given 60 = .ok (.aload_n 0, 1) := by decide +kernel
theorem dX5_given_61 : decode cX5_given 61 = .ok (.getfield 99, 3) := by decide +kernel
theorem dX5_given_64 : decode cX5_given 64 = .ok (.bipush 20, 2) := by decide +kernel
theorem dX5_given_66 : decode cX5_given 66 = .ok (.iload_n 1, 1) := by decide +kernel
theorem dX5_given_67 : decode cX5_given 67 = .ok (.imul, 1) := by decide +kernel
theorem dX5_given_68 : decode cX5_given 68 = .ok (.iload_n 2, 1) := by decide +kernel
theorem dX5_given_69 : decode cX5_given 69 = .ok (.iadd, 1) := by decide +kernel
theorem dX5_given_70 : decode cX5_given 70 = .ok (.iaload, 1) := by decide +kernel
theorem dX5_given_71 : decode cX5_given 71 = .ok (.goto 5, 3) := by decide +kernel
theorem dX5_given_74 : decode cX5_given 74 = .ok (.ldc 244, 2) := by decide +kernel
theorem dX5_given_76 : decode cX5_given 76 = .ok (.ireturn, 1) := by decide +kernel
theorem dX5_given_77 : decode cX5_given 77 = .ok (.aload_n 0, 1) := by decide +kernel
theorem dX5_given_78 : decode cX5_given 78 = .ok (.iload_n 1, 1) := by decide +kernel
theorem dX5_given_79 : decode cX5_given 79 = .ok (.iconst (-1), 1) := by decide +kernel
theorem dX5_given_80 : decode cX5_given 80 = .ok (.invokevirtual 383, 3) := by decide +kernel
theorem dX5_given_83 : decode cX5_given 83 = .ok (.aload_n 0, 1) := by decide +kernel
theorem dX5_given_84 : decode cX5_given 84 = .ok (.getfield 71, 3) := by decide +kernel
theorem dX5_given_87 : decode cX5_given 87 = .ok (.iload_n 2, 1) := by decide +kernel
theorem dX5_given_88 : decode cX5_given 88 = .ok (.iaload, 1) := by decide +kernel
theorem dX5_given_89 : decode cX5_given 89 = .ok (.ireturn, 1) := by decide +kernel
theorem dX5_close_0 : decode cX5_close 0 = .ok (.aload_n 0, 1) := by decide +kernel
theorem dX5_close_1 : decode cX5_close 1 = .ok (.iconst 0, 1) := by decide +kernel
theorem dX5_close_2 : decode cX5_close 2 = .ok (.putfield 198, 3) := by decide +kernel
theorem dX5_close_5 : decode cX5_close 5 = .ok (.aload_n 0, 1) := by decide +kernel
theorem dX5_close_6 : decode cX5_close 6 = .ok (.iload_n 1, 1) := by decide +kernel
theorem dX5_close_7 : decode cX5_close 7 = .ok (.invokevirtual 386, 3) := by decide +kernel
theorem dX5_close_10 : decode cX5_close 10 = .ok (.ifCond .ne 9, 3) := by decide +kernel
theorem dX5_close_13 : decode cX5_close 13 = .ok (.aload_n 0, 1) := by decide +kernel
theorem dX5_close_14 : decode cX5_close 14 = .ok (.iconst 1, 1) := by decide +kernel
theorem dX5_close_15 : decode cX5_close 15 = .ok (.invokevirtual 213, 3) := by decide +kernel
theorem dX5_close_18 : decode cX5_close 18 = .ok (.ireturn, 1) := by decide +kernel
theorem dX5_close_19 : decode cX5_close 19 = .ok (.aload_n 0, 1) := by decide +kernel
theorem dX5_close_20 : decode cX5_close 20 = .ok (.getfield 86, 3) := by decide +kernel
theorem dX5_close_23 : decode cX5_close 23 = .ok (.iload_n 1, 1) := by decide +kernel
theorem dX5_close_24 : decode cX5_close 24 = .ok (.baload, 1) := by decide +kernel
theorem dX5_close_25 : decode cX5_close 25 = .ok (.ifCond .ne 12, 3) := by decide +kernel
theorem dX5_close_28 : decode cX5_close 28 = .ok (.aload_n 0, 1) := by decide +kernel
theorem dX5_close_29 : decode cX5_close 29 = .ok (.iload_n 1, 1) := by decide +kernel
theorem dX5_close_30 : decode cX5_close 30 = .ok (.invokevirtual 389, 3) := by decide +kernel
theorem dX5_close_33 : decode cX5_close 33 = .ok (.iconst (-1), 1) := by decide +kernel
theorem dX5_close_34 : decode cX5_close 34 = .ok (.if_icmp .eq 9, 3) := by decide +kernel
theorem dX5_close_37 : decode cX5_close 37 = .ok (.aload_n 0, 1) := by decide +kernel
theorem dX5_close_38 : decode cX5_close 38 = .ok (.iconst 2, 1) := by decide +kernel
theorem dX5_close_39 : decode cX5_close 39 = .ok (.invokevirtual 213, 3) := by decide +kernel
theorem dX5_close_42 : decode cX5_close 42 = .ok (.ireturn, 1) := by decide +kernel
theorem dX5_close_43 : decode cX5_close 43 = .ok (.aload_n 0, 1) := by decide +kernel
theorem dX5_close_44 : decode cX5_close 44 = .ok (.getfield 86, 3) := by decide +kernel
theorem dX5_close_47 : decode cX5_close 47 = .ok (.iload_n 1, 1) := by decide +kernel
theorem dX5_close_48 : decode cX5_close 48 = .ok (.iconst 1, 1) := by decide +kernel
theorem dX5_close_49 : decode cX5_close 49 = .ok (.bastore, 1) := by decide +kernel
theorem dX5_close_50 : decode cX5_close 50 = .ok (.aload_n 0, 1) := by decide +kernel
theorem dX5_close_51 : decode cX5_close 51 = .ok (.iload_n 1, 1) := by decide +kernel
theorem dX5_close_52 : decode cX5_close 52 = .ok (.iconst (-1), 1) := by decide +kernel
theorem dX5_close_53 : decode cX5_close 53 = .ok (.invokevirtual 383, 3) := by decide +kernel
theorem dX5_close_56 : decode cX5_close 56 = .ok (.aload_n 0, 1) := by decide +kernel
theorem dX5_close_57 : decode cX5_close 57 = .ok (.getfield 111, 3) := by decide +kernel
theorem dX5_close_60 : decode cX5_close 60 = .ok (.aload_n 0, 1) := by decide +kernel
theorem dX5_close_61 : decode cX5_close 61 = .ok (.getfield 398, 3) := by decide +kernel
theorem dX5_close_64 : decode cX5_close 64 = .ok (.iload_n 1, 1) := by decide +kernel
theorem dX5_close_65 : decode cX5_close 65 = .ok (.iastore, 1) := by decide +kernel
theorem dX5_close_66 : decode cX5_close 66 = .ok (.iconst 0, 1) := by decide +kernel
theorem dX5_close_67 : decode cX5_close 67 = .ok (.istore_n 2, 1) := by decide +kernel
theorem dX5_close_68 : decode cX5_close 68 = .ok (.iload_n 2, 1) := by decide +kernel
theorem dX5_close_69 : decode cX5_close 69 = .ok (.bipush 20, 2) := by decide +kernel
theorem dX5_close_71 : decode cX5_close 71 = .ok (.if_icmp .ge 44, 3) := by decide +kernel
theorem dX5_close_74 : decode cX5_close 74 = .ok (.aload_n 0, 1) := by decide +kernel
theorem dX5_close_75 : decode cX5_close 75 = .ok (.getfield 114, 3) := by decide +kernel
theorem dX5_close_78 : decode cX5_close 78 = .ok (.bipush 20, 2) := by decide +kernel
theorem dX5_close_80 : decode cX5_close 80 = .ok (.aload_n 0, 1) := by decide +kernel
theorem dX5_close_81 : decode cX5_close 81 = .ok (.getfield 398, 3) := by decide +kernel
theorem dX5_close_84 : decode cX5_close 84 = .ok (.imul, 1) := by decide +kernel
theorem dX5_close_85 : decode cX5_close 85 = .ok (.iload_n 2, 1) := by decide +kernel
theorem dX5_close_86 : decode cX5_close 86 = .ok (.iadd, 1) := by decide +kernel
theorem dX5_close_87 : decode cX5_close 87 = .ok (.aload_n 0, 1) := by decide +kernel
theorem dX5_close_88 : decode cX5_close 88 = .ok (.getfield 71, 3) := by decide +kernel
theorem dX5_close_91 : decode cX5_close 91 = .ok (.iload_n 2, 1) := by decide +kernel
theorem dX5_close_92 : decode cX5_close 92 = .ok (.iaload, 1) := by decide +kernel
theorem dX5_close_93 : decode cX5_close 93 = .ok (.iastore, 1) := by decide +kernel
theorem dX5_close_94 : decode cX5_close 94 = .ok (.aload_n 0, 1) := by decide +kernel
theorem dX5_close_95 : decode cX5_close 95 = .ok (.getfield 117, 3) := by decide +kernel
theorem dX5_close_98 : decode cX5_close 98 = .ok (.bipush 20, 2) := by decide +kernel
theorem dX5_close_100 : decode cX5_close 100 = .ok (.aload_n 0, 1) := by decide +kernel
theorem dX5_close_101 : decode cX5_close 101 = .ok (.getfield 398, 3) := by decide +kernel
theorem dX5_close_104 : decode cX5_close 104 = .ok (.imul, 1) := by decide +kernel
theorem dX5_close_105 : decode cX5_close 105 = .ok (.iload_n 2, 1) := by decide +kernel
theorem dX5_close_106 : decode cX5_close 106 = .ok (.iadd, 1) := by decide +kernel
theorem dX5_close_107 : decode cX5_close 107 = .ok (.iconst 0, 1) := by decide +kernel
theorem dX5_close_108 : decode cX5_close 108 = .ok (.iastore, 1) := by decide +kernel
theorem dX5_close_109 : decode cX5_close 109 = .ok (.iinc 2 1, 3) := by decide +kernel
theorem dX5_close_112 : decode cX5_close 112 = .ok (.goto (-44), 3) := by decide +kernel
theorem dX5_close_115 : decode cX5_close 115 = .ok (.aload_n 0, 1) := by decide +kernel
theorem dX5_close_116 : decode cX5_close 116 = .ok (.dup, 1) := by decide +kernel
theorem dX5_close_117 : decode cX5_close 117 = .ok (.getfield 398, 3) := by decide +kernel
theorem dX5_close_120 : decode cX5_close 120 = .ok (.iconst 1, 1) := by decide +kernel
theorem dX5_close_121 : decode cX5_close 121 = .ok (.iadd, 1) := by decide +kernel
theorem dX5_close_122 : decode cX5_close 122 = .ok (.putfield 398, 3) := by decide +kernel
theorem dX5_close_125 : decode cX5_close 125 = .ok (.aload_n 0, 1) := by decide +kernel
theorem dX5_close_126 : decode cX5_close 126 = .ok (.getfield 398, 3) := by decide +kernel
theorem dX5_close_129 : decode cX5_close 129 = .ok (.iconst 1, 1) := by decide +kernel
theorem dX5_close_130 : decode cX5_close 130 = .ok (.isub, 1) := by decide +kernel
theorem dX5_close_131 : decode cX5_close 131 = .ok (.ireturn, 1) := by decide +kernel
theorem dX5_item_0 : decode cX5_item 0 = .ok (.aload_n 0, 1) := by decide +kernel
theorem dX5_item_1 : decode cX5_item 1 = .ok (.iconst 0, 1) := by decide +kernel
theorem dX5_item_2 : decode cX5_item 2 = .ok (.putfield 198, 3) := by decide +kernel
theorem dX5_item_5 : decode cX5_item 5 = .ok (.aload_n 0, 1) := by decide +kernel
theorem dX5_item_6 : decode cX5_item 6 = .ok (.iload_n 1, 1) := by decide +kernel
theorem dX5_item_7 : decode cX5_item 7 = .ok (.iload_n 2, 1) := by decide +kernel
theorem dX5_item_8 : decode cX5_item 8 = .ok (.invokevirtual 404, 3) := by decide +kernel
theorem dX5_item_11 : decode cX5_item 11 = .ok (.ifCond .eq 17, 3) := by decide +kernel
theorem dX5_item_14 : decode cX5_item 14 = .ok (.aload_n 0, 1) := by decide +kernel
theorem dX5_item_15 : decode cX5_item 15 = .ok (.getfield 114, 3) := by decide +kernel
theorem dX5_item_18 : decode cX5_item 18 = .ok (.bipush 20, 2) := by decide +kernel
theorem dX5_item_20 : decode cX5_item 20 = .ok (.iload_n 1, 1) := by decide +kernel
theorem dX5_item_21 : decode cX5_item 21 = .ok (.imul, 1) := by decide +kernel
theorem dX5_item_22 : decode cX5_item 22 = .ok (.iload_n 2, 1) := by decide +kernel
theorem dX5_item_23 : decode cX5_item 23 = .ok (.iadd, 1) := by decide +kernel
theorem dX5_item_24 : decode cX5_item 24 = .ok (.iaload, 1) := by decide +kernel
theorem dX5_item_25 : decode cX5_item 25 = .ok (.goto 8, 3) := by decide +kernel
theorem dX5_item_28 : decode cX5_item 28 = .ok (.aload_n 0, 1) := by decide +kernel
theorem dX5_item_29 : decode cX5_item 29 = .ok (.iconst 1, 1) := by decide +kernel
theorem dX5_item_30 : decode cX5_item 30 = .ok (.invokevirtual 213, 3) := by decide +kernel
theorem dX5_item_33 : decode cX5_item 33 = .ok (.ireturn, 1) := by decide +kernel
theorem dX5_isItem_0 : decode cX5_isItem 0 = .ok (.iload_n 1, 1) := by decide +kernel
theorem dX5_isItem_1 : decode cX5_isItem 1 = .ok (.i2l, 1) := by decide +kernel
theorem dX5_isItem_2 : decode cX5_isItem 2 = .ok (.lconst 0, 1) := by decide +kernel
theorem dX5_isItem_3 : decode cX5_isItem 3 = .ok (.aload_n 0, 1) := by decide +kernel
theorem dX5_isItem_4 : decode cX5_isItem 4 = .ok (.getfield 398, 3) := by decide +kernel
theorem dX5_isItem_7 : decode cX5_isItem 7 = .ok (.iconst 1, 1) := by decide +kernel
theorem dX5_isItem_8 : decode cX5_isItem 8 = .ok (.isub, 1) := by decide +kernel
theorem dX5_isItem_9 : decode cX5_isItem 9 = .ok (.i2l, 1) := by decide +kernel
theorem dX5_isItem_10 : decode cX5_isItem 10 = .ok (.invokestatic 207, 3) := by decide +kernel
theorem dX5_isItem_13 : decode cX5_isItem 13 = .ok (.ifCond .eq 29, 3) := by decide +kernel
theorem dX5_isItem_16 : decode cX5_isItem 16 = .ok (.iload_n 2, 1) := by decide +kernel
theorem dX5_isItem_17 : decode cX5_isItem 17 = .ok (.i2l, 1) := by decide +kernel
theorem dX5_isItem_18 : decode cX5_isItem 18 = .ok (.lconst 0, 1) := by decide +kernel
theorem dX5_isItem_19 : decode cX5_isItem 19 = .ok (.aload_n 0, 1) := by decide +kernel
theorem dX5_isItem_20 : decode cX5_isItem 20 = .ok (.getfield 34, 3) := by decide +kernel
theorem dX5_isItem_23 : decode cX5_isItem 23 = .ok (.aload_n 0, 1) := by decide +kernel
theorem dX5_isItem_24 : decode cX5_isItem 24 = .ok (.iload_n 1, 1) := by decide +kernel
theorem dX5_isItem_25 : decode cX5_isItem 25 = .ok (.invokevirtual 401, 3) := by decide +kernel
theorem dX5_isItem_28 : decode cX5_isItem 28 = .ok (.iaload, 1) := by decide +kernel
theorem dX5_isItem_29 : decode cX5_isItem 29 = .ok (.iconst 1, 1) := by decide +kernel
theorem dX5_isItem_30 : decode cX5_isItem 30 = .ok (.isub, 1) := by decide +kernel
theorem dX5_isItem_31 : decode cX5_isItem 31 = .ok (.i2l, 1) := by decide +kernel
theorem dX5_isItem_32 : decode cX5_isItem 32 = .ok (.invokestatic 207, 3) := by decide +kernel
theorem dX5_isItem_35 : decode cX5_isItem 35 = .ok (.ifCond .eq 7, 3) := by decide +kernel
theorem dX5_isItem_38 : decode cX5_isItem 38 = .ok (.iconst 1, 1) := by decide +kernel
theorem dX5_isItem_39 : decode cX5_isItem 39 = .ok (.goto 4, 3) := by decide +kernel
theorem dX5_isItem_42 : decode cX5_isItem 42 = .ok (.iconst 0, 1) := by decide +kernel
theorem dX5_isItem_43 : decode cX5_isItem 43 = .ok (.ireturn, 1) := by decide +kernel
theorem dX5_formOf_0 : decode cX5_formOf 0 = .ok (.aload_n 0, 1) := by decide +kernel
theorem dX5_formOf_1 : decode cX5_formOf 1 = .ok (.getfield 77, 3) := by decide +kernel
theorem dX5_formOf_4 : decode cX5_formOf 4 = .ok (.aload_n 0, 1) := by decide +kernel
theorem dX5_formOf_5 : decode cX5_formOf 5 = .ok (.getfield 111, 3) := by decide +kernel
theorem dX5_formOf_8 : decode cX5_formOf 8 = .ok (.iload_n 1, 1) := by decide +kernel
theorem dX5_formOf_9 : decode cX5_formOf 9 = .ok (.iaload, 1) := by decide +kernel
theorem dX5_formOf_10 : decode cX5_formOf 10 = .ok (.iaload, 1) := by decide +kernel
theorem dX5_formOf_11 : decode cX5_formOf 11 = .ok (.ireturn, 1) := by decide +kernel
theorem dX5_mark_0 : decode cX5_mark 0 = .ok (.aload_n 0, 1) := by decide +kernel
theorem dX5_mark_1 : decode cX5_mark 1 = .ok (.iconst 0, 1) := by decide +kernel
theorem dX5_mark_2 : decode cX5_mark 2 = .ok (.putfield 198, 3) := by decide +kernel
theorem dX5_mark_5 : decode cX5_mark 5 = .ok (.aload_n 0, 1) := by decide +kernel
theorem dX5_mark_6 : decode cX5_mark 6 = .ok (.iload_n 1, 1) := by decide +kernel
theorem dX5_mark_7 : decode cX5_mark 7 = .ok (.iload_n 2, 1) := by decide +kernel
theorem dX5_mark_8 : decode cX5_mark 8 = .ok (.invokevirtual 404, 3) := by decide +kernel
theorem dX5_mark_11 : decode cX5_mark 11 = .ok (.ifCond .eq 17, 3) := by decide +kernel
theorem dX5_mark_14 : decode cX5_mark 14 = .ok (.aload_n 0, 1) := by decide +kernel
theorem dX5_mark_15 : decode cX5_mark 15 = .ok (.getfield 117, 3) := by decide +kernel
theorem dX5_mark_18 : decode cX5_mark 18 = .ok (.bipush 20, 2) := by decide +kernel
theorem dX5_mark_20 : decode cX5_mark 20 = .ok (.iload_n 1, 1) := by decide +kernel
theorem dX5_mark_21 : decode cX5_mark 21 = .ok (.imul, 1) := by decide +kernel
theorem dX5_mark_22 : decode cX5_mark 22 = .ok (.iload_n 2, 1) := by decide +kernel
theorem dX5_mark_23 : decode cX5_mark 23 = .ok (.iadd, 1) := by decide +kernel
theorem dX5_mark_24 : decode cX5_mark 24 = .ok (.iaload, 1) := by decide +kernel
theorem dX5_mark_25 : decode cX5_mark 25 = .ok (.goto 8, 3) := by decide +kernel
theorem dX5_mark_28 : decode cX5_mark 28 = .ok (.aload_n 0, 1) := by decide +kernel
theorem dX5_mark_29 : decode cX5_mark 29 = .ok (.iconst 1, 1) := by decide +kernel
theorem dX5_mark_30 : decode cX5_mark 30 = .ok (.invokevirtual 213, 3) := by decide +kernel
theorem dX5_mark_33 : decode cX5_mark 33 = .ok (.ireturn, 1) := by decide +kernel
theorem dX5_rule_0 : decode cX5_rule 0 = .ok (.aload_n 0, 1) := by decide +kernel
theorem dX5_rule_1 : decode cX5_rule 1 = .ok (.iconst 0, 1) := by decide +kernel
theorem dX5_rule_2 : decode cX5_rule 2 = .ok (.putfield 198, 3) := by decide +kernel
theorem dX5_rule_5 : decode cX5_rule 5 = .ok (.aload_n 0, 1) := by decide +kernel
theorem dX5_rule_6 : decode cX5_rule 6 = .ok (.iload_n 1, 1) := by decide +kernel
theorem dX5_rule_7 : decode cX5_rule 7 = .ok (.invokevirtual 349, 3) := by decide +kernel
theorem dX5_rule_10 : decode cX5_rule 10 = .ok (.ifCond .eq 31, 3) := by decide +kernel
theorem dX5_rule_13 : decode cX5_rule 13 = .ok (.iload_n 2, 1) := by decide +kernel
theorem dX5_rule_14 : decode cX5_rule 14 = .ok (.iconst (-1), 1) := by decide +kernel
theorem dX5_rule_15 : decode cX5_rule 15 = .ok (.if_icmp .eq 12, 3) := by decide +kernel
theorem dX5_rule_18 : decode cX5_rule 18 = .ok (.aload_n 0, 1) := by decide +kernel
theorem dX5_rule_19 : decode cX5_rule 19 = .ok (.iload_n 1, 1) := by decide +kernel
theorem dX5_rule_20 : decode cX5_rule 20 = .ok (.iload_n 2, 1) := by decide +kernel
theorem dX5_rule_21 : decode cX5_rule 21 = .ok (.invokevirtual 352, 3) := by decide +kernel
theorem dX5_rule_24 : decode cX5_rule 24 = .ok (.ifCond .eq 17, 3) := by decide +kernel
theorem dX5_rule_27 : decode cX5_rule 27 = .ok (.iload_n 3, 1) := by decide +kernel
theorem dX5_rule_28 : decode cX5_rule 28 = .ok (.iconst (-1), 1) := by decide +kernel
theorem dX5_rule_29 : decode cX5_rule 29 = .ok (.if_icmp .eq 18, 3) := by decide +kernel
theorem dX5_rule_32 : decode cX5_rule 32 = .ok (.aload_n 0, 1) := by decide +kernel
theorem dX5_rule_33 : decode cX5_rule 33 = .ok (.iload_n 1, 1) := by decide +kernel
theorem dX5_rule_34 : decode cX5_rule 34 = .ok (.iload_n 3, 1) := by decide +kernel
theorem dX5_rule_35 : decode cX5_rule 35 = .ok (.invokevirtual 352, 3) := by decide +kernel
theorem dX5_rule_38 : decode cX5_rule 38 = .ok (.ifCond .ne 9, 3) := by decide +kernel
theorem dX5_rule_41 : decode cX5_rule 41 = .ok (.aload_n 0, 1) := by decide +kernel
theorem dX5_rule_42 : decode cX5_rule 42 = .ok (.iconst 1, 1) := by decide +kernel
theorem dX5_rule_43 : decode cX5_rule 43 = .ok (.invokevirtual 213, 3) := by decide +kernel
theorem dX5_rule_46 : decode cX5_rule 46 = .ok (.ireturn, 1) := by decide +kernel
theorem dX5_rule_47 : decode cX5_rule 47 = .ok (.iload_n 2, 1) := by decide +kernel
theorem dX5_rule_48 : decode cX5_rule 48 = .ok (.iconst (-1), 1) := by decide +kernel
theorem dX5_rule_49 : decode cX5_rule 49 = .ok (.if_icmp .eq 12, 3) := by decide +kernel
theorem dX5_rule_52 : decode cX5_rule 52 = .ok (.aload_n 0, 1) := by decide +kernel
theorem dX5_rule_53 : decode cX5_rule 53 = .ok (.iload_n 1, 1) := by decide +kernel
theorem dX5_rule_54 : decode cX5_rule 54 = .ok (.iload_n 2, 1) := by decide +kernel
theorem dX5_rule_55 : decode cX5_rule 55 = .ok (.invokevirtual 407, 3) := by decide +kernel
theorem dX5_rule_58 : decode cX5_rule 58 = .ok (.ifCond .eq 37, 3) := by decide +kernel
theorem dX5_rule_61 : decode cX5_rule 61 = .ok (.iload_n 3, 1) := by decide +kernel
theorem dX5_rule_62 : decode cX5_rule 62 = .ok (.iconst (-1), 1) := by decide +kernel
theorem dX5_rule_63 : decode cX5_rule 63 = .ok (.if_icmp .eq 12, 3) := by decide +kernel
theorem dX5_rule_66 : decode cX5_rule 66 = .ok (.aload_n 0, 1) := by decide +kernel
theorem dX5_rule_67 : decode cX5_rule 67 = .ok (.iload_n 1, 1) := by decide +kernel
theorem dX5_rule_68 : decode cX5_rule 68 = .ok (.iload_n 3, 1) := by decide +kernel
theorem dX5_rule_69 : decode cX5_rule 69 = .ok (.invokevirtual 407, 3) := by decide +kernel
theorem dX5_rule_72 : decode cX5_rule 72 = .ok (.ifCond .eq 23, 3) := by decide +kernel
theorem dX5_rule_75 : decode cX5_rule 75 = .ok (.iload_n 2, 1) := by decide +kernel
theorem dX5_rule_76 : decode cX5_rule 76 = .ok (.iload_n 3, 1) := by decide +kernel
theorem dX5_rule_77 : decode cX5_rule 77 = .ok (.if_icmp .eq 18, 3) := by decide +kernel
theorem dX5_rule_80 : decode cX5_rule 80 = .ok (.iload 4, 2) := by decide +kernel
theorem dX5_rule_82 : decode cX5_rule 82 = .ok (.i2l, 1) := by decide +kernel
theorem dX5_rule_83 : decode cX5_rule 83 = .ok (.ldc2_w 410, 3) := by decide +kernel
theorem dX5_rule_86 : decode cX5_rule 86 = .ok (.ldc2_w 412, 3) := by decide +kernel
theorem dX5_rule_89 : decode cX5_rule 89 = .ok (.invokestatic 207, 3) := by decide +kernel
theorem dX5_rule_92 : decode cX5_rule 92 = .ok (.ifCond .ne 9, 3) := by decide +kernel
theorem dX5_rule_95 : decode cX5_rule 95 = .ok (.aload_n 0, 1) := by decide +kernel
theorem dX5_rule_96 : decode cX5_rule 96 = .ok (.iconst 2, 1) := by decide +kernel
theorem dX5_rule_97 : decode cX5_rule 97 = .ok (.invokevirtual 213, 3) := by decide +kernel
theorem dX5_rule_100 : decode cX5_rule 100 = .ok (.ireturn, 1) := by decide +kernel
theorem dX5_rule_101 : decode cX5_rule 101 = .ok (.aload_n 0, 1) := by decide +kernel
theorem dX5_rule_102 : decode cX5_rule 102 = .ok (.getfield 120, 3) := by decide +kernel
theorem dX5_rule_105 : decode cX5_rule 105 = .ok (.iload_n 1, 1) := by decide +kernel
theorem dX5_rule_106 : decode cX5_rule 106 = .ok (.iaload, 1) := by decide +kernel
theorem dX5_rule_107 : decode cX5_rule 107 = .ok (.bipush 16, 2) := by decide +kernel
theorem dX5_rule_109 : decode cX5_rule 109 = .ok (.if_icmp .ne 9, 3) := by decide +kernel
theorem dX5_rule_112 : decode cX5_rule 112 = .ok (.aload_n 0, 1) := by decide +kernel
theorem dX5_rule_113 : decode cX5_rule 113 = .ok (.iconst 3, 1) := by decide +kernel
theorem dX5_rule_114 : decode cX5_rule 114 = .ok (.invokevirtual 213, 3) := by decide +kernel
theorem dX5_rule_117 : decode cX5_rule 117 = .ok (.ireturn, 1) := by decide +kernel
theorem dX5_rule_118 : decode cX5_rule 118 = .ok (.bipush 16, 2) := by decide +kernel
theorem dX5_rule_120 : decode cX5_rule 120 = .ok (.iload_n 1, 1) := by decide +kernel
theorem dX5_rule_121 : decode cX5_rule 121 = .ok (.imul, 1) := by decide +kernel
theorem dX5_rule_122 : decode cX5_rule 122 = .ok (.aload_n 0, 1) := by decide +kernel
theorem dX5_rule_123 : decode cX5_rule 123 = .ok (.getfield 120, 3) := by decide +kernel
theorem dX5_rule_126 : decode cX5_rule 126 = .ok (.iload_n 1, 1) := by decide +kernel
theorem dX5_rule_127 : decode cX5_rule 127 = .ok (.iaload, 1) := by decide +kernel
theorem dX5_rule_128 : decode cX5_rule 128 = .ok (.iadd, 1) := by decide +kernel
theorem dX5_rule_129 : decode cX5_rule 129 = .ok (.istore 5, 2) := by decide +kernel
theorem dX5_rule_131 : decode cX5_rule 131 = .ok (.aload_n 0, 1) := by decide +kernel
theorem dX5_rule_132 : decode cX5_rule 132 = .ok (.getfield 123, 3) := by decide +kernel
theorem dX5_rule_135 : decode cX5_rule 135 = .ok (.iload 5, 2) := by decide +kernel
theorem dX5_rule_137 : decode cX5_rule 137 = .ok (.iload_n 2, 1) := by decide +kernel
theorem dX5_rule_138 : decode cX5_rule 138 = .ok (.iastore, 1) := by decide +kernel
theorem dX5_rule_139 : decode cX5_rule 139 = .ok (.aload_n 0, 1) := by decide +kernel
theorem dX5_rule_140 : decode cX5_rule 140 = .ok (.getfield 126, 3) := by decide +kernel
theorem dX5_rule_143 : decode cX5_rule 143 = .ok (.iload 5, 2) := by decide +kernel
theorem dX5_rule_145 : decode cX5_rule 145 = .ok (.iload_n 3, 1) := by decide +kernel
theorem dX5_rule_146 : decode cX5_rule 146 = .ok (.iastore, 1) := by decide +kernel
theorem dX5_rule_147 : decode cX5_rule 147 = .ok (.aload_n 0, 1) := by decide +kernel
theorem dX5_rule_148 : decode cX5_rule 148 = .ok (.getfield 129, 3) := by decide +kernel
theorem dX5_rule_151 : decode cX5_rule 151 = .ok (.iload 5, 2) := by decide +kernel
theorem dX5_rule_153 : decode cX5_rule 153 = .ok (.iload 4, 2) := by decide +kernel
theorem dX5_rule_155 : decode cX5_rule 155 = .ok (.iastore, 1) := by decide +kernel
theorem dX5_rule_156 : decode cX5_rule 156 = .ok (.aload_n 0, 1) := by decide +kernel
theorem dX5_rule_157 : decode cX5_rule 157 = .ok (.getfield 120, 3) := by decide +kernel
theorem dX5_rule_160 : decode cX5_rule 160 = .ok (.iload_n 1, 1) := by decide +kernel
theorem dX5_rule_161 : decode cX5_rule 161 = .ok (.dup2, 1) := by decide +kernel
theorem dX5_rule_162 : decode cX5_rule 162 = .ok (.iaload, 1) := by decide +kernel
theorem dX5_rule_163 : decode cX5_rule 163 = .ok (.iconst 1, 1) := by decide +kernel
theorem dX5_rule_164 : decode cX5_rule 164 = .ok (.iadd, 1) := by decide +kernel
theorem dX5_rule_165 : decode cX5_rule 165 = .ok (.iastore, 1) := by decide +kernel
theorem dX5_rule_166 : decode cX5_rule 166 = .ok (.aload_n 0, 1) := by decide +kernel
theorem dX5_rule_167 : decode cX5_rule 167 = .ok (.getfield 120, 3) := by decide +kernel
theorem dX5_rule_170 : decode cX5_rule 170 = .ok (.iload_n 1, 1) := by decide +kernel
theorem dX5_rule_171 : decode cX5_rule 171 = .ok (.iaload, 1) := by decide +kernel
theorem dX5_rule_172 : decode cX5_rule 172 = .ok (.iconst 1, 1) := by decide +kernel
theorem dX5_rule_173 : decode cX5_rule 173 = .ok (.isub, 1) := by decide +kernel
theorem dX5_rule_174 : decode cX5_rule 174 = .ok (.ireturn, 1) := by decide +kernel
theorem dX5_isAsk_0 : decode cX5_isAsk 0 = .ok (.aload_n 0, 1) := by decide +kernel
theorem dX5_isAsk_1 : decode cX5_isAsk 1 = .ok (.getfield 37, 3) := by decide +kernel
theorem dX5_isAsk_4 : decode cX5_isAsk 4 = .ok (.bipush 20, 2) := by decide +kernel
theorem dX5_isAsk_6 : decode cX5_isAsk 6 = .ok (.iload_n 1, 1) := by decide +kernel
theorem dX5_isAsk_7 : decode cX5_isAsk 7 = .ok (.imul, 1) := by decide +kernel
theorem dX5_isAsk_8 : decode cX5_isAsk 8 = .ok (.iload_n 2, 1) := by decide +kernel
theorem dX5_isAsk_9 : decode cX5_isAsk 9 = .ok (.iadd, 1) := by decide +kernel
theorem dX5_isAsk_10 : decode cX5_isAsk 10 = .ok (.iaload, 1) := by decide +kernel
theorem dX5_isAsk_11 : decode cX5_isAsk 11 = .ok (.ifCond .ne 7, 3) := by decide +kernel
theorem dX5_isAsk_14 : decode cX5_isAsk 14 = .ok (.iconst 1, 1) := by decide +kernel
theorem dX5_isAsk_15 : decode cX5_isAsk 15 = .ok (.goto 4, 3) := by decide +kernel
theorem dX5_isAsk_18 : decode cX5_isAsk 18 = .ok (.iconst 0, 1) := by decide +kernel
theorem dX5_isAsk_19 : decode cX5_isAsk 19 = .ok (.ireturn, 1) := by decide +kernel
theorem dX5_cost_0 : decode cX5_cost 0 = .ok (.aload_n 0, 1) := by decide +kernel
theorem dX5_cost_1 : decode cX5_cost 1 = .ok (.iconst 0, 1) := by decide +kernel
theorem dX5_cost_2 : decode cX5_cost 2 = .ok (.putfield 198, 3) := by decide +kernel
theorem dX5_cost_5 : decode cX5_cost 5 = .ok (.aload_n 0, 1) := by decide +kernel
theorem dX5_cost_6 : decode cX5_cost 6 = .ok (.iload_n 1, 1) := by decide +kernel
theorem dX5_cost_7 : decode cX5_cost 7 = .ok (.iload_n 2, 1) := by decide +kernel
theorem dX5_cost_8 : decode cX5_cost 8 = .ok (.invokevirtual 352, 3) := by decide +kernel
theorem dX5_cost_11 : decode cX5_cost 11 = .ok (.ifCond .ne 9, 3) := by decide +kernel
theorem dX5_cost_14 : decode cX5_cost 14 = .ok (.aload_n 0, 1) := by decide +kernel
theorem dX5_cost_15 : decode cX5_cost 15 = .ok (.iconst 1, 1) := by decide +kernel
theorem dX5_cost_16 : decode cX5_cost 16 = .ok (.invokevirtual 213, 3) := by decide +kernel
theorem dX5_cost_19 : decode cX5_cost 19 = .ok (.ireturn, 1) := by decide +kernel
theorem dX5_cost_20 : decode cX5_cost 20 = .ok (.aload_n 0, 1) := by decide +kernel
theorem dX5_cost_21 : decode cX5_cost 21 = .ok (.iload_n 1, 1) := by decide +kernel
theorem dX5_cost_22 : decode cX5_cost 22 = .ok (.iload_n 2, 1) := by decide +kernel
theorem dX5_cost_23 : decode cX5_cost 23 = .ok (.invokevirtual 407, 3) := by decide +kernel
theorem dX5_cost_26 : decode cX5_cost 26 = .ok (.ifCond .eq 15, 3) := by decide +kernel
theorem dX5_cost_29 : decode cX5_cost 29 = .ok (.iload_n 3, 1) := by decide +kernel
theorem dX5_cost_30 : decode cX5_cost 30 = .ok (.i2l, 1) := by decide +kernel
theorem dX5_cost_31 : decode cX5_cost 31 = .ok (.lconst 1, 1) := by decide +kernel
theorem dX5_cost_32 : decode cX5_cost 32 = .ok (.ldc2_w 414, 3) := by decide +kernel
theorem dX5_cost_35 : decode cX5_cost 35 = .ok (.invokestatic 207, 3) := by decide +kernel
theorem dX5_cost_38 : decode cX5_cost 38 = .ok (.ifCond .ne 9, 3) := by decide +kernel
theorem dX5_cost_41 : decode cX5_cost 41 = .ok (.aload_n 0, 1) := by decide +kernel
theorem dX5_cost_42 : decode cX5_cost 42 = .ok (.iconst 2, 1) := by decide +kernel
theorem dX5_cost_43 : decode cX5_cost 43 = .ok (.invokevirtual 213, 3) := by decide +kernel
theorem dX5_cost_46 : decode cX5_cost 46 = .ok (.ireturn, 1) := by decide +kernel
theorem dX5_cost_47 : decode cX5_cost 47 = .ok (.aload_n 0, 1) := by decide +kernel
theorem dX5_cost_48 : decode cX5_cost 48 = .ok (.getfield 50, 3) := by decide +kernel
theorem dX5_cost_51 : decode cX5_cost 51 = .ok (.bipush 20, 2) := by decide +kernel
theorem dX5_cost_53 : decode cX5_cost 53 = .ok (.iload_n 1, 1) := by decide +kernel
theorem dX5_cost_54 : decode cX5_cost 54 = .ok (.imul, 1) := by decide +kernel
theorem dX5_cost_55 : decode cX5_cost 55 = .ok (.iload_n 2, 1) := by decide +kernel
theorem dX5_cost_56 : decode cX5_cost 56 = .ok (.iadd, 1) := by decide +kernel
theorem dX5_cost_57 : decode cX5_cost 57 = .ok (.iaload, 1) := by decide +kernel
theorem dX5_cost_58 : decode cX5_cost 58 = .ok (.istore 4, 2) := by decide +kernel
theorem dX5_cost_60 : decode cX5_cost 60 = .ok (.aload_n 0, 1) := by decide +kernel
theorem dX5_cost_61 : decode cX5_cost 61 = .ok (.getfield 50, 3) := by decide +kernel
theorem dX5_cost_64 : decode cX5_cost 64 = .ok (.bipush 20, 2) := by decide +kernel
theorem dX5_cost_66 : decode cX5_cost 66 = .ok (.iload_n 1, 1) := by decide +kernel
theorem dX5_cost_67 : decode cX5_cost 67 = .ok (.imul, 1) := by decide +kernel
theorem dX5_cost_68 : decode cX5_cost 68 = .ok (.iload_n 2, 1) := by decide +kernel
theorem dX5_cost_69 : decode cX5_cost 69 = .ok (.iadd, 1) := by decide +kernel
theorem dX5_cost_70 : decode cX5_cost 70 = .ok (.iload_n 3, 1) := by decide +kernel
theorem dX5_cost_71 : decode cX5_cost 71 = .ok (.iastore, 1) := by decide +kernel
theorem dX5_cost_72 : decode cX5_cost 72 = .ok (.iload 4, 2) := by decide +kernel
theorem dX5_cost_74 : decode cX5_cost 74 = .ok (.ireturn, 1) := by decide +kernel
theorem dX5_broken_0 : decode cX5_broken 0 = .ok (.aload_n 0, 1) := by decide +kernel
theorem dX5_broken_1 : decode cX5_broken 1 = .ok (.iconst 0, 1) := by decide +kernel
theorem dX5_broken_2 : decode cX5_broken 2 = .ok (.putfield 198, 3) := by decide +kernel
theorem dX5_broken_5 : decode cX5_broken 5 = .ok (.iload_n 1, 1) := by decide +kernel
theorem dX5_broken_6 : decode cX5_broken 6 = .ok (.i2l, 1) := by decide +kernel
theorem dX5_broken_7 : decode cX5_broken 7 = .ok (.lconst 0, 1) := by decide +kernel
theorem dX5_broken_8 : decode cX5_broken 8 = .ok (.aload_n 0, 1) := by decide +kernel
theorem dX5_broken_9 : decode cX5_broken 9 = .ok (.getfield 398, 3) := by decide +kernel
theorem dX5_broken_12 : decode cX5_broken 12 = .ok (.iconst 1, 1) := by decide +kernel
theorem dX5_broken_13 : decode cX5_broken 13 = .ok (.isub, 1) := by decide +kernel
theorem dX5_broken_14 : decode cX5_broken 14 = .ok (.i2l, 1) := by decide +kernel
theorem dX5_broken_15 : decode cX5_broken 15 = .ok (.invokestatic 207, 3) := by decide +kernel
theorem dX5_broken_18 : decode cX5_broken 18 = .ok (.ifCond .eq 8, 3) := by decide +kernel
theorem dX5_broken_21 : decode cX5_broken 21 = .ok (.iload_n 2, 1) := by decide +kernel
theorem dX5_broken_22 : decode cX5_broken 22 = .ok (.iconst (-1), 1) := by decide +kernel
theorem dX5_broken_23 : decode cX5_broken 23 = .ok (.if_icmp .ge 9, 3) := by decide +kernel
theorem dX5_broken_26 : decode cX5_broken 26 = .ok (.aload_n 0, 1) := by decide +kernel
theorem dX5_broken_27 : decode cX5_broken 27 = .ok (.iconst 1, 1) := by decide +kernel
theorem dX5_broken_28 : decode cX5_broken 28 = .ok (.invokevirtual 213, 3) := by decide +kernel
theorem dX5_broken_31 : decode cX5_broken 31 = .ok (.ireturn, 1) := by decide +kernel
theorem dX5_broken_32 : decode cX5_broken 32 = .ok (.aload_n 0, 1) := by decide +kernel
theorem dX5_broken_33 : decode cX5_broken 33 = .ok (.iload_n 1, 1) := by decide +kernel
theorem dX5_broken_34 : decode cX5_broken 34 = .ok (.invokevirtual 401, 3) := by decide +kernel
theorem dX5_broken_37 : decode cX5_broken 37 = .ok (.istore_n 3, 1) := by decide +kernel
theorem dX5_broken_38 : decode cX5_broken 38 = .ok (.iconst 0, 1) := by decide +kernel
theorem dX5_broken_39 : decode cX5_broken 39 = .ok (.istore 4, 2) := by decide +kernel
theorem dX5_broken_41 : decode cX5_broken 41 = .ok (.iconst 0, 1) := by decide +kernel
theorem dX5_broken_42 : decode cX5_broken 42 = .ok (.istore 5, 2) := by decide +kernel
theorem dX5_broken_44 : decode cX5_broken 44 = .ok (.iload 5, 2) := by decide +kernel
theorem dX5_broken_46 : decode cX5_broken 46 = .ok (.aload_n 0, 1) := by decide +kernel
theorem dX5_broken_47 : decode cX5_broken 47 = .ok (.getfield 120, 3) := by decide +kernel
theorem dX5_broken_50 : decode cX5_broken 50 = .ok (.iload_n 3, 1) := by decide +kernel
theorem dX5_broken_51 : decode cX5_broken 51 = .ok (.iaload, 1) := by decide +kernel
theorem dX5_broken_52 : decode cX5_broken 52 = .ok (.if_icmp .ge 36, 3) := by decide +kernel
theorem dX5_broken_55 : decode cX5_broken 55 = .ok (.aload_n 0, 1) := by decide +kernel
theorem dX5_broken_56 : decode cX5_broken 56 = .ok (.iload_n 1, 1) := by decide +kernel
theorem dX5_broken_57 : decode cX5_broken 57 = .ok (.bipush 16, 2) := by decide +kernel
theorem dX5_broken_59 : decode cX5_broken 59 = .ok (.iload_n 3, 1) := by decide +kernel
theorem dX5_broken_60 : decode cX5_broken 60 = .ok (.imul, 1) := by decide +kernel
theorem dX5_broken_61 : decode cX5_broken 61 = .ok (.iload 5, 2) := by decide +kernel
theorem dX5_broken_63 : decode cX5_broken 63 = .ok (.iadd, 1) := by decide +kernel
theorem dX5_broken_64 : decode cX5_broken 64 = .ok (.invokevirtual 416, 3) := by decide +kernel
theorem dX5_broken_67 : decode cX5_broken 67 = .ok (.ifCond .eq 15, 3) := by decide +kernel
theorem dX5_broken_70 : decode cX5_broken 70 = .ok (.iload 4, 2) := by decide +kernel
theorem dX5_broken_72 : decode cX5_broken 72 = .ok (.iload_n 2, 1) := by decide +kernel
theorem dX5_broken_73 : decode cX5_broken 73 = .ok (.if_icmp .ne 6, 3) := by decide +kernel
theorem dX5_broken_76 : decode cX5_broken 76 = .ok (.iload 5, 2) := by decide +kernel
theorem dX5_broken_78 : decode cX5_broken 78 = .ok (.ireturn, 1) := by decide +kernel
theorem dX5_broken_79 : decode cX5_broken 79 = .ok (.iinc 4 1, 3) := by decide +kernel
theorem dX5_broken_82 : decode cX5_broken 82 = .ok (.iinc 5 1, 3) := by decide +kernel
theorem dX5_broken_85 : decode cX5_broken 85 = .ok (.goto (-41), 3) := by decide +kernel
theorem dX5_broken_88 : decode cX5_broken 88 = .ok (.iload_n 2, 1) := by decide +kernel
theorem dX5_broken_89 : decode cX5_broken 89 = .ok (.iconst (-1), 1) := by decide +kernel
theorem dX5_broken_90 : decode cX5_broken 90 = .ok (.if_icmp .ne 8, 3) := by decide +kernel
theorem dX5_broken_93 : decode cX5_broken 93 = .ok (.iload 4, 2) := by decide +kernel
theorem dX5_broken_95 : decode cX5_broken 95 = .ok (.goto 4, 3) := by decide +kernel
theorem dX5_broken_98 : decode cX5_broken 98 = .ok (.iconst (-1), 1) := by decide +kernel
theorem dX5_broken_99 : decode cX5_broken 99 = .ok (.ireturn, 1) := by decide +kernel
theorem dX5_breaks_0 : decode cX5_breaks 0 = .ok (.aload_n 0, 1) := by decide +kernel
theorem dX5_breaks_1 : decode cX5_breaks 1 = .ok (.getfield 123, 3) := by decide +kernel
theorem dX5_breaks_4 : decode cX5_breaks 4 = .ok (.iload_n 2, 1) := by decide +kernel
theorem dX5_breaks_5 : decode cX5_breaks 5 = .ok (.iaload, 1) := by decide +kernel
theorem dX5_breaks_6 : decode cX5_breaks 6 = .ok (.iconst (-1), 1) := by decide +kernel
theorem dX5_breaks_7 : decode cX5_breaks 7 = .ok (.if_icmp .ne 7, 3) := by decide +kernel
theorem dX5_breaks_10 : decode cX5_breaks 10 = .ok (.iconst 0, 1) := by decide +kernel
theorem dX5_breaks_11 : decode cX5_breaks 11 = .ok (.goto 19, 3) := by decide +kernel
theorem dX5_breaks_14 : decode cX5_breaks 14 = .ok (.aload_n 0, 1) := by decide +kernel
theorem dX5_breaks_15 : decode cX5_breaks 15 = .ok (.getfield 114, 3) := by decide +kernel
theorem dX5_breaks_18 : decode cX5_breaks 18 = .ok (.bipush 20, 2) := by decide +kernel
theorem dX5_breaks_20 : decode cX5_breaks 20 = .ok (.iload_n 1, 1) := by decide +kernel
theorem dX5_breaks_21 : decode cX5_breaks 21 = .ok (.imul, 1) := by decide +kernel
theorem dX5_breaks_22 : decode cX5_breaks 22 = .ok (.aload_n 0, 1) := by decide +kernel
theorem dX5_breaks_23 : decode cX5_breaks 23 = .ok (.getfield 123, 3) := by decide +kernel
theorem dX5_breaks_26 : decode cX5_breaks 26 = .ok (.iload_n 2, 1) := by decide +kernel
theorem dX5_breaks_27 : decode cX5_breaks 27 = .ok (.iaload, 1) := by decide +kernel
theorem dX5_breaks_28 : decode cX5_breaks 28 = .ok (.iadd, 1) := by decide +kernel
theorem dX5_breaks_29 : decode cX5_breaks 29 = .ok (.iaload, 1) := by decide +kernel
theorem dX5_breaks_30 : decode cX5_breaks 30 = .ok (.istore_n 3, 1) := by decide +kernel
theorem dX5_breaks_31 : decode cX5_breaks 31 = .ok (.aload_n 0, 1) := by decide +kernel
theorem dX5_breaks_32 : decode cX5_breaks 32 = .ok (.getfield 126, 3) := by decide +kernel
theorem dX5_breaks_35 : decode cX5_breaks 35 = .ok (.iload_n 2, 1) := by decide +kernel
theorem dX5_breaks_36 : decode cX5_breaks 36 = .ok (.iaload, 1) := by decide +kernel
theorem dX5_breaks_37 : decode cX5_breaks 37 = .ok (.iconst (-1), 1) := by decide +kernel
theorem dX5_breaks_38 : decode cX5_breaks 38 = .ok (.if_icmp .ne 7, 3) := by decide +kernel
theorem dX5_breaks_41 : decode cX5_breaks 41 = .ok (.iconst 0, 1) := by decide +kernel
theorem dX5_breaks_42 : decode cX5_breaks 42 = .ok (.goto 19, 3) := by decide +kernel
theorem dX5_breaks_45 : decode cX5_breaks 45 = .ok (.aload_n 0, 1) := by decide +kernel
theorem dX5_breaks_46 : decode cX5_breaks 46 = .ok (.getfield 114, 3) := by decide +kernel
theorem dX5_breaks_49 : decode cX5_breaks 49 = .ok (.bipush 20, 2) := by decide +kernel
theorem dX5_breaks_51 : decode cX5_breaks 51 = .ok (.iload_n 1, 1) := by decide +kernel
theorem dX5_breaks_52 : decode cX5_breaks 52 = .ok (.imul, 1) := by decide +kernel
theorem dX5_breaks_53 : decode cX5_breaks 53 = .ok (.aload_n 0, 1) := by decide +kernel
theorem dX5_breaks_54 : decode cX5_breaks 54 = .ok (.getfield 126, 3) := by decide +kernel
theorem dX5_breaks_57 : decode cX5_breaks 57 = .ok (.iload_n 2, 1) := by decide +kernel
theorem dX5_breaks_58 : decode cX5_breaks 58 = .ok (.iaload, 1) := by decide +kernel
theorem dX5_breaks_59 : decode cX5_breaks 59 = .ok (.iadd, 1) := by decide +kernel
theorem dX5_breaks_60 : decode cX5_breaks 60 = .ok (.iaload, 1) := by decide +kernel
theorem dX5_breaks_61 : decode cX5_breaks 61 = .ok (.istore 4, 2) := by decide +kernel
theorem dX5_breaks_63 : decode cX5_breaks 63 = .ok (.iload_n 3, 1) := by decide +kernel
theorem dX5_breaks_64 : decode cX5_breaks 64 = .ok (.ldc 244, 2) := by decide +kernel
theorem dX5_breaks_66 : decode cX5_breaks 66 = .ok (.if_icmp .eq 27, 3) := by decide +kernel
theorem dX5_breaks_69 : decode cX5_breaks 69 = .ok (.iload 4, 2) := by decide +kernel
theorem dX5_breaks_71 : decode cX5_breaks 71 = .ok (.ldc 244, 2) := by decide +kernel
theorem dX5_breaks_73 : decode cX5_breaks 73 = .ok (.if_icmp .eq 20, 3) := by decide +kernel
theorem dX5_breaks_76 : decode cX5_breaks 76 = .ok (.iload_n 3, 1) := by decide +kernel
theorem dX5_breaks_77 : decode cX5_breaks 77 = .ok (.iload 4, 2) := by decide +kernel
theorem dX5_breaks_79 : decode cX5_breaks 79 = .ok (.isub, 1) := by decide +kernel
theorem dX5_breaks_80 : decode cX5_breaks 80 = .ok (.aload_n 0, 1) := by decide +kernel
theorem dX5_breaks_81 : decode cX5_breaks 81 = .ok (.getfield 129, 3) := by decide +kernel
theorem dX5_breaks_84 : decode cX5_breaks 84 = .ok (.iload_n 2, 1) := by decide +kernel
theorem dX5_breaks_85 : decode cX5_breaks 85 = .ok (.iaload, 1) := by decide +kernel
theorem dX5_breaks_86 : decode cX5_breaks 86 = .ok (.if_icmp .le 7, 3) := by decide +kernel
theorem dX5_breaks_89 : decode cX5_breaks 89 = .ok (.iconst 1, 1) := by decide +kernel
theorem dX5_breaks_90 : decode cX5_breaks 90 = .ok (.goto 4, 3) := by decide +kernel
theorem dX5_breaks_93 : decode cX5_breaks 93 = .ok (.iconst 0, 1) := by decide +kernel
theorem dX5_breaks_94 : decode cX5_breaks 94 = .ok (.ireturn, 1) := by decide +kernel
theorem dX5_least_0 : decode cX5_least 0 = .ok (.aload_n 0, 1) := by decide +kernel
theorem dX5_least_1 : decode cX5_least 1 = .ok (.iconst 0, 1) := by decide +kernel
theorem dX5_least_2 : decode cX5_least 2 = .ok (.putfield 198, 3) := by decide +kernel
theorem dX5_least_5 : decode cX5_least 5 = .ok (.iload_n 1, 1) := by decide +kernel
theorem dX5_least_6 : decode cX5_least 6 = .ok (.i2l, 1) := by decide +kernel
theorem dX5_least_7 : decode cX5_least 7 = .ok (.lconst 0, 1) := by decide +kernel
theorem dX5_least_8 : decode cX5_least 8 = .ok (.aload_n 0, 1) := by decide +kernel
theorem dX5_least_9 : decode cX5_least 9 = .ok (.getfield 398, 3) := by decide +kernel
theorem dX5_least_12 : decode cX5_least 12 = .ok (.iconst 1, 1) := by decide +kernel
theorem dX5_least_13 : decode cX5_least 13 = .ok (.isub, 1) := by decide +kernel
theorem dX5_least_14 : decode cX5_least 14 = .ok (.i2l, 1) := by decide +kernel
theorem dX5_least_15 : decode cX5_least 15 = .ok (.invokestatic 207, 3) := by decide +kernel
theorem dX5_least_18 : decode cX5_least 18 = .ok (.ifCond .ne 9, 3) := by decide +kernel
theorem dX5_least_21 : decode cX5_least 21 = .ok (.aload_n 0, 1) := by decide +kernel
theorem dX5_least_22 : decode cX5_least 22 = .ok (.iconst 1, 1) := by decide +kernel
theorem dX5_least_23 : decode cX5_least 23 = .ok (.invokevirtual 213, 3) := by decide +kernel
theorem dX5_least_26 : decode cX5_least 26 = .ok (.ireturn, 1) := by decide +kernel
theorem dX5_least_27 : decode cX5_least 27 = .ok (.aload_n 0, 1) := by decide +kernel
theorem dX5_least_28 : decode cX5_least 28 = .ok (.iload_n 1, 1) := by decide +kernel
theorem dX5_least_29 : decode cX5_least 29 = .ok (.invokevirtual 432, 3) := by decide +kernel
theorem dX5_least_32 : decode cX5_least 32 = .ok (.iload_n 2, 1) := by decide +kernel
theorem dX5_least_33 : decode cX5_least 33 = .ok (.ifCond .eq 10, 3) := by decide +kernel
theorem dX5_least_36 : decode cX5_least 36 = .ok (.aload_n 0, 1) := by decide +kernel
theorem dX5_least_37 : decode cX5_least 37 = .ok (.getfield 426, 3) := by decide +kernel
theorem dX5_least_40 : decode cX5_least 40 = .ok (.goto 7, 3) := by decide +kernel
theorem dX5_least_43 : decode cX5_least 43 = .ok (.aload_n 0, 1) := by decide +kernel
theorem dX5_least_44 : decode cX5_least 44 = .ok (.getfield 423, 3) := by decide +kernel
theorem dX5_least_47 : decode cX5_least 47 = .ok (.ireturn, 1) := by decide +kernel
theorem dX5_find_0 : decode cX5_find 0 = .ok (.aload_n 0, 1) := by decide +kernel
theorem dX5_find_1 : decode cX5_find 1 = .ok (.iload_n 1, 1) := by decide +kernel
theorem dX5_find_2 : decode cX5_find 2 = .ok (.invokevirtual 401, 3) := by decide +kernel
theorem dX5_find_5 : decode cX5_find 5 = .ok (.istore_n 2, 1) := by decide +kernel
theorem dX5_find_6 : decode cX5_find 6 = .ok (.aload_n 0, 1) := by decide +kernel
theorem dX5_find_7 : decode cX5_find 7 = .ok (.iconst (-1), 1) := by decide +kernel
theorem dX5_find_8 : decode cX5_find 8 = .ok (.putfield 423, 3) := by decide +kernel
theorem dX5_find_11 : decode cX5_find 11 = .ok (.aload_n 0, 1) := by decide +kernel
theorem dX5_find_12 : decode cX5_find 12 = .ok (.iconst (-1), 1) := by decide +kernel
theorem dX5_find_13 : decode cX5_find 13 = .ok (.putfield 426, 3) := by decide +kernel
theorem dX5_find_16 : decode cX5_find 16 = .ok (.iconst 0, 1) := by decide +kernel
theorem dX5_find_17 : decode cX5_find 17 = .ok (.istore_n 3, 1) := by decide +kernel
theorem dX5_find_18 : decode cX5_find 18 = .ok (.iconst 0, 1) := by decide +kernel
theorem dX5_find_19 : decode cX5_find 19 = .ok (.istore 4, 2) := by decide +kernel
theorem dX5_find_21 : decode cX5_find 21 = .ok (.iload 4, 2) := by decide +kernel
theorem dX5_find_23 : decode cX5_find 23 = .ok (.aload_n 0, 1) := by decide +kernel
theorem dX5_find_24 : decode cX5_find 24 = .ok (.getfield 120, 3) := by decide +kernel
theorem dX5_find_27 : decode cX5_find 27 = .ok (.iload_n 2, 1) := by decide +kernel
theorem dX5_find_28 : decode cX5_find 28 = .ok (.iaload, 1) := by decide +kernel
theorem dX5_find_29 : decode cX5_find 29 = .ok (.if_icmp .ge 105, 3) := by decide +kernel
theorem dX5_find_32 : decode cX5_find 32 = .ok (.aload_n 0, 1) := by decide +kernel
theorem dX5_find_33 : decode cX5_find 33 = .ok (.getfield 123, 3) := by decide +kernel
theorem dX5_find_36 : decode cX5_find 36 = .ok (.bipush 16, 2) := by decide +kernel
theorem dX5_find_38 : decode cX5_find 38 = .ok (.iload_n 2, 1) := by decide +kernel
theorem dX5_find_39 : decode cX5_find 39 = .ok (.imul, 1) := by decide +kernel
theorem dX5_find_40 : decode cX5_find 40 = .ok (.iload 4, 2) := by decide +kernel
theorem dX5_find_42 : decode cX5_find 42 = .ok (.iadd, 1) := by decide +kernel
theorem dX5_find_43 : decode cX5_find 43 = .ok (.iaload, 1) := by decide +kernel
theorem dX5_find_44 : decode cX5_find 44 = .ok (.istore 5, 2) := by decide +kernel
theorem dX5_find_46 : decode cX5_find 46 = .ok (.aload_n 0, 1) := by decide +kernel
theorem dX5_find_47 : decode cX5_find 47 = .ok (.getfield 126, 3) := by decide +kernel
theorem dX5_find_50 : decode cX5_find 50 = .ok (.bipush 16, 2) := by decide +kernel
theorem dX5_find_52 : decode cX5_find 52 = .ok (.iload_n 2, 1) := by decide +kernel
theorem dX5_find_53 : decode cX5_find 53 = .ok (.imul, 1) := by decide +kernel
theorem dX5_find_54 : decode cX5_find 54 = .ok (.iload 4, 2) := by decide +kernel
theorem dX5_find_56 : decode cX5_find 56 = .ok (.iadd, 1) := by decide +kernel
theorem dX5_find_57 : decode cX5_find 57 = .ok (.iaload, 1) := by decide +kernel
theorem dX5_find_58 : decode cX5_find 58 = .ok (.istore 6, 2) := by decide +kernel
theorem dX5_find_60 : decode cX5_find 60 = .ok (.iload_n 3, 1) := by decide +kernel
theorem dX5_find_61 : decode cX5_find 61 = .ok (.iload 5, 2) := by decide +kernel
theorem dX5_find_63 : decode cX5_find 63 = .ok (.iconst (-1), 1) := by decide +kernel
theorem dX5_find_64 : decode cX5_find 64 = .ok (.if_icmp .eq 27, 3) := by decide +kernel
theorem dX5_find_67 : decode cX5_find 67 = .ok (.aload_n 0, 1) := by decide +kernel
theorem dX5_find_68 : decode cX5_find 68 = .ok (.getfield 114, 3) := by decide +kernel
theorem dX5_find_71 : decode cX5_find 71 = .ok (.bipush 20, 2) := by decide +kernel
theorem dX5_find_73 : decode cX5_find 73 = .ok (.iload_n 1, 1) := by decide +kernel
theorem dX5_find_74 : decode cX5_find 74 = .ok (.imul, 1) := by decide +kernel
theorem dX5_find_75 : decode cX5_find 75 = .ok (.iload 5, 2) := by decide +kernel
theorem dX5_find_77 : decode cX5_find 77 = .ok (.iadd, 1) := by decide +kernel
theorem dX5_find_78 : decode cX5_find 78 = .ok (.iaload, 1) := by decide +kernel
theorem dX5_find_79 : decode cX5_find 79 = .ok (.ldc 244, 2) := by decide +kernel
theorem dX5_find_81 : decode cX5_find 81 = .ok (.if_icmp .eq 10, 3) := by decide +kernel
theorem dX5_find_84 : decode cX5_find 84 = .ok (.iconst 1, 1) := by decide +kernel
theorem dX5_find_85 : decode cX5_find 85 = .ok (.iload 5, 2) := by decide +kernel
theorem dX5_find_87 : decode cX5_find 87 = .ok (.ishl, 1) := by decide +kernel
theorem dX5_find_88 : decode cX5_find 88 = .ok (.goto 4, 3) := by decide +kernel
theorem dX5_find_91 : decode cX5_find 91 = .ok (.iconst 0, 1) := by decide +kernel
theorem dX5_find_92 : decode cX5_find 92 = .ok (.ior, 1) := by decide +kernel
theorem dX5_find_93 : decode cX5_find 93 = .ok (.istore_n 3, 1) := by decide +kernel
theorem dX5_find_94 : decode cX5_find 94 = .ok (.iload_n 3, 1) := by decide +kernel
theorem dX5_find_95 : decode cX5_find 95 = .ok (.iload 6, 2) := by decide +kernel
theorem dX5_find_97 : decode cX5_find 97 = .ok (.iconst (-1), 1) := by decide +kernel
theorem dX5_find_98 : decode cX5_find 98 = .ok (.if_icmp .eq 27, 3) := by decide +kernel
theorem dX5_find_101 : decode cX5_find 101 = .ok (.aload_n 0, 1) := by decide +kernel
theorem dX5_find_102 : decode cX5_find 102 = .ok (.getfield 114, 3) := by decide +kernel
theorem dX5_find_105 : decode cX5_find 105 = .ok (.bipush 20, 2) := by decide +kernel
theorem dX5_find_107 : decode cX5_find 107 = .ok (.iload_n 1, 1) := by decide +kernel
theorem dX5_find_108 : decode cX5_find 108 = .ok (.imul, 1) := by decide +kernel
theorem dX5_find_109 : decode cX5_find 109 = .ok (.iload 6, 2) := by decide +kernel
theorem dX5_find_111 : decode cX5_find 111 = .ok (.iadd, 1) := by decide +kernel
theorem dX5_find_112 : decode cX5_find 112 = .ok (.iaload, 1) := by decide +kernel
theorem dX5_find_113 : decode cX5_find 113 = .ok (.ldc 244, 2) := by decide +kernel
theorem dX5_find_115 : decode cX5_find 115 = .ok (.if_icmp .eq 10, 3) := by decide +kernel
theorem dX5_find_118 : decode cX5_find 118 = .ok (.iconst 1, 1) := by decide +kernel
theorem dX5_find_119 : decode cX5_find 119 = .ok (.iload 6, 2) := by decide +kernel
theorem dX5_find_121 : decode cX5_find 121 = .ok (.ishl, 1) := by decide +kernel
theorem dX5_find_122 : decode cX5_find 122 = .ok (.goto 4, 3) := by decide +kernel
theorem dX5_find_125 : decode cX5_find 125 = .ok (.iconst 0, 1) := by decide +kernel
theorem dX5_find_126 : decode cX5_find 126 = .ok (.ior, 1) := by decide +kernel
theorem dX5_find_127 : decode cX5_find 127 = .ok (.istore_n 3, 1) := by decide +kernel
theorem dX5_find_128 : decode cX5_find 128 = .ok (.iinc 4 1, 3) := by decide +kernel
theorem dX5_find_131 : decode cX5_find 131 = .ok (.goto (-110), 3) := by decide +kernel
theorem dX5_find_134 : decode cX5_find 134 = .ok (.iconst 0, 1) := by decide +kernel
theorem dX5_find_135 : decode cX5_find 135 = .ok (.istore 4, 2) := by decide +kernel
theorem dX5_find_137 : decode cX5_find 137 = .ok (.iconst 1, 1) := by decide +kernel
theorem dX5_find_138 : decode cX5_find 138 = .ok (.istore 5, 2) := by decide +kernel
theorem dX5_find_140 : decode cX5_find 140 = .ok (.iload 5, 2) := by decide +kernel
theorem dX5_find_142 : decode cX5_find 142 = .ok (.ifCond .eq 114, 3) := by decide +kernel
theorem dX5_find_145 : decode cX5_find 145 = .ok (.iconst 0, 1) := by decide +kernel
theorem dX5_find_146 : decode cX5_find 146 = .ok (.istore 6, 2) := by decide +kernel
theorem dX5_find_148 : decode cX5_find 148 = .ok (.iconst 0, 1) := by decide +kernel
theorem dX5_find_149 : decode cX5_find 149 = .ok (.istore 7, 2) := by decide +kernel
theorem dX5_find_151 : decode cX5_find 151 = .ok (.iload 7, 2) := by decide +kernel
theorem dX5_find_153 : decode cX5_find 153 = .ok (.aload_n 0, 1) := by decide +kernel
theorem dX5_find_154 : decode cX5_find 154 = .ok (.getfield 34, 3) := by decide +kernel
