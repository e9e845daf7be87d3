set_option maxRecDepth 100000
theorem dX5_find_157 : decode cX5_find 157 = .ok (.iload_n 2, 1) := by decide +kernel
theorem dX5_find_158 : decode cX5_find 158 = .ok (.iaload, 1) := by decide +kernel
theorem dX5_find_159 : decode cX5_find 159 = .ok (.if_icmp .ge 34, 3) := by decide +kernel
theorem dX5_find_162 : decode cX5_find 162 = .ok (.iload 6, 2) := by decide +kernel
theorem dX5_find_164 : decode cX5_find 164 = .ok (.iload 4, 2) := by decide +kernel
theorem dX5_find_166 : decode cX5_find 166 = .ok (.iload 7, 2) := by decide +kernel
theorem dX5_find_168 : decode cX5_find 168 = .ok (.ishr, 1) := by decide +kernel
theorem dX5_find_169 : decode cX5_find 169 = .ok (.iconst 1, 1) := by decide +kernel
theorem dX5_find_170 : decode cX5_find 170 = .ok (.iand, 1) := by decide +kernel
theorem dX5_find_171 : decode cX5_find 171 = .ok (.aload_n 0, 1) := by decide +kernel
theorem dX5_find_172 : decode cX5_find 172 = .ok (.getfield 50, 3) := by decide +kernel
theorem dX5_find_175 : decode cX5_find 175 = .ok (.bipush 20, 2) := by decide +kernel
theorem dX5_find_177 : decode cX5_find 177 = .ok (.iload_n 2, 1) := by decide +kernel
theorem dX5_find_178 : decode cX5_find 178 = .ok (.imul, 1) := by decide +kernel
theorem dX5_find_179 : decode cX5_find 179 = .ok (.iload 7, 2) := by decide +kernel
theorem dX5_find_181 : decode cX5_find 181 = .ok (.iadd, 1) := by decide +kernel
theorem dX5_find_182 : decode cX5_find 182 = .ok (.iaload, 1) := by decide +kernel
theorem dX5_find_183 : decode cX5_find 183 = .ok (.imul, 1) := by decide +kernel
theorem dX5_find_184 : decode cX5_find 184 = .ok (.iadd, 1) := by decide +kernel
theorem dX5_find_185 : decode cX5_find 185 = .ok (.istore 6, 2) := by decide +kernel
theorem dX5_find_187 : decode cX5_find 187 = .ok (.iinc 7 1, 3) := by decide +kernel
theorem dX5_find_190 : decode cX5_find 190 = .ok (.goto (-39), 3) := by decide +kernel
theorem dX5_find_193 : decode cX5_find 193 = .ok (.aload_n 0, 1) := by decide +kernel
theorem dX5_find_194 : decode cX5_find 194 = .ok (.getfield 423, 3) := by decide +kernel
theorem dX5_find_197 : decode cX5_find 197 = .ok (.iconst (-1), 1) := by decide +kernel
theorem dX5_find_198 : decode cX5_find 198 = .ok (.if_icmp .eq 12, 3) := by decide +kernel
theorem dX5_find_201 : decode cX5_find 201 = .ok (.iload 6, 2) := by decide +kernel
theorem dX5_find_203 : decode cX5_find 203 = .ok (.aload_n 0, 1) := by decide +kernel
theorem dX5_find_204 : decode cX5_find 204 = .ok (.getfield 423, 3) := by decide +kernel
theorem dX5_find_207 : decode cX5_find 207 = .ok (.if_icmp .ge 25, 3) := by decide +kernel
theorem dX5_find_210 : decode cX5_find 210 = .ok (.aload_n 0, 1) := by decide +kernel
theorem dX5_find_211 : decode cX5_find 211 = .ok (.iload_n 1, 1) := by decide +kernel
theorem dX5_find_212 : decode cX5_find 212 = .ok (.iload 4, 2) := by decide +kernel
theorem dX5_find_214 : decode cX5_find 214 = .ok (.invokevirtual 429, 3) := by decide +kernel
theorem dX5_find_217 : decode cX5_find 217 = .ok (.ifCond .eq 15, 3) := by decide +kernel
theorem dX5_find_220 : decode cX5_find 220 = .ok (.aload_n 0, 1) := by decide +kernel
theorem dX5_find_221 : decode cX5_find 221 = .ok (.iload 6, 2) := by decide +kernel
theorem dX5_find_223 : decode cX5_find 223 = .ok (.putfield 423, 3) := by decide +kernel
theorem dX5_find_226 : decode cX5_find 226 = .ok (.aload_n 0, 1) := by decide +kernel
theorem dX5_find_227 : decode cX5_find 227 = .ok (.iload 4, 2) := by decide +kernel
theorem dX5_find_229 : decode cX5_find 229 = .ok (.putfield 426, 3) := by decide +kernel
theorem dX5_find_232 : decode cX5_find 232 = .ok (.iload 4, 2) := by decide +kernel
theorem dX5_find_234 : decode cX5_find 234 = .ok (.iload_n 3, 1) := by decide +kernel
theorem dX5_find_235 : decode cX5_find 235 = .ok (.if_icmp .eq 7, 3) := by decide +kernel
theorem dX5_find_238 : decode cX5_find 238 = .ok (.iconst 1, 1) := by decide +kernel
theorem dX5_find_239 : decode cX5_find 239 = .ok (.goto 4, 3) := by decide +kernel
theorem dX5_find_242 : decode cX5_find 242 = .ok (.iconst 0, 1) := by decide +kernel
theorem dX5_find_243 : decode cX5_find 243 = .ok (.istore 5, 2) := by decide +kernel
theorem dX5_find_245 : decode cX5_find 245 = .ok (.iload 4, 2) := by decide +kernel
theorem dX5_find_247 : decode cX5_find 247 = .ok (.iload_n 3, 1) := by decide +kernel
theorem dX5_find_248 : decode cX5_find 248 = .ok (.isub, 1) := by decide +kernel
theorem dX5_find_249 : decode cX5_find 249 = .ok (.iload_n 3, 1) := by decide +kernel
theorem dX5_find_250 : decode cX5_find 250 = .ok (.iand, 1) := by decide +kernel
theorem dX5_find_251 : decode cX5_find 251 = .ok (.istore 4, 2) := by decide +kernel
theorem dX5_find_253 : decode cX5_find 253 = .ok (.goto (-113), 3) := by decide +kernel
theorem dX5_find_256 : decode cX5_find 256 = .ok (.return_, 1) := by decide +kernel
theorem dX5_fits_0 : decode cX5_fits 0 = .ok (.aload_n 0, 1) := by decide +kernel
theorem dX5_fits_1 : decode cX5_fits 1 = .ok (.iload_n 1, 1) := by decide +kernel
theorem dX5_fits_2 : decode cX5_fits 2 = .ok (.invokevirtual 401, 3) := by decide +kernel
theorem dX5_fits_5 : decode cX5_fits 5 = .ok (.istore_n 3, 1) := by decide +kernel
theorem dX5_fits_6 : decode cX5_fits 6 = .ok (.iconst 0, 1) := by decide +kernel
theorem dX5_fits_7 : decode cX5_fits 7 = .ok (.istore 4, 2) := by decide +kernel
theorem dX5_fits_9 : decode cX5_fits 9 = .ok (.iload 4, 2) := by decide +kernel
theorem dX5_fits_11 : decode cX5_fits 11 = .ok (.aload_n 0, 1) := by decide +kernel
theorem dX5_fits_12 : decode cX5_fits 12 = .ok (.getfield 34, 3) := by decide +kernel
theorem dX5_fits_15 : decode cX5_fits 15 = .ok (.iload_n 3, 1) := by decide +kernel
theorem dX5_fits_16 : decode cX5_fits 16 = .ok (.iaload, 1) := by decide +kernel
theorem dX5_fits_17 : decode cX5_fits 17 = .ok (.if_icmp .ge 28, 3) := by decide +kernel
theorem dX5_fits_20 : decode cX5_fits 20 = .ok (.aload_n 0, 1) := by decide +kernel
theorem dX5_fits_21 : decode cX5_fits 21 = .ok (.getfield 132, 3) := by decide +kernel
theorem dX5_fits_24 : decode cX5_fits 24 = .ok (.iload 4, 2) := by decide +kernel
theorem dX5_fits_26 : decode cX5_fits 26 = .ok (.aload_n 0, 1) := by decide +kernel
theorem dX5_fits_27 : decode cX5_fits 27 = .ok (.getfield 47, 3) := by decide +kernel
theorem dX5_fits_30 : decode cX5_fits 30 = .ok (.bipush 20, 2) := by decide +kernel
theorem dX5_fits_32 : decode cX5_fits 32 = .ok (.iload_n 3, 1) := by decide +kernel
theorem dX5_fits_33 : decode cX5_fits 33 = .ok (.imul, 1) := by decide +kernel
theorem dX5_fits_34 : decode cX5_fits 34 = .ok (.iload 4, 2) := by decide +kernel
theorem dX5_fits_36 : decode cX5_fits 36 = .ok (.iadd, 1) := by decide +kernel
theorem dX5_fits_37 : decode cX5_fits 37 = .ok (.iaload, 1) := by decide +kernel
theorem dX5_fits_38 : decode cX5_fits 38 = .ok (.iastore, 1) := by decide +kernel
theorem dX5_fits_39 : decode cX5_fits 39 = .ok (.iinc 4 1, 3) := by decide +kernel
theorem dX5_fits_42 : decode cX5_fits 42 = .ok (.goto (-33), 3) := by decide +kernel
theorem dX5_fits_45 : decode cX5_fits 45 = .ok (.iconst 1, 1) := by decide +kernel
theorem dX5_fits_46 : decode cX5_fits 46 = .ok (.istore 4, 2) := by decide +kernel
theorem dX5_fits_48 : decode cX5_fits 48 = .ok (.iconst 0, 1) := by decide +kernel
theorem dX5_fits_49 : decode cX5_fits 49 = .ok (.istore 5, 2) := by decide +kernel
theorem dX5_fits_51 : decode cX5_fits 51 = .ok (.iload 4, 2) := by decide +kernel
theorem dX5_fits_53 : decode cX5_fits 53 = .ok (.ifCond .eq 182, 3) := by decide +kernel
theorem dX5_fits_56 : decode cX5_fits 56 = .ok (.iconst 0, 1) := by decide +kernel
theorem dX5_fits_57 : decode cX5_fits 57 = .ok (.istore 4, 2) := by decide +kernel
theorem dX5_fits_59 : decode cX5_fits 59 = .ok (.iinc 5 1, 3) := by decide +kernel
theorem dX5_fits_62 : decode cX5_fits 62 = .ok (.iload 5, 2) := by decide +kernel
theorem dX5_fits_64 : decode cX5_fits 64 = .ok (.bipush 12, 2) := by decide +kernel
theorem dX5_fits_66 : decode cX5_fits 66 = .ok (.if_icmp .le 5, 3) := by decide +kernel
theorem dX5_fits_69 : decode cX5_fits 69 = .ok (.iconst 0, 1) := by decide +kernel
theorem dX5_fits_70 : decode cX5_fits 70 = .ok (.ireturn, 1) := by decide +kernel
theorem dX5_fits_71 : decode cX5_fits 71 = .ok (.iconst 0, 1) := by decide +kernel
theorem dX5_fits_72 : decode cX5_fits 72 = .ok (.istore 6, 2) := by decide +kernel
theorem dX5_fits_74 : decode cX5_fits 74 = .ok (.iload 6, 2) := by decide +kernel
theorem dX5_fits_76 : decode cX5_fits 76 = .ok (.aload_n 0, 1) := by decide +kernel
theorem dX5_fits_77 : decode cX5_fits 77 = .ok (.getfield 120, 3) := by decide +kernel
theorem dX5_fits_80 : decode cX5_fits 80 = .ok (.iload_n 3, 1) := by decide +kernel
theorem dX5_fits_81 : decode cX5_fits 81 = .ok (.iaload, 1) := by decide +kernel
theorem dX5_fits_82 : decode cX5_fits 82 = .ok (.if_icmp .ge 150, 3) := by decide +kernel
theorem dX5_fits_85 : decode cX5_fits 85 = .ok (.bipush 16, 2) := by decide +kernel
theorem dX5_fits_87 : decode cX5_fits 87 = .ok (.iload_n 3, 1) := by decide +kernel
theorem dX5_fits_88 : decode cX5_fits 88 = .ok (.imul, 1) := by decide +kernel
theorem dX5_fits_89 : decode cX5_fits 89 = .ok (.iload 6, 2) := by decide +kernel
theorem dX5_fits_91 : decode cX5_fits 91 = .ok (.iadd, 1) := by decide +kernel
theorem dX5_fits_92 : decode cX5_fits 92 = .ok (.istore 7, 2) := by decide +kernel
theorem dX5_fits_94 : decode cX5_fits 94 = .ok (.aload_n 0, 1) := by decide +kernel
theorem dX5_fits_95 : decode cX5_fits 95 = .ok (.iload_n 1, 1) := by decide +kernel
theorem dX5_fits_96 : decode cX5_fits 96 = .ok (.aload_n 0, 1) := by decide +kernel
theorem dX5_fits_97 : decode cX5_fits 97 = .ok (.getfield 123, 3) := by decide +kernel
theorem dX5_fits_100 : decode cX5_fits 100 = .ok (.iload 7, 2) := by decide +kernel
theorem dX5_fits_102 : decode cX5_fits 102 = .ok (.iaload, 1) := by decide +kernel
theorem dX5_fits_103 : decode cX5_fits 103 = .ok (.iload_n 2, 1) := by decide +kernel
theorem dX5_fits_104 : decode cX5_fits 104 = .ok (.invokevirtual 419, 3) := by decide +kernel
theorem dX5_fits_107 : decode cX5_fits 107 = .ok (.istore 8, 2) := by decide +kernel
theorem dX5_fits_109 : decode cX5_fits 109 = .ok (.aload_n 0, 1) := by decide +kernel
theorem dX5_fits_110 : decode cX5_fits 110 = .ok (.iload_n 1, 1) := by decide +kernel
theorem dX5_fits_111 : decode cX5_fits 111 = .ok (.aload_n 0, 1) := by decide +kernel
theorem dX5_fits_112 : decode cX5_fits 112 = .ok (.getfield 126, 3) := by decide +kernel
theorem dX5_fits_115 : decode cX5_fits 115 = .ok (.iload 7, 2) := by decide +kernel
theorem dX5_fits_117 : decode cX5_fits 117 = .ok (.iaload, 1) := by decide +kernel
theorem dX5_fits_118 : decode cX5_fits 118 = .ok (.iload_n 2, 1) := by decide +kernel
theorem dX5_fits_119 : decode cX5_fits 119 = .ok (.invokevirtual 419, 3) := by decide +kernel
theorem dX5_fits_122 : decode cX5_fits 122 = .ok (.istore 9, 2) := by decide +kernel
theorem dX5_fits_124 : decode cX5_fits 124 = .ok (.iload 8, 2) := by decide +kernel
theorem dX5_fits_126 : decode cX5_fits 126 = .ok (.ldc 244, 2) := by decide +kernel
theorem dX5_fits_128 : decode cX5_fits 128 = .ok (.if_icmp .eq 98, 3) := by decide +kernel
theorem dX5_fits_131 : decode cX5_fits 131 = .ok (.iload 9, 2) := by decide +kernel
theorem dX5_fits_133 : decode cX5_fits 133 = .ok (.ldc 244, 2) := by decide +kernel
theorem dX5_fits_135 : decode cX5_fits 135 = .ok (.if_icmp .eq 91, 3) := by decide +kernel
theorem dX5_fits_138 : decode cX5_fits 138 = .ok (.iload 8, 2) := by decide +kernel
theorem dX5_fits_140 : decode cX5_fits 140 = .ok (.iload 9, 2) := by decide +kernel
theorem dX5_fits_142 : decode cX5_fits 142 = .ok (.isub, 1) := by decide +kernel
theorem dX5_fits_143 : decode cX5_fits 143 = .ok (.aload_n 0, 1) := by decide +kernel
theorem dX5_fits_144 : decode cX5_fits 144 = .ok (.getfield 129, 3) := by decide +kernel
theorem dX5_fits_147 : decode cX5_fits 147 = .ok (.iload 7, 2) := by decide +kernel
theorem dX5_fits_149 : decode cX5_fits 149 = .ok (.iaload, 1) := by decide +kernel
theorem dX5_fits_150 : decode cX5_fits 150 = .ok (.if_icmp .gt 6, 3) := by decide +kernel
theorem dX5_fits_153 : decode cX5_fits 153 = .ok (.goto 73, 3) := by decide +kernel
theorem dX5_fits_156 : decode cX5_fits 156 = .ok (.aload_n 0, 1) := by decide +kernel
theorem dX5_fits_157 : decode cX5_fits 157 = .ok (.getfield 123, 3) := by decide +kernel
theorem dX5_fits_160 : decode cX5_fits 160 = .ok (.iload 7, 2) := by decide +kernel
theorem dX5_fits_162 : decode cX5_fits 162 = .ok (.iaload, 1) := by decide +kernel
theorem dX5_fits_163 : decode cX5_fits 163 = .ok (.istore 10, 2) := by decide +kernel
theorem dX5_fits_165 : decode cX5_fits 165 = .ok (.iload 10, 2) := by decide +kernel
theorem dX5_fits_167 : decode cX5_fits 167 = .ok (.iconst (-1), 1) := by decide +kernel
theorem dX5_fits_168 : decode cX5_fits 168 = .ok (.if_icmp .eq 12, 3) := by decide +kernel
theorem dX5_fits_171 : decode cX5_fits 171 = .ok (.iload_n 2, 1) := by decide +kernel
theorem dX5_fits_172 : decode cX5_fits 172 = .ok (.iload 10, 2) := by decide +kernel
theorem dX5_fits_174 : decode cX5_fits 174 = .ok (.ishr, 1) := by decide +kernel
theorem dX5_fits_175 : decode cX5_fits 175 = .ok (.iconst 1, 1) := by decide +kernel
theorem dX5_fits_176 : decode cX5_fits 176 = .ok (.iand, 1) := by decide +kernel
theorem dX5_fits_177 : decode cX5_fits 177 = .ok (.ifCond .ne 5, 3) := by decide +kernel
theorem dX5_fits_180 : decode cX5_fits 180 = .ok (.iconst 0, 1) := by decide +kernel
theorem dX5_fits_181 : decode cX5_fits 181 = .ok (.ireturn, 1) := by decide +kernel
theorem dX5_fits_182 : decode cX5_fits 182 = .ok (.aload_n 0, 1) := by decide +kernel
theorem dX5_fits_183 : decode cX5_fits 183 = .ok (.getfield 132, 3) := by decide +kernel
theorem dX5_fits_186 : decode cX5_fits 186 = .ok (.iload 10, 2) := by decide +kernel
theorem dX5_fits_188 : decode cX5_fits 188 = .ok (.iload 9, 2) := by decide +kernel
theorem dX5_fits_190 : decode cX5_fits 190 = .ok (.aload_n 0, 1) := by decide +kernel
theorem dX5_fits_191 : decode cX5_fits 191 = .ok (.getfield 129, 3) := by decide +kernel
theorem dX5_fits_194 : decode cX5_fits 194 = .ok (.iload 7, 2) := by decide +kernel
theorem dX5_fits_196 : decode cX5_fits 196 = .ok (.iaload, 1) := by decide +kernel
theorem dX5_fits_197 : decode cX5_fits 197 = .ok (.iadd, 1) := by decide +kernel
theorem dX5_fits_198 : decode cX5_fits 198 = .ok (.iastore, 1) := by decide +kernel
theorem dX5_fits_199 : decode cX5_fits 199 = .ok (.iconst 1, 1) := by decide +kernel
theorem dX5_fits_200 : decode cX5_fits 200 = .ok (.istore 4, 2) := by decide +kernel
theorem dX5_fits_202 : decode cX5_fits 202 = .ok (.aload_n 0, 1) := by decide +kernel
theorem dX5_fits_203 : decode cX5_fits 203 = .ok (.getfield 132, 3) := by decide +kernel
theorem dX5_fits_206 : decode cX5_fits 206 = .ok (.iload 10, 2) := by decide +kernel
theorem dX5_fits_208 : decode cX5_fits 208 = .ok (.iaload, 1) := by decide +kernel
theorem dX5_fits_209 : decode cX5_fits 209 = .ok (.aload_n 0, 1) := by decide +kernel
theorem dX5_fits_210 : decode cX5_fits 210 = .ok (.getfield 44, 3) := by decide +kernel
theorem dX5_fits_213 : decode cX5_fits 213 = .ok (.bipush 20, 2) := by decide +kernel
theorem dX5_fits_215 : decode cX5_fits 215 = .ok (.iload_n 3, 1) := by decide +kernel
theorem dX5_fits_216 : decode cX5_fits 216 = .ok (.imul, 1) := by decide +kernel
theorem dX5_fits_217 : decode cX5_fits 217 = .ok (.iload 10, 2) := by decide +kernel
theorem dX5_fits_219 : decode cX5_fits 219 = .ok (.iadd, 1) := by decide +kernel
theorem dX5_fits_220 : decode cX5_fits 220 = .ok (.iaload, 1) := by decide +kernel
theorem dX5_fits_221 : decode cX5_fits 221 = .ok (.if_icmp .ge 5, 3) := by decide +kernel
theorem dX5_fits_224 : decode cX5_fits 224 = .ok (.iconst 0, 1) := by decide +kernel
theorem dX5_fits_225 : decode cX5_fits 225 = .ok (.ireturn, 1) := by decide +kernel
theorem dX5_fits_226 : decode cX5_fits 226 = .ok (.iinc 6 1, 3) := by decide +kernel
theorem dX5_fits_229 : decode cX5_fits 229 = .ok (.goto (-155), 3) := by decide +kernel
theorem dX5_fits_232 : decode cX5_fits 232 = .ok (.goto (-181), 3) := by decide +kernel
theorem dX5_fits_235 : decode cX5_fits 235 = .ok (.iconst 1, 1) := by decide +kernel
theorem dX5_fits_236 : decode cX5_fits 236 = .ok (.ireturn, 1) := by decide +kernel
theorem dX5_side_0 : decode cX5_side 0 = .ok (.iload_n 2, 1) := by decide +kernel
theorem dX5_side_1 : decode cX5_side 1 = .ok (.iconst (-1), 1) := by decide +kernel
theorem dX5_side_2 : decode cX5_side 2 = .ok (.if_icmp .ne 7, 3) := by decide +kernel
theorem dX5_side_5 : decode cX5_side 5 = .ok (.iconst 0, 1) := by decide +kernel
theorem dX5_side_6 : decode cX5_side 6 = .ok (.goto 32, 3) := by decide +kernel
theorem dX5_side_9 : decode cX5_side 9 = .ok (.iload_n 3, 1) := by decide +kernel
theorem dX5_side_10 : decode cX5_side 10 = .ok (.iload_n 2, 1) := by decide +kernel
theorem dX5_side_11 : decode cX5_side 11 = .ok (.ishr, 1) := by decide +kernel
theorem dX5_side_12 : decode cX5_side 12 = .ok (.iconst 1, 1) := by decide +kernel
theorem dX5_side_13 : decode cX5_side 13 = .ok (.iand, 1) := by decide +kernel
theorem dX5_side_14 : decode cX5_side 14 = .ok (.iconst 1, 1) := by decide +kernel
theorem dX5_side_15 : decode cX5_side 15 = .ok (.if_icmp .ne 12, 3) := by decide +kernel
theorem dX5_side_18 : decode cX5_side 18 = .ok (.aload_n 0, 1) := by decide +kernel
theorem dX5_side_19 : decode cX5_side 19 = .ok (.getfield 132, 3) := by decide +kernel
theorem dX5_side_22 : decode cX5_side 22 = .ok (.iload_n 2, 1) := by decide +kernel
theorem dX5_side_23 : decode cX5_side 23 = .ok (.iaload, 1) := by decide +kernel
theorem dX5_side_24 : decode cX5_side 24 = .ok (.goto 14, 3) := by decide +kernel
theorem dX5_side_27 : decode cX5_side 27 = .ok (.aload_n 0, 1) := by decide +kernel
theorem dX5_side_28 : decode cX5_side 28 = .ok (.getfield 114, 3) := by decide +kernel
theorem dX5_side_31 : decode cX5_side 31 = .ok (.bipush 20, 2) := by decide +kernel
theorem dX5_side_33 : decode cX5_side 33 = .ok (.iload_n 1, 1) := by decide +kernel
theorem dX5_side_34 : decode cX5_side 34 = .ok (.imul, 1) := by decide +kernel
theorem dX5_side_35 : decode cX5_side 35 = .ok (.iload_n 2, 1) := by decide +kernel
theorem dX5_side_36 : decode cX5_side 36 = .ok (.iadd, 1) := by decide +kernel
theorem dX5_side_37 : decode cX5_side 37 = .ok (.iaload, 1) := by decide +kernel
theorem dX5_side_38 : decode cX5_side 38 = .ok (.ireturn, 1) := by decide +kernel
theorem dX5_impute_0 : decode cX5_impute 0 = .ok (.aload_n 0, 1) := by decide +kernel
theorem dX5_impute_1 : decode cX5_impute 1 = .ok (.iconst 0, 1) := by decide +kernel
theorem dX5_impute_2 : decode cX5_impute 2 = .ok (.putfield 198, 3) := by decide +kernel
theorem dX5_impute_5 : decode cX5_impute 5 = .ok (.iload_n 1, 1) := by decide +kernel
theorem dX5_impute_6 : decode cX5_impute 6 = .ok (.i2l, 1) := by decide +kernel
theorem dX5_impute_7 : decode cX5_impute 7 = .ok (.lconst 0, 1) := by decide +kernel
theorem dX5_impute_8 : decode cX5_impute 8 = .ok (.aload_n 0, 1) := by decide +kernel
theorem dX5_impute_9 : decode cX5_impute 9 = .ok (.getfield 398, 3) := by decide +kernel
theorem dX5_impute_12 : decode cX5_impute 12 = .ok (.iconst 1, 1) := by decide +kernel
theorem dX5_impute_13 : decode cX5_impute 13 = .ok (.isub, 1) := by decide +kernel
theorem dX5_impute_14 : decode cX5_impute 14 = .ok (.i2l, 1) := by decide +kernel
theorem dX5_impute_15 : decode cX5_impute 15 = .ok (.invokestatic 207, 3) := by decide +kernel
theorem dX5_impute_18 : decode cX5_impute 18 = .ok (.ifCond .ne 9, 3) := by decide +kernel
theorem dX5_impute_21 : decode cX5_impute 21 = .ok (.aload_n 0, 1) := by decide +kernel
theorem dX5_impute_22 : decode cX5_impute 22 = .ok (.iconst 1, 1) := by decide +kernel
theorem dX5_impute_23 : decode cX5_impute 23 = .ok (.invokevirtual 213, 3) := by decide +kernel
theorem dX5_impute_26 : decode cX5_impute 26 = .ok (.ireturn, 1) := by decide +kernel
theorem dX5_impute_27 : decode cX5_impute 27 = .ok (.iload_n 2, 1) := by decide +kernel
theorem dX5_impute_28 : decode cX5_impute 28 = .ok (.i2l, 1) := by decide +kernel
theorem dX5_impute_29 : decode cX5_impute 29 = .ok (.lconst 0, 1) := by decide +kernel
theorem dX5_impute_30 : decode cX5_impute 30 = .ok (.lconst 1, 1) := by decide +kernel
theorem dX5_impute_31 : decode cX5_impute 31 = .ok (.invokestatic 207, 3) := by decide +kernel
theorem dX5_impute_34 : decode cX5_impute 34 = .ok (.ifCond .ne 9, 3) := by decide +kernel
theorem dX5_impute_37 : decode cX5_impute 37 = .ok (.aload_n 0, 1) := by decide +kernel
theorem dX5_impute_38 : decode cX5_impute 38 = .ok (.iconst 2, 1) := by decide +kernel
theorem dX5_impute_39 : decode cX5_impute 39 = .ok (.invokevirtual 213, 3) := by decide +kernel
theorem dX5_impute_42 : decode cX5_impute 42 = .ok (.ireturn, 1) := by decide +kernel
theorem dX5_impute_43 : decode cX5_impute 43 = .ok (.aload_n 0, 1) := by decide +kernel
theorem dX5_impute_44 : decode cX5_impute 44 = .ok (.iload_n 1, 1) := by decide +kernel
theorem dX5_impute_45 : decode cX5_impute 45 = .ok (.invokevirtual 432, 3) := by decide +kernel
theorem dX5_impute_48 : decode cX5_impute 48 = .ok (.aload_n 0, 1) := by decide +kernel
theorem dX5_impute_49 : decode cX5_impute 49 = .ok (.getfield 426, 3) := by decide +kernel
theorem dX5_impute_52 : decode cX5_impute 52 = .ok (.iconst (-1), 1) := by decide +kernel
theorem dX5_impute_53 : decode cX5_impute 53 = .ok (.if_icmp .ne 9, 3) := by decide +kernel
theorem dX5_impute_56 : decode cX5_impute 56 = .ok (.aload_n 0, 1) := by decide +kernel
theorem dX5_impute_57 : decode cX5_impute 57 = .ok (.iconst 3, 1) := by decide +kernel
theorem dX5_impute_58 : decode cX5_impute 58 = .ok (.invokevirtual 213, 3) := by decide +kernel
theorem dX5_impute_61 : decode cX5_impute 61 = .ok (.ireturn, 1) := by decide +kernel
theorem dX5_impute_62 : decode cX5_impute 62 = .ok (.aload_n 0, 1) := by decide +kernel
theorem dX5_impute_63 : decode cX5_impute 63 = .ok (.iload_n 1, 1) := by decide +kernel
theorem dX5_impute_64 : decode cX5_impute 64 = .ok (.invokevirtual 401, 3) := by decide +kernel
theorem dX5_impute_67 : decode cX5_impute 67 = .ok (.istore_n 3, 1) := by decide +kernel
theorem dX5_impute_68 : decode cX5_impute 68 = .ok (.aload_n 0, 1) := by decide +kernel
theorem dX5_impute_69 : decode cX5_impute 69 = .ok (.getfield 426, 3) := by decide +kernel
theorem dX5_impute_72 : decode cX5_impute 72 = .ok (.istore 4, 2) := by decide +kernel
theorem dX5_impute_74 : decode cX5_impute 74 = .ok (.iconst (-1), 1) := by decide +kernel
theorem dX5_impute_75 : decode cX5_impute 75 = .ok (.istore 5, 2) := by decide +kernel
theorem dX5_impute_77 : decode cX5_impute 77 = .ok (.iconst 0, 1) := by decide +kernel
theorem dX5_impute_78 : decode cX5_impute 78 = .ok (.istore 6, 2) := by decide +kernel
theorem dX5_impute_80 : decode cX5_impute 80 = .ok (.iload 6, 2) := by decide +kernel
theorem dX5_impute_82 : decode cX5_impute 82 = .ok (.aload_n 0, 1) := by decide +kernel
theorem dX5_impute_83 : decode cX5_impute 83 = .ok (.getfield 398, 3) := by decide +kernel
theorem dX5_impute_86 : decode cX5_impute 86 = .ok (.if_icmp .ge 58, 3) := by decide +kernel
theorem dX5_impute_89 : decode cX5_impute 89 = .ok (.iload_n 2, 1) := by decide +kernel
theorem dX5_impute_90 : decode cX5_impute 90 = .ok (.iconst 1, 1) := by decide +kernel
theorem dX5_impute_91 : decode cX5_impute 91 = .ok (.if_icmp .ne 53, 3) := by decide +kernel
theorem dX5_impute_94 : decode cX5_impute 94 = .ok (.aload_n 0, 1) := by decide +kernel
theorem dX5_impute_95 : decode cX5_impute 95 = .ok (.iload_n 1, 1) := by decide +kernel
theorem dX5_impute_96 : decode cX5_impute 96 = .ok (.iload 6, 2) := by decide +kernel
theorem dX5_impute_98 : decode cX5_impute 98 = .ok (.iload 4, 2) := by decide +kernel
theorem dX5_impute_100 : decode cX5_impute 100 = .ok (.invokevirtual 438, 3) := by decide +kernel
theorem dX5_impute_103 : decode cX5_impute 103 = .ok (.ifCond .eq 35, 3) := by decide +kernel
theorem dX5_impute_106 : decode cX5_impute 106 = .ok (.iload 5, 2) := by decide +kernel
theorem dX5_impute_108 : decode cX5_impute 108 = .ok (.iconst (-1), 1) := by decide +kernel
theorem dX5_impute_109 : decode cX5_impute 109 = .ok (.if_icmp .eq 25, 3) := by decide +kernel
theorem dX5_impute_112 : decode cX5_impute 112 = .ok (.aload_n 0, 1) := by decide +kernel
theorem dX5_impute_113 : decode cX5_impute 113 = .ok (.iload_n 1, 1) := by decide +kernel
theorem dX5_impute_114 : decode cX5_impute 114 = .ok (.iload 6, 2) := by decide +kernel
theorem dX5_impute_116 : decode cX5_impute 116 = .ok (.iload 4, 2) := by decide +kernel
theorem dX5_impute_118 : decode cX5_impute 118 = .ok (.invokevirtual 442, 3) := by decide +kernel
theorem dX5_impute_121 : decode cX5_impute 121 = .ok (.aload_n 0, 1) := by decide +kernel
theorem dX5_impute_122 : decode cX5_impute 122 = .ok (.iload_n 1, 1) := by decide +kernel
theorem dX5_impute_123 : decode cX5_impute 123 = .ok (.iload 5, 2) := by decide +kernel
theorem dX5_impute_125 : decode cX5_impute 125 = .ok (.iload 4, 2) := by decide +kernel
theorem dX5_impute_127 : decode cX5_impute 127 = .ok (.invokevirtual 442, 3) := by decide +kernel
theorem dX5_impute_130 : decode cX5_impute 130 = .ok (.lcmp, 1) := by decide +kernel
theorem dX5_impute_131 : decode cX5_impute 131 = .ok (.ifCond .ge 7, 3) := by decide +kernel
theorem dX5_impute_134 : decode cX5_impute 134 = .ok (.iload 6, 2) := by decide +kernel
theorem dX5_impute_136 : decode cX5_impute 136 = .ok (.istore 5, 2) := by decide +kernel
theorem dX5_impute_138 : decode cX5_impute 138 = .ok (.iinc 6 1, 3) := by decide +kernel
theorem dX5_impute_141 : decode cX5_impute 141 = .ok (.goto (-61), 3) := by decide +kernel
theorem dX5_impute_144 : decode cX5_impute 144 = .ok (.iload 5, 2) := by decide +kernel
theorem dX5_impute_146 : decode cX5_impute 146 = .ok (.iconst (-1), 1) := by decide +kernel
theorem dX5_impute_147 : decode cX5_impute 147 = .ok (.if_icmp .ne 11, 3) := by decide +kernel
theorem dX5_impute_150 : decode cX5_impute 150 = .ok (.aload_n 0, 1) := by decide +kernel
theorem dX5_impute_151 : decode cX5_impute 151 = .ok (.iload_n 1, 1) := by decide +kernel
theorem dX5_impute_152 : decode cX5_impute 152 = .ok (.iload 4, 2) := by decide +kernel
theorem dX5_impute_154 : decode cX5_impute 154 = .ok (.invokevirtual 429, 3) := by decide +kernel
theorem dX5_impute_157 : decode cX5_impute 157 = .ok (.pop, 1) := by decide +kernel
theorem dX5_impute_158 : decode cX5_impute 158 = .ok (.iconst 0, 1) := by decide +kernel
theorem dX5_impute_159 : decode cX5_impute 159 = .ok (.istore 6, 2) := by decide +kernel
theorem dX5_impute_161 : decode cX5_impute 161 = .ok (.iconst 0, 1) := by decide +kernel
theorem dX5_impute_162 : decode cX5_impute 162 = .ok (.istore 7, 2) := by decide +kernel
theorem dX5_impute_164 : decode cX5_impute 164 = .ok (.iload 7, 2) := by decide +kernel
theorem dX5_impute_166 : decode cX5_impute 166 = .ok (.aload_n 0, 1) := by decide +kernel
theorem dX5_impute_167 : decode cX5_impute 167 = .ok (.getfield 34, 3) := by decide +kernel
theorem dX5_impute_170 : decode cX5_impute 170 = .ok (.iload_n 3, 1) := by decide +kernel
theorem dX5_impute_171 : decode cX5_impute 171 = .ok (.iaload, 1) := by decide +kernel
theorem dX5_impute_172 : decode cX5_impute 172 = .ok (.if_icmp .ge 87, 3) := by decide +kernel
theorem dX5_impute_175 : decode cX5_impute 175 = .ok (.iload 4, 2) := by decide +kernel
theorem dX5_impute_177 : decode cX5_impute 177 = .ok (.iload 7, 2) := by decide +kernel
theorem dX5_impute_179 : decode cX5_impute 179 = .ok (.ishr, 1) := by decide +kernel
theorem dX5_impute_180 : decode cX5_impute 180 = .ok (.iconst 1, 1) := by decide +kernel
theorem dX5_impute_181 : decode cX5_impute 181 = .ok (.iand, 1) := by decide +kernel
theorem dX5_impute_182 : decode cX5_impute 182 = .ok (.iconst 1, 1) := by decide +kernel
theorem dX5_impute_183 : decode cX5_impute 183 = .ok (.if_icmp .ne 70, 3) := by decide +kernel
theorem dX5_impute_186 : decode cX5_impute 186 = .ok (.aload_n 0, 1) := by decide +kernel
theorem dX5_impute_187 : decode cX5_impute 187 = .ok (.getfield 114, 3) := by decide +kernel
theorem dX5_impute_190 : decode cX5_impute 190 = .ok (.bipush 20, 2) := by decide +kernel
theorem dX5_impute_192 : decode cX5_impute 192 = .ok (.iload_n 1, 1) := by decide +kernel
theorem dX5_impute_193 : decode cX5_impute 193 = .ok (.imul, 1) := by decide +kernel
theorem dX5_impute_194 : decode cX5_impute 194 = .ok (.iload 7, 2) := by decide +kernel
theorem dX5_impute_196 : decode cX5_impute 196 = .ok (.iadd, 1) := by decide +kernel
theorem dX5_impute_197 : decode cX5_impute 197 = .ok (.iload 5, 2) := by decide +kernel
theorem dX5_impute_199 : decode cX5_impute 199 = .ok (.iconst (-1), 1) := by decide +kernel
theorem dX5_impute_200 : decode cX5_impute 200 = .ok (.if_icmp .ne 13, 3) := by decide +kernel
theorem dX5_impute_203 : decode cX5_impute 203 = .ok (.aload_n 0, 1) := by decide +kernel
theorem dX5_impute_204 : decode cX5_impute 204 = .ok (.getfield 132, 3) := by decide +kernel
theorem dX5_impute_207 : decode cX5_impute 207 = .ok (.iload 7, 2) := by decide +kernel
theorem dX5_impute_209 : decode cX5_impute 209 = .ok (.iaload, 1) := by decide +kernel
theorem dX5_impute_210 : decode cX5_impute 210 = .ok (.goto 16, 3) := by decide +kernel
theorem dX5_impute_213 : decode cX5_impute 213 = .ok (.aload_n 0, 1) := by decide +kernel
theorem dX5_impute_214 : decode cX5_impute 214 = .ok (.getfield 114, 3) := by decide +kernel
theorem dX5_impute_217 : decode cX5_impute 217 = .ok (.bipush 20, 2) := by decide +kernel
theorem dX5_impute_219 : decode cX5_impute 219 = .ok (.iload 5, 2) := by decide +kernel
theorem dX5_impute_221 : decode cX5_impute 221 = .ok (.imul, 1) := by decide +kernel
theorem dX5_impute_222 : decode cX5_impute 222 = .ok (.iload 7, 2) := by decide +kernel
theorem dX5_impute_224 : decode cX5_impute 224 = .ok (.iadd, 1) := by decide +kernel
theorem dX5_impute_225 : decode cX5_impute 225 = .ok (.iaload, 1) := by decide +kernel
theorem dX5_impute_226 : decode cX5_impute 226 = .ok (.iastore, 1) := by decide +kernel
theorem dX5_impute_227 : decode cX5_impute 227 = .ok (.aload_n 0, 1) := by decide +kernel
theorem dX5_impute_228 : decode cX5_impute 228 = .ok (.getfield 117, 3) := by decide +kernel
theorem dX5_impute_231 : decode cX5_impute 231 = .ok (.bipush 20, 2) := by decide +kernel
theorem dX5_impute_233 : decode cX5_impute 233 = .ok (.iload_n 1, 1) := by decide +kernel
theorem dX5_impute_234 : decode cX5_impute 234 = .ok (.imul, 1) := by decide +kernel
theorem dX5_impute_235 : decode cX5_impute 235 = .ok (.iload 7, 2) := by decide +kernel
theorem dX5_impute_237 : decode cX5_impute 237 = .ok (.iadd, 1) := by decide +kernel
theorem dX5_impute_238 : decode cX5_impute 238 = .ok (.iload 5, 2) := by decide +kernel
theorem dX5_impute_240 : decode cX5_impute 240 = .ok (.iconst (-1), 1) := by decide +kernel
theorem dX5_impute_241 : decode cX5_impute 241 = .ok (.if_icmp .ne 7, 3) := by decide +kernel
theorem dX5_impute_244 : decode cX5_impute 244 = .ok (.iconst 1, 1) := by decide +kernel
theorem dX5_impute_245 : decode cX5_impute 245 = .ok (.goto 4, 3) := by decide +kernel
theorem dX5_impute_248 : decode cX5_impute 248 = .ok (.iconst 2, 1) := by decide +kernel
theorem dX5_impute_249 : decode cX5_impute 249 = .ok (.iastore, 1) := by decide +kernel
theorem dX5_impute_250 : decode cX5_impute 250 = .ok (.iinc 6 1, 3) := by decide +kernel
theorem dX5_impute_253 : decode cX5_impute 253 = .ok (.iinc 7 1, 3) := by decide +kernel
theorem dX5_impute_256 : decode cX5_impute 256 = .ok (.goto (-92), 3) := by decide +kernel
theorem dX5_impute_259 : decode cX5_impute 259 = .ok (.aload_n 0, 1) := by decide +kernel
theorem dX5_impute_260 : decode cX5_impute 260 = .ok (.iload_n 1, 1) := by decide +kernel
theorem dX5_impute_261 : decode cX5_impute 261 = .ok (.invokevirtual 446, 3) := by decide +kernel
theorem dX5_impute_264 : decode cX5_impute 264 = .ok (.iload 6, 2) := by decide +kernel
theorem dX5_impute_266 : decode cX5_impute 266 = .ok (.ireturn, 1) := by decide +kernel
theorem dX5_mayGive_0 : decode cX5_mayGive 0 = .ok (.aload_n 0, 1) := by decide +kernel
theorem dX5_mayGive_1 : decode cX5_mayGive 1 = .ok (.iload_n 1, 1) := by decide +kernel
theorem dX5_mayGive_2 : decode cX5_mayGive 2 = .ok (.invokevirtual 401, 3) := by decide +kernel
theorem dX5_mayGive_5 : decode cX5_mayGive 5 = .ok (.istore 4, 2) := by decide +kernel
theorem dX5_mayGive_7 : decode cX5_mayGive 7 = .ok (.iload_n 2, 1) := by decide +kernel
theorem dX5_mayGive_8 : decode cX5_mayGive 8 = .ok (.iload_n 1, 1) := by decide +kernel
theorem dX5_mayGive_9 : decode cX5_mayGive 9 = .ok (.if_icmp .eq 25, 3) := by decide +kernel
theorem dX5_mayGive_12 : decode cX5_mayGive 12 = .ok (.aload_n 0, 1) := by decide +kernel
theorem dX5_mayGive_13 : decode cX5_mayGive 13 = .ok (.iload_n 2, 1) := by decide +kernel
theorem dX5_mayGive_14 : decode cX5_mayGive 14 = .ok (.invokevirtual 401, 3) := by decide +kernel
theorem dX5_mayGive_17 : decode cX5_mayGive 17 = .ok (.iload 4, 2) := by decide +kernel
theorem dX5_mayGive_19 : decode cX5_mayGive 19 = .ok (.if_icmp .ne 15, 3) := by decide +kernel
theorem dX5_mayGive_22 : decode cX5_mayGive 22 = .ok (.aload_n 0, 1) := by decide +kernel
theorem dX5_mayGive_23 : decode cX5_mayGive 23 = .ok (.iload_n 2, 1) := by decide +kernel
theorem dX5_mayGive_24 : decode cX5_mayGive 24 = .ok (.invokevirtual 435, 3) := by decide +kernel
theorem dX5_mayGive_27 : decode cX5_mayGive 27 = .ok (.ifCond .eq 7, 3) := by decide +kernel
theorem dX5_mayGive_30 : decode cX5_mayGive 30 = .ok (.iconst 1, 1) := by decide +kernel
theorem dX5_mayGive_31 : decode cX5_mayGive 31 = .ok (.goto 4, 3) := by decide +kernel
theorem dX5_mayGive_34 : decode cX5_mayGive 34 = .ok (.iconst 0, 1) := by decide +kernel
theorem dX5_mayGive_35 : decode cX5_mayGive 35 = .ok (.istore 5, 2) := by decide +kernel
theorem dX5_mayGive_37 : decode cX5_mayGive 37 = .ok (.iconst 0, 1) := by decide +kernel
theorem dX5_mayGive_38 : decode cX5_mayGive 38 = .ok (.istore 6, 2) := by decide +kernel
theorem dX5_mayGive_40 : decode cX5_mayGive 40 = .ok (.iload 6, 2) := by decide +kernel
theorem dX5_mayGive_42 : decode cX5_mayGive 42 = .ok (.aload_n 0, 1) := by decide +kernel
theorem dX5_mayGive_43 : decode cX5_mayGive 43 = .ok (.getfield 34, 3) := by decide +kernel
theorem dX5_mayGive_46 : decode cX5_mayGive 46 = .ok (.iload 4, 2) := by decide +kernel
theorem dX5_mayGive_48 : decode cX5_mayGive 48 = .ok (.iaload, 1) := by decide +kernel
theorem dX5_mayGive_49 : decode cX5_mayGive 49 = .ok (.if_icmp .ge 47, 3) := by decide +kernel
theorem dX5_mayGive_52 : decode cX5_mayGive 52 = .ok (.iload 5, 2) := by decide +kernel
theorem dX5_mayGive_54 : decode cX5_mayGive 54 = .ok (.ifCond .eq 33, 3) := by decide +kernel
theorem dX5_mayGive_57 : decode cX5_mayGive 57 = .ok (.iload_n 3, 1) := by decide +kernel
theorem dX5_mayGive_58 : decode cX5_mayGive 58 = .ok (.iload 6, 2) := by decide +kernel
theorem dX5_mayGive_60 : decode cX5_mayGive 60 = .ok (.ishr, 1) := by decide +kernel
theorem dX5_mayGive_61 : decode cX5_mayGive 61 = .ok (.iconst 1, 1) := by decide +kernel
theorem dX5_mayGive_62 : decode cX5_mayGive 62 = .ok (.iand, 1) := by decide +kernel
theorem dX5_mayGive_63 : decode cX5_mayGive 63 = .ok (.ifCond .eq 20, 3) := by decide +kernel
theorem dX5_mayGive_66 : decode cX5_mayGive 66 = .ok (.aload_n 0, 1) := by decide +kernel
theorem dX5_mayGive_67 : decode cX5_mayGive 67 = .ok (.getfield 114, 3) := by decide +kernel
theorem dX5_mayGive_70 : decode cX5_mayGive 70 = .ok (.bipush 20, 2) := by decide +kernel
theorem dX5_mayGive_72 : decode cX5_mayGive 72 = .ok (.iload_n 2, 1) := by decide +kernel
theorem dX5_mayGive_73 : decode cX5_mayGive 73 = .ok (.imul, 1) := by decide +kernel
theorem dX5_mayGive_74 : decode cX5_mayGive 74 = .ok (.iload 6, 2) := by decide +kernel
theorem dX5_mayGive_76 : decode cX5_mayGive 76 = .ok (.iadd, 1) := by decide +kernel
theorem dX5_mayGive_77 : decode cX5_mayGive 77 = .ok (.iaload, 1) := by decide +kernel
theorem dX5_mayGive_78 : decode cX5_mayGive 78 = .ok (.ldc 244, 2) := by decide +kernel
theorem dX5_mayGive_80 : decode cX5_mayGive 80 = .ok (.if_icmp .eq 7, 3) := by decide +kernel
theorem dX5_mayGive_83 : decode cX5_mayGive 83 = .ok (.iconst 1, 1) := by decide +kernel
theorem dX5_mayGive_84 : decode cX5_mayGive 84 = .ok (.goto 4, 3) := by decide +kernel
theorem dX5_mayGive_87 : decode cX5_mayGive 87 = .ok (.iconst 0, 1) := by decide +kernel
theorem dX5_mayGive_88 : decode cX5_mayGive 88 = .ok (.istore 5, 2) := by decide +kernel
theorem dX5_mayGive_90 : decode cX5_mayGive 90 = .ok (.iinc 6 1, 3) := by decide +kernel
theorem dX5_mayGive_93 : decode cX5_mayGive 93 = .ok (.goto (-53), 3) := by decide +kernel
theorem dX5_mayGive_96 : decode cX5_mayGive 96 = .ok (.iload 5, 2) := by decide +kernel
theorem dX5_mayGive_98 : decode cX5_mayGive 98 = .ok (.ifCond .ne 5, 3) := by decide +kernel
theorem dX5_mayGive_101 : decode cX5_mayGive 101 = .ok (.iconst 0, 1) := by decide +kernel
theorem dX5_mayGive_102 : decode cX5_mayGive 102 = .ok (.ireturn, 1) := by decide +kernel
theorem dX5_mayGive_103 : decode cX5_mayGive 103 = .ok (.iconst 0, 1) := by decide +kernel
theorem dX5_mayGive_104 : decode cX5_mayGive 104 = .ok (.istore 6, 2) := by decide +kernel
theorem dX5_mayGive_106 : decode cX5_mayGive 106 = .ok (.iload 6, 2) := by decide +kernel
theorem dX5_mayGive_108 : decode cX5_mayGive 108 = .ok (.aload_n 0, 1) := by decide +kernel
theorem dX5_mayGive_109 : decode cX5_mayGive 109 = .ok (.getfield 34, 3) := by decide +kernel
theorem dX5_mayGive_112 : decode cX5_mayGive 112 = .ok (.iload 4, 2) := by decide +kernel
theorem dX5_mayGive_114 : decode cX5_mayGive 114 = .ok (.iaload, 1) := by decide +kernel
theorem dX5_mayGive_115 : decode cX5_mayGive 115 = .ok (.if_icmp .ge 28, 3) := by decide +kernel
theorem dX5_mayGive_118 : decode cX5_mayGive 118 = .ok (.aload_n 0, 1) := by decide +kernel
theorem dX5_mayGive_119 : decode cX5_mayGive 119 = .ok (.getfield 132, 3) := by decide +kernel
theorem dX5_mayGive_122 : decode cX5_mayGive 122 = .ok (.iload 6, 2) := by decide +kernel
theorem dX5_mayGive_124 : decode cX5_mayGive 124 = .ok (.aload_n 0, 1) := by decide +kernel
theorem dX5_mayGive_125 : decode cX5_mayGive 125 = .ok (.getfield 114, 3) := by decide +kernel
theorem dX5_mayGive_128 : decode cX5_mayGive 128 = .ok (.bipush 20, 2) := by decide +kernel
theorem dX5_mayGive_130 : decode cX5_mayGive 130 = .ok (.iload_n 2, 1) := by decide +kernel
theorem dX5_mayGive_131 : decode cX5_mayGive 131 = .ok (.imul, 1) := by decide +kernel
theorem dX5_mayGive_132 : decode cX5_mayGive 132 = .ok (.iload 6, 2) := by decide +kernel
theorem dX5_mayGive_134 : decode cX5_mayGive 134 = .ok (.iadd, 1) := by decide +kernel
theorem dX5_mayGive_135 : decode cX5_mayGive 135 = .ok (.iaload, 1) := by decide +kernel
theorem dX5_mayGive_136 : decode cX5_mayGive 136 = .ok (.iastore, 1) := by decide +kernel
theorem dX5_mayGive_137 : decode cX5_mayGive 137 = .ok (.iinc 6 1, 3) := by decide +kernel
theorem dX5_mayGive_140 : decode cX5_mayGive 140 = .ok (.goto (-34), 3) := by decide +kernel
theorem dX5_mayGive_143 : decode cX5_mayGive 143 = .ok (.iconst 0, 1) := by decide +kernel
theorem dX5_mayGive_144 : decode cX5_mayGive 144 = .ok (.istore 6, 2) := by decide +kernel
theorem dX5_mayGive_146 : decode cX5_mayGive 146 = .ok (.iload 6, 2) := by decide +kernel
theorem dX5_mayGive_148 : decode cX5_mayGive 148 = .ok (.aload_n 0, 1) := by decide +kernel
theorem dX5_mayGive_149 : decode cX5_mayGive 149 = .ok (.getfield 120, 3) := by decide +kernel
theorem dX5_mayGive_152 : decode cX5_mayGive 152 = .ok (.iload 4, 2) := by decide +kernel
theorem dX5_mayGive_154 : decode cX5_mayGive 154 = .ok (.iaload, 1) := by decide +kernel
theorem dX5_mayGive_155 : decode cX5_mayGive 155 = .ok (.if_icmp .ge 90, 3) := by decide +kernel
theorem dX5_mayGive_158 : decode cX5_mayGive 158 = .ok (.bipush 16, 2) := by decide +kernel
theorem dX5_mayGive_160 : decode cX5_mayGive 160 = .ok (.iload 4, 2) := by decide +kernel
theorem dX5_mayGive_162 : decode cX5_mayGive 162 = .ok (.imul, 1) := by decide +kernel
theorem dX5_mayGive_163 : decode cX5_mayGive 163 = .ok (.iload 6, 2) := by decide +kernel
theorem dX5_mayGive_165 : decode cX5_mayGive 165 = .ok (.iadd, 1) := by decide +kernel
theorem dX5_mayGive_166 : decode cX5_mayGive 166 = .ok (.istore 7, 2) := by decide +kernel
theorem dX5_mayGive_168 : decode cX5_mayGive 168 = .ok (.aload_n 0, 1) := by decide +kernel
theorem dX5_mayGive_169 : decode cX5_mayGive 169 = .ok (.iload_n 1, 1) := by decide +kernel
theorem dX5_mayGive_170 : decode cX5_mayGive 170 = .ok (.aload_n 0, 1) := by decide +kernel
theorem dX5_mayGive_171 : decode cX5_mayGive 171 = .ok (.getfield 123, 3) := by decide +kernel
theorem dX5_mayGive_174 : decode cX5_mayGive 174 = .ok (.iload 7, 2) := by decide +kernel
theorem dX5_mayGive_176 : decode cX5_mayGive 176 = .ok (.iaload, 1) := by decide +kernel
theorem dX5_mayGive_177 : decode cX5_mayGive 177 = .ok (.iload_n 3, 1) := by decide +kernel
theorem dX5_mayGive_178 : decode cX5_mayGive 178 = .ok (.invokevirtual 419, 3) := by decide +kernel
theorem dX5_mayGive_181 : decode cX5_mayGive 181 = .ok (.istore 8, 2) := by decide +kernel
theorem dX5_mayGive_183 : decode cX5_mayGive 183 = .ok (.aload_n 0, 1) := by decide +kernel
theorem dX5_mayGive_184 : decode cX5_mayGive 184 = .ok (.iload_n 1, 1) := by decide +kernel
theorem dX5_mayGive_185 : decode cX5_mayGive 185 = .ok (.aload_n 0, 1) := by decide +kernel
theorem dX5_mayGive_186 : decode cX5_mayGive 186 = .ok (.getfield 126, 3) := by decide +kernel
theorem dX5_mayGive_189 : decode cX5_mayGive 189 = .ok (.iload 7, 2) := by decide +kernel
theorem dX5_mayGive_191 : decode cX5_mayGive 191 = .ok (.iaload, 1) := by decide +kernel
theorem dX5_mayGive_192 : decode cX5_mayGive 192 = .ok (.iload_n 3, 1) := by decide +kernel
theorem dX5_mayGive_193 : decode cX5_mayGive 193 = .ok (.invokevirtual 419, 3) := by decide +kernel
theorem dX5_mayGive_196 : decode cX5_mayGive 196 = .ok (.istore 9, 2) := by decide +kernel
theorem dX5_mayGive_198 : decode cX5_mayGive 198 = .ok (.iload 5, 2) := by decide +kernel
theorem dX5_mayGive_200 : decode cX5_mayGive 200 = .ok (.ifCond .eq 36, 3) := by decide +kernel
theorem dX5_mayGive_203 : decode cX5_mayGive 203 = .ok (.iload 8, 2) := by decide +kernel
theorem dX5_mayGive_205 : decode cX5_mayGive 205 = .ok (.ldc 244, 2) := by decide +kernel
theorem dX5_mayGive_207 : decode cX5_mayGive 207 = .ok (.if_icmp .eq 25, 3) := by decide +kernel
theorem dX5_mayGive_210 : decode cX5_mayGive 210 = .ok (.iload 9, 2) := by decide +kernel
theorem dX5_mayGive_212 : decode cX5_mayGive 212 = .ok (.ldc 244, 2) := by decide +kernel
theorem dX5_mayGive_214 : decode cX5_mayGive 214 = .ok (.if_icmp .eq 18, 3) := by decide +kernel
theorem dX5_mayGive_217 : decode cX5_mayGive 217 = .ok (.iload 8, 2) := by decide +kernel
theorem dX5_mayGive_219 : decode cX5_mayGive 219 = .ok (.iload 9, 2) := by decide +kernel
theorem dX5_mayGive_221 : decode cX5_mayGive 221 = .ok (.isub, 1) := by decide +kernel
theorem dX5_mayGive_222 : decode cX5_mayGive 222 = .ok (.aload_n 0, 1) := by decide +kernel
theorem dX5_mayGive_223 : decode cX5_mayGive 223 = .ok (.getfield 129, 3) := by decide +kernel
theorem dX5_mayGive_226 : decode cX5_mayGive 226 = .ok (.iload 7, 2) := by decide +kernel
theorem dX5_mayGive_228 : decode cX5_mayGive 228 = .ok (.iaload, 1) := by decide +kernel
theorem dX5_mayGive_229 : decode cX5_mayGive 229 = .ok (.if_icmp .gt 7, 3) := by decide +kernel
theorem dX5_mayGive_232 : decode cX5_mayGive 232 = .ok (.iconst 1, 1) := by decide +kernel
theorem dX5_mayGive_233 : decode cX5_mayGive 233 = .ok (.goto 4, 3) := by decide +kernel
theorem dX5_mayGive_236 : decode cX5_mayGive 236 = .ok (.iconst 0, 1) := by decide +kernel
theorem dX5_mayGive_237 : decode cX5_mayGive 237 = .ok (.istore 5, 2) := by decide +kernel
theorem dX5_mayGive_239 : decode cX5_mayGive 239 = .ok (.iinc 6 1, 3) := by decide +kernel
theorem dX5_mayGive_242 : decode cX5_mayGive 242 = .ok (.goto (-96), 3) := by decide +kernel
theorem dX5_mayGive_245 : decode cX5_mayGive 245 = .ok (.iload 5, 2) := by decide +kernel
theorem dX5_mayGive_247 : decode cX5_mayGive 247 = .ok (.ireturn, 1) := by decide +kernel
theorem dX5_isClean_0 : decode cX5_isClean 0 = .ok (.aload_n 0, 1) := by decide +kernel
theorem dX5_isClean_1 : decode cX5_isClean 1 = .ok (.iload_n 1, 1) := by decide +kernel
theorem dX5_isClean_2 : decode cX5_isClean 2 = .ok (.invokevirtual 401, 3) := by decide +kernel
theorem dX5_isClean_5 : decode cX5_isClean 5 = .ok (.istore_n 2, 1) := by decide +kernel
theorem dX5_isClean_6 : decode cX5_isClean 6 = .ok (.iconst 0, 1) := by decide +kernel
theorem dX5_isClean_7 : decode cX5_isClean 7 = .ok (.istore_n 3, 1) := by decide +kernel
theorem dX5_isClean_8 : decode cX5_isClean 8 = .ok (.iload_n 3, 1) := by decide +kernel
theorem dX5_isClean_9 : decode cX5_isClean 9 = .ok (.aload_n 0, 1) := by decide +kernel
theorem dX5_isClean_10 : decode cX5_isClean 10 = .ok (.getfield 120, 3) := by decide +kernel
theorem dX5_isClean_13 : decode cX5_isClean 13 = .ok (.iload_n 2, 1) := by decide +kernel
theorem dX5_isClean_14 : decode cX5_isClean 14 = .ok (.iaload, 1) := by decide +kernel
theorem dX5_isClean_15 : decode cX5_isClean 15 = .ok (.if_icmp .ge 25, 3) := by decide +kernel
theorem dX5_isClean_18 : decode cX5_isClean 18 = .ok (.aload_n 0, 1) := by decide +kernel
theorem dX5_isClean_19 : decode cX5_isClean 19 = .ok (.iload_n 1, 1) := by decide +kernel
theorem dX5_isClean_20 : decode cX5_isClean 20 = .ok (.bipush 16, 2) := by decide +kernel
theorem dX5_isClean_22 : decode cX5_isClean 22 = .ok (.iload_n 2, 1) := by decide +kernel
theorem dX5_isClean_23 : decode cX5_isClean 23 = .ok (.imul, 1) := by decide +kernel
theorem dX5_isClean_24 : decode cX5_isClean 24 = .ok (.iload_n 3, 1) := by decide +kernel
theorem dX5_isClean_25 : decode cX5_isClean 25 = .ok (.iadd, 1) := by decide +kernel
theorem dX5_isClean_26 : decode cX5_isClean 26 = .ok (.invokevirtual 416, 3) := by decide +kernel
theorem dX5_isClean_29 : decode cX5_isClean 29 = .ok (.ifCond .eq 5, 3) := by decide +kernel
theorem dX5_isClean_32 : decode cX5_isClean 32 = .ok (.iconst 0, 1) := by decide +kernel
theorem dX5_isClean_33 : decode cX5_isClean 33 = .ok (.ireturn, 1) := by decide +kernel
theorem dX5_isClean_34 : decode cX5_isClean 34 = .ok (.iinc 3 1, 3) := by decide +kernel
theorem dX5_isClean_37 : decode cX5_isClean 37 = .ok (.goto (-29), 3) := by decide +kernel
theorem dX5_isClean_40 : decode cX5_isClean 40 = .ok (.iconst 1, 1) := by decide +kernel
theorem dX5_isClean_41 : decode cX5_isClean 41 = .ok (.ireturn, 1) := by decide +kernel
theorem dX5_distance_0 : decode cX5_distance 0 = .ok (.aload_n 0, 1) := by decide +kernel
theorem dX5_distance_1 : decode cX5_distance 1 = .ok (.iload_n 1, 1) := by decide +kernel
theorem dX5_distance_2 : decode cX5_distance 2 = .ok (.invokevirtual 401, 3) := by decide +kernel
theorem dX5_distance_5 : decode cX5_distance 5 = .ok (.istore 4, 2) := by decide +kernel
theorem dX5_distance_7 : decode cX5_distance 7 = .ok (.lconst 0, 1) := by decide +kernel
theorem dX5_distance_8 : decode cX5_distance 8 = .ok (.lstore 5, 2) := by decide +kernel
theorem dX5_distance_10 : decode cX5_distance 10 = .ok (.iconst 0, 1) := by decide +kernel
theorem dX5_distance_11 : decode cX5_distance 11 = .ok (.istore 7, 2) := by decide +kernel
theorem dX5_distance_13 : decode cX5_distance 13 = .ok (.iload 7, 2) := by decide +kernel
theorem dX5_distance_15 : decode cX5_distance 15 = .ok (.aload_n 0, 1) := by decide +kernel
theorem dX5_distance_16 : decode cX5_distance 16 = .ok (.getfield 34, 3) := by decide +kernel
theorem dX5_distance_19 : decode cX5_distance 19 = .ok (.iload 4, 2) := by decide +kernel
theorem dX5_distance_21 : decode cX5_distance 21 = .ok (.iaload, 1) := by decide +kernel
theorem dX5_distance_22 : decode cX5_distance 22 = .ok (.if_icmp .ge 114, 3) := by decide +kernel
theorem dX5_distance_25 : decode cX5_distance 25 = .ok (.aload_n 0, 1) := by decide +kernel
theorem dX5_distance_26 : decode cX5_distance 26 = .ok (.getfield 114, 3) := by decide +kernel
theorem dX5_distance_29 : decode cX5_distance 29 = .ok (.bipush 20, 2) := by decide +kernel
theorem dX5_distance_31 : decode cX5_distance 31 = .ok (.iload_n 1, 1) := by decide +kernel
theorem dX5_distance_32 : decode cX5_distance 32 = .ok (.imul, 1) := by decide +kernel
theorem dX5_distance_33 : decode cX5_distance 33 = .ok (.iload 7, 2) := by decide +kernel
theorem dX5_distance_35 : decode cX5_distance 35 = .ok (.iadd, 1) := by decide +kernel
theorem dX5_distance_36 : decode cX5_distance 36 = .ok (.iaload, 1) := by decide +kernel
theorem dX5_distance_37 : decode cX5_distance 37 = .ok (.istore 8, 2) := by decide +kernel
theorem dX5_distance_39 : decode cX5_distance 39 = .ok (.aload_n 0, 1) := by decide +kernel
theorem dX5_distance_40 : decode cX5_distance 40 = .ok (.getfield 114, 3) := by decide +kernel
theorem dX5_distance_43 : decode cX5_distance 43 = .ok (.bipush 20, 2) := by decide +kernel
theorem dX5_distance_45 : decode cX5_distance 45 = .ok (.iload_n 2, 1) := by decide +kernel
theorem dX5_distance_46 : decode cX5_distance 46 = .ok (.imul, 1) := by decide +kernel
theorem dX5_distance_47 : decode cX5_distance 47 = .ok (.iload 7, 2) := by decide +kernel
theorem dX5_distance_49 : decode cX5_distance 49 = .ok (.iadd, 1) := by decide +kernel
theorem dX5_distance_50 : decode cX5_distance 50 = .ok (.iaload, 1) := by decide +kernel
theorem dX5_distance_51 : decode cX5_distance 51 = .ok (.istore 9, 2) := by decide +kernel
theorem dX5_distance_53 : decode cX5_distance 53 = .ok (.aload_n 0, 1) := by decide +kernel
theorem dX5_distance_54 : decode cX5_distance 54 = .ok (.iload 4, 2) := by decide +kernel
theorem dX5_distance_56 : decode cX5_distance 56 = .ok (.iload 7, 2) := by decide +kernel
theorem dX5_distance_58 : decode cX5_distance 58 = .ok (.invokevirtual 407, 3) := by decide +kernel
theorem dX5_distance_61 : decode cX5_distance 61 = .ok (.ifCond .eq 30, 3) := by decide +kernel
theorem dX5_distance_64 : decode cX5_distance 64 = .ok (.iload_n 3, 1) := by decide +kernel
theorem dX5_distance_65 : decode cX5_distance 65 = .ok (.iload 7, 2) := by decide +kernel
theorem dX5_distance_67 : decode cX5_distance 67 = .ok (.ishr, 1) := by decide +kernel
theorem dX5_distance_68 : decode cX5_distance 68 = .ok (.iconst 1, 1) := by decide +kernel
theorem dX5_distance_69 : decode cX5_distance 69 = .ok (.iand, 1) := by decide +kernel
theorem dX5_distance_70 : decode cX5_distance 70 = .ok (.ifCond .ne 21, 3) := by decide +kernel
theorem dX5_distance_73 : decode cX5_distance 73 = .ok (.iload 8, 2) := by decide +kernel
theorem dX5_distance_75 : decode cX5_distance 75 = .ok (.ldc 244, 2) := by decide +kernel
theorem dX5_distance_77 : decode cX5_distance 77 = .ok (.if_icmp .eq 14, 3) := by decide +kernel
theorem dX5_distance_80 : decode cX5_distance 80 = .ok (.iload 9, 2) := by decide +kernel
theorem dX5_distance_82 : decode cX5_distance 82 = .ok (.ldc 244, 2) := by decide +kernel
theorem dX5_distance_84 : decode cX5_distance 84 = .ok (.if_icmp .eq 7, 3) := by decide +kernel
theorem dX5_distance_87 : decode cX5_distance 87 = .ok (.iconst 1, 1) := by decide +kernel
theorem dX5_distance_88 : decode cX5_distance 88 = .ok (.goto 4, 3) := by decide +kernel
theorem dX5_distance_91 : decode cX5_distance 91 = .ok (.iconst 0, 1) := by decide +kernel
theorem dX5_distance_92 : decode cX5_distance 92 = .ok (.istore 10, 2) := by decide +kernel
theorem dX5_distance_94 : decode cX5_distance 94 = .ok (.lload 5, 2) := by decide +kernel
theorem dX5_distance_96 : decode cX5_distance 96 = .ok (.iload 10, 2) := by decide +kernel
theorem dX5_distance_98 : decode cX5_distance 98 = .ok (.ifCond .ne 7, 3) := by decide +kernel
theorem dX5_distance_101 : decode cX5_distance 101 = .ok (.lconst 0, 1) := by decide +kernel
theorem dX5_distance_102 : decode cX5_distance 102 = .ok (.goto 25, 3) := by decide +kernel
theorem dX5_distance_105 : decode cX5_distance 105 = .ok (.iload 8, 2) := by decide +kernel
theorem dX5_distance_107 : decode cX5_distance 107 = .ok (.iload 9, 2) := by decide +kernel
theorem dX5_distance_109 : decode cX5_distance 109 = .ok (.if_icmp .ge 12, 3) := by decide +kernel
theorem dX5_distance_112 : decode cX5_distance 112 = .ok (.iload 9, 2) := by decide +kernel
theorem dX5_distance_114 : decode cX5_distance 114 = .ok (.iload 8, 2) := by decide +kernel
theorem dX5_distance_116 : decode cX5_distance 116 = .ok (.isub, 1) := by decide +kernel
theorem dX5_distance_117 : decode cX5_distance 117 = .ok (.i2l, 1) := by decide +kernel
theorem dX5_distance_118 : decode cX5_distance 118 = .ok (.goto 9, 3) := by decide +kernel
theorem dX5_distance_121 : decode cX5_distance 121 = .ok (.iload 8, 2) := by decide +kernel
theorem dX5_distance_123 : decode cX5_distance 123 = .ok (.iload 9, 2) := by decide +kernel
theorem dX5_distance_125 : decode cX5_distance 125 = .ok (.isub, 1) := by decide +kernel
theorem dX5_distance_126 : decode cX5_distance 126 = .ok (.i2l, 1) := by decide +kernel
theorem dX5_distance_127 : decode cX5_distance 127 = .ok (.ladd, 1) := by decide +kernel
theorem dX5_distance_128 : decode cX5_distance 128 = .ok (.lstore 5, 2) := by decide +kernel
theorem dX5_distance_130 : decode cX5_distance 130 = .ok (.iinc 7 1, 3) := by decide +kernel
theorem dX5_distance_133 : decode cX5_distance 133 = .ok (.goto (-120), 3) := by decide +kernel
theorem dX5_distance_136 : decode cX5_distance 136 = .ok (.lload 5, 2) := by decide +kernel
theorem dX5_distance_138 : decode cX5_distance 138 = .ok (.lreturn, 1) := by decide +kernel
theorem dX5_letsOf_0 : decode cX5_letsOf 0 = .ok (.aload_n 0, 1) := by decide +kernel
theorem dX5_letsOf_1 : decode cX5_letsOf 1 = .ok (.iload_n 1, 1) := by decide +kernel
theorem dX5_letsOf_2 : decode cX5_letsOf 2 = .ok (.invokevirtual 401, 3) := by decide +kernel
theorem dX5_letsOf_5 : decode cX5_letsOf 5 = .ok (.istore_n 2, 1) := by decide +kernel
theorem dX5_letsOf_6 : decode cX5_letsOf 6 = .ok (.iconst 0, 1) := by decide +kernel
theorem dX5_letsOf_7 : decode cX5_letsOf 7 = .ok (.istore_n 3, 1) := by decide +kernel
theorem dX5_letsOf_8 : decode cX5_letsOf 8 = .ok (.iload_n 3, 1) := by decide +kernel
theorem dX5_letsOf_9 : decode cX5_letsOf 9 = .ok (.bipush 20, 2) := by decide +kernel
theorem dX5_letsOf_11 : decode cX5_letsOf 11 = .ok (.if_icmp .ge 26, 3) := by decide +kernel
theorem dX5_letsOf_14 : decode cX5_letsOf 14 = .ok (.aload_n 0, 1) := by decide +kernel
theorem dX5_letsOf_15 : decode cX5_letsOf 15 = .ok (.getfield 71, 3) := by decide +kernel
theorem dX5_letsOf_18 : decode cX5_letsOf 18 = .ok (.iload_n 3, 1) := by decide +kernel
theorem dX5_letsOf_19 : decode cX5_letsOf 19 = .ok (.aload_n 0, 1) := by decide +kernel
theorem dX5_letsOf_20 : decode cX5_letsOf 20 = .ok (.getfield 114, 3) := by decide +kernel
theorem dX5_letsOf_23 : decode cX5_letsOf 23 = .ok (.bipush 20, 2) := by decide +kernel
theorem dX5_letsOf_25 : decode cX5_letsOf 25 = .ok (.iload_n 1, 1) := by decide +kernel
theorem dX5_letsOf_26 : decode cX5_letsOf 26 = .ok (.imul, 1) := by decide +kernel
theorem dX5_letsOf_27 : decode cX5_letsOf 27 = .ok (.iload_n 3, 1) := by decide +kernel
theorem dX5_letsOf_28 : decode cX5_letsOf 28 = .ok (.iadd, 1) := by decide +kernel
theorem dX5_letsOf_29 : decode cX5_letsOf 29 = .ok (.iaload, 1) := by decide +kernel
theorem dX5_letsOf_30 : decode cX5_letsOf 30 = .ok (.iastore, 1) := by decide +kernel
theorem dX5_letsOf_31 : decode cX5_letsOf 31 = .ok (.iinc 3 1, 3) := by decide +kernel
theorem dX5_letsOf_34 : decode cX5_letsOf 34 = .ok (.goto (-26), 3) := by decide +kernel
theorem dX5_letsOf_37 : decode cX5_letsOf 37 = .ok (.iconst 0, 1) := by decide +kernel
theorem dX5_letsOf_38 : decode cX5_letsOf 38 = .ok (.istore_n 3, 1) := by decide +kernel
theorem dX5_letsOf_39 : decode cX5_letsOf 39 = .ok (.iload_n 3, 1) := by decide +kernel
theorem dX5_letsOf_40 : decode cX5_letsOf 40 = .ok (.bipush 6, 2) := by decide +kernel
theorem dX5_letsOf_42 : decode cX5_letsOf 42 = .ok (.if_icmp .ge 31, 3) := by decide +kernel
theorem dX5_letsOf_45 : decode cX5_letsOf 45 = .ok (.aload_n 0, 1) := by decide +kernel
theorem dX5_letsOf_46 : decode cX5_letsOf 46 = .ok (.getfield 74, 3) := by decide +kernel
theorem dX5_letsOf_49 : decode cX5_letsOf 49 = .ok (.iload_n 3, 1) := by decide +kernel
theorem dX5_letsOf_50 : decode cX5_letsOf 50 = .ok (.aload_n 0, 1) := by decide +kernel
theorem dX5_letsOf_51 : decode cX5_letsOf 51 = .ok (.getfield 83, 3) := by decide +kernel
theorem dX5_letsOf_54 : decode cX5_letsOf 54 = .ok (.bipush 6, 2) := by decide +kernel
theorem dX5_letsOf_56 : decode cX5_letsOf 56 = .ok (.aload_n 0, 1) := by decide +kernel
theorem dX5_letsOf_57 : decode cX5_letsOf 57 = .ok (.getfield 111, 3) := by decide +kernel
theorem dX5_letsOf_60 : decode cX5_letsOf 60 = .ok (.iload_n 1, 1) := by decide +kernel
theorem dX5_letsOf_61 : decode cX5_letsOf 61 = .ok (.iaload, 1) := by decide +kernel
theorem dX5_letsOf_62 : decode cX5_letsOf 62 = .ok (.imul, 1) := by decide +kernel
theorem dX5_letsOf_63 : decode cX5_letsOf 63 = .ok (.iload_n 3, 1) := by decide +kernel
theorem dX5_letsOf_64 : decode cX5_letsOf 64 = .ok (.iadd, 1) := by decide +kernel
theorem dX5_letsOf_65 : decode cX5_letsOf 65 = .ok (.iaload, 1) := by decide +kernel
theorem dX5_letsOf_66 : decode cX5_letsOf 66 = .ok (.iastore, 1) := by decide +kernel
theorem dX5_letsOf_67 : decode cX5_letsOf 67 = .ok (.iinc 3 1, 3) := by decide +kernel
theorem dX5_letsOf_70 : decode cX5_letsOf 70 = .ok (.goto (-31), 3) := by decide +kernel
theorem dX5_letsOf_73 : decode cX5_letsOf 73 = .ok (.iconst 0, 1) := by decide +kernel
theorem dX5_letsOf_74 : decode cX5_letsOf 74 = .ok (.istore_n 3, 1) := by decide +kernel
theorem dX5_letsOf_75 : decode cX5_letsOf 75 = .ok (.iload_n 3, 1) := by decide +kernel
theorem dX5_letsOf_76 : decode cX5_letsOf 76 = .ok (.aload_n 0, 1) := by decide +kernel
theorem dX5_letsOf_77 : decode cX5_letsOf 77 = .ok (.getfield 34, 3) := by decide +kernel
theorem dX5_letsOf_80 : decode cX5_letsOf 80 = .ok (.iload_n 2, 1) := by decide +kernel
theorem dX5_letsOf_81 : decode cX5_letsOf 81 = .ok (.iaload, 1) := by decide +kernel
theorem dX5_letsOf_82 : decode cX5_letsOf 82 = .ok (.if_icmp .ge 118, 3) := by decide +kernel
theorem dX5_letsOf_85 : decode cX5_letsOf 85 = .ok (.bipush 20, 2) := by decide +kernel
theorem dX5_letsOf_87 : decode cX5_letsOf 87 = .ok (.iload_n 2, 1) := by decide +kernel
theorem dX5_letsOf_88 : decode cX5_letsOf 88 = .ok (.imul, 1) := by decide +kernel
theorem dX5_letsOf_89 : decode cX5_letsOf 89 = .ok (.iload_n 3, 1) := by decide +kernel
theorem dX5_letsOf_90 : decode cX5_letsOf 90 = .ok (.iadd, 1) := by decide +kernel
theorem dX5_letsOf_91 : decode cX5_letsOf 91 = .ok (.istore 4, 2) := by decide +kernel
theorem dX5_letsOf_93 : decode cX5_letsOf 93 = .ok (.aload_n 0, 1) := by decide +kernel
theorem dX5_letsOf_94 : decode cX5_letsOf 94 = .ok (.getfield 37, 3) := by decide +kernel
theorem dX5_letsOf_97 : decode cX5_letsOf 97 = .ok (.iload 4, 2) := by decide +kernel
theorem dX5_letsOf_99 : decode cX5_letsOf 99 = .ok (.iaload, 1) := by decide +kernel
theorem dX5_letsOf_100 : decode cX5_letsOf 100 = .ok (.iconst 1, 1) := by decide +kernel
theorem dX5_letsOf_101 : decode cX5_letsOf 101 = .ok (.if_icmp .ne 93, 3) := by decide +kernel
theorem dX5_letsOf_104 : decode cX5_letsOf 104 = .ok (.aload_n 0, 1) := by decide +kernel
theorem dX5_letsOf_105 : decode cX5_letsOf 105 = .ok (.getfield 59, 3) := by decide +kernel
theorem dX5_letsOf_108 : decode cX5_letsOf 108 = .ok (.iload 4, 2) := by decide +kernel
theorem dX5_letsOf_110 : decode cX5_letsOf 110 = .ok (.iaload, 1) := by decide +kernel
theorem dX5_letsOf_111 : decode cX5_letsOf 111 = .ok (.iconst (-1), 1) := by decide +kernel
theorem dX5_letsOf_112 : decode cX5_letsOf 112 = .ok (.if_icmp .eq 24, 3) := by decide +kernel
theorem dX5_letsOf_115 : decode cX5_letsOf 115 = .ok (.aload_n 0, 1) := by decide +kernel
theorem dX5_letsOf_116 : decode cX5_letsOf 116 = .ok (.aload_n 0, 1) := by decide +kernel
theorem dX5_letsOf_117 : decode cX5_letsOf 117 = .ok (.getfield 59, 3) := by decide +kernel
theorem dX5_letsOf_120 : decode cX5_letsOf 120 = .ok (.iload 4, 2) := by decide +kernel
theorem dX5_letsOf_122 : decode cX5_letsOf 122 = .ok (.iaload, 1) := by decide +kernel
theorem dX5_letsOf_123 : decode cX5_letsOf 123 = .ok (.aload_n 0, 1) := by decide +kernel
theorem dX5_letsOf_124 : decode cX5_letsOf 124 = .ok (.getfield 62, 3) := by decide +kernel
theorem dX5_letsOf_127 : decode cX5_letsOf 127 = .ok (.iload 4, 2) := by decide +kernel
theorem dX5_letsOf_129 : decode cX5_letsOf 129 = .ok (.iaload, 1) := by decide +kernel
theorem dX5_letsOf_130 : decode cX5_letsOf 130 = .ok (.invokevirtual 380, 3) := by decide +kernel
theorem dX5_letsOf_133 : decode cX5_letsOf 133 = .ok (.ifCond .eq 7, 3) := by decide +kernel
theorem dX5_letsOf_136 : decode cX5_letsOf 136 = .ok (.iconst 1, 1) := by decide +kernel
theorem dX5_letsOf_137 : decode cX5_letsOf 137 = .ok (.goto 4, 3) := by decide +kernel
theorem dX5_letsOf_140 : decode cX5_letsOf 140 = .ok (.iconst 0, 1) := by decide +kernel
theorem dX5_letsOf_141 : decode cX5_letsOf 141 = .ok (.istore 5, 2) := by decide +kernel
theorem dX5_letsOf_143 : decode cX5_letsOf 143 = .ok (.aload_n 0, 1) := by decide +kernel
theorem dX5_letsOf_144 : decode cX5_letsOf 144 = .ok (.getfield 71, 3) := by decide +kernel
theorem dX5_letsOf_147 : decode cX5_letsOf 147 = .ok (.iload_n 3, 1) := by decide +kernel
theorem dX5_letsOf_148 : decode cX5_letsOf 148 = .ok (.iload 5, 2) := by decide +kernel
theorem dX5_letsOf_150 : decode cX5_letsOf 150 = .ok (.ifCond .eq 24, 3) := by decide +kernel
theorem dX5_letsOf_153 : decode cX5_letsOf 153 = .ok (.aload_n 0, 1) := by decide +kernel
theorem dX5_letsOf_154 : decode cX5_letsOf 154 = .ok (.aload_n 0, 1) := by decide +kernel
theorem dX5_letsOf_155 : decode cX5_letsOf 155 = .ok (.getfield 53, 3) := by decide +kernel
theorem dX5_letsOf_158 : decode cX5_letsOf 158 = .ok (.iload 4, 2) := by decide +kernel
theorem dX5_letsOf_160 : decode cX5_letsOf 160 = .ok (.iaload, 1) := by decide +kernel
theorem dX5_letsOf_161 : decode cX5_letsOf 161 = .ok (.aload_n 0, 1) := by decide +kernel
theorem dX5_letsOf_162 : decode cX5_letsOf 162 = .ok (.getfield 56, 3) := by decide +kernel
theorem dX5_letsOf_165 : decode cX5_letsOf 165 = .ok (.iload 4, 2) := by decide +kernel
theorem dX5_letsOf_167 : decode cX5_letsOf 167 = .ok (.iaload, 1) := by decide +kernel
theorem dX5_letsOf_168 : decode cX5_letsOf 168 = .ok (.invokevirtual 365, 3) := by decide +kernel
theorem dX5_letsOf_171 : decode cX5_letsOf 171 = .ok (.goto 5, 3) := by decide +kernel
theorem dX5_letsOf_174 : decode cX5_letsOf 174 = .ok (.ldc 244, 2) := by decide +kernel
theorem dX5_letsOf_176 : decode cX5_letsOf 176 = .ok (.iastore, 1) := by decide +kernel
theorem dX5_letsOf_177 : decode cX5_letsOf 177 = .ok (.aload_n 0, 1) := by decide +kernel
theorem dX5_letsOf_178 : decode cX5_letsOf 178 = .ok (.getfield 114, 3) := by decide +kernel
theorem dX5_letsOf_181 : decode cX5_letsOf 181 = .ok (.bipush 20, 2) := by decide +kernel
theorem dX5_letsOf_183 : decode cX5_letsOf 183 = .ok (.iload_n 1, 1) := by decide +kernel
theorem dX5_letsOf_184 : decode cX5_letsOf 184 = .ok (.imul, 1) := by decide +kernel
theorem dX5_letsOf_185 : decode cX5_letsOf 185 = .ok (.iload_n 3, 1) := by decide +kernel
theorem dX5_letsOf_186 : decode cX5_letsOf 186 = .ok (.iadd, 1) := by decide +kernel
theorem dX5_letsOf_187 : decode cX5_letsOf 187 = .ok (.aload_n 0, 1) := by decide +kernel
theorem dX5_letsOf_188 : decode cX5_letsOf 188 = .ok (.getfield 71, 3) := by decide +kernel
theorem dX5_letsOf_191 : decode cX5_letsOf 191 = .ok (.iload_n 3, 1) := by decide +kernel
theorem dX5_letsOf_192 : decode cX5_letsOf 192 = .ok (.iaload, 1) := by decide +kernel
theorem dX5_letsOf_193 : decode cX5_letsOf 193 = .ok (.iastore, 1) := by decide +kernel
theorem dX5_letsOf_194 : decode cX5_letsOf 194 = .ok (.iinc 3 1, 3) := by decide +kernel
theorem dX5_letsOf_197 : decode cX5_letsOf 197 = .ok (.goto (-122), 3) := by decide +kernel
theorem dX5_letsOf_200 : decode cX5_letsOf 200 = .ok (.return_, 1) := by decide +kernel
theorem dX5_sample_0 : decode cX5_sample 0 = .ok (.aload_n 0, 1) := by decide +kernel
theorem dX5_sample_1 : decode cX5_sample 1 = .ok (.iconst 0, 1) := by decide +kernel
theorem dX5_sample_2 : decode cX5_sample 2 = .ok (.putfield 198, 3) := by decide +kernel
theorem dX5_sample_5 : decode cX5_sample 5 = .ok (.iload_n 1, 1) := by decide +kernel
theorem dX5_sample_6 : decode cX5_sample 6 = .ok (.i2l, 1) := by decide +kernel
theorem dX5_sample_7 : decode cX5_sample 7 = .ok (.lconst 0, 1) := by decide +kernel
theorem dX5_sample_8 : decode cX5_sample 8 = .ok (.ldc2_w 224, 3) := by decide +kernel
theorem dX5_sample_11 : decode cX5_sample 11 = .ok (.invokestatic 207, 3) := by decide +kernel
theorem dX5_sample_14 : decode cX5_sample 14 = .ok (.ifCond .eq 16, 3) := by decide +kernel
theorem dX5_sample_17 : decode cX5_sample 17 = .ok (.iload 4, 2) := by decide +kernel
theorem dX5_sample_19 : decode cX5_sample 19 = .ok (.i2l, 1) := by decide +kernel
theorem dX5_sample_20 : decode cX5_sample 20 = .ok (.lconst 0, 1) := by decide +kernel
theorem dX5_sample_21 : decode cX5_sample 21 = .ok (.ldc2_w 224, 3) := by decide +kernel
theorem dX5_sample_24 : decode cX5_sample 24 = .ok (.invokestatic 207, 3) := by decide +kernel
theorem dX5_sample_27 : decode cX5_sample 27 = .ok (.ifCond .ne 9, 3) := by decide +kernel
theorem dX5_sample_30 : decode cX5_sample 30 = .ok (.aload_n 0, 1) := by decide +kernel
theorem dX5_sample_31 : decode cX5_sample 31 = .ok (.iconst 1, 1) := by decide +kernel
theorem dX5_sample_32 : decode cX5_sample 32 = .ok (.invokevirtual 213, 3) := by decide +kernel
theorem dX5_sample_35 : decode cX5_sample 35 = .ok (.ireturn, 1) := by decide +kernel
theorem dX5_sample_36 : decode cX5_sample 36 = .ok (.iconst 0, 1) := by decide +kernel
theorem dX5_sample_37 : decode cX5_sample 37 = .ok (.istore 7, 2) := by decide +kernel
theorem dX5_sample_39 : decode cX5_sample 39 = .ok (.iconst 0, 1) := by decide +kernel
theorem dX5_sample_40 : decode cX5_sample 40 = .ok (.istore 8, 2) := by decide +kernel
theorem dX5_sample_42 : decode cX5_sample 42 = .ok (.iload 8, 2) := by decide +kernel
theorem dX5_sample_44 : decode cX5_sample 44 = .ok (.aload_n 0, 1) := by decide +kernel
theorem dX5_sample_45 : decode cX5_sample 45 = .ok (.getfield 217, 3) := by decide +kernel
theorem dX5_sample_48 : decode cX5_sample 48 = .ok (.if_icmp .ge 119, 3) := by decide +kernel
theorem dX5_sample_51 : decode cX5_sample 51 = .ok (.aload_n 0, 1) := by decide +kernel
theorem dX5_sample_52 : decode cX5_sample 52 = .ok (.iload 8, 2) := by decide +kernel
theorem dX5_sample_54 : decode cX5_sample 54 = .ok (.iload_n 1, 1) := by decide +kernel
theorem dX5_sample_55 : decode cX5_sample 55 = .ok (.aload_n 0, 1) := by decide +kernel
theorem dX5_sample_56 : decode cX5_sample 56 = .ok (.invokevirtual 233, 3) := by decide +kernel
theorem dX5_sample_59 : decode cX5_sample 59 = .ok (.aload_n 0, 1) := by decide +kernel
theorem dX5_sample_60 : decode cX5_sample 60 = .ok (.invokevirtual 233, 3) := by decide +kernel
theorem dX5_sample_63 : decode cX5_sample 63 = .ok (.invokevirtual 245, 3) := by decide +kernel
theorem dX5_sample_66 : decode cX5_sample 66 = .ok (.istore 9, 2) := by decide +kernel
theorem dX5_sample_68 : decode cX5_sample 68 = .ok (.aload_n 0, 1) := by decide +kernel
theorem dX5_sample_69 : decode cX5_sample 69 = .ok (.getfield 7, 3) := by decide +kernel
theorem dX5_sample_72 : decode cX5_sample 72 = .ok (.iload 8, 2) := by decide +kernel
theorem dX5_sample_74 : decode cX5_sample 74 = .ok (.iaload, 1) := by decide +kernel
theorem dX5_sample_75 : decode cX5_sample 75 = .ok (.iconst (-1), 1) := by decide +kernel
theorem dX5_sample_76 : decode cX5_sample 76 = .ok (.if_icmp .ne 27, 3) := by decide +kernel
theorem dX5_sample_79 : decode cX5_sample 79 = .ok (.iload 9, 2) := by decide +kernel
theorem dX5_sample_81 : decode cX5_sample 81 = .ok (.ldc 244, 2) := by decide +kernel
theorem dX5_sample_83 : decode cX5_sample 83 = .ok (.if_icmp .eq 20, 3) := by decide +kernel
theorem dX5_sample_86 : decode cX5_sample 86 = .ok (.iload 9, 2) := by decide +kernel
theorem dX5_sample_88 : decode cX5_sample 88 = .ok (.i2l, 1) := by decide +kernel
theorem dX5_sample_89 : decode cX5_sample 89 = .ok (.iload_n 2, 1) := by decide +kernel
theorem dX5_sample_90 : decode cX5_sample 90 = .ok (.i2l, 1) := by decide +kernel
theorem dX5_sample_91 : decode cX5_sample 91 = .ok (.iload_n 3, 1) := by decide +kernel
theorem dX5_sample_92 : decode cX5_sample 92 = .ok (.i2l, 1) := by decide +kernel
theorem dX5_sample_93 : decode cX5_sample 93 = .ok (.invokestatic 207, 3) := by decide +kernel
theorem dX5_sample_96 : decode cX5_sample 96 = .ok (.ifCond .eq 7, 3) := by decide +kernel
theorem dX5_sample_99 : decode cX5_sample 99 = .ok (.iconst 1, 1) := by decide +kernel
theorem dX5_sample_100 : decode cX5_sample 100 = .ok (.goto 4, 3) := by decide +kernel
theorem dX5_sample_103 : decode cX5_sample 103 = .ok (.iconst 0, 1) := by decide +kernel
theorem dX5_sample_104 : decode cX5_sample 104 = .ok (.istore 10, 2) := by decide +kernel
theorem dX5_sample_106 : decode cX5_sample 106 = .ok (.aload_n 0, 1) := by decide +kernel
theorem dX5_sample_107 : decode cX5_sample 107 = .ok (.getfield 144, 3) := by decide +kernel
theorem dX5_sample_110 : decode cX5_sample 110 = .ok (.iload 8, 2) := by decide +kernel
theorem dX5_sample_112 : decode cX5_sample 112 = .ok (.iload 10, 2) := by decide +kernel
theorem dX5_sample_114 : decode cX5_sample 114 = .ok (.ifCond .eq 22, 3) := by decide +kernel
theorem dX5_sample_117 : decode cX5_sample 117 = .ok (.aload_n 0, 1) := by decide +kernel
theorem dX5_sample_118 : decode cX5_sample 118 = .ok (.iload 8, 2) := by decide +kernel
theorem dX5_sample_120 : decode cX5_sample 120 = .ok (.iload 4, 2) := by decide +kernel
theorem dX5_sample_122 : decode cX5_sample 122 = .ok (.aload_n 0, 1) := by decide +kernel
theorem dX5_sample_123 : decode cX5_sample 123 = .ok (.invokevirtual 233, 3) := by decide +kernel
theorem dX5_sample_126 : decode cX5_sample 126 = .ok (.aload_n 0, 1) := by decide +kernel
theorem dX5_sample_127 : decode cX5_sample 127 = .ok (.invokevirtual 233, 3) := by decide +kernel
theorem dX5_sample_130 : decode cX5_sample 130 = .ok (.invokevirtual 245, 3) := by decide +kernel
theorem dX5_sample_133 : decode cX5_sample 133 = .ok (.goto 5, 3) := by decide +kernel
theorem dX5_sample_136 : decode cX5_sample 136 = .ok (.ldc 244, 2) := by decide +kernel
theorem dX5_sample_138 : decode cX5_sample 138 = .ok (.iastore, 1) := by decide +kernel
theorem dX5_sample_139 : decode cX5_sample 139 = .ok (.iload 7, 2) := by decide +kernel
theorem dX5_sample_141 : decode cX5_sample 141 = .ok (.aload_n 0, 1) := by decide +kernel
theorem dX5_sample_142 : decode cX5_sample 142 = .ok (.getfield 144, 3) := by decide +kernel
theorem dX5_sample_145 : decode cX5_sample 145 = .ok (.iload 8, 2) := by decide +kernel
theorem dX5_sample_147 : decode cX5_sample 147 = .ok (.iaload, 1) := by decide +kernel
theorem dX5_sample_148 : decode cX5_sample 148 = .ok (.ldc 244, 2) := by decide +kernel
theorem dX5_sample_150 : decode cX5_sample 150 = .ok (.if_icmp .eq 7, 3) := by decide +kernel
theorem dX5_sample_153 : decode cX5_sample 153 = .ok (.iconst 1, 1) := by decide +kernel
theorem dX5_sample_154 : decode cX5_sample 154 = .ok (.goto 4, 3) := by decide +kernel
theorem dX5_sample_157 : decode cX5_sample 157 = .ok (.iconst 0, 1) := by decide +kernel
theorem dX5_sample_158 : decode cX5_sample 158 = .ok (.iadd, 1) := by decide +kernel
theorem dX5_sample_159 : decode cX5_sample 159 = .ok (.istore 7, 2) := by decide +kernel
theorem dX5_sample_161 : decode cX5_sample 161 = .ok (.iinc 8 1, 3) := by decide +kernel
theorem dX5_sample_164 : decode cX5_sample 164 = .ok (.goto (-122), 3) := by decide +kernel
theorem dX5_sample_167 : decode cX5_sample 167 = .ok (.iload 5, 2) := by decide +kernel
theorem dX5_sample_169 : decode cX5_sample 169 = .ok (.ifCond .lt 10, 3) := by decide +kernel
theorem dX5_sample_172 : decode cX5_sample 172 = .ok (.iload 5, 2) := by decide +kernel
theorem dX5_sample_174 : decode cX5_sample 174 = .ok (.iload 7, 2) := by decide +kernel
theorem dX5_sample_176 : decode cX5_sample 176 = .ok (.if_icmp .le 9, 3) := by decide +kernel
theorem dX5_sample_179 : decode cX5_sample 179 = .ok (.aload_n 0, 1) := by decide +kernel
theorem dX5_sample_180 : decode cX5_sample 180 = .ok (.iconst 2, 1) := by decide +kernel
theorem dX5_sample_181 : decode cX5_sample 181 = .ok (.invokevirtual 213, 3) := by decide +kernel
theorem dX5_sample_184 : decode cX5_sample 184 = .ok (.ireturn, 1) := by decide +kernel
theorem dX5_sample_185 : decode cX5_sample 185 = .ok (.aload_n 0, 1) := by decide +kernel
theorem dX5_sample_186 : decode cX5_sample 186 = .ok (.getfield 455, 3) := by decide +kernel
theorem dX5_sample_189 : decode cX5_sample 189 = .ok (.bipush 12, 2) := by decide +kernel
theorem dX5_sample_191 : decode cX5_sample 191 = .ok (.if_icmp .ne 9, 3) := by decide +kernel
theorem dX5_sample_194 : decode cX5_sample 194 = .ok (.aload_n 0, 1) := by decide +kernel
theorem dX5_sample_195 : decode cX5_sample 195 = .ok (.iconst 3, 1) := by decide +kernel
theorem dX5_sample_196 : decode cX5_sample 196 = .ok (.invokevirtual 213, 3) := by decide +kernel
theorem dX5_sample_199 : decode cX5_sample 199 = .ok (.ireturn, 1) := by decide +kernel
theorem dX5_sample_200 : decode cX5_sample 200 = .ok (.bipush 100, 2) := by decide +kernel
theorem dX5_sample_202 : decode cX5_sample 202 = .ok (.aload_n 0, 1) := by decide +kernel
theorem dX5_sample_203 : decode cX5_sample 203 = .ok (.getfield 455, 3) := by decide +kernel
theorem dX5_sample_206 : decode cX5_sample 206 = .ok (.imul, 1) := by decide +kernel
theorem dX5_sample_207 : decode cX5_sample 207 = .ok (.istore 8, 2) := by decide +kernel
theorem dX5_sample_209 : decode cX5_sample 209 = .ok (.iload 5, 2) := by decide +kernel
theorem dX5_sample_211 : decode cX5_sample 211 = .ok (.istore 9, 2) := by decide +kernel
theorem dX5_sample_213 : decode cX5_sample 213 = .ok (.iconst 0, 1) := by decide +kernel
theorem dX5_sample_214 : decode cX5_sample 214 = .ok (.istore 10, 2) := by decide +kernel
theorem dX5_sample_216 : decode cX5_sample 216 = .ok (.iload 10, 2) := by decide +kernel
theorem dX5_sample_218 : decode cX5_sample 218 = .ok (.aload_n 0, 1) := by decide +kernel
theorem dX5_sample_219 : decode cX5_sample 219 = .ok (.getfield 217, 3) := by decide +kernel
theorem dX5_sample_222 : decode cX5_sample 222 = .ok (.if_icmp .ge 147, 3) := by decide +kernel
theorem dX5_sample_225 : decode cX5_sample 225 = .ok (.iconst 0, 1) := by decide +kernel
theorem dX5_sample_226 : decode cX5_sample 226 = .ok (.istore 11, 2) := by decide +kernel
theorem dX5_sample_228 : decode cX5_sample 228 = .ok (.iconst 0, 1) := by decide +kernel
theorem dX5_sample_229 : decode cX5_sample 229 = .ok (.istore 12, 2) := by decide +kernel
theorem dX5_sample_231 : decode cX5_sample 231 = .ok (.iload 12, 2) := by decide +kernel
theorem dX5_sample_233 : decode cX5_sample 233 = .ok (.aload_n 0, 1) := by decide +kernel
theorem dX5_sample_234 : decode cX5_sample 234 = .ok (.getfield 217, 3) := by decide +kernel
theorem dX5_sample_237 : decode cX5_sample 237 = .ok (.if_icmp .ge 48, 3) := by decide +kernel
theorem dX5_sample_240 : decode cX5_sample 240 = .ok (.iload 11, 2) := by decide +kernel
theorem dX5_sample_242 : decode cX5_sample 242 = .ok (.aload_n 0, 1) := by decide +kernel
theorem dX5_sample_243 : decode cX5_sample 243 = .ok (.getfield 144, 3) := by decide +kernel
theorem dX5_sample_246 : decode cX5_sample 246 = .ok (.iload 10, 2) := by decide +kernel
theorem dX5_sample_248 : decode cX5_sample 248 = .ok (.iaload, 1) := by decide +kernel
theorem dX5_sample_249 : decode cX5_sample 249 = .ok (.ldc 244, 2) := by decide +kernel
theorem dX5_sample_251 : decode cX5_sample 251 = .ok (.if_icmp .eq 24, 3) := by decide +kernel
theorem dX5_sample_254 : decode cX5_sample 254 = .ok (.aload_n 0, 1) := by decide +kernel
theorem dX5_sample_255 : decode cX5_sample 255 = .ok (.getfield 144, 3) := by decide +kernel
theorem dX5_sample_258 : decode cX5_sample 258 = .ok (.iload 12, 2) := by decide +kernel
theorem dX5_sample_260 : decode cX5_sample 260 = .ok (.iaload, 1) := by decide +kernel
theorem dX5_sample_261 : decode cX5_sample 261 = .ok (.aload_n 0, 1) := by decide +kernel
theorem dX5_sample_262 : decode cX5_sample 262 = .ok (.getfield 144, 3) := by decide +kernel
theorem dX5_sample_265 : decode cX5_sample 265 = .ok (.iload 10, 2) := by decide +kernel
theorem dX5_sample_267 : decode cX5_sample 267 = .ok (.iaload, 1) := by decide +kernel
theorem dX5_sample_268 : decode cX5_sample 268 = .ok (.if_icmp .ne 7, 3) := by decide +kernel
theorem dX5_sample_271 : decode cX5_sample 271 = .ok (.iconst 1, 1) := by decide +kernel
theorem dX5_sample_272 : decode cX5_sample 272 = .ok (.goto 4, 3) := by decide +kernel
theorem dX5_sample_275 : decode cX5_sample 275 = .ok (.iconst 0, 1) := by decide +kernel
theorem dX5_sample_276 : decode cX5_sample 276 = .ok (.iadd, 1) := by decide +kernel
theorem dX5_sample_277 : decode cX5_sample 277 = .ok (.istore 11, 2) := by decide +kernel
theorem dX5_sample_279 : decode cX5_sample 279 = .ok (.iinc 12 1, 3) := by decide +kernel
theorem dX5_sample_282 : decode cX5_sample 282 = .ok (.goto (-51), 3) := by decide +kernel
theorem dX5_sample_285 : decode cX5_sample 285 = .ok (.aload_n 0, 1) := by decide +kernel
theorem dX5_sample_286 : decode cX5_sample 286 = .ok (.getfield 138, 3) := by decide +kernel
theorem dX5_sample_289 : decode cX5_sample 289 = .ok (.iload 8, 2) := by decide +kernel
theorem dX5_sample_291 : decode cX5_sample 291 = .ok (.iload 10, 2) := by decide +kernel
theorem dX5_sample_293 : decode cX5_sample 293 = .ok (.iadd, 1) := by decide +kernel
theorem dX5_sample_294 : decode cX5_sample 294 = .ok (.iload 11, 2) := by decide +kernel
theorem dX5_sample_296 : decode cX5_sample 296 = .ok (.iastore, 1) := by decide +kernel
theorem dX5_sample_297 : decode cX5_sample 297 = .ok (.aload_n 0, 1) := by decide +kernel
theorem dX5_sample_298 : decode cX5_sample 298 = .ok (.getfield 135, 3) := by decide +kernel
theorem dX5_sample_301 : decode cX5_sample 301 = .ok (.iload 8, 2) := by decide +kernel
theorem dX5_sample_303 : decode cX5_sample 303 = .ok (.iload 10, 2) := by decide +kernel
theorem dX5_sample_305 : decode cX5_sample 305 = .ok (.iadd, 1) := by decide +kernel
theorem dX5_sample_306 : decode cX5_sample 306 = .ok (.iload 7, 2) := by decide +kernel
theorem dX5_sample_308 : decode cX5_sample 308 = .ok (.ifCond .ne 7, 3) := by decide +kernel
theorem dX5_sample_311 : decode cX5_sample 311 = .ok (.iconst 0, 1) := by decide +kernel
theorem dX5_sample_312 : decode cX5_sample 312 = .ok (.goto 11, 3) := by decide +kernel
theorem dX5_sample_315 : decode cX5_sample 315 = .ok (.iload 5, 2) := by decide +kernel
theorem dX5_sample_317 : decode cX5_sample 317 = .ok (.iload 11, 2) := by decide +kernel
theorem dX5_sample_319 : decode cX5_sample 319 = .ok (.imul, 1) := by decide +kernel
theorem dX5_sample_320 : decode cX5_sample 320 = .ok (.iload 7, 2) := by decide +kernel
theorem dX5_sample_322 : decode cX5_sample 322 = .ok (.idiv, 1) := by decide +kernel
theorem dX5_sample_323 : decode cX5_sample 323 = .ok (.iastore, 1) := by decide +kernel
theorem dX5_sample_324 : decode cX5_sample 324 = .ok (.aload_n 0, 1) := by decide +kernel
theorem dX5_sample_325 : decode cX5_sample 325 = .ok (.getfield 141, 3) := by decide +kernel
theorem dX5_sample_328 : decode cX5_sample 328 = .ok (.iload 8, 2) := by decide +kernel
theorem dX5_sample_330 : decode cX5_sample 330 = .ok (.iload 10, 2) := by decide +kernel
theorem dX5_sample_332 : decode cX5_sample 332 = .ok (.iadd, 1) := by decide +kernel
theorem dX5_sample_333 : decode cX5_sample 333 = .ok (.iconst 0, 1) := by decide +kernel
theorem dX5_sample_334 : decode cX5_sample 334 = .ok (.bastore, 1) := by decide +kernel
theorem dX5_sample_335 : decode cX5_sample 335 = .ok (.iload 9, 2) := by decide +kernel
theorem dX5_sample_337 : decode cX5_sample 337 = .ok (.aload_n 0, 1) := by decide +kernel
theorem dX5_sample_338 : decode cX5_sample 338 = .ok (.iload 10, 2) := by decide +kernel
theorem dX5_sample_340 : decode cX5_sample 340 = .ok (.invokevirtual 458, 3) := by decide +kernel
theorem dX5_sample_343 : decode cX5_sample 343 = .ok (.ifCond .eq 16, 3) := by decide +kernel
theorem dX5_sample_346 : decode cX5_sample 346 = .ok (.aload_n 0, 1) := by decide +kernel
theorem dX5_sample_347 : decode cX5_sample 347 = .ok (.getfield 135, 3) := by decide +kernel
theorem dX5_sample_350 : decode cX5_sample 350 = .ok (.iload 8, 2) := by decide +kernel
theorem dX5_sample_352 : decode cX5_sample 352 = .ok (.iload 10, 2) := by decide +kernel
theorem dX5_sample_354 : decode cX5_sample 354 = .ok (.iadd, 1) := by decide +kernel
theorem dX5_sample_355 : decode cX5_sample 355 = .ok (.iaload, 1) := by decide +kernel
theorem dX5_sample_356 : decode cX5_sample 356 = .ok (.goto 4, 3) := by decide +kernel
theorem dX5_sample_359 : decode cX5_sample 359 = .ok (.iconst 0, 1) := by decide +kernel
theorem dX5_sample_360 : decode cX5_sample 360 = .ok (.isub, 1) := by decide +kernel
theorem dX5_sample_361 : decode cX5_sample 361 = .ok (.istore 9, 2) := by decide +kernel
theorem dX5_sample_363 : decode cX5_sample 363 = .ok (.iinc 10 1, 3) := by decide +kernel
theorem dX5_sample_366 : decode cX5_sample 366 = .ok (.goto (-150), 3) := by decide +kernel
theorem dX5_sample_369 : decode cX5_sample 369 = .ok (.iconst 0, 1) := by decide +kernel
theorem dX5_sample_370 : decode cX5_sample 370 = .ok (.istore 10, 2) := by decide +kernel
theorem dX5_sample_372 : decode cX5_sample 372 = .ok (.iload 10, 2) := by decide +kernel
theorem dX5_sample_374 : decode cX5_sample 374 = .ok (.aload_n 0, 1) := by decide +kernel
theorem dX5_sample_375 : decode cX5_sample 375 = .ok (.getfield 217, 3) := by decide +kernel
theorem dX5_sample_378 : decode cX5_sample 378 = .ok (.if_icmp .ge 182, 3) := by decide +kernel
theorem dX5_sample_381 : decode cX5_sample 381 = .ok (.iconst 0, 1) := by decide +kernel
theorem dX5_sample_382 : decode cX5_sample 382 = .ok (.istore 11, 2) := by decide +kernel
theorem dX5_sample_384 : decode cX5_sample 384 = .ok (.iconst 0, 1) := by decide +kernel
theorem dX5_sample_385 : decode cX5_sample 385 = .ok (.istore 12, 2) := by decide +kernel
theorem dX5_sample_387 : decode cX5_sample 387 = .ok (.iload 12, 2) := by decide +kernel
theorem dX5_sample_389 : decode cX5_sample 389 = .ok (.aload_n 0, 1) := by decide +kernel
theorem dX5_sample_390 : decode cX5_sample 390 = .ok (.getfield 217, 3) := by decide +kernel
theorem dX5_sample_393 : decode cX5_sample 393 = .ok (.if_icmp .ge 124, 3) := by decide +kernel
theorem dX5_sample_396 : decode cX5_sample 396 = .ok (.aload_n 0, 1) := by decide +kernel
theorem dX5_sample_397 : decode cX5_sample 397 = .ok (.getfield 144, 3) := by decide +kernel
theorem dX5_sample_400 : decode cX5_sample 400 = .ok (.iload 10, 2) := by decide +kernel
theorem dX5_sample_402 : decode cX5_sample 402 = .ok (.iaload, 1) := by decide +kernel
theorem dX5_sample_403 : decode cX5_sample 403 = .ok (.ldc 244, 2) := by decide +kernel
theorem dX5_sample_405 : decode cX5_sample 405 = .ok (.if_icmp .eq 112, 3) := by decide +kernel
theorem dX5_sample_408 : decode cX5_sample 408 = .ok (.iload 5, 2) := by decide +kernel
theorem dX5_sample_410 : decode cX5_sample 410 = .ok (.aload_n 0, 1) := by decide +kernel
theorem dX5_sample_411 : decode cX5_sample 411 = .ok (.getfield 138, 3) := by decide +kernel
theorem dX5_sample_414 : decode cX5_sample 414 = .ok (.iload 8, 2) := by decide +kernel
theorem dX5_sample_416 : decode cX5_sample 416 = .ok (.iload 12, 2) := by decide +kernel
theorem dX5_sample_418 : decode cX5_sample 418 = .ok (.iadd, 1) := by decide +kernel
theorem dX5_sample_419 : decode cX5_sample 419 = .ok (.iaload, 1) := by decide +kernel
theorem dX5_sample_420 : decode cX5_sample 420 = .ok (.imul, 1) := by decide +kernel
theorem dX5_sample_421 : decode cX5_sample 421 = .ok (.iload 7, 2) := by decide +kernel
theorem dX5_sample_423 : decode cX5_sample 423 = .ok (.irem, 1) := by decide +kernel
theorem dX5_sample_424 : decode cX5_sample 424 = .ok (.istore 13, 2) := by decide +kernel
theorem dX5_sample_426 : decode cX5_sample 426 = .ok (.iload 5, 2) := by decide +kernel
theorem dX5_sample_428 : decode cX5_sample 428 = .ok (.aload_n 0, 1) := by decide +kernel
theorem dX5_sample_429 : decode cX5_sample 429 = .ok (.getfield 138, 3) := by decide +kernel
theorem dX5_sample_432 : decode cX5_sample 432 = .ok (.iload 8, 2) := by decide +kernel
theorem dX5_sample_434 : decode cX5_sample 434 = .ok (.iload 10, 2) := by decide +kernel
theorem dX5_sample_436 : decode cX5_sample 436 = .ok (.iadd, 1) := by decide +kernel
theorem dX5_sample_437 : decode cX5_sample 437 = .ok (.iaload, 1) := by decide +kernel
theorem dX5_sample_438 : decode cX5_sample 438 = .ok (.imul, 1) := by decide +kernel
theorem dX5_sample_439 : decode cX5_sample 439 = .ok (.iload 7, 2) := by decide +kernel
theorem dX5_sample_441 : decode cX5_sample 441 = .ok (.irem, 1) := by decide +kernel
theorem dX5_sample_442 : decode cX5_sample 442 = .ok (.istore 14, 2) := by decide +kernel
theorem dX5_sample_444 : decode cX5_sample 444 = .ok (.iload 11, 2) := by decide +kernel
theorem dX5_sample_446 : decode cX5_sample 446 = .ok (.aload_n 0, 1) := by decide +kernel
theorem dX5_sample_447 : decode cX5_sample 447 = .ok (.iload 12, 2) := by decide +kernel
theorem dX5_sample_449 : decode cX5_sample 449 = .ok (.invokevirtual 458, 3) := by decide +kernel
theorem dX5_sample_452 : decode cX5_sample 452 = .ok (.ifCond .eq 55, 3) := by decide +kernel
theorem dX5_sample_455 : decode cX5_sample 455 = .ok (.aload_n 0, 1) := by decide +kernel
theorem dX5_sample_456 : decode cX5_sample 456 = .ok (.getfield 144, 3) := by decide +kernel
theorem dX5_sample_459 : decode cX5_sample 459 = .ok (.iload 12, 2) := by decide +kernel
theorem dX5_sample_461 : decode cX5_sample 461 = .ok (.iaload, 1) := by decide +kernel
theorem dX5_sample_462 : decode cX5_sample 462 = .ok (.aload_n 0, 1) := by decide +kernel
theorem dX5_sample_463 : decode cX5_sample 463 = .ok (.getfield 144, 3) := by decide +kernel
theorem dX5_sample_466 : decode cX5_sample 466 = .ok (.iload 10, 2) := by decide +kernel
theorem dX5_sample_468 : decode cX5_sample 468 = .ok (.iaload, 1) := by decide +kernel
theorem dX5_sample_469 : decode cX5_sample 469 = .ok (.if_icmp .eq 38, 3) := by decide +kernel
theorem dX5_sample_472 : decode cX5_sample 472 = .ok (.iload 13, 2) := by decide +kernel
theorem dX5_sample_474 : decode cX5_sample 474 = .ok (.iload 14, 2) := by decide +kernel
theorem dX5_sample_476 : decode cX5_sample 476 = .ok (.if_icmp .gt 27, 3) := by decide +kernel
theorem dX5_sample_479 : decode cX5_sample 479 = .ok (.iload 13, 2) := by decide +kernel
theorem dX5_sample_481 : decode cX5_sample 481 = .ok (.iload 14, 2) := by decide +kernel
theorem dX5_sample_483 : decode cX5_sample 483 = .ok (.if_icmp .ne 24, 3) := by decide +kernel
theorem dX5_sample_486 : decode cX5_sample 486 = .ok (.aload_n 0, 1) := by decide +kernel
theorem dX5_sample_487 : decode cX5_sample 487 = .ok (.getfield 144, 3) := by decide +kernel
theorem dX5_sample_490 : decode cX5_sample 490 = .ok (.iload 12, 2) := by decide +kernel
theorem dX5_sample_492 : decode cX5_sample 492 = .ok (.iaload, 1) := by decide +kernel
theorem dX5_sample_493 : decode cX5_sample 493 = .ok (.aload_n 0, 1) := by decide +kernel
theorem dX5_sample_494 : decode cX5_sample 494 = .ok (.getfield 144, 3) := by decide +kernel
theorem dX5_sample_497 : decode cX5_sample 497 = .ok (.iload 10, 2) := by decide +kernel
theorem dX5_sample_499 : decode cX5_sample 499 = .ok (.iaload, 1) := by decide +kernel
theorem dX5_sample_500 : decode cX5_sample 500 = .ok (.if_icmp .ge 7, 3) := by decide +kernel
theorem dX5_sample_503 : decode cX5_sample 503 = .ok (.iconst 1, 1) := by decide +kernel
theorem dX5_sample_504 : decode cX5_sample 504 = .ok (.goto 4, 3) := by decide +kernel
theorem dX5_sample_507 : decode cX5_sample 507 = .ok (.iconst 0, 1) := by decide +kernel
theorem dX5_sample_508 : decode cX5_sample 508 = .ok (.iadd, 1) := by decide +kernel
theorem dX5_sample_509 : decode cX5_sample 509 = .ok (.istore 11, 2) := by decide +kernel
theorem dX5_sample_511 : decode cX5_sample 511 = .ok (.iinc 12 1, 3) := by decide +kernel
theorem dX5_sample_514 : decode cX5_sample 514 = .ok (.goto (-127), 3) := by decide +kernel
theorem dX5_sample_517 : decode cX5_sample 517 = .ok (.aload_n 0, 1) := by decide +kernel
theorem dX5_sample_518 : decode cX5_sample 518 = .ok (.getfield 135, 3) := by decide +kernel
theorem dX5_sample_521 : decode cX5_sample 521 = .ok (.iload 8, 2) := by decide +kernel
theorem dX5_sample_523 : decode cX5_sample 523 = .ok (.iload 10, 2) := by decide +kernel
theorem dX5_sample_525 : decode cX5_sample 525 = .ok (.iadd, 1) := by decide +kernel
theorem dX5_sample_526 : decode cX5_sample 526 = .ok (.dup2, 1) := by decide +kernel
theorem dX5_sample_527 : decode cX5_sample 527 = .ok (.iaload, 1) := by decide +kernel
theorem dX5_sample_528 : decode cX5_sample 528 = .ok (.aload_n 0, 1) := by decide +kernel
theorem dX5_sample_529 : decode cX5_sample 529 = .ok (.getfield 144, 3) := by decide +kernel
theorem dX5_sample_532 : decode cX5_sample 532 = .ok (.iload 10, 2) := by decide +kernel
theorem dX5_sample_534 : decode cX5_sample 534 = .ok (.iaload, 1) := by decide +kernel
theorem dX5_sample_535 : decode cX5_sample 535 = .ok (.ldc 244, 2) := by decide +kernel
theorem dX5_sample_537 : decode cX5_sample 537 = .ok (.if_icmp .eq 14, 3) := by decide +kernel
theorem dX5_sample_540 : decode cX5_sample 540 = .ok (.iload 11, 2) := by decide +kernel
theorem dX5_sample_542 : decode cX5_sample 542 = .ok (.iload 9, 2) := by decide +kernel
theorem dX5_sample_544 : decode cX5_sample 544 = .ok (.if_icmp .ge 7, 3) := by decide +kernel
theorem dX5_sample_547 : decode cX5_sample 547 = .ok (.iconst 1, 1) := by decide +kernel
theorem dX5_sample_548 : decode cX5_sample 548 = .ok (.goto 4, 3) := by decide +kernel
theorem dX5_sample_551 : decode cX5_sample 551 = .ok (.iconst 0, 1) := by decide +kernel
theorem dX5_sample_552 : decode cX5_sample 552 = .ok (.iadd, 1) := by decide +kernel
theorem dX5_sample_553 : decode cX5_sample 553 = .ok (.iastore, 1) := by decide +kernel
theorem dX5_sample_554 : decode cX5_sample 554 = .ok (.iinc 10 1, 3) := by decide +kernel
theorem dX5_sample_557 : decode cX5_sample 557 = .ok (.goto (-185), 3) := by decide +kernel
theorem dX5_sample_560 : decode cX5_sample 560 = .ok (.iconst 0, 1) := by decide +kernel
theorem dX5_sample_561 : decode cX5_sample 561 = .ok (.istore 10, 2) := by decide +kernel
theorem dX5_sample_563 : decode cX5_sample 563 = .ok (.iload 10, 2) := by decide +kernel
theorem dX5_sample_565 : decode cX5_sample 565 = .ok (.aload_n 0, 1) := by decide +kernel
theorem dX5_sample_566 : decode cX5_sample 566 = .ok (.getfield 217, 3) := by decide +kernel
theorem dX5_sample_569 : decode cX5_sample 569 = .ok (.if_icmp .ge 124, 3) := by decide +kernel
theorem dX5_sample_572 : decode cX5_sample 572 = .ok (.iconst 0, 1) := by decide +kernel
theorem dX5_sample_573 : decode cX5_sample 573 = .ok (.istore 11, 2) := by decide +kernel
theorem dX5_sample_575 : decode cX5_sample 575 = .ok (.iconst 0, 1) := by decide +kernel
theorem dX5_sample_576 : decode cX5_sample 576 = .ok (.istore 12, 2) := by decide +kernel
theorem dX5_sample_578 : decode cX5_sample 578 = .ok (.iload 12, 2) := by decide +kernel
theorem dX5_sample_580 : decode cX5_sample 580 = .ok (.aload_n 0, 1) := by decide +kernel
theorem dX5_sample_581 : decode cX5_sample 581 = .ok (.getfield 217, 3) := by decide +kernel
theorem dX5_sample_584 : decode cX5_sample 584 = .ok (.if_icmp .ge 61, 3) := by decide +kernel
theorem dX5_sample_587 : decode cX5_sample 587 = .ok (.iload 11, 2) := by decide +kernel
theorem dX5_sample_589 : decode cX5_sample 589 = .ok (.aload_n 0, 1) := by decide +kernel
theorem dX5_sample_590 : decode cX5_sample 590 = .ok (.getfield 144, 3) := by decide +kernel
theorem dX5_sample_593 : decode cX5_sample 593 = .ok (.iload 10, 2) := by decide +kernel
theorem dX5_sample_595 : decode cX5_sample 595 = .ok (.iaload, 1) := by decide +kernel
theorem dX5_sample_596 : decode cX5_sample 596 = .ok (.ldc 244, 2) := by decide +kernel
theorem dX5_sample_598 : decode cX5_sample 598 = .ok (.if_icmp .eq 37, 3) := by decide +kernel
theorem dX5_sample_601 : decode cX5_sample 601 = .ok (.aload_n 0, 1) := by decide +kernel
theorem dX5_sample_602 : decode cX5_sample 602 = .ok (.getfield 144, 3) := by decide +kernel
theorem dX5_sample_605 : decode cX5_sample 605 = .ok (.iload 12, 2) := by decide +kernel
theorem dX5_sample_607 : decode cX5_sample 607 = .ok (.iaload, 1) := by decide +kernel
theorem dX5_sample_608 : decode cX5_sample 608 = .ok (.aload_n 0, 1) := by decide +kernel
theorem dX5_sample_609 : decode cX5_sample 609 = .ok (.getfield 144, 3) := by decide +kernel
theorem dX5_sample_612 : decode cX5_sample 612 = .ok (.iload 10, 2) := by decide +kernel
theorem dX5_sample_614 : decode cX5_sample 614 = .ok (.iaload, 1) := by decide +kernel
theorem dX5_sample_615 : decode cX5_sample 615 = .ok (.if_icmp .ne 20, 3) := by decide +kernel
theorem dX5_sample_618 : decode cX5_sample 618 = .ok (.aload_n 0, 1) := by decide +kernel
theorem dX5_sample_619 : decode cX5_sample 619 = .ok (.iload 6, 2) := by decide +kernel
theorem dX5_sample_621 : decode cX5_sample 621 = .ok (.iload 12, 2) := by decide +kernel
theorem dX5_sample_623 : decode cX5_sample 623 = .ok (.iload 10, 2) := by decide +kernel
theorem dX5_sample_625 : decode cX5_sample 625 = .ok (.invokevirtual 461, 3) := by decide +kernel
theorem dX5_sample_628 : decode cX5_sample 628 = .ok (.ifCond .eq 7, 3) := by decide +kernel
theorem dX5_sample_631 : decode cX5_sample 631 = .ok (.iconst 1, 1) := by decide +kernel
theorem dX5_sample_632 : decode cX5_sample 632 = .ok (.goto 4, 3) := by decide +kernel
theorem dX5_sample_635 : decode cX5_sample 635 = .ok (.iconst 0, 1) := by decide +kernel
theorem dX5_sample_636 : decode cX5_sample 636 = .ok (.iadd, 1) := by decide +kernel
theorem dX5_sample_637 : decode cX5_sample 637 = .ok (.istore 11, 2) := by decide +kernel
theorem dX5_sample_639 : decode cX5_sample 639 = .ok (.iinc 12 1, 3) := by decide +kernel
theorem dX5_sample_642 : decode cX5_sample 642 = .ok (.goto (-64), 3) := by decide +kernel
theorem dX5_sample_645 : decode cX5_sample 645 = .ok (.aload_n 0, 1) := by decide +kernel
theorem dX5_sample_646 : decode cX5_sample 646 = .ok (.getfield 141, 3) := by decide +kernel
theorem dX5_sample_649 : decode cX5_sample 649 = .ok (.iload 8, 2) := by decide +kernel
theorem dX5_sample_651 : decode cX5_sample 651 = .ok (.iload 10, 2) := by decide +kernel
theorem dX5_sample_653 : decode cX5_sample 653 = .ok (.iadd, 1) := by decide +kernel
theorem dX5_sample_654 : decode cX5_sample 654 = .ok (.aload_n 0, 1) := by decide +kernel
theorem dX5_sample_655 : decode cX5_sample 655 = .ok (.getfield 144, 3) := by decide +kernel
theorem dX5_sample_658 : decode cX5_sample 658 = .ok (.iload 10, 2) := by decide +kernel
theorem dX5_sample_660 : decode cX5_sample 660 = .ok (.iaload, 1) := by decide +kernel
theorem dX5_sample_661 : decode cX5_sample 661 = .ok (.ldc 244, 2) := by decide +kernel
theorem dX5_sample_663 : decode cX5_sample 663 = .ok (.if_icmp .eq 22, 3) := by decide +kernel
theorem dX5_sample_666 : decode cX5_sample 666 = .ok (.iload 11, 2) := by decide +kernel
theorem dX5_sample_668 : decode cX5_sample 668 = .ok (.aload_n 0, 1) := by decide +kernel
theorem dX5_sample_669 : decode cX5_sample 669 = .ok (.getfield 135, 3) := by decide +kernel
theorem dX5_sample_672 : decode cX5_sample 672 = .ok (.iload 8, 2) := by decide +kernel
theorem dX5_sample_674 : decode cX5_sample 674 = .ok (.iload 10, 2) := by decide +kernel
theorem dX5_sample_676 : decode cX5_sample 676 = .ok (.iadd, 1) := by decide +kernel
theorem dX5_sample_677 : decode cX5_sample 677 = .ok (.iaload, 1) := by decide +kernel
theorem dX5_sample_678 : decode cX5_sample 678 = .ok (.if_icmp .ge 7, 3) := by decide +kernel
theorem dX5_sample_681 : decode cX5_sample 681 = .ok (.iconst 1, 1) := by decide +kernel
theorem dX5_sample_682 : decode cX5_sample 682 = .ok (.goto 4, 3) := by decide +kernel
theorem dX5_sample_685 : decode cX5_sample 685 = .ok (.iconst 0, 1) := by decide +kernel
theorem dX5_sample_686 : decode cX5_sample 686 = .ok (.bastore, 1) := by decide +kernel
theorem dX5_sample_687 : decode cX5_sample 687 = .ok (.iinc 10 1, 3) := by decide +kernel
theorem dX5_sample_690 : decode cX5_sample 690 = .ok (.goto (-127), 3) := by decide +kernel
theorem dX5_sample_693 : decode cX5_sample 693 = .ok (.aload_n 0, 1) := by decide +kernel
theorem dX5_sample_694 : decode cX5_sample 694 = .ok (.dup, 1) := by decide +kernel
theorem dX5_sample_695 : decode cX5_sample 695 = .ok (.getfield 455, 3) := by decide +kernel
theorem dX5_sample_698 : decode cX5_sample 698 = .ok (.iconst 1, 1) := by decide +kernel
theorem dX5_sample_699 : decode cX5_sample 699 = .ok (.iadd, 1) := by decide +kernel
theorem dX5_sample_700 : decode cX5_sample 700 = .ok (.putfield 455, 3) := by decide +kernel
theorem dX5_sample_703 : decode cX5_sample 703 = .ok (.aload_n 0, 1) := by decide +kernel
theorem dX5_sample_704 : decode cX5_sample 704 = .ok (.getfield 455, 3) := by decide +kernel
theorem dX5_sample_707 : decode cX5_sample 707 = .ok (.iconst 1, 1) := by decide +kernel
theorem dX5_sample_708 : decode cX5_sample 708 = .ok (.isub, 1) := by decide +kernel
theorem dX5_sample_709 : decode cX5_sample 709 = .ok (.ireturn, 1) := by decide +kernel
theorem dX5_isFirst_0 : decode cX5_isFirst 0 = .ok (.aload_n 0, 1) := by decide +kernel
theorem dX5_isFirst_1 : decode cX5_isFirst 1 = .ok (.getfield 144, 3) := by decide +kernel
theorem dX5_isFirst_4 : decode cX5_isFirst 4 = .ok (.iload_n 1, 1) := by decide +kernel
theorem dX5_isFirst_5 : decode cX5_isFirst 5 = .ok (.iaload, 1) := by decide +kernel
theorem dX5_isFirst_6 : decode cX5_isFirst 6 = .ok (.ldc 244, 2) := by decide +kernel
theorem dX5_isFirst_8 : decode cX5_isFirst 8 = .ok (.if_icmp .eq 7, 3) := by decide +kernel
theorem dX5_isFirst_11 : decode cX5_isFirst 11 = .ok (.iconst 1, 1) := by decide +kernel
theorem dX5_isFirst_12 : decode cX5_isFirst 12 = .ok (.goto 4, 3) := by decide +kernel
theorem dX5_isFirst_15 : decode cX5_isFirst 15 = .ok (.iconst 0, 1) := by decide +kernel
theorem dX5_isFirst_16 : decode cX5_isFirst 16 = .ok (.istore_n 2, 1) := by decide +kernel
theorem dX5_isFirst_17 : decode cX5_isFirst 17 = .ok (.iconst 0, 1) := by decide +kernel
theorem dX5_isFirst_18 : decode cX5_isFirst 18 = .ok (.istore_n 3, 1) := by decide +kernel
theorem dX5_isFirst_19 : decode cX5_isFirst 19 = .ok (.iload_n 3, 1) := by decide +kernel
theorem dX5_isFirst_20 : decode cX5_isFirst 20 = .ok (.iload_n 1, 1) := by decide +kernel
theorem dX5_isFirst_21 : decode cX5_isFirst 21 = .ok (.if_icmp .ge 34, 3) := by decide +kernel
theorem dX5_isFirst_24 : decode cX5_isFirst 24 = .ok (.iload_n 2, 1) := by decide +kernel
theorem dX5_isFirst_25 : decode cX5_isFirst 25 = .ok (.ifCond .eq 22, 3) := by decide +kernel
theorem dX5_isFirst_28 : decode cX5_isFirst 28 = .ok (.aload_n 0, 1) := by decide +kernel
theorem dX5_isFirst_29 : decode cX5_isFirst 29 = .ok (.getfield 144, 3) := by decide +kernel
theorem dX5_isFirst_32 : decode cX5_isFirst 32 = .ok (.iload_n 3, 1) := by decide +kernel
theorem dX5_isFirst_33 : decode cX5_isFirst 33 = .ok (.iaload, 1) := by decide +kernel
theorem dX5_isFirst_34 : decode cX5_isFirst 34 = .ok (.aload_n 0, 1) := by decide +kernel
theorem dX5_isFirst_35 : decode cX5_isFirst 35 = .ok (.getfield 144, 3) := by decide +kernel
theorem dX5_isFirst_38 : decode cX5_isFirst 38 = .ok (.iload_n 1, 1) := by decide +kernel
theorem dX5_isFirst_39 : decode cX5_isFirst 39 = .ok (.iaload, 1) := by decide +kernel
theorem dX5_isFirst_40 : decode cX5_isFirst 40 = .ok (.if_icmp .eq 7, 3) := by decide +kernel
theorem dX5_isFirst_43 : decode cX5_isFirst 43 = .ok (.iconst 1, 1) := by decide +kernel
theorem dX5_isFirst_44 : decode cX5_isFirst 44 = .ok (.goto 4, 3) := by decide +kernel
theorem dX5_isFirst_47 : decode cX5_isFirst 47 = .ok (.iconst 0, 1) := by decide +kernel
theorem dX5_isFirst_48 : decode cX5_isFirst 48 = .ok (.istore_n 2, 1) := by decide +kernel
theorem dX5_isFirst_49 : decode cX5_isFirst 49 = .ok (.iinc 3 1, 3) := by decide +kernel
theorem dX5_isFirst_52 : decode cX5_isFirst 52 = .ok (.goto (-33), 3) := by decide +kernel
theorem dX5_isFirst_55 : decode cX5_isFirst 55 = .ok (.iload_n 2, 1) := by decide +kernel
theorem dX5_isFirst_56 : decode cX5_isFirst 56 = .ok (.ireturn, 1) := by decide +kernel
theorem dX5_isBefore_0 : decode cX5_isBefore 0 = .ok (.iload_n 1, 1) := by decide +kernel
theorem dX5_isBefore_1 : decode cX5_isBefore 1 = .ok (.iload_n 2, 1) := by decide +kernel
theorem dX5_isBefore_2 : decode cX5_isBefore 2 = .ok (.invokestatic 452, 3) := by decide +kernel
theorem dX5_isBefore_5 : decode cX5_isBefore 5 = .ok (.istore 4, 2) := by decide +kernel
theorem dX5_isBefore_7 : decode cX5_isBefore 7 = .ok (.iload_n 1, 1) := by decide +kernel
theorem dX5_isBefore_8 : decode cX5_isBefore 8 = .ok (.iload_n 3, 1) := by decide +kernel
theorem dX5_isBefore_9 : decode cX5_isBefore 9 = .ok (.invokestatic 452, 3) := by decide +kernel
theorem dX5_isBefore_12 : decode cX5_isBefore 12 = .ok (.istore 5, 2) := by decide +kernel
theorem dX5_isBefore_14 : decode cX5_isBefore 14 = .ok (.iload 4, 2) := by decide +kernel
theorem dX5_isBefore_16 : decode cX5_isBefore 16 = .ok (.iload 5, 2) := by decide +kernel
theorem dX5_isBefore_18 : decode cX5_isBefore 18 = .ok (.if_icmp .lt 15, 3) := by decide +kernel
theorem dX5_isBefore_21 : decode cX5_isBefore 21 = .ok (.iload 4, 2) := by decide +kernel
theorem dX5_isBefore_23 : decode cX5_isBefore 23 = .ok (.iload 5, 2) := by decide +kernel
theorem dX5_isBefore_25 : decode cX5_isBefore 25 = .ok (.if_icmp .ne 12, 3) := by decide +kernel
theorem dX5_isBefore_28 : decode cX5_isBefore 28 = .ok (.iload_n 2, 1) := by decide +kernel
theorem dX5_isBefore_29 : decode cX5_isBefore 29 = .ok (.iload_n 3, 1) := by decide +kernel
theorem dX5_isBefore_30 : decode cX5_isBefore 30 = .ok (.if_icmp .ge 7, 3) := by decide +kernel
theorem dX5_isBefore_33 : decode cX5_isBefore 33 = .ok (.iconst 1, 1) := by decide +kernel
theorem dX5_isBefore_34 : decode cX5_isBefore 34 = .ok (.goto 4, 3) := by decide +kernel
theorem dX5_isBefore_37 : decode cX5_isBefore 37 = .ok (.iconst 0, 1) := by decide +kernel
theorem dX5_isBefore_38 : decode cX5_isBefore 38 = .ok (.ireturn, 1) := by decide +kernel
theorem dX5_keyOf_0 : decode cX5_keyOf 0 = .ok (.iload_n 0, 1) := by decide +kernel
theorem dX5_keyOf_1 : decode cX5_keyOf 1 = .ok (.iload_n 1, 1) := by decide +kernel
theorem dX5_keyOf_2 : decode cX5_keyOf 2 = .ok (.ldc_w 449, 3) := by decide +kernel
theorem dX5_keyOf_5 : decode cX5_keyOf 5 = .ok (.imul, 1) := by decide +kernel
theorem dX5_keyOf_6 : decode cX5_keyOf 6 = .ok (.ixor, 1) := by decide +kernel
theorem dX5_keyOf_7 : decode cX5_keyOf 7 = .ok (.istore_n 2, 1) := by decide +kernel
theorem dX5_keyOf_8 : decode cX5_keyOf 8 = .ok (.iload_n 2, 1) := by decide +kernel
theorem dX5_keyOf_9 : decode cX5_keyOf 9 = .ok (.ldc_w 450, 3) := by decide +kernel
theorem dX5_keyOf_12 : decode cX5_keyOf 12 = .ok (.imul, 1) := by decide +kernel
theorem dX5_keyOf_13 : decode cX5_keyOf 13 = .ok (.istore_n 2, 1) := by decide +kernel
theorem dX5_keyOf_14 : decode cX5_keyOf 14 = .ok (.iload_n 2, 1) := by decide +kernel
theorem dX5_keyOf_15 : decode cX5_keyOf 15 = .ok (.iload_n 2, 1) := by decide +kernel
theorem dX5_keyOf_16 : decode cX5_keyOf 16 = .ok (.bipush 13, 2) := by decide +kernel
theorem dX5_keyOf_18 : decode cX5_keyOf 18 = .ok (.iushr, 1) := by decide +kernel
theorem dX5_keyOf_19 : decode cX5_keyOf 19 = .ok (.ixor, 1) := by decide +kernel
theorem dX5_keyOf_20 : decode cX5_keyOf 20 = .ok (.istore_n 2, 1) := by decide +kernel
theorem dX5_keyOf_21 : decode cX5_keyOf 21 = .ok (.iload_n 2, 1) := by decide +kernel
theorem dX5_keyOf_22 : decode cX5_keyOf 22 = .ok (.ldc_w 451, 3) := by decide +kernel
theorem dX5_keyOf_25 : decode cX5_keyOf 25 = .ok (.imul, 1) := by decide +kernel
theorem dX5_keyOf_26 : decode cX5_keyOf 26 = .ok (.istore_n 2, 1) := by decide +kernel
theorem dX5_keyOf_27 : decode cX5_keyOf 27 = .ok (.iload_n 2, 1) := by decide +kernel
theorem dX5_keyOf_28 : decode cX5_keyOf 28 = .ok (.iload_n 2, 1) := by decide +kernel
theorem dX5_keyOf_29 : decode cX5_keyOf 29 = .ok (.bipush 16, 2) := by decide +kernel
theorem dX5_keyOf_31 : decode cX5_keyOf 31 = .ok (.iushr, 1) := by decide +kernel
theorem dX5_keyOf_32 : decode cX5_keyOf 32 = .ok (.ixor, 1) := by decide +kernel
theorem dX5_keyOf_33 : decode cX5_keyOf 33 = .ok (.ireturn, 1) := by decide +kernel
theorem dX5_drawn_0 : decode cX5_drawn 0 = .ok (.aload_n 0, 1) := by decide +kernel
theorem dX5_drawn_1 : decode cX5_drawn 1 = .ok (.iconst 0, 1) := by decide +kernel
theorem dX5_drawn_2 : decode cX5_drawn 2 = .ok (.putfield 198, 3) := by decide +kernel
theorem dX5_drawn_5 : decode cX5_drawn 5 = .ok (.aload_n 0, 1) := by decide +kernel
theorem dX5_drawn_6 : decode cX5_drawn 6 = .ok (.iload_n 1, 1) := by decide +kernel
theorem dX5_drawn_7 : decode cX5_drawn 7 = .ok (.invokevirtual 464, 3) := by decide +kernel
theorem dX5_drawn_10 : decode cX5_drawn 10 = .ok (.ifCond .eq 7, 3) := by decide +kernel
theorem dX5_drawn_13 : decode cX5_drawn 13 = .ok (.iload_n 2, 1) := by decide +kernel
theorem dX5_drawn_14 : decode cX5_drawn 14 = .ok (.ifCond .ge 9, 3) := by decide +kernel
theorem dX5_drawn_17 : decode cX5_drawn 17 = .ok (.aload_n 0, 1) := by decide +kernel
theorem dX5_drawn_18 : decode cX5_drawn 18 = .ok (.iconst 1, 1) := by decide +kernel
theorem dX5_drawn_19 : decode cX5_drawn 19 = .ok (.invokevirtual 213, 3) := by decide +kernel
theorem dX5_drawn_22 : decode cX5_drawn 22 = .ok (.ireturn, 1) := by decide +kernel
theorem dX5_drawn_23 : decode cX5_drawn 23 = .ok (.iconst 0, 1) := by decide +kernel
theorem dX5_drawn_24 : decode cX5_drawn 24 = .ok (.istore_n 3, 1) := by decide +kernel
theorem dX5_drawn_25 : decode cX5_drawn 25 = .ok (.iconst 0, 1) := by decide +kernel
theorem dX5_drawn_26 : decode cX5_drawn 26 = .ok (.istore 4, 2) := by decide +kernel
theorem dX5_drawn_28 : decode cX5_drawn 28 = .ok (.iload 4, 2) := by decide +kernel
theorem dX5_drawn_30 : decode cX5_drawn 30 = .ok (.bipush 100, 2) := by decide +kernel
theorem dX5_drawn_32 : decode cX5_drawn 32 = .ok (.if_icmp .ge 35, 3) := by decide +kernel
theorem dX5_drawn_35 : decode cX5_drawn 35 = .ok (.aload_n 0, 1) := by decide +kernel
theorem dX5_drawn_36 : decode cX5_drawn 36 = .ok (.getfield 141, 3) := by decide +kernel
theorem dX5_drawn_39 : decode cX5_drawn 39 = .ok (.bipush 100, 2) := by decide +kernel
theorem dX5_drawn_41 : decode cX5_drawn 41 = .ok (.iload_n 1, 1) := by decide +kernel
theorem dX5_drawn_42 : decode cX5_drawn 42 = .ok (.imul, 1) := by decide +kernel
theorem dX5_drawn_43 : decode cX5_drawn 43 = .ok (.iload 4, 2) := by decide +kernel
theorem dX5_drawn_45 : decode cX5_drawn 45 = .ok (.iadd, 1) := by decide +kernel
theorem dX5_drawn_46 : decode cX5_drawn 46 = .ok (.baload, 1) := by decide +kernel
theorem dX5_drawn_47 : decode cX5_drawn 47 = .ok (.ifCond .eq 14, 3) := by decide +kernel
theorem dX5_drawn_50 : decode cX5_drawn 50 = .ok (.iload_n 3, 1) := by decide +kernel
theorem dX5_drawn_51 : decode cX5_drawn 51 = .ok (.iload_n 2, 1) := by decide +kernel
theorem dX5_drawn_52 : decode cX5_drawn 52 = .ok (.if_icmp .ne 6, 3) := by decide +kernel
theorem dX5_drawn_55 : decode cX5_drawn 55 = .ok (.iload 4, 2) := by decide +kernel
theorem dX5_drawn_57 : decode cX5_drawn 57 = .ok (.ireturn, 1) := by decide +kernel
theorem dX5_drawn_58 : decode cX5_drawn 58 = .ok (.iinc 3 1, 3) := by decide +kernel
theorem dX5_drawn_61 : decode cX5_drawn 61 = .ok (.iinc 4 1, 3) := by decide +kernel
theorem dX5_drawn_64 : decode cX5_drawn 64 = .ok (.goto (-36), 3) := by decide +kernel
theorem dX5_drawn_67 : decode cX5_drawn 67 = .ok (.iconst (-1), 1) := by decide +kernel
theorem dX5_drawn_68 : decode cX5_drawn 68 = .ok (.ireturn, 1) := by decide +kernel
theorem dX5_isSample_0 : decode cX5_isSample 0 = .ok (.iload_n 1, 1) := by decide +kernel
theorem dX5_isSample_1 : decode cX5_isSample 1 = .ok (.i2l, 1) := by decide +kernel
theorem dX5_isSample_2 : decode cX5_isSample 2 = .ok (.lconst 0, 1) := by decide +kernel
theorem dX5_isSample_3 : decode cX5_isSample 3 = .ok (.aload_n 0, 1) := by decide +kernel
theorem dX5_isSample_4 : decode cX5_isSample 4 = .ok (.getfield 455, 3) := by decide +kernel
theorem dX5_isSample_7 : decode cX5_isSample 7 = .ok (.iconst 1, 1) := by decide +kernel
theorem dX5_isSample_8 : decode cX5_isSample 8 = .ok (.isub, 1) := by decide +kernel
theorem dX5_isSample_9 : decode cX5_isSample 9 = .ok (.i2l, 1) := by decide +kernel
theorem dX5_isSample_10 : decode cX5_isSample 10 = .ok (.invokestatic 207, 3) := by decide +kernel
theorem dX5_isSample_13 : decode cX5_isSample 13 = .ok (.ireturn, 1) := by decide +kernel
theorem dX5_chance_0 : decode cX5_chance 0 = .ok (.aload_n 0, 1) := by decide +kernel
theorem dX5_chance_1 : decode cX5_chance 1 = .ok (.iconst 0, 1) := by decide +kernel
theorem dX5_chance_2 : decode cX5_chance 2 = .ok (.putfield 198, 3) := by decide +kernel
theorem dX5_chance_5 : decode cX5_chance 5 = .ok (.aload_n 0, 1) := by decide +kernel
theorem dX5_chance_6 : decode cX5_chance 6 = .ok (.iload_n 1, 1) := by decide +kernel
theorem dX5_chance_7 : decode cX5_chance 7 = .ok (.invokevirtual 464, 3) := by decide +kernel
theorem dX5_chance_10 : decode cX5_chance 10 = .ok (.ifCond .eq 11, 3) := by decide +kernel
theorem dX5_chance_13 : decode cX5_chance 13 = .ok (.aload_n 0, 1) := by decide +kernel
theorem dX5_chance_14 : decode cX5_chance 14 = .ok (.iload_n 2, 1) := by decide +kernel
theorem dX5_chance_15 : decode cX5_chance 15 = .ok (.invokevirtual 220, 3) := by decide +kernel
theorem dX5_chance_18 : decode cX5_chance 18 = .ok (.ifCond .ne 9, 3) := by decide +kernel
theorem dX5_chance_21 : decode cX5_chance 21 = .ok (.aload_n 0, 1) := by decide +kernel
theorem dX5_chance_22 : decode cX5_chance 22 = .ok (.iconst 1, 1) := by decide +kernel
theorem dX5_chance_23 : decode cX5_chance 23 = .ok (.invokevirtual 213, 3) := by decide +kernel
theorem dX5_chance_26 : decode cX5_chance 26 = .ok (.ireturn, 1) := by decide +kernel
theorem dX5_chance_27 : decode cX5_chance 27 = .ok (.aload_n 0, 1) := by decide +kernel
theorem dX5_chance_28 : decode cX5_chance 28 = .ok (.getfield 135, 3) := by decide +kernel
theorem dX5_chance_31 : decode cX5_chance 31 = .ok (.bipush 100, 2) := by decide +kernel
theorem dX5_chance_33 : decode cX5_chance 33 = .ok (.iload_n 1, 1) := by decide +kernel
theorem dX5_chance_34 : decode cX5_chance 34 = .ok (.imul, 1) := by decide +kernel
theorem dX5_chance_35 : decode cX5_chance 35 = .ok (.iload_n 2, 1) := by decide +kernel
theorem dX5_chance_36 : decode cX5_chance 36 = .ok (.iadd, 1) := by decide +kernel
theorem dX5_chance_37 : decode cX5_chance 37 = .ok (.iaload, 1) := by decide +kernel
theorem dX5_chance_38 : decode cX5_chance 38 = .ok (.istore 4, 2) := by decide +kernel
theorem dX5_chance_40 : decode cX5_chance 40 = .ok (.aload_n 0, 1) := by decide +kernel
theorem dX5_chance_41 : decode cX5_chance 41 = .ok (.getfield 138, 3) := by decide +kernel
theorem dX5_chance_44 : decode cX5_chance 44 = .ok (.bipush 100, 2) := by decide +kernel
theorem dX5_chance_46 : decode cX5_chance 46 = .ok (.iload_n 1, 1) := by decide +kernel
theorem dX5_chance_47 : decode cX5_chance 47 = .ok (.imul, 1) := by decide +kernel
theorem dX5_chance_48 : decode cX5_chance 48 = .ok (.iload_n 2, 1) := by decide +kernel
theorem dX5_chance_49 : decode cX5_chance 49 = .ok (.iadd, 1) := by decide +kernel
theorem dX5_chance_50 : decode cX5_chance 50 = .ok (.iaload, 1) := by decide +kernel
theorem dX5_chance_51 : decode cX5_chance 51 = .ok (.istore 5, 2) := by decide +kernel
theorem dX5_chance_53 : decode cX5_chance 53 = .ok (.iload 5, 2) := by decide +kernel
theorem dX5_chance_55 : decode cX5_chance 55 = .ok (.ifCond .ne 13, 3) := by decide +kernel
theorem dX5_chance_58 : decode cX5_chance 58 = .ok (.iload_n 3, 1) := by decide +kernel
theorem dX5_chance_59 : decode cX5_chance 59 = .ok (.ifCond .eq 7, 3) := by decide +kernel
theorem dX5_chance_62 : decode cX5_chance 62 = .ok (.iconst 1, 1) := by decide +kernel
theorem dX5_chance_63 : decode cX5_chance 63 = .ok (.goto 4, 3) := by decide +kernel
theorem dX5_chance_66 : decode cX5_chance 66 = .ok (.iconst 0, 1) := by decide +kernel
theorem dX5_chance_67 : decode cX5_chance 67 = .ok (.ireturn, 1) := by decide +kernel
theorem dX5_chance_68 : decode cX5_chance 68 = .ok (.iload 4, 2) := by decide +kernel
theorem dX5_chance_70 : decode cX5_chance 70 = .ok (.iload 5, 2) := by decide +kernel
theorem dX5_chance_72 : decode cX5_chance 72 = .ok (.invokestatic 467, 3) := by decide +kernel
theorem dX5_chance_75 : decode cX5_chance 75 = .ok (.istore 6, 2) := by decide +kernel
theorem dX5_chance_77 : decode cX5_chance 77 = .ok (.iload_n 3, 1) := by decide +kernel
theorem dX5_chance_78 : decode cX5_chance 78 = .ok (.ifCond .eq 11, 3) := by decide +kernel
theorem dX5_chance_81 : decode cX5_chance 81 = .ok (.iload 5, 2) := by decide +kernel
theorem dX5_chance_83 : decode cX5_chance 83 = .ok (.iload 6, 2) := by decide +kernel
theorem dX5_chance_85 : decode cX5_chance 85 = .ok (.idiv, 1) := by decide +kernel
theorem dX5_chance_86 : decode cX5_chance 86 = .ok (.goto 8, 3) := by decide +kernel
theorem dX5_chance_89 : decode cX5_chance 89 = .ok (.iload 4, 2) := by decide +kernel
theorem dX5_chance_91 : decode cX5_chance 91 = .ok (.iload 6, 2) := by decide +kernel
theorem dX5_chance_93 : decode cX5_chance 93 = .ok (.idiv, 1) := by decide +kernel
theorem dX5_chance_94 : decode cX5_chance 94 = .ok (.ireturn, 1) := by decide +kernel
theorem dX5_divisor_0 : decode cX5_divisor 0 = .ok (.iload_n 0, 1) := by decide +kernel
theorem dX5_divisor_1 : decode cX5_divisor 1 = .ok (.istore_n 2, 1) := by decide +kernel
theorem dX5_divisor_2 : decode cX5_divisor 2 = .ok (.iload_n 1, 1) := by decide +kernel
theorem dX5_divisor_3 : decode cX5_divisor 3 = .ok (.istore_n 3, 1) := by decide +kernel
theorem dX5_divisor_4 : decode cX5_divisor 4 = .ok (.iload_n 3, 1) := by decide +kernel
theorem dX5_divisor_5 : decode cX5_divisor 5 = .ok (.ifCond .le 16, 3) := by decide +kernel
theorem dX5_divisor_8 : decode cX5_divisor 8 = .ok (.iload_n 2, 1) := by decide +kernel
theorem dX5_divisor_9 : decode cX5_divisor 9 = .ok (.iload_n 3, 1) := by decide +kernel
theorem dX5_divisor_10 : decode cX5_divisor 10 = .ok (.irem, 1) := by decide +kernel
theorem dX5_divisor_11 : decode cX5_divisor 11 = .ok (.istore 4, 2) := by decide +kernel
theorem dX5_divisor_13 : decode cX5_divisor 13 = .ok (.iload_n 3, 1) := by decide +kernel
theorem dX5_divisor_14 : decode cX5_divisor 14 = .ok (.istore_n 2, 1) := by decide +kernel
theorem dX5_divisor_15 : decode cX5_divisor 15 = .ok (.iload 4, 2) := by decide +kernel
theorem dX5_divisor_17 : decode cX5_divisor 17 = .ok (.istore_n 3, 1) := by decide +kernel
theorem dX5_divisor_18 : decode cX5_divisor 18 = .ok (.goto (-14), 3) := by decide +kernel
theorem dX5_divisor_21 : decode cX5_divisor 21 = .ok (.iload_n 2, 1) := by decide +kernel
theorem dX5_divisor_22 : decode cX5_divisor 22 = .ok (.ireturn, 1) := by decide +kernel
theorem dX5_overlap_0 : decode cX5_overlap 0 = .ok (.aload_n 0, 1) := by decide +kernel
theorem dX5_overlap_1 : decode cX5_overlap 1 = .ok (.iconst 0, 1) := by decide +kernel
theorem dX5_overlap_2 : decode cX5_overlap 2 = .ok (.putfield 198, 3) := by decide +kernel
theorem dX5_overlap_5 : decode cX5_overlap 5 = .ok (.aload_n 0, 1) := by decide +kernel
theorem dX5_overlap_6 : decode cX5_overlap 6 = .ok (.iload_n 1, 1) := by decide +kernel
theorem dX5_overlap_7 : decode cX5_overlap 7 = .ok (.invokevirtual 464, 3) := by decide +kernel
theorem dX5_overlap_10 : decode cX5_overlap 10 = .ok (.ifCond .eq 11, 3) := by decide +kernel
theorem dX5_overlap_13 : decode cX5_overlap 13 = .ok (.aload_n 0, 1) := by decide +kernel
theorem dX5_overlap_14 : decode cX5_overlap 14 = .ok (.iload_n 2, 1) := by decide +kernel
theorem dX5_overlap_15 : decode cX5_overlap 15 = .ok (.invokevirtual 464, 3) := by decide +kernel
theorem dX5_overlap_18 : decode cX5_overlap 18 = .ok (.ifCond .ne 9, 3) := by decide +kernel
theorem dX5_overlap_21 : decode cX5_overlap 21 = .ok (.aload_n 0, 1) := by decide +kernel
theorem dX5_overlap_22 : decode cX5_overlap 22 = .ok (.iconst 1, 1) := by decide +kernel
theorem dX5_overlap_23 : decode cX5_overlap 23 = .ok (.invokevirtual 213, 3) := by decide +kernel
theorem dX5_overlap_26 : decode cX5_overlap 26 = .ok (.ireturn, 1) := by decide +kernel
theorem dX5_overlap_27 : decode cX5_overlap 27 = .ok (.iconst 0, 1) := by decide +kernel
theorem dX5_overlap_28 : decode cX5_overlap 28 = .ok (.istore_n 3, 1) := by decide +kernel
theorem dX5_overlap_29 : decode cX5_overlap 29 = .ok (.iconst 0, 1) := by decide +kernel
theorem dX5_overlap_30 : decode cX5_overlap 30 = .ok (.istore 4, 2) := by decide +kernel
theorem dX5_overlap_32 : decode cX5_overlap 32 = .ok (.iload 4, 2) := by decide +kernel
theorem dX5_overlap_34 : decode cX5_overlap 34 = .ok (.bipush 100, 2) := by decide +kernel
theorem dX5_overlap_36 : decode cX5_overlap 36 = .ok (.if_icmp .ge 47, 3) := by decide +kernel
theorem dX5_overlap_39 : decode cX5_overlap 39 = .ok (.iload_n 3, 1) := by decide +kernel
theorem dX5_overlap_40 : decode cX5_overlap 40 = .ok (.aload_n 0, 1) := by decide +kernel
theorem dX5_overlap_41 : decode cX5_overlap 41 = .ok (.getfield 141, 3) := by decide +kernel
theorem dX5_overlap_44 : decode cX5_overlap 44 = .ok (.bipush 100, 2) := by decide +kernel
theorem dX5_overlap_46 : decode cX5_overlap 46 = .ok (.iload_n 1, 1) := by decide +kernel
theorem dX5_overlap_47 : decode cX5_overlap 47 = .ok (.imul, 1) := by decide +kernel
theorem dX5_overlap_48 : decode cX5_overlap 48 = .ok (.iload 4, 2) := by decide +kernel
theorem dX5_overlap_50 : decode cX5_overlap 50 = .ok (.iadd, 1) := by decide +kernel
theorem dX5_overlap_51 : decode cX5_overlap 51 = .ok (.baload, 1) := by decide +kernel
theorem dX5_overlap_52 : decode cX5_overlap 52 = .ok (.ifCond .eq 22, 3) := by decide +kernel
theorem dX5_overlap_55 : decode cX5_overlap 55 = .ok (.aload_n 0, 1) := by decide +kernel
theorem dX5_overlap_56 : decode cX5_overlap 56 = .ok (.getfield 141, 3) := by decide +kernel
theorem dX5_overlap_59 : decode cX5_overlap 59 = .ok (.bipush 100, 2) := by decide +kernel
theorem dX5_overlap_61 : decode cX5_overlap 61 = .ok (.iload_n 2, 1) := by decide +kernel
theorem dX5_overlap_62 : decode cX5_overlap 62 = .ok (.imul, 1) := by decide +kernel
theorem dX5_overlap_63 : decode cX5_overlap 63 = .ok (.iload 4, 2) := by decide +kernel
theorem dX5_overlap_65 : decode cX5_overlap 65 = .ok (.iadd, 1) := by decide +kernel
theorem dX5_overlap_66 : decode cX5_overlap 66 = .ok (.baload, 1) := by decide +kernel
theorem dX5_overlap_67 : decode cX5_overlap 67 = .ok (.ifCond .eq 7, 3) := by decide +kernel
theorem dX5_overlap_70 : decode cX5_overlap 70 = .ok (.iconst 1, 1) := by decide +kernel
theorem dX5_overlap_71 : decode cX5_overlap 71 = .ok (.goto 4, 3) := by decide +kernel
theorem dX5_overlap_74 : decode cX5_overlap 74 = .ok (.iconst 0, 1) := by decide +kernel
theorem dX5_overlap_75 : decode cX5_overlap 75 = .ok (.iadd, 1) := by decide +kernel
theorem dX5_overlap_76 : decode cX5_overlap 76 = .ok (.istore_n 3, 1) := by decide +kernel
theorem dX5_overlap_77 : decode cX5_overlap 77 = .ok (.iinc 4 1, 3) := by decide +kernel
theorem dX5_overlap_80 : decode cX5_overlap 80 = .ok (.goto (-48), 3) := by decide +kernel
theorem dX5_overlap_83 : decode cX5_overlap 83 = .ok (.iload_n 3, 1) := by decide +kernel
theorem dX5_overlap_84 : decode cX5_overlap 84 = .ok (.ireturn, 1) := by decide +kernel
theorem dX5_table_0 : decode cX5_table 0 = .ok (.aload_n 0, 1) := by decide +kernel
theorem dX5_table_1 : decode cX5_table 1 = .ok (.iconst 0, 1) := by decide +kernel
theorem dX5_table_2 : decode cX5_table 2 = .ok (.putfield 198, 3) := by decide +kernel
theorem dX5_table_5 : decode cX5_table 5 = .ok (.aload_n 0, 1) := by decide +kernel
theorem dX5_table_6 : decode cX5_table 6 = .ok (.iload_n 1, 1) := by decide +kernel
theorem dX5_table_7 : decode cX5_table 7 = .ok (.iload_n 2, 1) := by decide +kernel
theorem dX5_table_8 : decode cX5_table 8 = .ok (.invokevirtual 352, 3) := by decide +kernel
theorem dX5_table_11 : decode cX5_table 11 = .ok (.ifCond .eq 43, 3) := by decide +kernel
theorem dX5_table_14 : decode cX5_table 14 = .ok (.aload_n 0, 1) := by decide +kernel
theorem dX5_table_15 : decode cX5_table 15 = .ok (.iload_n 1, 1) := by decide +kernel
theorem dX5_table_16 : decode cX5_table 16 = .ok (.iload_n 3, 1) := by decide +kernel
theorem dX5_table_17 : decode cX5_table 17 = .ok (.invokevirtual 352, 3) := by decide +kernel
theorem dX5_table_20 : decode cX5_table 20 = .ok (.ifCond .eq 34, 3) := by decide +kernel
theorem dX5_table_23 : decode cX5_table 23 = .ok (.iload 4, 2) := by decide +kernel
theorem dX5_table_25 : decode cX5_table 25 = .ok (.iconst (-1), 1) := by decide +kernel
theorem dX5_table_26 : decode cX5_table 26 = .ok (.if_icmp .eq 13, 3) := by decide +kernel
theorem dX5_table_29 : decode cX5_table 29 = .ok (.aload_n 0, 1) := by decide +kernel
theorem dX5_table_30 : decode cX5_table 30 = .ok (.iload_n 1, 1) := by decide +kernel
theorem dX5_table_31 : decode cX5_table 31 = .ok (.iload 4, 2) := by decide +kernel
theorem dX5_table_33 : decode cX5_table 33 = .ok (.invokevirtual 352, 3) := by decide +kernel
theorem dX5_table_36 : decode cX5_table 36 = .ok (.ifCond .eq 18, 3) := by decide +kernel
theorem dX5_table_39 : decode cX5_table 39 = .ok (.iload 5, 2) := by decide +kernel
theorem dX5_table_41 : decode cX5_table 41 = .ok (.iconst (-1), 1) := by decide +kernel
theorem dX5_table_42 : decode cX5_table 42 = .ok (.if_icmp .eq 18, 3) := by decide +kernel
theorem dX5_table_45 : decode cX5_table 45 = .ok (.aload_n 0, 1) := by decide +kernel
theorem dX5_table_46 : decode cX5_table 46 = .ok (.iload 5, 2) := by decide +kernel
theorem dX5_table_48 : decode cX5_table 48 = .ok (.invokevirtual 464, 3) := by decide +kernel
theorem dX5_table_51 : decode cX5_table 51 = .ok (.ifCond .ne 9, 3) := by decide +kernel
theorem dX5_table_54 : decode cX5_table 54 = .ok (.aload_n 0, 1) := by decide +kernel
theorem dX5_table_55 : decode cX5_table 55 = .ok (.iconst 1, 1) := by decide +kernel
theorem dX5_table_56 : decode cX5_table 56 = .ok (.invokevirtual 213, 3) := by decide +kernel
theorem dX5_table_59 : decode cX5_table 59 = .ok (.ireturn, 1) := by decide +kernel
theorem dX5_table_60 : decode cX5_table 60 = .ok (.bipush 20, 2) := by decide +kernel
theorem dX5_table_62 : decode cX5_table 62 = .ok (.iload_n 1, 1) := by decide +kernel
theorem dX5_table_63 : decode cX5_table 63 = .ok (.imul, 1) := by decide +kernel
theorem dX5_table_64 : decode cX5_table 64 = .ok (.istore 6, 2) := by decide +kernel
theorem dX5_table_66 : decode cX5_table 66 = .ok (.aload_n 0, 1) := by decide +kernel
theorem dX5_table_67 : decode cX5_table 67 = .ok (.iload_n 1, 1) := by decide +kernel
theorem dX5_table_68 : decode cX5_table 68 = .ok (.iload_n 2, 1) := by decide +kernel
theorem dX5_table_69 : decode cX5_table 69 = .ok (.invokevirtual 407, 3) := by decide +kernel
theorem dX5_table_72 : decode cX5_table 72 = .ok (.ifCond .eq 83, 3) := by decide +kernel
theorem dX5_table_75 : decode cX5_table 75 = .ok (.aload_n 0, 1) := by decide +kernel
theorem dX5_table_76 : decode cX5_table 76 = .ok (.iload_n 1, 1) := by decide +kernel
theorem dX5_table_77 : decode cX5_table 77 = .ok (.iload_n 3, 1) := by decide +kernel
theorem dX5_table_78 : decode cX5_table 78 = .ok (.invokevirtual 407, 3) := by decide +kernel
theorem dX5_table_81 : decode cX5_table 81 = .ok (.ifCond .eq 74, 3) := by decide +kernel
theorem dX5_table_84 : decode cX5_table 84 = .ok (.iload_n 2, 1) := by decide +kernel
theorem dX5_table_85 : decode cX5_table 85 = .ok (.iload_n 3, 1) := by decide +kernel
theorem dX5_table_86 : decode cX5_table 86 = .ok (.if_icmp .eq 69, 3) := by decide +kernel
theorem dX5_table_89 : decode cX5_table 89 = .ok (.iload 4, 2) := by decide +kernel
theorem dX5_table_91 : decode cX5_table 91 = .ok (.iconst (-1), 1) := by decide +kernel
theorem dX5_table_92 : decode cX5_table 92 = .ok (.if_icmp .eq 17, 3) := by decide +kernel
theorem dX5_table_95 : decode cX5_table 95 = .ok (.aload_n 0, 1) := by decide +kernel
theorem dX5_table_96 : decode cX5_table 96 = .ok (.getfield 37, 3) := by decide +kernel
theorem dX5_table_99 : decode cX5_table 99 = .ok (.iload 6, 2) := by decide +kernel
theorem dX5_table_101 : decode cX5_table 101 = .ok (.iload 4, 2) := by decide +kernel
theorem dX5_table_103 : decode cX5_table 103 = .ok (.iadd, 1) := by decide +kernel
theorem dX5_table_104 : decode cX5_table 104 = .ok (.iaload, 1) := by decide +kernel
theorem dX5_table_105 : decode cX5_table 105 = .ok (.iconst 1, 1) := by decide +kernel
theorem dX5_table_106 : decode cX5_table 106 = .ok (.if_icmp .gt 49, 3) := by decide +kernel
theorem dX5_table_109 : decode cX5_table 109 = .ok (.aload_n 0, 1) := by decide +kernel
theorem dX5_table_110 : decode cX5_table 110 = .ok (.getfield 47, 3) := by decide +kernel
theorem dX5_table_113 : decode cX5_table 113 = .ok (.iload 6, 2) := by decide +kernel
theorem dX5_table_115 : decode cX5_table 115 = .ok (.iload_n 2, 1) := by decide +kernel
theorem dX5_table_116 : decode cX5_table 116 = .ok (.iadd, 1) := by decide +kernel
theorem dX5_table_117 : decode cX5_table 117 = .ok (.iaload, 1) := by decide +kernel
theorem dX5_table_118 : decode cX5_table 118 = .ok (.aload_n 0, 1) := by decide +kernel
theorem dX5_table_119 : decode cX5_table 119 = .ok (.getfield 44, 3) := by decide +kernel
theorem dX5_table_122 : decode cX5_table 122 = .ok (.iload 6, 2) := by decide +kernel
theorem dX5_table_124 : decode cX5_table 124 = .ok (.iload_n 2, 1) := by decide +kernel
theorem dX5_table_125 : decode cX5_table 125 = .ok (.iadd, 1) := by decide +kernel
theorem dX5_table_126 : decode cX5_table 126 = .ok (.iaload, 1) := by decide +kernel
theorem dX5_table_127 : decode cX5_table 127 = .ok (.isub, 1) := by decide +kernel
theorem dX5_table_128 : decode cX5_table 128 = .ok (.iconst 3, 1) := by decide +kernel
theorem dX5_table_129 : decode cX5_table 129 = .ok (.if_icmp .gt 26, 3) := by decide +kernel
theorem dX5_table_132 : decode cX5_table 132 = .ok (.aload_n 0, 1) := by decide +kernel
theorem dX5_table_133 : decode cX5_table 133 = .ok (.getfield 47, 3) := by decide +kernel
theorem dX5_table_136 : decode cX5_table 136 = .ok (.iload 6, 2) := by decide +kernel
theorem dX5_table_138 : decode cX5_table 138 = .ok (.iload_n 3, 1) := by decide +kernel
theorem dX5_table_139 : decode cX5_table 139 = .ok (.iadd, 1) := by decide +kernel
theorem dX5_table_140 : decode cX5_table 140 = .ok (.iaload, 1) := by decide +kernel
theorem dX5_table_141 : decode cX5_table 141 = .ok (.aload_n 0, 1) := by decide +kernel
theorem dX5_table_142 : decode cX5_table 142 = .ok (.getfield 44, 3) := by decide +kernel
theorem dX5_table_145 : decode cX5_table 145 = .ok (.iload 6, 2) := by decide +kernel
theorem dX5_table_147 : decode cX5_table 147 = .ok (.iload_n 3, 1) := by decide +kernel
theorem dX5_table_148 : decode cX5_table 148 = .ok (.iadd, 1) := by decide +kernel
theorem dX5_table_149 : decode cX5_table 149 = .ok (.iaload, 1) := by decide +kernel
theorem dX5_table_150 : decode cX5_table 150 = .ok (.isub, 1) := by decide +kernel
theorem dX5_table_151 : decode cX5_table 151 = .ok (.iconst 2, 1) := by decide +kernel
theorem dX5_table_152 : decode cX5_table 152 = .ok (.if_icmp .le 9, 3) := by decide +kernel
theorem dX5_table_155 : decode cX5_table 155 = .ok (.aload_n 0, 1) := by decide +kernel
theorem dX5_table_156 : decode cX5_table 156 = .ok (.iconst 2, 1) := by decide +kernel
theorem dX5_table_157 : decode cX5_table 157 = .ok (.invokevirtual 213, 3) := by decide +kernel
theorem dX5_table_160 : decode cX5_table 160 = .ok (.ireturn, 1) := by decide +kernel
theorem dX5_table_161 : decode cX5_table 161 = .ok (.aload_n 0, 1) := by decide +kernel
theorem dX5_table_162 : decode cX5_table 162 = .ok (.getfield 470, 3) := by decide +kernel
theorem dX5_table_165 : decode cX5_table 165 = .ok (.bipush 12, 2) := by decide +kernel
theorem dX5_table_167 : decode cX5_table 167 = .ok (.if_icmp .ne 9, 3) := by decide +kernel
theorem dX5_table_170 : decode cX5_table 170 = .ok (.aload_n 0, 1) := by decide +kernel
theorem dX5_table_171 : decode cX5_table 171 = .ok (.iconst 3, 1) := by decide +kernel
theorem dX5_table_172 : decode cX5_table 172 = .ok (.invokevirtual 213, 3) := by decide +kernel
theorem dX5_table_175 : decode cX5_table 175 = .ok (.ireturn, 1) := by decide +kernel
theorem dX5_table_176 : decode cX5_table 176 = .ok (.aload_n 0, 1) := by decide +kernel
theorem dX5_table_177 : decode cX5_table 177 = .ok (.getfield 470, 3) := by decide +kernel
theorem dX5_table_180 : decode cX5_table 180 = .ok (.istore 7, 2) := by decide +kernel
theorem dX5_table_182 : decode cX5_table 182 = .ok (.aload_n 0, 1) := by decide +kernel
theorem dX5_table_183 : decode cX5_table 183 = .ok (.getfield 147, 3) := by decide +kernel
theorem dX5_table_186 : decode cX5_table 186 = .ok (.iload 7, 2) := by decide +kernel
theorem dX5_table_188 : decode cX5_table 188 = .ok (.aload_n 0, 1) := by decide +kernel
theorem dX5_table_189 : decode cX5_table 189 = .ok (.getfield 47, 3) := by decide +kernel
theorem dX5_table_192 : decode cX5_table 192 = .ok (.iload 6, 2) := by decide +kernel
theorem dX5_table_194 : decode cX5_table 194 = .ok (.iload_n 2, 1) := by decide +kernel
theorem dX5_table_195 : decode cX5_table 195 = .ok (.iadd, 1) := by decide +kernel
theorem dX5_table_196 : decode cX5_table 196 = .ok (.iaload, 1) := by decide +kernel
theorem dX5_table_197 : decode cX5_table 197 = .ok (.aload_n 0, 1) := by decide +kernel
theorem dX5_table_198 : decode cX5_table 198 = .ok (.getfield 44, 3) := by decide +kernel
theorem dX5_table_201 : decode cX5_table 201 = .ok (.iload 6, 2) := by decide +kernel
theorem dX5_table_203 : decode cX5_table 203 = .ok (.iload_n 2, 1) := by decide +kernel
theorem dX5_table_204 : decode cX5_table 204 = .ok (.iadd, 1) := by decide +kernel
theorem dX5_table_205 : decode cX5_table 205 = .ok (.iaload, 1) := by decide +kernel
theorem dX5_table_206 : decode cX5_table 206 = .ok (.isub, 1) := by decide +kernel
theorem dX5_table_207 : decode cX5_table 207 = .ok (.iconst 1, 1) := by decide +kernel
theorem dX5_table_208 : decode cX5_table 208 = .ok (.iadd, 1) := by decide +kernel
theorem dX5_table_209 : decode cX5_table 209 = .ok (.iastore, 1) := by decide +kernel
theorem dX5_table_210 : decode cX5_table 210 = .ok (.aload_n 0, 1) := by decide +kernel
theorem dX5_table_211 : decode cX5_table 211 = .ok (.getfield 150, 3) := by decide +kernel
theorem dX5_table_214 : decode cX5_table 214 = .ok (.iload 7, 2) := by decide +kernel
theorem dX5_table_216 : decode cX5_table 216 = .ok (.aload_n 0, 1) := by decide +kernel
theorem dX5_table_217 : decode cX5_table 217 = .ok (.getfield 47, 3) := by decide +kernel
theorem dX5_table_220 : decode cX5_table 220 = .ok (.iload 6, 2) := by decide +kernel
theorem dX5_table_222 : decode cX5_table 222 = .ok (.iload_n 3, 1) := by decide +kernel
theorem dX5_table_223 : decode cX5_table 223 = .ok (.iadd, 1) := by decide +kernel
theorem dX5_table_224 : decode cX5_table 224 = .ok (.iaload, 1) := by decide +kernel
theorem dX5_table_225 : decode cX5_table 225 = .ok (.aload_n 0, 1) := by decide +kernel
theorem dX5_table_226 : decode cX5_table 226 = .ok (.getfield 44, 3) := by decide +kernel
theorem dX5_table_229 : decode cX5_table 229 = .ok (.iload 6, 2) := by decide +kernel
theorem dX5_table_231 : decode cX5_table 231 = .ok (.iload_n 3, 1) := by decide +kernel
theorem dX5_table_232 : decode cX5_table 232 = .ok (.iadd, 1) := by decide +kernel
theorem dX5_table_233 : decode cX5_table 233 = .ok (.iaload, 1) := by decide +kernel
theorem dX5_table_234 : decode cX5_table 234 = .ok (.isub, 1) := by decide +kernel
theorem dX5_table_235 : decode cX5_table 235 = .ok (.iconst 1, 1) := by decide +kernel
theorem dX5_table_236 : decode cX5_table 236 = .ok (.iadd, 1) := by decide +kernel
theorem dX5_table_237 : decode cX5_table 237 = .ok (.iastore, 1) := by decide +kernel
theorem dX5_table_238 : decode cX5_table 238 = .ok (.aload_n 0, 1) := by decide +kernel
theorem dX5_table_239 : decode cX5_table 239 = .ok (.getfield 165, 3) := by decide +kernel
theorem dX5_table_242 : decode cX5_table 242 = .ok (.iload 7, 2) := by decide +kernel
theorem dX5_table_244 : decode cX5_table 244 = .ok (.iconst 0, 1) := by decide +kernel
theorem dX5_table_245 : decode cX5_table 245 = .ok (.bastore, 1) := by decide +kernel
theorem dX5_table_246 : decode cX5_table 246 = .ok (.aload_n 0, 1) := by decide +kernel
