set_option maxRecDepth 100000
theorem dX5_look_174 : decode cX5_look 174 = .ok (.iadd, 1) := by decide +kernel
theorem dX5_look_175 : decode cX5_look 175 = .ok (.istore 6, 2) := by decide +kernel
theorem dX5_look_177 : decode cX5_look 177 = .ok (.iinc 7 1, 3) := by decide +kernel
theorem dX5_look_180 : decode cX5_look 180 = .ok (.goto (-74), 3) := by decide +kernel
theorem dX5_look_183 : decode cX5_look 183 = .ok (.iload_n 3, 1) := by decide +kernel
theorem dX5_look_184 : decode cX5_look 184 = .ok (.aload_n 0, 1) := by decide +kernel
theorem dX5_look_185 : decode cX5_look 185 = .ok (.getfield 183, 3) := by decide +kernel
theorem dX5_look_188 : decode cX5_look 188 = .ok (.iload_n 2, 1) := by decide +kernel
theorem dX5_look_189 : decode cX5_look 189 = .ok (.iaload, 1) := by decide +kernel
theorem dX5_look_190 : decode cX5_look 190 = .ok (.if_icmp .ge 34, 3) := by decide +kernel
theorem dX5_look_193 : decode cX5_look 193 = .ok (.iload 4, 2) := by decide +kernel
theorem dX5_look_195 : decode cX5_look 195 = .ok (.iload 5, 2) := by decide +kernel
theorem dX5_look_197 : decode cX5_look 197 = .ok (.if_icmp .ge 27, 3) := by decide +kernel
theorem dX5_look_200 : decode cX5_look 200 = .ok (.aload_n 0, 1) := by decide +kernel
theorem dX5_look_201 : decode cX5_look 201 = .ok (.getfield 189, 3) := by decide +kernel
theorem dX5_look_204 : decode cX5_look 204 = .ok (.iload_n 2, 1) := by decide +kernel
theorem dX5_look_205 : decode cX5_look 205 = .ok (.iaload, 1) := by decide +kernel
theorem dX5_look_206 : decode cX5_look 206 = .ok (.iload_n 3, 1) := by decide +kernel
theorem dX5_look_207 : decode cX5_look 207 = .ok (.iload 5, 2) := by decide +kernel
theorem dX5_look_209 : decode cX5_look 209 = .ok (.imul, 1) := by decide +kernel
theorem dX5_look_210 : decode cX5_look 210 = .ok (.iload 4, 2) := by decide +kernel
theorem dX5_look_212 : decode cX5_look 212 = .ok (.iadd, 1) := by decide +kernel
theorem dX5_look_213 : decode cX5_look 213 = .ok (.ishr, 1) := by decide +kernel
theorem dX5_look_214 : decode cX5_look 214 = .ok (.iconst 1, 1) := by decide +kernel
theorem dX5_look_215 : decode cX5_look 215 = .ok (.iand, 1) := by decide +kernel
theorem dX5_look_216 : decode cX5_look 216 = .ok (.iconst 1, 1) := by decide +kernel
theorem dX5_look_217 : decode cX5_look 217 = .ok (.if_icmp .ne 7, 3) := by decide +kernel
theorem dX5_look_220 : decode cX5_look 220 = .ok (.iconst 1, 1) := by decide +kernel
theorem dX5_look_221 : decode cX5_look 221 = .ok (.goto 4, 3) := by decide +kernel
theorem dX5_look_224 : decode cX5_look 224 = .ok (.iconst 0, 1) := by decide +kernel
theorem dX5_look_225 : decode cX5_look 225 = .ok (.istore 7, 2) := by decide +kernel
theorem dX5_look_227 : decode cX5_look 227 = .ok (.aload_n 0, 1) := by decide +kernel
theorem dX5_look_228 : decode cX5_look 228 = .ok (.getfield 202, 3) := by decide +kernel
theorem dX5_look_231 : decode cX5_look 231 = .ok (.aload_n 0, 1) := by decide +kernel
theorem dX5_look_232 : decode cX5_look 232 = .ok (.getfield 180, 3) := by decide +kernel
theorem dX5_look_235 : decode cX5_look 235 = .ok (.iload_n 2, 1) := by decide +kernel
theorem dX5_look_236 : decode cX5_look 236 = .ok (.iaload, 1) := by decide +kernel
theorem dX5_look_237 : decode cX5_look 237 = .ok (.if_icmp .ge 18, 3) := by decide +kernel
theorem dX5_look_240 : decode cX5_look 240 = .ok (.aload_n 0, 1) := by decide +kernel
theorem dX5_look_241 : decode cX5_look 241 = .ok (.getfield 177, 3) := by decide +kernel
theorem dX5_look_244 : decode cX5_look 244 = .ok (.iload_n 2, 1) := by decide +kernel
theorem dX5_look_245 : decode cX5_look 245 = .ok (.iaload, 1) := by decide +kernel
theorem dX5_look_246 : decode cX5_look 246 = .ok (.iload_n 1, 1) := by decide +kernel
theorem dX5_look_247 : decode cX5_look 247 = .ok (.if_icmp .eq 8, 3) := by decide +kernel
theorem dX5_look_250 : decode cX5_look 250 = .ok (.bipush (-12), 2) := by decide +kernel
theorem dX5_look_252 : decode cX5_look 252 = .ok (.goto 40, 3) := by decide +kernel
theorem dX5_look_255 : decode cX5_look 255 = .ok (.aload_n 0, 1) := by decide +kernel
theorem dX5_look_256 : decode cX5_look 256 = .ok (.getfield 174, 3) := by decide +kernel
theorem dX5_look_259 : decode cX5_look 259 = .ok (.iload_n 1, 1) := by decide +kernel
theorem dX5_look_260 : decode cX5_look 260 = .ok (.iaload, 1) := by decide +kernel
theorem dX5_look_261 : decode cX5_look 261 = .ok (.ifCond .ne 8, 3) := by decide +kernel
theorem dX5_look_264 : decode cX5_look 264 = .ok (.bipush (-13), 2) := by decide +kernel
theorem dX5_look_266 : decode cX5_look 266 = .ok (.goto 26, 3) := by decide +kernel
theorem dX5_look_269 : decode cX5_look 269 = .ok (.iload 7, 2) := by decide +kernel
theorem dX5_look_271 : decode cX5_look 271 = .ok (.ifCond .eq 19, 3) := by decide +kernel
theorem dX5_look_274 : decode cX5_look 274 = .ok (.aload_n 0, 1) := by decide +kernel
theorem dX5_look_275 : decode cX5_look 275 = .ok (.getfield 174, 3) := by decide +kernel
theorem dX5_look_278 : decode cX5_look 278 = .ok (.iload_n 1, 1) := by decide +kernel
theorem dX5_look_279 : decode cX5_look 279 = .ok (.iaload, 1) := by decide +kernel
theorem dX5_look_280 : decode cX5_look 280 = .ok (.iconst 4, 1) := by decide +kernel
theorem dX5_look_281 : decode cX5_look 281 = .ok (.iand, 1) := by decide +kernel
theorem dX5_look_282 : decode cX5_look 282 = .ok (.ifCond .ne 8, 3) := by decide +kernel
theorem dX5_look_285 : decode cX5_look 285 = .ok (.bipush (-14), 2) := by decide +kernel
theorem dX5_look_287 : decode cX5_look 287 = .ok (.goto 5, 3) := by decide +kernel
theorem dX5_look_290 : decode cX5_look 290 = .ok (.iload 6, 2) := by decide +kernel
theorem dX5_look_292 : decode cX5_look 292 = .ok (.istore 8, 2) := by decide +kernel
theorem dX5_look_294 : decode cX5_look 294 = .ok (.bipush 6, 2) := by decide +kernel
theorem dX5_look_296 : decode cX5_look 296 = .ok (.aload_n 0, 1) := by decide +kernel
theorem dX5_look_297 : decode cX5_look 297 = .ok (.getfield 510, 3) := by decide +kernel
theorem dX5_look_300 : decode cX5_look 300 = .ok (.imul, 1) := by decide +kernel
theorem dX5_look_301 : decode cX5_look 301 = .ok (.istore 9, 2) := by decide +kernel
theorem dX5_look_303 : decode cX5_look 303 = .ok (.aload_n 0, 1) := by decide +kernel
theorem dX5_look_304 : decode cX5_look 304 = .ok (.getfield 195, 3) := by decide +kernel
theorem dX5_look_307 : decode cX5_look 307 = .ok (.iload 9, 2) := by decide +kernel
theorem dX5_look_309 : decode cX5_look 309 = .ok (.iload_n 1, 1) := by decide +kernel
theorem dX5_look_310 : decode cX5_look 310 = .ok (.iastore, 1) := by decide +kernel
theorem dX5_look_311 : decode cX5_look 311 = .ok (.aload_n 0, 1) := by decide +kernel
theorem dX5_look_312 : decode cX5_look 312 = .ok (.getfield 195, 3) := by decide +kernel
theorem dX5_look_315 : decode cX5_look 315 = .ok (.iload 9, 2) := by decide +kernel
theorem dX5_look_317 : decode cX5_look 317 = .ok (.iconst 1, 1) := by decide +kernel
theorem dX5_look_318 : decode cX5_look 318 = .ok (.iadd, 1) := by decide +kernel
theorem dX5_look_319 : decode cX5_look 319 = .ok (.iload_n 2, 1) := by decide +kernel
theorem dX5_look_320 : decode cX5_look 320 = .ok (.iastore, 1) := by decide +kernel
theorem dX5_look_321 : decode cX5_look 321 = .ok (.aload_n 0, 1) := by decide +kernel
theorem dX5_look_322 : decode cX5_look 322 = .ok (.getfield 195, 3) := by decide +kernel
theorem dX5_look_325 : decode cX5_look 325 = .ok (.iload 9, 2) := by decide +kernel
theorem dX5_look_327 : decode cX5_look 327 = .ok (.iconst 2, 1) := by decide +kernel
theorem dX5_look_328 : decode cX5_look 328 = .ok (.iadd, 1) := by decide +kernel
theorem dX5_look_329 : decode cX5_look 329 = .ok (.iload_n 3, 1) := by decide +kernel
theorem dX5_look_330 : decode cX5_look 330 = .ok (.iastore, 1) := by decide +kernel
theorem dX5_look_331 : decode cX5_look 331 = .ok (.aload_n 0, 1) := by decide +kernel
theorem dX5_look_332 : decode cX5_look 332 = .ok (.getfield 195, 3) := by decide +kernel
theorem dX5_look_335 : decode cX5_look 335 = .ok (.iload 9, 2) := by decide +kernel
theorem dX5_look_337 : decode cX5_look 337 = .ok (.iconst 3, 1) := by decide +kernel
theorem dX5_look_338 : decode cX5_look 338 = .ok (.iadd, 1) := by decide +kernel
theorem dX5_look_339 : decode cX5_look 339 = .ok (.iload 4, 2) := by decide +kernel
theorem dX5_look_341 : decode cX5_look 341 = .ok (.iastore, 1) := by decide +kernel
theorem dX5_look_342 : decode cX5_look 342 = .ok (.aload_n 0, 1) := by decide +kernel
theorem dX5_look_343 : decode cX5_look 343 = .ok (.getfield 195, 3) := by decide +kernel
theorem dX5_look_346 : decode cX5_look 346 = .ok (.iload 9, 2) := by decide +kernel
theorem dX5_look_348 : decode cX5_look 348 = .ok (.iconst 4, 1) := by decide +kernel
theorem dX5_look_349 : decode cX5_look 349 = .ok (.iadd, 1) := by decide +kernel
theorem dX5_look_350 : decode cX5_look 350 = .ok (.iload 8, 2) := by decide +kernel
theorem dX5_look_352 : decode cX5_look 352 = .ok (.iastore, 1) := by decide +kernel
theorem dX5_look_353 : decode cX5_look 353 = .ok (.aload_n 0, 1) := by decide +kernel
theorem dX5_look_354 : decode cX5_look 354 = .ok (.getfield 195, 3) := by decide +kernel
theorem dX5_look_357 : decode cX5_look 357 = .ok (.iload 9, 2) := by decide +kernel
theorem dX5_look_359 : decode cX5_look 359 = .ok (.iconst 5, 1) := by decide +kernel
theorem dX5_look_360 : decode cX5_look 360 = .ok (.iadd, 1) := by decide +kernel
theorem dX5_look_361 : decode cX5_look 361 = .ok (.aload_n 0, 1) := by decide +kernel
theorem dX5_look_362 : decode cX5_look 362 = .ok (.getfield 202, 3) := by decide +kernel
theorem dX5_look_365 : decode cX5_look 365 = .ok (.iastore, 1) := by decide +kernel
theorem dX5_look_366 : decode cX5_look 366 = .ok (.aload_n 0, 1) := by decide +kernel
theorem dX5_look_367 : decode cX5_look 367 = .ok (.dup, 1) := by decide +kernel
theorem dX5_look_368 : decode cX5_look 368 = .ok (.getfield 510, 3) := by decide +kernel
theorem dX5_look_371 : decode cX5_look 371 = .ok (.iconst 1, 1) := by decide +kernel
theorem dX5_look_372 : decode cX5_look 372 = .ok (.iadd, 1) := by decide +kernel
theorem dX5_look_373 : decode cX5_look 373 = .ok (.putfield 510, 3) := by decide +kernel
theorem dX5_look_376 : decode cX5_look 376 = .ok (.iload 8, 2) := by decide +kernel
theorem dX5_look_378 : decode cX5_look 378 = .ok (.ireturn, 1) := by decide +kernel
theorem dX5_looked_0 : decode cX5_looked 0 = .ok (.aload_n 0, 1) := by decide +kernel
theorem dX5_looked_1 : decode cX5_looked 1 = .ok (.iconst 0, 1) := by decide +kernel
theorem dX5_looked_2 : decode cX5_looked 2 = .ok (.putfield 198, 3) := by decide +kernel
theorem dX5_looked_5 : decode cX5_looked 5 = .ok (.iload_n 1, 1) := by decide +kernel
theorem dX5_looked_6 : decode cX5_looked 6 = .ok (.i2l, 1) := by decide +kernel
theorem dX5_looked_7 : decode cX5_looked 7 = .ok (.lconst 0, 1) := by decide +kernel
theorem dX5_looked_8 : decode cX5_looked 8 = .ok (.aload_n 0, 1) := by decide +kernel
theorem dX5_looked_9 : decode cX5_looked 9 = .ok (.getfield 510, 3) := by decide +kernel
theorem dX5_looked_12 : decode cX5_looked 12 = .ok (.iconst 1, 1) := by decide +kernel
theorem dX5_looked_13 : decode cX5_looked 13 = .ok (.isub, 1) := by decide +kernel
theorem dX5_looked_14 : decode cX5_looked 14 = .ok (.i2l, 1) := by decide +kernel
theorem dX5_looked_15 : decode cX5_looked 15 = .ok (.invokestatic 207, 3) := by decide +kernel
theorem dX5_looked_18 : decode cX5_looked 18 = .ok (.ifCond .ne 9, 3) := by decide +kernel
theorem dX5_looked_21 : decode cX5_looked 21 = .ok (.aload_n 0, 1) := by decide +kernel
theorem dX5_looked_22 : decode cX5_looked 22 = .ok (.iconst 1, 1) := by decide +kernel
theorem dX5_looked_23 : decode cX5_looked 23 = .ok (.invokevirtual 213, 3) := by decide +kernel
theorem dX5_looked_26 : decode cX5_looked 26 = .ok (.ireturn, 1) := by decide +kernel
theorem dX5_looked_27 : decode cX5_looked 27 = .ok (.iload_n 2, 1) := by decide +kernel
theorem dX5_looked_28 : decode cX5_looked 28 = .ok (.i2l, 1) := by decide +kernel
theorem dX5_looked_29 : decode cX5_looked 29 = .ok (.lconst 0, 1) := by decide +kernel
theorem dX5_looked_30 : decode cX5_looked 30 = .ok (.ldc2_w 224, 3) := by decide +kernel
theorem dX5_looked_33 : decode cX5_looked 33 = .ok (.invokestatic 207, 3) := by decide +kernel
theorem dX5_looked_36 : decode cX5_looked 36 = .ok (.ifCond .eq 17, 3) := by decide +kernel
theorem dX5_looked_39 : decode cX5_looked 39 = .ok (.aload_n 0, 1) := by decide +kernel
theorem dX5_looked_40 : decode cX5_looked 40 = .ok (.getfield 195, 3) := by decide +kernel
theorem dX5_looked_43 : decode cX5_looked 43 = .ok (.bipush 6, 2) := by decide +kernel
theorem dX5_looked_45 : decode cX5_looked 45 = .ok (.iload_n 1, 1) := by decide +kernel
theorem dX5_looked_46 : decode cX5_looked 46 = .ok (.imul, 1) := by decide +kernel
theorem dX5_looked_47 : decode cX5_looked 47 = .ok (.iload_n 2, 1) := by decide +kernel
theorem dX5_looked_48 : decode cX5_looked 48 = .ok (.iadd, 1) := by decide +kernel
theorem dX5_looked_49 : decode cX5_looked 49 = .ok (.iaload, 1) := by decide +kernel
theorem dX5_looked_50 : decode cX5_looked 50 = .ok (.goto 8, 3) := by decide +kernel
theorem dX5_looked_53 : decode cX5_looked 53 = .ok (.aload_n 0, 1) := by decide +kernel
theorem dX5_looked_54 : decode cX5_looked 54 = .ok (.iconst 2, 1) := by decide +kernel
theorem dX5_looked_55 : decode cX5_looked 55 = .ok (.invokevirtual 213, 3) := by decide +kernel
theorem dX5_looked_58 : decode cX5_looked 58 = .ok (.ireturn, 1) := by decide +kernel
theorem dX5_told_0 : decode cX5_told 0 = .ok (.aload_n 0, 1) := by decide +kernel
theorem dX5_told_1 : decode cX5_told 1 = .ok (.iconst 0, 1) := by decide +kernel
theorem dX5_told_2 : decode cX5_told 2 = .ok (.putfield 198, 3) := by decide +kernel
theorem dX5_told_5 : decode cX5_told 5 = .ok (.iconst 0, 1) := by decide +kernel
theorem dX5_told_6 : decode cX5_told 6 = .ok (.istore_n 2, 1) := by decide +kernel
theorem dX5_told_7 : decode cX5_told 7 = .ok (.iconst 0, 1) := by decide +kernel
theorem dX5_told_8 : decode cX5_told 8 = .ok (.istore_n 3, 1) := by decide +kernel
theorem dX5_told_9 : decode cX5_told 9 = .ok (.iload_n 3, 1) := by decide +kernel
theorem dX5_told_10 : decode cX5_told 10 = .ok (.aload_n 0, 1) := by decide +kernel
theorem dX5_told_11 : decode cX5_told 11 = .ok (.getfield 368, 3) := by decide +kernel
theorem dX5_told_14 : decode cX5_told 14 = .ok (.if_icmp .ge 26, 3) := by decide +kernel
theorem dX5_told_17 : decode cX5_told 17 = .ok (.iload_n 2, 1) := by decide +kernel
theorem dX5_told_18 : decode cX5_told 18 = .ok (.aload_n 0, 1) := by decide +kernel
theorem dX5_told_19 : decode cX5_told 19 = .ok (.getfield 86, 3) := by decide +kernel
theorem dX5_told_22 : decode cX5_told 22 = .ok (.iload_n 3, 1) := by decide +kernel
theorem dX5_told_23 : decode cX5_told 23 = .ok (.baload, 1) := by decide +kernel
theorem dX5_told_24 : decode cX5_told 24 = .ok (.ifCond .eq 7, 3) := by decide +kernel
theorem dX5_told_27 : decode cX5_told 27 = .ok (.iconst 0, 1) := by decide +kernel
theorem dX5_told_28 : decode cX5_told 28 = .ok (.goto 4, 3) := by decide +kernel
theorem dX5_told_31 : decode cX5_told 31 = .ok (.iconst 1, 1) := by decide +kernel
theorem dX5_told_32 : decode cX5_told 32 = .ok (.iadd, 1) := by decide +kernel
theorem dX5_told_33 : decode cX5_told 33 = .ok (.istore_n 2, 1) := by decide +kernel
theorem dX5_told_34 : decode cX5_told 34 = .ok (.iinc 3 1, 3) := by decide +kernel
theorem dX5_told_37 : decode cX5_told 37 = .ok (.goto (-28), 3) := by decide +kernel
theorem dX5_told_40 : decode cX5_told 40 = .ok (.iload_n 1, 1) := by decide +kernel
theorem dX5_told_41 : decode cX5_told 41 = .ok (.tableswitch 147 0 14 #[75, 80, 85, 90, 95, 100, 102, 107, 112, 117, 122, 127, 132, 137, 142], 75) := by decide +kernel
theorem dX5_told_116 : decode cX5_told 116 = .ok (.aload_n 0, 1) := by decide +kernel
theorem dX5_told_117 : decode cX5_told 117 = .ok (.getfield 217, 3) := by decide +kernel
theorem dX5_told_120 : decode cX5_told 120 = .ok (.ireturn, 1) := by decide +kernel
theorem dX5_told_121 : decode cX5_told 121 = .ok (.aload_n 0, 1) := by decide +kernel
theorem dX5_told_122 : decode cX5_told 122 = .ok (.getfield 230, 3) := by decide +kernel
theorem dX5_told_125 : decode cX5_told 125 = .ok (.ireturn, 1) := by decide +kernel
theorem dX5_told_126 : decode cX5_told 126 = .ok (.aload_n 0, 1) := by decide +kernel
theorem dX5_told_127 : decode cX5_told 127 = .ok (.getfield 241, 3) := by decide +kernel
theorem dX5_told_130 : decode cX5_told 130 = .ok (.ireturn, 1) := by decide +kernel
theorem dX5_told_131 : decode cX5_told 131 = .ok (.aload_n 0, 1) := by decide +kernel
theorem dX5_told_132 : decode cX5_told 132 = .ok (.getfield 320, 3) := by decide +kernel
theorem dX5_told_135 : decode cX5_told 135 = .ok (.ireturn, 1) := by decide +kernel
theorem dX5_told_136 : decode cX5_told 136 = .ok (.aload_n 0, 1) := by decide +kernel
theorem dX5_told_137 : decode cX5_told 137 = .ok (.getfield 368, 3) := by decide +kernel
theorem dX5_told_140 : decode cX5_told 140 = .ok (.ireturn, 1) := by decide +kernel
theorem dX5_told_141 : decode cX5_told 141 = .ok (.iload_n 2, 1) := by decide +kernel
theorem dX5_told_142 : decode cX5_told 142 = .ok (.ireturn, 1) := by decide +kernel
theorem dX5_told_143 : decode cX5_told 143 = .ok (.aload_n 0, 1) := by decide +kernel
theorem dX5_told_144 : decode cX5_told 144 = .ok (.getfield 398, 3) := by decide +kernel
theorem dX5_told_147 : decode cX5_told 147 = .ok (.ireturn, 1) := by decide +kernel
theorem dX5_told_148 : decode cX5_told 148 = .ok (.aload_n 0, 1) := by decide +kernel
theorem dX5_told_149 : decode cX5_told 149 = .ok (.getfield 455, 3) := by decide +kernel
theorem dX5_told_152 : decode cX5_told 152 = .ok (.ireturn, 1) := by decide +kernel
theorem dX5_told_153 : decode cX5_told 153 = .ok (.aload_n 0, 1) := by decide +kernel
theorem dX5_told_154 : decode cX5_told 154 = .ok (.getfield 470, 3) := by decide +kernel
theorem dX5_told_157 : decode cX5_told 157 = .ok (.ireturn, 1) := by decide +kernel
theorem dX5_told_158 : decode cX5_told 158 = .ok (.aload_n 0, 1) := by decide +kernel
theorem dX5_told_159 : decode cX5_told 159 = .ok (.getfield 504, 3) := by decide +kernel
theorem dX5_told_162 : decode cX5_told 162 = .ok (.ireturn, 1) := by decide +kernel
theorem dX5_told_163 : decode cX5_told 163 = .ok (.aload_n 0, 1) := by decide +kernel
theorem dX5_told_164 : decode cX5_told 164 = .ok (.getfield 507, 3) := by decide +kernel
theorem dX5_told_167 : decode cX5_told 167 = .ok (.ireturn, 1) := by decide +kernel
theorem dX5_told_168 : decode cX5_told 168 = .ok (.aload_n 0, 1) := by decide +kernel
theorem dX5_told_169 : decode cX5_told 169 = .ok (.getfield 510, 3) := by decide +kernel
theorem dX5_told_172 : decode cX5_told 172 = .ok (.ireturn, 1) := by decide +kernel
theorem dX5_told_173 : decode cX5_told 173 = .ok (.aload_n 0, 1) := by decide +kernel
theorem dX5_told_174 : decode cX5_told 174 = .ok (.getfield 249, 3) := by decide +kernel
theorem dX5_told_177 : decode cX5_told 177 = .ok (.ireturn, 1) := by decide +kernel
theorem dX5_told_178 : decode cX5_told 178 = .ok (.aload_n 0, 1) := by decide +kernel
theorem dX5_told_179 : decode cX5_told 179 = .ok (.getfield 202, 3) := by decide +kernel
theorem dX5_told_182 : decode cX5_told 182 = .ok (.ireturn, 1) := by decide +kernel
theorem dX5_told_183 : decode cX5_told 183 = .ok (.aload_n 0, 1) := by decide +kernel
theorem dX5_told_184 : decode cX5_told 184 = .ok (.invokevirtual 233, 3) := by decide +kernel
theorem dX5_told_187 : decode cX5_told 187 = .ok (.ireturn, 1) := by decide +kernel
theorem dX5_told_188 : decode cX5_told 188 = .ok (.aload_n 0, 1) := by decide +kernel
theorem dX5_told_189 : decode cX5_told 189 = .ok (.iconst 1, 1) := by decide +kernel
theorem dX5_told_190 : decode cX5_told 190 = .ok (.invokevirtual 213, 3) := by decide +kernel
theorem dX5_told_193 : decode cX5_told 193 = .ok (.ireturn, 1) := by decide +kernel
theorem dX6_init_0 : decode cX6_init 0 = .ok (.aload_n 0, 1) := by decide +kernel
theorem dX6_init_1 : decode cX6_init 1 = .ok (.aload_n 1, 1) := by decide +kernel
theorem dX6_init_2 : decode cX6_init 2 = .ok (.putfield 3, 3) := by decide +kernel
theorem dX6_init_5 : decode cX6_init 5 = .ok (.aload_n 0, 1) := by decide +kernel
theorem dX6_init_6 : decode cX6_init 6 = .ok (.invokespecial 9, 3) := by decide +kernel
theorem dX6_init_9 : decode cX6_init 9 = .ok (.aload_n 0, 1) := by decide +kernel
theorem dX6_init_10 : decode cX6_init 10 = .ok (.aload_n 0, 1) := by decide +kernel
theorem dX6_init_11 : decode cX6_init 11 = .ok (.getfield 3, 3) := by decide +kernel
theorem dX6_init_14 : decode cX6_init 14 = .ok (.getfield 15, 3) := by decide +kernel
theorem dX6_init_17 : decode cX6_init 17 = .ok (.putfield 19, 3) := by decide +kernel
theorem dX6_init_20 : decode cX6_init 20 = .ok (.return_, 1) := by decide +kernel
theorem dX6_form_0 : decode cX6_form 0 = .ok (.aload_n 0, 1) := by decide +kernel
theorem dX6_form_1 : decode cX6_form 1 = .ok (.getfield 19, 3) := by decide +kernel
theorem dX6_form_4 : decode cX6_form 4 = .ok (.invokevirtual 105, 3) := by decide +kernel
theorem dX6_form_7 : decode cX6_form 7 = .ok (.aload_n 0, 1) := by decide +kernel
theorem dX6_form_8 : decode cX6_form 8 = .ok (.invokevirtual 73, 3) := by decide +kernel
theorem dX6_form_11 : decode cX6_form 11 = .ok (.aload_n 0, 1) := by decide +kernel
theorem dX6_form_12 : decode cX6_form 12 = .ok (.aload_n 0, 1) := by decide +kernel
theorem dX6_form_13 : decode cX6_form 13 = .ok (.getfield 40, 3) := by decide +kernel
theorem dX6_form_16 : decode cX6_form 16 = .ok (.iconst 1, 1) := by decide +kernel
theorem dX6_form_17 : decode cX6_form 17 = .ok (.if_icmp .ne 19, 3) := by decide +kernel
theorem dX6_form_20 : decode cX6_form 20 = .ok (.aload_n 0, 1) := by decide +kernel
theorem dX6_form_21 : decode cX6_form 21 = .ok (.getfield 19, 3) := by decide +kernel
theorem dX6_form_24 : decode cX6_form 24 = .ok (.getfield 76, 3) := by decide +kernel
theorem dX6_form_27 : decode cX6_form 27 = .ok (.bipush 20, 2) := by decide +kernel
theorem dX6_form_29 : decode cX6_form 29 = .ok (.if_icmp .ge 7, 3) := by decide +kernel
theorem dX6_form_32 : decode cX6_form 32 = .ok (.iconst 1, 1) := by decide +kernel
theorem dX6_form_33 : decode cX6_form 33 = .ok (.goto 4, 3) := by decide +kernel
theorem dX6_form_36 : decode cX6_form 36 = .ok (.iconst 0, 1) := by decide +kernel
theorem dX6_form_37 : decode cX6_form 37 = .ok (.invokevirtual 108, 3) := by decide +kernel
theorem dX6_form_40 : decode cX6_form 40 = .ok (.aload_n 0, 1) := by decide +kernel
theorem dX6_form_41 : decode cX6_form 41 = .ok (.invokevirtual 112, 3) := by decide +kernel
theorem dX6_form_44 : decode cX6_form 44 = .ok (.aload_n 0, 1) := by decide +kernel
theorem dX6_form_45 : decode cX6_form 45 = .ok (.aload_n 0, 1) := by decide +kernel
theorem dX6_form_46 : decode cX6_form 46 = .ok (.ldc 115, 2) := by decide +kernel
theorem dX6_form_48 : decode cX6_form 48 = .ok (.invokevirtual 69, 3) := by decide +kernel
theorem dX6_form_51 : decode cX6_form 51 = .ok (.invokevirtual 108, 3) := by decide +kernel
theorem dX6_form_54 : decode cX6_form 54 = .ok (.aload_n 0, 1) := by decide +kernel
theorem dX6_form_55 : decode cX6_form 55 = .ok (.invokevirtual 73, 3) := by decide +kernel
theorem dX6_form_58 : decode cX6_form 58 = .ok (.aload_n 0, 1) := by decide +kernel
theorem dX6_form_59 : decode cX6_form 59 = .ok (.getfield 19, 3) := by decide +kernel
theorem dX6_form_62 : decode cX6_form 62 = .ok (.dup, 1) := by decide +kernel
theorem dX6_form_63 : decode cX6_form 63 = .ok (.getfield 76, 3) := by decide +kernel
theorem dX6_form_66 : decode cX6_form 66 = .ok (.iconst 1, 1) := by decide +kernel
theorem dX6_form_67 : decode cX6_form 67 = .ok (.iadd, 1) := by decide +kernel
theorem dX6_form_68 : decode cX6_form 68 = .ok (.putfield 76, 3) := by decide +kernel
theorem dX6_form_71 : decode cX6_form 71 = .ok (.aload_n 0, 1) := by decide +kernel
theorem dX6_form_72 : decode cX6_form 72 = .ok (.getfield 40, 3) := by decide +kernel
theorem dX6_form_75 : decode cX6_form 75 = .ok (.ifCond .ne (-64), 3) := by decide +kernel
theorem dX6_form_78 : decode cX6_form 78 = .ok (.aload_n 0, 1) := by decide +kernel
theorem dX6_form_79 : decode cX6_form 79 = .ok (.getfield 19, 3) := by decide +kernel
theorem dX6_form_82 : decode cX6_form 82 = .ok (.areturn, 1) := by decide +kernel
theorem dX6_next_0 : decode cX6_next 0 = .ok (.aload_n 0, 1) := by decide +kernel
theorem dX6_next_1 : decode cX6_next 1 = .ok (.getfield 30, 3) := by decide +kernel
theorem dX6_next_4 : decode cX6_next 4 = .ok (.aload_n 0, 1) := by decide +kernel
theorem dX6_next_5 : decode cX6_next 5 = .ok (.getfield 3, 3) := by decide +kernel
theorem dX6_next_8 : decode cX6_next 8 = .ok (.getfield 22, 3) := by decide +kernel
theorem dX6_next_11 : decode cX6_next 11 = .ok (.if_icmp .ge 68, 3) := by decide +kernel
theorem dX6_next_14 : decode cX6_next 14 = .ok (.aload_n 0, 1) := by decide +kernel
theorem dX6_next_15 : decode cX6_next 15 = .ok (.aload_n 0, 1) := by decide +kernel
theorem dX6_next_16 : decode cX6_next 16 = .ok (.getfield 30, 3) := by decide +kernel
theorem dX6_next_19 : decode cX6_next 19 = .ok (.invokevirtual 33, 3) := by decide +kernel
theorem dX6_next_22 : decode cX6_next 22 = .ok (.bipush 32, 2) := by decide +kernel
theorem dX6_next_24 : decode cX6_next 24 = .ok (.if_icmp .eq 42, 3) := by decide +kernel
theorem dX6_next_27 : decode cX6_next 27 = .ok (.aload_n 0, 1) := by decide +kernel
theorem dX6_next_28 : decode cX6_next 28 = .ok (.aload_n 0, 1) := by decide +kernel
theorem dX6_next_29 : decode cX6_next 29 = .ok (.getfield 30, 3) := by decide +kernel
theorem dX6_next_32 : decode cX6_next 32 = .ok (.invokevirtual 33, 3) := by decide +kernel
theorem dX6_next_35 : decode cX6_next 35 = .ok (.bipush 9, 2) := by decide +kernel
theorem dX6_next_37 : decode cX6_next 37 = .ok (.if_icmp .eq 29, 3) := by decide +kernel
theorem dX6_next_40 : decode cX6_next 40 = .ok (.aload_n 0, 1) := by decide +kernel
theorem dX6_next_41 : decode cX6_next 41 = .ok (.aload_n 0, 1) := by decide +kernel
theorem dX6_next_42 : decode cX6_next 42 = .ok (.getfield 30, 3) := by decide +kernel
theorem dX6_next_45 : decode cX6_next 45 = .ok (.invokevirtual 33, 3) := by decide +kernel
theorem dX6_next_48 : decode cX6_next 48 = .ok (.bipush 10, 2) := by decide +kernel
theorem dX6_next_50 : decode cX6_next 50 = .ok (.if_icmp .eq 16, 3) := by decide +kernel
theorem dX6_next_53 : decode cX6_next 53 = .ok (.aload_n 0, 1) := by decide +kernel
theorem dX6_next_54 : decode cX6_next 54 = .ok (.aload_n 0, 1) := by decide +kernel
theorem dX6_next_55 : decode cX6_next 55 = .ok (.getfield 30, 3) := by decide +kernel
theorem dX6_next_58 : decode cX6_next 58 = .ok (.invokevirtual 33, 3) := by decide +kernel
theorem dX6_next_61 : decode cX6_next 61 = .ok (.bipush 13, 2) := by decide +kernel
theorem dX6_next_63 : decode cX6_next 63 = .ok (.if_icmp .ne 16, 3) := by decide +kernel
theorem dX6_next_66 : decode cX6_next 66 = .ok (.aload_n 0, 1) := by decide +kernel
theorem dX6_next_67 : decode cX6_next 67 = .ok (.dup, 1) := by decide +kernel
theorem dX6_next_68 : decode cX6_next 68 = .ok (.getfield 30, 3) := by decide +kernel
theorem dX6_next_71 : decode cX6_next 71 = .ok (.iconst 1, 1) := by decide +kernel
theorem dX6_next_72 : decode cX6_next 72 = .ok (.iadd, 1) := by decide +kernel
theorem dX6_next_73 : decode cX6_next 73 = .ok (.putfield 30, 3) := by decide +kernel
theorem dX6_next_76 : decode cX6_next 76 = .ok (.goto (-76), 3) := by decide +kernel
theorem dX6_next_79 : decode cX6_next 79 = .ok (.aload_n 0, 1) := by decide +kernel
theorem dX6_next_80 : decode cX6_next 80 = .ok (.aload_n 0, 1) := by decide +kernel
theorem dX6_next_81 : decode cX6_next 81 = .ok (.getfield 30, 3) := by decide +kernel
theorem dX6_next_84 : decode cX6_next 84 = .ok (.putfield 37, 3) := by decide +kernel
theorem dX6_next_87 : decode cX6_next 87 = .ok (.aload_n 0, 1) := by decide +kernel
theorem dX6_next_88 : decode cX6_next 88 = .ok (.aload_n 0, 1) := by decide +kernel
theorem dX6_next_89 : decode cX6_next 89 = .ok (.getfield 30, 3) := by decide +kernel
theorem dX6_next_92 : decode cX6_next 92 = .ok (.invokevirtual 33, 3) := by decide +kernel
theorem dX6_next_95 : decode cX6_next 95 = .ok (.istore_n 1, 1) := by decide +kernel
theorem dX6_next_96 : decode cX6_next 96 = .ok (.aload_n 0, 1) := by decide +kernel
theorem dX6_next_97 : decode cX6_next 97 = .ok (.getfield 30, 3) := by decide +kernel
theorem dX6_next_100 : decode cX6_next 100 = .ok (.aload_n 0, 1) := by decide +kernel
theorem dX6_next_101 : decode cX6_next 101 = .ok (.getfield 3, 3) := by decide +kernel
theorem dX6_next_104 : decode cX6_next 104 = .ok (.getfield 22, 3) := by decide +kernel
theorem dX6_next_107 : decode cX6_next 107 = .ok (.if_icmp .lt 11, 3) := by decide +kernel
theorem dX6_next_110 : decode cX6_next 110 = .ok (.aload_n 0, 1) := by decide +kernel
theorem dX6_next_111 : decode cX6_next 111 = .ok (.iconst 0, 1) := by decide +kernel
theorem dX6_next_112 : decode cX6_next 112 = .ok (.putfield 40, 3) := by decide +kernel
theorem dX6_next_115 : decode cX6_next 115 = .ok (.goto 243, 3) := by decide +kernel
theorem dX6_next_118 : decode cX6_next 118 = .ok (.aload_n 0, 1) := by decide +kernel
theorem dX6_next_119 : decode cX6_next 119 = .ok (.iload_n 1, 1) := by decide +kernel
theorem dX6_next_120 : decode cX6_next 120 = .ok (.invokevirtual 43, 3) := by decide +kernel
theorem dX6_next_123 : decode cX6_next 123 = .ok (.ifCond .eq 57, 3) := by decide +kernel
theorem dX6_next_126 : decode cX6_next 126 = .ok (.aload_n 0, 1) := by decide +kernel
theorem dX6_next_127 : decode cX6_next 127 = .ok (.aload_n 0, 1) := by decide +kernel
theorem dX6_next_128 : decode cX6_next 128 = .ok (.aload_n 0, 1) := by decide +kernel
theorem dX6_next_129 : decode cX6_next 129 = .ok (.getfield 30, 3) := by decide +kernel
theorem dX6_next_132 : decode cX6_next 132 = .ok (.invokevirtual 33, 3) := by decide +kernel
theorem dX6_next_135 : decode cX6_next 135 = .ok (.invokevirtual 43, 3) := by decide +kernel
theorem dX6_next_138 : decode cX6_next 138 = .ok (.ifCond .eq 16, 3) := by decide +kernel
theorem dX6_next_141 : decode cX6_next 141 = .ok (.aload_n 0, 1) := by decide +kernel
theorem dX6_next_142 : decode cX6_next 142 = .ok (.dup, 1) := by decide +kernel
theorem dX6_next_143 : decode cX6_next 143 = .ok (.getfield 30, 3) := by decide +kernel
theorem dX6_next_146 : decode cX6_next 146 = .ok (.iconst 1, 1) := by decide +kernel
theorem dX6_next_147 : decode cX6_next 147 = .ok (.iadd, 1) := by decide +kernel
theorem dX6_next_148 : decode cX6_next 148 = .ok (.putfield 30, 3) := by decide +kernel
theorem dX6_next_151 : decode cX6_next 151 = .ok (.goto (-25), 3) := by decide +kernel
theorem dX6_next_154 : decode cX6_next 154 = .ok (.aload_n 0, 1) := by decide +kernel
theorem dX6_next_155 : decode cX6_next 155 = .ok (.aload_n 0, 1) := by decide +kernel
theorem dX6_next_156 : decode cX6_next 156 = .ok (.getfield 30, 3) := by decide +kernel
theorem dX6_next_159 : decode cX6_next 159 = .ok (.aload_n 0, 1) := by decide +kernel
theorem dX6_next_160 : decode cX6_next 160 = .ok (.getfield 37, 3) := by decide +kernel
theorem dX6_next_163 : decode cX6_next 163 = .ok (.isub, 1) := by decide +kernel
theorem dX6_next_164 : decode cX6_next 164 = .ok (.bipush 8, 2) := by decide +kernel
theorem dX6_next_166 : decode cX6_next 166 = .ok (.if_icmp .le 7, 3) := by decide +kernel
theorem dX6_next_169 : decode cX6_next 169 = .ok (.iconst 4, 1) := by decide +kernel
theorem dX6_next_170 : decode cX6_next 170 = .ok (.goto 4, 3) := by decide +kernel
theorem dX6_next_173 : decode cX6_next 173 = .ok (.iconst 1, 1) := by decide +kernel
theorem dX6_next_174 : decode cX6_next 174 = .ok (.putfield 40, 3) := by decide +kernel
theorem dX6_next_177 : decode cX6_next 177 = .ok (.goto 181, 3) := by decide +kernel
theorem dX6_next_180 : decode cX6_next 180 = .ok (.aload_n 0, 1) := by decide +kernel
theorem dX6_next_181 : decode cX6_next 181 = .ok (.iload_n 1, 1) := by decide +kernel
theorem dX6_next_182 : decode cX6_next 182 = .ok (.invokevirtual 47, 3) := by decide +kernel
theorem dX6_next_185 : decode cX6_next 185 = .ok (.ifCond .eq 57, 3) := by decide +kernel
theorem dX6_next_188 : decode cX6_next 188 = .ok (.aload_n 0, 1) := by decide +kernel
theorem dX6_next_189 : decode cX6_next 189 = .ok (.aload_n 0, 1) := by decide +kernel
theorem dX6_next_190 : decode cX6_next 190 = .ok (.aload_n 0, 1) := by decide +kernel
theorem dX6_next_191 : decode cX6_next 191 = .ok (.getfield 30, 3) := by decide +kernel
theorem dX6_next_194 : decode cX6_next 194 = .ok (.invokevirtual 33, 3) := by decide +kernel
theorem dX6_next_197 : decode cX6_next 197 = .ok (.invokevirtual 47, 3) := by decide +kernel
theorem dX6_next_200 : decode cX6_next 200 = .ok (.ifCond .eq 16, 3) := by decide +kernel
theorem dX6_next_203 : decode cX6_next 203 = .ok (.aload_n 0, 1) := by decide +kernel
theorem dX6_next_204 : decode cX6_next 204 = .ok (.dup, 1) := by decide +kernel
theorem dX6_next_205 : decode cX6_next 205 = .ok (.getfield 30, 3) := by decide +kernel
theorem dX6_next_208 : decode cX6_next 208 = .ok (.iconst 1, 1) := by decide +kernel
theorem dX6_next_209 : decode cX6_next 209 = .ok (.iadd, 1) := by decide +kernel
theorem dX6_next_210 : decode cX6_next 210 = .ok (.putfield 30, 3) := by decide +kernel
theorem dX6_next_213 : decode cX6_next 213 = .ok (.goto (-25), 3) := by decide +kernel
theorem dX6_next_216 : decode cX6_next 216 = .ok (.aload_n 0, 1) := by decide +kernel
theorem dX6_next_217 : decode cX6_next 217 = .ok (.aload_n 0, 1) := by decide +kernel
theorem dX6_next_218 : decode cX6_next 218 = .ok (.getfield 30, 3) := by decide +kernel
theorem dX6_next_221 : decode cX6_next 221 = .ok (.aload_n 0, 1) := by decide +kernel
theorem dX6_next_222 : decode cX6_next 222 = .ok (.getfield 37, 3) := by decide +kernel
theorem dX6_next_225 : decode cX6_next 225 = .ok (.isub, 1) := by decide +kernel
theorem dX6_next_226 : decode cX6_next 226 = .ok (.bipush 6, 2) := by decide +kernel
theorem dX6_next_228 : decode cX6_next 228 = .ok (.if_icmp .le 7, 3) := by decide +kernel
theorem dX6_next_231 : decode cX6_next 231 = .ok (.iconst 4, 1) := by decide +kernel
theorem dX6_next_232 : decode cX6_next 232 = .ok (.goto 4, 3) := by decide +kernel
theorem dX6_next_235 : decode cX6_next 235 = .ok (.iconst 2, 1) := by decide +kernel
theorem dX6_next_236 : decode cX6_next 236 = .ok (.putfield 40, 3) := by decide +kernel
theorem dX6_next_239 : decode cX6_next 239 = .ok (.goto 119, 3) := by decide +kernel
theorem dX6_next_242 : decode cX6_next 242 = .ok (.aload_n 0, 1) := by decide +kernel
theorem dX6_next_243 : decode cX6_next 243 = .ok (.dup, 1) := by decide +kernel
theorem dX6_next_244 : decode cX6_next 244 = .ok (.getfield 30, 3) := by decide +kernel
theorem dX6_next_247 : decode cX6_next 247 = .ok (.iconst 1, 1) := by decide +kernel
theorem dX6_next_248 : decode cX6_next 248 = .ok (.iadd, 1) := by decide +kernel
theorem dX6_next_249 : decode cX6_next 249 = .ok (.putfield 30, 3) := by decide +kernel
theorem dX6_next_252 : decode cX6_next 252 = .ok (.iload_n 1, 1) := by decide +kernel
theorem dX6_next_253 : decode cX6_next 253 = .ok (.bipush 60, 2) := by decide +kernel
theorem dX6_next_255 : decode cX6_next 255 = .ok (.if_icmp .ne 29, 3) := by decide +kernel
theorem dX6_next_258 : decode cX6_next 258 = .ok (.aload_n 0, 1) := by decide +kernel
theorem dX6_next_259 : decode cX6_next 259 = .ok (.aload_n 0, 1) := by decide +kernel
theorem dX6_next_260 : decode cX6_next 260 = .ok (.getfield 30, 3) := by decide +kernel
theorem dX6_next_263 : decode cX6_next 263 = .ok (.invokevirtual 33, 3) := by decide +kernel
theorem dX6_next_266 : decode cX6_next 266 = .ok (.bipush 61, 2) := by decide +kernel
theorem dX6_next_268 : decode cX6_next 268 = .ok (.if_icmp .eq 35, 3) := by decide +kernel
theorem dX6_next_271 : decode cX6_next 271 = .ok (.aload_n 0, 1) := by decide +kernel
theorem dX6_next_272 : decode cX6_next 272 = .ok (.aload_n 0, 1) := by decide +kernel
theorem dX6_next_273 : decode cX6_next 273 = .ok (.getfield 30, 3) := by decide +kernel
theorem dX6_next_276 : decode cX6_next 276 = .ok (.invokevirtual 33, 3) := by decide +kernel
theorem dX6_next_279 : decode cX6_next 279 = .ok (.bipush 62, 2) := by decide +kernel
theorem dX6_next_281 : decode cX6_next 281 = .ok (.if_icmp .eq 22, 3) := by decide +kernel
theorem dX6_next_284 : decode cX6_next 284 = .ok (.iload_n 1, 1) := by decide +kernel
theorem dX6_next_285 : decode cX6_next 285 = .ok (.bipush 62, 2) := by decide +kernel
theorem dX6_next_287 : decode cX6_next 287 = .ok (.if_icmp .ne 26, 3) := by decide +kernel
theorem dX6_next_290 : decode cX6_next 290 = .ok (.aload_n 0, 1) := by decide +kernel
theorem dX6_next_291 : decode cX6_next 291 = .ok (.aload_n 0, 1) := by decide +kernel
theorem dX6_next_292 : decode cX6_next 292 = .ok (.getfield 30, 3) := by decide +kernel
theorem dX6_next_295 : decode cX6_next 295 = .ok (.invokevirtual 33, 3) := by decide +kernel
theorem dX6_next_298 : decode cX6_next 298 = .ok (.bipush 61, 2) := by decide +kernel
theorem dX6_next_300 : decode cX6_next 300 = .ok (.if_icmp .ne 13, 3) := by decide +kernel
theorem dX6_next_303 : decode cX6_next 303 = .ok (.aload_n 0, 1) := by decide +kernel
theorem dX6_next_304 : decode cX6_next 304 = .ok (.dup, 1) := by decide +kernel
theorem dX6_next_305 : decode cX6_next 305 = .ok (.getfield 30, 3) := by decide +kernel
theorem dX6_next_308 : decode cX6_next 308 = .ok (.iconst 1, 1) := by decide +kernel
theorem dX6_next_309 : decode cX6_next 309 = .ok (.iadd, 1) := by decide +kernel
theorem dX6_next_310 : decode cX6_next 310 = .ok (.putfield 30, 3) := by decide +kernel
theorem dX6_next_313 : decode cX6_next 313 = .ok (.aload_n 0, 1) := by decide +kernel
theorem dX6_next_314 : decode cX6_next 314 = .ok (.iload_n 1, 1) := by decide +kernel
theorem dX6_next_315 : decode cX6_next 315 = .ok (.bipush 59, 2) := by decide +kernel
theorem dX6_next_317 : decode cX6_next 317 = .ok (.if_icmp .eq 33, 3) := by decide +kernel
theorem dX6_next_320 : decode cX6_next 320 = .ok (.iload_n 1, 1) := by decide +kernel
theorem dX6_next_321 : decode cX6_next 321 = .ok (.bipush 43, 2) := by decide +kernel
theorem dX6_next_323 : decode cX6_next 323 = .ok (.if_icmp .eq 27, 3) := by decide +kernel
theorem dX6_next_326 : decode cX6_next 326 = .ok (.iload_n 1, 1) := by decide +kernel
theorem dX6_next_327 : decode cX6_next 327 = .ok (.bipush 45, 2) := by decide +kernel
theorem dX6_next_329 : decode cX6_next 329 = .ok (.if_icmp .eq 21, 3) := by decide +kernel
theorem dX6_next_332 : decode cX6_next 332 = .ok (.iload_n 1, 1) := by decide +kernel
theorem dX6_next_333 : decode cX6_next 333 = .ok (.bipush 60, 2) := by decide +kernel
theorem dX6_next_335 : decode cX6_next 335 = .ok (.if_icmp .eq 15, 3) := by decide +kernel
theorem dX6_next_338 : decode cX6_next 338 = .ok (.iload_n 1, 1) := by decide +kernel
theorem dX6_next_339 : decode cX6_next 339 = .ok (.bipush 61, 2) := by decide +kernel
theorem dX6_next_341 : decode cX6_next 341 = .ok (.if_icmp .eq 9, 3) := by decide +kernel
theorem dX6_next_344 : decode cX6_next 344 = .ok (.iload_n 1, 1) := by decide +kernel
theorem dX6_next_345 : decode cX6_next 345 = .ok (.bipush 62, 2) := by decide +kernel
theorem dX6_next_347 : decode cX6_next 347 = .ok (.if_icmp .ne 7, 3) := by decide +kernel
theorem dX6_next_350 : decode cX6_next 350 = .ok (.iconst 3, 1) := by decide +kernel
theorem dX6_next_351 : decode cX6_next 351 = .ok (.goto 4, 3) := by decide +kernel
theorem dX6_next_354 : decode cX6_next 354 = .ok (.iconst 4, 1) := by decide +kernel
theorem dX6_next_355 : decode cX6_next 355 = .ok (.putfield 40, 3) := by decide +kernel
theorem dX6_next_358 : decode cX6_next 358 = .ok (.return_, 1) := by decide +kernel
theorem dX6_byteAt_0 : decode cX6_byteAt 0 = .ok (.iload_n 1, 1) := by decide +kernel
theorem dX6_byteAt_1 : decode cX6_byteAt 1 = .ok (.aload_n 0, 1) := by decide +kernel
theorem dX6_byteAt_2 : decode cX6_byteAt 2 = .ok (.getfield 3, 3) := by decide +kernel
theorem dX6_byteAt_5 : decode cX6_byteAt 5 = .ok (.getfield 22, 3) := by decide +kernel
theorem dX6_byteAt_8 : decode cX6_byteAt 8 = .ok (.if_icmp .ge 15, 3) := by decide +kernel
theorem dX6_byteAt_11 : decode cX6_byteAt 11 = .ok (.aload_n 0, 1) := by decide +kernel
theorem dX6_byteAt_12 : decode cX6_byteAt 12 = .ok (.getfield 3, 3) := by decide +kernel
theorem dX6_byteAt_15 : decode cX6_byteAt 15 = .ok (.getfield 26, 3) := by decide +kernel
theorem dX6_byteAt_18 : decode cX6_byteAt 18 = .ok (.iload_n 1, 1) := by decide +kernel
theorem dX6_byteAt_19 : decode cX6_byteAt 19 = .ok (.baload, 1) := by decide +kernel
theorem dX6_byteAt_20 : decode cX6_byteAt 20 = .ok (.goto 4, 3) := by decide +kernel
theorem dX6_byteAt_23 : decode cX6_byteAt 23 = .ok (.iconst 0, 1) := by decide +kernel
theorem dX6_byteAt_24 : decode cX6_byteAt 24 = .ok (.ireturn, 1) := by decide +kernel
theorem dX6_isLetter_0 : decode cX6_isLetter 0 = .ok (.iload_n 1, 1) := by decide +kernel
theorem dX6_isLetter_1 : decode cX6_isLetter 1 = .ok (.bipush 97, 2) := by decide +kernel
theorem dX6_isLetter_3 : decode cX6_isLetter 3 = .ok (.if_icmp .lt 13, 3) := by decide +kernel
theorem dX6_isLetter_6 : decode cX6_isLetter 6 = .ok (.iload_n 1, 1) := by decide +kernel
theorem dX6_isLetter_7 : decode cX6_isLetter 7 = .ok (.bipush 122, 2) := by decide +kernel
theorem dX6_isLetter_9 : decode cX6_isLetter 9 = .ok (.if_icmp .gt 7, 3) := by decide +kernel
theorem dX6_isLetter_12 : decode cX6_isLetter 12 = .ok (.iconst 1, 1) := by decide +kernel
theorem dX6_isLetter_13 : decode cX6_isLetter 13 = .ok (.goto 4, 3) := by decide +kernel
theorem dX6_isLetter_16 : decode cX6_isLetter 16 = .ok (.iconst 0, 1) := by decide +kernel
theorem dX6_isLetter_17 : decode cX6_isLetter 17 = .ok (.ireturn, 1) := by decide +kernel
theorem dX6_isDigit_0 : decode cX6_isDigit 0 = .ok (.iload_n 1, 1) := by decide +kernel
theorem dX6_isDigit_1 : decode cX6_isDigit 1 = .ok (.bipush 48, 2) := by decide +kernel
theorem dX6_isDigit_3 : decode cX6_isDigit 3 = .ok (.if_icmp .lt 13, 3) := by decide +kernel
theorem dX6_isDigit_6 : decode cX6_isDigit 6 = .ok (.iload_n 1, 1) := by decide +kernel
theorem dX6_isDigit_7 : decode cX6_isDigit 7 = .ok (.bipush 57, 2) := by decide +kernel
theorem dX6_isDigit_9 : decode cX6_isDigit 9 = .ok (.if_icmp .gt 7, 3) := by decide +kernel
theorem dX6_isDigit_12 : decode cX6_isDigit 12 = .ok (.iconst 1, 1) := by decide +kernel
theorem dX6_isDigit_13 : decode cX6_isDigit 13 = .ok (.goto 4, 3) := by decide +kernel
theorem dX6_isDigit_16 : decode cX6_isDigit 16 = .ok (.iconst 0, 1) := by decide +kernel
theorem dX6_isDigit_17 : decode cX6_isDigit 17 = .ok (.ireturn, 1) := by decide +kernel
theorem dX6_want_0 : decode cX6_want 0 = .ok (.iload_n 1, 1) := by decide +kernel
theorem dX6_want_1 : decode cX6_want 1 = .ok (.ifCond .ne 8, 3) := by decide +kernel
theorem dX6_want_4 : decode cX6_want 4 = .ok (.aload_n 0, 1) := by decide +kernel
theorem dX6_want_5 : decode cX6_want 5 = .ok (.invokevirtual 65, 3) := by decide +kernel
theorem dX6_want_8 : decode cX6_want 8 = .ok (.athrow, 1) := by decide +kernel
theorem dX6_want_9 : decode cX6_want 9 = .ok (.return_, 1) := by decide +kernel
theorem dX6_fault_0 : decode cX6_fault 0 = .ok (.new 60, 3) := by decide +kernel
theorem dX6_fault_3 : decode cX6_fault 3 = .ok (.dup, 1) := by decide +kernel
theorem dX6_fault_4 : decode cX6_fault 4 = .ok (.aload_n 0, 1) := by decide +kernel
theorem dX6_fault_5 : decode cX6_fault 5 = .ok (.getfield 37, 3) := by decide +kernel
theorem dX6_fault_8 : decode cX6_fault 8 = .ok (.invokespecial 62, 3) := by decide +kernel
theorem dX6_fault_11 : decode cX6_fault 11 = .ok (.areturn, 1) := by decide +kernel
theorem dX6_statement_0 : decode cX6_statement 0 = .ok (.aload_n 0, 1) := by decide +kernel
theorem dX6_statement_1 : decode cX6_statement 1 = .ok (.getfield 19, 3) := by decide +kernel
theorem dX6_statement_4 : decode cX6_statement 4 = .ok (.getfield 76, 3) := by decide +kernel
theorem dX6_statement_7 : decode cX6_statement 7 = .ok (.istore_n 1, 1) := by decide +kernel
theorem dX6_statement_8 : decode cX6_statement 8 = .ok (.aload_n 0, 1) := by decide +kernel
theorem dX6_statement_9 : decode cX6_statement 9 = .ok (.getfield 19, 3) := by decide +kernel
theorem dX6_statement_12 : decode cX6_statement 12 = .ok (.getfield 117, 3) := by decide +kernel
theorem dX6_statement_15 : decode cX6_statement 15 = .ok (.iload_n 1, 1) := by decide +kernel
theorem dX6_statement_16 : decode cX6_statement 16 = .ok (.aload_n 0, 1) := by decide +kernel
theorem dX6_statement_17 : decode cX6_statement 17 = .ok (.getfield 19, 3) := by decide +kernel
theorem dX6_statement_20 : decode cX6_statement 20 = .ok (.getfield 119, 3) := by decide +kernel
theorem dX6_statement_23 : decode cX6_statement 23 = .ok (.iastore, 1) := by decide +kernel
theorem dX6_statement_24 : decode cX6_statement 24 = .ok (.aload_n 0, 1) := by decide +kernel
theorem dX6_statement_25 : decode cX6_statement 25 = .ok (.getfield 19, 3) := by decide +kernel
theorem dX6_statement_28 : decode cX6_statement 28 = .ok (.getfield 122, 3) := by decide +kernel
theorem dX6_statement_31 : decode cX6_statement 31 = .ok (.iload_n 1, 1) := by decide +kernel
theorem dX6_statement_32 : decode cX6_statement 32 = .ok (.aload_n 0, 1) := by decide +kernel
theorem dX6_statement_33 : decode cX6_statement 33 = .ok (.getfield 19, 3) := by decide +kernel
theorem dX6_statement_36 : decode cX6_statement 36 = .ok (.getfield 119, 3) := by decide +kernel
theorem dX6_statement_39 : decode cX6_statement 39 = .ok (.iastore, 1) := by decide +kernel
theorem dX6_statement_40 : decode cX6_statement 40 = .ok (.aload_n 0, 1) := by decide +kernel
theorem dX6_statement_41 : decode cX6_statement 41 = .ok (.getfield 19, 3) := by decide +kernel
theorem dX6_statement_44 : decode cX6_statement 44 = .ok (.getfield 125, 3) := by decide +kernel
theorem dX6_statement_47 : decode cX6_statement 47 = .ok (.iload_n 1, 1) := by decide +kernel
theorem dX6_statement_48 : decode cX6_statement 48 = .ok (.iconst 0, 1) := by decide +kernel
theorem dX6_statement_49 : decode cX6_statement 49 = .ok (.iastore, 1) := by decide +kernel
theorem dX6_statement_50 : decode cX6_statement 50 = .ok (.aload_n 0, 1) := by decide +kernel
theorem dX6_statement_51 : decode cX6_statement 51 = .ok (.getfield 19, 3) := by decide +kernel
theorem dX6_statement_54 : decode cX6_statement 54 = .ok (.getfield 128, 3) := by decide +kernel
theorem dX6_statement_57 : decode cX6_statement 57 = .ok (.iload_n 1, 1) := by decide +kernel
theorem dX6_statement_58 : decode cX6_statement 58 = .ok (.iconst 0, 1) := by decide +kernel
theorem dX6_statement_59 : decode cX6_statement 59 = .ok (.iastore, 1) := by decide +kernel
theorem dX6_statement_60 : decode cX6_statement 60 = .ok (.aload_n 0, 1) := by decide +kernel
theorem dX6_statement_61 : decode cX6_statement 61 = .ok (.getfield 19, 3) := by decide +kernel
theorem dX6_statement_64 : decode cX6_statement 64 = .ok (.getfield 131, 3) := by decide +kernel
theorem dX6_statement_67 : decode cX6_statement 67 = .ok (.iload_n 1, 1) := by decide +kernel
theorem dX6_statement_68 : decode cX6_statement 68 = .ok (.iconst 0, 1) := by decide +kernel
theorem dX6_statement_69 : decode cX6_statement 69 = .ok (.iastore, 1) := by decide +kernel
theorem dX6_statement_70 : decode cX6_statement 70 = .ok (.aload_n 0, 1) := by decide +kernel
theorem dX6_statement_71 : decode cX6_statement 71 = .ok (.ldc 89, 2) := by decide +kernel
theorem dX6_statement_73 : decode cX6_statement 73 = .ok (.invokevirtual 69, 3) := by decide +kernel
theorem dX6_statement_76 : decode cX6_statement 76 = .ok (.ifCond .eq 101, 3) := by decide +kernel
theorem dX6_statement_79 : decode cX6_statement 79 = .ok (.aload_n 0, 1) := by decide +kernel
theorem dX6_statement_80 : decode cX6_statement 80 = .ok (.getfield 19, 3) := by decide +kernel
theorem dX6_statement_83 : decode cX6_statement 83 = .ok (.getfield 134, 3) := by decide +kernel
theorem dX6_statement_86 : decode cX6_statement 86 = .ok (.bipush 10, 2) := by decide +kernel
theorem dX6_statement_88 : decode cX6_statement 88 = .ok (.if_icmp .ge 89, 3) := by decide +kernel
theorem dX6_statement_91 : decode cX6_statement 91 = .ok (.aload_n 0, 1) := by decide +kernel
theorem dX6_statement_92 : decode cX6_statement 92 = .ok (.invokevirtual 73, 3) := by decide +kernel
theorem dX6_statement_95 : decode cX6_statement 95 = .ok (.aload_n 0, 1) := by decide +kernel
theorem dX6_statement_96 : decode cX6_statement 96 = .ok (.getfield 19, 3) := by decide +kernel
theorem dX6_statement_99 : decode cX6_statement 99 = .ok (.getfield 81, 3) := by decide +kernel
theorem dX6_statement_102 : decode cX6_statement 102 = .ok (.iload_n 1, 1) := by decide +kernel
theorem dX6_statement_103 : decode cX6_statement 103 = .ok (.iconst 0, 1) := by decide +kernel
theorem dX6_statement_104 : decode cX6_statement 104 = .ok (.iastore, 1) := by decide +kernel
theorem dX6_statement_105 : decode cX6_statement 105 = .ok (.aload_n 0, 1) := by decide +kernel
theorem dX6_statement_106 : decode cX6_statement 106 = .ok (.getfield 19, 3) := by decide +kernel
theorem dX6_statement_109 : decode cX6_statement 109 = .ok (.getfield 131, 3) := by decide +kernel
theorem dX6_statement_112 : decode cX6_statement 112 = .ok (.iload_n 1, 1) := by decide +kernel
theorem dX6_statement_113 : decode cX6_statement 113 = .ok (.iconst 1, 1) := by decide +kernel
theorem dX6_statement_114 : decode cX6_statement 114 = .ok (.iastore, 1) := by decide +kernel
theorem dX6_statement_115 : decode cX6_statement 115 = .ok (.aload_n 0, 1) := by decide +kernel
theorem dX6_statement_116 : decode cX6_statement 116 = .ok (.getfield 19, 3) := by decide +kernel
theorem dX6_statement_119 : decode cX6_statement 119 = .ok (.dup, 1) := by decide +kernel
theorem dX6_statement_120 : decode cX6_statement 120 = .ok (.getfield 134, 3) := by decide +kernel
theorem dX6_statement_123 : decode cX6_statement 123 = .ok (.iconst 1, 1) := by decide +kernel
theorem dX6_statement_124 : decode cX6_statement 124 = .ok (.iadd, 1) := by decide +kernel
theorem dX6_statement_125 : decode cX6_statement 125 = .ok (.putfield 134, 3) := by decide +kernel
theorem dX6_statement_128 : decode cX6_statement 128 = .ok (.aload_n 0, 1) := by decide +kernel
theorem dX6_statement_129 : decode cX6_statement 129 = .ok (.iload_n 1, 1) := by decide +kernel
theorem dX6_statement_130 : decode cX6_statement 130 = .ok (.invokevirtual 137, 3) := by decide +kernel
theorem dX6_statement_133 : decode cX6_statement 133 = .ok (.aload_n 0, 1) := by decide +kernel
theorem dX6_statement_134 : decode cX6_statement 134 = .ok (.getfield 19, 3) := by decide +kernel
theorem dX6_statement_137 : decode cX6_statement 137 = .ok (.getfield 125, 3) := by decide +kernel
theorem dX6_statement_140 : decode cX6_statement 140 = .ok (.iload_n 1, 1) := by decide +kernel
theorem dX6_statement_141 : decode cX6_statement 141 = .ok (.aload_n 0, 1) := by decide +kernel
theorem dX6_statement_142 : decode cX6_statement 142 = .ok (.ldc 140, 2) := by decide +kernel
theorem dX6_statement_144 : decode cX6_statement 144 = .ok (.invokevirtual 141, 3) := by decide +kernel
theorem dX6_statement_147 : decode cX6_statement 147 = .ok (.iastore, 1) := by decide +kernel
theorem dX6_statement_148 : decode cX6_statement 148 = .ok (.aload_n 0, 1) := by decide +kernel
theorem dX6_statement_149 : decode cX6_statement 149 = .ok (.getfield 19, 3) := by decide +kernel
theorem dX6_statement_152 : decode cX6_statement 152 = .ok (.getfield 128, 3) := by decide +kernel
theorem dX6_statement_155 : decode cX6_statement 155 = .ok (.iload_n 1, 1) := by decide +kernel
theorem dX6_statement_156 : decode cX6_statement 156 = .ok (.aload_n 0, 1) := by decide +kernel
theorem dX6_statement_157 : decode cX6_statement 157 = .ok (.aload_n 0, 1) := by decide +kernel
theorem dX6_statement_158 : decode cX6_statement 158 = .ok (.getfield 19, 3) := by decide +kernel
theorem dX6_statement_161 : decode cX6_statement 161 = .ok (.getfield 125, 3) := by decide +kernel
theorem dX6_statement_164 : decode cX6_statement 164 = .ok (.iload_n 1, 1) := by decide +kernel
theorem dX6_statement_165 : decode cX6_statement 165 = .ok (.iaload, 1) := by decide +kernel
theorem dX6_statement_166 : decode cX6_statement 166 = .ok (.invokevirtual 141, 3) := by decide +kernel
theorem dX6_statement_169 : decode cX6_statement 169 = .ok (.iastore, 1) := by decide +kernel
theorem dX6_statement_170 : decode cX6_statement 170 = .ok (.aload_n 0, 1) := by decide +kernel
theorem dX6_statement_171 : decode cX6_statement 171 = .ok (.invokevirtual 144, 3) := by decide +kernel
theorem dX6_statement_174 : decode cX6_statement 174 = .ok (.goto 109, 3) := by decide +kernel
theorem dX6_statement_177 : decode cX6_statement 177 = .ok (.aload_n 0, 1) := by decide +kernel
theorem dX6_statement_178 : decode cX6_statement 178 = .ok (.ldc 91, 2) := by decide +kernel
theorem dX6_statement_180 : decode cX6_statement 180 = .ok (.invokevirtual 147, 3) := by decide +kernel
theorem dX6_statement_183 : decode cX6_statement 183 = .ok (.ifCond .eq 45, 3) := by decide +kernel
theorem dX6_statement_186 : decode cX6_statement 186 = .ok (.aload_n 0, 1) := by decide +kernel
theorem dX6_statement_187 : decode cX6_statement 187 = .ok (.getfield 19, 3) := by decide +kernel
theorem dX6_statement_190 : decode cX6_statement 190 = .ok (.getfield 81, 3) := by decide +kernel
theorem dX6_statement_193 : decode cX6_statement 193 = .ok (.iload_n 1, 1) := by decide +kernel
theorem dX6_statement_194 : decode cX6_statement 194 = .ok (.iconst 1, 1) := by decide +kernel
theorem dX6_statement_195 : decode cX6_statement 195 = .ok (.iastore, 1) := by decide +kernel
theorem dX6_statement_196 : decode cX6_statement 196 = .ok (.aload_n 0, 1) := by decide +kernel
theorem dX6_statement_197 : decode cX6_statement 197 = .ok (.iload_n 1, 1) := by decide +kernel
theorem dX6_statement_198 : decode cX6_statement 198 = .ok (.invokevirtual 137, 3) := by decide +kernel
theorem dX6_statement_201 : decode cX6_statement 201 = .ok (.aload_n 0, 1) := by decide +kernel
theorem dX6_statement_202 : decode cX6_statement 202 = .ok (.invokevirtual 150, 3) := by decide +kernel
theorem dX6_statement_205 : decode cX6_statement 205 = .ok (.aload_n 0, 1) := by decide +kernel
theorem dX6_statement_206 : decode cX6_statement 206 = .ok (.getfield 19, 3) := by decide +kernel
theorem dX6_statement_209 : decode cX6_statement 209 = .ok (.getfield 122, 3) := by decide +kernel
theorem dX6_statement_212 : decode cX6_statement 212 = .ok (.iload_n 1, 1) := by decide +kernel
theorem dX6_statement_213 : decode cX6_statement 213 = .ok (.aload_n 0, 1) := by decide +kernel
theorem dX6_statement_214 : decode cX6_statement 214 = .ok (.getfield 19, 3) := by decide +kernel
theorem dX6_statement_217 : decode cX6_statement 217 = .ok (.getfield 119, 3) := by decide +kernel
theorem dX6_statement_220 : decode cX6_statement 220 = .ok (.iastore, 1) := by decide +kernel
theorem dX6_statement_221 : decode cX6_statement 221 = .ok (.aload_n 0, 1) := by decide +kernel
theorem dX6_statement_222 : decode cX6_statement 222 = .ok (.invokevirtual 144, 3) := by decide +kernel
theorem dX6_statement_225 : decode cX6_statement 225 = .ok (.goto 58, 3) := by decide +kernel
theorem dX6_statement_228 : decode cX6_statement 228 = .ok (.aload_n 0, 1) := by decide +kernel
theorem dX6_statement_229 : decode cX6_statement 229 = .ok (.ldc 93, 2) := by decide +kernel
theorem dX6_statement_231 : decode cX6_statement 231 = .ok (.invokevirtual 69, 3) := by decide +kernel
theorem dX6_statement_234 : decode cX6_statement 234 = .ok (.istore_n 2, 1) := by decide +kernel
theorem dX6_statement_235 : decode cX6_statement 235 = .ok (.aload_n 0, 1) := by decide +kernel
theorem dX6_statement_236 : decode cX6_statement 236 = .ok (.iload_n 2, 1) := by decide +kernel
theorem dX6_statement_237 : decode cX6_statement 237 = .ok (.ifCond .ne 12, 3) := by decide +kernel
theorem dX6_statement_240 : decode cX6_statement 240 = .ok (.aload_n 0, 1) := by decide +kernel
theorem dX6_statement_241 : decode cX6_statement 241 = .ok (.ldc 95, 2) := by decide +kernel
theorem dX6_statement_243 : decode cX6_statement 243 = .ok (.invokevirtual 69, 3) := by decide +kernel
theorem dX6_statement_246 : decode cX6_statement 246 = .ok (.ifCond .eq 7, 3) := by decide +kernel
theorem dX6_statement_249 : decode cX6_statement 249 = .ok (.iconst 1, 1) := by decide +kernel
theorem dX6_statement_250 : decode cX6_statement 250 = .ok (.goto 4, 3) := by decide +kernel
theorem dX6_statement_253 : decode cX6_statement 253 = .ok (.iconst 0, 1) := by decide +kernel
theorem dX6_statement_254 : decode cX6_statement 254 = .ok (.invokevirtual 108, 3) := by decide +kernel
theorem dX6_statement_257 : decode cX6_statement 257 = .ok (.aload_n 0, 1) := by decide +kernel
theorem dX6_statement_258 : decode cX6_statement 258 = .ok (.invokevirtual 73, 3) := by decide +kernel
theorem dX6_statement_261 : decode cX6_statement 261 = .ok (.aload_n 0, 1) := by decide +kernel
theorem dX6_statement_262 : decode cX6_statement 262 = .ok (.getfield 19, 3) := by decide +kernel
theorem dX6_statement_265 : decode cX6_statement 265 = .ok (.getfield 81, 3) := by decide +kernel
theorem dX6_statement_268 : decode cX6_statement 268 = .ok (.iload_n 1, 1) := by decide +kernel
theorem dX6_statement_269 : decode cX6_statement 269 = .ok (.iload_n 2, 1) := by decide +kernel
theorem dX6_statement_270 : decode cX6_statement 270 = .ok (.ifCond .eq 7, 3) := by decide +kernel
theorem dX6_statement_273 : decode cX6_statement 273 = .ok (.iconst 2, 1) := by decide +kernel
theorem dX6_statement_274 : decode cX6_statement 274 = .ok (.goto 4, 3) := by decide +kernel
theorem dX6_statement_277 : decode cX6_statement 277 = .ok (.iconst 3, 1) := by decide +kernel
theorem dX6_statement_278 : decode cX6_statement 278 = .ok (.iastore, 1) := by decide +kernel
theorem dX6_statement_279 : decode cX6_statement 279 = .ok (.aload_n 0, 1) := by decide +kernel
theorem dX6_statement_280 : decode cX6_statement 280 = .ok (.invokevirtual 153, 3) := by decide +kernel
theorem dX6_statement_283 : decode cX6_statement 283 = .ok (.aload_n 0, 1) := by decide +kernel
theorem dX6_statement_284 : decode cX6_statement 284 = .ok (.getfield 19, 3) := by decide +kernel
theorem dX6_statement_287 : decode cX6_statement 287 = .ok (.getfield 156, 3) := by decide +kernel
theorem dX6_statement_290 : decode cX6_statement 290 = .ok (.iload_n 1, 1) := by decide +kernel
theorem dX6_statement_291 : decode cX6_statement 291 = .ok (.aload_n 0, 1) := by decide +kernel
theorem dX6_statement_292 : decode cX6_statement 292 = .ok (.getfield 19, 3) := by decide +kernel
theorem dX6_statement_295 : decode cX6_statement 295 = .ok (.getfield 119, 3) := by decide +kernel
theorem dX6_statement_298 : decode cX6_statement 298 = .ok (.iastore, 1) := by decide +kernel
theorem dX6_statement_299 : decode cX6_statement 299 = .ok (.return_, 1) := by decide +kernel
theorem dX6_is_0 : decode cX6_is 0 = .ok (.aload_n 0, 1) := by decide +kernel
theorem dX6_is_1 : decode cX6_is 1 = .ok (.getfield 40, 3) := by decide +kernel
theorem dX6_is_4 : decode cX6_is 4 = .ok (.iconst 1, 1) := by decide +kernel
theorem dX6_is_5 : decode cX6_is 5 = .ok (.if_icmp .eq 11, 3) := by decide +kernel
theorem dX6_is_8 : decode cX6_is 8 = .ok (.aload_n 0, 1) := by decide +kernel
theorem dX6_is_9 : decode cX6_is 9 = .ok (.getfield 40, 3) := by decide +kernel
theorem dX6_is_12 : decode cX6_is 12 = .ok (.iconst 3, 1) := by decide +kernel
theorem dX6_is_13 : decode cX6_is 13 = .ok (.if_icmp .ne 23, 3) := by decide +kernel
theorem dX6_is_16 : decode cX6_is 16 = .ok (.aload_n 0, 1) := by decide +kernel
theorem dX6_is_17 : decode cX6_is 17 = .ok (.getfield 30, 3) := by decide +kernel
theorem dX6_is_20 : decode cX6_is 20 = .ok (.aload_n 0, 1) := by decide +kernel
theorem dX6_is_21 : decode cX6_is 21 = .ok (.getfield 37, 3) := by decide +kernel
theorem dX6_is_24 : decode cX6_is 24 = .ok (.isub, 1) := by decide +kernel
theorem dX6_is_25 : decode cX6_is 25 = .ok (.aload_n 1, 1) := by decide +kernel
theorem dX6_is_26 : decode cX6_is 26 = .ok (.invokevirtual 50, 3) := by decide +kernel
theorem dX6_is_29 : decode cX6_is 29 = .ok (.if_icmp .ne 7, 3) := by decide +kernel
theorem dX6_is_32 : decode cX6_is 32 = .ok (.iconst 1, 1) := by decide +kernel
theorem dX6_is_33 : decode cX6_is 33 = .ok (.goto 4, 3) := by decide +kernel
theorem dX6_is_36 : decode cX6_is 36 = .ok (.iconst 0, 1) := by decide +kernel
theorem dX6_is_37 : decode cX6_is 37 = .ok (.istore_n 2, 1) := by decide +kernel
theorem dX6_is_38 : decode cX6_is 38 = .ok (.iconst 0, 1) := by decide +kernel
theorem dX6_is_39 : decode cX6_is 39 = .ok (.istore_n 3, 1) := by decide +kernel
theorem dX6_is_40 : decode cX6_is 40 = .ok (.iload_n 2, 1) := by decide +kernel
theorem dX6_is_41 : decode cX6_is 41 = .ok (.ifCond .eq 41, 3) := by decide +kernel
theorem dX6_is_44 : decode cX6_is 44 = .ok (.iload_n 3, 1) := by decide +kernel
theorem dX6_is_45 : decode cX6_is 45 = .ok (.aload_n 1, 1) := by decide +kernel
theorem dX6_is_46 : decode cX6_is 46 = .ok (.invokevirtual 50, 3) := by decide +kernel
theorem dX6_is_49 : decode cX6_is 49 = .ok (.if_icmp .ge 33, 3) := by decide +kernel
theorem dX6_is_52 : decode cX6_is 52 = .ok (.aload_n 0, 1) := by decide +kernel
theorem dX6_is_53 : decode cX6_is 53 = .ok (.aload_n 0, 1) := by decide +kernel
theorem dX6_is_54 : decode cX6_is 54 = .ok (.getfield 37, 3) := by decide +kernel
theorem dX6_is_57 : decode cX6_is 57 = .ok (.iload_n 3, 1) := by decide +kernel
theorem dX6_is_58 : decode cX6_is 58 = .ok (.iadd, 1) := by decide +kernel
theorem dX6_is_59 : decode cX6_is 59 = .ok (.invokevirtual 33, 3) := by decide +kernel
theorem dX6_is_62 : decode cX6_is 62 = .ok (.aload_n 1, 1) := by decide +kernel
theorem dX6_is_63 : decode cX6_is 63 = .ok (.iload_n 3, 1) := by decide +kernel
theorem dX6_is_64 : decode cX6_is 64 = .ok (.invokevirtual 56, 3) := by decide +kernel
theorem dX6_is_67 : decode cX6_is 67 = .ok (.if_icmp .ne 7, 3) := by decide +kernel
theorem dX6_is_70 : decode cX6_is 70 = .ok (.iconst 1, 1) := by decide +kernel
theorem dX6_is_71 : decode cX6_is 71 = .ok (.goto 4, 3) := by decide +kernel
theorem dX6_is_74 : decode cX6_is 74 = .ok (.iconst 0, 1) := by decide +kernel
theorem dX6_is_75 : decode cX6_is 75 = .ok (.istore_n 2, 1) := by decide +kernel
theorem dX6_is_76 : decode cX6_is 76 = .ok (.iinc 3 1, 3) := by decide +kernel
theorem dX6_is_79 : decode cX6_is 79 = .ok (.goto (-39), 3) := by decide +kernel
theorem dX6_is_82 : decode cX6_is 82 = .ok (.iload_n 2, 1) := by decide +kernel
theorem dX6_is_83 : decode cX6_is 83 = .ok (.ireturn, 1) := by decide +kernel
theorem dX6_told_0 : decode cX6_told 0 = .ok (.aload_n 0, 1) := by decide +kernel
theorem dX6_told_1 : decode cX6_told 1 = .ok (.aload_n 0, 1) := by decide +kernel
theorem dX6_told_2 : decode cX6_told 2 = .ok (.invokevirtual 159, 3) := by decide +kernel
theorem dX6_told_5 : decode cX6_told 5 = .ok (.ifCond .eq 19, 3) := by decide +kernel
theorem dX6_told_8 : decode cX6_told 8 = .ok (.aload_n 0, 1) := by decide +kernel
theorem dX6_told_9 : decode cX6_told 9 = .ok (.aload_n 0, 1) := by decide +kernel
theorem dX6_told_10 : decode cX6_told 10 = .ok (.invokevirtual 163, 3) := by decide +kernel
theorem dX6_told_13 : decode cX6_told 13 = .ok (.invokevirtual 167, 3) := by decide +kernel
theorem dX6_told_16 : decode cX6_told 16 = .ok (.iconst (-1), 1) := by decide +kernel
theorem dX6_told_17 : decode cX6_told 17 = .ok (.if_icmp .ne 7, 3) := by decide +kernel
theorem dX6_told_20 : decode cX6_told 20 = .ok (.iconst 1, 1) := by decide +kernel
theorem dX6_told_21 : decode cX6_told 21 = .ok (.goto 4, 3) := by decide +kernel
theorem dX6_told_24 : decode cX6_told 24 = .ok (.iconst 0, 1) := by decide +kernel
theorem dX6_told_25 : decode cX6_told 25 = .ok (.invokevirtual 108, 3) := by decide +kernel
theorem dX6_told_28 : decode cX6_told 28 = .ok (.aload_n 0, 1) := by decide +kernel
theorem dX6_told_29 : decode cX6_told 29 = .ok (.getfield 19, 3) := by decide +kernel
theorem dX6_told_32 : decode cX6_told 32 = .ok (.getfield 85, 3) := by decide +kernel
theorem dX6_told_35 : decode cX6_told 35 = .ok (.iload_n 1, 1) := by decide +kernel
theorem dX6_told_36 : decode cX6_told 36 = .ok (.aload_n 0, 1) := by decide +kernel
theorem dX6_told_37 : decode cX6_told 37 = .ok (.invokevirtual 163, 3) := by decide +kernel
theorem dX6_told_40 : decode cX6_told 40 = .ok (.lastore, 1) := by decide +kernel
theorem dX6_told_41 : decode cX6_told 41 = .ok (.aload_n 0, 1) := by decide +kernel
theorem dX6_told_42 : decode cX6_told 42 = .ok (.invokevirtual 73, 3) := by decide +kernel
theorem dX6_told_45 : decode cX6_told 45 = .ok (.return_, 1) := by decide +kernel
theorem dX6_isName_0 : decode cX6_isName 0 = .ok (.aload_n 0, 1) := by decide +kernel
theorem dX6_isName_1 : decode cX6_isName 1 = .ok (.getfield 40, 3) := by decide +kernel
theorem dX6_isName_4 : decode cX6_isName 4 = .ok (.iconst 1, 1) := by decide +kernel
theorem dX6_isName_5 : decode cX6_isName 5 = .ok (.if_icmp .ne 79, 3) := by decide +kernel
theorem dX6_isName_8 : decode cX6_isName 8 = .ok (.aload_n 0, 1) := by decide +kernel
theorem dX6_isName_9 : decode cX6_isName 9 = .ok (.ldc 89, 2) := by decide +kernel
theorem dX6_isName_11 : decode cX6_isName 11 = .ok (.invokevirtual 69, 3) := by decide +kernel
theorem dX6_isName_14 : decode cX6_isName 14 = .ok (.ifCond .ne 70, 3) := by decide +kernel
theorem dX6_isName_17 : decode cX6_isName 17 = .ok (.aload_n 0, 1) := by decide +kernel
theorem dX6_isName_18 : decode cX6_isName 18 = .ok (.ldc 91, 2) := by decide +kernel
theorem dX6_isName_20 : decode cX6_isName 20 = .ok (.invokevirtual 69, 3) := by decide +kernel
theorem dX6_isName_23 : decode cX6_isName 23 = .ok (.ifCond .ne 61, 3) := by decide +kernel
theorem dX6_isName_26 : decode cX6_isName 26 = .ok (.aload_n 0, 1) := by decide +kernel
theorem dX6_isName_27 : decode cX6_isName 27 = .ok (.ldc 93, 2) := by decide +kernel
theorem dX6_isName_29 : decode cX6_isName 29 = .ok (.invokevirtual 69, 3) := by decide +kernel
theorem dX6_isName_32 : decode cX6_isName 32 = .ok (.ifCond .ne 52, 3) := by decide +kernel
theorem dX6_isName_35 : decode cX6_isName 35 = .ok (.aload_n 0, 1) := by decide +kernel
theorem dX6_isName_36 : decode cX6_isName 36 = .ok (.ldc 95, 2) := by decide +kernel
theorem dX6_isName_38 : decode cX6_isName 38 = .ok (.invokevirtual 69, 3) := by decide +kernel
theorem dX6_isName_41 : decode cX6_isName 41 = .ok (.ifCond .ne 43, 3) := by decide +kernel
theorem dX6_isName_44 : decode cX6_isName 44 = .ok (.aload_n 0, 1) := by decide +kernel
theorem dX6_isName_45 : decode cX6_isName 45 = .ok (.ldc 97, 2) := by decide +kernel
theorem dX6_isName_47 : decode cX6_isName 47 = .ok (.invokevirtual 69, 3) := by decide +kernel
theorem dX6_isName_50 : decode cX6_isName 50 = .ok (.ifCond .ne 34, 3) := by decide +kernel
theorem dX6_isName_53 : decode cX6_isName 53 = .ok (.aload_n 0, 1) := by decide +kernel
theorem dX6_isName_54 : decode cX6_isName 54 = .ok (.ldc 99, 2) := by decide +kernel
theorem dX6_isName_56 : decode cX6_isName 56 = .ok (.invokevirtual 69, 3) := by decide +kernel
theorem dX6_isName_59 : decode cX6_isName 59 = .ok (.ifCond .ne 25, 3) := by decide +kernel
theorem dX6_isName_62 : decode cX6_isName 62 = .ok (.aload_n 0, 1) := by decide +kernel
theorem dX6_isName_63 : decode cX6_isName 63 = .ok (.ldc 101, 2) := by decide +kernel
theorem dX6_isName_65 : decode cX6_isName 65 = .ok (.invokevirtual 69, 3) := by decide +kernel
theorem dX6_isName_68 : decode cX6_isName 68 = .ok (.ifCond .ne 16, 3) := by decide +kernel
theorem dX6_isName_71 : decode cX6_isName 71 = .ok (.aload_n 0, 1) := by decide +kernel
theorem dX6_isName_72 : decode cX6_isName 72 = .ok (.ldc 103, 2) := by decide +kernel
theorem dX6_isName_74 : decode cX6_isName 74 = .ok (.invokevirtual 69, 3) := by decide +kernel
theorem dX6_isName_77 : decode cX6_isName 77 = .ok (.ifCond .ne 7, 3) := by decide +kernel
theorem dX6_isName_80 : decode cX6_isName 80 = .ok (.iconst 1, 1) := by decide +kernel
theorem dX6_isName_81 : decode cX6_isName 81 = .ok (.goto 4, 3) := by decide +kernel
theorem dX6_isName_84 : decode cX6_isName 84 = .ok (.iconst 0, 1) := by decide +kernel
theorem dX6_isName_85 : decode cX6_isName 85 = .ok (.ireturn, 1) := by decide +kernel
theorem dX6_nameHere_0 : decode cX6_nameHere 0 = .ok (.lconst 0, 1) := by decide +kernel
theorem dX6_nameHere_1 : decode cX6_nameHere 1 = .ok (.lstore_n 1, 1) := by decide +kernel
theorem dX6_nameHere_2 : decode cX6_nameHere 2 = .ok (.aload_n 0, 1) := by decide +kernel
theorem dX6_nameHere_3 : decode cX6_nameHere 3 = .ok (.getfield 37, 3) := by decide +kernel
theorem dX6_nameHere_6 : decode cX6_nameHere 6 = .ok (.istore_n 3, 1) := by decide +kernel
theorem dX6_nameHere_7 : decode cX6_nameHere 7 = .ok (.iload_n 3, 1) := by decide +kernel
theorem dX6_nameHere_8 : decode cX6_nameHere 8 = .ok (.aload_n 0, 1) := by decide +kernel
theorem dX6_nameHere_9 : decode cX6_nameHere 9 = .ok (.getfield 30, 3) := by decide +kernel
theorem dX6_nameHere_12 : decode cX6_nameHere 12 = .ok (.if_icmp .ge 21, 3) := by decide +kernel
theorem dX6_nameHere_15 : decode cX6_nameHere 15 = .ok (.lload_n 1, 1) := by decide +kernel
theorem dX6_nameHere_16 : decode cX6_nameHere 16 = .ok (.bipush 8, 2) := by decide +kernel
theorem dX6_nameHere_18 : decode cX6_nameHere 18 = .ok (.lshl, 1) := by decide +kernel
theorem dX6_nameHere_19 : decode cX6_nameHere 19 = .ok (.aload_n 0, 1) := by decide +kernel
theorem dX6_nameHere_20 : decode cX6_nameHere 20 = .ok (.iload_n 3, 1) := by decide +kernel
theorem dX6_nameHere_21 : decode cX6_nameHere 21 = .ok (.invokevirtual 33, 3) := by decide +kernel
theorem dX6_nameHere_24 : decode cX6_nameHere 24 = .ok (.i2l, 1) := by decide +kernel
theorem dX6_nameHere_25 : decode cX6_nameHere 25 = .ok (.lor, 1) := by decide +kernel
theorem dX6_nameHere_26 : decode cX6_nameHere 26 = .ok (.lstore_n 1, 1) := by decide +kernel
theorem dX6_nameHere_27 : decode cX6_nameHere 27 = .ok (.iinc 3 1, 3) := by decide +kernel
theorem dX6_nameHere_30 : decode cX6_nameHere 30 = .ok (.goto (-23), 3) := by decide +kernel
theorem dX6_nameHere_33 : decode cX6_nameHere 33 = .ok (.lload_n 1, 1) := by decide +kernel
theorem dX6_nameHere_34 : decode cX6_nameHere 34 = .ok (.lreturn, 1) := by decide +kernel
theorem dX6_item_0 : decode cX6_item 0 = .ok (.iconst (-1), 1) := by decide +kernel
theorem dX6_item_1 : decode cX6_item 1 = .ok (.istore_n 3, 1) := by decide +kernel
theorem dX6_item_2 : decode cX6_item 2 = .ok (.iconst 0, 1) := by decide +kernel
theorem dX6_item_3 : decode cX6_item 3 = .ok (.istore 4, 2) := by decide +kernel
theorem dX6_item_5 : decode cX6_item 5 = .ok (.iload 4, 2) := by decide +kernel
theorem dX6_item_7 : decode cX6_item 7 = .ok (.aload_n 0, 1) := by decide +kernel
theorem dX6_item_8 : decode cX6_item 8 = .ok (.getfield 19, 3) := by decide +kernel
theorem dX6_item_11 : decode cX6_item 11 = .ok (.getfield 76, 3) := by decide +kernel
theorem dX6_item_14 : decode cX6_item 14 = .ok (.if_icmp .ge 41, 3) := by decide +kernel
theorem dX6_item_17 : decode cX6_item 17 = .ok (.aload_n 0, 1) := by decide +kernel
theorem dX6_item_18 : decode cX6_item 18 = .ok (.getfield 19, 3) := by decide +kernel
theorem dX6_item_21 : decode cX6_item 21 = .ok (.getfield 81, 3) := by decide +kernel
theorem dX6_item_24 : decode cX6_item 24 = .ok (.iload 4, 2) := by decide +kernel
theorem dX6_item_26 : decode cX6_item 26 = .ok (.iaload, 1) := by decide +kernel
theorem dX6_item_27 : decode cX6_item 27 = .ok (.iconst 1, 1) := by decide +kernel
theorem dX6_item_28 : decode cX6_item 28 = .ok (.if_icmp .gt 21, 3) := by decide +kernel
theorem dX6_item_31 : decode cX6_item 31 = .ok (.aload_n 0, 1) := by decide +kernel
theorem dX6_item_32 : decode cX6_item 32 = .ok (.getfield 19, 3) := by decide +kernel
theorem dX6_item_35 : decode cX6_item 35 = .ok (.getfield 85, 3) := by decide +kernel
theorem dX6_item_38 : decode cX6_item 38 = .ok (.iload 4, 2) := by decide +kernel
theorem dX6_item_40 : decode cX6_item 40 = .ok (.laload, 1) := by decide +kernel
theorem dX6_item_41 : decode cX6_item 41 = .ok (.lload_n 1, 1) := by decide +kernel
theorem dX6_item_42 : decode cX6_item 42 = .ok (.lcmp, 1) := by decide +kernel
theorem dX6_item_43 : decode cX6_item 43 = .ok (.ifCond .ne 6, 3) := by decide +kernel
theorem dX6_item_46 : decode cX6_item 46 = .ok (.iload 4, 2) := by decide +kernel
theorem dX6_item_48 : decode cX6_item 48 = .ok (.istore_n 3, 1) := by decide +kernel
theorem dX6_item_49 : decode cX6_item 49 = .ok (.iinc 4 1, 3) := by decide +kernel
theorem dX6_item_52 : decode cX6_item 52 = .ok (.goto (-47), 3) := by decide +kernel
theorem dX6_item_55 : decode cX6_item 55 = .ok (.iload_n 3, 1) := by decide +kernel
theorem dX6_item_56 : decode cX6_item 56 = .ok (.ireturn, 1) := by decide +kernel
theorem dX6_bound_0 : decode cX6_bound 0 = .ok (.aload_n 0, 1) := by decide +kernel
theorem dX6_bound_1 : decode cX6_bound 1 = .ok (.getfield 37, 3) := by decide +kernel
theorem dX6_bound_4 : decode cX6_bound 4 = .ok (.istore_n 2, 1) := by decide +kernel
theorem dX6_bound_5 : decode cX6_bound 5 = .ok (.aload_n 0, 1) := by decide +kernel
theorem dX6_bound_6 : decode cX6_bound 6 = .ok (.ldc 171, 2) := by decide +kernel
theorem dX6_bound_8 : decode cX6_bound 8 = .ok (.invokevirtual 147, 3) := by decide +kernel
theorem dX6_bound_11 : decode cX6_bound 11 = .ok (.istore_n 3, 1) := by decide +kernel
theorem dX6_bound_12 : decode cX6_bound 12 = .ok (.aload_n 0, 1) := by decide +kernel
theorem dX6_bound_13 : decode cX6_bound 13 = .ok (.aload_n 0, 1) := by decide +kernel
theorem dX6_bound_14 : decode cX6_bound 14 = .ok (.getfield 40, 3) := by decide +kernel
theorem dX6_bound_17 : decode cX6_bound 17 = .ok (.iconst 2, 1) := by decide +kernel
theorem dX6_bound_18 : decode cX6_bound 18 = .ok (.if_icmp .ne 7, 3) := by decide +kernel
theorem dX6_bound_21 : decode cX6_bound 21 = .ok (.iconst 1, 1) := by decide +kernel
theorem dX6_bound_22 : decode cX6_bound 22 = .ok (.goto 4, 3) := by decide +kernel
theorem dX6_bound_25 : decode cX6_bound 25 = .ok (.iconst 0, 1) := by decide +kernel
theorem dX6_bound_26 : decode cX6_bound 26 = .ok (.invokevirtual 108, 3) := by decide +kernel
theorem dX6_bound_29 : decode cX6_bound 29 = .ok (.iload_n 3, 1) := by decide +kernel
theorem dX6_bound_30 : decode cX6_bound 30 = .ok (.ifCond .eq 11, 3) := by decide +kernel
theorem dX6_bound_33 : decode cX6_bound 33 = .ok (.aload_n 0, 1) := by decide +kernel
theorem dX6_bound_34 : decode cX6_bound 34 = .ok (.invokevirtual 173, 3) := by decide +kernel
theorem dX6_bound_37 : decode cX6_bound 37 = .ok (.ineg, 1) := by decide +kernel
theorem dX6_bound_38 : decode cX6_bound 38 = .ok (.goto 7, 3) := by decide +kernel
theorem dX6_bound_41 : decode cX6_bound 41 = .ok (.aload_n 0, 1) := by decide +kernel
theorem dX6_bound_42 : decode cX6_bound 42 = .ok (.invokevirtual 173, 3) := by decide +kernel
theorem dX6_bound_45 : decode cX6_bound 45 = .ok (.istore 4, 2) := by decide +kernel
theorem dX6_bound_47 : decode cX6_bound 47 = .ok (.iload 4, 2) := by decide +kernel
theorem dX6_bound_49 : decode cX6_bound 49 = .ok (.iload_n 1, 1) := by decide +kernel
theorem dX6_bound_50 : decode cX6_bound 50 = .ok (.if_icmp .ge 12, 3) := by decide +kernel
theorem dX6_bound_53 : decode cX6_bound 53 = .ok (.new 60, 3) := by decide +kernel
theorem dX6_bound_56 : decode cX6_bound 56 = .ok (.dup, 1) := by decide +kernel
theorem dX6_bound_57 : decode cX6_bound 57 = .ok (.iload_n 2, 1) := by decide +kernel
theorem dX6_bound_58 : decode cX6_bound 58 = .ok (.invokespecial 62, 3) := by decide +kernel
theorem dX6_bound_61 : decode cX6_bound 61 = .ok (.athrow, 1) := by decide +kernel
theorem dX6_bound_62 : decode cX6_bound 62 = .ok (.aload_n 0, 1) := by decide +kernel
theorem dX6_bound_63 : decode cX6_bound 63 = .ok (.invokevirtual 73, 3) := by decide +kernel
theorem dX6_bound_66 : decode cX6_bound 66 = .ok (.iload 4, 2) := by decide +kernel
theorem dX6_bound_68 : decode cX6_bound 68 = .ok (.ireturn, 1) := by decide +kernel
theorem dX6_passes_0 : decode cX6_passes 0 = .ok (.aload_n 0, 1) := by decide +kernel
theorem dX6_passes_1 : decode cX6_passes 1 = .ok (.aload_n 1, 1) := by decide +kernel
theorem dX6_passes_2 : decode cX6_passes 2 = .ok (.invokevirtual 69, 3) := by decide +kernel
theorem dX6_passes_5 : decode cX6_passes 5 = .ok (.ifCond .ne 5, 3) := by decide +kernel
theorem dX6_passes_8 : decode cX6_passes 8 = .ok (.iconst 0, 1) := by decide +kernel
theorem dX6_passes_9 : decode cX6_passes 9 = .ok (.ireturn, 1) := by decide +kernel
theorem dX6_passes_10 : decode cX6_passes 10 = .ok (.aload_n 0, 1) := by decide +kernel
theorem dX6_passes_11 : decode cX6_passes 11 = .ok (.invokevirtual 73, 3) := by decide +kernel
theorem dX6_passes_14 : decode cX6_passes 14 = .ok (.iconst 1, 1) := by decide +kernel
theorem dX6_passes_15 : decode cX6_passes 15 = .ok (.ireturn, 1) := by decide +kernel
theorem dX6_digits_0 : decode cX6_digits 0 = .ok (.iconst 0, 1) := by decide +kernel
theorem dX6_digits_1 : decode cX6_digits 1 = .ok (.istore_n 1, 1) := by decide +kernel
theorem dX6_digits_2 : decode cX6_digits 2 = .ok (.aload_n 0, 1) := by decide +kernel
theorem dX6_digits_3 : decode cX6_digits 3 = .ok (.getfield 37, 3) := by decide +kernel
theorem dX6_digits_6 : decode cX6_digits 6 = .ok (.istore_n 2, 1) := by decide +kernel
theorem dX6_digits_7 : decode cX6_digits 7 = .ok (.iload_n 2, 1) := by decide +kernel
theorem dX6_digits_8 : decode cX6_digits 8 = .ok (.aload_n 0, 1) := by decide +kernel
theorem dX6_digits_9 : decode cX6_digits 9 = .ok (.getfield 30, 3) := by decide +kernel
theorem dX6_digits_12 : decode cX6_digits 12 = .ok (.if_icmp .ge 23, 3) := by decide +kernel
theorem dX6_digits_15 : decode cX6_digits 15 = .ok (.bipush 10, 2) := by decide +kernel
theorem dX6_digits_17 : decode cX6_digits 17 = .ok (.iload_n 1, 1) := by decide +kernel
theorem dX6_digits_18 : decode cX6_digits 18 = .ok (.imul, 1) := by decide +kernel
theorem dX6_digits_19 : decode cX6_digits 19 = .ok (.aload_n 0, 1) := by decide +kernel
theorem dX6_digits_20 : decode cX6_digits 20 = .ok (.iload_n 2, 1) := by decide +kernel
theorem dX6_digits_21 : decode cX6_digits 21 = .ok (.invokevirtual 33, 3) := by decide +kernel
theorem dX6_digits_24 : decode cX6_digits 24 = .ok (.iadd, 1) := by decide +kernel
theorem dX6_digits_25 : decode cX6_digits 25 = .ok (.bipush 48, 2) := by decide +kernel
theorem dX6_digits_27 : decode cX6_digits 27 = .ok (.isub, 1) := by decide +kernel
theorem dX6_digits_28 : decode cX6_digits 28 = .ok (.istore_n 1, 1) := by decide +kernel
theorem dX6_digits_29 : decode cX6_digits 29 = .ok (.iinc 2 1, 3) := by decide +kernel
theorem dX6_digits_32 : decode cX6_digits 32 = .ok (.goto (-25), 3) := by decide +kernel
theorem dX6_digits_35 : decode cX6_digits 35 = .ok (.iload_n 1, 1) := by decide +kernel
theorem dX6_digits_36 : decode cX6_digits 36 = .ok (.ireturn, 1) := by decide +kernel
theorem dX6_condition_0 : decode cX6_condition 0 = .ok (.aload_n 0, 1) := by decide +kernel
theorem dX6_condition_1 : decode cX6_condition 1 = .ok (.ldc 97, 2) := by decide +kernel
theorem dX6_condition_3 : decode cX6_condition 3 = .ok (.invokevirtual 147, 3) := by decide +kernel
theorem dX6_condition_6 : decode cX6_condition 6 = .ok (.ifCond .eq 7, 3) := by decide +kernel
theorem dX6_condition_9 : decode cX6_condition 9 = .ok (.aload_n 0, 1) := by decide +kernel
theorem dX6_condition_10 : decode cX6_condition 10 = .ok (.invokevirtual 153, 3) := by decide +kernel
theorem dX6_condition_13 : decode cX6_condition 13 = .ok (.return_, 1) := by decide +kernel
theorem dX6_cond_0 : decode cX6_cond 0 = .ok (.aload_n 0, 1) := by decide +kernel
theorem dX6_cond_1 : decode cX6_cond 1 = .ok (.invokevirtual 176, 3) := by decide +kernel
theorem dX6_cond_4 : decode cX6_cond 4 = .ok (.aload_n 0, 1) := by decide +kernel
theorem dX6_cond_5 : decode cX6_cond 5 = .ok (.ldc 101, 2) := by decide +kernel
theorem dX6_cond_7 : decode cX6_cond 7 = .ok (.invokevirtual 147, 3) := by decide +kernel
theorem dX6_cond_10 : decode cX6_cond 10 = .ok (.ifCond .eq 20, 3) := by decide +kernel
theorem dX6_cond_13 : decode cX6_cond 13 = .ok (.aload_n 0, 1) := by decide +kernel
theorem dX6_cond_14 : decode cX6_cond 14 = .ok (.invokevirtual 176, 3) := by decide +kernel
theorem dX6_cond_17 : decode cX6_cond 17 = .ok (.aload_n 0, 1) := by decide +kernel
theorem dX6_cond_18 : decode cX6_cond 18 = .ok (.getfield 19, 3) := by decide +kernel
theorem dX6_cond_21 : decode cX6_cond 21 = .ok (.bipush 7, 2) := by decide +kernel
theorem dX6_cond_23 : decode cX6_cond 23 = .ok (.iconst 0, 1) := by decide +kernel
theorem dX6_cond_24 : decode cX6_cond 24 = .ok (.invokevirtual 179, 3) := by decide +kernel
theorem dX6_cond_27 : decode cX6_cond 27 = .ok (.goto (-23), 3) := by decide +kernel
theorem dX6_cond_30 : decode cX6_cond 30 = .ok (.return_, 1) := by decide +kernel
theorem dX6_conds_0 : decode cX6_conds 0 = .ok (.aload_n 0, 1) := by decide +kernel
theorem dX6_conds_1 : decode cX6_conds 1 = .ok (.invokevirtual 183, 3) := by decide +kernel
theorem dX6_conds_4 : decode cX6_conds 4 = .ok (.aload_n 0, 1) := by decide +kernel
theorem dX6_conds_5 : decode cX6_conds 5 = .ok (.ldc 99, 2) := by decide +kernel
theorem dX6_conds_7 : decode cX6_conds 7 = .ok (.invokevirtual 147, 3) := by decide +kernel
theorem dX6_conds_10 : decode cX6_conds 10 = .ok (.ifCond .eq 20, 3) := by decide +kernel
theorem dX6_conds_13 : decode cX6_conds 13 = .ok (.aload_n 0, 1) := by decide +kernel
theorem dX6_conds_14 : decode cX6_conds 14 = .ok (.invokevirtual 183, 3) := by decide +kernel
theorem dX6_conds_17 : decode cX6_conds 17 = .ok (.aload_n 0, 1) := by decide +kernel
theorem dX6_conds_18 : decode cX6_conds 18 = .ok (.getfield 19, 3) := by decide +kernel
theorem dX6_conds_21 : decode cX6_conds 21 = .ok (.bipush 6, 2) := by decide +kernel
theorem dX6_conds_23 : decode cX6_conds 23 = .ok (.iconst 0, 1) := by decide +kernel
theorem dX6_conds_24 : decode cX6_conds 24 = .ok (.invokevirtual 179, 3) := by decide +kernel
theorem dX6_conds_27 : decode cX6_conds 27 = .ok (.goto (-23), 3) := by decide +kernel
theorem dX6_conds_30 : decode cX6_conds 30 = .ok (.return_, 1) := by decide +kernel
theorem dX6_cmp_0 : decode cX6_cmp 0 = .ok (.aload_n 0, 1) := by decide +kernel
theorem dX6_cmp_1 : decode cX6_cmp 1 = .ok (.invokevirtual 150, 3) := by decide +kernel
theorem dX6_cmp_4 : decode cX6_cmp 4 = .ok (.aload_n 0, 1) := by decide +kernel
theorem dX6_cmp_5 : decode cX6_cmp 5 = .ok (.ldc 186, 2) := by decide +kernel
theorem dX6_cmp_7 : decode cX6_cmp 7 = .ok (.invokevirtual 69, 3) := by decide +kernel
theorem dX6_cmp_10 : decode cX6_cmp 10 = .ok (.ifCond .eq 7, 3) := by decide +kernel
theorem dX6_cmp_13 : decode cX6_cmp 13 = .ok (.iconst 0, 1) := by decide +kernel
theorem dX6_cmp_14 : decode cX6_cmp 14 = .ok (.goto 69, 3) := by decide +kernel
theorem dX6_cmp_17 : decode cX6_cmp 17 = .ok (.aload_n 0, 1) := by decide +kernel
theorem dX6_cmp_18 : decode cX6_cmp 18 = .ok (.ldc 188, 2) := by decide +kernel
theorem dX6_cmp_20 : decode cX6_cmp 20 = .ok (.invokevirtual 69, 3) := by decide +kernel
theorem dX6_cmp_23 : decode cX6_cmp 23 = .ok (.ifCond .eq 7, 3) := by decide +kernel
theorem dX6_cmp_26 : decode cX6_cmp 26 = .ok (.iconst 1, 1) := by decide +kernel
theorem dX6_cmp_27 : decode cX6_cmp 27 = .ok (.goto 56, 3) := by decide +kernel
theorem dX6_cmp_30 : decode cX6_cmp 30 = .ok (.aload_n 0, 1) := by decide +kernel
theorem dX6_cmp_31 : decode cX6_cmp 31 = .ok (.ldc 190, 2) := by decide +kernel
theorem dX6_cmp_33 : decode cX6_cmp 33 = .ok (.invokevirtual 69, 3) := by decide +kernel
theorem dX6_cmp_36 : decode cX6_cmp 36 = .ok (.ifCond .eq 7, 3) := by decide +kernel
theorem dX6_cmp_39 : decode cX6_cmp 39 = .ok (.iconst 2, 1) := by decide +kernel
theorem dX6_cmp_40 : decode cX6_cmp 40 = .ok (.goto 43, 3) := by decide +kernel
theorem dX6_cmp_43 : decode cX6_cmp 43 = .ok (.aload_n 0, 1) := by decide +kernel
theorem dX6_cmp_44 : decode cX6_cmp 44 = .ok (.ldc 192, 2) := by decide +kernel
theorem dX6_cmp_46 : decode cX6_cmp 46 = .ok (.invokevirtual 69, 3) := by decide +kernel
theorem dX6_cmp_49 : decode cX6_cmp 49 = .ok (.ifCond .eq 7, 3) := by decide +kernel
theorem dX6_cmp_52 : decode cX6_cmp 52 = .ok (.iconst 3, 1) := by decide +kernel
theorem dX6_cmp_53 : decode cX6_cmp 53 = .ok (.goto 30, 3) := by decide +kernel
theorem dX6_cmp_56 : decode cX6_cmp 56 = .ok (.aload_n 0, 1) := by decide +kernel
theorem dX6_cmp_57 : decode cX6_cmp 57 = .ok (.ldc 194, 2) := by decide +kernel
theorem dX6_cmp_59 : decode cX6_cmp 59 = .ok (.invokevirtual 69, 3) := by decide +kernel
theorem dX6_cmp_62 : decode cX6_cmp 62 = .ok (.ifCond .eq 7, 3) := by decide +kernel
theorem dX6_cmp_65 : decode cX6_cmp 65 = .ok (.iconst 4, 1) := by decide +kernel
theorem dX6_cmp_66 : decode cX6_cmp 66 = .ok (.goto 17, 3) := by decide +kernel
theorem dX6_cmp_69 : decode cX6_cmp 69 = .ok (.aload_n 0, 1) := by decide +kernel
theorem dX6_cmp_70 : decode cX6_cmp 70 = .ok (.ldc 196, 2) := by decide +kernel
theorem dX6_cmp_72 : decode cX6_cmp 72 = .ok (.invokevirtual 69, 3) := by decide +kernel
theorem dX6_cmp_75 : decode cX6_cmp 75 = .ok (.ifCond .eq 7, 3) := by decide +kernel
theorem dX6_cmp_78 : decode cX6_cmp 78 = .ok (.iconst 5, 1) := by decide +kernel
theorem dX6_cmp_79 : decode cX6_cmp 79 = .ok (.goto 4, 3) := by decide +kernel
theorem dX6_cmp_82 : decode cX6_cmp 82 = .ok (.iconst (-1), 1) := by decide +kernel
theorem dX6_cmp_83 : decode cX6_cmp 83 = .ok (.istore_n 1, 1) := by decide +kernel
theorem dX6_cmp_84 : decode cX6_cmp 84 = .ok (.aload_n 0, 1) := by decide +kernel
theorem dX6_cmp_85 : decode cX6_cmp 85 = .ok (.iload_n 1, 1) := by decide +kernel
theorem dX6_cmp_86 : decode cX6_cmp 86 = .ok (.iconst (-1), 1) := by decide +kernel
theorem dX6_cmp_87 : decode cX6_cmp 87 = .ok (.if_icmp .eq 7, 3) := by decide +kernel
theorem dX6_cmp_90 : decode cX6_cmp 90 = .ok (.iconst 1, 1) := by decide +kernel
theorem dX6_cmp_91 : decode cX6_cmp 91 = .ok (.goto 4, 3) := by decide +kernel
theorem dX6_cmp_94 : decode cX6_cmp 94 = .ok (.iconst 0, 1) := by decide +kernel
theorem dX6_cmp_95 : decode cX6_cmp 95 = .ok (.invokevirtual 108, 3) := by decide +kernel
theorem dX6_cmp_98 : decode cX6_cmp 98 = .ok (.aload_n 0, 1) := by decide +kernel
theorem dX6_cmp_99 : decode cX6_cmp 99 = .ok (.invokevirtual 73, 3) := by decide +kernel
theorem dX6_cmp_102 : decode cX6_cmp 102 = .ok (.aload_n 0, 1) := by decide +kernel
theorem dX6_cmp_103 : decode cX6_cmp 103 = .ok (.invokevirtual 150, 3) := by decide +kernel
theorem dX6_cmp_106 : decode cX6_cmp 106 = .ok (.aload_n 0, 1) := by decide +kernel
theorem dX6_cmp_107 : decode cX6_cmp 107 = .ok (.getfield 19, 3) := by decide +kernel
theorem dX6_cmp_110 : decode cX6_cmp 110 = .ok (.bipush 8, 2) := by decide +kernel
theorem dX6_cmp_112 : decode cX6_cmp 112 = .ok (.iload_n 1, 1) := by decide +kernel
theorem dX6_cmp_113 : decode cX6_cmp 113 = .ok (.iadd, 1) := by decide +kernel
theorem dX6_cmp_114 : decode cX6_cmp 114 = .ok (.iconst 0, 1) := by decide +kernel
theorem dX6_cmp_115 : decode cX6_cmp 115 = .ok (.invokevirtual 179, 3) := by decide +kernel
theorem dX6_cmp_118 : decode cX6_cmp 118 = .ok (.return_, 1) := by decide +kernel
theorem dX6_expr_0 : decode cX6_expr 0 = .ok (.aload_n 0, 1) := by decide +kernel
theorem dX6_expr_1 : decode cX6_expr 1 = .ok (.invokevirtual 198, 3) := by decide +kernel
theorem dX6_expr_4 : decode cX6_expr 4 = .ok (.aload_n 0, 1) := by decide +kernel
theorem dX6_expr_5 : decode cX6_expr 5 = .ok (.ldc 201, 2) := by decide +kernel
theorem dX6_expr_7 : decode cX6_expr 7 = .ok (.invokevirtual 69, 3) := by decide +kernel
theorem dX6_expr_10 : decode cX6_expr 10 = .ok (.ifCond .ne 12, 3) := by decide +kernel
theorem dX6_expr_13 : decode cX6_expr 13 = .ok (.aload_n 0, 1) := by decide +kernel
theorem dX6_expr_14 : decode cX6_expr 14 = .ok (.ldc 171, 2) := by decide +kernel
theorem dX6_expr_16 : decode cX6_expr 16 = .ok (.invokevirtual 69, 3) := by decide +kernel
theorem dX6_expr_19 : decode cX6_expr 19 = .ok (.ifCond .eq 38, 3) := by decide +kernel
theorem dX6_expr_22 : decode cX6_expr 22 = .ok (.aload_n 0, 1) := by decide +kernel
theorem dX6_expr_23 : decode cX6_expr 23 = .ok (.ldc 201, 2) := by decide +kernel
theorem dX6_expr_25 : decode cX6_expr 25 = .ok (.invokevirtual 69, 3) := by decide +kernel
theorem dX6_expr_28 : decode cX6_expr 28 = .ok (.ifCond .eq 7, 3) := by decide +kernel
theorem dX6_expr_31 : decode cX6_expr 31 = .ok (.iconst 3, 1) := by decide +kernel
theorem dX6_expr_32 : decode cX6_expr 32 = .ok (.goto 4, 3) := by decide +kernel
theorem dX6_expr_35 : decode cX6_expr 35 = .ok (.iconst 4, 1) := by decide +kernel
theorem dX6_expr_36 : decode cX6_expr 36 = .ok (.istore_n 1, 1) := by decide +kernel
theorem dX6_expr_37 : decode cX6_expr 37 = .ok (.aload_n 0, 1) := by decide +kernel
theorem dX6_expr_38 : decode cX6_expr 38 = .ok (.invokevirtual 73, 3) := by decide +kernel
theorem dX6_expr_41 : decode cX6_expr 41 = .ok (.aload_n 0, 1) := by decide +kernel
theorem dX6_expr_42 : decode cX6_expr 42 = .ok (.invokevirtual 198, 3) := by decide +kernel
theorem dX6_expr_45 : decode cX6_expr 45 = .ok (.aload_n 0, 1) := by decide +kernel
theorem dX6_expr_46 : decode cX6_expr 46 = .ok (.getfield 19, 3) := by decide +kernel
theorem dX6_expr_49 : decode cX6_expr 49 = .ok (.iload_n 1, 1) := by decide +kernel
theorem dX6_expr_50 : decode cX6_expr 50 = .ok (.iconst 0, 1) := by decide +kernel
theorem dX6_expr_51 : decode cX6_expr 51 = .ok (.invokevirtual 179, 3) := by decide +kernel
theorem dX6_expr_54 : decode cX6_expr 54 = .ok (.goto (-50), 3) := by decide +kernel
theorem dX6_expr_57 : decode cX6_expr 57 = .ok (.aload_n 0, 1) := by decide +kernel
theorem dX6_expr_58 : decode cX6_expr 58 = .ok (.getfield 19, 3) := by decide +kernel
theorem dX6_expr_61 : decode cX6_expr 61 = .ok (.iconst 5, 1) := by decide +kernel
theorem dX6_expr_62 : decode cX6_expr 62 = .ok (.iconst 0, 1) := by decide +kernel
theorem dX6_expr_63 : decode cX6_expr 63 = .ok (.invokevirtual 179, 3) := by decide +kernel
theorem dX6_expr_66 : decode cX6_expr 66 = .ok (.return_, 1) := by decide +kernel
theorem dX6_term_0 : decode cX6_term 0 = .ok (.aload_n 0, 1) := by decide +kernel
theorem dX6_term_1 : decode cX6_term 1 = .ok (.getfield 40, 3) := by decide +kernel
theorem dX6_term_4 : decode cX6_term 4 = .ok (.iconst 2, 1) := by decide +kernel
theorem dX6_term_5 : decode cX6_term 5 = .ok (.if_icmp .ne 18, 3) := by decide +kernel
theorem dX6_term_8 : decode cX6_term 8 = .ok (.aload_n 0, 1) := by decide +kernel
theorem dX6_term_9 : decode cX6_term 9 = .ok (.getfield 19, 3) := by decide +kernel
theorem dX6_term_12 : decode cX6_term 12 = .ok (.iconst 0, 1) := by decide +kernel
theorem dX6_term_13 : decode cX6_term 13 = .ok (.aload_n 0, 1) := by decide +kernel
theorem dX6_term_14 : decode cX6_term 14 = .ok (.invokevirtual 173, 3) := by decide +kernel
theorem dX6_term_17 : decode cX6_term 17 = .ok (.invokevirtual 179, 3) := by decide +kernel
theorem dX6_term_20 : decode cX6_term 20 = .ok (.goto 139, 3) := by decide +kernel
theorem dX6_term_23 : decode cX6_term 23 = .ok (.aload_n 0, 1) := by decide +kernel
theorem dX6_term_24 : decode cX6_term 24 = .ok (.ldc 171, 2) := by decide +kernel
theorem dX6_term_26 : decode cX6_term 26 = .ok (.invokevirtual 147, 3) := by decide +kernel
theorem dX6_term_29 : decode cX6_term 29 = .ok (.ifCond .eq 36, 3) := by decide +kernel
theorem dX6_term_32 : decode cX6_term 32 = .ok (.aload_n 0, 1) := by decide +kernel
theorem dX6_term_33 : decode cX6_term 33 = .ok (.aload_n 0, 1) := by decide +kernel
theorem dX6_term_34 : decode cX6_term 34 = .ok (.getfield 40, 3) := by decide +kernel
theorem dX6_term_37 : decode cX6_term 37 = .ok (.iconst 2, 1) := by decide +kernel
theorem dX6_term_38 : decode cX6_term 38 = .ok (.if_icmp .ne 7, 3) := by decide +kernel
theorem dX6_term_41 : decode cX6_term 41 = .ok (.iconst 1, 1) := by decide +kernel
theorem dX6_term_42 : decode cX6_term 42 = .ok (.goto 4, 3) := by decide +kernel
theorem dX6_term_45 : decode cX6_term 45 = .ok (.iconst 0, 1) := by decide +kernel
theorem dX6_term_46 : decode cX6_term 46 = .ok (.invokevirtual 108, 3) := by decide +kernel
theorem dX6_term_49 : decode cX6_term 49 = .ok (.aload_n 0, 1) := by decide +kernel
theorem dX6_term_50 : decode cX6_term 50 = .ok (.getfield 19, 3) := by decide +kernel
theorem dX6_term_53 : decode cX6_term 53 = .ok (.iconst 0, 1) := by decide +kernel
theorem dX6_term_54 : decode cX6_term 54 = .ok (.aload_n 0, 1) := by decide +kernel
theorem dX6_term_55 : decode cX6_term 55 = .ok (.invokevirtual 173, 3) := by decide +kernel
theorem dX6_term_58 : decode cX6_term 58 = .ok (.ineg, 1) := by decide +kernel
theorem dX6_term_59 : decode cX6_term 59 = .ok (.invokevirtual 179, 3) := by decide +kernel
theorem dX6_term_62 : decode cX6_term 62 = .ok (.goto 97, 3) := by decide +kernel
theorem dX6_term_65 : decode cX6_term 65 = .ok (.aload_n 0, 1) := by decide +kernel
theorem dX6_term_66 : decode cX6_term 66 = .ok (.ldc 103, 2) := by decide +kernel
theorem dX6_term_68 : decode cX6_term 68 = .ok (.invokevirtual 147, 3) := by decide +kernel
theorem dX6_term_71 : decode cX6_term 71 = .ok (.ifCond .eq 44, 3) := by decide +kernel
theorem dX6_term_74 : decode cX6_term 74 = .ok (.aload_n 0, 1) := by decide +kernel
theorem dX6_term_75 : decode cX6_term 75 = .ok (.aload_n 0, 1) := by decide +kernel
theorem dX6_term_76 : decode cX6_term 76 = .ok (.getfield 40, 3) := by decide +kernel
theorem dX6_term_79 : decode cX6_term 79 = .ok (.iconst 2, 1) := by decide +kernel
theorem dX6_term_80 : decode cX6_term 80 = .ok (.if_icmp .ne 16, 3) := by decide +kernel
theorem dX6_term_83 : decode cX6_term 83 = .ok (.aload_n 0, 1) := by decide +kernel
theorem dX6_term_84 : decode cX6_term 84 = .ok (.invokevirtual 173, 3) := by decide +kernel
theorem dX6_term_87 : decode cX6_term 87 = .ok (.bipush 6, 2) := by decide +kernel
theorem dX6_term_89 : decode cX6_term 89 = .ok (.if_icmp .ge 7, 3) := by decide +kernel
theorem dX6_term_92 : decode cX6_term 92 = .ok (.iconst 1, 1) := by decide +kernel
theorem dX6_term_93 : decode cX6_term 93 = .ok (.goto 4, 3) := by decide +kernel
theorem dX6_term_96 : decode cX6_term 96 = .ok (.iconst 0, 1) := by decide +kernel
theorem dX6_term_97 : decode cX6_term 97 = .ok (.invokevirtual 108, 3) := by decide +kernel
theorem dX6_term_100 : decode cX6_term 100 = .ok (.aload_n 0, 1) := by decide +kernel
theorem dX6_term_101 : decode cX6_term 101 = .ok (.getfield 19, 3) := by decide +kernel
theorem dX6_term_104 : decode cX6_term 104 = .ok (.iconst 2, 1) := by decide +kernel
theorem dX6_term_105 : decode cX6_term 105 = .ok (.aload_n 0, 1) := by decide +kernel
theorem dX6_term_106 : decode cX6_term 106 = .ok (.invokevirtual 173, 3) := by decide +kernel
theorem dX6_term_109 : decode cX6_term 109 = .ok (.invokevirtual 179, 3) := by decide +kernel
theorem dX6_term_112 : decode cX6_term 112 = .ok (.goto 47, 3) := by decide +kernel
theorem dX6_term_115 : decode cX6_term 115 = .ok (.aload_n 0, 1) := by decide +kernel
theorem dX6_term_116 : decode cX6_term 116 = .ok (.aload_n 0, 1) := by decide +kernel
theorem dX6_term_117 : decode cX6_term 117 = .ok (.invokevirtual 159, 3) := by decide +kernel
theorem dX6_term_120 : decode cX6_term 120 = .ok (.ifCond .eq 19, 3) := by decide +kernel
theorem dX6_term_123 : decode cX6_term 123 = .ok (.aload_n 0, 1) := by decide +kernel
theorem dX6_term_124 : decode cX6_term 124 = .ok (.aload_n 0, 1) := by decide +kernel
theorem dX6_term_125 : decode cX6_term 125 = .ok (.invokevirtual 163, 3) := by decide +kernel
theorem dX6_term_128 : decode cX6_term 128 = .ok (.invokevirtual 167, 3) := by decide +kernel
theorem dX6_term_131 : decode cX6_term 131 = .ok (.iconst (-1), 1) := by decide +kernel
theorem dX6_term_132 : decode cX6_term 132 = .ok (.if_icmp .eq 7, 3) := by decide +kernel
theorem dX6_term_135 : decode cX6_term 135 = .ok (.iconst 1, 1) := by decide +kernel
theorem dX6_term_136 : decode cX6_term 136 = .ok (.goto 4, 3) := by decide +kernel
theorem dX6_term_139 : decode cX6_term 139 = .ok (.iconst 0, 1) := by decide +kernel
theorem dX6_term_140 : decode cX6_term 140 = .ok (.invokevirtual 108, 3) := by decide +kernel
theorem dX6_term_143 : decode cX6_term 143 = .ok (.aload_n 0, 1) := by decide +kernel
theorem dX6_term_144 : decode cX6_term 144 = .ok (.getfield 19, 3) := by decide +kernel
theorem dX6_term_147 : decode cX6_term 147 = .ok (.iconst 1, 1) := by decide +kernel
theorem dX6_term_148 : decode cX6_term 148 = .ok (.aload_n 0, 1) := by decide +kernel
theorem dX6_term_149 : decode cX6_term 149 = .ok (.aload_n 0, 1) := by decide +kernel
theorem dX6_term_150 : decode cX6_term 150 = .ok (.invokevirtual 163, 3) := by decide +kernel
theorem dX6_term_153 : decode cX6_term 153 = .ok (.invokevirtual 167, 3) := by decide +kernel
theorem dX6_term_156 : decode cX6_term 156 = .ok (.invokevirtual 179, 3) := by decide +kernel
theorem dX6_term_159 : decode cX6_term 159 = .ok (.aload_n 0, 1) := by decide +kernel
theorem dX6_term_160 : decode cX6_term 160 = .ok (.invokevirtual 73, 3) := by decide +kernel
theorem dX6_term_163 : decode cX6_term 163 = .ok (.return_, 1) := by decide +kernel
theorem dX7_init_0 : decode cX7_init 0 = .ok (.aload_n 0, 1) := by decide +kernel
theorem dX7_init_1 : decode cX7_init 1 = .ok (.ldc 1, 2) := by decide +kernel
theorem dX7_init_3 : decode cX7_init 3 = .ok (.aconst_null, 1) := by decide +kernel
theorem dX7_init_4 : decode cX7_init 4 = .ok (.iconst 0, 1) := by decide +kernel
theorem dX7_init_5 : decode cX7_init 5 = .ok (.iconst 0, 1) := by decide +kernel
theorem dX7_init_6 : decode cX7_init 6 = .ok (.invokespecial 3, 3) := by decide +kernel
theorem dX7_init_9 : decode cX7_init 9 = .ok (.aload_n 0, 1) := by decide +kernel
theorem dX7_init_10 : decode cX7_init 10 = .ok (.iload_n 1, 1) := by decide +kernel
theorem dX7_init_11 : decode cX7_init 11 = .ok (.putfield 9, 3) := by decide +kernel
theorem dX7_init_14 : decode cX7_init 14 = .ok (.return_, 1) := by decide +kernel
theorem dX8_init_0 : decode cX8_init 0 = .ok (.aload_n 0, 1) := by decide +kernel
theorem dX8_init_1 : decode cX8_init 1 = .ok (.invokespecial 3, 3) := by decide +kernel
theorem dX8_init_4 : decode cX8_init 4 = .ok (.aload_n 0, 1) := by decide +kernel
theorem dX8_init_5 : decode cX8_init 5 = .ok (.bipush 6, 2) := by decide +kernel
theorem dX8_init_7 : decode cX8_init 7 = .ok (.newarray .int, 2) := by decide +kernel
theorem dX8_init_9 : decode cX8_init 9 = .ok (.putfield 9, 3) := by decide +kernel
theorem dX8_init_12 : decode cX8_init 12 = .ok (.aload_n 0, 1) := by decide +kernel
theorem dX8_init_13 : decode cX8_init 13 = .ok (.bipush 20, 2) := by decide +kernel
theorem dX8_init_15 : decode cX8_init 15 = .ok (.newarray .boolean, 2) := by decide +kernel
theorem dX8_init_17 : decode cX8_init 17 = .ok (.putfield 15, 3) := by decide +kernel
theorem dX8_init_20 : decode cX8_init 20 = .ok (.aload_n 0, 1) := by decide +kernel
theorem dX8_init_21 : decode cX8_init 21 = .ok (.bipush 20, 2) := by decide +kernel
theorem dX8_init_23 : decode cX8_init 23 = .ok (.newarray .int, 2) := by decide +kernel
theorem dX8_init_25 : decode cX8_init 25 = .ok (.putfield 19, 3) := by decide +kernel
theorem dX8_init_28 : decode cX8_init 28 = .ok (.aload_n 0, 1) := by decide +kernel
theorem dX8_init_29 : decode cX8_init 29 = .ok (.bipush 20, 2) := by decide +kernel
theorem dX8_init_31 : decode cX8_init 31 = .ok (.newarray .int, 2) := by decide +kernel
theorem dX8_init_33 : decode cX8_init 33 = .ok (.putfield 22, 3) := by decide +kernel
theorem dX8_init_36 : decode cX8_init 36 = .ok (.aload_n 0, 1) := by decide +kernel
theorem dX8_init_37 : decode cX8_init 37 = .ok (.bipush 20, 2) := by decide +kernel
theorem dX8_init_39 : decode cX8_init 39 = .ok (.newarray .int, 2) := by decide +kernel
theorem dX8_init_41 : decode cX8_init 41 = .ok (.putfield 25, 3) := by decide +kernel
theorem dX8_init_44 : decode cX8_init 44 = .ok (.aload_n 0, 1) := by decide +kernel
theorem dX8_init_45 : decode cX8_init 45 = .ok (.iconst (-1), 1) := by decide +kernel
theorem dX8_init_46 : decode cX8_init 46 = .ok (.putfield 28, 3) := by decide +kernel
theorem dX8_init_49 : decode cX8_init 49 = .ok (.aload_n 0, 1) := by decide +kernel
theorem dX8_init_50 : decode cX8_init 50 = .ok (.aload_n 1, 1) := by decide +kernel
theorem dX8_init_51 : decode cX8_init 51 = .ok (.putfield 32, 3) := by decide +kernel
theorem dX8_init_54 : decode cX8_init 54 = .ok (.aload_n 0, 1) := by decide +kernel
theorem dX8_init_55 : decode cX8_init 55 = .ok (.iload_n 2, 1) := by decide +kernel
theorem dX8_init_56 : decode cX8_init 56 = .ok (.putfield 36, 3) := by decide +kernel
theorem dX8_init_59 : decode cX8_init 59 = .ok (.aload_n 0, 1) := by decide +kernel
theorem dX8_init_60 : decode cX8_init 60 = .ok (.iload_n 3, 1) := by decide +kernel
theorem dX8_init_61 : decode cX8_init 61 = .ok (.putfield 39, 3) := by decide +kernel
theorem dX8_init_64 : decode cX8_init 64 = .ok (.iconst 0, 1) := by decide +kernel
theorem dX8_init_65 : decode cX8_init 65 = .ok (.istore 4, 2) := by decide +kernel
theorem dX8_init_67 : decode cX8_init 67 = .ok (.iload 4, 2) := by decide +kernel
theorem dX8_init_69 : decode cX8_init 69 = .ok (.bipush 20, 2) := by decide +kernel
theorem dX8_init_71 : decode cX8_init 71 = .ok (.if_icmp .ge 18, 3) := by decide +kernel
theorem dX8_init_74 : decode cX8_init 74 = .ok (.aload_n 0, 1) := by decide +kernel
theorem dX8_init_75 : decode cX8_init 75 = .ok (.getfield 22, 3) := by decide +kernel
theorem dX8_init_78 : decode cX8_init 78 = .ok (.iload 4, 2) := by decide +kernel
theorem dX8_init_80 : decode cX8_init 80 = .ok (.ldc 42, 2) := by decide +kernel
theorem dX8_init_82 : decode cX8_init 82 = .ok (.iastore, 1) := by decide +kernel
theorem dX8_init_83 : decode cX8_init 83 = .ok (.iinc 4 1, 3) := by decide +kernel
theorem dX8_init_86 : decode cX8_init 86 = .ok (.goto (-19), 3) := by decide +kernel
theorem dX8_init_89 : decode cX8_init 89 = .ok (.return_, 1) := by decide +kernel
theorem dX9_init_0 : decode cX9_init 0 = .ok (.aload_n 0, 1) := by decide +kernel
theorem dX9_init_1 : decode cX9_init 1 = .ok (.invokespecial 3, 3) := by decide +kernel
theorem dX9_init_4 : decode cX9_init 4 = .ok (.aload_n 0, 1) := by decide +kernel
theorem dX9_init_5 : decode cX9_init 5 = .ok (.bipush 20, 2) := by decide +kernel
theorem dX9_init_7 : decode cX9_init 7 = .ok (.newarray .int, 2) := by decide +kernel
theorem dX9_init_9 : decode cX9_init 9 = .ok (.putfield 9, 3) := by decide +kernel
theorem dX9_init_12 : decode cX9_init 12 = .ok (.aload_n 0, 1) := by decide +kernel
theorem dX9_init_13 : decode cX9_init 13 = .ok (.bipush 20, 2) := by decide +kernel
theorem dX9_init_15 : decode cX9_init 15 = .ok (.newarray .int, 2) := by decide +kernel
theorem dX9_init_17 : decode cX9_init 17 = .ok (.putfield 15, 3) := by decide +kernel
theorem dX9_init_20 : decode cX9_init 20 = .ok (.aload_n 0, 1) := by decide +kernel
theorem dX9_init_21 : decode cX9_init 21 = .ok (.aload_n 1, 1) := by decide +kernel
theorem dX9_init_22 : decode cX9_init 22 = .ok (.putfield 18, 3) := by decide +kernel
theorem dX9_init_25 : decode cX9_init 25 = .ok (.aload_n 0, 1) := by decide +kernel
theorem dX9_init_26 : decode cX9_init 26 = .ok (.aload_n 1, 1) := by decide +kernel
theorem dX9_init_27 : decode cX9_init 27 = .ok (.getfield 22, 3) := by decide +kernel
theorem dX9_init_30 : decode cX9_init 30 = .ok (.putfield 28, 3) := by decide +kernel
theorem dX9_init_33 : decode cX9_init 33 = .ok (.iconst 0, 1) := by decide +kernel
theorem dX9_init_34 : decode cX9_init 34 = .ok (.istore_n 2, 1) := by decide +kernel
theorem dX9_init_35 : decode cX9_init 35 = .ok (.iload_n 2, 1) := by decide +kernel
theorem dX9_init_36 : decode cX9_init 36 = .ok (.bipush 20, 2) := by decide +kernel
theorem dX9_init_38 : decode cX9_init 38 = .ok (.if_icmp .ge 21, 3) := by decide +kernel
theorem dX9_init_41 : decode cX9_init 41 = .ok (.aload_n 0, 1) := by decide +kernel
theorem dX9_init_42 : decode cX9_init 42 = .ok (.getfield 9, 3) := by decide +kernel
theorem dX9_init_45 : decode cX9_init 45 = .ok (.iload_n 2, 1) := by decide +kernel
theorem dX9_init_46 : decode cX9_init 46 = .ok (.aload_n 1, 1) := by decide +kernel
theorem dX9_init_47 : decode cX9_init 47 = .ok (.getfield 29, 3) := by decide +kernel
theorem dX9_init_50 : decode cX9_init 50 = .ok (.iload_n 2, 1) := by decide +kernel
theorem dX9_init_51 : decode cX9_init 51 = .ok (.iaload, 1) := by decide +kernel
theorem dX9_init_52 : decode cX9_init 52 = .ok (.iastore, 1) := by decide +kernel
theorem dX9_init_53 : decode cX9_init 53 = .ok (.iinc 2 1, 3) := by decide +kernel
theorem dX9_init_56 : decode cX9_init 56 = .ok (.goto (-21), 3) := by decide +kernel
theorem dX9_init_59 : decode cX9_init 59 = .ok (.return_, 1) := by decide +kernel
theorem dX10_init_0 : decode cX10_init 0 = .ok (.aload_n 0, 1) := by decide +kernel
theorem dX10_init_1 : decode cX10_init 1 = .ok (.invokespecial 3, 3) := by decide +kernel
theorem dX10_init_4 : decode cX10_init 4 = .ok (.aload_n 0, 1) := by decide +kernel
theorem dX10_init_5 : decode cX10_init 5 = .ok (.bipush 100, 2) := by decide +kernel
theorem dX10_init_7 : decode cX10_init 7 = .ok (.newarray .boolean, 2) := by decide +kernel
theorem dX10_init_9 : decode cX10_init 9 = .ok (.putfield 9, 3) := by decide +kernel
theorem dX10_init_12 : decode cX10_init 12 = .ok (.aload_n 0, 1) := by decide +kernel
theorem dX10_init_13 : decode cX10_init 13 = .ok (.bipush 100, 2) := by decide +kernel
theorem dX10_init_15 : decode cX10_init 15 = .ok (.newarray .int, 2) := by decide +kernel
theorem dX10_init_17 : decode cX10_init 17 = .ok (.putfield 15, 3) := by decide +kernel
theorem dX10_init_20 : decode cX10_init 20 = .ok (.aload_n 0, 1) := by decide +kernel
theorem dX10_init_21 : decode cX10_init 21 = .ok (.bipush 100, 2) := by decide +kernel
theorem dX10_init_23 : decode cX10_init 23 = .ok (.newarray .int, 2) := by decide +kernel
theorem dX10_init_25 : decode cX10_init 25 = .ok (.putfield 19, 3) := by decide +kernel
theorem dX10_init_28 : decode cX10_init 28 = .ok (.return_, 1) := by decide +kernel
theorem dX11_init_0 : decode cX11_init 0 = .ok (.aload_n 0, 1) := by decide +kernel
theorem dX11_init_1 : decode cX11_init 1 = .ok (.invokespecial 3, 3) := by decide +kernel
theorem dX11_init_4 : decode cX11_init 4 = .ok (.aload_n 0, 1) := by decide +kernel
theorem dX11_init_5 : decode cX11_init 5 = .ok (.bipush 12, 2) := by decide +kernel
theorem dX11_init_7 : decode cX11_init 7 = .ok (.newarray .int, 2) := by decide +kernel
theorem dX11_init_9 : decode cX11_init 9 = .ok (.putfield 9, 3) := by decide +kernel
theorem dX11_init_12 : decode cX11_init 12 = .ok (.aload_n 0, 1) := by decide +kernel
theorem dX11_init_13 : decode cX11_init 13 = .ok (.bipush 12, 2) := by decide +kernel
theorem dX11_init_15 : decode cX11_init 15 = .ok (.newarray .int, 2) := by decide +kernel
theorem dX11_init_17 : decode cX11_init 17 = .ok (.putfield 15, 3) := by decide +kernel
theorem dX11_init_20 : decode cX11_init 20 = .ok (.aload_n 0, 1) := by decide +kernel
theorem dX11_init_21 : decode cX11_init 21 = .ok (.bipush 12, 2) := by decide +kernel
theorem dX11_init_23 : decode cX11_init 23 = .ok (.newarray .int, 2) := by decide +kernel
theorem dX11_init_25 : decode cX11_init 25 = .ok (.putfield 18, 3) := by decide +kernel
theorem dX11_init_28 : decode cX11_init 28 = .ok (.aload_n 0, 1) := by decide +kernel
theorem dX11_init_29 : decode cX11_init 29 = .ok (.bipush 12, 2) := by decide +kernel
theorem dX11_init_31 : decode cX11_init 31 = .ok (.newarray .int, 2) := by decide +kernel
theorem dX11_init_33 : decode cX11_init 33 = .ok (.putfield 21, 3) := by decide +kernel
theorem dX11_init_36 : decode cX11_init 36 = .ok (.aload_n 0, 1) := by decide +kernel
theorem dX11_init_37 : decode cX11_init 37 = .ok (.iload_n 1, 1) := by decide +kernel
theorem dX11_init_38 : decode cX11_init 38 = .ok (.putfield 24, 3) := by decide +kernel
theorem dX11_init_41 : decode cX11_init 41 = .ok (.aload_n 0, 1) := by decide +kernel
theorem dX11_init_42 : decode cX11_init 42 = .ok (.iload_n 2, 1) := by decide +kernel
theorem dX11_init_43 : decode cX11_init 43 = .ok (.putfield 28, 3) := by decide +kernel
theorem dX11_init_46 : decode cX11_init 46 = .ok (.return_, 1) := by decide +kernel
theorem dX11_cells_0 : decode cX11_cells 0 = .ok (.aload_n 0, 1) := by decide +kernel
theorem dX11_cells_1 : decode cX11_cells 1 = .ok (.getfield 24, 3) := by decide +kernel
theorem dX11_cells_4 : decode cX11_cells 4 = .ok (.aload_n 0, 1) := by decide +kernel
theorem dX11_cells_5 : decode cX11_cells 5 = .ok (.getfield 28, 3) := by decide +kernel
theorem dX11_cells_8 : decode cX11_cells 8 = .ok (.imul, 1) := by decide +kernel
theorem dX11_cells_9 : decode cX11_cells 9 = .ok (.ireturn, 1) := by decide +kernel
theorem dX11_told_0 : decode cX11_told 0 = .ok (.iconst 0, 1) := by decide +kernel
theorem dX11_told_1 : decode cX11_told 1 = .ok (.istore 5, 2) := by decide +kernel
theorem dX11_told_3 : decode cX11_told 3 = .ok (.iconst 0, 1) := by decide +kernel
theorem dX11_told_4 : decode cX11_told 4 = .ok (.istore 6, 2) := by decide +kernel
theorem dX11_told_6 : decode cX11_told 6 = .ok (.iload 6, 2) := by decide +kernel
theorem dX11_told_8 : decode cX11_told 8 = .ok (.aload_n 0, 1) := by decide +kernel
theorem dX11_told_9 : decode cX11_told 9 = .ok (.invokevirtual 31, 3) := by decide +kernel
theorem dX11_told_12 : decode cX11_told 12 = .ok (.if_icmp .ge 46, 3) := by decide +kernel
theorem dX11_told_15 : decode cX11_told 15 = .ok (.aload_n 0, 1) := by decide +kernel
theorem dX11_told_16 : decode cX11_told 16 = .ok (.iload 6, 2) := by decide +kernel
theorem dX11_told_18 : decode cX11_told 18 = .ok (.iload_n 2, 1) := by decide +kernel
theorem dX11_told_19 : decode cX11_told 19 = .ok (.iload_n 3, 1) := by decide +kernel
theorem dX11_told_20 : decode cX11_told 20 = .ok (.invokevirtual 35, 3) := by decide +kernel
theorem dX11_told_23 : decode cX11_told 23 = .ok (.ifCond .eq 29, 3) := by decide +kernel
theorem dX11_told_26 : decode cX11_told 26 = .ok (.iload 4, 2) := by decide +kernel
theorem dX11_told_28 : decode cX11_told 28 = .ok (.ifCond .eq 15, 3) := by decide +kernel
theorem dX11_told_31 : decode cX11_told 31 = .ok (.iload 5, 2) := by decide +kernel
theorem dX11_told_33 : decode cX11_told 33 = .ok (.aload_n 1, 1) := by decide +kernel
theorem dX11_told_34 : decode cX11_told 34 = .ok (.iload 6, 2) := by decide +kernel
theorem dX11_told_36 : decode cX11_told 36 = .ok (.iaload, 1) := by decide +kernel
theorem dX11_told_37 : decode cX11_told 37 = .ok (.invokestatic 39, 3) := by decide +kernel
theorem dX11_told_40 : decode cX11_told 40 = .ok (.goto 10, 3) := by decide +kernel
theorem dX11_told_43 : decode cX11_told 43 = .ok (.iload 5, 2) := by decide +kernel
theorem dX11_told_45 : decode cX11_told 45 = .ok (.aload_n 1, 1) := by decide +kernel
theorem dX11_told_46 : decode cX11_told 46 = .ok (.iload 6, 2) := by decide +kernel
theorem dX11_told_48 : decode cX11_told 48 = .ok (.iaload, 1) := by decide +kernel
theorem dX11_told_49 : decode cX11_told 49 = .ok (.iadd, 1) := by decide +kernel
theorem dX11_told_50 : decode cX11_told 50 = .ok (.istore 5, 2) := by decide +kernel
theorem dX11_told_52 : decode cX11_told 52 = .ok (.iinc 6 1, 3) := by decide +kernel
theorem dX11_told_55 : decode cX11_told 55 = .ok (.goto (-49), 3) := by decide +kernel
theorem dX11_told_58 : decode cX11_told 58 = .ok (.iload 5, 2) := by decide +kernel
theorem dX11_told_60 : decode cX11_told 60 = .ok (.ireturn, 1) := by decide +kernel
theorem dX11_has_0 : decode cX11_has 0 = .ok (.iload_n 2, 1) := by decide +kernel
theorem dX11_has_1 : decode cX11_has 1 = .ok (.aload_n 0, 1) := by decide +kernel
theorem dX11_has_2 : decode cX11_has 2 = .ok (.getfield 24, 3) := by decide +kernel
theorem dX11_has_5 : decode cX11_has 5 = .ok (.if_icmp .eq 13, 3) := by decide +kernel
theorem dX11_has_8 : decode cX11_has 8 = .ok (.iload_n 1, 1) := by decide +kernel
theorem dX11_has_9 : decode cX11_has 9 = .ok (.aload_n 0, 1) := by decide +kernel
theorem dX11_has_10 : decode cX11_has 10 = .ok (.getfield 28, 3) := by decide +kernel
theorem dX11_has_13 : decode cX11_has 13 = .ok (.idiv, 1) := by decide +kernel
theorem dX11_has_14 : decode cX11_has 14 = .ok (.iload_n 2, 1) := by decide +kernel
theorem dX11_has_15 : decode cX11_has 15 = .ok (.if_icmp .ne 25, 3) := by decide +kernel
theorem dX11_has_18 : decode cX11_has 18 = .ok (.iload_n 3, 1) := by decide +kernel
theorem dX11_has_19 : decode cX11_has 19 = .ok (.aload_n 0, 1) := by decide +kernel
theorem dX11_has_20 : decode cX11_has 20 = .ok (.getfield 28, 3) := by decide +kernel
theorem dX11_has_23 : decode cX11_has 23 = .ok (.if_icmp .eq 13, 3) := by decide +kernel
theorem dX11_has_26 : decode cX11_has 26 = .ok (.iload_n 1, 1) := by decide +kernel
theorem dX11_has_27 : decode cX11_has 27 = .ok (.aload_n 0, 1) := by decide +kernel
theorem dX11_has_28 : decode cX11_has 28 = .ok (.getfield 28, 3) := by decide +kernel
theorem dX11_has_31 : decode cX11_has 31 = .ok (.irem, 1) := by decide +kernel
theorem dX11_has_32 : decode cX11_has 32 = .ok (.iload_n 3, 1) := by decide +kernel
theorem dX11_has_33 : decode cX11_has 33 = .ok (.if_icmp .ne 7, 3) := by decide +kernel
theorem dX11_has_36 : decode cX11_has 36 = .ok (.iconst 1, 1) := by decide +kernel
theorem dX11_has_37 : decode cX11_has 37 = .ok (.goto 4, 3) := by decide +kernel
theorem dX11_has_40 : decode cX11_has 40 = .ok (.iconst 0, 1) := by decide +kernel
theorem dX11_has_41 : decode cX11_has 41 = .ok (.ireturn, 1) := by decide +kernel
theorem dX12_init_0 : decode cX12_init 0 = .ok (.aload_n 0, 1) := by decide +kernel
theorem dX12_init_1 : decode cX12_init 1 = .ok (.invokespecial 3, 3) := by decide +kernel
theorem dX12_init_4 : decode cX12_init 4 = .ok (.aload_n 0, 1) := by decide +kernel
theorem dX12_init_5 : decode cX12_init 5 = .ok (.bipush 12, 2) := by decide +kernel
theorem dX12_init_7 : decode cX12_init 7 = .ok (.newarray .int, 2) := by decide +kernel
theorem dX12_init_9 : decode cX12_init 9 = .ok (.putfield 9, 3) := by decide +kernel
theorem dX12_init_12 : decode cX12_init 12 = .ok (.aload_n 0, 1) := by decide +kernel
theorem dX12_init_13 : decode cX12_init 13 = .ok (.iload_n 1, 1) := by decide +kernel
theorem dX12_init_14 : decode cX12_init 14 = .ok (.putfield 15, 3) := by decide +kernel
theorem dX12_init_17 : decode cX12_init 17 = .ok (.aload_n 0, 1) := by decide +kernel
theorem dX12_init_18 : decode cX12_init 18 = .ok (.iload_n 2, 1) := by decide +kernel
theorem dX12_init_19 : decode cX12_init 19 = .ok (.putfield 19, 3) := by decide +kernel
theorem dX12_init_22 : decode cX12_init 22 = .ok (.aload_n 0, 1) := by decide +kernel
theorem dX12_init_23 : decode cX12_init 23 = .ok (.aload_n 3, 1) := by decide +kernel
theorem dX12_init_24 : decode cX12_init 24 = .ok (.putfield 22, 3) := by decide +kernel
theorem dX12_init_27 : decode cX12_init 27 = .ok (.aload_n 0, 1) := by decide +kernel
theorem dX12_init_28 : decode cX12_init 28 = .ok (.aload_n 3, 1) := by decide +kernel
theorem dX12_init_29 : decode cX12_init 29 = .ok (.getfield 26, 3) := by decide +kernel
theorem dX12_init_32 : decode cX12_init 32 = .ok (.putfield 31, 3) := by decide +kernel
theorem dX12_init_35 : decode cX12_init 35 = .ok (.iconst 0, 1) := by decide +kernel
theorem dX12_init_36 : decode cX12_init 36 = .ok (.istore 4, 2) := by decide +kernel
theorem dX12_init_38 : decode cX12_init 38 = .ok (.iload 4, 2) := by decide +kernel
theorem dX12_init_40 : decode cX12_init 40 = .ok (.aload_n 0, 1) := by decide +kernel
theorem dX12_init_41 : decode cX12_init 41 = .ok (.getfield 9, 3) := by decide +kernel
theorem dX12_init_44 : decode cX12_init 44 = .ok (.arraylength, 1) := by decide +kernel
theorem dX12_init_45 : decode cX12_init 45 = .ok (.if_icmp .ge 23, 3) := by decide +kernel
theorem dX12_init_48 : decode cX12_init 48 = .ok (.aload_n 0, 1) := by decide +kernel
theorem dX12_init_49 : decode cX12_init 49 = .ok (.getfield 9, 3) := by decide +kernel
theorem dX12_init_52 : decode cX12_init 52 = .ok (.iload 4, 2) := by decide +kernel
theorem dX12_init_54 : decode cX12_init 54 = .ok (.aload_n 3, 1) := by decide +kernel
theorem dX12_init_55 : decode cX12_init 55 = .ok (.getfield 32, 3) := by decide +kernel
theorem dX12_init_58 : decode cX12_init 58 = .ok (.iload 4, 2) := by decide +kernel
theorem dX12_init_60 : decode cX12_init 60 = .ok (.iaload, 1) := by decide +kernel
theorem dX12_init_61 : decode cX12_init 61 = .ok (.iastore, 1) := by decide +kernel
theorem dX12_init_62 : decode cX12_init 62 = .ok (.iinc 4 1, 3) := by decide +kernel
theorem dX12_init_65 : decode cX12_init 65 = .ok (.goto (-27), 3) := by decide +kernel
theorem dX12_init_68 : decode cX12_init 68 = .ok (.return_, 1) := by decide +kernel
theorem dX1_init_0 : decode cX1_init 0 = .ok (.aload_n 0, 1) := by decide +kernel
theorem dX1_init_1 : decode cX1_init 1 = .ok (.invokespecial 3, 3) := by decide +kernel
theorem dX1_init_4 : decode cX1_init 4 = .ok (.aload_n 0, 1) := by decide +kernel
theorem dX1_init_5 : decode cX1_init 5 = .ok (.bipush 100, 2) := by decide +kernel
theorem dX1_init_7 : decode cX1_init 7 = .ok (.newarray .int, 2) := by decide +kernel
theorem dX1_init_9 : decode cX1_init 9 = .ok (.putfield 11, 3) := by decide +kernel
theorem dX1_init_12 : decode cX1_init 12 = .ok (.aload_n 0, 1) := by decide +kernel
theorem dX1_init_13 : decode cX1_init 13 = .ok (.bipush 100, 2) := by decide +kernel
theorem dX1_init_15 : decode cX1_init 15 = .ok (.newarray .int, 2) := by decide +kernel
theorem dX1_init_17 : decode cX1_init 17 = .ok (.putfield 15, 3) := by decide +kernel
theorem dX1_init_20 : decode cX1_init 20 = .ok (.aload_n 0, 1) := by decide +kernel
theorem dX1_init_21 : decode cX1_init 21 = .ok (.sipush 600, 3) := by decide +kernel
theorem dX1_init_24 : decode cX1_init 24 = .ok (.newarray .int, 2) := by decide +kernel
theorem dX1_init_26 : decode cX1_init 26 = .ok (.putfield 18, 3) := by decide +kernel
theorem dX1_init_29 : decode cX1_init 29 = .ok (.aload_n 0, 1) := by decide +kernel
theorem dX1_init_30 : decode cX1_init 30 = .ok (.sipush 1500, 3) := by decide +kernel
theorem dX1_init_33 : decode cX1_init 33 = .ok (.newarray .int, 2) := by decide +kernel
theorem dX1_init_35 : decode cX1_init 35 = .ok (.putfield 21, 3) := by decide +kernel
theorem dX1_init_38 : decode cX1_init 38 = .ok (.aload_n 0, 1) := by decide +kernel
theorem dX1_init_39 : decode cX1_init 39 = .ok (.sipush 1500, 3) := by decide +kernel
theorem dX1_init_42 : decode cX1_init 42 = .ok (.newarray .int, 2) := by decide +kernel
theorem dX1_init_44 : decode cX1_init 44 = .ok (.putfield 24, 3) := by decide +kernel
theorem dX1_init_47 : decode cX1_init 47 = .ok (.aload_n 0, 1) := by decide +kernel
theorem dX1_init_48 : decode cX1_init 48 = .ok (.sipush 1500, 3) := by decide +kernel
theorem dX1_init_51 : decode cX1_init 51 = .ok (.newarray .int, 2) := by decide +kernel
theorem dX1_init_53 : decode cX1_init 53 = .ok (.putfield 27, 3) := by decide +kernel
theorem dX1_init_56 : decode cX1_init 56 = .ok (.aload_n 0, 1) := by decide +kernel
theorem dX1_init_57 : decode cX1_init 57 = .ok (.sipush 1500, 3) := by decide +kernel
theorem dX1_init_60 : decode cX1_init 60 = .ok (.newarray .int, 2) := by decide +kernel
theorem dX1_init_62 : decode cX1_init 62 = .ok (.putfield 30, 3) := by decide +kernel
theorem dX1_init_65 : decode cX1_init 65 = .ok (.aload_n 0, 1) := by decide +kernel
theorem dX1_init_66 : decode cX1_init 66 = .ok (.bipush 6, 2) := by decide +kernel
theorem dX1_init_68 : decode cX1_init 68 = .ok (.anewarray 33, 3) := by decide +kernel
theorem dX1_init_71 : decode cX1_init 71 = .ok (.putfield 35, 3) := by decide +kernel
theorem dX1_init_74 : decode cX1_init 74 = .ok (.aload_n 0, 1) := by decide +kernel
theorem dX1_init_75 : decode cX1_init 75 = .ok (.new 33, 3) := by decide +kernel
theorem dX1_init_78 : decode cX1_init 78 = .ok (.dup, 1) := by decide +kernel
theorem dX1_init_79 : decode cX1_init 79 = .ok (.invokespecial 39, 3) := by decide +kernel
theorem dX1_init_82 : decode cX1_init 82 = .ok (.putfield 40, 3) := by decide +kernel
theorem dX1_init_85 : decode cX1_init 85 = .ok (.aload_n 0, 1) := by decide +kernel
theorem dX1_init_86 : decode cX1_init 86 = .ok (.sipush 1200, 3) := by decide +kernel
theorem dX1_init_89 : decode cX1_init 89 = .ok (.newarray .byte, 2) := by decide +kernel
theorem dX1_init_91 : decode cX1_init 91 = .ok (.putfield 44, 3) := by decide +kernel
theorem dX1_init_94 : decode cX1_init 94 = .ok (.aload_n 0, 1) := by decide +kernel
theorem dX1_init_95 : decode cX1_init 95 = .ok (.bipush 16, 2) := by decide +kernel
theorem dX1_init_97 : decode cX1_init 97 = .ok (.newarray .long, 2) := by decide +kernel
theorem dX1_init_99 : decode cX1_init 99 = .ok (.putfield 48, 3) := by decide +kernel
theorem dX1_init_102 : decode cX1_init 102 = .ok (.aload_n 0, 1) := by decide +kernel
theorem dX1_init_103 : decode cX1_init 103 = .ok (.bipush 60, 2) := by decide +kernel
theorem dX1_init_105 : decode cX1_init 105 = .ok (.anewarray 52, 3) := by decide +kernel
theorem dX1_init_108 : decode cX1_init 108 = .ok (.putfield 54, 3) := by decide +kernel
theorem dX1_init_111 : decode cX1_init 111 = .ok (.aload_n 0, 1) := by decide +kernel
theorem dX1_init_112 : decode cX1_init 112 = .ok (.bipush 60, 2) := by decide +kernel
theorem dX1_init_114 : decode cX1_init 114 = .ok (.anewarray 58, 3) := by decide +kernel
theorem dX1_init_117 : decode cX1_init 117 = .ok (.putfield 60, 3) := by decide +kernel
theorem dX1_init_120 : decode cX1_init 120 = .ok (.aload_n 0, 1) := by decide +kernel
theorem dX1_init_121 : decode cX1_init 121 = .ok (.new 64, 3) := by decide +kernel
theorem dX1_init_124 : decode cX1_init 124 = .ok (.dup, 1) := by decide +kernel
theorem dX1_init_125 : decode cX1_init 125 = .ok (.aload_n 0, 1) := by decide +kernel
theorem dX1_init_126 : decode cX1_init 126 = .ok (.invokespecial 66, 3) := by decide +kernel
theorem dX1_init_129 : decode cX1_init 129 = .ok (.putfield 69, 3) := by decide +kernel
theorem dX1_init_132 : decode cX1_init 132 = .ok (.aload_n 0, 1) := by decide +kernel
theorem dX1_init_133 : decode cX1_init 133 = .ok (.bipush 20, 2) := by decide +kernel
theorem dX1_init_135 : decode cX1_init 135 = .ok (.newarray .int, 2) := by decide +kernel
theorem dX1_init_137 : decode cX1_init 137 = .ok (.putfield 73, 3) := by decide +kernel
theorem dX1_init_140 : decode cX1_init 140 = .ok (.aload_n 0, 1) := by decide +kernel
theorem dX1_init_141 : decode cX1_init 141 = .ok (.bipush 60, 2) := by decide +kernel
theorem dX1_init_143 : decode cX1_init 143 = .ok (.newarray .long, 2) := by decide +kernel
theorem dX1_init_145 : decode cX1_init 145 = .ok (.putfield 76, 3) := by decide +kernel
theorem dX1_init_148 : decode cX1_init 148 = .ok (.aload_n 0, 1) := by decide +kernel
theorem dX1_init_149 : decode cX1_init 149 = .ok (.bipush 12, 2) := by decide +kernel
theorem dX1_init_151 : decode cX1_init 151 = .ok (.anewarray 79, 3) := by decide +kernel
theorem dX1_init_154 : decode cX1_init 154 = .ok (.putfield 81, 3) := by decide +kernel
theorem dX1_init_157 : decode cX1_init 157 = .ok (.aload_n 0, 1) := by decide +kernel
theorem dX1_init_158 : decode cX1_init 158 = .ok (.bipush 100, 2) := by decide +kernel
theorem dX1_init_160 : decode cX1_init 160 = .ok (.newarray .int, 2) := by decide +kernel
theorem dX1_init_162 : decode cX1_init 162 = .ok (.putfield 85, 3) := by decide +kernel
theorem dX1_init_165 : decode cX1_init 165 = .ok (.aload_n 0, 1) := by decide +kernel
theorem dX1_init_166 : decode cX1_init 166 = .ok (.bipush 100, 2) := by decide +kernel
theorem dX1_init_168 : decode cX1_init 168 = .ok (.newarray .int, 2) := by decide +kernel
theorem dX1_init_170 : decode cX1_init 170 = .ok (.putfield 88, 3) := by decide +kernel
theorem dX1_init_173 : decode cX1_init 173 = .ok (.aload_n 0, 1) := by decide +kernel
theorem dX1_init_174 : decode cX1_init 174 = .ok (.bipush 100, 2) := by decide +kernel
theorem dX1_init_176 : decode cX1_init 176 = .ok (.newarray .int, 2) := by decide +kernel
theorem dX1_init_178 : decode cX1_init 178 = .ok (.putfield 91, 3) := by decide +kernel
theorem dX1_init_181 : decode cX1_init 181 = .ok (.aload_n 0, 1) := by decide +kernel
theorem dX1_init_182 : decode cX1_init 182 = .ok (.bipush 100, 2) := by decide +kernel
theorem dX1_init_184 : decode cX1_init 184 = .ok (.newarray .int, 2) := by decide +kernel
theorem dX1_init_186 : decode cX1_init 186 = .ok (.putfield 94, 3) := by decide +kernel
theorem dX1_init_189 : decode cX1_init 189 = .ok (.aload_n 0, 1) := by decide +kernel
theorem dX1_init_190 : decode cX1_init 190 = .ok (.bipush 100, 2) := by decide +kernel
theorem dX1_init_192 : decode cX1_init 192 = .ok (.newarray .int, 2) := by decide +kernel
theorem dX1_init_194 : decode cX1_init 194 = .ok (.putfield 97, 3) := by decide +kernel
theorem dX1_init_197 : decode cX1_init 197 = .ok (.aload_n 0, 1) := by decide +kernel
theorem dX1_init_198 : decode cX1_init 198 = .ok (.bipush 100, 2) := by decide +kernel
theorem dX1_init_200 : decode cX1_init 200 = .ok (.newarray .int, 2) := by decide +kernel
theorem dX1_init_202 : decode cX1_init 202 = .ok (.putfield 100, 3) := by decide +kernel
theorem dX1_init_205 : decode cX1_init 205 = .ok (.aload_n 0, 1) := by decide +kernel
theorem dX1_init_206 : decode cX1_init 206 = .ok (.new 103, 3) := by decide +kernel
theorem dX1_init_209 : decode cX1_init 209 = .ok (.dup, 1) := by decide +kernel
theorem dX1_init_210 : decode cX1_init 210 = .ok (.aload_n 0, 1) := by decide +kernel
theorem dX1_init_211 : decode cX1_init 211 = .ok (.invokespecial 105, 3) := by decide +kernel
theorem dX1_init_214 : decode cX1_init 214 = .ok (.putfield 106, 3) := by decide +kernel
theorem dX1_init_217 : decode cX1_init 217 = .ok (.aload_n 0, 1) := by decide +kernel
theorem dX1_init_218 : decode cX1_init 218 = .ok (.bipush 12, 2) := by decide +kernel
theorem dX1_init_220 : decode cX1_init 220 = .ok (.anewarray 110, 3) := by decide +kernel
theorem dX1_init_223 : decode cX1_init 223 = .ok (.putfield 112, 3) := by decide +kernel
theorem dX1_init_226 : decode cX1_init 226 = .ok (.aload_n 0, 1) := by decide +kernel
theorem dX1_init_227 : decode cX1_init 227 = .ok (.bipush 12, 2) := by decide +kernel
theorem dX1_init_229 : decode cX1_init 229 = .ok (.newarray .int, 2) := by decide +kernel
theorem dX1_init_231 : decode cX1_init 231 = .ok (.putfield 116, 3) := by decide +kernel
theorem dX1_init_234 : decode cX1_init 234 = .ok (.aload_n 0, 1) := by decide +kernel
theorem dX1_init_235 : decode cX1_init 235 = .ok (.bipush 12, 2) := by decide +kernel
theorem dX1_init_237 : decode cX1_init 237 = .ok (.newarray .int, 2) := by decide +kernel
theorem dX1_init_239 : decode cX1_init 239 = .ok (.putfield 119, 3) := by decide +kernel
theorem dX1_init_242 : decode cX1_init 242 = .ok (.aload_n 0, 1) := by decide +kernel
theorem dX1_init_243 : decode cX1_init 243 = .ok (.bipush 12, 2) := by decide +kernel
theorem dX1_init_245 : decode cX1_init 245 = .ok (.anewarray 122, 3) := by decide +kernel
theorem dX1_init_248 : decode cX1_init 248 = .ok (.putfield 124, 3) := by decide +kernel
theorem dX1_init_251 : decode cX1_init 251 = .ok (.aload_n 0, 1) := by decide +kernel
theorem dX1_init_252 : decode cX1_init 252 = .ok (.sipush 3000, 3) := by decide +kernel
theorem dX1_init_255 : decode cX1_init 255 = .ok (.newarray .int, 2) := by decide +kernel
theorem dX1_init_257 : decode cX1_init 257 = .ok (.putfield 128, 3) := by decide +kernel
theorem dX1_init_260 : decode cX1_init 260 = .ok (.iconst 0, 1) := by decide +kernel
theorem dX1_init_261 : decode cX1_init 261 = .ok (.istore_n 1, 1) := by decide +kernel
theorem dX1_init_262 : decode cX1_init 262 = .ok (.iload_n 1, 1) := by decide +kernel
theorem dX1_init_263 : decode cX1_init 263 = .ok (.aload_n 0, 1) := by decide +kernel
theorem dX1_init_264 : decode cX1_init 264 = .ok (.getfield 18, 3) := by decide +kernel
theorem dX1_init_267 : decode cX1_init 267 = .ok (.arraylength, 1) := by decide +kernel
theorem dX1_init_268 : decode cX1_init 268 = .ok (.if_icmp .ge 16, 3) := by decide +kernel
theorem dX1_init_271 : decode cX1_init 271 = .ok (.aload_n 0, 1) := by decide +kernel
theorem dX1_init_272 : decode cX1_init 272 = .ok (.getfield 18, 3) := by decide +kernel
theorem dX1_init_275 : decode cX1_init 275 = .ok (.iload_n 1, 1) := by decide +kernel
theorem dX1_init_276 : decode cX1_init 276 = .ok (.iconst (-1), 1) := by decide +kernel
theorem dX1_init_277 : decode cX1_init 277 = .ok (.iastore, 1) := by decide +kernel
theorem dX1_init_278 : decode cX1_init 278 = .ok (.iinc 1 1, 3) := by decide +kernel
theorem dX1_init_281 : decode cX1_init 281 = .ok (.goto (-19), 3) := by decide +kernel
theorem dX1_init_284 : decode cX1_init 284 = .ok (.return_, 1) := by decide +kernel
theorem dX1_tick_0 : decode cX1_tick 0 = .ok (.iload_n 1, 1) := by decide +kernel
theorem dX1_tick_1 : decode cX1_tick 1 = .ok (.i2l, 1) := by decide +kernel
theorem dX1_tick_2 : decode cX1_tick 2 = .ok (.lconst 0, 1) := by decide +kernel
theorem dX1_tick_3 : decode cX1_tick 3 = .ok (.ldc2_w 157, 3) := by decide +kernel
theorem dX1_tick_6 : decode cX1_tick 6 = .ok (.invokestatic 159, 3) := by decide +kernel
theorem dX1_tick_9 : decode cX1_tick 9 = .ok (.ifCond .eq 18, 3) := by decide +kernel
theorem dX1_tick_12 : decode cX1_tick 12 = .ok (.aload_n 0, 1) := by decide +kernel
theorem dX1_tick_13 : decode cX1_tick 13 = .ok (.getfield 153, 3) := by decide +kernel
theorem dX1_tick_16 : decode cX1_tick 16 = .ok (.iload_n 1, 1) := by decide +kernel
theorem dX1_tick_17 : decode cX1_tick 17 = .ok (.iadd, 1) := by decide +kernel
theorem dX1_tick_18 : decode cX1_tick 18 = .ok (.ldc 163, 2) := by decide +kernel
theorem dX1_tick_20 : decode cX1_tick 20 = .ok (.if_icmp .gt 7, 3) := by decide +kernel
theorem dX1_tick_23 : decode cX1_tick 23 = .ok (.iconst 1, 1) := by decide +kernel
theorem dX1_tick_24 : decode cX1_tick 24 = .ok (.goto 4, 3) := by decide +kernel
theorem dX1_tick_27 : decode cX1_tick 27 = .ok (.iconst 0, 1) := by decide +kernel
theorem dX1_tick_28 : decode cX1_tick 28 = .ok (.invokestatic 164, 3) := by decide +kernel
theorem dX1_tick_31 : decode cX1_tick 31 = .ok (.aload_n 0, 1) := by decide +kernel
theorem dX1_tick_32 : decode cX1_tick 32 = .ok (.dup, 1) := by decide +kernel
theorem dX1_tick_33 : decode cX1_tick 33 = .ok (.getfield 153, 3) := by decide +kernel
theorem dX1_tick_36 : decode cX1_tick 36 = .ok (.iload_n 1, 1) := by decide +kernel
theorem dX1_tick_37 : decode cX1_tick 37 = .ok (.iadd, 1) := by decide +kernel
theorem dX1_tick_38 : decode cX1_tick 38 = .ok (.putfield 153, 3) := by decide +kernel
theorem dX1_tick_41 : decode cX1_tick 41 = .ok (.aload_n 0, 1) := by decide +kernel
theorem dX1_tick_42 : decode cX1_tick 42 = .ok (.getfield 153, 3) := by decide +kernel
theorem dX1_tick_45 : decode cX1_tick 45 = .ok (.ireturn, 1) := by decide +kernel
theorem dX1_isIn_0 : decode cX1_isIn 0 = .ok (.lload_n 0, 1) := by decide +kernel
