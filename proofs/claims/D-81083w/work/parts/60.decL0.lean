set_option maxRecDepth 100000
theorem dL_law_0 : decode cL_law 0 = .ok (.new 8, 3) := by decide +kernel
theorem dL_law_3 : decode cL_law 3 = .ok (.dup, 1) := by decide +kernel
theorem dL_law_4 : decode cL_law 4 = .ok (.invokespecial 141, 3) := by decide +kernel
theorem dL_law_7 : decode cL_law 7 = .ok (.astore_n 1, 1) := by decide +kernel
theorem dL_law_8 : decode cL_law 8 = .ok (.new 142, 3) := by decide +kernel
theorem dL_law_11 : decode cL_law 11 = .ok (.dup, 1) := by decide +kernel
theorem dL_law_12 : decode cL_law 12 = .ok (.invokespecial 144, 3) := by decide +kernel
theorem dL_law_15 : decode cL_law 15 = .ok (.astore_n 2, 1) := by decide +kernel
theorem dL_law_16 : decode cL_law 16 = .ok (.iconst 1, 1) := by decide +kernel
theorem dL_law_17 : decode cL_law 17 = .ok (.newarray .long, 2) := by decide +kernel
theorem dL_law_19 : decode cL_law 19 = .ok (.astore_n 3, 1) := by decide +kernel
theorem dL_law_20 : decode cL_law 20 = .ok (.iconst 0, 1) := by decide +kernel
theorem dL_law_21 : decode cL_law 21 = .ok (.istore 4, 2) := by decide +kernel
theorem dL_law_23 : decode cL_law 23 = .ok (.iload 4, 2) := by decide +kernel
theorem dL_law_25 : decode cL_law 25 = .ok (.aload_n 0, 1) := by decide +kernel
theorem dL_law_26 : decode cL_law 26 = .ok (.arraylength, 1) := by decide +kernel
theorem dL_law_27 : decode cL_law 27 = .ok (.bipush 7, 2) := by decide +kernel
theorem dL_law_29 : decode cL_law 29 = .ok (.isub, 1) := by decide +kernel
theorem dL_law_30 : decode cL_law 30 = .ok (.if_icmp .gt 3050, 3) := by decide +kernel
theorem dL_law_33 : decode cL_law 33 = .ok (.aload_n 0, 1) := by decide +kernel
theorem dL_law_34 : decode cL_law 34 = .ok (.iload 4, 2) := by decide +kernel
theorem dL_law_36 : decode cL_law 36 = .ok (.iaload, 1) := by decide +kernel
theorem dL_law_37 : decode cL_law 37 = .ok (.bipush 63, 2) := by decide +kernel
theorem dL_law_39 : decode cL_law 39 = .ok (.iand, 1) := by decide +kernel
theorem dL_law_40 : decode cL_law 40 = .ok (.tableswitch 3034 0 37 #[168, 224, 268, 360, 428, 520, 576, 680, 736, 780, 860, 928, 984, 1052, 1108, 1204, 1260, 1328, 1396, 1488, 1568, 1636, 1720, 1788, 1906, 1974, 2070, 2138, 2242, 2334, 2426, 2506, 2614, 2682, 2738, 2818, 2910, 2978], 168) := by decide +kernel
theorem dL_law_208 : decode cL_law 208 = .ok (.aload_n 1, 1) := by decide +kernel
theorem dL_law_209 : decode cL_law 209 = .ok (.aload_n 0, 1) := by decide +kernel
theorem dL_law_210 : decode cL_law 210 = .ok (.iload 4, 2) := by decide +kernel
theorem dL_law_212 : decode cL_law 212 = .ok (.iconst 1, 1) := by decide +kernel
theorem dL_law_213 : decode cL_law 213 = .ok (.iadd, 1) := by decide +kernel
theorem dL_law_214 : decode cL_law 214 = .ok (.iaload, 1) := by decide +kernel
theorem dL_law_215 : decode cL_law 215 = .ok (.aload_n 3, 1) := by decide +kernel
theorem dL_law_216 : decode cL_law 216 = .ok (.invokestatic 145, 3) := by decide +kernel
theorem dL_law_219 : decode cL_law 219 = .ok (.istore 5, 2) := by decide +kernel
theorem dL_law_221 : decode cL_law 221 = .ok (.aload_n 2, 1) := by decide +kernel
theorem dL_law_222 : decode cL_law 222 = .ok (.aload_n 0, 1) := by decide +kernel
theorem dL_law_223 : decode cL_law 223 = .ok (.iload 4, 2) := by decide +kernel
theorem dL_law_225 : decode cL_law 225 = .ok (.iconst 1, 1) := by decide +kernel
theorem dL_law_226 : decode cL_law 226 = .ok (.iadd, 1) := by decide +kernel
theorem dL_law_227 : decode cL_law 227 = .ok (.iaload, 1) := by decide +kernel
theorem dL_law_228 : decode cL_law 228 = .ok (.invokevirtual 150, 3) := by decide +kernel
theorem dL_law_231 : decode cL_law 231 = .ok (.istore 6, 2) := by decide +kernel
theorem dL_law_233 : decode cL_law 233 = .ok (.aload_n 2, 1) := by decide +kernel
theorem dL_law_234 : decode cL_law 234 = .ok (.invokevirtual 151, 3) := by decide +kernel
theorem dL_law_237 : decode cL_law 237 = .ok (.iload 5, 2) := by decide +kernel
theorem dL_law_239 : decode cL_law 239 = .ok (.if_icmp .eq 5, 3) := by decide +kernel
theorem dL_law_242 : decode cL_law 242 = .ok (.iconst 0, 1) := by decide +kernel
theorem dL_law_243 : decode cL_law 243 = .ok (.ireturn, 1) := by decide +kernel
theorem dL_law_244 : decode cL_law 244 = .ok (.iload 5, 2) := by decide +kernel
theorem dL_law_246 : decode cL_law 246 = .ok (.ifCond .ne 15, 3) := by decide +kernel
theorem dL_law_249 : decode cL_law 249 = .ok (.aload_n 3, 1) := by decide +kernel
theorem dL_law_250 : decode cL_law 250 = .ok (.iconst 0, 1) := by decide +kernel
theorem dL_law_251 : decode cL_law 251 = .ok (.laload, 1) := by decide +kernel
theorem dL_law_252 : decode cL_law 252 = .ok (.iload 6, 2) := by decide +kernel
theorem dL_law_254 : decode cL_law 254 = .ok (.i2l, 1) := by decide +kernel
theorem dL_law_255 : decode cL_law 255 = .ok (.lcmp, 1) := by decide +kernel
theorem dL_law_256 : decode cL_law 256 = .ok (.ifCond .eq 5, 3) := by decide +kernel
theorem dL_law_259 : decode cL_law 259 = .ok (.iconst 0, 1) := by decide +kernel
theorem dL_law_260 : decode cL_law 260 = .ok (.ireturn, 1) := by decide +kernel
theorem dL_law_261 : decode cL_law 261 = .ok (.goto 2813, 3) := by decide +kernel
theorem dL_law_264 : decode cL_law 264 = .ok (.aload_n 1, 1) := by decide +kernel
theorem dL_law_265 : decode cL_law 265 = .ok (.aload_n 3, 1) := by decide +kernel
theorem dL_law_266 : decode cL_law 266 = .ok (.invokestatic 154, 3) := by decide +kernel
theorem dL_law_269 : decode cL_law 269 = .ok (.istore 5, 2) := by decide +kernel
theorem dL_law_271 : decode cL_law 271 = .ok (.aload_n 2, 1) := by decide +kernel
theorem dL_law_272 : decode cL_law 272 = .ok (.invokevirtual 157, 3) := by decide +kernel
theorem dL_law_275 : decode cL_law 275 = .ok (.istore 6, 2) := by decide +kernel
theorem dL_law_277 : decode cL_law 277 = .ok (.aload_n 2, 1) := by decide +kernel
theorem dL_law_278 : decode cL_law 278 = .ok (.invokevirtual 151, 3) := by decide +kernel
theorem dL_law_281 : decode cL_law 281 = .ok (.iload 5, 2) := by decide +kernel
theorem dL_law_283 : decode cL_law 283 = .ok (.if_icmp .eq 5, 3) := by decide +kernel
theorem dL_law_286 : decode cL_law 286 = .ok (.iconst 0, 1) := by decide +kernel
theorem dL_law_287 : decode cL_law 287 = .ok (.ireturn, 1) := by decide +kernel
theorem dL_law_288 : decode cL_law 288 = .ok (.iload 5, 2) := by decide +kernel
theorem dL_law_290 : decode cL_law 290 = .ok (.ifCond .ne 15, 3) := by decide +kernel
theorem dL_law_293 : decode cL_law 293 = .ok (.aload_n 3, 1) := by decide +kernel
theorem dL_law_294 : decode cL_law 294 = .ok (.iconst 0, 1) := by decide +kernel
theorem dL_law_295 : decode cL_law 295 = .ok (.laload, 1) := by decide +kernel
theorem dL_law_296 : decode cL_law 296 = .ok (.iload 6, 2) := by decide +kernel
theorem dL_law_298 : decode cL_law 298 = .ok (.i2l, 1) := by decide +kernel
theorem dL_law_299 : decode cL_law 299 = .ok (.lcmp, 1) := by decide +kernel
theorem dL_law_300 : decode cL_law 300 = .ok (.ifCond .eq 5, 3) := by decide +kernel
theorem dL_law_303 : decode cL_law 303 = .ok (.iconst 0, 1) := by decide +kernel
theorem dL_law_304 : decode cL_law 304 = .ok (.ireturn, 1) := by decide +kernel
theorem dL_law_305 : decode cL_law 305 = .ok (.goto 2769, 3) := by decide +kernel
theorem dL_law_308 : decode cL_law 308 = .ok (.aload_n 1, 1) := by decide +kernel
theorem dL_law_309 : decode cL_law 309 = .ok (.aload_n 0, 1) := by decide +kernel
theorem dL_law_310 : decode cL_law 310 = .ok (.iload 4, 2) := by decide +kernel
theorem dL_law_312 : decode cL_law 312 = .ok (.iconst 1, 1) := by decide +kernel
theorem dL_law_313 : decode cL_law 313 = .ok (.iadd, 1) := by decide +kernel
theorem dL_law_314 : decode cL_law 314 = .ok (.iaload, 1) := by decide +kernel
theorem dL_law_315 : decode cL_law 315 = .ok (.aload_n 0, 1) := by decide +kernel
theorem dL_law_316 : decode cL_law 316 = .ok (.iload 4, 2) := by decide +kernel
theorem dL_law_318 : decode cL_law 318 = .ok (.iconst 2, 1) := by decide +kernel
theorem dL_law_319 : decode cL_law 319 = .ok (.iadd, 1) := by decide +kernel
theorem dL_law_320 : decode cL_law 320 = .ok (.iaload, 1) := by decide +kernel
theorem dL_law_321 : decode cL_law 321 = .ok (.aload_n 0, 1) := by decide +kernel
theorem dL_law_322 : decode cL_law 322 = .ok (.iload 4, 2) := by decide +kernel
theorem dL_law_324 : decode cL_law 324 = .ok (.iconst 3, 1) := by decide +kernel
theorem dL_law_325 : decode cL_law 325 = .ok (.iadd, 1) := by decide +kernel
theorem dL_law_326 : decode cL_law 326 = .ok (.iaload, 1) := by decide +kernel
theorem dL_law_327 : decode cL_law 327 = .ok (.aload_n 0, 1) := by decide +kernel
theorem dL_law_328 : decode cL_law 328 = .ok (.iload 4, 2) := by decide +kernel
theorem dL_law_330 : decode cL_law 330 = .ok (.iconst 4, 1) := by decide +kernel
theorem dL_law_331 : decode cL_law 331 = .ok (.iadd, 1) := by decide +kernel
theorem dL_law_332 : decode cL_law 332 = .ok (.iaload, 1) := by decide +kernel
theorem dL_law_333 : decode cL_law 333 = .ok (.aload_n 3, 1) := by decide +kernel
theorem dL_law_334 : decode cL_law 334 = .ok (.invokestatic 158, 3) := by decide +kernel
theorem dL_law_337 : decode cL_law 337 = .ok (.istore 5, 2) := by decide +kernel
theorem dL_law_339 : decode cL_law 339 = .ok (.aload_n 2, 1) := by decide +kernel
theorem dL_law_340 : decode cL_law 340 = .ok (.aload_n 0, 1) := by decide +kernel
theorem dL_law_341 : decode cL_law 341 = .ok (.iload 4, 2) := by decide +kernel
theorem dL_law_343 : decode cL_law 343 = .ok (.iconst 1, 1) := by decide +kernel
theorem dL_law_344 : decode cL_law 344 = .ok (.iadd, 1) := by decide +kernel
theorem dL_law_345 : decode cL_law 345 = .ok (.iaload, 1) := by decide +kernel
theorem dL_law_346 : decode cL_law 346 = .ok (.aload_n 0, 1) := by decide +kernel
theorem dL_law_347 : decode cL_law 347 = .ok (.iload 4, 2) := by decide +kernel
theorem dL_law_349 : decode cL_law 349 = .ok (.iconst 2, 1) := by decide +kernel
theorem dL_law_350 : decode cL_law 350 = .ok (.iadd, 1) := by decide +kernel
theorem dL_law_351 : decode cL_law 351 = .ok (.iaload, 1) := by decide +kernel
theorem dL_law_352 : decode cL_law 352 = .ok (.aload_n 0, 1) := by decide +kernel
theorem dL_law_353 : decode cL_law 353 = .ok (.iload 4, 2) := by decide +kernel
theorem dL_law_355 : decode cL_law 355 = .ok (.iconst 3, 1) := by decide +kernel
theorem dL_law_356 : decode cL_law 356 = .ok (.iadd, 1) := by decide +kernel
theorem dL_law_357 : decode cL_law 357 = .ok (.iaload, 1) := by decide +kernel
theorem dL_law_358 : decode cL_law 358 = .ok (.aload_n 0, 1) := by decide +kernel
theorem dL_law_359 : decode cL_law 359 = .ok (.iload 4, 2) := by decide +kernel
theorem dL_law_361 : decode cL_law 361 = .ok (.iconst 4, 1) := by decide +kernel
theorem dL_law_362 : decode cL_law 362 = .ok (.iadd, 1) := by decide +kernel
theorem dL_law_363 : decode cL_law 363 = .ok (.iaload, 1) := by decide +kernel
theorem dL_law_364 : decode cL_law 364 = .ok (.invokevirtual 161, 3) := by decide +kernel
theorem dL_law_367 : decode cL_law 367 = .ok (.istore 6, 2) := by decide +kernel
theorem dL_law_369 : decode cL_law 369 = .ok (.aload_n 2, 1) := by decide +kernel
theorem dL_law_370 : decode cL_law 370 = .ok (.invokevirtual 151, 3) := by decide +kernel
theorem dL_law_373 : decode cL_law 373 = .ok (.iload 5, 2) := by decide +kernel
theorem dL_law_375 : decode cL_law 375 = .ok (.if_icmp .eq 5, 3) := by decide +kernel
theorem dL_law_378 : decode cL_law 378 = .ok (.iconst 0, 1) := by decide +kernel
theorem dL_law_379 : decode cL_law 379 = .ok (.ireturn, 1) := by decide +kernel
theorem dL_law_380 : decode cL_law 380 = .ok (.iload 5, 2) := by decide +kernel
theorem dL_law_382 : decode cL_law 382 = .ok (.ifCond .ne 15, 3) := by decide +kernel
theorem dL_law_385 : decode cL_law 385 = .ok (.aload_n 3, 1) := by decide +kernel
theorem dL_law_386 : decode cL_law 386 = .ok (.iconst 0, 1) := by decide +kernel
theorem dL_law_387 : decode cL_law 387 = .ok (.laload, 1) := by decide +kernel
theorem dL_law_388 : decode cL_law 388 = .ok (.iload 6, 2) := by decide +kernel
theorem dL_law_390 : decode cL_law 390 = .ok (.i2l, 1) := by decide +kernel
theorem dL_law_391 : decode cL_law 391 = .ok (.lcmp, 1) := by decide +kernel
theorem dL_law_392 : decode cL_law 392 = .ok (.ifCond .eq 5, 3) := by decide +kernel
theorem dL_law_395 : decode cL_law 395 = .ok (.iconst 0, 1) := by decide +kernel
theorem dL_law_396 : decode cL_law 396 = .ok (.ireturn, 1) := by decide +kernel
theorem dL_law_397 : decode cL_law 397 = .ok (.goto 2677, 3) := by decide +kernel
theorem dL_law_400 : decode cL_law 400 = .ok (.aload_n 1, 1) := by decide +kernel
theorem dL_law_401 : decode cL_law 401 = .ok (.aload_n 0, 1) := by decide +kernel
theorem dL_law_402 : decode cL_law 402 = .ok (.iload 4, 2) := by decide +kernel
theorem dL_law_404 : decode cL_law 404 = .ok (.iconst 1, 1) := by decide +kernel
theorem dL_law_405 : decode cL_law 405 = .ok (.iadd, 1) := by decide +kernel
theorem dL_law_406 : decode cL_law 406 = .ok (.iaload, 1) := by decide +kernel
theorem dL_law_407 : decode cL_law 407 = .ok (.aload_n 0, 1) := by decide +kernel
theorem dL_law_408 : decode cL_law 408 = .ok (.iload 4, 2) := by decide +kernel
theorem dL_law_410 : decode cL_law 410 = .ok (.iconst 2, 1) := by decide +kernel
theorem dL_law_411 : decode cL_law 411 = .ok (.iadd, 1) := by decide +kernel
theorem dL_law_412 : decode cL_law 412 = .ok (.iaload, 1) := by decide +kernel
theorem dL_law_413 : decode cL_law 413 = .ok (.aload_n 3, 1) := by decide +kernel
theorem dL_law_414 : decode cL_law 414 = .ok (.invokestatic 162, 3) := by decide +kernel
theorem dL_law_417 : decode cL_law 417 = .ok (.istore 5, 2) := by decide +kernel
theorem dL_law_419 : decode cL_law 419 = .ok (.aload_n 2, 1) := by decide +kernel
theorem dL_law_420 : decode cL_law 420 = .ok (.aload_n 0, 1) := by decide +kernel
theorem dL_law_421 : decode cL_law 421 = .ok (.iload 4, 2) := by decide +kernel
theorem dL_law_423 : decode cL_law 423 = .ok (.iconst 1, 1) := by decide +kernel
theorem dL_law_424 : decode cL_law 424 = .ok (.iadd, 1) := by decide +kernel
theorem dL_law_425 : decode cL_law 425 = .ok (.iaload, 1) := by decide +kernel
theorem dL_law_426 : decode cL_law 426 = .ok (.aload_n 0, 1) := by decide +kernel
theorem dL_law_427 : decode cL_law 427 = .ok (.iload 4, 2) := by decide +kernel
theorem dL_law_429 : decode cL_law 429 = .ok (.iconst 2, 1) := by decide +kernel
theorem dL_law_430 : decode cL_law 430 = .ok (.iadd, 1) := by decide +kernel
theorem dL_law_431 : decode cL_law 431 = .ok (.iaload, 1) := by decide +kernel
theorem dL_law_432 : decode cL_law 432 = .ok (.invokevirtual 165, 3) := by decide +kernel
theorem dL_law_435 : decode cL_law 435 = .ok (.istore 6, 2) := by decide +kernel
theorem dL_law_437 : decode cL_law 437 = .ok (.aload_n 2, 1) := by decide +kernel
theorem dL_law_438 : decode cL_law 438 = .ok (.invokevirtual 151, 3) := by decide +kernel
theorem dL_law_441 : decode cL_law 441 = .ok (.iload 5, 2) := by decide +kernel
theorem dL_law_443 : decode cL_law 443 = .ok (.if_icmp .eq 5, 3) := by decide +kernel
theorem dL_law_446 : decode cL_law 446 = .ok (.iconst 0, 1) := by decide +kernel
theorem dL_law_447 : decode cL_law 447 = .ok (.ireturn, 1) := by decide +kernel
theorem dL_law_448 : decode cL_law 448 = .ok (.iload 5, 2) := by decide +kernel
theorem dL_law_450 : decode cL_law 450 = .ok (.ifCond .ne 15, 3) := by decide +kernel
theorem dL_law_453 : decode cL_law 453 = .ok (.aload_n 3, 1) := by decide +kernel
theorem dL_law_454 : decode cL_law 454 = .ok (.iconst 0, 1) := by decide +kernel
theorem dL_law_455 : decode cL_law 455 = .ok (.laload, 1) := by decide +kernel
theorem dL_law_456 : decode cL_law 456 = .ok (.iload 6, 2) := by decide +kernel
theorem dL_law_458 : decode cL_law 458 = .ok (.i2l, 1) := by decide +kernel
theorem dL_law_459 : decode cL_law 459 = .ok (.lcmp, 1) := by decide +kernel
theorem dL_law_460 : decode cL_law 460 = .ok (.ifCond .eq 5, 3) := by decide +kernel
theorem dL_law_463 : decode cL_law 463 = .ok (.iconst 0, 1) := by decide +kernel
theorem dL_law_464 : decode cL_law 464 = .ok (.ireturn, 1) := by decide +kernel
theorem dL_law_465 : decode cL_law 465 = .ok (.goto 2609, 3) := by decide +kernel
theorem dL_law_468 : decode cL_law 468 = .ok (.aload_n 1, 1) := by decide +kernel
theorem dL_law_469 : decode cL_law 469 = .ok (.aload_n 0, 1) := by decide +kernel
theorem dL_law_470 : decode cL_law 470 = .ok (.iload 4, 2) := by decide +kernel
theorem dL_law_472 : decode cL_law 472 = .ok (.iconst 1, 1) := by decide +kernel
theorem dL_law_473 : decode cL_law 473 = .ok (.iadd, 1) := by decide +kernel
theorem dL_law_474 : decode cL_law 474 = .ok (.iaload, 1) := by decide +kernel
theorem dL_law_475 : decode cL_law 475 = .ok (.aload_n 0, 1) := by decide +kernel
theorem dL_law_476 : decode cL_law 476 = .ok (.iload 4, 2) := by decide +kernel
theorem dL_law_478 : decode cL_law 478 = .ok (.iconst 2, 1) := by decide +kernel
theorem dL_law_479 : decode cL_law 479 = .ok (.iadd, 1) := by decide +kernel
theorem dL_law_480 : decode cL_law 480 = .ok (.iaload, 1) := by decide +kernel
theorem dL_law_481 : decode cL_law 481 = .ok (.aload_n 0, 1) := by decide +kernel
theorem dL_law_482 : decode cL_law 482 = .ok (.iload 4, 2) := by decide +kernel
theorem dL_law_484 : decode cL_law 484 = .ok (.iconst 3, 1) := by decide +kernel
theorem dL_law_485 : decode cL_law 485 = .ok (.iadd, 1) := by decide +kernel
theorem dL_law_486 : decode cL_law 486 = .ok (.iaload, 1) := by decide +kernel
theorem dL_law_487 : decode cL_law 487 = .ok (.aload_n 0, 1) := by decide +kernel
theorem dL_law_488 : decode cL_law 488 = .ok (.iload 4, 2) := by decide +kernel
theorem dL_law_490 : decode cL_law 490 = .ok (.iconst 4, 1) := by decide +kernel
theorem dL_law_491 : decode cL_law 491 = .ok (.iadd, 1) := by decide +kernel
theorem dL_law_492 : decode cL_law 492 = .ok (.iaload, 1) := by decide +kernel
theorem dL_law_493 : decode cL_law 493 = .ok (.aload_n 3, 1) := by decide +kernel
theorem dL_law_494 : decode cL_law 494 = .ok (.invokestatic 166, 3) := by decide +kernel
theorem dL_law_497 : decode cL_law 497 = .ok (.istore 5, 2) := by decide +kernel
theorem dL_law_499 : decode cL_law 499 = .ok (.aload_n 2, 1) := by decide +kernel
theorem dL_law_500 : decode cL_law 500 = .ok (.aload_n 0, 1) := by decide +kernel
theorem dL_law_501 : decode cL_law 501 = .ok (.iload 4, 2) := by decide +kernel
theorem dL_law_503 : decode cL_law 503 = .ok (.iconst 1, 1) := by decide +kernel
theorem dL_law_504 : decode cL_law 504 = .ok (.iadd, 1) := by decide +kernel
theorem dL_law_505 : decode cL_law 505 = .ok (.iaload, 1) := by decide +kernel
theorem dL_law_506 : decode cL_law 506 = .ok (.aload_n 0, 1) := by decide +kernel
theorem dL_law_507 : decode cL_law 507 = .ok (.iload 4, 2) := by decide +kernel
theorem dL_law_509 : decode cL_law 509 = .ok (.iconst 2, 1) := by decide +kernel
theorem dL_law_510 : decode cL_law 510 = .ok (.iadd, 1) := by decide +kernel
theorem dL_law_511 : decode cL_law 511 = .ok (.iaload, 1) := by decide +kernel
theorem dL_law_512 : decode cL_law 512 = .ok (.aload_n 0, 1) := by decide +kernel
theorem dL_law_513 : decode cL_law 513 = .ok (.iload 4, 2) := by decide +kernel
theorem dL_law_515 : decode cL_law 515 = .ok (.iconst 3, 1) := by decide +kernel
theorem dL_law_516 : decode cL_law 516 = .ok (.iadd, 1) := by decide +kernel
theorem dL_law_517 : decode cL_law 517 = .ok (.iaload, 1) := by decide +kernel
theorem dL_law_518 : decode cL_law 518 = .ok (.aload_n 0, 1) := by decide +kernel
theorem dL_law_519 : decode cL_law 519 = .ok (.iload 4, 2) := by decide +kernel
theorem dL_law_521 : decode cL_law 521 = .ok (.iconst 4, 1) := by decide +kernel
theorem dL_law_522 : decode cL_law 522 = .ok (.iadd, 1) := by decide +kernel
theorem dL_law_523 : decode cL_law 523 = .ok (.iaload, 1) := by decide +kernel
theorem dL_law_524 : decode cL_law 524 = .ok (.invokevirtual 168, 3) := by decide +kernel
theorem dL_law_527 : decode cL_law 527 = .ok (.istore 6, 2) := by decide +kernel
theorem dL_law_529 : decode cL_law 529 = .ok (.aload_n 2, 1) := by decide +kernel
theorem dL_law_530 : decode cL_law 530 = .ok (.invokevirtual 151, 3) := by decide +kernel
theorem dL_law_533 : decode cL_law 533 = .ok (.iload 5, 2) := by decide +kernel
theorem dL_law_535 : decode cL_law 535 = .ok (.if_icmp .eq 5, 3) := by decide +kernel
theorem dL_law_538 : decode cL_law 538 = .ok (.iconst 0, 1) := by decide +kernel
theorem dL_law_539 : decode cL_law 539 = .ok (.ireturn, 1) := by decide +kernel
theorem dL_law_540 : decode cL_law 540 = .ok (.iload 5, 2) := by decide +kernel
theorem dL_law_542 : decode cL_law 542 = .ok (.ifCond .ne 15, 3) := by decide +kernel
theorem dL_law_545 : decode cL_law 545 = .ok (.aload_n 3, 1) := by decide +kernel
theorem dL_law_546 : decode cL_law 546 = .ok (.iconst 0, 1) := by decide +kernel
theorem dL_law_547 : decode cL_law 547 = .ok (.laload, 1) := by decide +kernel
theorem dL_law_548 : decode cL_law 548 = .ok (.iload 6, 2) := by decide +kernel
theorem dL_law_550 : decode cL_law 550 = .ok (.i2l, 1) := by decide +kernel
theorem dL_law_551 : decode cL_law 551 = .ok (.lcmp, 1) := by decide +kernel
theorem dL_law_552 : decode cL_law 552 = .ok (.ifCond .eq 5, 3) := by decide +kernel
theorem dL_law_555 : decode cL_law 555 = .ok (.iconst 0, 1) := by decide +kernel
theorem dL_law_556 : decode cL_law 556 = .ok (.ireturn, 1) := by decide +kernel
theorem dL_law_557 : decode cL_law 557 = .ok (.goto 2517, 3) := by decide +kernel
theorem dL_law_560 : decode cL_law 560 = .ok (.aload_n 1, 1) := by decide +kernel
theorem dL_law_561 : decode cL_law 561 = .ok (.aload_n 0, 1) := by decide +kernel
theorem dL_law_562 : decode cL_law 562 = .ok (.iload 4, 2) := by decide +kernel
theorem dL_law_564 : decode cL_law 564 = .ok (.iconst 1, 1) := by decide +kernel
theorem dL_law_565 : decode cL_law 565 = .ok (.iadd, 1) := by decide +kernel
theorem dL_law_566 : decode cL_law 566 = .ok (.iaload, 1) := by decide +kernel
theorem dL_law_567 : decode cL_law 567 = .ok (.aload_n 3, 1) := by decide +kernel
theorem dL_law_568 : decode cL_law 568 = .ok (.invokestatic 169, 3) := by decide +kernel
theorem dL_law_571 : decode cL_law 571 = .ok (.istore 5, 2) := by decide +kernel
theorem dL_law_573 : decode cL_law 573 = .ok (.aload_n 2, 1) := by decide +kernel
theorem dL_law_574 : decode cL_law 574 = .ok (.aload_n 0, 1) := by decide +kernel
theorem dL_law_575 : decode cL_law 575 = .ok (.iload 4, 2) := by decide +kernel
theorem dL_law_577 : decode cL_law 577 = .ok (.iconst 1, 1) := by decide +kernel
theorem dL_law_578 : decode cL_law 578 = .ok (.iadd, 1) := by decide +kernel
theorem dL_law_579 : decode cL_law 579 = .ok (.iaload, 1) := by decide +kernel
theorem dL_law_580 : decode cL_law 580 = .ok (.invokevirtual 171, 3) := by decide +kernel
theorem dL_law_583 : decode cL_law 583 = .ok (.istore 6, 2) := by decide +kernel
theorem dL_law_585 : decode cL_law 585 = .ok (.aload_n 2, 1) := by decide +kernel
theorem dL_law_586 : decode cL_law 586 = .ok (.invokevirtual 151, 3) := by decide +kernel
theorem dL_law_589 : decode cL_law 589 = .ok (.iload 5, 2) := by decide +kernel
