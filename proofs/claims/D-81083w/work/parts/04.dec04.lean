set_option maxRecDepth 100000
theorem dX5_table_247 : decode cX5_table 247 = .ok (.getfield 168, 3) := by decide +kernel
theorem dX5_table_250 : decode cX5_table 250 = .ok (.iload 7, 2) := by decide +kernel
theorem dX5_table_252 : decode cX5_table 252 = .ok (.iconst 0, 1) := by decide +kernel
theorem dX5_table_253 : decode cX5_table 253 = .ok (.iastore, 1) := by decide +kernel
theorem dX5_table_254 : decode cX5_table 254 = .ok (.aload_n 0, 1) := by decide +kernel
theorem dX5_table_255 : decode cX5_table 255 = .ok (.getfield 171, 3) := by decide +kernel
theorem dX5_table_258 : decode cX5_table 258 = .ok (.iload 7, 2) := by decide +kernel
theorem dX5_table_260 : decode cX5_table 260 = .ok (.iconst 0, 1) := by decide +kernel
theorem dX5_table_261 : decode cX5_table 261 = .ok (.iastore, 1) := by decide +kernel
theorem dX5_table_262 : decode cX5_table 262 = .ok (.iconst 0, 1) := by decide +kernel
theorem dX5_table_263 : decode cX5_table 263 = .ok (.istore 8, 2) := by decide +kernel
theorem dX5_table_265 : decode cX5_table 265 = .ok (.iload 8, 2) := by decide +kernel
theorem dX5_table_267 : decode cX5_table 267 = .ok (.bipush 12, 2) := by decide +kernel
theorem dX5_table_269 : decode cX5_table 269 = .ok (.if_icmp .ge 51, 3) := by decide +kernel
theorem dX5_table_272 : decode cX5_table 272 = .ok (.aload_n 0, 1) := by decide +kernel
theorem dX5_table_273 : decode cX5_table 273 = .ok (.getfield 153, 3) := by decide +kernel
theorem dX5_table_276 : decode cX5_table 276 = .ok (.bipush 12, 2) := by decide +kernel
theorem dX5_table_278 : decode cX5_table 278 = .ok (.iload 7, 2) := by decide +kernel
theorem dX5_table_280 : decode cX5_table 280 = .ok (.imul, 1) := by decide +kernel
theorem dX5_table_281 : decode cX5_table 281 = .ok (.iload 8, 2) := by decide +kernel
theorem dX5_table_283 : decode cX5_table 283 = .ok (.iadd, 1) := by decide +kernel
theorem dX5_table_284 : decode cX5_table 284 = .ok (.iconst 0, 1) := by decide +kernel
theorem dX5_table_285 : decode cX5_table 285 = .ok (.iastore, 1) := by decide +kernel
theorem dX5_table_286 : decode cX5_table 286 = .ok (.aload_n 0, 1) := by decide +kernel
theorem dX5_table_287 : decode cX5_table 287 = .ok (.getfield 156, 3) := by decide +kernel
theorem dX5_table_290 : decode cX5_table 290 = .ok (.bipush 12, 2) := by decide +kernel
theorem dX5_table_292 : decode cX5_table 292 = .ok (.iload 7, 2) := by decide +kernel
theorem dX5_table_294 : decode cX5_table 294 = .ok (.imul, 1) := by decide +kernel
theorem dX5_table_295 : decode cX5_table 295 = .ok (.iload 8, 2) := by decide +kernel
theorem dX5_table_297 : decode cX5_table 297 = .ok (.iadd, 1) := by decide +kernel
theorem dX5_table_298 : decode cX5_table 298 = .ok (.iconst 0, 1) := by decide +kernel
theorem dX5_table_299 : decode cX5_table 299 = .ok (.iastore, 1) := by decide +kernel
theorem dX5_table_300 : decode cX5_table 300 = .ok (.aload_n 0, 1) := by decide +kernel
theorem dX5_table_301 : decode cX5_table 301 = .ok (.getfield 159, 3) := by decide +kernel
theorem dX5_table_304 : decode cX5_table 304 = .ok (.bipush 12, 2) := by decide +kernel
theorem dX5_table_306 : decode cX5_table 306 = .ok (.iload 7, 2) := by decide +kernel
theorem dX5_table_308 : decode cX5_table 308 = .ok (.imul, 1) := by decide +kernel
theorem dX5_table_309 : decode cX5_table 309 = .ok (.iload 8, 2) := by decide +kernel
theorem dX5_table_311 : decode cX5_table 311 = .ok (.iadd, 1) := by decide +kernel
theorem dX5_table_312 : decode cX5_table 312 = .ok (.iconst 0, 1) := by decide +kernel
theorem dX5_table_313 : decode cX5_table 313 = .ok (.iastore, 1) := by decide +kernel
theorem dX5_table_314 : decode cX5_table 314 = .ok (.iinc 8 1, 3) := by decide +kernel
theorem dX5_table_317 : decode cX5_table 317 = .ok (.goto (-52), 3) := by decide +kernel
theorem dX5_table_320 : decode cX5_table 320 = .ok (.iconst 0, 1) := by decide +kernel
theorem dX5_table_321 : decode cX5_table 321 = .ok (.istore 8, 2) := by decide +kernel
theorem dX5_table_323 : decode cX5_table 323 = .ok (.iload 8, 2) := by decide +kernel
theorem dX5_table_325 : decode cX5_table 325 = .ok (.aload_n 0, 1) := by decide +kernel
theorem dX5_table_326 : decode cX5_table 326 = .ok (.getfield 398, 3) := by decide +kernel
theorem dX5_table_329 : decode cX5_table 329 = .ok (.if_icmp .ge 247, 3) := by decide +kernel
theorem dX5_table_332 : decode cX5_table 332 = .ok (.aload_n 0, 1) := by decide +kernel
theorem dX5_table_333 : decode cX5_table 333 = .ok (.iload 8, 2) := by decide +kernel
theorem dX5_table_335 : decode cX5_table 335 = .ok (.invokevirtual 401, 3) := by decide +kernel
theorem dX5_table_338 : decode cX5_table 338 = .ok (.iload_n 1, 1) := by decide +kernel
theorem dX5_table_339 : decode cX5_table 339 = .ok (.if_icmp .ne 56, 3) := by decide +kernel
theorem dX5_table_342 : decode cX5_table 342 = .ok (.aload_n 0, 1) := by decide +kernel
theorem dX5_table_343 : decode cX5_table 343 = .ok (.iload 8, 2) := by decide +kernel
theorem dX5_table_345 : decode cX5_table 345 = .ok (.invokevirtual 435, 3) := by decide +kernel
theorem dX5_table_348 : decode cX5_table 348 = .ok (.ifCond .eq 47, 3) := by decide +kernel
theorem dX5_table_351 : decode cX5_table 351 = .ok (.iload 5, 2) := by decide +kernel
theorem dX5_table_353 : decode cX5_table 353 = .ok (.iconst (-1), 1) := by decide +kernel
theorem dX5_table_354 : decode cX5_table 354 = .ok (.if_icmp .eq 37, 3) := by decide +kernel
theorem dX5_table_357 : decode cX5_table 357 = .ok (.aload_n 0, 1) := by decide +kernel
theorem dX5_table_358 : decode cX5_table 358 = .ok (.getfield 141, 3) := by decide +kernel
theorem dX5_table_361 : decode cX5_table 361 = .ok (.bipush 100, 2) := by decide +kernel
theorem dX5_table_363 : decode cX5_table 363 = .ok (.iload 5, 2) := by decide +kernel
theorem dX5_table_365 : decode cX5_table 365 = .ok (.imul, 1) := by decide +kernel
theorem dX5_table_366 : decode cX5_table 366 = .ok (.aload_n 0, 1) := by decide +kernel
theorem dX5_table_367 : decode cX5_table 367 = .ok (.aload_n 0, 1) := by decide +kernel
theorem dX5_table_368 : decode cX5_table 368 = .ok (.getfield 80, 3) := by decide +kernel
theorem dX5_table_371 : decode cX5_table 371 = .ok (.aload_n 0, 1) := by decide +kernel
theorem dX5_table_372 : decode cX5_table 372 = .ok (.getfield 111, 3) := by decide +kernel
theorem dX5_table_375 : decode cX5_table 375 = .ok (.iload 8, 2) := by decide +kernel
theorem dX5_table_377 : decode cX5_table 377 = .ok (.iaload, 1) := by decide +kernel
theorem dX5_table_378 : decode cX5_table 378 = .ok (.iaload, 1) := by decide +kernel
theorem dX5_table_379 : decode cX5_table 379 = .ok (.aload_n 0, 1) := by decide +kernel
theorem dX5_table_380 : decode cX5_table 380 = .ok (.invokevirtual 233, 3) := by decide +kernel
theorem dX5_table_383 : decode cX5_table 383 = .ok (.invokevirtual 237, 3) := by decide +kernel
theorem dX5_table_386 : decode cX5_table 386 = .ok (.iadd, 1) := by decide +kernel
theorem dX5_table_387 : decode cX5_table 387 = .ok (.baload, 1) := by decide +kernel
theorem dX5_table_388 : decode cX5_table 388 = .ok (.ifCond .eq 7, 3) := by decide +kernel
theorem dX5_table_391 : decode cX5_table 391 = .ok (.iconst 1, 1) := by decide +kernel
theorem dX5_table_392 : decode cX5_table 392 = .ok (.goto 4, 3) := by decide +kernel
theorem dX5_table_395 : decode cX5_table 395 = .ok (.iconst 0, 1) := by decide +kernel
theorem dX5_table_396 : decode cX5_table 396 = .ok (.istore 9, 2) := by decide +kernel
theorem dX5_table_398 : decode cX5_table 398 = .ok (.aload_n 0, 1) := by decide +kernel
theorem dX5_table_399 : decode cX5_table 399 = .ok (.getfield 114, 3) := by decide +kernel
theorem dX5_table_402 : decode cX5_table 402 = .ok (.bipush 20, 2) := by decide +kernel
theorem dX5_table_404 : decode cX5_table 404 = .ok (.iload 8, 2) := by decide +kernel
theorem dX5_table_406 : decode cX5_table 406 = .ok (.imul, 1) := by decide +kernel
theorem dX5_table_407 : decode cX5_table 407 = .ok (.iload_n 2, 1) := by decide +kernel
theorem dX5_table_408 : decode cX5_table 408 = .ok (.iadd, 1) := by decide +kernel
theorem dX5_table_409 : decode cX5_table 409 = .ok (.iaload, 1) := by decide +kernel
theorem dX5_table_410 : decode cX5_table 410 = .ok (.istore 10, 2) := by decide +kernel
theorem dX5_table_412 : decode cX5_table 412 = .ok (.aload_n 0, 1) := by decide +kernel
theorem dX5_table_413 : decode cX5_table 413 = .ok (.getfield 114, 3) := by decide +kernel
theorem dX5_table_416 : decode cX5_table 416 = .ok (.bipush 20, 2) := by decide +kernel
theorem dX5_table_418 : decode cX5_table 418 = .ok (.iload 8, 2) := by decide +kernel
theorem dX5_table_420 : decode cX5_table 420 = .ok (.imul, 1) := by decide +kernel
theorem dX5_table_421 : decode cX5_table 421 = .ok (.iload_n 3, 1) := by decide +kernel
theorem dX5_table_422 : decode cX5_table 422 = .ok (.iadd, 1) := by decide +kernel
theorem dX5_table_423 : decode cX5_table 423 = .ok (.iaload, 1) := by decide +kernel
theorem dX5_table_424 : decode cX5_table 424 = .ok (.istore 11, 2) := by decide +kernel
theorem dX5_table_426 : decode cX5_table 426 = .ok (.iload 4, 2) := by decide +kernel
theorem dX5_table_428 : decode cX5_table 428 = .ok (.iconst (-1), 1) := by decide +kernel
theorem dX5_table_429 : decode cX5_table 429 = .ok (.if_icmp .ne 7, 3) := by decide +kernel
theorem dX5_table_432 : decode cX5_table 432 = .ok (.iconst 1, 1) := by decide +kernel
theorem dX5_table_433 : decode cX5_table 433 = .ok (.goto 16, 3) := by decide +kernel
theorem dX5_table_436 : decode cX5_table 436 = .ok (.aload_n 0, 1) := by decide +kernel
theorem dX5_table_437 : decode cX5_table 437 = .ok (.getfield 114, 3) := by decide +kernel
theorem dX5_table_440 : decode cX5_table 440 = .ok (.bipush 20, 2) := by decide +kernel
theorem dX5_table_442 : decode cX5_table 442 = .ok (.iload 8, 2) := by decide +kernel
theorem dX5_table_444 : decode cX5_table 444 = .ok (.imul, 1) := by decide +kernel
theorem dX5_table_445 : decode cX5_table 445 = .ok (.iload 4, 2) := by decide +kernel
theorem dX5_table_447 : decode cX5_table 447 = .ok (.iadd, 1) := by decide +kernel
theorem dX5_table_448 : decode cX5_table 448 = .ok (.iaload, 1) := by decide +kernel
theorem dX5_table_449 : decode cX5_table 449 = .ok (.istore 12, 2) := by decide +kernel
theorem dX5_table_451 : decode cX5_table 451 = .ok (.iload 9, 2) := by decide +kernel
theorem dX5_table_453 : decode cX5_table 453 = .ok (.ifCond .eq 117, 3) := by decide +kernel
theorem dX5_table_456 : decode cX5_table 456 = .ok (.iload 10, 2) := by decide +kernel
theorem dX5_table_458 : decode cX5_table 458 = .ok (.ldc 244, 2) := by decide +kernel
theorem dX5_table_460 : decode cX5_table 460 = .ok (.if_icmp .eq 110, 3) := by decide +kernel
theorem dX5_table_463 : decode cX5_table 463 = .ok (.iload 11, 2) := by decide +kernel
theorem dX5_table_465 : decode cX5_table 465 = .ok (.ldc 244, 2) := by decide +kernel
theorem dX5_table_467 : decode cX5_table 467 = .ok (.if_icmp .eq 103, 3) := by decide +kernel
theorem dX5_table_470 : decode cX5_table 470 = .ok (.iload 12, 2) := by decide +kernel
theorem dX5_table_472 : decode cX5_table 472 = .ok (.ifCond .lt 98, 3) := by decide +kernel
theorem dX5_table_475 : decode cX5_table 475 = .ok (.bipush 12, 2) := by decide +kernel
theorem dX5_table_477 : decode cX5_table 477 = .ok (.iload 7, 2) := by decide +kernel
theorem dX5_table_479 : decode cX5_table 479 = .ok (.imul, 1) := by decide +kernel
theorem dX5_table_480 : decode cX5_table 480 = .ok (.iload 10, 2) := by decide +kernel
theorem dX5_table_482 : decode cX5_table 482 = .ok (.aload_n 0, 1) := by decide +kernel
theorem dX5_table_483 : decode cX5_table 483 = .ok (.getfield 44, 3) := by decide +kernel
theorem dX5_table_486 : decode cX5_table 486 = .ok (.iload 6, 2) := by decide +kernel
theorem dX5_table_488 : decode cX5_table 488 = .ok (.iload_n 2, 1) := by decide +kernel
theorem dX5_table_489 : decode cX5_table 489 = .ok (.iadd, 1) := by decide +kernel
theorem dX5_table_490 : decode cX5_table 490 = .ok (.iaload, 1) := by decide +kernel
theorem dX5_table_491 : decode cX5_table 491 = .ok (.isub, 1) := by decide +kernel
theorem dX5_table_492 : decode cX5_table 492 = .ok (.aload_n 0, 1) := by decide +kernel
theorem dX5_table_493 : decode cX5_table 493 = .ok (.getfield 150, 3) := by decide +kernel
theorem dX5_table_496 : decode cX5_table 496 = .ok (.iload 7, 2) := by decide +kernel
theorem dX5_table_498 : decode cX5_table 498 = .ok (.iaload, 1) := by decide +kernel
theorem dX5_table_499 : decode cX5_table 499 = .ok (.imul, 1) := by decide +kernel
theorem dX5_table_500 : decode cX5_table 500 = .ok (.iadd, 1) := by decide +kernel
theorem dX5_table_501 : decode cX5_table 501 = .ok (.iload 11, 2) := by decide +kernel
theorem dX5_table_503 : decode cX5_table 503 = .ok (.iadd, 1) := by decide +kernel
theorem dX5_table_504 : decode cX5_table 504 = .ok (.aload_n 0, 1) := by decide +kernel
theorem dX5_table_505 : decode cX5_table 505 = .ok (.getfield 44, 3) := by decide +kernel
theorem dX5_table_508 : decode cX5_table 508 = .ok (.iload 6, 2) := by decide +kernel
theorem dX5_table_510 : decode cX5_table 510 = .ok (.iload_n 3, 1) := by decide +kernel
theorem dX5_table_511 : decode cX5_table 511 = .ok (.iadd, 1) := by decide +kernel
theorem dX5_table_512 : decode cX5_table 512 = .ok (.iaload, 1) := by decide +kernel
theorem dX5_table_513 : decode cX5_table 513 = .ok (.isub, 1) := by decide +kernel
theorem dX5_table_514 : decode cX5_table 514 = .ok (.istore 13, 2) := by decide +kernel
theorem dX5_table_516 : decode cX5_table 516 = .ok (.aload_n 0, 1) := by decide +kernel
theorem dX5_table_517 : decode cX5_table 517 = .ok (.getfield 153, 3) := by decide +kernel
theorem dX5_table_520 : decode cX5_table 520 = .ok (.iload 13, 2) := by decide +kernel
theorem dX5_table_522 : decode cX5_table 522 = .ok (.dup2, 1) := by decide +kernel
theorem dX5_table_523 : decode cX5_table 523 = .ok (.iaload, 1) := by decide +kernel
theorem dX5_table_524 : decode cX5_table 524 = .ok (.iload 12, 2) := by decide +kernel
theorem dX5_table_526 : decode cX5_table 526 = .ok (.iadd, 1) := by decide +kernel
theorem dX5_table_527 : decode cX5_table 527 = .ok (.iastore, 1) := by decide +kernel
theorem dX5_table_528 : decode cX5_table 528 = .ok (.aload_n 0, 1) := by decide +kernel
theorem dX5_table_529 : decode cX5_table 529 = .ok (.getfield 156, 3) := by decide +kernel
theorem dX5_table_532 : decode cX5_table 532 = .ok (.iload 13, 2) := by decide +kernel
theorem dX5_table_534 : decode cX5_table 534 = .ok (.dup2, 1) := by decide +kernel
theorem dX5_table_535 : decode cX5_table 535 = .ok (.iaload, 1) := by decide +kernel
theorem dX5_table_536 : decode cX5_table 536 = .ok (.iconst 1, 1) := by decide +kernel
theorem dX5_table_537 : decode cX5_table 537 = .ok (.iadd, 1) := by decide +kernel
theorem dX5_table_538 : decode cX5_table 538 = .ok (.iastore, 1) := by decide +kernel
theorem dX5_table_539 : decode cX5_table 539 = .ok (.aload_n 0, 1) := by decide +kernel
theorem dX5_table_540 : decode cX5_table 540 = .ok (.getfield 159, 3) := by decide +kernel
theorem dX5_table_543 : decode cX5_table 543 = .ok (.iload 13, 2) := by decide +kernel
theorem dX5_table_545 : decode cX5_table 545 = .ok (.iload 12, 2) := by decide +kernel
theorem dX5_table_547 : decode cX5_table 547 = .ok (.aload_n 0, 1) := by decide +kernel
theorem dX5_table_548 : decode cX5_table 548 = .ok (.getfield 159, 3) := by decide +kernel
theorem dX5_table_551 : decode cX5_table 551 = .ok (.iload 13, 2) := by decide +kernel
theorem dX5_table_553 : decode cX5_table 553 = .ok (.iaload, 1) := by decide +kernel
theorem dX5_table_554 : decode cX5_table 554 = .ok (.if_icmp .le 8, 3) := by decide +kernel
theorem dX5_table_557 : decode cX5_table 557 = .ok (.iload 12, 2) := by decide +kernel
theorem dX5_table_559 : decode cX5_table 559 = .ok (.goto 10, 3) := by decide +kernel
theorem dX5_table_562 : decode cX5_table 562 = .ok (.aload_n 0, 1) := by decide +kernel
theorem dX5_table_563 : decode cX5_table 563 = .ok (.getfield 159, 3) := by decide +kernel
theorem dX5_table_566 : decode cX5_table 566 = .ok (.iload 13, 2) := by decide +kernel
theorem dX5_table_568 : decode cX5_table 568 = .ok (.iaload, 1) := by decide +kernel
theorem dX5_table_569 : decode cX5_table 569 = .ok (.iastore, 1) := by decide +kernel
theorem dX5_table_570 : decode cX5_table 570 = .ok (.iinc 8 1, 3) := by decide +kernel
theorem dX5_table_573 : decode cX5_table 573 = .ok (.goto (-250), 3) := by decide +kernel
theorem dX5_table_576 : decode cX5_table 576 = .ok (.aload_n 0, 1) := by decide +kernel
theorem dX5_table_577 : decode cX5_table 577 = .ok (.dup, 1) := by decide +kernel
theorem dX5_table_578 : decode cX5_table 578 = .ok (.getfield 470, 3) := by decide +kernel
theorem dX5_table_581 : decode cX5_table 581 = .ok (.iconst 1, 1) := by decide +kernel
theorem dX5_table_582 : decode cX5_table 582 = .ok (.iadd, 1) := by decide +kernel
theorem dX5_table_583 : decode cX5_table 583 = .ok (.putfield 470, 3) := by decide +kernel
theorem dX5_table_586 : decode cX5_table 586 = .ok (.iload 7, 2) := by decide +kernel
theorem dX5_table_588 : decode cX5_table 588 = .ok (.ireturn, 1) := by decide +kernel
theorem dX5_cell_0 : decode cX5_cell 0 = .ok (.aload_n 0, 1) := by decide +kernel
theorem dX5_cell_1 : decode cX5_cell 1 = .ok (.iconst 0, 1) := by decide +kernel
theorem dX5_cell_2 : decode cX5_cell 2 = .ok (.putfield 198, 3) := by decide +kernel
theorem dX5_cell_5 : decode cX5_cell 5 = .ok (.aload_n 0, 1) := by decide +kernel
theorem dX5_cell_6 : decode cX5_cell 6 = .ok (.iload_n 1, 1) := by decide +kernel
theorem dX5_cell_7 : decode cX5_cell 7 = .ok (.invokevirtual 473, 3) := by decide +kernel
theorem dX5_cell_10 : decode cX5_cell 10 = .ok (.ifCond .eq 35, 3) := by decide +kernel
theorem dX5_cell_13 : decode cX5_cell 13 = .ok (.iload_n 2, 1) := by decide +kernel
theorem dX5_cell_14 : decode cX5_cell 14 = .ok (.i2l, 1) := by decide +kernel
theorem dX5_cell_15 : decode cX5_cell 15 = .ok (.lconst 0, 1) := by decide +kernel
theorem dX5_cell_16 : decode cX5_cell 16 = .ok (.aload_n 0, 1) := by decide +kernel
theorem dX5_cell_17 : decode cX5_cell 17 = .ok (.getfield 147, 3) := by decide +kernel
theorem dX5_cell_20 : decode cX5_cell 20 = .ok (.iload_n 1, 1) := by decide +kernel
theorem dX5_cell_21 : decode cX5_cell 21 = .ok (.iaload, 1) := by decide +kernel
theorem dX5_cell_22 : decode cX5_cell 22 = .ok (.i2l, 1) := by decide +kernel
theorem dX5_cell_23 : decode cX5_cell 23 = .ok (.invokestatic 207, 3) := by decide +kernel
theorem dX5_cell_26 : decode cX5_cell 26 = .ok (.ifCond .eq 19, 3) := by decide +kernel
theorem dX5_cell_29 : decode cX5_cell 29 = .ok (.iload_n 3, 1) := by decide +kernel
theorem dX5_cell_30 : decode cX5_cell 30 = .ok (.i2l, 1) := by decide +kernel
theorem dX5_cell_31 : decode cX5_cell 31 = .ok (.lconst 0, 1) := by decide +kernel
theorem dX5_cell_32 : decode cX5_cell 32 = .ok (.aload_n 0, 1) := by decide +kernel
theorem dX5_cell_33 : decode cX5_cell 33 = .ok (.getfield 150, 3) := by decide +kernel
theorem dX5_cell_36 : decode cX5_cell 36 = .ok (.iload_n 1, 1) := by decide +kernel
theorem dX5_cell_37 : decode cX5_cell 37 = .ok (.iaload, 1) := by decide +kernel
theorem dX5_cell_38 : decode cX5_cell 38 = .ok (.i2l, 1) := by decide +kernel
theorem dX5_cell_39 : decode cX5_cell 39 = .ok (.invokestatic 207, 3) := by decide +kernel
theorem dX5_cell_42 : decode cX5_cell 42 = .ok (.ifCond .ne 9, 3) := by decide +kernel
theorem dX5_cell_45 : decode cX5_cell 45 = .ok (.aload_n 0, 1) := by decide +kernel
theorem dX5_cell_46 : decode cX5_cell 46 = .ok (.iconst 1, 1) := by decide +kernel
theorem dX5_cell_47 : decode cX5_cell 47 = .ok (.invokevirtual 213, 3) := by decide +kernel
theorem dX5_cell_50 : decode cX5_cell 50 = .ok (.ireturn, 1) := by decide +kernel
theorem dX5_cell_51 : decode cX5_cell 51 = .ok (.iload 4, 2) := by decide +kernel
theorem dX5_cell_53 : decode cX5_cell 53 = .ok (.i2l, 1) := by decide +kernel
theorem dX5_cell_54 : decode cX5_cell 54 = .ok (.lconst 0, 1) := by decide +kernel
theorem dX5_cell_55 : decode cX5_cell 55 = .ok (.ldc2_w 356, 3) := by decide +kernel
theorem dX5_cell_58 : decode cX5_cell 58 = .ok (.invokestatic 207, 3) := by decide +kernel
theorem dX5_cell_61 : decode cX5_cell 61 = .ok (.ifCond .ne 9, 3) := by decide +kernel
theorem dX5_cell_64 : decode cX5_cell 64 = .ok (.aload_n 0, 1) := by decide +kernel
theorem dX5_cell_65 : decode cX5_cell 65 = .ok (.iconst 2, 1) := by decide +kernel
theorem dX5_cell_66 : decode cX5_cell 66 = .ok (.invokevirtual 213, 3) := by decide +kernel
theorem dX5_cell_69 : decode cX5_cell 69 = .ok (.ireturn, 1) := by decide +kernel
theorem dX5_cell_70 : decode cX5_cell 70 = .ok (.iconst 0, 1) := by decide +kernel
theorem dX5_cell_71 : decode cX5_cell 71 = .ok (.istore 5, 2) := by decide +kernel
theorem dX5_cell_73 : decode cX5_cell 73 = .ok (.iconst 0, 1) := by decide +kernel
theorem dX5_cell_74 : decode cX5_cell 74 = .ok (.istore 6, 2) := by decide +kernel
theorem dX5_cell_76 : decode cX5_cell 76 = .ok (.iload 6, 2) := by decide +kernel
theorem dX5_cell_78 : decode cX5_cell 78 = .ok (.aload_n 0, 1) := by decide +kernel
theorem dX5_cell_79 : decode cX5_cell 79 = .ok (.getfield 147, 3) := by decide +kernel
theorem dX5_cell_82 : decode cX5_cell 82 = .ok (.iload_n 1, 1) := by decide +kernel
theorem dX5_cell_83 : decode cX5_cell 83 = .ok (.iaload, 1) := by decide +kernel
theorem dX5_cell_84 : decode cX5_cell 84 = .ok (.aload_n 0, 1) := by decide +kernel
theorem dX5_cell_85 : decode cX5_cell 85 = .ok (.getfield 150, 3) := by decide +kernel
theorem dX5_cell_88 : decode cX5_cell 88 = .ok (.iload_n 1, 1) := by decide +kernel
theorem dX5_cell_89 : decode cX5_cell 89 = .ok (.iaload, 1) := by decide +kernel
theorem dX5_cell_90 : decode cX5_cell 90 = .ok (.imul, 1) := by decide +kernel
theorem dX5_cell_91 : decode cX5_cell 91 = .ok (.if_icmp .ge 96, 3) := by decide +kernel
theorem dX5_cell_94 : decode cX5_cell 94 = .ok (.iload_n 2, 1) := by decide +kernel
theorem dX5_cell_95 : decode cX5_cell 95 = .ok (.aload_n 0, 1) := by decide +kernel
theorem dX5_cell_96 : decode cX5_cell 96 = .ok (.getfield 147, 3) := by decide +kernel
theorem dX5_cell_99 : decode cX5_cell 99 = .ok (.iload_n 1, 1) := by decide +kernel
theorem dX5_cell_100 : decode cX5_cell 100 = .ok (.iaload, 1) := by decide +kernel
theorem dX5_cell_101 : decode cX5_cell 101 = .ok (.if_icmp .eq 16, 3) := by decide +kernel
theorem dX5_cell_104 : decode cX5_cell 104 = .ok (.iload 6, 2) := by decide +kernel
theorem dX5_cell_106 : decode cX5_cell 106 = .ok (.aload_n 0, 1) := by decide +kernel
theorem dX5_cell_107 : decode cX5_cell 107 = .ok (.getfield 150, 3) := by decide +kernel
theorem dX5_cell_110 : decode cX5_cell 110 = .ok (.iload_n 1, 1) := by decide +kernel
theorem dX5_cell_111 : decode cX5_cell 111 = .ok (.iaload, 1) := by decide +kernel
theorem dX5_cell_112 : decode cX5_cell 112 = .ok (.idiv, 1) := by decide +kernel
theorem dX5_cell_113 : decode cX5_cell 113 = .ok (.iload_n 2, 1) := by decide +kernel
theorem dX5_cell_114 : decode cX5_cell 114 = .ok (.if_icmp .ne 67, 3) := by decide +kernel
theorem dX5_cell_117 : decode cX5_cell 117 = .ok (.iload_n 3, 1) := by decide +kernel
theorem dX5_cell_118 : decode cX5_cell 118 = .ok (.aload_n 0, 1) := by decide +kernel
theorem dX5_cell_119 : decode cX5_cell 119 = .ok (.getfield 150, 3) := by decide +kernel
theorem dX5_cell_122 : decode cX5_cell 122 = .ok (.iload_n 1, 1) := by decide +kernel
theorem dX5_cell_123 : decode cX5_cell 123 = .ok (.iaload, 1) := by decide +kernel
theorem dX5_cell_124 : decode cX5_cell 124 = .ok (.if_icmp .eq 16, 3) := by decide +kernel
theorem dX5_cell_127 : decode cX5_cell 127 = .ok (.iload 6, 2) := by decide +kernel
theorem dX5_cell_129 : decode cX5_cell 129 = .ok (.aload_n 0, 1) := by decide +kernel
theorem dX5_cell_130 : decode cX5_cell 130 = .ok (.getfield 150, 3) := by decide +kernel
theorem dX5_cell_133 : decode cX5_cell 133 = .ok (.iload_n 1, 1) := by decide +kernel
theorem dX5_cell_134 : decode cX5_cell 134 = .ok (.iaload, 1) := by decide +kernel
theorem dX5_cell_135 : decode cX5_cell 135 = .ok (.irem, 1) := by decide +kernel
theorem dX5_cell_136 : decode cX5_cell 136 = .ok (.iload_n 3, 1) := by decide +kernel
theorem dX5_cell_137 : decode cX5_cell 137 = .ok (.if_icmp .ne 44, 3) := by decide +kernel
theorem dX5_cell_140 : decode cX5_cell 140 = .ok (.aload_n 0, 1) := by decide +kernel
theorem dX5_cell_141 : decode cX5_cell 141 = .ok (.iload_n 1, 1) := by decide +kernel
theorem dX5_cell_142 : decode cX5_cell 142 = .ok (.iload 6, 2) := by decide +kernel
theorem dX5_cell_144 : decode cX5_cell 144 = .ok (.iload 4, 2) := by decide +kernel
theorem dX5_cell_146 : decode cX5_cell 146 = .ok (.invokevirtual 476, 3) := by decide +kernel
theorem dX5_cell_149 : decode cX5_cell 149 = .ok (.istore 7, 2) := by decide +kernel
theorem dX5_cell_151 : decode cX5_cell 151 = .ok (.iload 4, 2) := by decide +kernel
theorem dX5_cell_153 : decode cX5_cell 153 = .ok (.iconst 2, 1) := by decide +kernel
theorem dX5_cell_154 : decode cX5_cell 154 = .ok (.if_icmp .eq 11, 3) := by decide +kernel
theorem dX5_cell_157 : decode cX5_cell 157 = .ok (.iload 5, 2) := by decide +kernel
theorem dX5_cell_159 : decode cX5_cell 159 = .ok (.iload 7, 2) := by decide +kernel
theorem dX5_cell_161 : decode cX5_cell 161 = .ok (.iadd, 1) := by decide +kernel
theorem dX5_cell_162 : decode cX5_cell 162 = .ok (.goto 17, 3) := by decide +kernel
theorem dX5_cell_165 : decode cX5_cell 165 = .ok (.iload 7, 2) := by decide +kernel
theorem dX5_cell_167 : decode cX5_cell 167 = .ok (.iload 5, 2) := by decide +kernel
theorem dX5_cell_169 : decode cX5_cell 169 = .ok (.if_icmp .le 8, 3) := by decide +kernel
theorem dX5_cell_172 : decode cX5_cell 172 = .ok (.iload 7, 2) := by decide +kernel
theorem dX5_cell_174 : decode cX5_cell 174 = .ok (.goto 5, 3) := by decide +kernel
theorem dX5_cell_177 : decode cX5_cell 177 = .ok (.iload 5, 2) := by decide +kernel
theorem dX5_cell_179 : decode cX5_cell 179 = .ok (.istore 5, 2) := by decide +kernel
theorem dX5_cell_181 : decode cX5_cell 181 = .ok (.iinc 6 1, 3) := by decide +kernel
theorem dX5_cell_184 : decode cX5_cell 184 = .ok (.goto (-108), 3) := by decide +kernel
theorem dX5_cell_187 : decode cX5_cell 187 = .ok (.iload 5, 2) := by decide +kernel
theorem dX5_cell_189 : decode cX5_cell 189 = .ok (.ireturn, 1) := by decide +kernel
theorem dX5_isTable_0 : decode cX5_isTable 0 = .ok (.iload_n 1, 1) := by decide +kernel
theorem dX5_isTable_1 : decode cX5_isTable 1 = .ok (.i2l, 1) := by decide +kernel
theorem dX5_isTable_2 : decode cX5_isTable 2 = .ok (.lconst 0, 1) := by decide +kernel
theorem dX5_isTable_3 : decode cX5_isTable 3 = .ok (.aload_n 0, 1) := by decide +kernel
theorem dX5_isTable_4 : decode cX5_isTable 4 = .ok (.getfield 470, 3) := by decide +kernel
theorem dX5_isTable_7 : decode cX5_isTable 7 = .ok (.iconst 1, 1) := by decide +kernel
theorem dX5_isTable_8 : decode cX5_isTable 8 = .ok (.isub, 1) := by decide +kernel
theorem dX5_isTable_9 : decode cX5_isTable 9 = .ok (.i2l, 1) := by decide +kernel
theorem dX5_isTable_10 : decode cX5_isTable 10 = .ok (.invokestatic 207, 3) := by decide +kernel
theorem dX5_isTable_13 : decode cX5_isTable 13 = .ok (.ireturn, 1) := by decide +kernel
theorem dX5_now_0 : decode cX5_now 0 = .ok (.bipush 12, 2) := by decide +kernel
theorem dX5_now_2 : decode cX5_now 2 = .ok (.iload_n 1, 1) := by decide +kernel
theorem dX5_now_3 : decode cX5_now 3 = .ok (.imul, 1) := by decide +kernel
theorem dX5_now_4 : decode cX5_now 4 = .ok (.iload_n 2, 1) := by decide +kernel
theorem dX5_now_5 : decode cX5_now 5 = .ok (.iadd, 1) := by decide +kernel
theorem dX5_now_6 : decode cX5_now 6 = .ok (.istore 4, 2) := by decide +kernel
theorem dX5_now_8 : decode cX5_now 8 = .ok (.iload_n 3, 1) := by decide +kernel
theorem dX5_now_9 : decode cX5_now 9 = .ok (.ifCond .eq 17, 3) := by decide +kernel
theorem dX5_now_12 : decode cX5_now 12 = .ok (.iload_n 3, 1) := by decide +kernel
theorem dX5_now_13 : decode cX5_now 13 = .ok (.iconst 3, 1) := by decide +kernel
theorem dX5_now_14 : decode cX5_now 14 = .ok (.if_icmp .ne 22, 3) := by decide +kernel
theorem dX5_now_17 : decode cX5_now 17 = .ok (.aload_n 0, 1) := by decide +kernel
theorem dX5_now_18 : decode cX5_now 18 = .ok (.getfield 165, 3) := by decide +kernel
theorem dX5_now_21 : decode cX5_now 21 = .ok (.iload_n 1, 1) := by decide +kernel
theorem dX5_now_22 : decode cX5_now 22 = .ok (.baload, 1) := by decide +kernel
theorem dX5_now_23 : decode cX5_now 23 = .ok (.ifCond .ne 13, 3) := by decide +kernel
theorem dX5_now_26 : decode cX5_now 26 = .ok (.aload_n 0, 1) := by decide +kernel
theorem dX5_now_27 : decode cX5_now 27 = .ok (.getfield 153, 3) := by decide +kernel
theorem dX5_now_30 : decode cX5_now 30 = .ok (.iload 4, 2) := by decide +kernel
theorem dX5_now_32 : decode cX5_now 32 = .ok (.iaload, 1) := by decide +kernel
theorem dX5_now_33 : decode cX5_now 33 = .ok (.goto 40, 3) := by decide +kernel
theorem dX5_now_36 : decode cX5_now 36 = .ok (.iload_n 3, 1) := by decide +kernel
theorem dX5_now_37 : decode cX5_now 37 = .ok (.iconst 1, 1) := by decide +kernel
theorem dX5_now_38 : decode cX5_now 38 = .ok (.if_icmp .ne 13, 3) := by decide +kernel
theorem dX5_now_41 : decode cX5_now 41 = .ok (.aload_n 0, 1) := by decide +kernel
theorem dX5_now_42 : decode cX5_now 42 = .ok (.getfield 156, 3) := by decide +kernel
theorem dX5_now_45 : decode cX5_now 45 = .ok (.iload 4, 2) := by decide +kernel
theorem dX5_now_47 : decode cX5_now 47 = .ok (.iaload, 1) := by decide +kernel
theorem dX5_now_48 : decode cX5_now 48 = .ok (.goto 25, 3) := by decide +kernel
theorem dX5_now_51 : decode cX5_now 51 = .ok (.iload_n 3, 1) := by decide +kernel
theorem dX5_now_52 : decode cX5_now 52 = .ok (.iconst 2, 1) := by decide +kernel
theorem dX5_now_53 : decode cX5_now 53 = .ok (.if_icmp .ne 13, 3) := by decide +kernel
theorem dX5_now_56 : decode cX5_now 56 = .ok (.aload_n 0, 1) := by decide +kernel
theorem dX5_now_57 : decode cX5_now 57 = .ok (.getfield 159, 3) := by decide +kernel
theorem dX5_now_60 : decode cX5_now 60 = .ok (.iload 4, 2) := by decide +kernel
theorem dX5_now_62 : decode cX5_now 62 = .ok (.iaload, 1) := by decide +kernel
theorem dX5_now_63 : decode cX5_now 63 = .ok (.goto 10, 3) := by decide +kernel
theorem dX5_now_66 : decode cX5_now 66 = .ok (.aload_n 0, 1) := by decide +kernel
theorem dX5_now_67 : decode cX5_now 67 = .ok (.getfield 162, 3) := by decide +kernel
theorem dX5_now_70 : decode cX5_now 70 = .ok (.iload 4, 2) := by decide +kernel
theorem dX5_now_72 : decode cX5_now 72 = .ok (.iaload, 1) := by decide +kernel
theorem dX5_now_73 : decode cX5_now 73 = .ok (.ireturn, 1) := by decide +kernel
theorem dX5_secrecy_0 : decode cX5_secrecy 0 = .ok (.aload_n 0, 1) := by decide +kernel
theorem dX5_secrecy_1 : decode cX5_secrecy 1 = .ok (.iconst 0, 1) := by decide +kernel
theorem dX5_secrecy_2 : decode cX5_secrecy 2 = .ok (.putfield 198, 3) := by decide +kernel
theorem dX5_secrecy_5 : decode cX5_secrecy 5 = .ok (.aload_n 0, 1) := by decide +kernel
theorem dX5_secrecy_6 : decode cX5_secrecy 6 = .ok (.iload_n 1, 1) := by decide +kernel
theorem dX5_secrecy_7 : decode cX5_secrecy 7 = .ok (.invokevirtual 473, 3) := by decide +kernel
theorem dX5_secrecy_10 : decode cX5_secrecy 10 = .ok (.ifCond .ne 9, 3) := by decide +kernel
theorem dX5_secrecy_13 : decode cX5_secrecy 13 = .ok (.aload_n 0, 1) := by decide +kernel
theorem dX5_secrecy_14 : decode cX5_secrecy 14 = .ok (.iconst 1, 1) := by decide +kernel
theorem dX5_secrecy_15 : decode cX5_secrecy 15 = .ok (.invokevirtual 213, 3) := by decide +kernel
theorem dX5_secrecy_18 : decode cX5_secrecy 18 = .ok (.ireturn, 1) := by decide +kernel
theorem dX5_secrecy_19 : decode cX5_secrecy 19 = .ok (.iload_n 2, 1) := by decide +kernel
theorem dX5_secrecy_20 : decode cX5_secrecy 20 = .ok (.i2l, 1) := by decide +kernel
theorem dX5_secrecy_21 : decode cX5_secrecy 21 = .ok (.lconst 0, 1) := by decide +kernel
theorem dX5_secrecy_22 : decode cX5_secrecy 22 = .ok (.ldc2_w 414, 3) := by decide +kernel
theorem dX5_secrecy_25 : decode cX5_secrecy 25 = .ok (.invokestatic 207, 3) := by decide +kernel
theorem dX5_secrecy_28 : decode cX5_secrecy 28 = .ok (.ifCond .eq 28, 3) := by decide +kernel
theorem dX5_secrecy_31 : decode cX5_secrecy 31 = .ok (.iload_n 3, 1) := by decide +kernel
theorem dX5_secrecy_32 : decode cX5_secrecy 32 = .ok (.i2l, 1) := by decide +kernel
theorem dX5_secrecy_33 : decode cX5_secrecy 33 = .ok (.lconst 0, 1) := by decide +kernel
theorem dX5_secrecy_34 : decode cX5_secrecy 34 = .ok (.ldc2_w 414, 3) := by decide +kernel
theorem dX5_secrecy_37 : decode cX5_secrecy 37 = .ok (.invokestatic 207, 3) := by decide +kernel
theorem dX5_secrecy_40 : decode cX5_secrecy 40 = .ok (.ifCond .eq 16, 3) := by decide +kernel
theorem dX5_secrecy_43 : decode cX5_secrecy 43 = .ok (.iload 4, 2) := by decide +kernel
theorem dX5_secrecy_45 : decode cX5_secrecy 45 = .ok (.i2l, 1) := by decide +kernel
theorem dX5_secrecy_46 : decode cX5_secrecy 46 = .ok (.lconst 0, 1) := by decide +kernel
theorem dX5_secrecy_47 : decode cX5_secrecy 47 = .ok (.ldc2_w 205, 3) := by decide +kernel
theorem dX5_secrecy_50 : decode cX5_secrecy 50 = .ok (.invokestatic 207, 3) := by decide +kernel
theorem dX5_secrecy_53 : decode cX5_secrecy 53 = .ok (.ifCond .ne 9, 3) := by decide +kernel
theorem dX5_secrecy_56 : decode cX5_secrecy 56 = .ok (.aload_n 0, 1) := by decide +kernel
theorem dX5_secrecy_57 : decode cX5_secrecy 57 = .ok (.iconst 2, 1) := by decide +kernel
theorem dX5_secrecy_58 : decode cX5_secrecy 58 = .ok (.invokevirtual 213, 3) := by decide +kernel
theorem dX5_secrecy_61 : decode cX5_secrecy 61 = .ok (.ireturn, 1) := by decide +kernel
theorem dX5_secrecy_62 : decode cX5_secrecy 62 = .ok (.aload_n 0, 1) := by decide +kernel
theorem dX5_secrecy_63 : decode cX5_secrecy 63 = .ok (.getfield 147, 3) := by decide +kernel
theorem dX5_secrecy_66 : decode cX5_secrecy 66 = .ok (.iload_n 1, 1) := by decide +kernel
theorem dX5_secrecy_67 : decode cX5_secrecy 67 = .ok (.iaload, 1) := by decide +kernel
theorem dX5_secrecy_68 : decode cX5_secrecy 68 = .ok (.aload_n 0, 1) := by decide +kernel
theorem dX5_secrecy_69 : decode cX5_secrecy 69 = .ok (.getfield 150, 3) := by decide +kernel
theorem dX5_secrecy_72 : decode cX5_secrecy 72 = .ok (.iload_n 1, 1) := by decide +kernel
theorem dX5_secrecy_73 : decode cX5_secrecy 73 = .ok (.iaload, 1) := by decide +kernel
theorem dX5_secrecy_74 : decode cX5_secrecy 74 = .ok (.imul, 1) := by decide +kernel
theorem dX5_secrecy_75 : decode cX5_secrecy 75 = .ok (.istore 5, 2) := by decide +kernel
theorem dX5_secrecy_77 : decode cX5_secrecy 77 = .ok (.aload_n 0, 1) := by decide +kernel
theorem dX5_secrecy_78 : decode cX5_secrecy 78 = .ok (.getfield 171, 3) := by decide +kernel
theorem dX5_secrecy_81 : decode cX5_secrecy 81 = .ok (.iload_n 1, 1) := by decide +kernel
theorem dX5_secrecy_82 : decode cX5_secrecy 82 = .ok (.iconst 0, 1) := by decide +kernel
theorem dX5_secrecy_83 : decode cX5_secrecy 83 = .ok (.iastore, 1) := by decide +kernel
theorem dX5_secrecy_84 : decode cX5_secrecy 84 = .ok (.iconst 0, 1) := by decide +kernel
theorem dX5_secrecy_85 : decode cX5_secrecy 85 = .ok (.istore 6, 2) := by decide +kernel
theorem dX5_secrecy_87 : decode cX5_secrecy 87 = .ok (.iload 6, 2) := by decide +kernel
theorem dX5_secrecy_89 : decode cX5_secrecy 89 = .ok (.iload 5, 2) := by decide +kernel
theorem dX5_secrecy_91 : decode cX5_secrecy 91 = .ok (.if_icmp .ge 96, 3) := by decide +kernel
theorem dX5_secrecy_94 : decode cX5_secrecy 94 = .ok (.bipush 12, 2) := by decide +kernel
theorem dX5_secrecy_96 : decode cX5_secrecy 96 = .ok (.iload_n 1, 1) := by decide +kernel
theorem dX5_secrecy_97 : decode cX5_secrecy 97 = .ok (.imul, 1) := by decide +kernel
theorem dX5_secrecy_98 : decode cX5_secrecy 98 = .ok (.iload 6, 2) := by decide +kernel
theorem dX5_secrecy_100 : decode cX5_secrecy 100 = .ok (.iadd, 1) := by decide +kernel
theorem dX5_secrecy_101 : decode cX5_secrecy 101 = .ok (.istore 7, 2) := by decide +kernel
theorem dX5_secrecy_103 : decode cX5_secrecy 103 = .ok (.aload_n 0, 1) := by decide +kernel
theorem dX5_secrecy_104 : decode cX5_secrecy 104 = .ok (.getfield 156, 3) := by decide +kernel
theorem dX5_secrecy_107 : decode cX5_secrecy 107 = .ok (.iload 7, 2) := by decide +kernel
theorem dX5_secrecy_109 : decode cX5_secrecy 109 = .ok (.iaload, 1) := by decide +kernel
theorem dX5_secrecy_110 : decode cX5_secrecy 110 = .ok (.iconst 1, 1) := by decide +kernel
theorem dX5_secrecy_111 : decode cX5_secrecy 111 = .ok (.if_icmp .lt 14, 3) := by decide +kernel
theorem dX5_secrecy_114 : decode cX5_secrecy 114 = .ok (.aload_n 0, 1) := by decide +kernel
theorem dX5_secrecy_115 : decode cX5_secrecy 115 = .ok (.getfield 156, 3) := by decide +kernel
theorem dX5_secrecy_118 : decode cX5_secrecy 118 = .ok (.iload 7, 2) := by decide +kernel
theorem dX5_secrecy_120 : decode cX5_secrecy 120 = .ok (.iaload, 1) := by decide +kernel
theorem dX5_secrecy_121 : decode cX5_secrecy 121 = .ok (.iload_n 2, 1) := by decide +kernel
theorem dX5_secrecy_122 : decode cX5_secrecy 122 = .ok (.if_icmp .lt 30, 3) := by decide +kernel
theorem dX5_secrecy_125 : decode cX5_secrecy 125 = .ok (.ldc2_w 414, 3) := by decide +kernel
theorem dX5_secrecy_128 : decode cX5_secrecy 128 = .ok (.aload_n 0, 1) := by decide +kernel
theorem dX5_secrecy_129 : decode cX5_secrecy 129 = .ok (.getfield 159, 3) := by decide +kernel
theorem dX5_secrecy_132 : decode cX5_secrecy 132 = .ok (.iload 7, 2) := by decide +kernel
theorem dX5_secrecy_134 : decode cX5_secrecy 134 = .ok (.iaload, 1) := by decide +kernel
theorem dX5_secrecy_135 : decode cX5_secrecy 135 = .ok (.i2l, 1) := by decide +kernel
theorem dX5_secrecy_136 : decode cX5_secrecy 136 = .ok (.lmul, 1) := by decide +kernel
theorem dX5_secrecy_137 : decode cX5_secrecy 137 = .ok (.iload_n 3, 1) := by decide +kernel
theorem dX5_secrecy_138 : decode cX5_secrecy 138 = .ok (.i2l, 1) := by decide +kernel
theorem dX5_secrecy_139 : decode cX5_secrecy 139 = .ok (.aload_n 0, 1) := by decide +kernel
theorem dX5_secrecy_140 : decode cX5_secrecy 140 = .ok (.getfield 153, 3) := by decide +kernel
theorem dX5_secrecy_143 : decode cX5_secrecy 143 = .ok (.iload 7, 2) := by decide +kernel
theorem dX5_secrecy_145 : decode cX5_secrecy 145 = .ok (.iaload, 1) := by decide +kernel
theorem dX5_secrecy_146 : decode cX5_secrecy 146 = .ok (.i2l, 1) := by decide +kernel
theorem dX5_secrecy_147 : decode cX5_secrecy 147 = .ok (.lmul, 1) := by decide +kernel
theorem dX5_secrecy_148 : decode cX5_secrecy 148 = .ok (.lcmp, 1) := by decide +kernel
theorem dX5_secrecy_149 : decode cX5_secrecy 149 = .ok (.ifCond .le 7, 3) := by decide +kernel
theorem dX5_secrecy_152 : decode cX5_secrecy 152 = .ok (.iconst 1, 1) := by decide +kernel
theorem dX5_secrecy_153 : decode cX5_secrecy 153 = .ok (.goto 4, 3) := by decide +kernel
theorem dX5_secrecy_156 : decode cX5_secrecy 156 = .ok (.iconst 0, 1) := by decide +kernel
theorem dX5_secrecy_157 : decode cX5_secrecy 157 = .ok (.istore 8, 2) := by decide +kernel
theorem dX5_secrecy_159 : decode cX5_secrecy 159 = .ok (.aload_n 0, 1) := by decide +kernel
theorem dX5_secrecy_160 : decode cX5_secrecy 160 = .ok (.getfield 171, 3) := by decide +kernel
theorem dX5_secrecy_163 : decode cX5_secrecy 163 = .ok (.iload_n 1, 1) := by decide +kernel
theorem dX5_secrecy_164 : decode cX5_secrecy 164 = .ok (.dup2, 1) := by decide +kernel
theorem dX5_secrecy_165 : decode cX5_secrecy 165 = .ok (.iaload, 1) := by decide +kernel
theorem dX5_secrecy_166 : decode cX5_secrecy 166 = .ok (.iload 8, 2) := by decide +kernel
theorem dX5_secrecy_168 : decode cX5_secrecy 168 = .ok (.ifCond .eq 10, 3) := by decide +kernel
theorem dX5_secrecy_171 : decode cX5_secrecy 171 = .ok (.iconst 1, 1) := by decide +kernel
theorem dX5_secrecy_172 : decode cX5_secrecy 172 = .ok (.iload 6, 2) := by decide +kernel
theorem dX5_secrecy_174 : decode cX5_secrecy 174 = .ok (.ishl, 1) := by decide +kernel
theorem dX5_secrecy_175 : decode cX5_secrecy 175 = .ok (.goto 4, 3) := by decide +kernel
theorem dX5_secrecy_178 : decode cX5_secrecy 178 = .ok (.iconst 0, 1) := by decide +kernel
theorem dX5_secrecy_179 : decode cX5_secrecy 179 = .ok (.ior, 1) := by decide +kernel
theorem dX5_secrecy_180 : decode cX5_secrecy 180 = .ok (.iastore, 1) := by decide +kernel
theorem dX5_secrecy_181 : decode cX5_secrecy 181 = .ok (.iinc 6 1, 3) := by decide +kernel
theorem dX5_secrecy_184 : decode cX5_secrecy 184 = .ok (.goto (-97), 3) := by decide +kernel
theorem dX5_secrecy_187 : decode cX5_secrecy 187 = .ok (.ldc2_w 479, 3) := by decide +kernel
theorem dX5_secrecy_190 : decode cX5_secrecy 190 = .ok (.lstore 6, 2) := by decide +kernel
theorem dX5_secrecy_192 : decode cX5_secrecy 192 = .ok (.iconst 0, 1) := by decide +kernel
theorem dX5_secrecy_193 : decode cX5_secrecy 193 = .ok (.istore 8, 2) := by decide +kernel
theorem dX5_secrecy_195 : decode cX5_secrecy 195 = .ok (.iload 8, 2) := by decide +kernel
theorem dX5_secrecy_197 : decode cX5_secrecy 197 = .ok (.iconst 1, 1) := by decide +kernel
theorem dX5_secrecy_198 : decode cX5_secrecy 198 = .ok (.iload 5, 2) := by decide +kernel
theorem dX5_secrecy_200 : decode cX5_secrecy 200 = .ok (.ishl, 1) := by decide +kernel
theorem dX5_secrecy_201 : decode cX5_secrecy 201 = .ok (.if_icmp .ge 134, 3) := by decide +kernel
theorem dX5_secrecy_204 : decode cX5_secrecy 204 = .ok (.lconst 0, 1) := by decide +kernel
theorem dX5_secrecy_205 : decode cX5_secrecy 205 = .ok (.lstore 9, 2) := by decide +kernel
theorem dX5_secrecy_207 : decode cX5_secrecy 207 = .ok (.iconst 0, 1) := by decide +kernel
theorem dX5_secrecy_208 : decode cX5_secrecy 208 = .ok (.istore 11, 2) := by decide +kernel
theorem dX5_secrecy_210 : decode cX5_secrecy 210 = .ok (.iload 11, 2) := by decide +kernel
theorem dX5_secrecy_212 : decode cX5_secrecy 212 = .ok (.iload 5, 2) := by decide +kernel
theorem dX5_secrecy_214 : decode cX5_secrecy 214 = .ok (.if_icmp .ge 58, 3) := by decide +kernel
theorem dX5_secrecy_217 : decode cX5_secrecy 217 = .ok (.lload 9, 2) := by decide +kernel
theorem dX5_secrecy_219 : decode cX5_secrecy 219 = .ok (.iload 8, 2) := by decide +kernel
theorem dX5_secrecy_221 : decode cX5_secrecy 221 = .ok (.iload 11, 2) := by decide +kernel
theorem dX5_secrecy_223 : decode cX5_secrecy 223 = .ok (.ishr, 1) := by decide +kernel
theorem dX5_secrecy_224 : decode cX5_secrecy 224 = .ok (.iconst 1, 1) := by decide +kernel
theorem dX5_secrecy_225 : decode cX5_secrecy 225 = .ok (.iand, 1) := by decide +kernel
theorem dX5_secrecy_226 : decode cX5_secrecy 226 = .ok (.iconst 1, 1) := by decide +kernel
theorem dX5_secrecy_227 : decode cX5_secrecy 227 = .ok (.if_icmp .ne 35, 3) := by decide +kernel
theorem dX5_secrecy_230 : decode cX5_secrecy 230 = .ok (.aload_n 0, 1) := by decide +kernel
theorem dX5_secrecy_231 : decode cX5_secrecy 231 = .ok (.getfield 171, 3) := by decide +kernel
theorem dX5_secrecy_234 : decode cX5_secrecy 234 = .ok (.iload_n 1, 1) := by decide +kernel
theorem dX5_secrecy_235 : decode cX5_secrecy 235 = .ok (.iaload, 1) := by decide +kernel
theorem dX5_secrecy_236 : decode cX5_secrecy 236 = .ok (.iload 11, 2) := by decide +kernel
theorem dX5_secrecy_238 : decode cX5_secrecy 238 = .ok (.ishr, 1) := by decide +kernel
theorem dX5_secrecy_239 : decode cX5_secrecy 239 = .ok (.iconst 1, 1) := by decide +kernel
theorem dX5_secrecy_240 : decode cX5_secrecy 240 = .ok (.iand, 1) := by decide +kernel
theorem dX5_secrecy_241 : decode cX5_secrecy 241 = .ok (.ifCond .ne 21, 3) := by decide +kernel
theorem dX5_secrecy_244 : decode cX5_secrecy 244 = .ok (.aload_n 0, 1) := by decide +kernel
theorem dX5_secrecy_245 : decode cX5_secrecy 245 = .ok (.getfield 153, 3) := by decide +kernel
theorem dX5_secrecy_248 : decode cX5_secrecy 248 = .ok (.bipush 12, 2) := by decide +kernel
theorem dX5_secrecy_250 : decode cX5_secrecy 250 = .ok (.iload_n 1, 1) := by decide +kernel
theorem dX5_secrecy_251 : decode cX5_secrecy 251 = .ok (.imul, 1) := by decide +kernel
theorem dX5_secrecy_252 : decode cX5_secrecy 252 = .ok (.iload 11, 2) := by decide +kernel
theorem dX5_secrecy_254 : decode cX5_secrecy 254 = .ok (.iadd, 1) := by decide +kernel
theorem dX5_secrecy_255 : decode cX5_secrecy 255 = .ok (.iaload, 1) := by decide +kernel
theorem dX5_secrecy_256 : decode cX5_secrecy 256 = .ok (.i2l, 1) := by decide +kernel
theorem dX5_secrecy_257 : decode cX5_secrecy 257 = .ok (.lconst 1, 1) := by decide +kernel
theorem dX5_secrecy_258 : decode cX5_secrecy 258 = .ok (.ladd, 1) := by decide +kernel
theorem dX5_secrecy_259 : decode cX5_secrecy 259 = .ok (.goto 4, 3) := by decide +kernel
theorem dX5_secrecy_262 : decode cX5_secrecy 262 = .ok (.lconst 0, 1) := by decide +kernel
theorem dX5_secrecy_263 : decode cX5_secrecy 263 = .ok (.ladd, 1) := by decide +kernel
theorem dX5_secrecy_264 : decode cX5_secrecy 264 = .ok (.lstore 9, 2) := by decide +kernel
theorem dX5_secrecy_266 : decode cX5_secrecy 266 = .ok (.iinc 11 1, 3) := by decide +kernel
theorem dX5_secrecy_269 : decode cX5_secrecy 269 = .ok (.goto (-59), 3) := by decide +kernel
theorem dX5_secrecy_272 : decode cX5_secrecy 272 = .ok (.iload 8, 2) := by decide +kernel
theorem dX5_secrecy_274 : decode cX5_secrecy 274 = .ok (.aload_n 0, 1) := by decide +kernel
theorem dX5_secrecy_275 : decode cX5_secrecy 275 = .ok (.getfield 171, 3) := by decide +kernel
theorem dX5_secrecy_278 : decode cX5_secrecy 278 = .ok (.iload_n 1, 1) := by decide +kernel
theorem dX5_secrecy_279 : decode cX5_secrecy 279 = .ok (.iaload, 1) := by decide +kernel
theorem dX5_secrecy_280 : decode cX5_secrecy 280 = .ok (.iand, 1) := by decide +kernel
theorem dX5_secrecy_281 : decode cX5_secrecy 281 = .ok (.aload_n 0, 1) := by decide +kernel
theorem dX5_secrecy_282 : decode cX5_secrecy 282 = .ok (.getfield 171, 3) := by decide +kernel
theorem dX5_secrecy_285 : decode cX5_secrecy 285 = .ok (.iload_n 1, 1) := by decide +kernel
theorem dX5_secrecy_286 : decode cX5_secrecy 286 = .ok (.iaload, 1) := by decide +kernel
theorem dX5_secrecy_287 : decode cX5_secrecy 287 = .ok (.if_icmp .ne 42, 3) := by decide +kernel
theorem dX5_secrecy_290 : decode cX5_secrecy 290 = .ok (.lload 6, 2) := by decide +kernel
theorem dX5_secrecy_292 : decode cX5_secrecy 292 = .ok (.lconst 0, 1) := by decide +kernel
theorem dX5_secrecy_293 : decode cX5_secrecy 293 = .ok (.lcmp, 1) := by decide +kernel
theorem dX5_secrecy_294 : decode cX5_secrecy 294 = .ok (.ifCond .lt 11, 3) := by decide +kernel
theorem dX5_secrecy_297 : decode cX5_secrecy 297 = .ok (.lload 9, 2) := by decide +kernel
theorem dX5_secrecy_299 : decode cX5_secrecy 299 = .ok (.lload 6, 2) := by decide +kernel
theorem dX5_secrecy_301 : decode cX5_secrecy 301 = .ok (.lcmp, 1) := by decide +kernel
theorem dX5_secrecy_302 : decode cX5_secrecy 302 = .ok (.ifCond .ge 27, 3) := by decide +kernel
theorem dX5_secrecy_305 : decode cX5_secrecy 305 = .ok (.aload_n 0, 1) := by decide +kernel
theorem dX5_secrecy_306 : decode cX5_secrecy 306 = .ok (.iload_n 1, 1) := by decide +kernel
theorem dX5_secrecy_307 : decode cX5_secrecy 307 = .ok (.iload 8, 2) := by decide +kernel
theorem dX5_secrecy_309 : decode cX5_secrecy 309 = .ok (.iload 4, 2) := by decide +kernel
theorem dX5_secrecy_311 : decode cX5_secrecy 311 = .ok (.invokevirtual 484, 3) := by decide +kernel
theorem dX5_secrecy_314 : decode cX5_secrecy 314 = .ok (.ifCond .eq 15, 3) := by decide +kernel
theorem dX5_secrecy_317 : decode cX5_secrecy 317 = .ok (.lload 9, 2) := by decide +kernel
theorem dX5_secrecy_319 : decode cX5_secrecy 319 = .ok (.lstore 6, 2) := by decide +kernel
theorem dX5_secrecy_321 : decode cX5_secrecy 321 = .ok (.aload_n 0, 1) := by decide +kernel
theorem dX5_secrecy_322 : decode cX5_secrecy 322 = .ok (.getfield 168, 3) := by decide +kernel
theorem dX5_secrecy_325 : decode cX5_secrecy 325 = .ok (.iload_n 1, 1) := by decide +kernel
theorem dX5_secrecy_326 : decode cX5_secrecy 326 = .ok (.iload 8, 2) := by decide +kernel
theorem dX5_secrecy_328 : decode cX5_secrecy 328 = .ok (.iastore, 1) := by decide +kernel
theorem dX5_secrecy_329 : decode cX5_secrecy 329 = .ok (.iinc 8 1, 3) := by decide +kernel
theorem dX5_secrecy_332 : decode cX5_secrecy 332 = .ok (.goto (-137), 3) := by decide +kernel
theorem dX5_secrecy_335 : decode cX5_secrecy 335 = .ok (.lload 6, 2) := by decide +kernel
theorem dX5_secrecy_337 : decode cX5_secrecy 337 = .ok (.lconst 0, 1) := by decide +kernel
theorem dX5_secrecy_338 : decode cX5_secrecy 338 = .ok (.lcmp, 1) := by decide +kernel
theorem dX5_secrecy_339 : decode cX5_secrecy 339 = .ok (.ifCond .ge 15, 3) := by decide +kernel
theorem dX5_secrecy_342 : decode cX5_secrecy 342 = .ok (.aload_n 0, 1) := by decide +kernel
theorem dX5_secrecy_343 : decode cX5_secrecy 343 = .ok (.getfield 168, 3) := by decide +kernel
theorem dX5_secrecy_346 : decode cX5_secrecy 346 = .ok (.iload_n 1, 1) := by decide +kernel
theorem dX5_secrecy_347 : decode cX5_secrecy 347 = .ok (.iconst 1, 1) := by decide +kernel
theorem dX5_secrecy_348 : decode cX5_secrecy 348 = .ok (.iload 5, 2) := by decide +kernel
theorem dX5_secrecy_350 : decode cX5_secrecy 350 = .ok (.ishl, 1) := by decide +kernel
theorem dX5_secrecy_351 : decode cX5_secrecy 351 = .ok (.iconst 1, 1) := by decide +kernel
theorem dX5_secrecy_352 : decode cX5_secrecy 352 = .ok (.isub, 1) := by decide +kernel
theorem dX5_secrecy_353 : decode cX5_secrecy 353 = .ok (.iastore, 1) := by decide +kernel
theorem dX5_secrecy_354 : decode cX5_secrecy 354 = .ok (.lload 6, 2) := by decide +kernel
theorem dX5_secrecy_356 : decode cX5_secrecy 356 = .ok (.l2i, 1) := by decide +kernel
theorem dX5_secrecy_357 : decode cX5_secrecy 357 = .ok (.ireturn, 1) := by decide +kernel
theorem dX5_isGood_0 : decode cX5_isGood 0 = .ok (.iconst 0, 1) := by decide +kernel
theorem dX5_isGood_1 : decode cX5_isGood 1 = .ok (.istore 4, 2) := by decide +kernel
theorem dX5_isGood_3 : decode cX5_isGood 3 = .ok (.iload 4, 2) := by decide +kernel
theorem dX5_isGood_5 : decode cX5_isGood 5 = .ok (.aload_n 0, 1) := by decide +kernel
theorem dX5_isGood_6 : decode cX5_isGood 6 = .ok (.getfield 147, 3) := by decide +kernel
theorem dX5_isGood_9 : decode cX5_isGood 9 = .ok (.iload_n 1, 1) := by decide +kernel
theorem dX5_isGood_10 : decode cX5_isGood 10 = .ok (.iaload, 1) := by decide +kernel
theorem dX5_isGood_11 : decode cX5_isGood 11 = .ok (.aload_n 0, 1) := by decide +kernel
theorem dX5_isGood_12 : decode cX5_isGood 12 = .ok (.getfield 150, 3) := by decide +kernel
theorem dX5_isGood_15 : decode cX5_isGood 15 = .ok (.iload_n 1, 1) := by decide +kernel
theorem dX5_isGood_16 : decode cX5_isGood 16 = .ok (.iaload, 1) := by decide +kernel
theorem dX5_isGood_17 : decode cX5_isGood 17 = .ok (.imul, 1) := by decide +kernel
theorem dX5_isGood_18 : decode cX5_isGood 18 = .ok (.if_icmp .ge 81, 3) := by decide +kernel
theorem dX5_isGood_21 : decode cX5_isGood 21 = .ok (.aload_n 0, 1) := by decide +kernel
theorem dX5_isGood_22 : decode cX5_isGood 22 = .ok (.getfield 171, 3) := by decide +kernel
theorem dX5_isGood_25 : decode cX5_isGood 25 = .ok (.iload_n 1, 1) := by decide +kernel
theorem dX5_isGood_26 : decode cX5_isGood 26 = .ok (.iaload, 1) := by decide +kernel
theorem dX5_isGood_27 : decode cX5_isGood 27 = .ok (.iload 4, 2) := by decide +kernel
theorem dX5_isGood_29 : decode cX5_isGood 29 = .ok (.ishr, 1) := by decide +kernel
theorem dX5_isGood_30 : decode cX5_isGood 30 = .ok (.iconst 1, 1) := by decide +kernel
theorem dX5_isGood_31 : decode cX5_isGood 31 = .ok (.iand, 1) := by decide +kernel
theorem dX5_isGood_32 : decode cX5_isGood 32 = .ok (.iconst 1, 1) := by decide +kernel
theorem dX5_isGood_33 : decode cX5_isGood 33 = .ok (.if_icmp .ne 60, 3) := by decide +kernel
theorem dX5_isGood_36 : decode cX5_isGood 36 = .ok (.aload_n 0, 1) := by decide +kernel
theorem dX5_isGood_37 : decode cX5_isGood 37 = .ok (.getfield 153, 3) := by decide +kernel
theorem dX5_isGood_40 : decode cX5_isGood 40 = .ok (.bipush 12, 2) := by decide +kernel
theorem dX5_isGood_42 : decode cX5_isGood 42 = .ok (.iload_n 1, 1) := by decide +kernel
theorem dX5_isGood_43 : decode cX5_isGood 43 = .ok (.imul, 1) := by decide +kernel
theorem dX5_isGood_44 : decode cX5_isGood 44 = .ok (.iload 4, 2) := by decide +kernel
theorem dX5_isGood_46 : decode cX5_isGood 46 = .ok (.iadd, 1) := by decide +kernel
theorem dX5_isGood_47 : decode cX5_isGood 47 = .ok (.iaload, 1) := by decide +kernel
theorem dX5_isGood_48 : decode cX5_isGood 48 = .ok (.istore 5, 2) := by decide +kernel
theorem dX5_isGood_50 : decode cX5_isGood 50 = .ok (.iload 5, 2) := by decide +kernel
theorem dX5_isGood_52 : decode cX5_isGood 52 = .ok (.iload_n 3, 1) := by decide +kernel
theorem dX5_isGood_53 : decode cX5_isGood 53 = .ok (.if_icmp .ge 8, 3) := by decide +kernel
theorem dX5_isGood_56 : decode cX5_isGood 56 = .ok (.iload 5, 2) := by decide +kernel
theorem dX5_isGood_58 : decode cX5_isGood 58 = .ok (.goto 4, 3) := by decide +kernel
theorem dX5_isGood_61 : decode cX5_isGood 61 = .ok (.iload_n 3, 1) := by decide +kernel
theorem dX5_isGood_62 : decode cX5_isGood 62 = .ok (.istore 6, 2) := by decide +kernel
theorem dX5_isGood_64 : decode cX5_isGood 64 = .ok (.aload_n 0, 1) := by decide +kernel
theorem dX5_isGood_65 : decode cX5_isGood 65 = .ok (.iload_n 1, 1) := by decide +kernel
theorem dX5_isGood_66 : decode cX5_isGood 66 = .ok (.iload_n 2, 1) := by decide +kernel
theorem dX5_isGood_67 : decode cX5_isGood 67 = .ok (.iload 4, 2) := by decide +kernel
theorem dX5_isGood_69 : decode cX5_isGood 69 = .ok (.iconst 1, 1) := by decide +kernel
theorem dX5_isGood_70 : decode cX5_isGood 70 = .ok (.invokevirtual 481, 3) := by decide +kernel
theorem dX5_isGood_73 : decode cX5_isGood 73 = .ok (.iload_n 3, 1) := by decide +kernel
theorem dX5_isGood_74 : decode cX5_isGood 74 = .ok (.if_icmp .lt 17, 3) := by decide +kernel
theorem dX5_isGood_77 : decode cX5_isGood 77 = .ok (.aload_n 0, 1) := by decide +kernel
theorem dX5_isGood_78 : decode cX5_isGood 78 = .ok (.iload_n 1, 1) := by decide +kernel
theorem dX5_isGood_79 : decode cX5_isGood 79 = .ok (.iload_n 2, 1) := by decide +kernel
theorem dX5_isGood_80 : decode cX5_isGood 80 = .ok (.iload 4, 2) := by decide +kernel
theorem dX5_isGood_82 : decode cX5_isGood 82 = .ok (.iconst 0, 1) := by decide +kernel
theorem dX5_isGood_83 : decode cX5_isGood 83 = .ok (.invokevirtual 481, 3) := by decide +kernel
theorem dX5_isGood_86 : decode cX5_isGood 86 = .ok (.iload 6, 2) := by decide +kernel
theorem dX5_isGood_88 : decode cX5_isGood 88 = .ok (.if_icmp .ge 5, 3) := by decide +kernel
theorem dX5_isGood_91 : decode cX5_isGood 91 = .ok (.iconst 0, 1) := by decide +kernel
theorem dX5_isGood_92 : decode cX5_isGood 92 = .ok (.ireturn, 1) := by decide +kernel
theorem dX5_isGood_93 : decode cX5_isGood 93 = .ok (.iinc 4 1, 3) := by decide +kernel
theorem dX5_isGood_96 : decode cX5_isGood 96 = .ok (.goto (-93), 3) := by decide +kernel
theorem dX5_isGood_99 : decode cX5_isGood 99 = .ok (.iconst 1, 1) := by decide +kernel
theorem dX5_isGood_100 : decode cX5_isGood 100 = .ok (.ireturn, 1) := by decide +kernel
theorem dX5_most_0 : decode cX5_most 0 = .ok (.aload_n 0, 1) := by decide +kernel
theorem dX5_most_1 : decode cX5_most 1 = .ok (.getfield 150, 3) := by decide +kernel
theorem dX5_most_4 : decode cX5_most 4 = .ok (.iload_n 1, 1) := by decide +kernel
theorem dX5_most_5 : decode cX5_most 5 = .ok (.iaload, 1) := by decide +kernel
theorem dX5_most_6 : decode cX5_most 6 = .ok (.istore 5, 2) := by decide +kernel
theorem dX5_most_8 : decode cX5_most 8 = .ok (.iload_n 3, 1) := by decide +kernel
theorem dX5_most_9 : decode cX5_most 9 = .ok (.iload 5, 2) := by decide +kernel
theorem dX5_most_11 : decode cX5_most 11 = .ok (.idiv, 1) := by decide +kernel
theorem dX5_most_12 : decode cX5_most 12 = .ok (.istore 6, 2) := by decide +kernel
theorem dX5_most_14 : decode cX5_most 14 = .ok (.iload_n 3, 1) := by decide +kernel
theorem dX5_most_15 : decode cX5_most 15 = .ok (.iload 5, 2) := by decide +kernel
theorem dX5_most_17 : decode cX5_most 17 = .ok (.irem, 1) := by decide +kernel
theorem dX5_most_18 : decode cX5_most 18 = .ok (.istore 7, 2) := by decide +kernel
theorem dX5_most_20 : decode cX5_most 20 = .ok (.aload_n 0, 1) := by decide +kernel
theorem dX5_most_21 : decode cX5_most 21 = .ok (.getfield 147, 3) := by decide +kernel
theorem dX5_most_24 : decode cX5_most 24 = .ok (.iload_n 1, 1) := by decide +kernel
theorem dX5_most_25 : decode cX5_most 25 = .ok (.iaload, 1) := by decide +kernel
theorem dX5_most_26 : decode cX5_most 26 = .ok (.iload 5, 2) := by decide +kernel
theorem dX5_most_28 : decode cX5_most 28 = .ok (.iadd, 1) := by decide +kernel
theorem dX5_most_29 : decode cX5_most 29 = .ok (.istore 8, 2) := by decide +kernel
theorem dX5_most_31 : decode cX5_most 31 = .ok (.ldc2_w 479, 3) := by decide +kernel
theorem dX5_most_34 : decode cX5_most 34 = .ok (.lstore 9, 2) := by decide +kernel
theorem dX5_most_36 : decode cX5_most 36 = .ok (.iconst 0, 1) := by decide +kernel
theorem dX5_most_37 : decode cX5_most 37 = .ok (.istore 11, 2) := by decide +kernel
theorem dX5_most_39 : decode cX5_most 39 = .ok (.iload 11, 2) := by decide +kernel
theorem dX5_most_41 : decode cX5_most 41 = .ok (.iconst 1, 1) := by decide +kernel
theorem dX5_most_42 : decode cX5_most 42 = .ok (.iload 8, 2) := by decide +kernel
theorem dX5_most_44 : decode cX5_most 44 = .ok (.ishl, 1) := by decide +kernel
theorem dX5_most_45 : decode cX5_most 45 = .ok (.if_icmp .ge 257, 3) := by decide +kernel
theorem dX5_most_48 : decode cX5_most 48 = .ok (.iload 11, 2) := by decide +kernel
theorem dX5_most_50 : decode cX5_most 50 = .ok (.iload 6, 2) := by decide +kernel
theorem dX5_most_52 : decode cX5_most 52 = .ok (.ishr, 1) := by decide +kernel
theorem dX5_most_53 : decode cX5_most 53 = .ok (.iconst 1, 1) := by decide +kernel
theorem dX5_most_54 : decode cX5_most 54 = .ok (.iand, 1) := by decide +kernel
theorem dX5_most_55 : decode cX5_most 55 = .ok (.iconst 1, 1) := by decide +kernel
theorem dX5_most_56 : decode cX5_most 56 = .ok (.if_icmp .ne 7, 3) := by decide +kernel
theorem dX5_most_59 : decode cX5_most 59 = .ok (.iconst 1, 1) := by decide +kernel
theorem dX5_most_60 : decode cX5_most 60 = .ok (.goto 4, 3) := by decide +kernel
theorem dX5_most_63 : decode cX5_most 63 = .ok (.iconst 0, 1) := by decide +kernel
theorem dX5_most_64 : decode cX5_most 64 = .ok (.istore 12, 2) := by decide +kernel
theorem dX5_most_66 : decode cX5_most 66 = .ok (.iload 11, 2) := by decide +kernel
theorem dX5_most_68 : decode cX5_most 68 = .ok (.aload_n 0, 1) := by decide +kernel
theorem dX5_most_69 : decode cX5_most 69 = .ok (.getfield 147, 3) := by decide +kernel
theorem dX5_most_72 : decode cX5_most 72 = .ok (.iload_n 1, 1) := by decide +kernel
theorem dX5_most_73 : decode cX5_most 73 = .ok (.iaload, 1) := by decide +kernel
theorem dX5_most_74 : decode cX5_most 74 = .ok (.iload 7, 2) := by decide +kernel
theorem dX5_most_76 : decode cX5_most 76 = .ok (.iadd, 1) := by decide +kernel
theorem dX5_most_77 : decode cX5_most 77 = .ok (.ishr, 1) := by decide +kernel
theorem dX5_most_78 : decode cX5_most 78 = .ok (.iconst 1, 1) := by decide +kernel
theorem dX5_most_79 : decode cX5_most 79 = .ok (.iand, 1) := by decide +kernel
theorem dX5_most_80 : decode cX5_most 80 = .ok (.iconst 1, 1) := by decide +kernel
theorem dX5_most_81 : decode cX5_most 81 = .ok (.if_icmp .ne 7, 3) := by decide +kernel
theorem dX5_most_84 : decode cX5_most 84 = .ok (.iconst 1, 1) := by decide +kernel
theorem dX5_most_85 : decode cX5_most 85 = .ok (.goto 4, 3) := by decide +kernel
theorem dX5_most_88 : decode cX5_most 88 = .ok (.iconst 0, 1) := by decide +kernel
theorem dX5_most_89 : decode cX5_most 89 = .ok (.istore 13, 2) := by decide +kernel
theorem dX5_most_91 : decode cX5_most 91 = .ok (.iload 4, 2) := by decide +kernel
theorem dX5_most_93 : decode cX5_most 93 = .ok (.ifCond .eq 16, 3) := by decide +kernel
theorem dX5_most_96 : decode cX5_most 96 = .ok (.iload 12, 2) := by decide +kernel
theorem dX5_most_98 : decode cX5_most 98 = .ok (.ifCond .ne 198, 3) := by decide +kernel
theorem dX5_most_101 : decode cX5_most 101 = .ok (.iload 13, 2) := by decide +kernel
theorem dX5_most_103 : decode cX5_most 103 = .ok (.ifCond .ne 19, 3) := by decide +kernel
theorem dX5_most_106 : decode cX5_most 106 = .ok (.goto 190, 3) := by decide +kernel
theorem dX5_most_109 : decode cX5_most 109 = .ok (.iload 13, 2) := by decide +kernel
theorem dX5_most_111 : decode cX5_most 111 = .ok (.ifCond .ne 185, 3) := by decide +kernel
theorem dX5_most_114 : decode cX5_most 114 = .ok (.iload 12, 2) := by decide +kernel
theorem dX5_most_116 : decode cX5_most 116 = .ok (.ifCond .ne 6, 3) := by decide +kernel
theorem dX5_most_119 : decode cX5_most 119 = .ok (.goto 177, 3) := by decide +kernel
theorem dX5_most_122 : decode cX5_most 122 = .ok (.lconst 0, 1) := by decide +kernel
theorem dX5_most_123 : decode cX5_most 123 = .ok (.lstore 14, 2) := by decide +kernel
theorem dX5_most_125 : decode cX5_most 125 = .ok (.iconst 1, 1) := by decide +kernel
theorem dX5_most_126 : decode cX5_most 126 = .ok (.istore 16, 2) := by decide +kernel
theorem dX5_most_128 : decode cX5_most 128 = .ok (.iconst 0, 1) := by decide +kernel
theorem dX5_most_129 : decode cX5_most 129 = .ok (.istore 17, 2) := by decide +kernel
theorem dX5_most_131 : decode cX5_most 131 = .ok (.iload 17, 2) := by decide +kernel
theorem dX5_most_133 : decode cX5_most 133 = .ok (.aload_n 0, 1) := by decide +kernel
theorem dX5_most_134 : decode cX5_most 134 = .ok (.getfield 147, 3) := by decide +kernel
theorem dX5_most_137 : decode cX5_most 137 = .ok (.iload_n 1, 1) := by decide +kernel
theorem dX5_most_138 : decode cX5_most 138 = .ok (.iaload, 1) := by decide +kernel
theorem dX5_most_139 : decode cX5_most 139 = .ok (.iload 5, 2) := by decide +kernel
theorem dX5_most_141 : decode cX5_most 141 = .ok (.imul, 1) := by decide +kernel
theorem dX5_most_142 : decode cX5_most 142 = .ok (.if_icmp .ge 130, 3) := by decide +kernel
theorem dX5_most_145 : decode cX5_most 145 = .ok (.iload 17, 2) := by decide +kernel
theorem dX5_most_147 : decode cX5_most 147 = .ok (.iload_n 3, 1) := by decide +kernel
theorem dX5_most_148 : decode cX5_most 148 = .ok (.if_icmp .eq 118, 3) := by decide +kernel
theorem dX5_most_151 : decode cX5_most 151 = .ok (.iload_n 2, 1) := by decide +kernel
theorem dX5_most_152 : decode cX5_most 152 = .ok (.iload 17, 2) := by decide +kernel
theorem dX5_most_154 : decode cX5_most 154 = .ok (.ishr, 1) := by decide +kernel
theorem dX5_most_155 : decode cX5_most 155 = .ok (.iconst 1, 1) := by decide +kernel
theorem dX5_most_156 : decode cX5_most 156 = .ok (.iand, 1) := by decide +kernel
theorem dX5_most_157 : decode cX5_most 157 = .ok (.ifCond .ne 6, 3) := by decide +kernel
theorem dX5_most_160 : decode cX5_most 160 = .ok (.goto 106, 3) := by decide +kernel
theorem dX5_most_163 : decode cX5_most 163 = .ok (.iload 11, 2) := by decide +kernel
theorem dX5_most_165 : decode cX5_most 165 = .ok (.iload 17, 2) := by decide +kernel
theorem dX5_most_167 : decode cX5_most 167 = .ok (.iload 5, 2) := by decide +kernel
theorem dX5_most_169 : decode cX5_most 169 = .ok (.idiv, 1) := by decide +kernel
theorem dX5_most_170 : decode cX5_most 170 = .ok (.ishr, 1) := by decide +kernel
theorem dX5_most_171 : decode cX5_most 171 = .ok (.iconst 1, 1) := by decide +kernel
theorem dX5_most_172 : decode cX5_most 172 = .ok (.iand, 1) := by decide +kernel
theorem dX5_most_173 : decode cX5_most 173 = .ok (.iconst 1, 1) := by decide +kernel
theorem dX5_most_174 : decode cX5_most 174 = .ok (.if_icmp .ne 7, 3) := by decide +kernel
theorem dX5_most_177 : decode cX5_most 177 = .ok (.iconst 1, 1) := by decide +kernel
theorem dX5_most_178 : decode cX5_most 178 = .ok (.goto 4, 3) := by decide +kernel
theorem dX5_most_181 : decode cX5_most 181 = .ok (.iconst 0, 1) := by decide +kernel
theorem dX5_most_182 : decode cX5_most 182 = .ok (.istore 18, 2) := by decide +kernel
theorem dX5_most_184 : decode cX5_most 184 = .ok (.iload 11, 2) := by decide +kernel
theorem dX5_most_186 : decode cX5_most 186 = .ok (.aload_n 0, 1) := by decide +kernel
theorem dX5_most_187 : decode cX5_most 187 = .ok (.getfield 147, 3) := by decide +kernel
theorem dX5_most_190 : decode cX5_most 190 = .ok (.iload_n 1, 1) := by decide +kernel
theorem dX5_most_191 : decode cX5_most 191 = .ok (.iaload, 1) := by decide +kernel
theorem dX5_most_192 : decode cX5_most 192 = .ok (.iload 17, 2) := by decide +kernel
theorem dX5_most_194 : decode cX5_most 194 = .ok (.iload 5, 2) := by decide +kernel
theorem dX5_most_196 : decode cX5_most 196 = .ok (.irem, 1) := by decide +kernel
theorem dX5_most_197 : decode cX5_most 197 = .ok (.iadd, 1) := by decide +kernel
theorem dX5_most_198 : decode cX5_most 198 = .ok (.ishr, 1) := by decide +kernel
theorem dX5_most_199 : decode cX5_most 199 = .ok (.iconst 1, 1) := by decide +kernel
theorem dX5_most_200 : decode cX5_most 200 = .ok (.iand, 1) := by decide +kernel
theorem dX5_most_201 : decode cX5_most 201 = .ok (.iconst 1, 1) := by decide +kernel
theorem dX5_most_202 : decode cX5_most 202 = .ok (.if_icmp .ne 7, 3) := by decide +kernel
theorem dX5_most_205 : decode cX5_most 205 = .ok (.iconst 1, 1) := by decide +kernel
theorem dX5_most_206 : decode cX5_most 206 = .ok (.goto 4, 3) := by decide +kernel
theorem dX5_most_209 : decode cX5_most 209 = .ok (.iconst 0, 1) := by decide +kernel
theorem dX5_most_210 : decode cX5_most 210 = .ok (.istore 19, 2) := by decide +kernel
theorem dX5_most_212 : decode cX5_most 212 = .ok (.iload 16, 2) := by decide +kernel
theorem dX5_most_214 : decode cX5_most 214 = .ok (.ifCond .eq 17, 3) := by decide +kernel
theorem dX5_most_217 : decode cX5_most 217 = .ok (.iload 18, 2) := by decide +kernel
theorem dX5_most_219 : decode cX5_most 219 = .ok (.ifCond .eq 8, 3) := by decide +kernel
theorem dX5_most_222 : decode cX5_most 222 = .ok (.iload 19, 2) := by decide +kernel
theorem dX5_most_224 : decode cX5_most 224 = .ok (.ifCond .eq 7, 3) := by decide +kernel
theorem dX5_most_227 : decode cX5_most 227 = .ok (.iconst 1, 1) := by decide +kernel
theorem dX5_most_228 : decode cX5_most 228 = .ok (.goto 4, 3) := by decide +kernel
theorem dX5_most_231 : decode cX5_most 231 = .ok (.iconst 0, 1) := by decide +kernel
theorem dX5_most_232 : decode cX5_most 232 = .ok (.istore 16, 2) := by decide +kernel
theorem dX5_most_234 : decode cX5_most 234 = .ok (.lload 14, 2) := by decide +kernel
theorem dX5_most_236 : decode cX5_most 236 = .ok (.iload 19, 2) := by decide +kernel
theorem dX5_most_238 : decode cX5_most 238 = .ok (.ifCond .eq 24, 3) := by decide +kernel
theorem dX5_most_241 : decode cX5_most 241 = .ok (.iload 18, 2) := by decide +kernel
theorem dX5_most_243 : decode cX5_most 243 = .ok (.ifCond .ne 19, 3) := by decide +kernel
theorem dX5_most_246 : decode cX5_most 246 = .ok (.aload_n 0, 1) := by decide +kernel
theorem dX5_most_247 : decode cX5_most 247 = .ok (.getfield 153, 3) := by decide +kernel
theorem dX5_most_250 : decode cX5_most 250 = .ok (.bipush 12, 2) := by decide +kernel
theorem dX5_most_252 : decode cX5_most 252 = .ok (.iload_n 1, 1) := by decide +kernel
theorem dX5_most_253 : decode cX5_most 253 = .ok (.imul, 1) := by decide +kernel
theorem dX5_most_254 : decode cX5_most 254 = .ok (.iload 17, 2) := by decide +kernel
theorem dX5_most_256 : decode cX5_most 256 = .ok (.iadd, 1) := by decide +kernel
theorem dX5_most_257 : decode cX5_most 257 = .ok (.iaload, 1) := by decide +kernel
theorem dX5_most_258 : decode cX5_most 258 = .ok (.i2l, 1) := by decide +kernel
theorem dX5_most_259 : decode cX5_most 259 = .ok (.goto 4, 3) := by decide +kernel
theorem dX5_most_262 : decode cX5_most 262 = .ok (.lconst 0, 1) := by decide +kernel
theorem dX5_most_263 : decode cX5_most 263 = .ok (.ladd, 1) := by decide +kernel
theorem dX5_most_264 : decode cX5_most 264 = .ok (.lstore 14, 2) := by decide +kernel
theorem dX5_most_266 : decode cX5_most 266 = .ok (.iinc 17 1, 3) := by decide +kernel
theorem dX5_most_269 : decode cX5_most 269 = .ok (.goto (-138), 3) := by decide +kernel
theorem dX5_most_272 : decode cX5_most 272 = .ok (.iload 16, 2) := by decide +kernel
theorem dX5_most_274 : decode cX5_most 274 = .ok (.ifCond .eq 22, 3) := by decide +kernel
theorem dX5_most_277 : decode cX5_most 277 = .ok (.lload 9, 2) := by decide +kernel
theorem dX5_most_279 : decode cX5_most 279 = .ok (.lconst 0, 1) := by decide +kernel
theorem dX5_most_280 : decode cX5_most 280 = .ok (.lcmp, 1) := by decide +kernel
theorem dX5_most_281 : decode cX5_most 281 = .ok (.ifCond .lt 11, 3) := by decide +kernel
theorem dX5_most_284 : decode cX5_most 284 = .ok (.lload 14, 2) := by decide +kernel
theorem dX5_most_286 : decode cX5_most 286 = .ok (.lload 9, 2) := by decide +kernel
theorem dX5_most_288 : decode cX5_most 288 = .ok (.lcmp, 1) := by decide +kernel
theorem dX5_most_289 : decode cX5_most 289 = .ok (.ifCond .ge 7, 3) := by decide +kernel
theorem dX5_most_292 : decode cX5_most 292 = .ok (.lload 14, 2) := by decide +kernel
theorem dX5_most_294 : decode cX5_most 294 = .ok (.lstore 9, 2) := by decide +kernel
theorem dX5_most_296 : decode cX5_most 296 = .ok (.iinc 11 1, 3) := by decide +kernel
theorem dX5_most_299 : decode cX5_most 299 = .ok (.goto (-260), 3) := by decide +kernel
theorem dX5_most_302 : decode cX5_most 302 = .ok (.aload_n 0, 1) := by decide +kernel
theorem dX5_most_303 : decode cX5_most 303 = .ok (.getfield 153, 3) := by decide +kernel
theorem dX5_most_306 : decode cX5_most 306 = .ok (.bipush 12, 2) := by decide +kernel
theorem dX5_most_308 : decode cX5_most 308 = .ok (.iload_n 1, 1) := by decide +kernel
theorem dX5_most_309 : decode cX5_most 309 = .ok (.imul, 1) := by decide +kernel
theorem dX5_most_310 : decode cX5_most 310 = .ok (.iload_n 3, 1) := by decide +kernel
theorem dX5_most_311 : decode cX5_most 311 = .ok (.iadd, 1) := by decide +kernel
theorem dX5_most_312 : decode cX5_most 312 = .ok (.iaload, 1) := by decide +kernel
theorem dX5_most_313 : decode cX5_most 313 = .ok (.istore 11, 2) := by decide +kernel
theorem dX5_most_315 : decode cX5_most 315 = .ok (.iload 4, 2) := by decide +kernel
theorem dX5_most_317 : decode cX5_most 317 = .ok (.ifCond .ne 12, 3) := by decide +kernel
theorem dX5_most_320 : decode cX5_most 320 = .ok (.lload 9, 2) := by decide +kernel
theorem dX5_most_322 : decode cX5_most 322 = .ok (.iload 11, 2) := by decide +kernel
theorem dX5_most_324 : decode cX5_most 324 = .ok (.i2l, 1) := by decide +kernel
theorem dX5_most_325 : decode cX5_most 325 = .ok (.lcmp, 1) := by decide +kernel
theorem dX5_most_326 : decode cX5_most 326 = .ok (.ifCond .ge 9, 3) := by decide +kernel
theorem dX5_most_329 : decode cX5_most 329 = .ok (.lload 9, 2) := by decide +kernel
theorem dX5_most_331 : decode cX5_most 331 = .ok (.l2i, 1) := by decide +kernel
theorem dX5_most_332 : decode cX5_most 332 = .ok (.goto 5, 3) := by decide +kernel
theorem dX5_most_335 : decode cX5_most 335 = .ok (.iload 11, 2) := by decide +kernel
theorem dX5_most_337 : decode cX5_most 337 = .ok (.ireturn, 1) := by decide +kernel
theorem dX5_secret_0 : decode cX5_secret 0 = .ok (.aload_n 0, 1) := by decide +kernel
theorem dX5_secret_1 : decode cX5_secret 1 = .ok (.iconst 0, 1) := by decide +kernel
theorem dX5_secret_2 : decode cX5_secret 2 = .ok (.putfield 198, 3) := by decide +kernel
theorem dX5_secret_5 : decode cX5_secret 5 = .ok (.aload_n 0, 1) := by decide +kernel
theorem dX5_secret_6 : decode cX5_secret 6 = .ok (.iload_n 1, 1) := by decide +kernel
theorem dX5_secret_7 : decode cX5_secret 7 = .ok (.iload_n 2, 1) := by decide +kernel
theorem dX5_secret_8 : decode cX5_secret 8 = .ok (.iload_n 3, 1) := by decide +kernel
theorem dX5_secret_9 : decode cX5_secret 9 = .ok (.invokevirtual 487, 3) := by decide +kernel
theorem dX5_secret_12 : decode cX5_secret 12 = .ok (.ifCond .ne 9, 3) := by decide +kernel
theorem dX5_secret_15 : decode cX5_secret 15 = .ok (.aload_n 0, 1) := by decide +kernel
theorem dX5_secret_16 : decode cX5_secret 16 = .ok (.iconst 1, 1) := by decide +kernel
theorem dX5_secret_17 : decode cX5_secret 17 = .ok (.invokevirtual 213, 3) := by decide +kernel
theorem dX5_secret_20 : decode cX5_secret 20 = .ok (.ireturn, 1) := by decide +kernel
theorem dX5_secret_21 : decode cX5_secret 21 = .ok (.iload_n 2, 1) := by decide +kernel
theorem dX5_secret_22 : decode cX5_secret 22 = .ok (.aload_n 0, 1) := by decide +kernel
theorem dX5_secret_23 : decode cX5_secret 23 = .ok (.getfield 150, 3) := by decide +kernel
theorem dX5_secret_26 : decode cX5_secret 26 = .ok (.iload_n 1, 1) := by decide +kernel
theorem dX5_secret_27 : decode cX5_secret 27 = .ok (.iaload, 1) := by decide +kernel
theorem dX5_secret_28 : decode cX5_secret 28 = .ok (.imul, 1) := by decide +kernel
theorem dX5_secret_29 : decode cX5_secret 29 = .ok (.iload_n 3, 1) := by decide +kernel
theorem dX5_secret_30 : decode cX5_secret 30 = .ok (.iadd, 1) := by decide +kernel
theorem dX5_secret_31 : decode cX5_secret 31 = .ok (.istore 4, 2) := by decide +kernel
theorem dX5_secret_33 : decode cX5_secret 33 = .ok (.aload_n 0, 1) := by decide +kernel
theorem dX5_secret_34 : decode cX5_secret 34 = .ok (.getfield 168, 3) := by decide +kernel
theorem dX5_secret_37 : decode cX5_secret 37 = .ok (.iload_n 1, 1) := by decide +kernel
theorem dX5_secret_38 : decode cX5_secret 38 = .ok (.iaload, 1) := by decide +kernel
theorem dX5_secret_39 : decode cX5_secret 39 = .ok (.iload 4, 2) := by decide +kernel
theorem dX5_secret_41 : decode cX5_secret 41 = .ok (.ishr, 1) := by decide +kernel
theorem dX5_secret_42 : decode cX5_secret 42 = .ok (.iconst 1, 1) := by decide +kernel
theorem dX5_secret_43 : decode cX5_secret 43 = .ok (.iand, 1) := by decide +kernel
theorem dX5_secret_44 : decode cX5_secret 44 = .ok (.ifCond .ne 7, 3) := by decide +kernel
theorem dX5_secret_47 : decode cX5_secret 47 = .ok (.iconst 0, 1) := by decide +kernel
theorem dX5_secret_48 : decode cX5_secret 48 = .ok (.goto 23, 3) := by decide +kernel
theorem dX5_secret_51 : decode cX5_secret 51 = .ok (.aload_n 0, 1) := by decide +kernel
theorem dX5_secret_52 : decode cX5_secret 52 = .ok (.getfield 171, 3) := by decide +kernel
theorem dX5_secret_55 : decode cX5_secret 55 = .ok (.iload_n 1, 1) := by decide +kernel
theorem dX5_secret_56 : decode cX5_secret 56 = .ok (.iaload, 1) := by decide +kernel
theorem dX5_secret_57 : decode cX5_secret 57 = .ok (.iload 4, 2) := by decide +kernel
theorem dX5_secret_59 : decode cX5_secret 59 = .ok (.ishr, 1) := by decide +kernel
theorem dX5_secret_60 : decode cX5_secret 60 = .ok (.iconst 1, 1) := by decide +kernel
theorem dX5_secret_61 : decode cX5_secret 61 = .ok (.iand, 1) := by decide +kernel
theorem dX5_secret_62 : decode cX5_secret 62 = .ok (.iconst 1, 1) := by decide +kernel
theorem dX5_secret_63 : decode cX5_secret 63 = .ok (.if_icmp .ne 7, 3) := by decide +kernel
theorem dX5_secret_66 : decode cX5_secret 66 = .ok (.iconst 1, 1) := by decide +kernel
theorem dX5_secret_67 : decode cX5_secret 67 = .ok (.goto 4, 3) := by decide +kernel
theorem dX5_secret_70 : decode cX5_secret 70 = .ok (.iconst 2, 1) := by decide +kernel
theorem dX5_secret_71 : decode cX5_secret 71 = .ok (.ireturn, 1) := by decide +kernel
theorem dX5_isCell_0 : decode cX5_isCell 0 = .ok (.aload_n 0, 1) := by decide +kernel
theorem dX5_isCell_1 : decode cX5_isCell 1 = .ok (.iload_n 1, 1) := by decide +kernel
theorem dX5_isCell_2 : decode cX5_isCell 2 = .ok (.invokevirtual 473, 3) := by decide +kernel
theorem dX5_isCell_5 : decode cX5_isCell 5 = .ok (.ifCond .eq 43, 3) := by decide +kernel
theorem dX5_isCell_8 : decode cX5_isCell 8 = .ok (.iload_n 2, 1) := by decide +kernel
theorem dX5_isCell_9 : decode cX5_isCell 9 = .ok (.i2l, 1) := by decide +kernel
theorem dX5_isCell_10 : decode cX5_isCell 10 = .ok (.lconst 0, 1) := by decide +kernel
theorem dX5_isCell_11 : decode cX5_isCell 11 = .ok (.aload_n 0, 1) := by decide +kernel
theorem dX5_isCell_12 : decode cX5_isCell 12 = .ok (.getfield 147, 3) := by decide +kernel
theorem dX5_isCell_15 : decode cX5_isCell 15 = .ok (.iload_n 1, 1) := by decide +kernel
theorem dX5_isCell_16 : decode cX5_isCell 16 = .ok (.iaload, 1) := by decide +kernel
theorem dX5_isCell_17 : decode cX5_isCell 17 = .ok (.iconst 1, 1) := by decide +kernel
theorem dX5_isCell_18 : decode cX5_isCell 18 = .ok (.isub, 1) := by decide +kernel
theorem dX5_isCell_19 : decode cX5_isCell 19 = .ok (.i2l, 1) := by decide +kernel
theorem dX5_isCell_20 : decode cX5_isCell 20 = .ok (.invokestatic 207, 3) := by decide +kernel
theorem dX5_isCell_23 : decode cX5_isCell 23 = .ok (.ifCond .eq 25, 3) := by decide +kernel
theorem dX5_isCell_26 : decode cX5_isCell 26 = .ok (.iload_n 3, 1) := by decide +kernel
theorem dX5_isCell_27 : decode cX5_isCell 27 = .ok (.i2l, 1) := by decide +kernel
theorem dX5_isCell_28 : decode cX5_isCell 28 = .ok (.lconst 0, 1) := by decide +kernel
theorem dX5_isCell_29 : decode cX5_isCell 29 = .ok (.aload_n 0, 1) := by decide +kernel
theorem dX5_isCell_30 : decode cX5_isCell 30 = .ok (.getfield 150, 3) := by decide +kernel
theorem dX5_isCell_33 : decode cX5_isCell 33 = .ok (.iload_n 1, 1) := by decide +kernel
theorem dX5_isCell_34 : decode cX5_isCell 34 = .ok (.iaload, 1) := by decide +kernel
theorem dX5_isCell_35 : decode cX5_isCell 35 = .ok (.iconst 1, 1) := by decide +kernel
theorem dX5_isCell_36 : decode cX5_isCell 36 = .ok (.isub, 1) := by decide +kernel
theorem dX5_isCell_37 : decode cX5_isCell 37 = .ok (.i2l, 1) := by decide +kernel
theorem dX5_isCell_38 : decode cX5_isCell 38 = .ok (.invokestatic 207, 3) := by decide +kernel
theorem dX5_isCell_41 : decode cX5_isCell 41 = .ok (.ifCond .eq 7, 3) := by decide +kernel
theorem dX5_isCell_44 : decode cX5_isCell 44 = .ok (.iconst 1, 1) := by decide +kernel
theorem dX5_isCell_45 : decode cX5_isCell 45 = .ok (.goto 4, 3) := by decide +kernel
theorem dX5_isCell_48 : decode cX5_isCell 48 = .ok (.iconst 0, 1) := by decide +kernel
theorem dX5_isCell_49 : decode cX5_isCell 49 = .ok (.ireturn, 1) := by decide +kernel
theorem dX5_interval_0 : decode cX5_interval 0 = .ok (.aload_n 0, 1) := by decide +kernel
theorem dX5_interval_1 : decode cX5_interval 1 = .ok (.iconst 0, 1) := by decide +kernel
theorem dX5_interval_2 : decode cX5_interval 2 = .ok (.putfield 198, 3) := by decide +kernel
theorem dX5_interval_5 : decode cX5_interval 5 = .ok (.aload_n 0, 1) := by decide +kernel
theorem dX5_interval_6 : decode cX5_interval 6 = .ok (.iload_n 1, 1) := by decide +kernel
theorem dX5_interval_7 : decode cX5_interval 7 = .ok (.iload_n 2, 1) := by decide +kernel
theorem dX5_interval_8 : decode cX5_interval 8 = .ok (.iload_n 3, 1) := by decide +kernel
theorem dX5_interval_9 : decode cX5_interval 9 = .ok (.invokevirtual 487, 3) := by decide +kernel
theorem dX5_interval_12 : decode cX5_interval 12 = .ok (.ifCond .ne 9, 3) := by decide +kernel
theorem dX5_interval_15 : decode cX5_interval 15 = .ok (.aload_n 0, 1) := by decide +kernel
theorem dX5_interval_16 : decode cX5_interval 16 = .ok (.iconst 1, 1) := by decide +kernel
theorem dX5_interval_17 : decode cX5_interval 17 = .ok (.invokevirtual 213, 3) := by decide +kernel
theorem dX5_interval_20 : decode cX5_interval 20 = .ok (.ireturn, 1) := by decide +kernel
theorem dX5_interval_21 : decode cX5_interval 21 = .ok (.iload_n 2, 1) := by decide +kernel
theorem dX5_interval_22 : decode cX5_interval 22 = .ok (.aload_n 0, 1) := by decide +kernel
theorem dX5_interval_23 : decode cX5_interval 23 = .ok (.getfield 150, 3) := by decide +kernel
theorem dX5_interval_26 : decode cX5_interval 26 = .ok (.iload_n 1, 1) := by decide +kernel
theorem dX5_interval_27 : decode cX5_interval 27 = .ok (.iaload, 1) := by decide +kernel
theorem dX5_interval_28 : decode cX5_interval 28 = .ok (.imul, 1) := by decide +kernel
theorem dX5_interval_29 : decode cX5_interval 29 = .ok (.iload_n 3, 1) := by decide +kernel
theorem dX5_interval_30 : decode cX5_interval 30 = .ok (.iadd, 1) := by decide +kernel
theorem dX5_interval_31 : decode cX5_interval 31 = .ok (.istore 5, 2) := by decide +kernel
theorem dX5_interval_33 : decode cX5_interval 33 = .ok (.aload_n 0, 1) := by decide +kernel
theorem dX5_interval_34 : decode cX5_interval 34 = .ok (.getfield 153, 3) := by decide +kernel
theorem dX5_interval_37 : decode cX5_interval 37 = .ok (.bipush 12, 2) := by decide +kernel
theorem dX5_interval_39 : decode cX5_interval 39 = .ok (.iload_n 1, 1) := by decide +kernel
theorem dX5_interval_40 : decode cX5_interval 40 = .ok (.imul, 1) := by decide +kernel
theorem dX5_interval_41 : decode cX5_interval 41 = .ok (.iload 5, 2) := by decide +kernel
theorem dX5_interval_43 : decode cX5_interval 43 = .ok (.iadd, 1) := by decide +kernel
theorem dX5_interval_44 : decode cX5_interval 44 = .ok (.iaload, 1) := by decide +kernel
theorem dX5_interval_45 : decode cX5_interval 45 = .ok (.istore 6, 2) := by decide +kernel
theorem dX5_interval_47 : decode cX5_interval 47 = .ok (.aload_n 0, 1) := by decide +kernel
theorem dX5_interval_48 : decode cX5_interval 48 = .ok (.getfield 168, 3) := by decide +kernel
theorem dX5_interval_51 : decode cX5_interval 51 = .ok (.iload_n 1, 1) := by decide +kernel
theorem dX5_interval_52 : decode cX5_interval 52 = .ok (.iaload, 1) := by decide +kernel
theorem dX5_interval_53 : decode cX5_interval 53 = .ok (.iload 5, 2) := by decide +kernel
theorem dX5_interval_55 : decode cX5_interval 55 = .ok (.ishr, 1) := by decide +kernel
theorem dX5_interval_56 : decode cX5_interval 56 = .ok (.iconst 1, 1) := by decide +kernel
theorem dX5_interval_57 : decode cX5_interval 57 = .ok (.iand, 1) := by decide +kernel
theorem dX5_interval_58 : decode cX5_interval 58 = .ok (.ifCond .ne 8, 3) := by decide +kernel
theorem dX5_interval_61 : decode cX5_interval 61 = .ok (.iload 6, 2) := by decide +kernel
theorem dX5_interval_63 : decode cX5_interval 63 = .ok (.goto 45, 3) := by decide +kernel
theorem dX5_interval_66 : decode cX5_interval 66 = .ok (.iload 4, 2) := by decide +kernel
theorem dX5_interval_68 : decode cX5_interval 68 = .ok (.ifCond .eq 23, 3) := by decide +kernel
theorem dX5_interval_71 : decode cX5_interval 71 = .ok (.iload 6, 2) := by decide +kernel
theorem dX5_interval_73 : decode cX5_interval 73 = .ok (.aload_n 0, 1) := by decide +kernel
theorem dX5_interval_74 : decode cX5_interval 74 = .ok (.iload_n 1, 1) := by decide +kernel
theorem dX5_interval_75 : decode cX5_interval 75 = .ok (.aload_n 0, 1) := by decide +kernel
theorem dX5_interval_76 : decode cX5_interval 76 = .ok (.getfield 168, 3) := by decide +kernel
theorem dX5_interval_79 : decode cX5_interval 79 = .ok (.iload_n 1, 1) := by decide +kernel
theorem dX5_interval_80 : decode cX5_interval 80 = .ok (.iaload, 1) := by decide +kernel
theorem dX5_interval_81 : decode cX5_interval 81 = .ok (.iload 5, 2) := by decide +kernel
theorem dX5_interval_83 : decode cX5_interval 83 = .ok (.iconst 1, 1) := by decide +kernel
theorem dX5_interval_84 : decode cX5_interval 84 = .ok (.invokevirtual 481, 3) := by decide +kernel
theorem dX5_interval_87 : decode cX5_interval 87 = .ok (.iadd, 1) := by decide +kernel
theorem dX5_interval_88 : decode cX5_interval 88 = .ok (.goto 20, 3) := by decide +kernel
theorem dX5_interval_91 : decode cX5_interval 91 = .ok (.iload 6, 2) := by decide +kernel
theorem dX5_interval_93 : decode cX5_interval 93 = .ok (.aload_n 0, 1) := by decide +kernel
theorem dX5_interval_94 : decode cX5_interval 94 = .ok (.iload_n 1, 1) := by decide +kernel
theorem dX5_interval_95 : decode cX5_interval 95 = .ok (.aload_n 0, 1) := by decide +kernel
theorem dX5_interval_96 : decode cX5_interval 96 = .ok (.getfield 168, 3) := by decide +kernel
theorem dX5_interval_99 : decode cX5_interval 99 = .ok (.iload_n 1, 1) := by decide +kernel
theorem dX5_interval_100 : decode cX5_interval 100 = .ok (.iaload, 1) := by decide +kernel
theorem dX5_interval_101 : decode cX5_interval 101 = .ok (.iload 5, 2) := by decide +kernel
theorem dX5_interval_103 : decode cX5_interval 103 = .ok (.iconst 0, 1) := by decide +kernel
theorem dX5_interval_104 : decode cX5_interval 104 = .ok (.invokevirtual 481, 3) := by decide +kernel
theorem dX5_interval_107 : decode cX5_interval 107 = .ok (.isub, 1) := by decide +kernel
theorem dX5_interval_108 : decode cX5_interval 108 = .ok (.ireturn, 1) := by decide +kernel
theorem dX5_round_0 : decode cX5_round 0 = .ok (.aload_n 0, 1) := by decide +kernel
theorem dX5_round_1 : decode cX5_round 1 = .ok (.iconst 0, 1) := by decide +kernel
theorem dX5_round_2 : decode cX5_round 2 = .ok (.putfield 198, 3) := by decide +kernel
theorem dX5_round_5 : decode cX5_round 5 = .ok (.aload_n 0, 1) := by decide +kernel
theorem dX5_round_6 : decode cX5_round 6 = .ok (.iload_n 1, 1) := by decide +kernel
theorem dX5_round_7 : decode cX5_round 7 = .ok (.invokevirtual 473, 3) := by decide +kernel
theorem dX5_round_10 : decode cX5_round 10 = .ok (.ifCond .ne 9, 3) := by decide +kernel
theorem dX5_round_13 : decode cX5_round 13 = .ok (.aload_n 0, 1) := by decide +kernel
theorem dX5_round_14 : decode cX5_round 14 = .ok (.iconst 1, 1) := by decide +kernel
theorem dX5_round_15 : decode cX5_round 15 = .ok (.invokevirtual 213, 3) := by decide +kernel
theorem dX5_round_18 : decode cX5_round 18 = .ok (.ireturn, 1) := by decide +kernel
theorem dX5_round_19 : decode cX5_round 19 = .ok (.iload_n 2, 1) := by decide +kernel
theorem dX5_round_20 : decode cX5_round 20 = .ok (.i2l, 1) := by decide +kernel
theorem dX5_round_21 : decode cX5_round 21 = .ok (.lconst 1, 1) := by decide +kernel
theorem dX5_round_22 : decode cX5_round 22 = .ok (.ldc2_w 497, 3) := by decide +kernel
theorem dX5_round_25 : decode cX5_round 25 = .ok (.invokestatic 207, 3) := by decide +kernel
theorem dX5_round_28 : decode cX5_round 28 = .ok (.ifCond .ne 9, 3) := by decide +kernel
theorem dX5_round_31 : decode cX5_round 31 = .ok (.aload_n 0, 1) := by decide +kernel
theorem dX5_round_32 : decode cX5_round 32 = .ok (.iconst 2, 1) := by decide +kernel
theorem dX5_round_33 : decode cX5_round 33 = .ok (.invokevirtual 213, 3) := by decide +kernel
theorem dX5_round_36 : decode cX5_round 36 = .ok (.ireturn, 1) := by decide +kernel
theorem dX5_round_37 : decode cX5_round 37 = .ok (.aload_n 0, 1) := by decide +kernel
theorem dX5_round_38 : decode cX5_round 38 = .ok (.iload_n 2, 1) := by decide +kernel
theorem dX5_round_39 : decode cX5_round 39 = .ok (.putfield 490, 3) := by decide +kernel
theorem dX5_round_42 : decode cX5_round 42 = .ok (.iconst 0, 1) := by decide +kernel
theorem dX5_round_43 : decode cX5_round 43 = .ok (.istore_n 3, 1) := by decide +kernel
theorem dX5_round_44 : decode cX5_round 44 = .ok (.aload_n 0, 1) := by decide +kernel
theorem dX5_round_45 : decode cX5_round 45 = .ok (.iload_n 1, 1) := by decide +kernel
theorem dX5_round_46 : decode cX5_round 46 = .ok (.iload_n 3, 1) := by decide +kernel
theorem dX5_round_47 : decode cX5_round 47 = .ok (.invokevirtual 499, 3) := by decide +kernel
theorem dX5_round_50 : decode cX5_round 50 = .ok (.ifCond .ne 9, 3) := by decide +kernel
theorem dX5_round_53 : decode cX5_round 53 = .ok (.iinc 3 1, 3) := by decide +kernel
theorem dX5_round_56 : decode cX5_round 56 = .ok (.goto (-12), 3) := by decide +kernel
theorem dX5_round_59 : decode cX5_round 59 = .ok (.aload_n 0, 1) := by decide +kernel
theorem dX5_round_60 : decode cX5_round 60 = .ok (.getfield 165, 3) := by decide +kernel
theorem dX5_round_63 : decode cX5_round 63 = .ok (.iload_n 1, 1) := by decide +kernel
theorem dX5_round_64 : decode cX5_round 64 = .ok (.iconst 1, 1) := by decide +kernel
theorem dX5_round_65 : decode cX5_round 65 = .ok (.bastore, 1) := by decide +kernel
theorem dX5_round_66 : decode cX5_round 66 = .ok (.iconst 0, 1) := by decide +kernel
theorem dX5_round_67 : decode cX5_round 67 = .ok (.istore 4, 2) := by decide +kernel
theorem dX5_round_69 : decode cX5_round 69 = .ok (.iconst 0, 1) := by decide +kernel
theorem dX5_round_70 : decode cX5_round 70 = .ok (.istore 5, 2) := by decide +kernel
theorem dX5_round_72 : decode cX5_round 72 = .ok (.iload 5, 2) := by decide +kernel
theorem dX5_round_74 : decode cX5_round 74 = .ok (.aload_n 0, 1) := by decide +kernel
theorem dX5_round_75 : decode cX5_round 75 = .ok (.getfield 147, 3) := by decide +kernel
theorem dX5_round_78 : decode cX5_round 78 = .ok (.iload_n 1, 1) := by decide +kernel
theorem dX5_round_79 : decode cX5_round 79 = .ok (.iaload, 1) := by decide +kernel
theorem dX5_round_80 : decode cX5_round 80 = .ok (.aload_n 0, 1) := by decide +kernel
theorem dX5_round_81 : decode cX5_round 81 = .ok (.getfield 150, 3) := by decide +kernel
theorem dX5_round_84 : decode cX5_round 84 = .ok (.iload_n 1, 1) := by decide +kernel
theorem dX5_round_85 : decode cX5_round 85 = .ok (.iaload, 1) := by decide +kernel
theorem dX5_round_86 : decode cX5_round 86 = .ok (.imul, 1) := by decide +kernel
theorem dX5_round_87 : decode cX5_round 87 = .ok (.if_icmp .ge 46, 3) := by decide +kernel
theorem dX5_round_90 : decode cX5_round 90 = .ok (.iload 4, 2) := by decide +kernel
theorem dX5_round_92 : decode cX5_round 92 = .ok (.aload_n 0, 1) := by decide +kernel
theorem dX5_round_93 : decode cX5_round 93 = .ok (.getfield 162, 3) := by decide +kernel
theorem dX5_round_96 : decode cX5_round 96 = .ok (.bipush 12, 2) := by decide +kernel
theorem dX5_round_98 : decode cX5_round 98 = .ok (.iload_n 1, 1) := by decide +kernel
theorem dX5_round_99 : decode cX5_round 99 = .ok (.imul, 1) := by decide +kernel
theorem dX5_round_100 : decode cX5_round 100 = .ok (.iload 5, 2) := by decide +kernel
theorem dX5_round_102 : decode cX5_round 102 = .ok (.iadd, 1) := by decide +kernel
theorem dX5_round_103 : decode cX5_round 103 = .ok (.iaload, 1) := by decide +kernel
theorem dX5_round_104 : decode cX5_round 104 = .ok (.aload_n 0, 1) := by decide +kernel
theorem dX5_round_105 : decode cX5_round 105 = .ok (.getfield 153, 3) := by decide +kernel
theorem dX5_round_108 : decode cX5_round 108 = .ok (.bipush 12, 2) := by decide +kernel
theorem dX5_round_110 : decode cX5_round 110 = .ok (.iload_n 1, 1) := by decide +kernel
theorem dX5_round_111 : decode cX5_round 111 = .ok (.imul, 1) := by decide +kernel
theorem dX5_round_112 : decode cX5_round 112 = .ok (.iload 5, 2) := by decide +kernel
theorem dX5_round_114 : decode cX5_round 114 = .ok (.iadd, 1) := by decide +kernel
theorem dX5_round_115 : decode cX5_round 115 = .ok (.iaload, 1) := by decide +kernel
theorem dX5_round_116 : decode cX5_round 116 = .ok (.if_icmp .le 7, 3) := by decide +kernel
theorem dX5_round_119 : decode cX5_round 119 = .ok (.iconst 1, 1) := by decide +kernel
theorem dX5_round_120 : decode cX5_round 120 = .ok (.goto 4, 3) := by decide +kernel
theorem dX5_round_123 : decode cX5_round 123 = .ok (.iconst 0, 1) := by decide +kernel
theorem dX5_round_124 : decode cX5_round 124 = .ok (.iadd, 1) := by decide +kernel
theorem dX5_round_125 : decode cX5_round 125 = .ok (.istore 4, 2) := by decide +kernel
theorem dX5_round_127 : decode cX5_round 127 = .ok (.iinc 5 1, 3) := by decide +kernel
theorem dX5_round_130 : decode cX5_round 130 = .ok (.goto (-58), 3) := by decide +kernel
theorem dX5_round_133 : decode cX5_round 133 = .ok (.iload 4, 2) := by decide +kernel
theorem dX5_round_135 : decode cX5_round 135 = .ok (.ireturn, 1) := by decide +kernel
theorem dX5_isWay_0 : decode cX5_isWay 0 = .ok (.aload_n 0, 1) := by decide +kernel
theorem dX5_isWay_1 : decode cX5_isWay 1 = .ok (.getfield 147, 3) := by decide +kernel
theorem dX5_isWay_4 : decode cX5_isWay 4 = .ok (.iload_n 1, 1) := by decide +kernel
theorem dX5_isWay_5 : decode cX5_isWay 5 = .ok (.iaload, 1) := by decide +kernel
theorem dX5_isWay_6 : decode cX5_isWay 6 = .ok (.aload_n 0, 1) := by decide +kernel
theorem dX5_isWay_7 : decode cX5_isWay 7 = .ok (.getfield 150, 3) := by decide +kernel
theorem dX5_isWay_10 : decode cX5_isWay 10 = .ok (.iload_n 1, 1) := by decide +kernel
theorem dX5_isWay_11 : decode cX5_isWay 11 = .ok (.iaload, 1) := by decide +kernel
theorem dX5_isWay_12 : decode cX5_isWay 12 = .ok (.imul, 1) := by decide +kernel
theorem dX5_isWay_13 : decode cX5_isWay 13 = .ok (.istore_n 3, 1) := by decide +kernel
theorem dX5_isWay_14 : decode cX5_isWay 14 = .ok (.iconst 0, 1) := by decide +kernel
theorem dX5_isWay_15 : decode cX5_isWay 15 = .ok (.istore 4, 2) := by decide +kernel
theorem dX5_isWay_17 : decode cX5_isWay 17 = .ok (.iload 4, 2) := by decide +kernel
theorem dX5_isWay_19 : decode cX5_isWay 19 = .ok (.iload_n 3, 1) := by decide +kernel
theorem dX5_isWay_20 : decode cX5_isWay 20 = .ok (.if_icmp .ge 99, 3) := by decide +kernel
theorem dX5_isWay_23 : decode cX5_isWay 23 = .ok (.aload_n 0, 1) := by decide +kernel
theorem dX5_isWay_24 : decode cX5_isWay 24 = .ok (.getfield 153, 3) := by decide +kernel
theorem dX5_isWay_27 : decode cX5_isWay 27 = .ok (.bipush 12, 2) := by decide +kernel
theorem dX5_isWay_29 : decode cX5_isWay 29 = .ok (.iload_n 1, 1) := by decide +kernel
theorem dX5_isWay_30 : decode cX5_isWay 30 = .ok (.imul, 1) := by decide +kernel
theorem dX5_isWay_31 : decode cX5_isWay 31 = .ok (.iload 4, 2) := by decide +kernel
theorem dX5_isWay_33 : decode cX5_isWay 33 = .ok (.iadd, 1) := by decide +kernel
theorem dX5_isWay_34 : decode cX5_isWay 34 = .ok (.iaload, 1) := by decide +kernel
theorem dX5_isWay_35 : decode cX5_isWay 35 = .ok (.istore 5, 2) := by decide +kernel
theorem dX5_isWay_37 : decode cX5_isWay 37 = .ok (.iload_n 2, 1) := by decide +kernel
theorem dX5_isWay_38 : decode cX5_isWay 38 = .ok (.iload_n 3, 1) := by decide +kernel
theorem dX5_isWay_39 : decode cX5_isWay 39 = .ok (.iconst 1, 1) := by decide +kernel
theorem dX5_isWay_40 : decode cX5_isWay 40 = .ok (.isub, 1) := by decide +kernel
theorem dX5_isWay_41 : decode cX5_isWay 41 = .ok (.iload 4, 2) := by decide +kernel
theorem dX5_isWay_43 : decode cX5_isWay 43 = .ok (.isub, 1) := by decide +kernel
theorem dX5_isWay_44 : decode cX5_isWay 44 = .ok (.ishr, 1) := by decide +kernel
theorem dX5_isWay_45 : decode cX5_isWay 45 = .ok (.iconst 1, 1) := by decide +kernel
theorem dX5_isWay_46 : decode cX5_isWay 46 = .ok (.iand, 1) := by decide +kernel
theorem dX5_isWay_47 : decode cX5_isWay 47 = .ok (.iconst 1, 1) := by decide +kernel
theorem dX5_isWay_48 : decode cX5_isWay 48 = .ok (.if_icmp .ne 7, 3) := by decide +kernel
theorem dX5_isWay_51 : decode cX5_isWay 51 = .ok (.iconst 1, 1) := by decide +kernel
theorem dX5_isWay_52 : decode cX5_isWay 52 = .ok (.goto 4, 3) := by decide +kernel
theorem dX5_isWay_55 : decode cX5_isWay 55 = .ok (.iconst 0, 1) := by decide +kernel
theorem dX5_isWay_56 : decode cX5_isWay 56 = .ok (.istore 6, 2) := by decide +kernel
theorem dX5_isWay_58 : decode cX5_isWay 58 = .ok (.iload 6, 2) := by decide +kernel
theorem dX5_isWay_60 : decode cX5_isWay 60 = .ok (.ifCond .eq 15, 3) := by decide +kernel
theorem dX5_isWay_63 : decode cX5_isWay 63 = .ok (.iload 5, 2) := by decide +kernel
theorem dX5_isWay_65 : decode cX5_isWay 65 = .ok (.aload_n 0, 1) := by decide +kernel
theorem dX5_isWay_66 : decode cX5_isWay 66 = .ok (.getfield 490, 3) := by decide +kernel
theorem dX5_isWay_69 : decode cX5_isWay 69 = .ok (.irem, 1) := by decide +kernel
theorem dX5_isWay_70 : decode cX5_isWay 70 = .ok (.ifCond .ne 5, 3) := by decide +kernel
theorem dX5_isWay_73 : decode cX5_isWay 73 = .ok (.iconst 0, 1) := by decide +kernel
theorem dX5_isWay_74 : decode cX5_isWay 74 = .ok (.ireturn, 1) := by decide +kernel
theorem dX5_isWay_75 : decode cX5_isWay 75 = .ok (.aload_n 0, 1) := by decide +kernel
theorem dX5_isWay_76 : decode cX5_isWay 76 = .ok (.getfield 162, 3) := by decide +kernel
theorem dX5_isWay_79 : decode cX5_isWay 79 = .ok (.bipush 12, 2) := by decide +kernel
theorem dX5_isWay_81 : decode cX5_isWay 81 = .ok (.iload_n 1, 1) := by decide +kernel
theorem dX5_isWay_82 : decode cX5_isWay 82 = .ok (.imul, 1) := by decide +kernel
theorem dX5_isWay_83 : decode cX5_isWay 83 = .ok (.iload 4, 2) := by decide +kernel
theorem dX5_isWay_85 : decode cX5_isWay 85 = .ok (.iadd, 1) := by decide +kernel
theorem dX5_isWay_86 : decode cX5_isWay 86 = .ok (.iload 5, 2) := by decide +kernel
theorem dX5_isWay_88 : decode cX5_isWay 88 = .ok (.aload_n 0, 1) := by decide +kernel
theorem dX5_isWay_89 : decode cX5_isWay 89 = .ok (.getfield 490, 3) := by decide +kernel
theorem dX5_isWay_92 : decode cX5_isWay 92 = .ok (.idiv, 1) := by decide +kernel
theorem dX5_isWay_93 : decode cX5_isWay 93 = .ok (.aload_n 0, 1) := by decide +kernel
theorem dX5_isWay_94 : decode cX5_isWay 94 = .ok (.getfield 490, 3) := by decide +kernel
theorem dX5_isWay_97 : decode cX5_isWay 97 = .ok (.imul, 1) := by decide +kernel
theorem dX5_isWay_98 : decode cX5_isWay 98 = .ok (.iload 6, 2) := by decide +kernel
theorem dX5_isWay_100 : decode cX5_isWay 100 = .ok (.ifCond .eq 10, 3) := by decide +kernel
theorem dX5_isWay_103 : decode cX5_isWay 103 = .ok (.aload_n 0, 1) := by decide +kernel
theorem dX5_isWay_104 : decode cX5_isWay 104 = .ok (.getfield 490, 3) := by decide +kernel
theorem dX5_isWay_107 : decode cX5_isWay 107 = .ok (.goto 4, 3) := by decide +kernel
theorem dX5_isWay_110 : decode cX5_isWay 110 = .ok (.iconst 0, 1) := by decide +kernel
theorem dX5_isWay_111 : decode cX5_isWay 111 = .ok (.iadd, 1) := by decide +kernel
theorem dX5_isWay_112 : decode cX5_isWay 112 = .ok (.iastore, 1) := by decide +kernel
theorem dX5_isWay_113 : decode cX5_isWay 113 = .ok (.iinc 4 1, 3) := by decide +kernel
theorem dX5_isWay_116 : decode cX5_isWay 116 = .ok (.goto (-99), 3) := by decide +kernel
theorem dX5_isWay_119 : decode cX5_isWay 119 = .ok (.iconst 0, 1) := by decide +kernel
theorem dX5_isWay_120 : decode cX5_isWay 120 = .ok (.istore 4, 2) := by decide +kernel
theorem dX5_isWay_122 : decode cX5_isWay 122 = .ok (.iload 4, 2) := by decide +kernel
theorem dX5_isWay_124 : decode cX5_isWay 124 = .ok (.aload_n 0, 1) := by decide +kernel
theorem dX5_isWay_125 : decode cX5_isWay 125 = .ok (.getfield 147, 3) := by decide +kernel
theorem dX5_isWay_128 : decode cX5_isWay 128 = .ok (.iload_n 1, 1) := by decide +kernel
theorem dX5_isWay_129 : decode cX5_isWay 129 = .ok (.iaload, 1) := by decide +kernel
theorem dX5_isWay_130 : decode cX5_isWay 130 = .ok (.if_icmp .gt 149, 3) := by decide +kernel
theorem dX5_isWay_133 : decode cX5_isWay 133 = .ok (.iconst 0, 1) := by decide +kernel
theorem dX5_isWay_134 : decode cX5_isWay 134 = .ok (.istore 5, 2) := by decide +kernel
theorem dX5_isWay_136 : decode cX5_isWay 136 = .ok (.iload 5, 2) := by decide +kernel
theorem dX5_isWay_138 : decode cX5_isWay 138 = .ok (.aload_n 0, 1) := by decide +kernel
theorem dX5_isWay_139 : decode cX5_isWay 139 = .ok (.getfield 150, 3) := by decide +kernel
theorem dX5_isWay_142 : decode cX5_isWay 142 = .ok (.iload_n 1, 1) := by decide +kernel
theorem dX5_isWay_143 : decode cX5_isWay 143 = .ok (.iaload, 1) := by decide +kernel
theorem dX5_isWay_144 : decode cX5_isWay 144 = .ok (.if_icmp .gt 129, 3) := by decide +kernel
theorem dX5_isWay_147 : decode cX5_isWay 147 = .ok (.lconst 0, 1) := by decide +kernel
theorem dX5_isWay_148 : decode cX5_isWay 148 = .ok (.lstore 6, 2) := by decide +kernel
theorem dX5_isWay_150 : decode cX5_isWay 150 = .ok (.lconst 0, 1) := by decide +kernel
theorem dX5_isWay_151 : decode cX5_isWay 151 = .ok (.lstore 8, 2) := by decide +kernel
theorem dX5_isWay_153 : decode cX5_isWay 153 = .ok (.iconst 0, 1) := by decide +kernel
theorem dX5_isWay_154 : decode cX5_isWay 154 = .ok (.istore 10, 2) := by decide +kernel
theorem dX5_isWay_156 : decode cX5_isWay 156 = .ok (.iload 10, 2) := by decide +kernel
theorem dX5_isWay_158 : decode cX5_isWay 158 = .ok (.iload_n 3, 1) := by decide +kernel
theorem dX5_isWay_159 : decode cX5_isWay 159 = .ok (.if_icmp .ge 95, 3) := by decide +kernel
theorem dX5_isWay_162 : decode cX5_isWay 162 = .ok (.iload 4, 2) := by decide +kernel
theorem dX5_isWay_164 : decode cX5_isWay 164 = .ok (.aload_n 0, 1) := by decide +kernel
theorem dX5_isWay_165 : decode cX5_isWay 165 = .ok (.getfield 147, 3) := by decide +kernel
theorem dX5_isWay_168 : decode cX5_isWay 168 = .ok (.iload_n 1, 1) := by decide +kernel
theorem dX5_isWay_169 : decode cX5_isWay 169 = .ok (.iaload, 1) := by decide +kernel
theorem dX5_isWay_170 : decode cX5_isWay 170 = .ok (.if_icmp .eq 17, 3) := by decide +kernel
theorem dX5_isWay_173 : decode cX5_isWay 173 = .ok (.iload 10, 2) := by decide +kernel
theorem dX5_isWay_175 : decode cX5_isWay 175 = .ok (.aload_n 0, 1) := by decide +kernel
theorem dX5_isWay_176 : decode cX5_isWay 176 = .ok (.getfield 150, 3) := by decide +kernel
theorem dX5_isWay_179 : decode cX5_isWay 179 = .ok (.iload_n 1, 1) := by decide +kernel
theorem dX5_isWay_180 : decode cX5_isWay 180 = .ok (.iaload, 1) := by decide +kernel
theorem dX5_isWay_181 : decode cX5_isWay 181 = .ok (.idiv, 1) := by decide +kernel
theorem dX5_isWay_182 : decode cX5_isWay 182 = .ok (.iload 4, 2) := by decide +kernel
theorem dX5_isWay_184 : decode cX5_isWay 184 = .ok (.if_icmp .ne 64, 3) := by decide +kernel
theorem dX5_isWay_187 : decode cX5_isWay 187 = .ok (.iload 5, 2) := by decide +kernel
theorem dX5_isWay_189 : decode cX5_isWay 189 = .ok (.aload_n 0, 1) := by decide +kernel
theorem dX5_isWay_190 : decode cX5_isWay 190 = .ok (.getfield 150, 3) := by decide +kernel
theorem dX5_isWay_193 : decode cX5_isWay 193 = .ok (.iload_n 1, 1) := by decide +kernel
theorem dX5_isWay_194 : decode cX5_isWay 194 = .ok (.iaload, 1) := by decide +kernel
theorem dX5_isWay_195 : decode cX5_isWay 195 = .ok (.if_icmp .eq 17, 3) := by decide +kernel
theorem dX5_isWay_198 : decode cX5_isWay 198 = .ok (.iload 10, 2) := by decide +kernel
theorem dX5_isWay_200 : decode cX5_isWay 200 = .ok (.aload_n 0, 1) := by decide +kernel
theorem dX5_isWay_201 : decode cX5_isWay 201 = .ok (.getfield 150, 3) := by decide +kernel
theorem dX5_isWay_204 : decode cX5_isWay 204 = .ok (.iload_n 1, 1) := by decide +kernel
theorem dX5_isWay_205 : decode cX5_isWay 205 = .ok (.iaload, 1) := by decide +kernel
theorem dX5_isWay_206 : decode cX5_isWay 206 = .ok (.irem, 1) := by decide +kernel
theorem dX5_isWay_207 : decode cX5_isWay 207 = .ok (.iload 5, 2) := by decide +kernel
theorem dX5_isWay_209 : decode cX5_isWay 209 = .ok (.if_icmp .ne 39, 3) := by decide +kernel
theorem dX5_isWay_212 : decode cX5_isWay 212 = .ok (.lload 6, 2) := by decide +kernel
theorem dX5_isWay_214 : decode cX5_isWay 214 = .ok (.aload_n 0, 1) := by decide +kernel
theorem dX5_isWay_215 : decode cX5_isWay 215 = .ok (.getfield 153, 3) := by decide +kernel
theorem dX5_isWay_218 : decode cX5_isWay 218 = .ok (.bipush 12, 2) := by decide +kernel
theorem dX5_isWay_220 : decode cX5_isWay 220 = .ok (.iload_n 1, 1) := by decide +kernel
theorem dX5_isWay_221 : decode cX5_isWay 221 = .ok (.imul, 1) := by decide +kernel
theorem dX5_isWay_222 : decode cX5_isWay 222 = .ok (.iload 10, 2) := by decide +kernel
theorem dX5_isWay_224 : decode cX5_isWay 224 = .ok (.iadd, 1) := by decide +kernel
theorem dX5_isWay_225 : decode cX5_isWay 225 = .ok (.iaload, 1) := by decide +kernel
theorem dX5_isWay_226 : decode cX5_isWay 226 = .ok (.i2l, 1) := by decide +kernel
theorem dX5_isWay_227 : decode cX5_isWay 227 = .ok (.ladd, 1) := by decide +kernel
theorem dX5_isWay_228 : decode cX5_isWay 228 = .ok (.lstore 6, 2) := by decide +kernel
theorem dX5_isWay_230 : decode cX5_isWay 230 = .ok (.lload 8, 2) := by decide +kernel
theorem dX5_isWay_232 : decode cX5_isWay 232 = .ok (.aload_n 0, 1) := by decide +kernel
theorem dX5_isWay_233 : decode cX5_isWay 233 = .ok (.getfield 162, 3) := by decide +kernel
theorem dX5_isWay_236 : decode cX5_isWay 236 = .ok (.bipush 12, 2) := by decide +kernel
theorem dX5_isWay_238 : decode cX5_isWay 238 = .ok (.iload_n 1, 1) := by decide +kernel
theorem dX5_isWay_239 : decode cX5_isWay 239 = .ok (.imul, 1) := by decide +kernel
theorem dX5_isWay_240 : decode cX5_isWay 240 = .ok (.iload 10, 2) := by decide +kernel
theorem dX5_isWay_242 : decode cX5_isWay 242 = .ok (.iadd, 1) := by decide +kernel
theorem dX5_isWay_243 : decode cX5_isWay 243 = .ok (.iaload, 1) := by decide +kernel
theorem dX5_isWay_244 : decode cX5_isWay 244 = .ok (.i2l, 1) := by decide +kernel
theorem dX5_isWay_245 : decode cX5_isWay 245 = .ok (.ladd, 1) := by decide +kernel
theorem dX5_isWay_246 : decode cX5_isWay 246 = .ok (.lstore 8, 2) := by decide +kernel
theorem dX5_isWay_248 : decode cX5_isWay 248 = .ok (.iinc 10 1, 3) := by decide +kernel
theorem dX5_isWay_251 : decode cX5_isWay 251 = .ok (.goto (-95), 3) := by decide +kernel
theorem dX5_isWay_254 : decode cX5_isWay 254 = .ok (.aload_n 0, 1) := by decide +kernel
theorem dX5_isWay_255 : decode cX5_isWay 255 = .ok (.lload 6, 2) := by decide +kernel
theorem dX5_isWay_257 : decode cX5_isWay 257 = .ok (.lload 8, 2) := by decide +kernel
theorem dX5_isWay_259 : decode cX5_isWay 259 = .ok (.invokevirtual 493, 3) := by decide +kernel
theorem dX5_isWay_262 : decode cX5_isWay 262 = .ok (.ifCond .ne 5, 3) := by decide +kernel
theorem dX5_isWay_265 : decode cX5_isWay 265 = .ok (.iconst 0, 1) := by decide +kernel
theorem dX5_isWay_266 : decode cX5_isWay 266 = .ok (.ireturn, 1) := by decide +kernel
theorem dX5_isWay_267 : decode cX5_isWay 267 = .ok (.iinc 5 1, 3) := by decide +kernel
theorem dX5_isWay_270 : decode cX5_isWay 270 = .ok (.goto (-134), 3) := by decide +kernel
theorem dX5_isWay_273 : decode cX5_isWay 273 = .ok (.iinc 4 1, 3) := by decide +kernel
theorem dX5_isWay_276 : decode cX5_isWay 276 = .ok (.goto (-154), 3) := by decide +kernel
theorem dX5_isWay_279 : decode cX5_isWay 279 = .ok (.iconst 1, 1) := by decide +kernel
theorem dX5_isWay_280 : decode cX5_isWay 280 = .ok (.ireturn, 1) := by decide +kernel
theorem dX5_isNext_0 : decode cX5_isNext 0 = .ok (.lload_n 1, 1) := by decide +kernel
theorem dX5_isNext_1 : decode cX5_isNext 1 = .ok (.aload_n 0, 1) := by decide +kernel
theorem dX5_isNext_2 : decode cX5_isNext 2 = .ok (.getfield 490, 3) := by decide +kernel
theorem dX5_isNext_5 : decode cX5_isNext 5 = .ok (.i2l, 1) := by decide +kernel
theorem dX5_isNext_6 : decode cX5_isNext 6 = .ok (.ldiv, 1) := by decide +kernel
theorem dX5_isNext_7 : decode cX5_isNext 7 = .ok (.aload_n 0, 1) := by decide +kernel
theorem dX5_isNext_8 : decode cX5_isNext 8 = .ok (.getfield 490, 3) := by decide +kernel
theorem dX5_isNext_11 : decode cX5_isNext 11 = .ok (.i2l, 1) := by decide +kernel
theorem dX5_isNext_12 : decode cX5_isNext 12 = .ok (.lmul, 1) := by decide +kernel
theorem dX5_isNext_13 : decode cX5_isNext 13 = .ok (.lstore 5, 2) := by decide +kernel
theorem dX5_isNext_15 : decode cX5_isNext 15 = .ok (.lload_n 1, 1) := by decide +kernel
theorem dX5_isNext_16 : decode cX5_isNext 16 = .ok (.lload 5, 2) := by decide +kernel
theorem dX5_isNext_18 : decode cX5_isNext 18 = .ok (.lcmp, 1) := by decide +kernel
theorem dX5_isNext_19 : decode cX5_isNext 19 = .ok (.ifCond .ne 17, 3) := by decide +kernel
theorem dX5_isNext_22 : decode cX5_isNext 22 = .ok (.lload_n 3, 1) := by decide +kernel
theorem dX5_isNext_23 : decode cX5_isNext 23 = .ok (.lload_n 1, 1) := by decide +kernel
theorem dX5_isNext_24 : decode cX5_isNext 24 = .ok (.lcmp, 1) := by decide +kernel
theorem dX5_isNext_25 : decode cX5_isNext 25 = .ok (.ifCond .ne 7, 3) := by decide +kernel
theorem dX5_isNext_28 : decode cX5_isNext 28 = .ok (.iconst 1, 1) := by decide +kernel
theorem dX5_isNext_29 : decode cX5_isNext 29 = .ok (.goto 32, 3) := by decide +kernel
theorem dX5_isNext_32 : decode cX5_isNext 32 = .ok (.iconst 0, 1) := by decide +kernel
theorem dX5_isNext_33 : decode cX5_isNext 33 = .ok (.goto 28, 3) := by decide +kernel
theorem dX5_isNext_36 : decode cX5_isNext 36 = .ok (.lload_n 3, 1) := by decide +kernel
theorem dX5_isNext_37 : decode cX5_isNext 37 = .ok (.lload 5, 2) := by decide +kernel
theorem dX5_isNext_39 : decode cX5_isNext 39 = .ok (.lcmp, 1) := by decide +kernel
theorem dX5_isNext_40 : decode cX5_isNext 40 = .ok (.ifCond .eq 16, 3) := by decide +kernel
theorem dX5_isNext_43 : decode cX5_isNext 43 = .ok (.lload_n 3, 1) := by decide +kernel
theorem dX5_isNext_44 : decode cX5_isNext 44 = .ok (.lload 5, 2) := by decide +kernel
theorem dX5_isNext_46 : decode cX5_isNext 46 = .ok (.aload_n 0, 1) := by decide +kernel
theorem dX5_isNext_47 : decode cX5_isNext 47 = .ok (.getfield 490, 3) := by decide +kernel
theorem dX5_isNext_50 : decode cX5_isNext 50 = .ok (.i2l, 1) := by decide +kernel
theorem dX5_isNext_51 : decode cX5_isNext 51 = .ok (.ladd, 1) := by decide +kernel
theorem dX5_isNext_52 : decode cX5_isNext 52 = .ok (.lcmp, 1) := by decide +kernel
theorem dX5_isNext_53 : decode cX5_isNext 53 = .ok (.ifCond .ne 7, 3) := by decide +kernel
theorem dX5_isNext_56 : decode cX5_isNext 56 = .ok (.iconst 1, 1) := by decide +kernel
theorem dX5_isNext_57 : decode cX5_isNext 57 = .ok (.goto 4, 3) := by decide +kernel
theorem dX5_isNext_60 : decode cX5_isNext 60 = .ok (.iconst 0, 1) := by decide +kernel
theorem dX5_isNext_61 : decode cX5_isNext 61 = .ok (.ireturn, 1) := by decide +kernel
theorem dX5_person_0 : decode cX5_person 0 = .ok (.aload_n 0, 1) := by decide +kernel
theorem dX5_person_1 : decode cX5_person 1 = .ok (.iconst 0, 1) := by decide +kernel
theorem dX5_person_2 : decode cX5_person 2 = .ok (.putfield 198, 3) := by decide +kernel
theorem dX5_person_5 : decode cX5_person 5 = .ok (.iload_n 1, 1) := by decide +kernel
theorem dX5_person_6 : decode cX5_person 6 = .ok (.i2l, 1) := by decide +kernel
theorem dX5_person_7 : decode cX5_person 7 = .ok (.lconst 0, 1) := by decide +kernel
theorem dX5_person_8 : decode cX5_person 8 = .ok (.ldc2_w 502, 3) := by decide +kernel
theorem dX5_person_11 : decode cX5_person 11 = .ok (.invokestatic 207, 3) := by decide +kernel
theorem dX5_person_14 : decode cX5_person 14 = .ok (.ifCond .ne 9, 3) := by decide +kernel
theorem dX5_person_17 : decode cX5_person 17 = .ok (.aload_n 0, 1) := by decide +kernel
theorem dX5_person_18 : decode cX5_person 18 = .ok (.iconst 1, 1) := by decide +kernel
theorem dX5_person_19 : decode cX5_person 19 = .ok (.invokevirtual 213, 3) := by decide +kernel
theorem dX5_person_22 : decode cX5_person 22 = .ok (.ireturn, 1) := by decide +kernel
theorem dX5_person_23 : decode cX5_person 23 = .ok (.aload_n 0, 1) := by decide +kernel
theorem dX5_person_24 : decode cX5_person 24 = .ok (.getfield 504, 3) := by decide +kernel
theorem dX5_person_27 : decode cX5_person 27 = .ok (.bipush 12, 2) := by decide +kernel
theorem dX5_person_29 : decode cX5_person 29 = .ok (.if_icmp .ne 9, 3) := by decide +kernel
theorem dX5_person_32 : decode cX5_person 32 = .ok (.aload_n 0, 1) := by decide +kernel
theorem dX5_person_33 : decode cX5_person 33 = .ok (.iconst 2, 1) := by decide +kernel
theorem dX5_person_34 : decode cX5_person 34 = .ok (.invokevirtual 213, 3) := by decide +kernel
theorem dX5_person_37 : decode cX5_person 37 = .ok (.ireturn, 1) := by decide +kernel
theorem dX5_person_38 : decode cX5_person 38 = .ok (.aload_n 0, 1) := by decide +kernel
theorem dX5_person_39 : decode cX5_person 39 = .ok (.getfield 174, 3) := by decide +kernel
theorem dX5_person_42 : decode cX5_person 42 = .ok (.aload_n 0, 1) := by decide +kernel
theorem dX5_person_43 : decode cX5_person 43 = .ok (.getfield 504, 3) := by decide +kernel
theorem dX5_person_46 : decode cX5_person 46 = .ok (.iload_n 1, 1) := by decide +kernel
theorem dX5_person_47 : decode cX5_person 47 = .ok (.iastore, 1) := by decide +kernel
theorem dX5_person_48 : decode cX5_person 48 = .ok (.aload_n 0, 1) := by decide +kernel
theorem dX5_person_49 : decode cX5_person 49 = .ok (.dup, 1) := by decide +kernel
theorem dX5_person_50 : decode cX5_person 50 = .ok (.getfield 504, 3) := by decide +kernel
theorem dX5_person_53 : decode cX5_person 53 = .ok (.iconst 1, 1) := by decide +kernel
theorem dX5_person_54 : decode cX5_person 54 = .ok (.iadd, 1) := by decide +kernel
theorem dX5_person_55 : decode cX5_person 55 = .ok (.putfield 504, 3) := by decide +kernel
theorem dX5_person_58 : decode cX5_person 58 = .ok (.aload_n 0, 1) := by decide +kernel
theorem dX5_person_59 : decode cX5_person 59 = .ok (.getfield 504, 3) := by decide +kernel
theorem dX5_person_62 : decode cX5_person 62 = .ok (.iconst 1, 1) := by decide +kernel
theorem dX5_person_63 : decode cX5_person 63 = .ok (.isub, 1) := by decide +kernel
theorem dX5_person_64 : decode cX5_person 64 = .ok (.ireturn, 1) := by decide +kernel
theorem dX5_release_0 : decode cX5_release 0 = .ok (.aload_n 0, 1) := by decide +kernel
theorem dX5_release_1 : decode cX5_release 1 = .ok (.iconst 0, 1) := by decide +kernel
theorem dX5_release_2 : decode cX5_release 2 = .ok (.putfield 198, 3) := by decide +kernel
theorem dX5_release_5 : decode cX5_release 5 = .ok (.iload_n 1, 1) := by decide +kernel
theorem dX5_release_6 : decode cX5_release 6 = .ok (.i2l, 1) := by decide +kernel
theorem dX5_release_7 : decode cX5_release 7 = .ok (.lconst 0, 1) := by decide +kernel
theorem dX5_release_8 : decode cX5_release 8 = .ok (.aload_n 0, 1) := by decide +kernel
theorem dX5_release_9 : decode cX5_release 9 = .ok (.getfield 504, 3) := by decide +kernel
theorem dX5_release_12 : decode cX5_release 12 = .ok (.iconst 1, 1) := by decide +kernel
theorem dX5_release_13 : decode cX5_release 13 = .ok (.isub, 1) := by decide +kernel
theorem dX5_release_14 : decode cX5_release 14 = .ok (.i2l, 1) := by decide +kernel
theorem dX5_release_15 : decode cX5_release 15 = .ok (.invokestatic 207, 3) := by decide +kernel
theorem dX5_release_18 : decode cX5_release 18 = .ok (.ifCond .eq 11, 3) := by decide +kernel
theorem dX5_release_21 : decode cX5_release 21 = .ok (.aload_n 0, 1) := by decide +kernel
theorem dX5_release_22 : decode cX5_release 22 = .ok (.iload_n 2, 1) := by decide +kernel
theorem dX5_release_23 : decode cX5_release 23 = .ok (.invokevirtual 473, 3) := by decide +kernel
theorem dX5_release_26 : decode cX5_release 26 = .ok (.ifCond .ne 9, 3) := by decide +kernel
theorem dX5_release_29 : decode cX5_release 29 = .ok (.aload_n 0, 1) := by decide +kernel
theorem dX5_release_30 : decode cX5_release 30 = .ok (.iconst 1, 1) := by decide +kernel
theorem dX5_release_31 : decode cX5_release 31 = .ok (.invokevirtual 213, 3) := by decide +kernel
theorem dX5_release_34 : decode cX5_release 34 = .ok (.ireturn, 1) := by decide +kernel
theorem dX5_release_35 : decode cX5_release 35 = .ok (.aload_n 0, 1) := by decide +kernel
theorem dX5_release_36 : decode cX5_release 36 = .ok (.getfield 174, 3) := by decide +kernel
theorem dX5_release_39 : decode cX5_release 39 = .ok (.iload_n 1, 1) := by decide +kernel
theorem dX5_release_40 : decode cX5_release 40 = .ok (.iaload, 1) := by decide +kernel
theorem dX5_release_41 : decode cX5_release 41 = .ok (.iconst 1, 1) := by decide +kernel
theorem dX5_release_42 : decode cX5_release 42 = .ok (.iand, 1) := by decide +kernel
theorem dX5_release_43 : decode cX5_release 43 = .ok (.ifCond .ne 9, 3) := by decide +kernel
theorem dX5_release_46 : decode cX5_release 46 = .ok (.aload_n 0, 1) := by decide +kernel
theorem dX5_release_47 : decode cX5_release 47 = .ok (.iconst 2, 1) := by decide +kernel
theorem dX5_release_48 : decode cX5_release 48 = .ok (.invokevirtual 213, 3) := by decide +kernel
theorem dX5_release_51 : decode cX5_release 51 = .ok (.ireturn, 1) := by decide +kernel
theorem dX5_release_52 : decode cX5_release 52 = .ok (.iload_n 3, 1) := by decide +kernel
theorem dX5_release_53 : decode cX5_release 53 = .ok (.aload_n 0, 1) := by decide +kernel
theorem dX5_release_54 : decode cX5_release 54 = .ok (.getfield 202, 3) := by decide +kernel
theorem dX5_release_57 : decode cX5_release 57 = .ok (.if_icmp .ge 9, 3) := by decide +kernel
theorem dX5_release_60 : decode cX5_release 60 = .ok (.aload_n 0, 1) := by decide +kernel
theorem dX5_release_61 : decode cX5_release 61 = .ok (.iconst 3, 1) := by decide +kernel
theorem dX5_release_62 : decode cX5_release 62 = .ok (.invokevirtual 213, 3) := by decide +kernel
theorem dX5_release_65 : decode cX5_release 65 = .ok (.ireturn, 1) := by decide +kernel
theorem dX5_release_66 : decode cX5_release 66 = .ok (.aload_n 0, 1) := by decide +kernel
theorem dX5_release_67 : decode cX5_release 67 = .ok (.getfield 507, 3) := by decide +kernel
theorem dX5_release_70 : decode cX5_release 70 = .ok (.bipush 12, 2) := by decide +kernel
theorem dX5_release_72 : decode cX5_release 72 = .ok (.if_icmp .ne 9, 3) := by decide +kernel
theorem dX5_release_75 : decode cX5_release 75 = .ok (.aload_n 0, 1) := by decide +kernel
theorem dX5_release_76 : decode cX5_release 76 = .ok (.iconst 4, 1) := by decide +kernel
theorem dX5_release_77 : decode cX5_release 77 = .ok (.invokevirtual 213, 3) := by decide +kernel
theorem dX5_release_80 : decode cX5_release 80 = .ok (.ireturn, 1) := by decide +kernel
theorem dX5_release_81 : decode cX5_release 81 = .ok (.aload_n 0, 1) := by decide +kernel
theorem dX5_release_82 : decode cX5_release 82 = .ok (.getfield 177, 3) := by decide +kernel
theorem dX5_release_85 : decode cX5_release 85 = .ok (.aload_n 0, 1) := by decide +kernel
theorem dX5_release_86 : decode cX5_release 86 = .ok (.getfield 507, 3) := by decide +kernel
theorem dX5_release_89 : decode cX5_release 89 = .ok (.iload_n 1, 1) := by decide +kernel
theorem dX5_release_90 : decode cX5_release 90 = .ok (.iastore, 1) := by decide +kernel
theorem dX5_release_91 : decode cX5_release 91 = .ok (.aload_n 0, 1) := by decide +kernel
theorem dX5_release_92 : decode cX5_release 92 = .ok (.getfield 180, 3) := by decide +kernel
theorem dX5_release_95 : decode cX5_release 95 = .ok (.aload_n 0, 1) := by decide +kernel
theorem dX5_release_96 : decode cX5_release 96 = .ok (.getfield 507, 3) := by decide +kernel
theorem dX5_release_99 : decode cX5_release 99 = .ok (.iload_n 3, 1) := by decide +kernel
theorem dX5_release_100 : decode cX5_release 100 = .ok (.iastore, 1) := by decide +kernel
theorem dX5_release_101 : decode cX5_release 101 = .ok (.aload_n 0, 1) := by decide +kernel
theorem dX5_release_102 : decode cX5_release 102 = .ok (.getfield 183, 3) := by decide +kernel
theorem dX5_release_105 : decode cX5_release 105 = .ok (.aload_n 0, 1) := by decide +kernel
theorem dX5_release_106 : decode cX5_release 106 = .ok (.getfield 507, 3) := by decide +kernel
theorem dX5_release_109 : decode cX5_release 109 = .ok (.aload_n 0, 1) := by decide +kernel
theorem dX5_release_110 : decode cX5_release 110 = .ok (.getfield 147, 3) := by decide +kernel
theorem dX5_release_113 : decode cX5_release 113 = .ok (.iload_n 2, 1) := by decide +kernel
theorem dX5_release_114 : decode cX5_release 114 = .ok (.iaload, 1) := by decide +kernel
theorem dX5_release_115 : decode cX5_release 115 = .ok (.iastore, 1) := by decide +kernel
theorem dX5_release_116 : decode cX5_release 116 = .ok (.aload_n 0, 1) := by decide +kernel
theorem dX5_release_117 : decode cX5_release 117 = .ok (.getfield 186, 3) := by decide +kernel
theorem dX5_release_120 : decode cX5_release 120 = .ok (.aload_n 0, 1) := by decide +kernel
theorem dX5_release_121 : decode cX5_release 121 = .ok (.getfield 507, 3) := by decide +kernel
theorem dX5_release_124 : decode cX5_release 124 = .ok (.aload_n 0, 1) := by decide +kernel
theorem dX5_release_125 : decode cX5_release 125 = .ok (.getfield 150, 3) := by decide +kernel
theorem dX5_release_128 : decode cX5_release 128 = .ok (.iload_n 2, 1) := by decide +kernel
theorem dX5_release_129 : decode cX5_release 129 = .ok (.iaload, 1) := by decide +kernel
theorem dX5_release_130 : decode cX5_release 130 = .ok (.iastore, 1) := by decide +kernel
theorem dX5_release_131 : decode cX5_release 131 = .ok (.aload_n 0, 1) := by decide +kernel
theorem dX5_release_132 : decode cX5_release 132 = .ok (.getfield 189, 3) := by decide +kernel
theorem dX5_release_135 : decode cX5_release 135 = .ok (.aload_n 0, 1) := by decide +kernel
theorem dX5_release_136 : decode cX5_release 136 = .ok (.getfield 507, 3) := by decide +kernel
theorem dX5_release_139 : decode cX5_release 139 = .ok (.aload_n 0, 1) := by decide +kernel
theorem dX5_release_140 : decode cX5_release 140 = .ok (.getfield 168, 3) := by decide +kernel
theorem dX5_release_143 : decode cX5_release 143 = .ok (.iload_n 2, 1) := by decide +kernel
theorem dX5_release_144 : decode cX5_release 144 = .ok (.iaload, 1) := by decide +kernel
theorem dX5_release_145 : decode cX5_release 145 = .ok (.iastore, 1) := by decide +kernel
theorem dX5_release_146 : decode cX5_release 146 = .ok (.iconst 0, 1) := by decide +kernel
theorem dX5_release_147 : decode cX5_release 147 = .ok (.istore 4, 2) := by decide +kernel
theorem dX5_release_149 : decode cX5_release 149 = .ok (.iload 4, 2) := by decide +kernel
theorem dX5_release_151 : decode cX5_release 151 = .ok (.bipush 12, 2) := by decide +kernel
theorem dX5_release_153 : decode cX5_release 153 = .ok (.if_icmp .ge 32, 3) := by decide +kernel
theorem dX5_release_156 : decode cX5_release 156 = .ok (.aload_n 0, 1) := by decide +kernel
theorem dX5_release_157 : decode cX5_release 157 = .ok (.getfield 192, 3) := by decide +kernel
theorem dX5_release_160 : decode cX5_release 160 = .ok (.bipush 12, 2) := by decide +kernel
theorem dX5_release_162 : decode cX5_release 162 = .ok (.aload_n 0, 1) := by decide +kernel
theorem dX5_release_163 : decode cX5_release 163 = .ok (.getfield 507, 3) := by decide +kernel
theorem dX5_release_166 : decode cX5_release 166 = .ok (.imul, 1) := by decide +kernel
theorem dX5_release_167 : decode cX5_release 167 = .ok (.iload 4, 2) := by decide +kernel
theorem dX5_release_169 : decode cX5_release 169 = .ok (.iadd, 1) := by decide +kernel
theorem dX5_release_170 : decode cX5_release 170 = .ok (.aload_n 0, 1) := by decide +kernel
theorem dX5_release_171 : decode cX5_release 171 = .ok (.iload_n 2, 1) := by decide +kernel
theorem dX5_release_172 : decode cX5_release 172 = .ok (.iload 4, 2) := by decide +kernel
theorem dX5_release_174 : decode cX5_release 174 = .ok (.iconst 3, 1) := by decide +kernel
theorem dX5_release_175 : decode cX5_release 175 = .ok (.invokevirtual 476, 3) := by decide +kernel
theorem dX5_release_178 : decode cX5_release 178 = .ok (.iastore, 1) := by decide +kernel
theorem dX5_release_179 : decode cX5_release 179 = .ok (.iinc 4 1, 3) := by decide +kernel
theorem dX5_release_182 : decode cX5_release 182 = .ok (.goto (-33), 3) := by decide +kernel
theorem dX5_release_185 : decode cX5_release 185 = .ok (.aload_n 0, 1) := by decide +kernel
theorem dX5_release_186 : decode cX5_release 186 = .ok (.dup, 1) := by decide +kernel
theorem dX5_release_187 : decode cX5_release 187 = .ok (.getfield 507, 3) := by decide +kernel
theorem dX5_release_190 : decode cX5_release 190 = .ok (.iconst 1, 1) := by decide +kernel
theorem dX5_release_191 : decode cX5_release 191 = .ok (.iadd, 1) := by decide +kernel
theorem dX5_release_192 : decode cX5_release 192 = .ok (.putfield 507, 3) := by decide +kernel
theorem dX5_release_195 : decode cX5_release 195 = .ok (.aload_n 0, 1) := by decide +kernel
theorem dX5_release_196 : decode cX5_release 196 = .ok (.getfield 507, 3) := by decide +kernel
theorem dX5_release_199 : decode cX5_release 199 = .ok (.iconst 1, 1) := by decide +kernel
theorem dX5_release_200 : decode cX5_release 200 = .ok (.isub, 1) := by decide +kernel
theorem dX5_release_201 : decode cX5_release 201 = .ok (.ireturn, 1) := by decide +kernel
theorem dX5_look_0 : decode cX5_look 0 = .ok (.aload_n 0, 1) := by decide +kernel
theorem dX5_look_1 : decode cX5_look 1 = .ok (.iconst 0, 1) := by decide +kernel
theorem dX5_look_2 : decode cX5_look 2 = .ok (.putfield 198, 3) := by decide +kernel
theorem dX5_look_5 : decode cX5_look 5 = .ok (.iload_n 1, 1) := by decide +kernel
theorem dX5_look_6 : decode cX5_look 6 = .ok (.i2l, 1) := by decide +kernel
theorem dX5_look_7 : decode cX5_look 7 = .ok (.lconst 0, 1) := by decide +kernel
theorem dX5_look_8 : decode cX5_look 8 = .ok (.aload_n 0, 1) := by decide +kernel
theorem dX5_look_9 : decode cX5_look 9 = .ok (.getfield 504, 3) := by decide +kernel
theorem dX5_look_12 : decode cX5_look 12 = .ok (.iconst 1, 1) := by decide +kernel
theorem dX5_look_13 : decode cX5_look 13 = .ok (.isub, 1) := by decide +kernel
theorem dX5_look_14 : decode cX5_look 14 = .ok (.i2l, 1) := by decide +kernel
theorem dX5_look_15 : decode cX5_look 15 = .ok (.invokestatic 207, 3) := by decide +kernel
theorem dX5_look_18 : decode cX5_look 18 = .ok (.ifCond .eq 52, 3) := by decide +kernel
theorem dX5_look_21 : decode cX5_look 21 = .ok (.iload_n 2, 1) := by decide +kernel
theorem dX5_look_22 : decode cX5_look 22 = .ok (.i2l, 1) := by decide +kernel
theorem dX5_look_23 : decode cX5_look 23 = .ok (.lconst 0, 1) := by decide +kernel
theorem dX5_look_24 : decode cX5_look 24 = .ok (.aload_n 0, 1) := by decide +kernel
theorem dX5_look_25 : decode cX5_look 25 = .ok (.getfield 507, 3) := by decide +kernel
theorem dX5_look_28 : decode cX5_look 28 = .ok (.iconst 1, 1) := by decide +kernel
theorem dX5_look_29 : decode cX5_look 29 = .ok (.isub, 1) := by decide +kernel
theorem dX5_look_30 : decode cX5_look 30 = .ok (.i2l, 1) := by decide +kernel
theorem dX5_look_31 : decode cX5_look 31 = .ok (.invokestatic 207, 3) := by decide +kernel
theorem dX5_look_34 : decode cX5_look 34 = .ok (.ifCond .eq 36, 3) := by decide +kernel
theorem dX5_look_37 : decode cX5_look 37 = .ok (.iload_n 3, 1) := by decide +kernel
theorem dX5_look_38 : decode cX5_look 38 = .ok (.i2l, 1) := by decide +kernel
theorem dX5_look_39 : decode cX5_look 39 = .ok (.lconst 0, 1) := by decide +kernel
theorem dX5_look_40 : decode cX5_look 40 = .ok (.aload_n 0, 1) := by decide +kernel
theorem dX5_look_41 : decode cX5_look 41 = .ok (.getfield 183, 3) := by decide +kernel
theorem dX5_look_44 : decode cX5_look 44 = .ok (.iload_n 2, 1) := by decide +kernel
theorem dX5_look_45 : decode cX5_look 45 = .ok (.iaload, 1) := by decide +kernel
theorem dX5_look_46 : decode cX5_look 46 = .ok (.i2l, 1) := by decide +kernel
theorem dX5_look_47 : decode cX5_look 47 = .ok (.invokestatic 207, 3) := by decide +kernel
theorem dX5_look_50 : decode cX5_look 50 = .ok (.ifCond .eq 20, 3) := by decide +kernel
theorem dX5_look_53 : decode cX5_look 53 = .ok (.iload 4, 2) := by decide +kernel
theorem dX5_look_55 : decode cX5_look 55 = .ok (.i2l, 1) := by decide +kernel
theorem dX5_look_56 : decode cX5_look 56 = .ok (.lconst 0, 1) := by decide +kernel
theorem dX5_look_57 : decode cX5_look 57 = .ok (.aload_n 0, 1) := by decide +kernel
theorem dX5_look_58 : decode cX5_look 58 = .ok (.getfield 186, 3) := by decide +kernel
theorem dX5_look_61 : decode cX5_look 61 = .ok (.iload_n 2, 1) := by decide +kernel
theorem dX5_look_62 : decode cX5_look 62 = .ok (.iaload, 1) := by decide +kernel
theorem dX5_look_63 : decode cX5_look 63 = .ok (.i2l, 1) := by decide +kernel
theorem dX5_look_64 : decode cX5_look 64 = .ok (.invokestatic 207, 3) := by decide +kernel
theorem dX5_look_67 : decode cX5_look 67 = .ok (.ifCond .ne 9, 3) := by decide +kernel
theorem dX5_look_70 : decode cX5_look 70 = .ok (.aload_n 0, 1) := by decide +kernel
theorem dX5_look_71 : decode cX5_look 71 = .ok (.iconst 1, 1) := by decide +kernel
theorem dX5_look_72 : decode cX5_look 72 = .ok (.invokevirtual 213, 3) := by decide +kernel
theorem dX5_look_75 : decode cX5_look 75 = .ok (.ireturn, 1) := by decide +kernel
theorem dX5_look_76 : decode cX5_look 76 = .ok (.aload_n 0, 1) := by decide +kernel
theorem dX5_look_77 : decode cX5_look 77 = .ok (.getfield 510, 3) := by decide +kernel
theorem dX5_look_80 : decode cX5_look 80 = .ok (.sipush 500, 3) := by decide +kernel
theorem dX5_look_83 : decode cX5_look 83 = .ok (.if_icmp .ne 9, 3) := by decide +kernel
theorem dX5_look_86 : decode cX5_look 86 = .ok (.aload_n 0, 1) := by decide +kernel
theorem dX5_look_87 : decode cX5_look 87 = .ok (.iconst 2, 1) := by decide +kernel
theorem dX5_look_88 : decode cX5_look 88 = .ok (.invokevirtual 213, 3) := by decide +kernel
theorem dX5_look_91 : decode cX5_look 91 = .ok (.ireturn, 1) := by decide +kernel
theorem dX5_look_92 : decode cX5_look 92 = .ok (.aload_n 0, 1) := by decide +kernel
theorem dX5_look_93 : decode cX5_look 93 = .ok (.getfield 186, 3) := by decide +kernel
theorem dX5_look_96 : decode cX5_look 96 = .ok (.iload_n 2, 1) := by decide +kernel
theorem dX5_look_97 : decode cX5_look 97 = .ok (.iaload, 1) := by decide +kernel
theorem dX5_look_98 : decode cX5_look 98 = .ok (.istore 5, 2) := by decide +kernel
theorem dX5_look_100 : decode cX5_look 100 = .ok (.iconst 0, 1) := by decide +kernel
theorem dX5_look_101 : decode cX5_look 101 = .ok (.istore 6, 2) := by decide +kernel
theorem dX5_look_103 : decode cX5_look 103 = .ok (.iconst 0, 1) := by decide +kernel
theorem dX5_look_104 : decode cX5_look 104 = .ok (.istore 7, 2) := by decide +kernel
theorem dX5_look_106 : decode cX5_look 106 = .ok (.iload 7, 2) := by decide +kernel
theorem dX5_look_108 : decode cX5_look 108 = .ok (.aload_n 0, 1) := by decide +kernel
theorem dX5_look_109 : decode cX5_look 109 = .ok (.getfield 183, 3) := by decide +kernel
theorem dX5_look_112 : decode cX5_look 112 = .ok (.iload_n 2, 1) := by decide +kernel
theorem dX5_look_113 : decode cX5_look 113 = .ok (.iaload, 1) := by decide +kernel
theorem dX5_look_114 : decode cX5_look 114 = .ok (.iload 5, 2) := by decide +kernel
theorem dX5_look_116 : decode cX5_look 116 = .ok (.imul, 1) := by decide +kernel
theorem dX5_look_117 : decode cX5_look 117 = .ok (.if_icmp .ge 66, 3) := by decide +kernel
theorem dX5_look_120 : decode cX5_look 120 = .ok (.iload 6, 2) := by decide +kernel
theorem dX5_look_122 : decode cX5_look 122 = .ok (.iload_n 3, 1) := by decide +kernel
theorem dX5_look_123 : decode cX5_look 123 = .ok (.aload_n 0, 1) := by decide +kernel
theorem dX5_look_124 : decode cX5_look 124 = .ok (.getfield 183, 3) := by decide +kernel
theorem dX5_look_127 : decode cX5_look 127 = .ok (.iload_n 2, 1) := by decide +kernel
theorem dX5_look_128 : decode cX5_look 128 = .ok (.iaload, 1) := by decide +kernel
theorem dX5_look_129 : decode cX5_look 129 = .ok (.if_icmp .eq 12, 3) := by decide +kernel
theorem dX5_look_132 : decode cX5_look 132 = .ok (.iload 7, 2) := by decide +kernel
theorem dX5_look_134 : decode cX5_look 134 = .ok (.iload 5, 2) := by decide +kernel
theorem dX5_look_136 : decode cX5_look 136 = .ok (.idiv, 1) := by decide +kernel
theorem dX5_look_137 : decode cX5_look 137 = .ok (.iload_n 3, 1) := by decide +kernel
theorem dX5_look_138 : decode cX5_look 138 = .ok (.if_icmp .ne 35, 3) := by decide +kernel
theorem dX5_look_141 : decode cX5_look 141 = .ok (.iload 4, 2) := by decide +kernel
theorem dX5_look_143 : decode cX5_look 143 = .ok (.iload 5, 2) := by decide +kernel
theorem dX5_look_145 : decode cX5_look 145 = .ok (.if_icmp .eq 13, 3) := by decide +kernel
theorem dX5_look_148 : decode cX5_look 148 = .ok (.iload 7, 2) := by decide +kernel
theorem dX5_look_150 : decode cX5_look 150 = .ok (.iload 5, 2) := by decide +kernel
theorem dX5_look_152 : decode cX5_look 152 = .ok (.irem, 1) := by decide +kernel
theorem dX5_look_153 : decode cX5_look 153 = .ok (.iload 4, 2) := by decide +kernel
theorem dX5_look_155 : decode cX5_look 155 = .ok (.if_icmp .ne 18, 3) := by decide +kernel
theorem dX5_look_158 : decode cX5_look 158 = .ok (.aload_n 0, 1) := by decide +kernel
theorem dX5_look_159 : decode cX5_look 159 = .ok (.getfield 192, 3) := by decide +kernel
theorem dX5_look_162 : decode cX5_look 162 = .ok (.bipush 12, 2) := by decide +kernel
theorem dX5_look_164 : decode cX5_look 164 = .ok (.iload_n 2, 1) := by decide +kernel
theorem dX5_look_165 : decode cX5_look 165 = .ok (.imul, 1) := by decide +kernel
theorem dX5_look_166 : decode cX5_look 166 = .ok (.iload 7, 2) := by decide +kernel
theorem dX5_look_168 : decode cX5_look 168 = .ok (.iadd, 1) := by decide +kernel
theorem dX5_look_169 : decode cX5_look 169 = .ok (.iaload, 1) := by decide +kernel
theorem dX5_look_170 : decode cX5_look 170 = .ok (.goto 4, 3) := by decide +kernel
theorem dX5_look_173 : decode cX5_look 173 = .ok (.iconst 0, 1) := by decide +kernel
