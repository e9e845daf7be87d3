set_option maxRecDepth 100000
theorem dL_law_2268 : decode cL_law 2268 = .ok (.iconst 0, 1) := by decide +kernel
theorem dL_law_2269 : decode cL_law 2269 = .ok (.laload, 1) := by decide +kernel
theorem dL_law_2270 : decode cL_law 2270 = .ok (.iload 6, 2) := by decide +kernel
theorem dL_law_2272 : decode cL_law 2272 = .ok (.i2l, 1) := by decide +kernel
theorem dL_law_2273 : decode cL_law 2273 = .ok (.lcmp, 1) := by decide +kernel
theorem dL_law_2274 : decode cL_law 2274 = .ok (.ifCond .eq 5, 3) := by decide +kernel
theorem dL_law_2277 : decode cL_law 2277 = .ok (.iconst 0, 1) := by decide +kernel
theorem dL_law_2278 : decode cL_law 2278 = .ok (.ireturn, 1) := by decide +kernel
theorem dL_law_2279 : decode cL_law 2279 = .ok (.goto 795, 3) := by decide +kernel
theorem dL_law_2282 : decode cL_law 2282 = .ok (.aload_n 1, 1) := by decide +kernel
theorem dL_law_2283 : decode cL_law 2283 = .ok (.aload_n 0, 1) := by decide +kernel
theorem dL_law_2284 : decode cL_law 2284 = .ok (.iload 4, 2) := by decide +kernel
theorem dL_law_2286 : decode cL_law 2286 = .ok (.iconst 1, 1) := by decide +kernel
theorem dL_law_2287 : decode cL_law 2287 = .ok (.iadd, 1) := by decide +kernel
theorem dL_law_2288 : decode cL_law 2288 = .ok (.iaload, 1) := by decide +kernel
theorem dL_law_2289 : decode cL_law 2289 = .ok (.aload_n 0, 1) := by decide +kernel
theorem dL_law_2290 : decode cL_law 2290 = .ok (.iload 4, 2) := by decide +kernel
theorem dL_law_2292 : decode cL_law 2292 = .ok (.iconst 2, 1) := by decide +kernel
theorem dL_law_2293 : decode cL_law 2293 = .ok (.iadd, 1) := by decide +kernel
theorem dL_law_2294 : decode cL_law 2294 = .ok (.iaload, 1) := by decide +kernel
theorem dL_law_2295 : decode cL_law 2295 = .ok (.aload_n 0, 1) := by decide +kernel
theorem dL_law_2296 : decode cL_law 2296 = .ok (.iload 4, 2) := by decide +kernel
theorem dL_law_2298 : decode cL_law 2298 = .ok (.iconst 3, 1) := by decide +kernel
theorem dL_law_2299 : decode cL_law 2299 = .ok (.iadd, 1) := by decide +kernel
theorem dL_law_2300 : decode cL_law 2300 = .ok (.iaload, 1) := by decide +kernel
theorem dL_law_2301 : decode cL_law 2301 = .ok (.aload_n 0, 1) := by decide +kernel
theorem dL_law_2302 : decode cL_law 2302 = .ok (.iload 4, 2) := by decide +kernel
theorem dL_law_2304 : decode cL_law 2304 = .ok (.iconst 4, 1) := by decide +kernel
theorem dL_law_2305 : decode cL_law 2305 = .ok (.iadd, 1) := by decide +kernel
theorem dL_law_2306 : decode cL_law 2306 = .ok (.iaload, 1) := by decide +kernel
theorem dL_law_2307 : decode cL_law 2307 = .ok (.aload_n 3, 1) := by decide +kernel
theorem dL_law_2308 : decode cL_law 2308 = .ok (.invokestatic 243, 3) := by decide +kernel
theorem dL_law_2311 : decode cL_law 2311 = .ok (.istore 5, 2) := by decide +kernel
theorem dL_law_2313 : decode cL_law 2313 = .ok (.aload_n 2, 1) := by decide +kernel
theorem dL_law_2314 : decode cL_law 2314 = .ok (.aload_n 0, 1) := by decide +kernel
theorem dL_law_2315 : decode cL_law 2315 = .ok (.iload 4, 2) := by decide +kernel
theorem dL_law_2317 : decode cL_law 2317 = .ok (.iconst 1, 1) := by decide +kernel
theorem dL_law_2318 : decode cL_law 2318 = .ok (.iadd, 1) := by decide +kernel
theorem dL_law_2319 : decode cL_law 2319 = .ok (.iaload, 1) := by decide +kernel
theorem dL_law_2320 : decode cL_law 2320 = .ok (.aload_n 0, 1) := by decide +kernel
theorem dL_law_2321 : decode cL_law 2321 = .ok (.iload 4, 2) := by decide +kernel
theorem dL_law_2323 : decode cL_law 2323 = .ok (.iconst 2, 1) := by decide +kernel
theorem dL_law_2324 : decode cL_law 2324 = .ok (.iadd, 1) := by decide +kernel
theorem dL_law_2325 : decode cL_law 2325 = .ok (.iaload, 1) := by decide +kernel
theorem dL_law_2326 : decode cL_law 2326 = .ok (.aload_n 0, 1) := by decide +kernel
theorem dL_law_2327 : decode cL_law 2327 = .ok (.iload 4, 2) := by decide +kernel
theorem dL_law_2329 : decode cL_law 2329 = .ok (.iconst 3, 1) := by decide +kernel
theorem dL_law_2330 : decode cL_law 2330 = .ok (.iadd, 1) := by decide +kernel
theorem dL_law_2331 : decode cL_law 2331 = .ok (.iaload, 1) := by decide +kernel
theorem dL_law_2332 : decode cL_law 2332 = .ok (.aload_n 0, 1) := by decide +kernel
theorem dL_law_2333 : decode cL_law 2333 = .ok (.iload 4, 2) := by decide +kernel
theorem dL_law_2335 : decode cL_law 2335 = .ok (.iconst 4, 1) := by decide +kernel
theorem dL_law_2336 : decode cL_law 2336 = .ok (.iadd, 1) := by decide +kernel
theorem dL_law_2337 : decode cL_law 2337 = .ok (.iaload, 1) := by decide +kernel
theorem dL_law_2338 : decode cL_law 2338 = .ok (.invokevirtual 245, 3) := by decide +kernel
theorem dL_law_2341 : decode cL_law 2341 = .ok (.istore 6, 2) := by decide +kernel
theorem dL_law_2343 : decode cL_law 2343 = .ok (.aload_n 2, 1) := by decide +kernel
theorem dL_law_2344 : decode cL_law 2344 = .ok (.invokevirtual 151, 3) := by decide +kernel
theorem dL_law_2347 : decode cL_law 2347 = .ok (.iload 5, 2) := by decide +kernel
theorem dL_law_2349 : decode cL_law 2349 = .ok (.if_icmp .eq 5, 3) := by decide +kernel
theorem dL_law_2352 : decode cL_law 2352 = .ok (.iconst 0, 1) := by decide +kernel
theorem dL_law_2353 : decode cL_law 2353 = .ok (.ireturn, 1) := by decide +kernel
theorem dL_law_2354 : decode cL_law 2354 = .ok (.iload 5, 2) := by decide +kernel
theorem dL_law_2356 : decode cL_law 2356 = .ok (.ifCond .ne 15, 3) := by decide +kernel
theorem dL_law_2359 : decode cL_law 2359 = .ok (.aload_n 3, 1) := by decide +kernel
theorem dL_law_2360 : decode cL_law 2360 = .ok (.iconst 0, 1) := by decide +kernel
theorem dL_law_2361 : decode cL_law 2361 = .ok (.laload, 1) := by decide +kernel
theorem dL_law_2362 : decode cL_law 2362 = .ok (.iload 6, 2) := by decide +kernel
theorem dL_law_2364 : decode cL_law 2364 = .ok (.i2l, 1) := by decide +kernel
theorem dL_law_2365 : decode cL_law 2365 = .ok (.lcmp, 1) := by decide +kernel
theorem dL_law_2366 : decode cL_law 2366 = .ok (.ifCond .eq 5, 3) := by decide +kernel
theorem dL_law_2369 : decode cL_law 2369 = .ok (.iconst 0, 1) := by decide +kernel
theorem dL_law_2370 : decode cL_law 2370 = .ok (.ireturn, 1) := by decide +kernel
theorem dL_law_2371 : decode cL_law 2371 = .ok (.goto 703, 3) := by decide +kernel
theorem dL_law_2374 : decode cL_law 2374 = .ok (.aload_n 1, 1) := by decide +kernel
theorem dL_law_2375 : decode cL_law 2375 = .ok (.aload_n 0, 1) := by decide +kernel
theorem dL_law_2376 : decode cL_law 2376 = .ok (.iload 4, 2) := by decide +kernel
theorem dL_law_2378 : decode cL_law 2378 = .ok (.iconst 1, 1) := by decide +kernel
theorem dL_law_2379 : decode cL_law 2379 = .ok (.iadd, 1) := by decide +kernel
theorem dL_law_2380 : decode cL_law 2380 = .ok (.iaload, 1) := by decide +kernel
theorem dL_law_2381 : decode cL_law 2381 = .ok (.aload_n 0, 1) := by decide +kernel
theorem dL_law_2382 : decode cL_law 2382 = .ok (.iload 4, 2) := by decide +kernel
theorem dL_law_2384 : decode cL_law 2384 = .ok (.iconst 2, 1) := by decide +kernel
theorem dL_law_2385 : decode cL_law 2385 = .ok (.iadd, 1) := by decide +kernel
theorem dL_law_2386 : decode cL_law 2386 = .ok (.iaload, 1) := by decide +kernel
theorem dL_law_2387 : decode cL_law 2387 = .ok (.aload_n 0, 1) := by decide +kernel
theorem dL_law_2388 : decode cL_law 2388 = .ok (.iload 4, 2) := by decide +kernel
theorem dL_law_2390 : decode cL_law 2390 = .ok (.iconst 3, 1) := by decide +kernel
theorem dL_law_2391 : decode cL_law 2391 = .ok (.iadd, 1) := by decide +kernel
theorem dL_law_2392 : decode cL_law 2392 = .ok (.iaload, 1) := by decide +kernel
theorem dL_law_2393 : decode cL_law 2393 = .ok (.aload_n 0, 1) := by decide +kernel
theorem dL_law_2394 : decode cL_law 2394 = .ok (.iload 4, 2) := by decide +kernel
theorem dL_law_2396 : decode cL_law 2396 = .ok (.iconst 4, 1) := by decide +kernel
theorem dL_law_2397 : decode cL_law 2397 = .ok (.iadd, 1) := by decide +kernel
theorem dL_law_2398 : decode cL_law 2398 = .ok (.iaload, 1) := by decide +kernel
theorem dL_law_2399 : decode cL_law 2399 = .ok (.aload_n 3, 1) := by decide +kernel
theorem dL_law_2400 : decode cL_law 2400 = .ok (.invokestatic 246, 3) := by decide +kernel
theorem dL_law_2403 : decode cL_law 2403 = .ok (.istore 5, 2) := by decide +kernel
theorem dL_law_2405 : decode cL_law 2405 = .ok (.aload_n 2, 1) := by decide +kernel
theorem dL_law_2406 : decode cL_law 2406 = .ok (.aload_n 0, 1) := by decide +kernel
theorem dL_law_2407 : decode cL_law 2407 = .ok (.iload 4, 2) := by decide +kernel
theorem dL_law_2409 : decode cL_law 2409 = .ok (.iconst 1, 1) := by decide +kernel
theorem dL_law_2410 : decode cL_law 2410 = .ok (.iadd, 1) := by decide +kernel
theorem dL_law_2411 : decode cL_law 2411 = .ok (.iaload, 1) := by decide +kernel
theorem dL_law_2412 : decode cL_law 2412 = .ok (.aload_n 0, 1) := by decide +kernel
theorem dL_law_2413 : decode cL_law 2413 = .ok (.iload 4, 2) := by decide +kernel
theorem dL_law_2415 : decode cL_law 2415 = .ok (.iconst 2, 1) := by decide +kernel
theorem dL_law_2416 : decode cL_law 2416 = .ok (.iadd, 1) := by decide +kernel
theorem dL_law_2417 : decode cL_law 2417 = .ok (.iaload, 1) := by decide +kernel
theorem dL_law_2418 : decode cL_law 2418 = .ok (.aload_n 0, 1) := by decide +kernel
theorem dL_law_2419 : decode cL_law 2419 = .ok (.iload 4, 2) := by decide +kernel
theorem dL_law_2421 : decode cL_law 2421 = .ok (.iconst 3, 1) := by decide +kernel
theorem dL_law_2422 : decode cL_law 2422 = .ok (.iadd, 1) := by decide +kernel
theorem dL_law_2423 : decode cL_law 2423 = .ok (.iaload, 1) := by decide +kernel
theorem dL_law_2424 : decode cL_law 2424 = .ok (.aload_n 0, 1) := by decide +kernel
theorem dL_law_2425 : decode cL_law 2425 = .ok (.iload 4, 2) := by decide +kernel
theorem dL_law_2427 : decode cL_law 2427 = .ok (.iconst 4, 1) := by decide +kernel
theorem dL_law_2428 : decode cL_law 2428 = .ok (.iadd, 1) := by decide +kernel
theorem dL_law_2429 : decode cL_law 2429 = .ok (.iaload, 1) := by decide +kernel
theorem dL_law_2430 : decode cL_law 2430 = .ok (.invokevirtual 248, 3) := by decide +kernel
theorem dL_law_2433 : decode cL_law 2433 = .ok (.istore 6, 2) := by decide +kernel
theorem dL_law_2435 : decode cL_law 2435 = .ok (.aload_n 2, 1) := by decide +kernel
theorem dL_law_2436 : decode cL_law 2436 = .ok (.invokevirtual 151, 3) := by decide +kernel
theorem dL_law_2439 : decode cL_law 2439 = .ok (.iload 5, 2) := by decide +kernel
theorem dL_law_2441 : decode cL_law 2441 = .ok (.if_icmp .eq 5, 3) := by decide +kernel
theorem dL_law_2444 : decode cL_law 2444 = .ok (.iconst 0, 1) := by decide +kernel
theorem dL_law_2445 : decode cL_law 2445 = .ok (.ireturn, 1) := by decide +kernel
theorem dL_law_2446 : decode cL_law 2446 = .ok (.iload 5, 2) := by decide +kernel
theorem dL_law_2448 : decode cL_law 2448 = .ok (.ifCond .ne 15, 3) := by decide +kernel
theorem dL_law_2451 : decode cL_law 2451 = .ok (.aload_n 3, 1) := by decide +kernel
theorem dL_law_2452 : decode cL_law 2452 = .ok (.iconst 0, 1) := by decide +kernel
theorem dL_law_2453 : decode cL_law 2453 = .ok (.laload, 1) := by decide +kernel
theorem dL_law_2454 : decode cL_law 2454 = .ok (.iload 6, 2) := by decide +kernel
theorem dL_law_2456 : decode cL_law 2456 = .ok (.i2l, 1) := by decide +kernel
theorem dL_law_2457 : decode cL_law 2457 = .ok (.lcmp, 1) := by decide +kernel
theorem dL_law_2458 : decode cL_law 2458 = .ok (.ifCond .eq 5, 3) := by decide +kernel
theorem dL_law_2461 : decode cL_law 2461 = .ok (.iconst 0, 1) := by decide +kernel
theorem dL_law_2462 : decode cL_law 2462 = .ok (.ireturn, 1) := by decide +kernel
theorem dL_law_2463 : decode cL_law 2463 = .ok (.goto 611, 3) := by decide +kernel
theorem dL_law_2466 : decode cL_law 2466 = .ok (.aload_n 1, 1) := by decide +kernel
theorem dL_law_2467 : decode cL_law 2467 = .ok (.aload_n 0, 1) := by decide +kernel
theorem dL_law_2468 : decode cL_law 2468 = .ok (.iload 4, 2) := by decide +kernel
theorem dL_law_2470 : decode cL_law 2470 = .ok (.iconst 1, 1) := by decide +kernel
theorem dL_law_2471 : decode cL_law 2471 = .ok (.iadd, 1) := by decide +kernel
theorem dL_law_2472 : decode cL_law 2472 = .ok (.iaload, 1) := by decide +kernel
theorem dL_law_2473 : decode cL_law 2473 = .ok (.aload_n 0, 1) := by decide +kernel
theorem dL_law_2474 : decode cL_law 2474 = .ok (.iload 4, 2) := by decide +kernel
theorem dL_law_2476 : decode cL_law 2476 = .ok (.iconst 2, 1) := by decide +kernel
theorem dL_law_2477 : decode cL_law 2477 = .ok (.iadd, 1) := by decide +kernel
theorem dL_law_2478 : decode cL_law 2478 = .ok (.iaload, 1) := by decide +kernel
theorem dL_law_2479 : decode cL_law 2479 = .ok (.aload_n 0, 1) := by decide +kernel
theorem dL_law_2480 : decode cL_law 2480 = .ok (.iload 4, 2) := by decide +kernel
theorem dL_law_2482 : decode cL_law 2482 = .ok (.iconst 3, 1) := by decide +kernel
theorem dL_law_2483 : decode cL_law 2483 = .ok (.iadd, 1) := by decide +kernel
theorem dL_law_2484 : decode cL_law 2484 = .ok (.iaload, 1) := by decide +kernel
theorem dL_law_2485 : decode cL_law 2485 = .ok (.aload_n 3, 1) := by decide +kernel
theorem dL_law_2486 : decode cL_law 2486 = .ok (.invokestatic 249, 3) := by decide +kernel
theorem dL_law_2489 : decode cL_law 2489 = .ok (.istore 5, 2) := by decide +kernel
theorem dL_law_2491 : decode cL_law 2491 = .ok (.aload_n 2, 1) := by decide +kernel
theorem dL_law_2492 : decode cL_law 2492 = .ok (.aload_n 0, 1) := by decide +kernel
theorem dL_law_2493 : decode cL_law 2493 = .ok (.iload 4, 2) := by decide +kernel
theorem dL_law_2495 : decode cL_law 2495 = .ok (.iconst 1, 1) := by decide +kernel
theorem dL_law_2496 : decode cL_law 2496 = .ok (.iadd, 1) := by decide +kernel
theorem dL_law_2497 : decode cL_law 2497 = .ok (.iaload, 1) := by decide +kernel
theorem dL_law_2498 : decode cL_law 2498 = .ok (.aload_n 0, 1) := by decide +kernel
theorem dL_law_2499 : decode cL_law 2499 = .ok (.iload 4, 2) := by decide +kernel
theorem dL_law_2501 : decode cL_law 2501 = .ok (.iconst 2, 1) := by decide +kernel
theorem dL_law_2502 : decode cL_law 2502 = .ok (.iadd, 1) := by decide +kernel
theorem dL_law_2503 : decode cL_law 2503 = .ok (.iaload, 1) := by decide +kernel
theorem dL_law_2504 : decode cL_law 2504 = .ok (.aload_n 0, 1) := by decide +kernel
theorem dL_law_2505 : decode cL_law 2505 = .ok (.iload 4, 2) := by decide +kernel
theorem dL_law_2507 : decode cL_law 2507 = .ok (.iconst 3, 1) := by decide +kernel
theorem dL_law_2508 : decode cL_law 2508 = .ok (.iadd, 1) := by decide +kernel
theorem dL_law_2509 : decode cL_law 2509 = .ok (.iaload, 1) := by decide +kernel
theorem dL_law_2510 : decode cL_law 2510 = .ok (.invokevirtual 251, 3) := by decide +kernel
theorem dL_law_2513 : decode cL_law 2513 = .ok (.istore 6, 2) := by decide +kernel
theorem dL_law_2515 : decode cL_law 2515 = .ok (.aload_n 2, 1) := by decide +kernel
theorem dL_law_2516 : decode cL_law 2516 = .ok (.invokevirtual 151, 3) := by decide +kernel
theorem dL_law_2519 : decode cL_law 2519 = .ok (.iload 5, 2) := by decide +kernel
theorem dL_law_2521 : decode cL_law 2521 = .ok (.if_icmp .eq 5, 3) := by decide +kernel
theorem dL_law_2524 : decode cL_law 2524 = .ok (.iconst 0, 1) := by decide +kernel
theorem dL_law_2525 : decode cL_law 2525 = .ok (.ireturn, 1) := by decide +kernel
theorem dL_law_2526 : decode cL_law 2526 = .ok (.iload 5, 2) := by decide +kernel
theorem dL_law_2528 : decode cL_law 2528 = .ok (.ifCond .ne 15, 3) := by decide +kernel
theorem dL_law_2531 : decode cL_law 2531 = .ok (.aload_n 3, 1) := by decide +kernel
theorem dL_law_2532 : decode cL_law 2532 = .ok (.iconst 0, 1) := by decide +kernel
theorem dL_law_2533 : decode cL_law 2533 = .ok (.laload, 1) := by decide +kernel
theorem dL_law_2534 : decode cL_law 2534 = .ok (.iload 6, 2) := by decide +kernel
theorem dL_law_2536 : decode cL_law 2536 = .ok (.i2l, 1) := by decide +kernel
theorem dL_law_2537 : decode cL_law 2537 = .ok (.lcmp, 1) := by decide +kernel
theorem dL_law_2538 : decode cL_law 2538 = .ok (.ifCond .eq 5, 3) := by decide +kernel
theorem dL_law_2541 : decode cL_law 2541 = .ok (.iconst 0, 1) := by decide +kernel
theorem dL_law_2542 : decode cL_law 2542 = .ok (.ireturn, 1) := by decide +kernel
theorem dL_law_2543 : decode cL_law 2543 = .ok (.goto 531, 3) := by decide +kernel
theorem dL_law_2546 : decode cL_law 2546 = .ok (.aload_n 1, 1) := by decide +kernel
theorem dL_law_2547 : decode cL_law 2547 = .ok (.aload_n 0, 1) := by decide +kernel
theorem dL_law_2548 : decode cL_law 2548 = .ok (.iload 4, 2) := by decide +kernel
theorem dL_law_2550 : decode cL_law 2550 = .ok (.iconst 1, 1) := by decide +kernel
theorem dL_law_2551 : decode cL_law 2551 = .ok (.iadd, 1) := by decide +kernel
theorem dL_law_2552 : decode cL_law 2552 = .ok (.iaload, 1) := by decide +kernel
theorem dL_law_2553 : decode cL_law 2553 = .ok (.aload_n 0, 1) := by decide +kernel
theorem dL_law_2554 : decode cL_law 2554 = .ok (.iload 4, 2) := by decide +kernel
theorem dL_law_2556 : decode cL_law 2556 = .ok (.iconst 2, 1) := by decide +kernel
theorem dL_law_2557 : decode cL_law 2557 = .ok (.iadd, 1) := by decide +kernel
theorem dL_law_2558 : decode cL_law 2558 = .ok (.iaload, 1) := by decide +kernel
theorem dL_law_2559 : decode cL_law 2559 = .ok (.aload_n 0, 1) := by decide +kernel
theorem dL_law_2560 : decode cL_law 2560 = .ok (.iload 4, 2) := by decide +kernel
theorem dL_law_2562 : decode cL_law 2562 = .ok (.iconst 3, 1) := by decide +kernel
theorem dL_law_2563 : decode cL_law 2563 = .ok (.iadd, 1) := by decide +kernel
theorem dL_law_2564 : decode cL_law 2564 = .ok (.iaload, 1) := by decide +kernel
theorem dL_law_2565 : decode cL_law 2565 = .ok (.aload_n 0, 1) := by decide +kernel
theorem dL_law_2566 : decode cL_law 2566 = .ok (.iload 4, 2) := by decide +kernel
theorem dL_law_2568 : decode cL_law 2568 = .ok (.iconst 4, 1) := by decide +kernel
theorem dL_law_2569 : decode cL_law 2569 = .ok (.iadd, 1) := by decide +kernel
theorem dL_law_2570 : decode cL_law 2570 = .ok (.iaload, 1) := by decide +kernel
theorem dL_law_2571 : decode cL_law 2571 = .ok (.ifCond .eq 7, 3) := by decide +kernel
theorem dL_law_2574 : decode cL_law 2574 = .ok (.iconst 1, 1) := by decide +kernel
theorem dL_law_2575 : decode cL_law 2575 = .ok (.goto 4, 3) := by decide +kernel
theorem dL_law_2578 : decode cL_law 2578 = .ok (.iconst 0, 1) := by decide +kernel
theorem dL_law_2579 : decode cL_law 2579 = .ok (.aload_n 3, 1) := by decide +kernel
theorem dL_law_2580 : decode cL_law 2580 = .ok (.invokestatic 252, 3) := by decide +kernel
theorem dL_law_2583 : decode cL_law 2583 = .ok (.istore 5, 2) := by decide +kernel
theorem dL_law_2585 : decode cL_law 2585 = .ok (.aload_n 2, 1) := by decide +kernel
theorem dL_law_2586 : decode cL_law 2586 = .ok (.aload_n 0, 1) := by decide +kernel
theorem dL_law_2587 : decode cL_law 2587 = .ok (.iload 4, 2) := by decide +kernel
theorem dL_law_2589 : decode cL_law 2589 = .ok (.iconst 1, 1) := by decide +kernel
theorem dL_law_2590 : decode cL_law 2590 = .ok (.iadd, 1) := by decide +kernel
theorem dL_law_2591 : decode cL_law 2591 = .ok (.iaload, 1) := by decide +kernel
theorem dL_law_2592 : decode cL_law 2592 = .ok (.aload_n 0, 1) := by decide +kernel
theorem dL_law_2593 : decode cL_law 2593 = .ok (.iload 4, 2) := by decide +kernel
theorem dL_law_2595 : decode cL_law 2595 = .ok (.iconst 2, 1) := by decide +kernel
theorem dL_law_2596 : decode cL_law 2596 = .ok (.iadd, 1) := by decide +kernel
theorem dL_law_2597 : decode cL_law 2597 = .ok (.iaload, 1) := by decide +kernel
theorem dL_law_2598 : decode cL_law 2598 = .ok (.aload_n 0, 1) := by decide +kernel
theorem dL_law_2599 : decode cL_law 2599 = .ok (.iload 4, 2) := by decide +kernel
theorem dL_law_2601 : decode cL_law 2601 = .ok (.iconst 3, 1) := by decide +kernel
theorem dL_law_2602 : decode cL_law 2602 = .ok (.iadd, 1) := by decide +kernel
theorem dL_law_2603 : decode cL_law 2603 = .ok (.iaload, 1) := by decide +kernel
theorem dL_law_2604 : decode cL_law 2604 = .ok (.aload_n 0, 1) := by decide +kernel
theorem dL_law_2605 : decode cL_law 2605 = .ok (.iload 4, 2) := by decide +kernel
theorem dL_law_2607 : decode cL_law 2607 = .ok (.iconst 4, 1) := by decide +kernel
theorem dL_law_2608 : decode cL_law 2608 = .ok (.iadd, 1) := by decide +kernel
theorem dL_law_2609 : decode cL_law 2609 = .ok (.iaload, 1) := by decide +kernel
theorem dL_law_2610 : decode cL_law 2610 = .ok (.ifCond .eq 7, 3) := by decide +kernel
theorem dL_law_2613 : decode cL_law 2613 = .ok (.iconst 1, 1) := by decide +kernel
theorem dL_law_2614 : decode cL_law 2614 = .ok (.goto 4, 3) := by decide +kernel
theorem dL_law_2617 : decode cL_law 2617 = .ok (.iconst 0, 1) := by decide +kernel
theorem dL_law_2618 : decode cL_law 2618 = .ok (.invokevirtual 255, 3) := by decide +kernel
theorem dL_law_2621 : decode cL_law 2621 = .ok (.istore 6, 2) := by decide +kernel
theorem dL_law_2623 : decode cL_law 2623 = .ok (.aload_n 2, 1) := by decide +kernel
theorem dL_law_2624 : decode cL_law 2624 = .ok (.invokevirtual 151, 3) := by decide +kernel
theorem dL_law_2627 : decode cL_law 2627 = .ok (.iload 5, 2) := by decide +kernel
theorem dL_law_2629 : decode cL_law 2629 = .ok (.if_icmp .eq 5, 3) := by decide +kernel
theorem dL_law_2632 : decode cL_law 2632 = .ok (.iconst 0, 1) := by decide +kernel
theorem dL_law_2633 : decode cL_law 2633 = .ok (.ireturn, 1) := by decide +kernel
theorem dL_law_2634 : decode cL_law 2634 = .ok (.iload 5, 2) := by decide +kernel
theorem dL_law_2636 : decode cL_law 2636 = .ok (.ifCond .ne 15, 3) := by decide +kernel
theorem dL_law_2639 : decode cL_law 2639 = .ok (.aload_n 3, 1) := by decide +kernel
theorem dL_law_2640 : decode cL_law 2640 = .ok (.iconst 0, 1) := by decide +kernel
theorem dL_law_2641 : decode cL_law 2641 = .ok (.laload, 1) := by decide +kernel
theorem dL_law_2642 : decode cL_law 2642 = .ok (.iload 6, 2) := by decide +kernel
theorem dL_law_2644 : decode cL_law 2644 = .ok (.i2l, 1) := by decide +kernel
theorem dL_law_2645 : decode cL_law 2645 = .ok (.lcmp, 1) := by decide +kernel
theorem dL_law_2646 : decode cL_law 2646 = .ok (.ifCond .eq 5, 3) := by decide +kernel
theorem dL_law_2649 : decode cL_law 2649 = .ok (.iconst 0, 1) := by decide +kernel
theorem dL_law_2650 : decode cL_law 2650 = .ok (.ireturn, 1) := by decide +kernel
theorem dL_law_2651 : decode cL_law 2651 = .ok (.goto 423, 3) := by decide +kernel
theorem dL_law_2654 : decode cL_law 2654 = .ok (.aload_n 1, 1) := by decide +kernel
theorem dL_law_2655 : decode cL_law 2655 = .ok (.aload_n 0, 1) := by decide +kernel
theorem dL_law_2656 : decode cL_law 2656 = .ok (.iload 4, 2) := by decide +kernel
theorem dL_law_2658 : decode cL_law 2658 = .ok (.iconst 1, 1) := by decide +kernel
theorem dL_law_2659 : decode cL_law 2659 = .ok (.iadd, 1) := by decide +kernel
theorem dL_law_2660 : decode cL_law 2660 = .ok (.iaload, 1) := by decide +kernel
theorem dL_law_2661 : decode cL_law 2661 = .ok (.aload_n 0, 1) := by decide +kernel
theorem dL_law_2662 : decode cL_law 2662 = .ok (.iload 4, 2) := by decide +kernel
theorem dL_law_2664 : decode cL_law 2664 = .ok (.iconst 2, 1) := by decide +kernel
theorem dL_law_2665 : decode cL_law 2665 = .ok (.iadd, 1) := by decide +kernel
theorem dL_law_2666 : decode cL_law 2666 = .ok (.iaload, 1) := by decide +kernel
theorem dL_law_2667 : decode cL_law 2667 = .ok (.aload_n 3, 1) := by decide +kernel
theorem dL_law_2668 : decode cL_law 2668 = .ok (.invokestatic 256, 3) := by decide +kernel
