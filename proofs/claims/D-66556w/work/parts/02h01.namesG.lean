set_option maxRecDepth 100000
theorem dL_law_331 : decode cL_law 331 = .ok (.iadd, 1) := by decide +kernel
theorem dL_law_332 : decode cL_law 332 = .ok (.iaload, 1) := by decide +kernel
theorem dL_law_333 : decode cL_law 333 = .ok (.aload_n 0, 1) := by decide +kernel
theorem dL_law_334 : decode cL_law 334 = .ok (.iload 4, 2) := by decide +kernel
theorem dL_law_336 : decode cL_law 336 = .ok (.iconst 3, 1) := by decide +kernel
theorem dL_law_337 : decode cL_law 337 = .ok (.iadd, 1) := by decide +kernel
theorem dL_law_338 : decode cL_law 338 = .ok (.iaload, 1) := by decide +kernel
theorem dL_law_339 : decode cL_law 339 = .ok (.invokestatic 104, 3) := by decide +kernel
theorem dL_law_342 : decode cL_law 342 = .ok (.istore 5, 2) := by decide +kernel
theorem dL_law_344 : decode cL_law 344 = .ok (.aload_n 2, 1) := by decide +kernel
theorem dL_law_345 : decode cL_law 345 = .ok (.aload_n 0, 1) := by decide +kernel
theorem dL_law_346 : decode cL_law 346 = .ok (.iload 4, 2) := by decide +kernel
theorem dL_law_348 : decode cL_law 348 = .ok (.iconst 1, 1) := by decide +kernel
theorem dL_law_349 : decode cL_law 349 = .ok (.iadd, 1) := by decide +kernel
theorem dL_law_350 : decode cL_law 350 = .ok (.iaload, 1) := by decide +kernel
theorem dL_law_351 : decode cL_law 351 = .ok (.aload_n 0, 1) := by decide +kernel
theorem dL_law_352 : decode cL_law 352 = .ok (.iload 4, 2) := by decide +kernel
theorem dL_law_354 : decode cL_law 354 = .ok (.iconst 2, 1) := by decide +kernel
theorem dL_law_355 : decode cL_law 355 = .ok (.iadd, 1) := by decide +kernel
theorem dL_law_356 : decode cL_law 356 = .ok (.iaload, 1) := by decide +kernel
theorem dL_law_357 : decode cL_law 357 = .ok (.aload_n 0, 1) := by decide +kernel
theorem dL_law_358 : decode cL_law 358 = .ok (.iload 4, 2) := by decide +kernel
theorem dL_law_360 : decode cL_law 360 = .ok (.iconst 3, 1) := by decide +kernel
theorem dL_law_361 : decode cL_law 361 = .ok (.iadd, 1) := by decide +kernel
theorem dL_law_362 : decode cL_law 362 = .ok (.iaload, 1) := by decide +kernel
theorem dL_law_363 : decode cL_law 363 = .ok (.invokevirtual 107, 3) := by decide +kernel
theorem dL_law_366 : decode cL_law 366 = .ok (.aload_n 2, 1) := by decide +kernel
theorem dL_law_367 : decode cL_law 367 = .ok (.invokevirtual 94, 3) := by decide +kernel
theorem dL_law_370 : decode cL_law 370 = .ok (.iload 5, 2) := by decide +kernel
theorem dL_law_372 : decode cL_law 372 = .ok (.if_icmp .eq 5, 3) := by decide +kernel
theorem dL_law_375 : decode cL_law 375 = .ok (.iconst 0, 1) := by decide +kernel
theorem dL_law_376 : decode cL_law 376 = .ok (.ireturn, 1) := by decide +kernel
theorem dL_law_377 : decode cL_law 377 = .ok (.goto 1077, 3) := by decide +kernel
theorem dL_law_380 : decode cL_law 380 = .ok (.aload_n 1, 1) := by decide +kernel
theorem dL_law_381 : decode cL_law 381 = .ok (.aload_n 0, 1) := by decide +kernel
theorem dL_law_382 : decode cL_law 382 = .ok (.iload 4, 2) := by decide +kernel
theorem dL_law_384 : decode cL_law 384 = .ok (.iconst 1, 1) := by decide +kernel
theorem dL_law_385 : decode cL_law 385 = .ok (.iadd, 1) := by decide +kernel
theorem dL_law_386 : decode cL_law 386 = .ok (.iaload, 1) := by decide +kernel
theorem dL_law_387 : decode cL_law 387 = .ok (.aload_n 0, 1) := by decide +kernel
theorem dL_law_388 : decode cL_law 388 = .ok (.iload 4, 2) := by decide +kernel
theorem dL_law_390 : decode cL_law 390 = .ok (.iconst 2, 1) := by decide +kernel
theorem dL_law_391 : decode cL_law 391 = .ok (.iadd, 1) := by decide +kernel
theorem dL_law_392 : decode cL_law 392 = .ok (.iaload, 1) := by decide +kernel
theorem dL_law_393 : decode cL_law 393 = .ok (.aload_n 0, 1) := by decide +kernel
theorem dL_law_394 : decode cL_law 394 = .ok (.iload 4, 2) := by decide +kernel
theorem dL_law_396 : decode cL_law 396 = .ok (.iconst 3, 1) := by decide +kernel
theorem dL_law_397 : decode cL_law 397 = .ok (.iadd, 1) := by decide +kernel
theorem dL_law_398 : decode cL_law 398 = .ok (.iaload, 1) := by decide +kernel
theorem dL_law_399 : decode cL_law 399 = .ok (.invokestatic 108, 3) := by decide +kernel
theorem dL_law_402 : decode cL_law 402 = .ok (.istore 5, 2) := by decide +kernel
theorem dL_law_404 : decode cL_law 404 = .ok (.aload_n 2, 1) := by decide +kernel
theorem dL_law_405 : decode cL_law 405 = .ok (.aload_n 0, 1) := by decide +kernel
theorem dL_law_406 : decode cL_law 406 = .ok (.iload 4, 2) := by decide +kernel
theorem dL_law_408 : decode cL_law 408 = .ok (.iconst 1, 1) := by decide +kernel
theorem dL_law_409 : decode cL_law 409 = .ok (.iadd, 1) := by decide +kernel
theorem dL_law_410 : decode cL_law 410 = .ok (.iaload, 1) := by decide +kernel
theorem dL_law_411 : decode cL_law 411 = .ok (.aload_n 0, 1) := by decide +kernel
theorem dL_law_412 : decode cL_law 412 = .ok (.iload 4, 2) := by decide +kernel
theorem dL_law_414 : decode cL_law 414 = .ok (.iconst 2, 1) := by decide +kernel
theorem dL_law_415 : decode cL_law 415 = .ok (.iadd, 1) := by decide +kernel
theorem dL_law_416 : decode cL_law 416 = .ok (.iaload, 1) := by decide +kernel
theorem dL_law_417 : decode cL_law 417 = .ok (.aload_n 0, 1) := by decide +kernel
theorem dL_law_418 : decode cL_law 418 = .ok (.iload 4, 2) := by decide +kernel
theorem dL_law_420 : decode cL_law 420 = .ok (.iconst 3, 1) := by decide +kernel
theorem dL_law_421 : decode cL_law 421 = .ok (.iadd, 1) := by decide +kernel
theorem dL_law_422 : decode cL_law 422 = .ok (.iaload, 1) := by decide +kernel
theorem dL_law_423 : decode cL_law 423 = .ok (.invokevirtual 110, 3) := by decide +kernel
theorem dL_law_426 : decode cL_law 426 = .ok (.aload_n 2, 1) := by decide +kernel
theorem dL_law_427 : decode cL_law 427 = .ok (.invokevirtual 94, 3) := by decide +kernel
theorem dL_law_430 : decode cL_law 430 = .ok (.iload 5, 2) := by decide +kernel
theorem dL_law_432 : decode cL_law 432 = .ok (.if_icmp .eq 5, 3) := by decide +kernel
theorem dL_law_435 : decode cL_law 435 = .ok (.iconst 0, 1) := by decide +kernel
theorem dL_law_436 : decode cL_law 436 = .ok (.ireturn, 1) := by decide +kernel
theorem dL_law_437 : decode cL_law 437 = .ok (.goto 1017, 3) := by decide +kernel
theorem dL_law_440 : decode cL_law 440 = .ok (.aload_n 1, 1) := by decide +kernel
theorem dL_law_441 : decode cL_law 441 = .ok (.aload_n 0, 1) := by decide +kernel
theorem dL_law_442 : decode cL_law 442 = .ok (.iload 4, 2) := by decide +kernel
theorem dL_law_444 : decode cL_law 444 = .ok (.iconst 1, 1) := by decide +kernel
theorem dL_law_445 : decode cL_law 445 = .ok (.iadd, 1) := by decide +kernel
theorem dL_law_446 : decode cL_law 446 = .ok (.iaload, 1) := by decide +kernel
theorem dL_law_447 : decode cL_law 447 = .ok (.aload_n 3, 1) := by decide +kernel
theorem dL_law_448 : decode cL_law 448 = .ok (.invokestatic 111, 3) := by decide +kernel
theorem dL_law_451 : decode cL_law 451 = .ok (.istore 5, 2) := by decide +kernel
theorem dL_law_453 : decode cL_law 453 = .ok (.aload_n 2, 1) := by decide +kernel
theorem dL_law_454 : decode cL_law 454 = .ok (.aload_n 0, 1) := by decide +kernel
theorem dL_law_455 : decode cL_law 455 = .ok (.iload 4, 2) := by decide +kernel
theorem dL_law_457 : decode cL_law 457 = .ok (.iconst 1, 1) := by decide +kernel
theorem dL_law_458 : decode cL_law 458 = .ok (.iadd, 1) := by decide +kernel
theorem dL_law_459 : decode cL_law 459 = .ok (.iaload, 1) := by decide +kernel
theorem dL_law_460 : decode cL_law 460 = .ok (.invokevirtual 113, 3) := by decide +kernel
theorem dL_law_463 : decode cL_law 463 = .ok (.istore 6, 2) := by decide +kernel
theorem dL_law_465 : decode cL_law 465 = .ok (.aload_n 2, 1) := by decide +kernel
theorem dL_law_466 : decode cL_law 466 = .ok (.invokevirtual 94, 3) := by decide +kernel
theorem dL_law_469 : decode cL_law 469 = .ok (.iload 5, 2) := by decide +kernel
theorem dL_law_471 : decode cL_law 471 = .ok (.if_icmp .eq 5, 3) := by decide +kernel
theorem dL_law_474 : decode cL_law 474 = .ok (.iconst 0, 1) := by decide +kernel
theorem dL_law_475 : decode cL_law 475 = .ok (.ireturn, 1) := by decide +kernel
theorem dL_law_476 : decode cL_law 476 = .ok (.iload 5, 2) := by decide +kernel
theorem dL_law_478 : decode cL_law 478 = .ok (.ifCond .ne 15, 3) := by decide +kernel
theorem dL_law_481 : decode cL_law 481 = .ok (.aload_n 3, 1) := by decide +kernel
theorem dL_law_482 : decode cL_law 482 = .ok (.iconst 0, 1) := by decide +kernel
theorem dL_law_483 : decode cL_law 483 = .ok (.laload, 1) := by decide +kernel
theorem dL_law_484 : decode cL_law 484 = .ok (.iload 6, 2) := by decide +kernel
theorem dL_law_486 : decode cL_law 486 = .ok (.i2l, 1) := by decide +kernel
theorem dL_law_487 : decode cL_law 487 = .ok (.lcmp, 1) := by decide +kernel
theorem dL_law_488 : decode cL_law 488 = .ok (.ifCond .eq 5, 3) := by decide +kernel
theorem dL_law_491 : decode cL_law 491 = .ok (.iconst 0, 1) := by decide +kernel
theorem dL_law_492 : decode cL_law 492 = .ok (.ireturn, 1) := by decide +kernel
theorem dL_law_493 : decode cL_law 493 = .ok (.goto 961, 3) := by decide +kernel
theorem dL_law_496 : decode cL_law 496 = .ok (.aload_n 1, 1) := by decide +kernel
theorem dL_law_497 : decode cL_law 497 = .ok (.aload_n 0, 1) := by decide +kernel
theorem dL_law_498 : decode cL_law 498 = .ok (.iload 4, 2) := by decide +kernel
theorem dL_law_500 : decode cL_law 500 = .ok (.iconst 1, 1) := by decide +kernel
theorem dL_law_501 : decode cL_law 501 = .ok (.iadd, 1) := by decide +kernel
theorem dL_law_502 : decode cL_law 502 = .ok (.iaload, 1) := by decide +kernel
theorem dL_law_503 : decode cL_law 503 = .ok (.aload_n 0, 1) := by decide +kernel
theorem dL_law_504 : decode cL_law 504 = .ok (.iload 4, 2) := by decide +kernel
theorem dL_law_506 : decode cL_law 506 = .ok (.iconst 2, 1) := by decide +kernel
theorem dL_law_507 : decode cL_law 507 = .ok (.iadd, 1) := by decide +kernel
theorem dL_law_508 : decode cL_law 508 = .ok (.iaload, 1) := by decide +kernel
theorem dL_law_509 : decode cL_law 509 = .ok (.aload_n 3, 1) := by decide +kernel
theorem dL_law_510 : decode cL_law 510 = .ok (.invokestatic 114, 3) := by decide +kernel
theorem dL_law_513 : decode cL_law 513 = .ok (.istore 5, 2) := by decide +kernel
theorem dL_law_515 : decode cL_law 515 = .ok (.aload_n 2, 1) := by decide +kernel
theorem dL_law_516 : decode cL_law 516 = .ok (.aload_n 0, 1) := by decide +kernel
theorem dL_law_517 : decode cL_law 517 = .ok (.iload 4, 2) := by decide +kernel
theorem dL_law_519 : decode cL_law 519 = .ok (.iconst 1, 1) := by decide +kernel
theorem dL_law_520 : decode cL_law 520 = .ok (.iadd, 1) := by decide +kernel
theorem dL_law_521 : decode cL_law 521 = .ok (.iaload, 1) := by decide +kernel
theorem dL_law_522 : decode cL_law 522 = .ok (.aload_n 0, 1) := by decide +kernel
theorem dL_law_523 : decode cL_law 523 = .ok (.iload 4, 2) := by decide +kernel
theorem dL_law_525 : decode cL_law 525 = .ok (.iconst 2, 1) := by decide +kernel
theorem dL_law_526 : decode cL_law 526 = .ok (.iadd, 1) := by decide +kernel
theorem dL_law_527 : decode cL_law 527 = .ok (.iaload, 1) := by decide +kernel
theorem dL_law_528 : decode cL_law 528 = .ok (.invokevirtual 116, 3) := by decide +kernel
theorem dL_law_531 : decode cL_law 531 = .ok (.istore 6, 2) := by decide +kernel
theorem dL_law_533 : decode cL_law 533 = .ok (.aload_n 2, 1) := by decide +kernel
theorem dL_law_534 : decode cL_law 534 = .ok (.invokevirtual 94, 3) := by decide +kernel
theorem dL_law_537 : decode cL_law 537 = .ok (.iload 5, 2) := by decide +kernel
theorem dL_law_539 : decode cL_law 539 = .ok (.if_icmp .eq 5, 3) := by decide +kernel
theorem dL_law_542 : decode cL_law 542 = .ok (.iconst 0, 1) := by decide +kernel
theorem dL_law_543 : decode cL_law 543 = .ok (.ireturn, 1) := by decide +kernel
theorem dL_law_544 : decode cL_law 544 = .ok (.iload 5, 2) := by decide +kernel
theorem dL_law_546 : decode cL_law 546 = .ok (.ifCond .ne 15, 3) := by decide +kernel
theorem dL_law_549 : decode cL_law 549 = .ok (.aload_n 3, 1) := by decide +kernel
theorem dL_law_550 : decode cL_law 550 = .ok (.iconst 0, 1) := by decide +kernel
theorem dL_law_551 : decode cL_law 551 = .ok (.laload, 1) := by decide +kernel
theorem dL_law_552 : decode cL_law 552 = .ok (.iload 6, 2) := by decide +kernel
theorem dL_law_554 : decode cL_law 554 = .ok (.i2l, 1) := by decide +kernel
