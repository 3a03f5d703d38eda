theorem d_law_law_320 : decode code 320 = .ok (.iconst 5, 1) := by decide +kernel
theorem d_law_law_321 : decode code 321 = .ok (.iadd, 1) := by decide +kernel
theorem d_law_law_322 : decode code 322 = .ok (.iaload, 1) := by decide +kernel
theorem d_law_law_323 : decode code 323 = .ok (.aload_n 3, 1) := by decide +kernel
theorem d_law_law_324 : decode code 324 = .ok (.invokestatic 104, 3) := by decide +kernel
theorem d_law_law_327 : decode code 327 = .ok (.istore 5, 2) := by decide +kernel
theorem d_law_law_329 : decode code 329 = .ok (.aload_n 2, 1) := by decide +kernel
theorem d_law_law_330 : decode code 330 = .ok (.aload_n 0, 1) := by decide +kernel
theorem d_law_law_331 : decode code 331 = .ok (.iload 4, 2) := by decide +kernel
theorem d_law_law_333 : decode code 333 = .ok (.iconst 1, 1) := by decide +kernel
theorem d_law_law_334 : decode code 334 = .ok (.iadd, 1) := by decide +kernel
theorem d_law_law_335 : decode code 335 = .ok (.iaload, 1) := by decide +kernel
theorem d_law_law_336 : decode code 336 = .ok (.aload_n 0, 1) := by decide +kernel
theorem d_law_law_337 : decode code 337 = .ok (.iload 4, 2) := by decide +kernel
theorem d_law_law_339 : decode code 339 = .ok (.iconst 2, 1) := by decide +kernel
theorem d_law_law_340 : decode code 340 = .ok (.iadd, 1) := by decide +kernel
theorem d_law_law_341 : decode code 341 = .ok (.iaload, 1) := by decide +kernel
theorem d_law_law_342 : decode code 342 = .ok (.aload_n 0, 1) := by decide +kernel
theorem d_law_law_343 : decode code 343 = .ok (.iload 4, 2) := by decide +kernel
theorem d_law_law_345 : decode code 345 = .ok (.iconst 3, 1) := by decide +kernel
theorem d_law_law_346 : decode code 346 = .ok (.iadd, 1) := by decide +kernel
theorem d_law_law_347 : decode code 347 = .ok (.iaload, 1) := by decide +kernel
theorem d_law_law_348 : decode code 348 = .ok (.aload_n 0, 1) := by decide +kernel
theorem d_law_law_349 : decode code 349 = .ok (.iload 4, 2) := by decide +kernel
theorem d_law_law_351 : decode code 351 = .ok (.iconst 4, 1) := by decide +kernel
theorem d_law_law_352 : decode code 352 = .ok (.iadd, 1) := by decide +kernel
theorem d_law_law_353 : decode code 353 = .ok (.iaload, 1) := by decide +kernel
theorem d_law_law_354 : decode code 354 = .ok (.aload_n 0, 1) := by decide +kernel
theorem d_law_law_355 : decode code 355 = .ok (.iload 4, 2) := by decide +kernel
theorem d_law_law_357 : decode code 357 = .ok (.iconst 5, 1) := by decide +kernel
theorem d_law_law_358 : decode code 358 = .ok (.iadd, 1) := by decide +kernel
theorem d_law_law_359 : decode code 359 = .ok (.iaload, 1) := by decide +kernel
theorem d_law_law_360 : decode code 360 = .ok (.invokevirtual 107, 3) := by decide +kernel
theorem d_law_law_363 : decode code 363 = .ok (.lstore 6, 2) := by decide +kernel
theorem d_law_law_365 : decode code 365 = .ok (.aload_n 2, 1) := by decide +kernel
theorem d_law_law_366 : decode code 366 = .ok (.invokevirtual 97, 3) := by decide +kernel
theorem d_law_law_369 : decode code 369 = .ok (.iload 5, 2) := by decide +kernel
theorem d_law_law_371 : decode code 371 = .ok (.if_icmp .eq 5, 3) := by decide +kernel
theorem d_law_law_374 : decode code 374 = .ok (.iconst 0, 1) := by decide +kernel
theorem d_law_law_375 : decode code 375 = .ok (.ireturn, 1) := by decide +kernel
theorem d_law_law_376 : decode code 376 = .ok (.iload 5, 2) := by decide +kernel
theorem d_law_law_378 : decode code 378 = .ok (.ifCond .ne 14, 3) := by decide +kernel
theorem d_law_law_381 : decode code 381 = .ok (.aload_n 3, 1) := by decide +kernel
theorem d_law_law_382 : decode code 382 = .ok (.iconst 0, 1) := by decide +kernel
theorem d_law_law_383 : decode code 383 = .ok (.laload, 1) := by decide +kernel
theorem d_law_law_384 : decode code 384 = .ok (.lload 6, 2) := by decide +kernel
theorem d_law_law_386 : decode code 386 = .ok (.lcmp, 1) := by decide +kernel
theorem d_law_law_387 : decode code 387 = .ok (.ifCond .eq 5, 3) := by decide +kernel
theorem d_law_law_390 : decode code 390 = .ok (.iconst 0, 1) := by decide +kernel
theorem d_law_law_391 : decode code 391 = .ok (.ireturn, 1) := by decide +kernel
theorem d_law_law_392 : decode code 392 = .ok (.goto 1229, 3) := by decide +kernel
theorem d_law_law_395 : decode code 395 = .ok (.aload_n 1, 1) := by decide +kernel
theorem d_law_law_396 : decode code 396 = .ok (.aload_n 0, 1) := by decide +kernel
theorem d_law_law_397 : decode code 397 = .ok (.iload 4, 2) := by decide +kernel
theorem d_law_law_399 : decode code 399 = .ok (.iconst 1, 1) := by decide +kernel
theorem d_law_law_400 : decode code 400 = .ok (.iadd, 1) := by decide +kernel
theorem d_law_law_401 : decode code 401 = .ok (.iaload, 1) := by decide +kernel
theorem d_law_law_402 : decode code 402 = .ok (.aload_n 0, 1) := by decide +kernel
theorem d_law_law_403 : decode code 403 = .ok (.iload 4, 2) := by decide +kernel
theorem d_law_law_405 : decode code 405 = .ok (.iconst 2, 1) := by decide +kernel
theorem d_law_law_406 : decode code 406 = .ok (.iadd, 1) := by decide +kernel
theorem d_law_law_407 : decode code 407 = .ok (.iaload, 1) := by decide +kernel
theorem d_law_law_408 : decode code 408 = .ok (.aload_n 3, 1) := by decide +kernel
theorem d_law_law_409 : decode code 409 = .ok (.invokestatic 108, 3) := by decide +kernel
theorem d_law_law_412 : decode code 412 = .ok (.istore 5, 2) := by decide +kernel
theorem d_law_law_414 : decode code 414 = .ok (.aload_n 2, 1) := by decide +kernel
theorem d_law_law_415 : decode code 415 = .ok (.aload_n 0, 1) := by decide +kernel
theorem d_law_law_416 : decode code 416 = .ok (.iload 4, 2) := by decide +kernel
theorem d_law_law_418 : decode code 418 = .ok (.iconst 1, 1) := by decide +kernel
theorem d_law_law_419 : decode code 419 = .ok (.iadd, 1) := by decide +kernel
theorem d_law_law_420 : decode code 420 = .ok (.iaload, 1) := by decide +kernel
theorem d_law_law_421 : decode code 421 = .ok (.aload_n 0, 1) := by decide +kernel
theorem d_law_law_422 : decode code 422 = .ok (.iload 4, 2) := by decide +kernel
theorem d_law_law_424 : decode code 424 = .ok (.iconst 2, 1) := by decide +kernel
theorem d_law_law_425 : decode code 425 = .ok (.iadd, 1) := by decide +kernel
theorem d_law_law_426 : decode code 426 = .ok (.iaload, 1) := by decide +kernel
theorem d_law_law_427 : decode code 427 = .ok (.invokevirtual 110, 3) := by decide +kernel
theorem d_law_law_430 : decode code 430 = .ok (.istore 6, 2) := by decide +kernel
theorem d_law_law_432 : decode code 432 = .ok (.aload_n 2, 1) := by decide +kernel
theorem d_law_law_433 : decode code 433 = .ok (.invokevirtual 97, 3) := by decide +kernel
theorem d_law_law_436 : decode code 436 = .ok (.iload 5, 2) := by decide +kernel
theorem d_law_law_438 : decode code 438 = .ok (.if_icmp .eq 5, 3) := by decide +kernel
theorem d_law_law_441 : decode code 441 = .ok (.iconst 0, 1) := by decide +kernel
theorem d_law_law_442 : decode code 442 = .ok (.ireturn, 1) := by decide +kernel
theorem d_law_law_443 : decode code 443 = .ok (.iload 5, 2) := by decide +kernel
theorem d_law_law_445 : decode code 445 = .ok (.ifCond .ne 15, 3) := by decide +kernel
theorem d_law_law_448 : decode code 448 = .ok (.aload_n 3, 1) := by decide +kernel
theorem d_law_law_449 : decode code 449 = .ok (.iconst 0, 1) := by decide +kernel
theorem d_law_law_450 : decode code 450 = .ok (.laload, 1) := by decide +kernel
theorem d_law_law_451 : decode code 451 = .ok (.iload 6, 2) := by decide +kernel
theorem d_law_law_453 : decode code 453 = .ok (.i2l, 1) := by decide +kernel
theorem d_law_law_454 : decode code 454 = .ok (.lcmp, 1) := by decide +kernel
theorem d_law_law_455 : decode code 455 = .ok (.ifCond .eq 5, 3) := by decide +kernel
theorem d_law_law_458 : decode code 458 = .ok (.iconst 0, 1) := by decide +kernel
theorem d_law_law_459 : decode code 459 = .ok (.ireturn, 1) := by decide +kernel
theorem d_law_law_460 : decode code 460 = .ok (.goto 1161, 3) := by decide +kernel
theorem d_law_law_463 : decode code 463 = .ok (.aload_n 1, 1) := by decide +kernel
theorem d_law_law_464 : decode code 464 = .ok (.aload_n 0, 1) := by decide +kernel
theorem d_law_law_465 : decode code 465 = .ok (.iload 4, 2) := by decide +kernel
theorem d_law_law_467 : decode code 467 = .ok (.iconst 1, 1) := by decide +kernel
theorem d_law_law_468 : decode code 468 = .ok (.iadd, 1) := by decide +kernel
theorem d_law_law_469 : decode code 469 = .ok (.iaload, 1) := by decide +kernel
theorem d_law_law_470 : decode code 470 = .ok (.aload_n 0, 1) := by decide +kernel
theorem d_law_law_471 : decode code 471 = .ok (.iload 4, 2) := by decide +kernel
theorem d_law_law_473 : decode code 473 = .ok (.iconst 2, 1) := by decide +kernel
theorem d_law_law_474 : decode code 474 = .ok (.iadd, 1) := by decide +kernel
theorem d_law_law_475 : decode code 475 = .ok (.iaload, 1) := by decide +kernel
theorem d_law_law_476 : decode code 476 = .ok (.aload_n 3, 1) := by decide +kernel
theorem d_law_law_477 : decode code 477 = .ok (.invokestatic 111, 3) := by decide +kernel
theorem d_law_law_480 : decode code 480 = .ok (.istore 5, 2) := by decide +kernel
theorem d_law_law_482 : decode code 482 = .ok (.aload_n 2, 1) := by decide +kernel
theorem d_law_law_483 : decode code 483 = .ok (.aload_n 0, 1) := by decide +kernel
theorem d_law_law_484 : decode code 484 = .ok (.iload 4, 2) := by decide +kernel
theorem d_law_law_486 : decode code 486 = .ok (.iconst 1, 1) := by decide +kernel
theorem d_law_law_487 : decode code 487 = .ok (.iadd, 1) := by decide +kernel
theorem d_law_law_488 : decode code 488 = .ok (.iaload, 1) := by decide +kernel
theorem d_law_law_489 : decode code 489 = .ok (.aload_n 0, 1) := by decide +kernel
theorem d_law_law_490 : decode code 490 = .ok (.iload 4, 2) := by decide +kernel
theorem d_law_law_492 : decode code 492 = .ok (.iconst 2, 1) := by decide +kernel
theorem d_law_law_493 : decode code 493 = .ok (.iadd, 1) := by decide +kernel
theorem d_law_law_494 : decode code 494 = .ok (.iaload, 1) := by decide +kernel
theorem d_law_law_495 : decode code 495 = .ok (.invokevirtual 113, 3) := by decide +kernel
theorem d_law_law_498 : decode code 498 = .ok (.istore 6, 2) := by decide +kernel
theorem d_law_law_500 : decode code 500 = .ok (.aload_n 2, 1) := by decide +kernel
theorem d_law_law_501 : decode code 501 = .ok (.invokevirtual 97, 3) := by decide +kernel
theorem d_law_law_504 : decode code 504 = .ok (.iload 5, 2) := by decide +kernel
theorem d_law_law_506 : decode code 506 = .ok (.if_icmp .eq 5, 3) := by decide +kernel
theorem d_law_law_509 : decode code 509 = .ok (.iconst 0, 1) := by decide +kernel
theorem d_law_law_510 : decode code 510 = .ok (.ireturn, 1) := by decide +kernel
theorem d_law_law_511 : decode code 511 = .ok (.iload 5, 2) := by decide +kernel
theorem d_law_law_513 : decode code 513 = .ok (.ifCond .ne 15, 3) := by decide +kernel
theorem d_law_law_516 : decode code 516 = .ok (.aload_n 3, 1) := by decide +kernel
theorem d_law_law_517 : decode code 517 = .ok (.iconst 0, 1) := by decide +kernel
theorem d_law_law_518 : decode code 518 = .ok (.laload, 1) := by decide +kernel
theorem d_law_law_519 : decode code 519 = .ok (.iload 6, 2) := by decide +kernel
theorem d_law_law_521 : decode code 521 = .ok (.i2l, 1) := by decide +kernel
theorem d_law_law_522 : decode code 522 = .ok (.lcmp, 1) := by decide +kernel
theorem d_law_law_523 : decode code 523 = .ok (.ifCond .eq 5, 3) := by decide +kernel
theorem d_law_law_526 : decode code 526 = .ok (.iconst 0, 1) := by decide +kernel
theorem d_law_law_527 : decode code 527 = .ok (.ireturn, 1) := by decide +kernel
theorem d_law_law_528 : decode code 528 = .ok (.goto 1093, 3) := by decide +kernel
theorem d_law_law_531 : decode code 531 = .ok (.aload_n 1, 1) := by decide +kernel
theorem d_law_law_532 : decode code 532 = .ok (.aload_n 0, 1) := by decide +kernel
theorem d_law_law_533 : decode code 533 = .ok (.iload 4, 2) := by decide +kernel
theorem d_law_law_535 : decode code 535 = .ok (.iconst 1, 1) := by decide +kernel
theorem d_law_law_536 : decode code 536 = .ok (.iadd, 1) := by decide +kernel
theorem d_law_law_537 : decode code 537 = .ok (.iaload, 1) := by decide +kernel
theorem d_law_law_538 : decode code 538 = .ok (.aload_n 3, 1) := by decide +kernel
theorem d_law_law_539 : decode code 539 = .ok (.invokestatic 114, 3) := by decide +kernel
theorem d_law_law_542 : decode code 542 = .ok (.istore 5, 2) := by decide +kernel
