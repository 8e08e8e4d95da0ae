set_option maxRecDepth 100000
theorem dL_law_249 : decode cL_law 249 = .ok (.i2c, 1) := by decide +kernel
theorem dL_law_250 : decode cL_law 250 = .ok (.invokevirtual 58, 3) := by decide +kernel
theorem dL_law_253 : decode cL_law 253 = .ok (.istore 6, 2) := by decide +kernel
theorem dL_law_255 : decode cL_law 255 = .ok (.aload_n 2, 1) := by decide +kernel
theorem dL_law_256 : decode cL_law 256 = .ok (.invokevirtual 45, 3) := by decide +kernel
theorem dL_law_259 : decode cL_law 259 = .ok (.iload 5, 2) := by decide +kernel
theorem dL_law_261 : decode cL_law 261 = .ok (.if_icmp .eq 5, 3) := by decide +kernel
theorem dL_law_264 : decode cL_law 264 = .ok (.iconst 0, 1) := by decide +kernel
theorem dL_law_265 : decode cL_law 265 = .ok (.ireturn, 1) := by decide +kernel
theorem dL_law_266 : decode cL_law 266 = .ok (.iload 5, 2) := by decide +kernel
theorem dL_law_268 : decode cL_law 268 = .ok (.ifCond .ne 15, 3) := by decide +kernel
theorem dL_law_271 : decode cL_law 271 = .ok (.aload_n 3, 1) := by decide +kernel
theorem dL_law_272 : decode cL_law 272 = .ok (.iconst 0, 1) := by decide +kernel
theorem dL_law_273 : decode cL_law 273 = .ok (.laload, 1) := by decide +kernel
theorem dL_law_274 : decode cL_law 274 = .ok (.iload 6, 2) := by decide +kernel
theorem dL_law_276 : decode cL_law 276 = .ok (.i2l, 1) := by decide +kernel
theorem dL_law_277 : decode cL_law 277 = .ok (.lcmp, 1) := by decide +kernel
theorem dL_law_278 : decode cL_law 278 = .ok (.ifCond .eq 5, 3) := by decide +kernel
theorem dL_law_281 : decode cL_law 281 = .ok (.iconst 0, 1) := by decide +kernel
theorem dL_law_282 : decode cL_law 282 = .ok (.ireturn, 1) := by decide +kernel
theorem dL_law_283 : decode cL_law 283 = .ok (.goto 247, 3) := by decide +kernel
theorem dL_law_286 : decode cL_law 286 = .ok (.aload_n 1, 1) := by decide +kernel
theorem dL_law_287 : decode cL_law 287 = .ok (.aload_n 0, 1) := by decide +kernel
theorem dL_law_288 : decode cL_law 288 = .ok (.iload 4, 2) := by decide +kernel
theorem dL_law_290 : decode cL_law 290 = .ok (.iconst 1, 1) := by decide +kernel
theorem dL_law_291 : decode cL_law 291 = .ok (.iadd, 1) := by decide +kernel
theorem dL_law_292 : decode cL_law 292 = .ok (.iaload, 1) := by decide +kernel
theorem dL_law_293 : decode cL_law 293 = .ok (.aload_n 3, 1) := by decide +kernel
theorem dL_law_294 : decode cL_law 294 = .ok (.invokestatic 59, 3) := by decide +kernel
theorem dL_law_297 : decode cL_law 297 = .ok (.istore 5, 2) := by decide +kernel
theorem dL_law_299 : decode cL_law 299 = .ok (.aload_n 2, 1) := by decide +kernel
theorem dL_law_300 : decode cL_law 300 = .ok (.aload_n 0, 1) := by decide +kernel
theorem dL_law_301 : decode cL_law 301 = .ok (.iload 4, 2) := by decide +kernel
theorem dL_law_303 : decode cL_law 303 = .ok (.iconst 1, 1) := by decide +kernel
theorem dL_law_304 : decode cL_law 304 = .ok (.iadd, 1) := by decide +kernel
theorem dL_law_305 : decode cL_law 305 = .ok (.iaload, 1) := by decide +kernel
theorem dL_law_306 : decode cL_law 306 = .ok (.invokevirtual 62, 3) := by decide +kernel
theorem dL_law_309 : decode cL_law 309 = .ok (.istore 6, 2) := by decide +kernel
theorem dL_law_311 : decode cL_law 311 = .ok (.aload_n 2, 1) := by decide +kernel
theorem dL_law_312 : decode cL_law 312 = .ok (.invokevirtual 45, 3) := by decide +kernel
theorem dL_law_315 : decode cL_law 315 = .ok (.iload 5, 2) := by decide +kernel
theorem dL_law_317 : decode cL_law 317 = .ok (.if_icmp .eq 5, 3) := by decide +kernel
theorem dL_law_320 : decode cL_law 320 = .ok (.iconst 0, 1) := by decide +kernel
theorem dL_law_321 : decode cL_law 321 = .ok (.ireturn, 1) := by decide +kernel
theorem dL_law_322 : decode cL_law 322 = .ok (.iload 5, 2) := by decide +kernel
theorem dL_law_324 : decode cL_law 324 = .ok (.ifCond .ne 15, 3) := by decide +kernel
theorem dL_law_327 : decode cL_law 327 = .ok (.aload_n 3, 1) := by decide +kernel
theorem dL_law_328 : decode cL_law 328 = .ok (.iconst 0, 1) := by decide +kernel
theorem dL_law_329 : decode cL_law 329 = .ok (.laload, 1) := by decide +kernel
theorem dL_law_330 : decode cL_law 330 = .ok (.iload 6, 2) := by decide +kernel
theorem dL_law_332 : decode cL_law 332 = .ok (.i2l, 1) := by decide +kernel
theorem dL_law_333 : decode cL_law 333 = .ok (.lcmp, 1) := by decide +kernel
theorem dL_law_334 : decode cL_law 334 = .ok (.ifCond .eq 5, 3) := by decide +kernel
theorem dL_law_337 : decode cL_law 337 = .ok (.iconst 0, 1) := by decide +kernel
theorem dL_law_338 : decode cL_law 338 = .ok (.ireturn, 1) := by decide +kernel
theorem dL_law_339 : decode cL_law 339 = .ok (.goto 191, 3) := by decide +kernel
theorem dL_law_342 : decode cL_law 342 = .ok (.aload_n 1, 1) := by decide +kernel
theorem dL_law_343 : decode cL_law 343 = .ok (.invokevirtual 63, 3) := by decide +kernel
theorem dL_law_346 : decode cL_law 346 = .ok (.aload_n 2, 1) := by decide +kernel
theorem dL_law_347 : decode cL_law 347 = .ok (.invokevirtual 67, 3) := by decide +kernel
theorem dL_law_350 : decode cL_law 350 = .ok (.if_icmp .eq 180, 3) := by decide +kernel
theorem dL_law_353 : decode cL_law 353 = .ok (.iconst 0, 1) := by decide +kernel
theorem dL_law_354 : decode cL_law 354 = .ok (.ireturn, 1) := by decide +kernel
theorem dL_law_355 : decode cL_law 355 = .ok (.aload_n 1, 1) := by decide +kernel
theorem dL_law_356 : decode cL_law 356 = .ok (.aload_n 0, 1) := by decide +kernel
theorem dL_law_357 : decode cL_law 357 = .ok (.iload 4, 2) := by decide +kernel
theorem dL_law_359 : decode cL_law 359 = .ok (.iconst 1, 1) := by decide +kernel
theorem dL_law_360 : decode cL_law 360 = .ok (.iadd, 1) := by decide +kernel
theorem dL_law_361 : decode cL_law 361 = .ok (.iaload, 1) := by decide +kernel
theorem dL_law_362 : decode cL_law 362 = .ok (.i2c, 1) := by decide +kernel
theorem dL_law_363 : decode cL_law 363 = .ok (.invokevirtual 68, 3) := by decide +kernel
theorem dL_law_366 : decode cL_law 366 = .ok (.aload_n 2, 1) := by decide +kernel
theorem dL_law_367 : decode cL_law 367 = .ok (.aload_n 0, 1) := by decide +kernel
theorem dL_law_368 : decode cL_law 368 = .ok (.iload 4, 2) := by decide +kernel
theorem dL_law_370 : decode cL_law 370 = .ok (.iconst 1, 1) := by decide +kernel
theorem dL_law_371 : decode cL_law 371 = .ok (.iadd, 1) := by decide +kernel
theorem dL_law_372 : decode cL_law 372 = .ok (.iaload, 1) := by decide +kernel
theorem dL_law_373 : decode cL_law 373 = .ok (.i2c, 1) := by decide +kernel
theorem dL_law_374 : decode cL_law 374 = .ok (.invokevirtual 71, 3) := by decide +kernel
theorem dL_law_377 : decode cL_law 377 = .ok (.if_icmp .eq 153, 3) := by decide +kernel
theorem dL_law_380 : decode cL_law 380 = .ok (.iconst 0, 1) := by decide +kernel
theorem dL_law_381 : decode cL_law 381 = .ok (.ireturn, 1) := by decide +kernel
theorem dL_law_382 : decode cL_law 382 = .ok (.aload_n 1, 1) := by decide +kernel
theorem dL_law_383 : decode cL_law 383 = .ok (.aload_n 0, 1) := by decide +kernel
theorem dL_law_384 : decode cL_law 384 = .ok (.iload 4, 2) := by decide +kernel
theorem dL_law_386 : decode cL_law 386 = .ok (.iconst 1, 1) := by decide +kernel
theorem dL_law_387 : decode cL_law 387 = .ok (.iadd, 1) := by decide +kernel
theorem dL_law_388 : decode cL_law 388 = .ok (.iaload, 1) := by decide +kernel
theorem dL_law_389 : decode cL_law 389 = .ok (.i2c, 1) := by decide +kernel
theorem dL_law_390 : decode cL_law 390 = .ok (.invokevirtual 72, 3) := by decide +kernel
theorem dL_law_393 : decode cL_law 393 = .ok (.dstore 5, 2) := by decide +kernel
theorem dL_law_395 : decode cL_law 395 = .ok (.aload_n 2, 1) := by decide +kernel
theorem dL_law_396 : decode cL_law 396 = .ok (.aload_n 0, 1) := by decide +kernel
theorem dL_law_397 : decode cL_law 397 = .ok (.iload 4, 2) := by decide +kernel
theorem dL_law_399 : decode cL_law 399 = .ok (.iconst 1, 1) := by decide +kernel
theorem dL_law_400 : decode cL_law 400 = .ok (.iadd, 1) := by decide +kernel
theorem dL_law_401 : decode cL_law 401 = .ok (.iaload, 1) := by decide +kernel
theorem dL_law_402 : decode cL_law 402 = .ok (.i2c, 1) := by decide +kernel
theorem dL_law_403 : decode cL_law 403 = .ok (.invokevirtual 76, 3) := by decide +kernel
theorem dL_law_406 : decode cL_law 406 = .ok (.dstore 7, 2) := by decide +kernel
theorem dL_law_408 : decode cL_law 408 = .ok (.dload 5, 2) := by decide +kernel
theorem dL_law_410 : decode cL_law 410 = .ok (.dload 7, 2) := by decide +kernel
theorem dL_law_412 : decode cL_law 412 = .ok (.dcmp .l, 1) := by decide +kernel
theorem dL_law_413 : decode cL_law 413 = .ok (.ifCond .eq 21, 3) := by decide +kernel
theorem dL_law_416 : decode cL_law 416 = .ok (.dload 5, 2) := by decide +kernel
theorem dL_law_418 : decode cL_law 418 = .ok (.dload 5, 2) := by decide +kernel
theorem dL_law_420 : decode cL_law 420 = .ok (.dcmp .l, 1) := by decide +kernel
theorem dL_law_421 : decode cL_law 421 = .ok (.ifCond .eq 11, 3) := by decide +kernel
theorem dL_law_424 : decode cL_law 424 = .ok (.dload 7, 2) := by decide +kernel
theorem dL_law_426 : decode cL_law 426 = .ok (.dload 7, 2) := by decide +kernel
theorem dL_law_428 : decode cL_law 428 = .ok (.dcmp .l, 1) := by decide +kernel
theorem dL_law_429 : decode cL_law 429 = .ok (.ifCond .ne 5, 3) := by decide +kernel
theorem dL_law_432 : decode cL_law 432 = .ok (.iconst 0, 1) := by decide +kernel
theorem dL_law_433 : decode cL_law 433 = .ok (.ireturn, 1) := by decide +kernel
theorem dL_law_434 : decode cL_law 434 = .ok (.goto 96, 3) := by decide +kernel
theorem dL_law_437 : decode cL_law 437 = .ok (.aload_n 1, 1) := by decide +kernel
theorem dL_law_438 : decode cL_law 438 = .ok (.invokevirtual 77, 3) := by decide +kernel
theorem dL_law_441 : decode cL_law 441 = .ok (.aload_n 2, 1) := by decide +kernel
theorem dL_law_442 : decode cL_law 442 = .ok (.invokevirtual 80, 3) := by decide +kernel
theorem dL_law_445 : decode cL_law 445 = .ok (.if_icmp .eq 85, 3) := by decide +kernel
theorem dL_law_448 : decode cL_law 448 = .ok (.iconst 0, 1) := by decide +kernel
theorem dL_law_449 : decode cL_law 449 = .ok (.ireturn, 1) := by decide +kernel
theorem dL_law_450 : decode cL_law 450 = .ok (.aload_n 1, 1) := by decide +kernel
theorem dL_law_451 : decode cL_law 451 = .ok (.aload_n 0, 1) := by decide +kernel
theorem dL_law_452 : decode cL_law 452 = .ok (.iload 4, 2) := by decide +kernel
theorem dL_law_454 : decode cL_law 454 = .ok (.iconst 1, 1) := by decide +kernel
theorem dL_law_455 : decode cL_law 455 = .ok (.iadd, 1) := by decide +kernel
theorem dL_law_456 : decode cL_law 456 = .ok (.iaload, 1) := by decide +kernel
theorem dL_law_457 : decode cL_law 457 = .ok (.invokevirtual 81, 3) := by decide +kernel
theorem dL_law_460 : decode cL_law 460 = .ok (.aload_n 2, 1) := by decide +kernel
theorem dL_law_461 : decode cL_law 461 = .ok (.aload_n 0, 1) := by decide +kernel
theorem dL_law_462 : decode cL_law 462 = .ok (.iload 4, 2) := by decide +kernel
theorem dL_law_464 : decode cL_law 464 = .ok (.iconst 1, 1) := by decide +kernel
theorem dL_law_465 : decode cL_law 465 = .ok (.iadd, 1) := by decide +kernel
theorem dL_law_466 : decode cL_law 466 = .ok (.iaload, 1) := by decide +kernel
theorem dL_law_467 : decode cL_law 467 = .ok (.invokevirtual 84, 3) := by decide +kernel
theorem dL_law_470 : decode cL_law 470 = .ok (.if_icmp .eq 60, 3) := by decide +kernel
theorem dL_law_473 : decode cL_law 473 = .ok (.iconst 0, 1) := by decide +kernel
theorem dL_law_474 : decode cL_law 474 = .ok (.ireturn, 1) := by decide +kernel
theorem dL_law_475 : decode cL_law 475 = .ok (.aload_n 1, 1) := by decide +kernel
theorem dL_law_476 : decode cL_law 476 = .ok (.aload_n 0, 1) := by decide +kernel
theorem dL_law_477 : decode cL_law 477 = .ok (.iload 4, 2) := by decide +kernel
theorem dL_law_479 : decode cL_law 479 = .ok (.iconst 1, 1) := by decide +kernel
theorem dL_law_480 : decode cL_law 480 = .ok (.iadd, 1) := by decide +kernel
theorem dL_law_481 : decode cL_law 481 = .ok (.iaload, 1) := by decide +kernel
theorem dL_law_482 : decode cL_law 482 = .ok (.i2c, 1) := by decide +kernel
theorem dL_law_483 : decode cL_law 483 = .ok (.aload_n 0, 1) := by decide +kernel
theorem dL_law_484 : decode cL_law 484 = .ok (.iload 4, 2) := by decide +kernel
theorem dL_law_486 : decode cL_law 486 = .ok (.iconst 2, 1) := by decide +kernel
theorem dL_law_487 : decode cL_law 487 = .ok (.iadd, 1) := by decide +kernel
theorem dL_law_488 : decode cL_law 488 = .ok (.iaload, 1) := by decide +kernel
theorem dL_law_489 : decode cL_law 489 = .ok (.ifCond .eq 7, 3) := by decide +kernel
theorem dL_law_492 : decode cL_law 492 = .ok (.iconst 1, 1) := by decide +kernel
theorem dL_law_493 : decode cL_law 493 = .ok (.goto 4, 3) := by decide +kernel
theorem dL_law_496 : decode cL_law 496 = .ok (.iconst 0, 1) := by decide +kernel
theorem dL_law_497 : decode cL_law 497 = .ok (.invokevirtual 85, 3) := by decide +kernel
theorem dL_law_500 : decode cL_law 500 = .ok (.aload_n 2, 1) := by decide +kernel
theorem dL_law_501 : decode cL_law 501 = .ok (.aload_n 0, 1) := by decide +kernel
theorem dL_law_502 : decode cL_law 502 = .ok (.iload 4, 2) := by decide +kernel
theorem dL_law_504 : decode cL_law 504 = .ok (.iconst 1, 1) := by decide +kernel
theorem dL_law_505 : decode cL_law 505 = .ok (.iadd, 1) := by decide +kernel
theorem dL_law_506 : decode cL_law 506 = .ok (.iaload, 1) := by decide +kernel
theorem dL_law_507 : decode cL_law 507 = .ok (.i2c, 1) := by decide +kernel
theorem dL_law_508 : decode cL_law 508 = .ok (.aload_n 0, 1) := by decide +kernel
theorem dL_law_509 : decode cL_law 509 = .ok (.iload 4, 2) := by decide +kernel
theorem dL_law_511 : decode cL_law 511 = .ok (.iconst 2, 1) := by decide +kernel
theorem dL_law_512 : decode cL_law 512 = .ok (.iadd, 1) := by decide +kernel
theorem dL_law_513 : decode cL_law 513 = .ok (.iaload, 1) := by decide +kernel
theorem dL_law_514 : decode cL_law 514 = .ok (.ifCond .eq 7, 3) := by decide +kernel
theorem dL_law_517 : decode cL_law 517 = .ok (.iconst 1, 1) := by decide +kernel
theorem dL_law_518 : decode cL_law 518 = .ok (.goto 4, 3) := by decide +kernel
theorem dL_law_521 : decode cL_law 521 = .ok (.iconst 0, 1) := by decide +kernel
theorem dL_law_522 : decode cL_law 522 = .ok (.invokevirtual 89, 3) := by decide +kernel
theorem dL_law_525 : decode cL_law 525 = .ok (.if_icmp .eq 5, 3) := by decide +kernel
theorem dL_law_528 : decode cL_law 528 = .ok (.iconst 0, 1) := by decide +kernel
theorem dL_law_529 : decode cL_law 529 = .ok (.ireturn, 1) := by decide +kernel
theorem dL_law_530 : decode cL_law 530 = .ok (.iinc 4 3, 3) := by decide +kernel
theorem dL_law_533 : decode cL_law 533 = .ok (.goto (-510), 3) := by decide +kernel
theorem dL_law_536 : decode cL_law 536 = .ok (.iconst 1, 1) := by decide +kernel
theorem dL_law_537 : decode cL_law 537 = .ok (.ireturn, 1) := by decide +kernel

/-! NestChartModel -/
def RX4 : String := "NestChartModel"
def TX4 : u_T := fun k => match k with
  | 0 => ("NestChartModel", "code", "I", false)
  | 1 => ("NestChartModel", "typed", "I", false)
  | 2 => ("NestChartModel", "size", "I", false)
  | 3 => ("NestChartModel", "text", "[C", true)
  | 4 => ("NestChartModel", "at", "I", false)
  | 5 => ("NestChartModel", "ill", "Z", false)
  | 6 => ("NestChartModel", "illAt", "I", false)
  | 7 => ("NestChartModel", "live", "I", false)
  | 8 => ("NestChartModel", "w", "I", false)
  | 9 => ("NestChartModel", "states", "[I", true)
  | 10 => ("NestChartModel", "transitions", "[I", true)
  | 11 => ("NestChartModel", "tests", "[I", true)
  | 12 => ("NestChartModel", "actions", "[I", true)
  | 13 => ("NestChartModel", "names", "[I", true)
  | 14 => ("NestChartModel", "kind", "[I", true)
  | 15 => ("NestChartModel", "outer", "[I", true)
  | 16 => ("NestChartModel", "below", "[I", true)
  | 17 => ("NestChartModel", "byLetter", "[I", true)
  | 18 => ("NestChartModel", "from", "[I", true)
  | 19 => ("NestChartModel", "event", "[I", true)
  | 20 => ("NestChartModel", "firstTest", "[I", true)
  | 21 => ("NestChartModel", "testEnd", "[I", true)
  | 22 => ("NestChartModel", "target", "[I", true)
  | 23 => ("NestChartModel", "nameState", "[I", true)
  | 24 => ("NestChartModel", "namePlace", "[I", true)
  | 25 => ("NestChartModel", "nameStars", "[I", true)
  | 26 => ("NestChartModel", "not", "[Z", true)
  | 27 => ("NestChartModel", "testName", "[I", true)
  | 28 => ("NestChartModel", "sign", "[I", true)
  | 29 => ("NestChartModel", "leftVariable", "[I", true)
  | 30 => ("NestChartModel", "rightVariable", "[I", true)
  | 31 => ("NestChartModel", "leftNumber", "[D", true)
  | 32 => ("NestChartModel", "rightNumber", "[D", true)
  | 33 => ("NestChartModel", "whose", "[I", true)
  | 34 => ("NestChartModel", "what", "[I", true)
  | 35 => ("NestChartModel", "how", "[I", true)
  | 36 => ("NestChartModel", "variable", "[I", true)
  | 37 => ("NestChartModel", "number", "[D", true)
  | 38 => ("NestChartModel", "readVariable", "I", false)
  | 39 => ("NestChartModel", "readNumber", "D", false)
  | 40 => ("NestChartModel", "runs", "Z", false)
  | 41 => ("NestChartModel", "active", "I", false)
  | 42 => ("NestChartModel", "value", "[D", true)
  | 43 => ("NestChartModel", "history", "[I", true)
  | 44 => ("NestChartModel", "deepHistory", "[I", true)
  | 45 => ("NestChartModel", "raises", "I", false)
  | 46 => ("NestChartModel", "raised", "[I", true)
  | 47 => ("NestChartModel", "sent", "I", false)
  | 48 => ("NestChartModel", "sentEvent", "[I", true)
  | 49 => ("NestChartModel", "due", "[I", true)
  | 50 => ("NestChartModel", "clock", "I", false)
  | 51 => ("NestChartModel", "steps", "I", false)
  | 52 => ("NestChartModel", "stuck", "Z", false)
  | 53 => ("NestChartModel", "traced", "I", false)
  | 54 => ("NestChartModel", "trace", "[I", true)
  | 55 => ("NestChartModel", "chosen", "I", false)
  | 56 => ("NestChartModel", "choice", "[I", true)
  | 57 => ("NestChartModel", "goals", "[I", true)
  | 58 => ("NestChartModel", "domain", "[I", true)
  | 59 => ("NestChartModel", "exits", "[I", true)
  | 60 => ("NestChartModel", "set", "I", false)
  | _ => ("NestChartModel", "row", "[I", true)
def tyX4 : Nat → FieldType := fun k => match k with
  | 0 => .int
  | 1 => .int
  | 2 => .int
  | 3 => .array .char
  | 4 => .int
  | 5 => .boolean
  | 6 => .int
  | 7 => .int
  | 8 => .int
  | 9 => .array .int
  | 10 => .array .int
  | 11 => .array .int
  | 12 => .array .int
  | 13 => .array .int
  | 14 => .array .int
  | 15 => .array .int
  | 16 => .array .int
  | 17 => .array .int
  | 18 => .array .int
  | 19 => .array .int
  | 20 => .array .int
  | 21 => .array .int
  | 22 => .array .int
  | 23 => .array .int
  | 24 => .array .int
  | 25 => .array .int
  | 26 => .array .boolean
  | 27 => .array .int
  | 28 => .array .int
  | 29 => .array .int
  | 30 => .array .int
  | 31 => .array .double
  | 32 => .array .double
  | 33 => .array .int
  | 34 => .array .int
  | 35 => .array .int
  | 36 => .array .int
  | 37 => .array .double
  | 38 => .int
  | 39 => .double
  | 40 => .boolean
  | 41 => .int
  | 42 => .array .double
  | 43 => .array .int
  | 44 => .array .int
  | 45 => .int
  | 46 => .array .int
  | 47 => .int
  | 48 => .array .int
  | 49 => .array .int
  | 50 => .int
  | 51 => .int
  | 52 => .boolean
  | 53 => .int
  | 54 => .array .int
  | 55 => .int
  | 56 => .array .int
  | 57 => .array .int
  | 58 => .array .int
  | 59 => .array .int
  | 60 => .int
  | _ => .array .int
abbrev wsX40 : List Cond := u_ws RX4 TX4 62
theorem nmX4 : ∀ a, a < 62 → ∀ b, b < 62 → a ≠ b → (TX4 a).2.1 ≠ (TX4 b).2.1 := by decide +kernel
theorem tyX4_ok : ∀ k, k < 62 → parseFieldDescriptor (TX4 k).2.2.1 = some (tyX4 k) := by decide +kernel
abbrev cX4_init : ByteArray := prog_17_method_1_code
def yX4_init : MethodName := ⟨RX4, "<init>", "()V"⟩
theorem dX4_init_0 : decode cX4_init 0 = .ok (.aload_n 0, 1) := by decide +kernel
theorem dX4_init_1 : decode cX4_init 1 = .ok (.invokespecial 1, 3) := by decide +kernel
theorem dX4_init_4 : decode cX4_init 4 = .ok (.aload_n 0, 1) := by decide +kernel
theorem dX4_init_5 : decode cX4_init 5 = .ok (.sipush 160, 3) := by decide +kernel
theorem dX4_init_8 : decode cX4_init 8 = .ok (.newarray .char, 2) := by decide +kernel
theorem dX4_init_10 : decode cX4_init 10 = .ok (.putfield 7, 3) := by decide +kernel
theorem dX4_init_13 : decode cX4_init 13 = .ok (.aload_n 0, 1) := by decide +kernel
theorem dX4_init_14 : decode cX4_init 14 = .ok (.iconst (-1), 1) := by decide +kernel
theorem dX4_init_15 : decode cX4_init 15 = .ok (.putfield 13, 3) := by decide +kernel
theorem dX4_init_18 : decode cX4_init 18 = .ok (.aload_n 0, 1) := by decide +kernel
theorem dX4_init_19 : decode cX4_init 19 = .ok (.iconst (-1), 1) := by decide +kernel
theorem dX4_init_20 : decode cX4_init 20 = .ok (.putfield 17, 3) := by decide +kernel
theorem dX4_init_23 : decode cX4_init 23 = .ok (.aload_n 0, 1) := by decide +kernel
theorem dX4_init_24 : decode cX4_init 24 = .ok (.iconst 2, 1) := by decide +kernel
theorem dX4_init_25 : decode cX4_init 25 = .ok (.newarray .int, 2) := by decide +kernel
theorem dX4_init_27 : decode cX4_init 27 = .ok (.putfield 20, 3) := by decide +kernel
theorem dX4_init_30 : decode cX4_init 30 = .ok (.aload_n 0, 1) := by decide +kernel
theorem dX4_init_31 : decode cX4_init 31 = .ok (.iconst 2, 1) := by decide +kernel
theorem dX4_init_32 : decode cX4_init 32 = .ok (.newarray .int, 2) := by decide +kernel
theorem dX4_init_34 : decode cX4_init 34 = .ok (.putfield 24, 3) := by decide +kernel
theorem dX4_init_37 : decode cX4_init 37 = .ok (.aload_n 0, 1) := by decide +kernel
theorem dX4_init_38 : decode cX4_init 38 = .ok (.iconst 2, 1) := by decide +kernel
theorem dX4_init_39 : decode cX4_init 39 = .ok (.newarray .int, 2) := by decide +kernel
theorem dX4_init_41 : decode cX4_init 41 = .ok (.putfield 27, 3) := by decide +kernel
theorem dX4_init_44 : decode cX4_init 44 = .ok (.aload_n 0, 1) := by decide +kernel
theorem dX4_init_45 : decode cX4_init 45 = .ok (.iconst 2, 1) := by decide +kernel
theorem dX4_init_46 : decode cX4_init 46 = .ok (.newarray .int, 2) := by decide +kernel
theorem dX4_init_48 : decode cX4_init 48 = .ok (.putfield 30, 3) := by decide +kernel
theorem dX4_init_51 : decode cX4_init 51 = .ok (.aload_n 0, 1) := by decide +kernel
theorem dX4_init_52 : decode cX4_init 52 = .ok (.iconst 2, 1) := by decide +kernel
theorem dX4_init_53 : decode cX4_init 53 = .ok (.newarray .int, 2) := by decide +kernel
theorem dX4_init_55 : decode cX4_init 55 = .ok (.putfield 33, 3) := by decide +kernel
theorem dX4_init_58 : decode cX4_init 58 = .ok (.aload_n 0, 1) := by decide +kernel
theorem dX4_init_59 : decode cX4_init 59 = .ok (.bipush 32, 2) := by decide +kernel
theorem dX4_init_61 : decode cX4_init 61 = .ok (.newarray .int, 2) := by decide +kernel
theorem dX4_init_63 : decode cX4_init 63 = .ok (.putfield 36, 3) := by decide +kernel
theorem dX4_init_66 : decode cX4_init 66 = .ok (.aload_n 0, 1) := by decide +kernel
theorem dX4_init_67 : decode cX4_init 67 = .ok (.bipush 32, 2) := by decide +kernel
theorem dX4_init_69 : decode cX4_init 69 = .ok (.newarray .int, 2) := by decide +kernel
theorem dX4_init_71 : decode cX4_init 71 = .ok (.putfield 39, 3) := by decide +kernel
theorem dX4_init_74 : decode cX4_init 74 = .ok (.aload_n 0, 1) := by decide +kernel
theorem dX4_init_75 : decode cX4_init 75 = .ok (.bipush 32, 2) := by decide +kernel
theorem dX4_init_77 : decode cX4_init 77 = .ok (.newarray .int, 2) := by decide +kernel
theorem dX4_init_79 : decode cX4_init 79 = .ok (.putfield 42, 3) := by decide +kernel
theorem dX4_init_82 : decode cX4_init 82 = .ok (.aload_n 0, 1) := by decide +kernel
theorem dX4_init_83 : decode cX4_init 83 = .ok (.bipush 32, 2) := by decide +kernel
theorem dX4_init_85 : decode cX4_init 85 = .ok (.newarray .int, 2) := by decide +kernel
theorem dX4_init_87 : decode cX4_init 87 = .ok (.putfield 45, 3) := by decide +kernel
theorem dX4_init_90 : decode cX4_init 90 = .ok (.aload_n 0, 1) := by decide +kernel
theorem dX4_init_91 : decode cX4_init 91 = .ok (.bipush 48, 2) := by decide +kernel
theorem dX4_init_93 : decode cX4_init 93 = .ok (.newarray .int, 2) := by decide +kernel
theorem dX4_init_95 : decode cX4_init 95 = .ok (.putfield 48, 3) := by decide +kernel
theorem dX4_init_98 : decode cX4_init 98 = .ok (.aload_n 0, 1) := by decide +kernel
theorem dX4_init_99 : decode cX4_init 99 = .ok (.bipush 48, 2) := by decide +kernel
theorem dX4_init_101 : decode cX4_init 101 = .ok (.newarray .int, 2) := by decide +kernel
theorem dX4_init_103 : decode cX4_init 103 = .ok (.putfield 51, 3) := by decide +kernel
theorem dX4_init_106 : decode cX4_init 106 = .ok (.aload_n 0, 1) := by decide +kernel
theorem dX4_init_107 : decode cX4_init 107 = .ok (.bipush 48, 2) := by decide +kernel
theorem dX4_init_109 : decode cX4_init 109 = .ok (.newarray .int, 2) := by decide +kernel
theorem dX4_init_111 : decode cX4_init 111 = .ok (.putfield 54, 3) := by decide +kernel
theorem dX4_init_114 : decode cX4_init 114 = .ok (.aload_n 0, 1) := by decide +kernel
theorem dX4_init_115 : decode cX4_init 115 = .ok (.bipush 48, 2) := by decide +kernel
theorem dX4_init_117 : decode cX4_init 117 = .ok (.newarray .int, 2) := by decide +kernel
theorem dX4_init_119 : decode cX4_init 119 = .ok (.putfield 57, 3) := by decide +kernel
theorem dX4_init_122 : decode cX4_init 122 = .ok (.aload_n 0, 1) := by decide +kernel
theorem dX4_init_123 : decode cX4_init 123 = .ok (.bipush 48, 2) := by decide +kernel
theorem dX4_init_125 : decode cX4_init 125 = .ok (.newarray .int, 2) := by decide +kernel
theorem dX4_init_127 : decode cX4_init 127 = .ok (.putfield 60, 3) := by decide +kernel
theorem dX4_init_130 : decode cX4_init 130 = .ok (.aload_n 0, 1) := by decide +kernel
theorem dX4_init_131 : decode cX4_init 131 = .ok (.sipush 128, 3) := by decide +kernel
theorem dX4_init_134 : decode cX4_init 134 = .ok (.newarray .int, 2) := by decide +kernel
theorem dX4_init_136 : decode cX4_init 136 = .ok (.putfield 63, 3) := by decide +kernel
theorem dX4_init_139 : decode cX4_init 139 = .ok (.aload_n 0, 1) := by decide +kernel
theorem dX4_init_140 : decode cX4_init 140 = .ok (.sipush 128, 3) := by decide +kernel
theorem dX4_init_143 : decode cX4_init 143 = .ok (.newarray .int, 2) := by decide +kernel
theorem dX4_init_145 : decode cX4_init 145 = .ok (.putfield 66, 3) := by decide +kernel
theorem dX4_init_148 : decode cX4_init 148 = .ok (.aload_n 0, 1) := by decide +kernel
theorem dX4_init_149 : decode cX4_init 149 = .ok (.sipush 128, 3) := by decide +kernel
theorem dX4_init_152 : decode cX4_init 152 = .ok (.newarray .int, 2) := by decide +kernel
theorem dX4_init_154 : decode cX4_init 154 = .ok (.putfield 69, 3) := by decide +kernel
theorem dX4_init_157 : decode cX4_init 157 = .ok (.aload_n 0, 1) := by decide +kernel
theorem dX4_init_158 : decode cX4_init 158 = .ok (.sipush 128, 3) := by decide +kernel
theorem dX4_init_161 : decode cX4_init 161 = .ok (.newarray .boolean, 2) := by decide +kernel
theorem dX4_init_163 : decode cX4_init 163 = .ok (.putfield 72, 3) := by decide +kernel
theorem dX4_init_166 : decode cX4_init 166 = .ok (.aload_n 0, 1) := by decide +kernel
theorem dX4_init_167 : decode cX4_init 167 = .ok (.sipush 128, 3) := by decide +kernel
theorem dX4_init_170 : decode cX4_init 170 = .ok (.newarray .int, 2) := by decide +kernel
theorem dX4_init_172 : decode cX4_init 172 = .ok (.putfield 76, 3) := by decide +kernel
theorem dX4_init_175 : decode cX4_init 175 = .ok (.aload_n 0, 1) := by decide +kernel
theorem dX4_init_176 : decode cX4_init 176 = .ok (.sipush 128, 3) := by decide +kernel
theorem dX4_init_179 : decode cX4_init 179 = .ok (.newarray .int, 2) := by decide +kernel
theorem dX4_init_181 : decode cX4_init 181 = .ok (.putfield 79, 3) := by decide +kernel
theorem dX4_init_184 : decode cX4_init 184 = .ok (.aload_n 0, 1) := by decide +kernel
theorem dX4_init_185 : decode cX4_init 185 = .ok (.sipush 128, 3) := by decide +kernel
theorem dX4_init_188 : decode cX4_init 188 = .ok (.newarray .int, 2) := by decide +kernel
theorem dX4_init_190 : decode cX4_init 190 = .ok (.putfield 82, 3) := by decide +kernel
theorem dX4_init_193 : decode cX4_init 193 = .ok (.aload_n 0, 1) := by decide +kernel
theorem dX4_init_194 : decode cX4_init 194 = .ok (.sipush 128, 3) := by decide +kernel
theorem dX4_init_197 : decode cX4_init 197 = .ok (.newarray .int, 2) := by decide +kernel
theorem dX4_init_199 : decode cX4_init 199 = .ok (.putfield 85, 3) := by decide +kernel
theorem dX4_init_202 : decode cX4_init 202 = .ok (.aload_n 0, 1) := by decide +kernel
theorem dX4_init_203 : decode cX4_init 203 = .ok (.sipush 128, 3) := by decide +kernel
theorem dX4_init_206 : decode cX4_init 206 = .ok (.newarray .double, 2) := by decide +kernel
theorem dX4_init_208 : decode cX4_init 208 = .ok (.putfield 88, 3) := by decide +kernel
theorem dX4_init_211 : decode cX4_init 211 = .ok (.aload_n 0, 1) := by decide +kernel
theorem dX4_init_212 : decode cX4_init 212 = .ok (.sipush 128, 3) := by decide +kernel
theorem dX4_init_215 : decode cX4_init 215 = .ok (.newarray .double, 2) := by decide +kernel
theorem dX4_init_217 : decode cX4_init 217 = .ok (.putfield 92, 3) := by decide +kernel
theorem dX4_init_220 : decode cX4_init 220 = .ok (.aload_n 0, 1) := by decide +kernel
theorem dX4_init_221 : decode cX4_init 221 = .ok (.bipush 96, 2) := by decide +kernel
theorem dX4_init_223 : decode cX4_init 223 = .ok (.newarray .int, 2) := by decide +kernel
theorem dX4_init_225 : decode cX4_init 225 = .ok (.putfield 95, 3) := by decide +kernel
theorem dX4_init_228 : decode cX4_init 228 = .ok (.aload_n 0, 1) := by decide +kernel
theorem dX4_init_229 : decode cX4_init 229 = .ok (.bipush 96, 2) := by decide +kernel
theorem dX4_init_231 : decode cX4_init 231 = .ok (.newarray .int, 2) := by decide +kernel
theorem dX4_init_233 : decode cX4_init 233 = .ok (.putfield 98, 3) := by decide +kernel
theorem dX4_init_236 : decode cX4_init 236 = .ok (.aload_n 0, 1) := by decide +kernel
theorem dX4_init_237 : decode cX4_init 237 = .ok (.bipush 96, 2) := by decide +kernel
theorem dX4_init_239 : decode cX4_init 239 = .ok (.newarray .int, 2) := by decide +kernel
theorem dX4_init_241 : decode cX4_init 241 = .ok (.putfield 101, 3) := by decide +kernel
theorem dX4_init_244 : decode cX4_init 244 = .ok (.aload_n 0, 1) := by decide +kernel
theorem dX4_init_245 : decode cX4_init 245 = .ok (.bipush 96, 2) := by decide +kernel
theorem dX4_init_247 : decode cX4_init 247 = .ok (.newarray .int, 2) := by decide +kernel
theorem dX4_init_249 : decode cX4_init 249 = .ok (.putfield 104, 3) := by decide +kernel
theorem dX4_init_252 : decode cX4_init 252 = .ok (.aload_n 0, 1) := by decide +kernel
theorem dX4_init_253 : decode cX4_init 253 = .ok (.bipush 96, 2) := by decide +kernel
theorem dX4_init_255 : decode cX4_init 255 = .ok (.newarray .double, 2) := by decide +kernel
theorem dX4_init_257 : decode cX4_init 257 = .ok (.putfield 107, 3) := by decide +kernel
theorem dX4_init_260 : decode cX4_init 260 = .ok (.aload_n 0, 1) := by decide +kernel
theorem dX4_init_261 : decode cX4_init 261 = .ok (.bipush 6, 2) := by decide +kernel
theorem dX4_init_263 : decode cX4_init 263 = .ok (.newarray .double, 2) := by decide +kernel
theorem dX4_init_265 : decode cX4_init 265 = .ok (.putfield 110, 3) := by decide +kernel
theorem dX4_init_268 : decode cX4_init 268 = .ok (.aload_n 0, 1) := by decide +kernel
theorem dX4_init_269 : decode cX4_init 269 = .ok (.bipush 16, 2) := by decide +kernel
theorem dX4_init_271 : decode cX4_init 271 = .ok (.newarray .int, 2) := by decide +kernel
theorem dX4_init_273 : decode cX4_init 273 = .ok (.putfield 113, 3) := by decide +kernel
theorem dX4_init_276 : decode cX4_init 276 = .ok (.aload_n 0, 1) := by decide +kernel
theorem dX4_init_277 : decode cX4_init 277 = .ok (.bipush 16, 2) := by decide +kernel
theorem dX4_init_279 : decode cX4_init 279 = .ok (.newarray .int, 2) := by decide +kernel
theorem dX4_init_281 : decode cX4_init 281 = .ok (.putfield 116, 3) := by decide +kernel
theorem dX4_init_284 : decode cX4_init 284 = .ok (.aload_n 0, 1) := by decide +kernel
theorem dX4_init_285 : decode cX4_init 285 = .ok (.bipush 10, 2) := by decide +kernel
theorem dX4_init_287 : decode cX4_init 287 = .ok (.newarray .int, 2) := by decide +kernel
theorem dX4_init_289 : decode cX4_init 289 = .ok (.putfield 119, 3) := by decide +kernel
theorem dX4_init_292 : decode cX4_init 292 = .ok (.aload_n 0, 1) := by decide +kernel
theorem dX4_init_293 : decode cX4_init 293 = .ok (.bipush 8, 2) := by decide +kernel
theorem dX4_init_295 : decode cX4_init 295 = .ok (.newarray .int, 2) := by decide +kernel
theorem dX4_init_297 : decode cX4_init 297 = .ok (.putfield 122, 3) := by decide +kernel
theorem dX4_init_300 : decode cX4_init 300 = .ok (.aload_n 0, 1) := by decide +kernel
theorem dX4_init_301 : decode cX4_init 301 = .ok (.bipush 8, 2) := by decide +kernel
theorem dX4_init_303 : decode cX4_init 303 = .ok (.newarray .int, 2) := by decide +kernel
theorem dX4_init_305 : decode cX4_init 305 = .ok (.putfield 125, 3) := by decide +kernel
theorem dX4_init_308 : decode cX4_init 308 = .ok (.aload_n 0, 1) := by decide +kernel
theorem dX4_init_309 : decode cX4_init 309 = .ok (.bipush 100, 2) := by decide +kernel
theorem dX4_init_311 : decode cX4_init 311 = .ok (.newarray .int, 2) := by decide +kernel
theorem dX4_init_313 : decode cX4_init 313 = .ok (.putfield 128, 3) := by decide +kernel
theorem dX4_init_316 : decode cX4_init 316 = .ok (.aload_n 0, 1) := by decide +kernel
theorem dX4_init_317 : decode cX4_init 317 = .ok (.bipush 24, 2) := by decide +kernel
theorem dX4_init_319 : decode cX4_init 319 = .ok (.newarray .int, 2) := by decide +kernel
theorem dX4_init_321 : decode cX4_init 321 = .ok (.putfield 131, 3) := by decide +kernel
theorem dX4_init_324 : decode cX4_init 324 = .ok (.aload_n 0, 1) := by decide +kernel
theorem dX4_init_325 : decode cX4_init 325 = .ok (.bipush 24, 2) := by decide +kernel
theorem dX4_init_327 : decode cX4_init 327 = .ok (.newarray .int, 2) := by decide +kernel
theorem dX4_init_329 : decode cX4_init 329 = .ok (.putfield 134, 3) := by decide +kernel
theorem dX4_init_332 : decode cX4_init 332 = .ok (.aload_n 0, 1) := by decide +kernel
theorem dX4_init_333 : decode cX4_init 333 = .ok (.bipush 24, 2) := by decide +kernel
theorem dX4_init_335 : decode cX4_init 335 = .ok (.newarray .int, 2) := by decide +kernel
theorem dX4_init_337 : decode cX4_init 337 = .ok (.putfield 137, 3) := by decide +kernel
theorem dX4_init_340 : decode cX4_init 340 = .ok (.aload_n 0, 1) := by decide +kernel
theorem dX4_init_341 : decode cX4_init 341 = .ok (.bipush 24, 2) := by decide +kernel
theorem dX4_init_343 : decode cX4_init 343 = .ok (.newarray .int, 2) := by decide +kernel
theorem dX4_init_345 : decode cX4_init 345 = .ok (.putfield 140, 3) := by decide +kernel
theorem dX4_init_348 : decode cX4_init 348 = .ok (.aload_n 0, 1) := by decide +kernel
theorem dX4_init_349 : decode cX4_init 349 = .ok (.bipush 20, 2) := by decide +kernel
theorem dX4_init_351 : decode cX4_init 351 = .ok (.newarray .int, 2) := by decide +kernel
theorem dX4_init_353 : decode cX4_init 353 = .ok (.putfield 143, 3) := by decide +kernel
theorem dX4_init_356 : decode cX4_init 356 = .ok (.return_, 1) := by decide +kernel
abbrev cX4_thrown : ByteArray := prog_17_method_2_code
def yX4_thrown : MethodName := ⟨RX4, "thrown", "()I"⟩
theorem dX4_thrown_0 : decode cX4_thrown 0 = .ok (.aload_n 0, 1) := by decide +kernel
theorem dX4_thrown_1 : decode cX4_thrown 1 = .ok (.getfield 146, 3) := by decide +kernel
theorem dX4_thrown_4 : decode cX4_thrown 4 = .ok (.ireturn, 1) := by decide +kernel
abbrev cX4_type : ByteArray := prog_17_method_20_code
def yX4_type : MethodName := ⟨RX4, "type", "(C)Z"⟩
theorem dX4_type_0 : decode cX4_type 0 = .ok (.aload_n 0, 1) := by decide +kernel
theorem dX4_type_1 : decode cX4_type 1 = .ok (.iconst 0, 1) := by decide +kernel
theorem dX4_type_2 : decode cX4_type 2 = .ok (.putfield 146, 3) := by decide +kernel
theorem dX4_type_5 : decode cX4_type 5 = .ok (.iload_n 1, 1) := by decide +kernel
theorem dX4_type_6 : decode cX4_type 6 = .ok (.bipush 32, 2) := by decide +kernel
theorem dX4_type_8 : decode cX4_type 8 = .ok (.if_icmp .lt 19, 3) := by decide +kernel
theorem dX4_type_11 : decode cX4_type 11 = .ok (.iload_n 1, 1) := by decide +kernel
theorem dX4_type_12 : decode cX4_type 12 = .ok (.bipush 126, 2) := by decide +kernel
theorem dX4_type_14 : decode cX4_type 14 = .ok (.if_icmp .gt 13, 3) := by decide +kernel
theorem dX4_type_17 : decode cX4_type 17 = .ok (.aload_n 0, 1) := by decide +kernel
theorem dX4_type_18 : decode cX4_type 18 = .ok (.getfield 225, 3) := by decide +kernel
theorem dX4_type_21 : decode cX4_type 21 = .ok (.sipush 160, 3) := by decide +kernel
theorem dX4_type_24 : decode cX4_type 24 = .ok (.if_icmp .ne 5, 3) := by decide +kernel
theorem dX4_type_27 : decode cX4_type 27 = .ok (.iconst 0, 1) := by decide +kernel
theorem dX4_type_28 : decode cX4_type 28 = .ok (.ireturn, 1) := by decide +kernel
theorem dX4_type_29 : decode cX4_type 29 = .ok (.aload_n 0, 1) := by decide +kernel
theorem dX4_type_30 : decode cX4_type 30 = .ok (.dup, 1) := by decide +kernel
theorem dX4_type_31 : decode cX4_type 31 = .ok (.getfield 225, 3) := by decide +kernel
theorem dX4_type_34 : decode cX4_type 34 = .ok (.iconst 1, 1) := by decide +kernel
theorem dX4_type_35 : decode cX4_type 35 = .ok (.iadd, 1) := by decide +kernel
theorem dX4_type_36 : decode cX4_type 36 = .ok (.putfield 225, 3) := by decide +kernel
theorem dX4_type_39 : decode cX4_type 39 = .ok (.iload_n 1, 1) := by decide +kernel
theorem dX4_type_40 : decode cX4_type 40 = .ok (.bipush 32, 2) := by decide +kernel
theorem dX4_type_42 : decode cX4_type 42 = .ok (.if_icmp .ne 5, 3) := by decide +kernel
theorem dX4_type_45 : decode cX4_type 45 = .ok (.iconst 1, 1) := by decide +kernel
theorem dX4_type_46 : decode cX4_type 46 = .ok (.ireturn, 1) := by decide +kernel
theorem dX4_type_47 : decode cX4_type 47 = .ok (.aload_n 0, 1) := by decide +kernel
theorem dX4_type_48 : decode cX4_type 48 = .ok (.getfield 7, 3) := by decide +kernel
theorem dX4_type_51 : decode cX4_type 51 = .ok (.aload_n 0, 1) := by decide +kernel
theorem dX4_type_52 : decode cX4_type 52 = .ok (.getfield 156, 3) := by decide +kernel
theorem dX4_type_55 : decode cX4_type 55 = .ok (.iload_n 1, 1) := by decide +kernel
theorem dX4_type_56 : decode cX4_type 56 = .ok (.castore, 1) := by decide +kernel
theorem dX4_type_57 : decode cX4_type 57 = .ok (.aload_n 0, 1) := by decide +kernel
theorem dX4_type_58 : decode cX4_type 58 = .ok (.dup, 1) := by decide +kernel
theorem dX4_type_59 : decode cX4_type 59 = .ok (.getfield 156, 3) := by decide +kernel
theorem dX4_type_62 : decode cX4_type 62 = .ok (.iconst 1, 1) := by decide +kernel
theorem dX4_type_63 : decode cX4_type 63 = .ok (.iadd, 1) := by decide +kernel
theorem dX4_type_64 : decode cX4_type 64 = .ok (.putfield 156, 3) := by decide +kernel
theorem dX4_type_67 : decode cX4_type 67 = .ok (.iconst 1, 1) := by decide +kernel
theorem dX4_type_68 : decode cX4_type 68 = .ok (.ireturn, 1) := by decide +kernel
abbrev cX4_build : ByteArray := prog_17_method_21_code
def yX4_build : MethodName := ⟨RX4, "build", "()I"⟩
theorem dX4_build_0 : decode cX4_build 0 = .ok (.aload_n 0, 1) := by decide +kernel
theorem dX4_build_1 : decode cX4_build 1 = .ok (.aload_n 0, 1) := by decide +kernel
theorem dX4_build_2 : decode cX4_build 2 = .ok (.getfield 17, 3) := by decide +kernel
theorem dX4_build_5 : decode cX4_build 5 = .ok (.ifCond .ne 7, 3) := by decide +kernel
theorem dX4_build_8 : decode cX4_build 8 = .ok (.iconst 1, 1) := by decide +kernel
theorem dX4_build_9 : decode cX4_build 9 = .ok (.goto 4, 3) := by decide +kernel
theorem dX4_build_12 : decode cX4_build 12 = .ok (.iconst 0, 1) := by decide +kernel
theorem dX4_build_13 : decode cX4_build 13 = .ok (.putfield 187, 3) := by decide +kernel
theorem dX4_build_16 : decode cX4_build 16 = .ok (.aload_n 0, 1) := by decide +kernel
theorem dX4_build_17 : decode cX4_build 17 = .ok (.iconst 0, 1) := by decide +kernel
theorem dX4_build_18 : decode cX4_build 18 = .ok (.putfield 153, 3) := by decide +kernel
theorem dX4_build_21 : decode cX4_build 21 = .ok (.aload_n 0, 1) := by decide +kernel
theorem dX4_build_22 : decode cX4_build 22 = .ok (.iconst 0, 1) := by decide +kernel
theorem dX4_build_23 : decode cX4_build 23 = .ok (.putfield 149, 3) := by decide +kernel
theorem dX4_build_26 : decode cX4_build 26 = .ok (.aload_n 0, 1) := by decide +kernel
theorem dX4_build_27 : decode cX4_build 27 = .ok (.getfield 20, 3) := by decide +kernel
theorem dX4_build_30 : decode cX4_build 30 = .ok (.aload_n 0, 1) := by decide +kernel
theorem dX4_build_31 : decode cX4_build 31 = .ok (.getfield 187, 3) := by decide +kernel
theorem dX4_build_34 : decode cX4_build 34 = .ok (.iconst 0, 1) := by decide +kernel
theorem dX4_build_35 : decode cX4_build 35 = .ok (.iastore, 1) := by decide +kernel
theorem dX4_build_36 : decode cX4_build 36 = .ok (.aload_n 0, 1) := by decide +kernel
theorem dX4_build_37 : decode cX4_build 37 = .ok (.getfield 24, 3) := by decide +kernel
theorem dX4_build_40 : decode cX4_build 40 = .ok (.aload_n 0, 1) := by decide +kernel
theorem dX4_build_41 : decode cX4_build 41 = .ok (.getfield 187, 3) := by decide +kernel
theorem dX4_build_44 : decode cX4_build 44 = .ok (.iconst 0, 1) := by decide +kernel
theorem dX4_build_45 : decode cX4_build 45 = .ok (.iastore, 1) := by decide +kernel
theorem dX4_build_46 : decode cX4_build 46 = .ok (.aload_n 0, 1) := by decide +kernel
theorem dX4_build_47 : decode cX4_build 47 = .ok (.getfield 27, 3) := by decide +kernel
theorem dX4_build_50 : decode cX4_build 50 = .ok (.aload_n 0, 1) := by decide +kernel
theorem dX4_build_51 : decode cX4_build 51 = .ok (.getfield 187, 3) := by decide +kernel
theorem dX4_build_54 : decode cX4_build 54 = .ok (.iconst 0, 1) := by decide +kernel
theorem dX4_build_55 : decode cX4_build 55 = .ok (.iastore, 1) := by decide +kernel
theorem dX4_build_56 : decode cX4_build 56 = .ok (.aload_n 0, 1) := by decide +kernel
theorem dX4_build_57 : decode cX4_build 57 = .ok (.getfield 30, 3) := by decide +kernel
theorem dX4_build_60 : decode cX4_build 60 = .ok (.aload_n 0, 1) := by decide +kernel
theorem dX4_build_61 : decode cX4_build 61 = .ok (.getfield 187, 3) := by decide +kernel
theorem dX4_build_64 : decode cX4_build 64 = .ok (.iconst 0, 1) := by decide +kernel
theorem dX4_build_65 : decode cX4_build 65 = .ok (.iastore, 1) := by decide +kernel
theorem dX4_build_66 : decode cX4_build 66 = .ok (.aload_n 0, 1) := by decide +kernel
theorem dX4_build_67 : decode cX4_build 67 = .ok (.getfield 33, 3) := by decide +kernel
theorem dX4_build_70 : decode cX4_build 70 = .ok (.aload_n 0, 1) := by decide +kernel
theorem dX4_build_71 : decode cX4_build 71 = .ok (.getfield 187, 3) := by decide +kernel
theorem dX4_build_74 : decode cX4_build 74 = .ok (.iconst 0, 1) := by decide +kernel
theorem dX4_build_75 : decode cX4_build 75 = .ok (.iastore, 1) := by decide +kernel
theorem dX4_build_76 : decode cX4_build 76 = .ok (.bipush 16, 2) := by decide +kernel
theorem dX4_build_78 : decode cX4_build 78 = .ok (.aload_n 0, 1) := by decide +kernel
theorem dX4_build_79 : decode cX4_build 79 = .ok (.getfield 187, 3) := by decide +kernel
theorem dX4_build_82 : decode cX4_build 82 = .ok (.imul, 1) := by decide +kernel
theorem dX4_build_83 : decode cX4_build 83 = .ok (.istore_n 1, 1) := by decide +kernel
theorem dX4_build_84 : decode cX4_build 84 = .ok (.iload_n 1, 1) := by decide +kernel
theorem dX4_build_85 : decode cX4_build 85 = .ok (.bipush 16, 2) := by decide +kernel
theorem dX4_build_87 : decode cX4_build 87 = .ok (.aload_n 0, 1) := by decide +kernel
theorem dX4_build_88 : decode cX4_build 88 = .ok (.getfield 187, 3) := by decide +kernel
theorem dX4_build_91 : decode cX4_build 91 = .ok (.imul, 1) := by decide +kernel
theorem dX4_build_92 : decode cX4_build 92 = .ok (.bipush 16, 2) := by decide +kernel
theorem dX4_build_94 : decode cX4_build 94 = .ok (.iadd, 1) := by decide +kernel
theorem dX4_build_95 : decode cX4_build 95 = .ok (.if_icmp .ge 16, 3) := by decide +kernel
theorem dX4_build_98 : decode cX4_build 98 = .ok (.aload_n 0, 1) := by decide +kernel
theorem dX4_build_99 : decode cX4_build 99 = .ok (.getfield 45, 3) := by decide +kernel
theorem dX4_build_102 : decode cX4_build 102 = .ok (.iload_n 1, 1) := by decide +kernel
theorem dX4_build_103 : decode cX4_build 103 = .ok (.iconst (-1), 1) := by decide +kernel
theorem dX4_build_104 : decode cX4_build 104 = .ok (.iastore, 1) := by decide +kernel
theorem dX4_build_105 : decode cX4_build 105 = .ok (.iinc 1 1, 3) := by decide +kernel
theorem dX4_build_108 : decode cX4_build 108 = .ok (.goto (-24), 3) := by decide +kernel
theorem dX4_build_111 : decode cX4_build 111 = .ok (.aload_n 0, 1) := by decide +kernel
theorem dX4_build_112 : decode cX4_build 112 = .ok (.invokevirtual 228, 3) := by decide +kernel
theorem dX4_build_115 : decode cX4_build 115 = .ok (.aload_n 0, 1) := by decide +kernel
theorem dX4_build_116 : decode cX4_build 116 = .ok (.getfield 149, 3) := by decide +kernel
theorem dX4_build_119 : decode cX4_build 119 = .ok (.ifCond .ne 7, 3) := by decide +kernel
theorem dX4_build_122 : decode cX4_build 122 = .ok (.aload_n 0, 1) := by decide +kernel
theorem dX4_build_123 : decode cX4_build 123 = .ok (.invokevirtual 231, 3) := by decide +kernel
theorem dX4_build_126 : decode cX4_build 126 = .ok (.aload_n 0, 1) := by decide +kernel
theorem dX4_build_127 : decode cX4_build 127 = .ok (.aload_n 0, 1) := by decide +kernel
theorem dX4_build_128 : decode cX4_build 128 = .ok (.getfield 149, 3) := by decide +kernel
theorem dX4_build_131 : decode cX4_build 131 = .ok (.ifCond .eq 10, 3) := by decide +kernel
theorem dX4_build_134 : decode cX4_build 134 = .ok (.aload_n 0, 1) := by decide +kernel
theorem dX4_build_135 : decode cX4_build 135 = .ok (.getfield 153, 3) := by decide +kernel
theorem dX4_build_138 : decode cX4_build 138 = .ok (.goto 4, 3) := by decide +kernel
theorem dX4_build_141 : decode cX4_build 141 = .ok (.iconst (-1), 1) := by decide +kernel
theorem dX4_build_142 : decode cX4_build 142 = .ok (.putfield 13, 3) := by decide +kernel
theorem dX4_build_145 : decode cX4_build 145 = .ok (.aload_n 0, 1) := by decide +kernel
theorem dX4_build_146 : decode cX4_build 146 = .ok (.iconst 0, 1) := by decide +kernel
theorem dX4_build_147 : decode cX4_build 147 = .ok (.putfield 156, 3) := by decide +kernel
theorem dX4_build_150 : decode cX4_build 150 = .ok (.aload_n 0, 1) := by decide +kernel
theorem dX4_build_151 : decode cX4_build 151 = .ok (.iconst 0, 1) := by decide +kernel
theorem dX4_build_152 : decode cX4_build 152 = .ok (.putfield 225, 3) := by decide +kernel
theorem dX4_build_155 : decode cX4_build 155 = .ok (.aload_n 0, 1) := by decide +kernel
theorem dX4_build_156 : decode cX4_build 156 = .ok (.aload_n 0, 1) := by decide +kernel
theorem dX4_build_157 : decode cX4_build 157 = .ok (.getfield 149, 3) := by decide +kernel
theorem dX4_build_160 : decode cX4_build 160 = .ok (.ifCond .eq 7, 3) := by decide +kernel
theorem dX4_build_163 : decode cX4_build 163 = .ok (.iconst 1, 1) := by decide +kernel
theorem dX4_build_164 : decode cX4_build 164 = .ok (.goto 4, 3) := by decide +kernel
theorem dX4_build_167 : decode cX4_build 167 = .ok (.iconst 0, 1) := by decide +kernel
theorem dX4_build_168 : decode cX4_build 168 = .ok (.putfield 146, 3) := by decide +kernel
theorem dX4_build_171 : decode cX4_build 171 = .ok (.aload_n 0, 1) := by decide +kernel
theorem dX4_build_172 : decode cX4_build 172 = .ok (.getfield 149, 3) := by decide +kernel
theorem dX4_build_175 : decode cX4_build 175 = .ok (.ifCond .eq 5, 3) := by decide +kernel
theorem dX4_build_178 : decode cX4_build 178 = .ok (.iconst 0, 1) := by decide +kernel
theorem dX4_build_179 : decode cX4_build 179 = .ok (.ireturn, 1) := by decide +kernel
theorem dX4_build_180 : decode cX4_build 180 = .ok (.aload_n 0, 1) := by decide +kernel
theorem dX4_build_181 : decode cX4_build 181 = .ok (.aload_n 0, 1) := by decide +kernel
theorem dX4_build_182 : decode cX4_build 182 = .ok (.getfield 187, 3) := by decide +kernel
theorem dX4_build_185 : decode cX4_build 185 = .ok (.putfield 17, 3) := by decide +kernel
theorem dX4_build_188 : decode cX4_build 188 = .ok (.aload_n 0, 1) := by decide +kernel
theorem dX4_build_189 : decode cX4_build 189 = .ok (.iconst 0, 1) := by decide +kernel
theorem dX4_build_190 : decode cX4_build 190 = .ok (.putfield 234, 3) := by decide +kernel
theorem dX4_build_193 : decode cX4_build 193 = .ok (.aload_n 0, 1) := by decide +kernel
theorem dX4_build_194 : decode cX4_build 194 = .ok (.iconst 0, 1) := by decide +kernel
theorem dX4_build_195 : decode cX4_build 195 = .ok (.putfield 237, 3) := by decide +kernel
theorem dX4_build_198 : decode cX4_build 198 = .ok (.aload_n 0, 1) := by decide +kernel
theorem dX4_build_199 : decode cX4_build 199 = .ok (.iconst 0, 1) := by decide +kernel
theorem dX4_build_200 : decode cX4_build 200 = .ok (.putfield 240, 3) := by decide +kernel
theorem dX4_build_203 : decode cX4_build 203 = .ok (.aload_n 0, 1) := by decide +kernel
theorem dX4_build_204 : decode cX4_build 204 = .ok (.invokevirtual 243, 3) := by decide +kernel
theorem dX4_build_207 : decode cX4_build 207 = .ok (.aload_n 0, 1) := by decide +kernel
theorem dX4_build_208 : decode cX4_build 208 = .ok (.getfield 20, 3) := by decide +kernel
theorem dX4_build_211 : decode cX4_build 211 = .ok (.aload_n 0, 1) := by decide +kernel
theorem dX4_build_212 : decode cX4_build 212 = .ok (.getfield 187, 3) := by decide +kernel
theorem dX4_build_215 : decode cX4_build 215 = .ok (.iaload, 1) := by decide +kernel
theorem dX4_build_216 : decode cX4_build 216 = .ok (.ireturn, 1) := by decide +kernel
abbrev cX4_readChart : ByteArray := prog_17_method_18_code
def yX4_readChart : MethodName := ⟨RX4, "readChart", "()V"⟩
theorem dX4_readChart_0 : decode cX4_readChart 0 = .ok (.iconst (-1), 1) := by decide +kernel
theorem dX4_readChart_1 : decode cX4_readChart 1 = .ok (.istore_n 1, 1) := by decide +kernel
theorem dX4_readChart_2 : decode cX4_readChart 2 = .ok (.iconst 1, 1) := by decide +kernel
theorem dX4_readChart_3 : decode cX4_readChart 3 = .ok (.istore_n 2, 1) := by decide +kernel
theorem dX4_readChart_4 : decode cX4_readChart 4 = .ok (.iconst 1, 1) := by decide +kernel
theorem dX4_readChart_5 : decode cX4_readChart 5 = .ok (.istore_n 3, 1) := by decide +kernel
theorem dX4_readChart_6 : decode cX4_readChart 6 = .ok (.iload_n 3, 1) := by decide +kernel
theorem dX4_readChart_7 : decode cX4_readChart 7 = .ok (.ifCond .eq 197, 3) := by decide +kernel
theorem dX4_readChart_10 : decode cX4_readChart 10 = .ok (.aload_n 0, 1) := by decide +kernel
theorem dX4_readChart_11 : decode cX4_readChart 11 = .ok (.getfield 149, 3) := by decide +kernel
theorem dX4_readChart_14 : decode cX4_readChart 14 = .ok (.ifCond .ne 190, 3) := by decide +kernel
theorem dX4_readChart_17 : decode cX4_readChart 17 = .ok (.aload_n 0, 1) := by decide +kernel
theorem dX4_readChart_18 : decode cX4_readChart 18 = .ok (.iload_n 1, 1) := by decide +kernel
theorem dX4_readChart_19 : decode cX4_readChart 19 = .ok (.iload_n 2, 1) := by decide +kernel
theorem dX4_readChart_20 : decode cX4_readChart 20 = .ok (.invokevirtual 214, 3) := by decide +kernel
theorem dX4_readChart_23 : decode cX4_readChart 23 = .ok (.istore 4, 2) := by decide +kernel
theorem dX4_readChart_25 : decode cX4_readChart 25 = .ok (.aload_n 0, 1) := by decide +kernel
theorem dX4_readChart_26 : decode cX4_readChart 26 = .ok (.bipush 40, 2) := by decide +kernel
theorem dX4_readChart_28 : decode cX4_readChart 28 = .ok (.invokevirtual 163, 3) := by decide +kernel
theorem dX4_readChart_31 : decode cX4_readChart 31 = .ok (.istore 5, 2) := by decide +kernel
theorem dX4_readChart_33 : decode cX4_readChart 33 = .ok (.iload 5, 2) := by decide +kernel
theorem dX4_readChart_35 : decode cX4_readChart 35 = .ok (.ifCond .ne 12, 3) := by decide +kernel
theorem dX4_readChart_38 : decode cX4_readChart 38 = .ok (.aload_n 0, 1) := by decide +kernel
theorem dX4_readChart_39 : decode cX4_readChart 39 = .ok (.bipush 60, 2) := by decide +kernel
theorem dX4_readChart_41 : decode cX4_readChart 41 = .ok (.invokevirtual 163, 3) := by decide +kernel
theorem dX4_readChart_44 : decode cX4_readChart 44 = .ok (.ifCond .eq 37, 3) := by decide +kernel
theorem dX4_readChart_47 : decode cX4_readChart 47 = .ok (.aload_n 0, 1) := by decide +kernel
theorem dX4_readChart_48 : decode cX4_readChart 48 = .ok (.getfield 36, 3) := by decide +kernel
theorem dX4_readChart_51 : decode cX4_readChart 51 = .ok (.bipush 16, 2) := by decide +kernel
theorem dX4_readChart_53 : decode cX4_readChart 53 = .ok (.aload_n 0, 1) := by decide +kernel
theorem dX4_readChart_54 : decode cX4_readChart 54 = .ok (.getfield 187, 3) := by decide +kernel
theorem dX4_readChart_57 : decode cX4_readChart 57 = .ok (.imul, 1) := by decide +kernel
theorem dX4_readChart_58 : decode cX4_readChart 58 = .ok (.iload 4, 2) := by decide +kernel
theorem dX4_readChart_60 : decode cX4_readChart 60 = .ok (.iadd, 1) := by decide +kernel
theorem dX4_readChart_61 : decode cX4_readChart 61 = .ok (.iload 5, 2) := by decide +kernel
theorem dX4_readChart_63 : decode cX4_readChart 63 = .ok (.ifCond .eq 7, 3) := by decide +kernel
theorem dX4_readChart_66 : decode cX4_readChart 66 = .ok (.iconst 1, 1) := by decide +kernel
theorem dX4_readChart_67 : decode cX4_readChart 67 = .ok (.goto 4, 3) := by decide +kernel
theorem dX4_readChart_70 : decode cX4_readChart 70 = .ok (.iconst 2, 1) := by decide +kernel
theorem dX4_readChart_71 : decode cX4_readChart 71 = .ok (.iastore, 1) := by decide +kernel
theorem dX4_readChart_72 : decode cX4_readChart 72 = .ok (.iload 4, 2) := by decide +kernel
theorem dX4_readChart_74 : decode cX4_readChart 74 = .ok (.istore_n 1, 1) := by decide +kernel
theorem dX4_readChart_75 : decode cX4_readChart 75 = .ok (.iinc 2 1, 3) := by decide +kernel
theorem dX4_readChart_78 : decode cX4_readChart 78 = .ok (.goto (-72), 3) := by decide +kernel
theorem dX4_readChart_81 : decode cX4_readChart 81 = .ok (.aload_n 0, 1) := by decide +kernel
theorem dX4_readChart_82 : decode cX4_readChart 82 = .ok (.iload 4, 2) := by decide +kernel
theorem dX4_readChart_84 : decode cX4_readChart 84 = .ok (.invokevirtual 218, 3) := by decide +kernel
theorem dX4_readChart_87 : decode cX4_readChart 87 = .ok (.aload_n 0, 1) := by decide +kernel
theorem dX4_readChart_88 : decode cX4_readChart 88 = .ok (.getfield 149, 3) := by decide +kernel
theorem dX4_readChart_91 : decode cX4_readChart 91 = .ok (.ifCond .ne 100, 3) := by decide +kernel
theorem dX4_readChart_94 : decode cX4_readChart 94 = .ok (.iload_n 1, 1) := by decide +kernel
theorem dX4_readChart_95 : decode cX4_readChart 95 = .ok (.ifCond .lt 96, 3) := by decide +kernel
theorem dX4_readChart_98 : decode cX4_readChart 98 = .ok (.aload_n 0, 1) := by decide +kernel
theorem dX4_readChart_99 : decode cX4_readChart 99 = .ok (.bipush 97, 2) := by decide +kernel
theorem dX4_readChart_101 : decode cX4_readChart 101 = .ok (.bipush 112, 2) := by decide +kernel
theorem dX4_readChart_103 : decode cX4_readChart 103 = .ok (.invokevirtual 178, 3) := by decide +kernel
theorem dX4_readChart_106 : decode cX4_readChart 106 = .ok (.ifCond .ne 85, 3) := by decide +kernel
theorem dX4_readChart_109 : decode cX4_readChart 109 = .ok (.aload_n 0, 1) := by decide +kernel
theorem dX4_readChart_110 : decode cX4_readChart 110 = .ok (.getfield 36, 3) := by decide +kernel
theorem dX4_readChart_113 : decode cX4_readChart 113 = .ok (.bipush 16, 2) := by decide +kernel
theorem dX4_readChart_115 : decode cX4_readChart 115 = .ok (.aload_n 0, 1) := by decide +kernel
theorem dX4_readChart_116 : decode cX4_readChart 116 = .ok (.getfield 187, 3) := by decide +kernel
theorem dX4_readChart_119 : decode cX4_readChart 119 = .ok (.imul, 1) := by decide +kernel
