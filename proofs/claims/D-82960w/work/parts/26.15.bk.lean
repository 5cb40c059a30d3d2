noncomputable abbrev me_426 : mE := (426, 1669, 5, 0, 0, M_426)
set_option maxRecDepth 1000000 in
theorem mo_426 : bkchk me_426 = true := by decide +kernel
set_option maxRecDepth 1000000 in
theorem mb_426_0 : bkB me_426 M_426.2.1 = true := by decide +kernel
theorem mp_426 : bk_P me_426 := bkchk_ok mo_426 mb_426_0
noncomputable abbrev me_427 : mE := (427, 1677, 5, 0, 0, M_427)
set_option maxRecDepth 1000000 in
theorem mo_427 : bkchk me_427 = true := by decide +kernel
set_option maxRecDepth 1000000 in
theorem mb_427_0 : bkB me_427 M_427.2.1 = true := by decide +kernel
theorem mp_427 : bk_P me_427 := bkchk_ok mo_427 mb_427_0
noncomputable abbrev me_428 : mE := (428, 1673, 5, 0, 0, M_428)
set_option maxRecDepth 1000000 in
theorem mo_428 : bkchk me_428 = true := by decide +kernel
set_option maxRecDepth 1000000 in
theorem mb_428_0 : bkB me_428 (M_428.2.1.take 4) = true := by decide +kernel
set_option maxRecDepth 1000000 in
theorem mb_428_1 : bkB me_428 (M_428.2.1.drop 4) = true := by decide +kernel
theorem mp_428 : bk_P me_428 := bkchk_ok mo_428 (bk_split 4 mb_428_0 mb_428_1)
noncomputable abbrev me_429 : mE := (429, 1681, 5, 0, 0, M_429)
set_option maxRecDepth 1000000 in
theorem mo_429 : bkchk me_429 = true := by decide +kernel
set_option maxRecDepth 1000000 in
theorem mb_429_0 : bkB me_429 (M_429.2.1.take 8) = true := by decide +kernel
set_option maxRecDepth 1000000 in
theorem mb_429_1 : bkB me_429 ((M_429.2.1.drop 8).take 4) = true := by decide +kernel
set_option maxRecDepth 1000000 in
theorem mb_429_2 : bkB me_429 ((M_429.2.1.drop 8).drop 4) = true := by decide +kernel
theorem mp_429 : bk_P me_429 := bkchk_ok mo_429 (bk_split 8 mb_429_0 (bk_split 4 mb_429_1 mb_429_2))
noncomputable abbrev me_430 : mE := (430, 1685, 5, 0, 0, M_430)
set_option maxRecDepth 1000000 in
theorem mo_430 : bkchk me_430 = true := by decide +kernel
set_option maxRecDepth 1000000 in
theorem mb_430_0 : bkB me_430 M_430.2.1 = true := by decide +kernel
theorem mp_430 : bk_P me_430 := bkchk_ok mo_430 mb_430_0
noncomputable abbrev me_431 : mE := (431, 1689, 5, 0, 0, M_431)
set_option maxRecDepth 1000000 in
theorem mo_431 : bkchk me_431 = true := by decide +kernel
set_option maxRecDepth 1000000 in
theorem mb_431_0 : bkB me_431 M_431.2.1 = true := by decide +kernel
theorem mp_431 : bk_P me_431 := bkchk_ok mo_431 mb_431_0
noncomputable abbrev me_432 : mE := (432, 1693, 5, 0, 0, M_432)
set_option maxRecDepth 1000000 in
theorem mo_432 : bkchk me_432 = true := by decide +kernel
set_option maxRecDepth 1000000 in
theorem mb_432_0 : bkB me_432 M_432.2.1 = true := by decide +kernel
theorem mp_432 : bk_P me_432 := bkchk_ok mo_432 mb_432_0
noncomputable abbrev me_433 : mE := (433, 1697, 5, 0, 0, M_433)
set_option maxRecDepth 1000000 in
theorem mo_433 : bkchk me_433 = true := by decide +kernel
set_option maxRecDepth 1000000 in
theorem mb_433_0 : bkB me_433 (M_433.2.1.take 7) = true := by decide +kernel
set_option maxRecDepth 1000000 in
theorem mb_433_1 : bkB me_433 ((M_433.2.1.drop 7).take 4) = true := by decide +kernel
set_option maxRecDepth 1000000 in
theorem mb_433_2 : bkB me_433 ((M_433.2.1.drop 7).drop 4) = true := by decide +kernel
theorem mp_433 : bk_P me_433 := bkchk_ok mo_433 (bk_split 7 mb_433_0 (bk_split 4 mb_433_1 mb_433_2))
noncomputable abbrev me_434 : mE := (434, 1701, 5, 0, 0, M_434)
set_option maxRecDepth 1000000 in
theorem mo_434 : bkchk me_434 = true := by decide +kernel
set_option maxRecDepth 1000000 in
theorem mb_434_0 : bkB me_434 M_434.2.1 = true := by decide +kernel
theorem mp_434 : bk_P me_434 := bkchk_ok mo_434 mb_434_0
noncomputable abbrev me_435 : mE := (435, 1516, 5, 1, 0, M_435)
set_option maxRecDepth 1000000 in
theorem mo_435 : bkchk me_435 = true := by decide +kernel
set_option maxRecDepth 1000000 in
theorem mb_435_0 : bkB me_435 M_435.2.1 = true := by decide +kernel
theorem mp_435 : bk_P me_435 := bkchk_ok mo_435 mb_435_0
noncomputable abbrev me_436 : mE := (436, 1579, 5, 1, 0, M_436)
set_option maxRecDepth 1000000 in
theorem mo_436 : bkchk me_436 = true := by decide +kernel
set_option maxRecDepth 1000000 in
theorem mb_436_0 : bkB me_436 M_436.2.1 = true := by decide +kernel
theorem mp_436 : bk_P me_436 := bkchk_ok mo_436 mb_436_0
noncomputable abbrev me_437 : mE := (437, 1520, 5, 1, 0, M_437)
set_option maxRecDepth 1000000 in
theorem mo_437 : bkchk me_437 = true := by decide +kernel
set_option maxRecDepth 1000000 in
theorem mb_437_0 : bkB me_437 (M_437.2.1.take 1) = true := by decide +kernel
set_option maxRecDepth 1000000 in
theorem mb_437_1 : bkB me_437 ((M_437.2.1.drop 1).take 1) = true := by decide +kernel
set_option maxRecDepth 1000000 in
theorem mb_437_2 : bkB me_437 ((M_437.2.1.drop 1).drop 1) = true := by decide +kernel
theorem mp_437 : bk_P me_437 := bkchk_ok mo_437 (bk_split 1 mb_437_0 (bk_split 1 mb_437_1 mb_437_2))
noncomputable abbrev me_438 : mE := (438, 1524, 5, 1, 0, M_438)
set_option maxRecDepth 1000000 in
theorem mo_438 : bkchk me_438 = true := by decide +kernel
set_option maxRecDepth 1000000 in
theorem mb_438_0 : bkB me_438 M_438.2.1 = true := by decide +kernel
theorem mp_438 : bk_P me_438 := bkchk_ok mo_438 mb_438_0
noncomputable abbrev me_439 : mE := (439, 1528, 5, 1, 0, M_439)
set_option maxRecDepth 1000000 in
theorem mo_439 : bkchk me_439 = true := by decide +kernel
set_option maxRecDepth 1000000 in
theorem mb_439_0 : bkB me_439 M_439.2.1 = true := by decide +kernel
theorem mp_439 : bk_P me_439 := bkchk_ok mo_439 mb_439_0
noncomputable abbrev me_440 : mE := (440, 1532, 5, 1, 0, M_440)
set_option maxRecDepth 1000000 in
theorem mo_440 : bkchk me_440 = true := by decide +kernel
set_option maxRecDepth 1000000 in
theorem mb_440_0 : bkB me_440 (M_440.2.1.take 8) = true := by decide +kernel
set_option maxRecDepth 1000000 in
theorem mb_440_1 : bkB me_440 ((M_440.2.1.drop 8).take 7) = true := by decide +kernel
set_option maxRecDepth 1000000 in
theorem mb_440_2 : bkB me_440 (((M_440.2.1.drop 8).drop 7).take 6) = true := by decide +kernel
set_option maxRecDepth 1000000 in
theorem mb_440_3 : bkB me_440 (((M_440.2.1.drop 8).drop 7).drop 6) = true := by decide +kernel
theorem mp_440 : bk_P me_440 := bkchk_ok mo_440 (bk_split 8 mb_440_0 (bk_split 7 mb_440_1 (bk_split 6 mb_440_2 mb_440_3)))
noncomputable abbrev me_441 : mE := (441, 1536, 5, 1, 0, M_441)
set_option maxRecDepth 1000000 in
theorem mo_441 : bkchk me_441 = true := by decide +kernel
set_option maxRecDepth 1000000 in
theorem mb_441_0 : bkB me_441 (M_441.2.1.take 4) = true := by decide +kernel
set_option maxRecDepth 1000000 in
theorem mb_441_1 : bkB me_441 (M_441.2.1.drop 4) = true := by decide +kernel
theorem mp_441 : bk_P me_441 := bkchk_ok mo_441 (bk_split 4 mb_441_0 mb_441_1)
noncomputable abbrev me_442 : mE := (442, 1540, 5, 1, 0, M_442)
set_option maxRecDepth 1000000 in
theorem mo_442 : bkchk me_442 = true := by decide +kernel
set_option maxRecDepth 1000000 in
theorem mb_442_0 : bkB me_442 (M_442.2.1.take 5) = true := by decide +kernel
set_option maxRecDepth 1000000 in
theorem mb_442_1 : bkB me_442 (M_442.2.1.drop 5) = true := by decide +kernel
theorem mp_442 : bk_P me_442 := bkchk_ok mo_442 (bk_split 5 mb_442_0 mb_442_1)
noncomputable abbrev me_443 : mE := (443, 1544, 5, 1, 0, M_443)
set_option maxRecDepth 1000000 in
theorem mo_443 : bkchk me_443 = true := by decide +kernel
set_option maxRecDepth 1000000 in
theorem mb_443_0 : bkB me_443 (M_443.2.1.take 5) = true := by decide +kernel
set_option maxRecDepth 1000000 in
theorem mb_443_1 : bkB me_443 (M_443.2.1.drop 5) = true := by decide +kernel
theorem mp_443 : bk_P me_443 := bkchk_ok mo_443 (bk_split 5 mb_443_0 mb_443_1)
noncomputable abbrev me_444 : mE := (444, 1548, 5, 1, 0, M_444)
set_option maxRecDepth 1000000 in
theorem mo_444 : bkchk me_444 = true := by decide +kernel
set_option maxRecDepth 1000000 in
theorem mb_444_0 : bkB me_444 (M_444.2.1.take 9) = true := by decide +kernel
set_option maxRecDepth 1000000 in
theorem mb_444_1 : bkB me_444 (M_444.2.1.drop 9) = true := by decide +kernel
theorem mp_444 : bk_P me_444 := bkchk_ok mo_444 (bk_split 9 mb_444_0 mb_444_1)
noncomputable abbrev me_445 : mE := (445, 1556, 5, 1, 0, M_445)
set_option maxRecDepth 1000000 in
theorem mo_445 : bkchk me_445 = true := by decide +kernel
set_option maxRecDepth 1000000 in
theorem mb_445_0 : bkB me_445 M_445.2.1 = true := by decide +kernel
theorem mp_445 : bk_P me_445 := bkchk_ok mo_445 mb_445_0
noncomputable abbrev me_446 : mE := (446, 1552, 5, 1, 0, M_446)
set_option maxRecDepth 1000000 in
theorem mo_446 : bkchk me_446 = true := by decide +kernel
set_option maxRecDepth 1000000 in
theorem mb_446_0 : bkB me_446 (M_446.2.1.take 4) = true := by decide +kernel
set_option maxRecDepth 1000000 in
theorem mb_446_1 : bkB me_446 ((M_446.2.1.drop 4).take 4) = true := by decide +kernel
set_option maxRecDepth 1000000 in
theorem mb_446_2 : bkB me_446 (((M_446.2.1.drop 4).drop 4).take 3) = true := by decide +kernel
set_option maxRecDepth 1000000 in
theorem mb_446_3 : bkB me_446 (((M_446.2.1.drop 4).drop 4).drop 3) = true := by decide +kernel
theorem mp_446 : bk_P me_446 := bkchk_ok mo_446 (bk_split 4 mb_446_0 (bk_split 4 mb_446_1 (bk_split 3 mb_446_2 mb_446_3)))
noncomputable abbrev me_447 : mE := (447, 1572, 5, 2, 0, M_447)
set_option maxRecDepth 1000000 in
theorem mo_447 : bkchk me_447 = true := by decide +kernel
set_option maxRecDepth 1000000 in
theorem mb_447_0 : bkB me_447 M_447.2.1 = true := by decide +kernel
theorem mp_447 : bk_P me_447 := bkchk_ok mo_447 mb_447_0
noncomputable abbrev me_448 : mE := (448, 1599, 5, 1, 0, M_448)
set_option maxRecDepth 1000000 in
theorem mo_448 : bkchk me_448 = true := by decide +kernel
set_option maxRecDepth 1000000 in
theorem mb_448_0 : bkB me_448 (M_448.2.1.take 6) = true := by decide +kernel
set_option maxRecDepth 1000000 in
theorem mb_448_1 : bkB me_448 ((M_448.2.1.drop 6).take 4) = true := by decide +kernel
set_option maxRecDepth 1000000 in
theorem mb_448_2 : bkB me_448 (((M_448.2.1.drop 6).drop 4).take 1) = true := by decide +kernel
set_option maxRecDepth 1000000 in
theorem mb_448_3 : bkB me_448 ((((M_448.2.1.drop 6).drop 4).drop 1).take 1) = true := by decide +kernel
set_option maxRecDepth 1000000 in
theorem mb_448_4 : bkB me_448 (((((M_448.2.1.drop 6).drop 4).drop 1).drop 1).take 1) = true := by decide +kernel
set_option maxRecDepth 1000000 in
theorem mb_448_5 : bkB me_448 ((((((M_448.2.1.drop 6).drop 4).drop 1).drop 1).drop 1).take 4) = true := by decide +kernel
set_option maxRecDepth 1000000 in
theorem mb_448_6 : bkB me_448 ((((((M_448.2.1.drop 6).drop 4).drop 1).drop 1).drop 1).drop 4) = true := by decide +kernel
theorem mp_448 : bk_P me_448 := bkchk_ok mo_448 (bk_split 6 mb_448_0 (bk_split 4 mb_448_1 (bk_split 1 mb_448_2 (bk_split 1 mb_448_3 (bk_split 1 mb_448_4 (bk_split 4 mb_448_5 mb_448_6))))))
noncomputable abbrev me_449 : mE := (449, 1620, 5, 1, 0, M_449)
set_option maxRecDepth 1000000 in
theorem mo_449 : bkchk me_449 = true := by decide +kernel
set_option maxRecDepth 1000000 in
theorem mb_449_0 : bkB me_449 M_449.2.1 = true := by decide +kernel
theorem mp_449 : bk_P me_449 := bkchk_ok mo_449 mb_449_0
noncomputable abbrev me_450 : mE := (450, 1629, 5, 1, 0, M_450)
set_option maxRecDepth 1000000 in
theorem mo_450 : bkchk me_450 = true := by decide +kernel
set_option maxRecDepth 1000000 in
theorem mb_450_0 : bkB me_450 M_450.2.1 = true := by decide +kernel
theorem mp_450 : bk_P me_450 := bkchk_ok mo_450 mb_450_0
noncomputable abbrev me_451 : mE := (451, 1633, 5, 1, 0, M_451)
set_option maxRecDepth 1000000 in
theorem mo_451 : bkchk me_451 = true := by decide +kernel
set_option maxRecDepth 1000000 in
theorem mb_451_0 : bkB me_451 M_451.2.1 = true := by decide +kernel
theorem mp_451 : bk_P me_451 := bkchk_ok mo_451 mb_451_0
noncomputable abbrev me_452 : mE := (452, 1637, 5, 1, 0, M_452)
set_option maxRecDepth 1000000 in
theorem mo_452 : bkchk me_452 = true := by decide +kernel
set_option maxRecDepth 1000000 in
theorem mb_452_0 : bkB me_452 (M_452.2.1.take 8) = true := by decide +kernel
set_option maxRecDepth 1000000 in
theorem mb_452_1 : bkB me_452 ((M_452.2.1.drop 8).take 9) = true := by decide +kernel
set_option maxRecDepth 1000000 in
theorem mb_452_2 : bkB me_452 (((M_452.2.1.drop 8).drop 9).take 3) = true := by decide +kernel
set_option maxRecDepth 1000000 in
theorem mb_452_3 : bkB me_452 ((((M_452.2.1.drop 8).drop 9).drop 3).take 3) = true := by decide +kernel
set_option maxRecDepth 1000000 in
theorem mb_452_4 : bkB me_452 ((((M_452.2.1.drop 8).drop 9).drop 3).drop 3) = true := by decide +kernel
theorem mp_452 : bk_P me_452 := bkchk_ok mo_452 (bk_split 8 mb_452_0 (bk_split 9 mb_452_1 (bk_split 3 mb_452_2 (bk_split 3 mb_452_3 mb_452_4))))
noncomputable abbrev me_453 : mE := (453, 1643, 5, 1, 0, M_453)
set_option maxRecDepth 1000000 in
theorem mo_453 : bkchk me_453 = true := by decide +kernel
set_option maxRecDepth 1000000 in
theorem mb_453_0 : bkB me_453 (M_453.2.1.take 4) = true := by decide +kernel
set_option maxRecDepth 1000000 in
theorem mb_453_1 : bkB me_453 (M_453.2.1.drop 4) = true := by decide +kernel
theorem mp_453 : bk_P me_453 := bkchk_ok mo_453 (bk_split 4 mb_453_0 mb_453_1)
noncomputable abbrev me_454 : mE := (454, 1603, 5, 1, 0, M_454)
set_option maxRecDepth 1000000 in
theorem mo_454 : bkchk me_454 = true := by decide +kernel
set_option maxRecDepth 1000000 in
theorem mb_454_0 : bkB me_454 (M_454.2.1.take 8) = true := by decide +kernel
set_option maxRecDepth 1000000 in
theorem mb_454_1 : bkB me_454 ((M_454.2.1.drop 8).take 5) = true := by decide +kernel
set_option maxRecDepth 1000000 in
theorem mb_454_2 : bkB me_454 (((M_454.2.1.drop 8).drop 5).take 4) = true := by decide +kernel
set_option maxRecDepth 1000000 in
theorem mb_454_3 : bkB me_454 (((M_454.2.1.drop 8).drop 5).drop 4) = true := by decide +kernel
theorem mp_454 : bk_P me_454 := bkchk_ok mo_454 (bk_split 8 mb_454_0 (bk_split 5 mb_454_1 (bk_split 4 mb_454_2 mb_454_3)))
noncomputable abbrev me_455 : mE := (455, 1611, 5, 1, 0, M_455)
set_option maxRecDepth 1000000 in
theorem mo_455 : bkchk me_455 = true := by decide +kernel
set_option maxRecDepth 1000000 in
theorem mb_455_0 : bkB me_455 (M_455.2.1.take 9) = true := by decide +kernel
set_option maxRecDepth 1000000 in
theorem mb_455_1 : bkB me_455 (M_455.2.1.drop 9) = true := by decide +kernel
theorem mp_455 : bk_P me_455 := bkchk_ok mo_455 (bk_split 9 mb_455_0 mb_455_1)
noncomputable def ME_15 : List mE := [me_426, me_427, me_428, me_429, me_430, me_431, me_432, me_433, me_434, me_435, me_436, me_437, me_438, me_439, me_440, me_441, me_442, me_443, me_444, me_445, me_446, me_447, me_448, me_449, me_450, me_451, me_452, me_453, me_454, me_455]
theorem ME_ok_15 : ∀ q ∈ ME_15, bk_P q := by
  unfold ME_15
  intro q hq
  rcases List.mem_cons.mp hq with rfl | hq
  · exact mp_426
  rcases List.mem_cons.mp hq with rfl | hq
  · exact mp_427
  rcases List.mem_cons.mp hq with rfl | hq
  · exact mp_428
  rcases List.mem_cons.mp hq with rfl | hq
  · exact mp_429
  rcases List.mem_cons.mp hq with rfl | hq
  · exact mp_430
  rcases List.mem_cons.mp hq with rfl | hq
  · exact mp_431
  rcases List.mem_cons.mp hq with rfl | hq
  · exact mp_432
  rcases List.mem_cons.mp hq with rfl | hq
  · exact mp_433
  rcases List.mem_cons.mp hq with rfl | hq
  · exact mp_434
  rcases List.mem_cons.mp hq with rfl | hq
  · exact mp_435
  rcases List.mem_cons.mp hq with rfl | hq
  · exact mp_436
  rcases List.mem_cons.mp hq with rfl | hq
  · exact mp_437
  rcases List.mem_cons.mp hq with rfl | hq
  · exact mp_438
  rcases List.mem_cons.mp hq with rfl | hq
  · exact mp_439
  rcases List.mem_cons.mp hq with rfl | hq
  · exact mp_440
  rcases List.mem_cons.mp hq with rfl | hq
  · exact mp_441
  rcases List.mem_cons.mp hq with rfl | hq
  · exact mp_442
  rcases List.mem_cons.mp hq with rfl | hq
  · exact mp_443
  rcases List.mem_cons.mp hq with rfl | hq
  · exact mp_444
  rcases List.mem_cons.mp hq with rfl | hq
  · exact mp_445
  rcases List.mem_cons.mp hq with rfl | hq
  · exact mp_446
  rcases List.mem_cons.mp hq with rfl | hq
  · exact mp_447
  rcases List.mem_cons.mp hq with rfl | hq
  · exact mp_448
  rcases List.mem_cons.mp hq with rfl | hq
  · exact mp_449
  rcases List.mem_cons.mp hq with rfl | hq
  · exact mp_450
  rcases List.mem_cons.mp hq with rfl | hq
  · exact mp_451
  rcases List.mem_cons.mp hq with rfl | hq
  · exact mp_452
  rcases List.mem_cons.mp hq with rfl | hq
  · exact mp_453
  rcases List.mem_cons.mp hq with rfl | hq
  · exact mp_454
  rcases List.mem_cons.mp hq with rfl | hq
  · exact mp_455
  cases hq
