noncomputable abbrev me_456 : mE := (456, 1568, 5, 1, 0, M_456)
set_option maxRecDepth 1000000 in
theorem mo_456 : bkchk me_456 = true := by decide +kernel
set_option maxRecDepth 1000000 in
theorem mb_456_0 : bkB me_456 (M_456.2.1.take 4) = true := by decide +kernel
set_option maxRecDepth 1000000 in
theorem mb_456_1 : bkB me_456 ((M_456.2.1.drop 4).take 1) = true := by decide +kernel
set_option maxRecDepth 1000000 in
theorem mb_456_2 : bkB me_456 ((M_456.2.1.drop 4).drop 1) = true := by decide +kernel
theorem mp_456 : bk_P me_456 := bkchk_ok mo_456 (bk_split 4 mb_456_0 (bk_split 1 mb_456_1 mb_456_2))
noncomputable abbrev me_457 : mE := (457, 1583, 5, 1, 0, M_457)
set_option maxRecDepth 1000000 in
theorem mo_457 : bkchk me_457 = true := by decide +kernel
set_option maxRecDepth 1000000 in
theorem mb_457_0 : bkB me_457 (M_457.2.1.take 6) = true := by decide +kernel
set_option maxRecDepth 1000000 in
theorem mb_457_1 : bkB me_457 ((M_457.2.1.drop 6).take 2) = true := by decide +kernel
set_option maxRecDepth 1000000 in
theorem mb_457_2 : bkB me_457 (((M_457.2.1.drop 6).drop 2).take 2) = true := by decide +kernel
set_option maxRecDepth 1000000 in
theorem mb_457_3 : bkB me_457 ((((M_457.2.1.drop 6).drop 2).drop 2).take 2) = true := by decide +kernel
set_option maxRecDepth 1000000 in
theorem mb_457_4 : bkB me_457 ((((M_457.2.1.drop 6).drop 2).drop 2).drop 2) = true := by decide +kernel
theorem mp_457 : bk_P me_457 := bkchk_ok mo_457 (bk_split 6 mb_457_0 (bk_split 2 mb_457_1 (bk_split 2 mb_457_2 (bk_split 2 mb_457_3 mb_457_4))))
noncomputable abbrev me_460 : mE := (460, 1375, 7, 1, 0, M_460)
set_option maxRecDepth 1000000 in
theorem mo_460 : bkchk me_460 = true := by decide +kernel
set_option maxRecDepth 1000000 in
theorem mb_460_0 : bkB me_460 M_460.2.1 = true := by decide +kernel
theorem mp_460 : bk_P me_460 := bkchk_ok mo_460 mb_460_0
noncomputable abbrev me_461 : mE := (461, 1389, 7, 2, 0, M_461)
set_option maxRecDepth 1000000 in
theorem mo_461 : bkchk me_461 = true := by decide +kernel
set_option maxRecDepth 1000000 in
theorem mb_461_0 : bkB me_461 M_461.2.1 = true := by decide +kernel
theorem mp_461 : bk_P me_461 := bkchk_ok mo_461 mb_461_0
noncomputable abbrev me_462 : mE := (462, 1382, 7, 2, 0, M_462)
set_option maxRecDepth 1000000 in
theorem mo_462 : bkchk me_462 = true := by decide +kernel
set_option maxRecDepth 1000000 in
theorem mb_462_0 : bkB me_462 M_462.2.1 = true := by decide +kernel
theorem mp_462 : bk_P me_462 := bkchk_ok mo_462 mb_462_0
noncomputable abbrev me_463 : mE := (463, 1379, 7, 0, 0, M_463)
set_option maxRecDepth 1000000 in
theorem mo_463 : bkchk me_463 = true := by decide +kernel
set_option maxRecDepth 1000000 in
theorem mb_463_0 : bkB me_463 M_463.2.1 = true := by decide +kernel
theorem mp_463 : bk_P me_463 := bkchk_ok mo_463 mb_463_0
noncomputable abbrev me_464 : mE := (464, 1367, 7, 0, 0, M_464)
set_option maxRecDepth 1000000 in
theorem mo_464 : bkchk me_464 = true := by decide +kernel
set_option maxRecDepth 1000000 in
theorem mb_464_0 : bkB me_464 (M_464.2.1.take 5) = true := by decide +kernel
set_option maxRecDepth 1000000 in
theorem mb_464_1 : bkB me_464 (M_464.2.1.drop 5) = true := by decide +kernel
theorem mp_464 : bk_P me_464 := bkchk_ok mo_464 (bk_split 5 mb_464_0 mb_464_1)
noncomputable abbrev me_465 : mE := (465, 1371, 7, 0, 0, M_465)
set_option maxRecDepth 1000000 in
theorem mo_465 : bkchk me_465 = true := by decide +kernel
set_option maxRecDepth 1000000 in
theorem mb_465_0 : bkB me_465 (M_465.2.1.take 6) = true := by decide +kernel
set_option maxRecDepth 1000000 in
theorem mb_465_1 : bkB me_465 (M_465.2.1.drop 6) = true := by decide +kernel
theorem mp_465 : bk_P me_465 := bkchk_ok mo_465 (bk_split 6 mb_465_0 mb_465_1)
noncomputable abbrev me_466 : mE := (466, 1386, 7, 0, 0, M_466)
set_option maxRecDepth 1000000 in
theorem mo_466 : bkchk me_466 = true := by decide +kernel
set_option maxRecDepth 1000000 in
theorem mb_466_0 : bkB me_466 M_466.2.1 = true := by decide +kernel
theorem mp_466 : bk_P me_466 := bkchk_ok mo_466 mb_466_0
noncomputable abbrev me_467 : mE := (467, 1397, 7, 0, 0, M_467)
set_option maxRecDepth 1000000 in
theorem mo_467 : bkchk me_467 = true := by decide +kernel
set_option maxRecDepth 1000000 in
theorem mb_467_0 : bkB me_467 (M_467.2.1.take 7) = true := by decide +kernel
set_option maxRecDepth 1000000 in
theorem mb_467_1 : bkB me_467 (M_467.2.1.drop 7) = true := by decide +kernel
theorem mp_467 : bk_P me_467 := bkchk_ok mo_467 (bk_split 7 mb_467_0 mb_467_1)
noncomputable abbrev me_468 : mE := (468, 1403, 7, 0, 0, M_468)
set_option maxRecDepth 1000000 in
theorem mo_468 : bkchk me_468 = true := by decide +kernel
set_option maxRecDepth 1000000 in
theorem mb_468_0 : bkB me_468 (M_468.2.1.take 7) = true := by decide +kernel
set_option maxRecDepth 1000000 in
theorem mb_468_1 : bkB me_468 ((M_468.2.1.drop 7).take 1) = true := by decide +kernel
set_option maxRecDepth 1000000 in
theorem mb_468_2 : bkB me_468 ((M_468.2.1.drop 7).drop 1) = true := by decide +kernel
theorem mp_468 : bk_P me_468 := bkchk_ok mo_468 (bk_split 7 mb_468_0 (bk_split 1 mb_468_1 mb_468_2))
noncomputable abbrev me_470 : mE := (470, 1455, 3, 0, 0, M_470)
set_option maxRecDepth 1000000 in
theorem mo_470 : bkchk me_470 = true := by decide +kernel
set_option maxRecDepth 1000000 in
theorem mb_470_0 : bkB me_470 M_470.2.1 = true := by decide +kernel
theorem mp_470 : bk_P me_470 := bkchk_ok mo_470 mb_470_0
noncomputable abbrev me_471 : mE := (471, 1467, 3, 0, 0, M_471)
set_option maxRecDepth 1000000 in
theorem mo_471 : bkchk me_471 = true := by decide +kernel
set_option maxRecDepth 1000000 in
theorem mb_471_0 : bkB me_471 (M_471.2.1.take 3) = true := by decide +kernel
set_option maxRecDepth 1000000 in
theorem mb_471_1 : bkB me_471 ((M_471.2.1.drop 3).take 2) = true := by decide +kernel
set_option maxRecDepth 1000000 in
theorem mb_471_2 : bkB me_471 (((M_471.2.1.drop 3).drop 2).take 2) = true := by decide +kernel
set_option maxRecDepth 1000000 in
theorem mb_471_3 : bkB me_471 (((M_471.2.1.drop 3).drop 2).drop 2) = true := by decide +kernel
theorem mp_471 : bk_P me_471 := bkchk_ok mo_471 (bk_split 3 mb_471_0 (bk_split 2 mb_471_1 (bk_split 2 mb_471_2 mb_471_3)))
noncomputable abbrev me_472 : mE := (472, 1295, 3, 1, 0, M_472)
set_option maxRecDepth 1000000 in
theorem mo_472 : bkchk me_472 = true := by decide +kernel
set_option maxRecDepth 1000000 in
theorem mb_472_0 : bkB me_472 M_472.2.1 = true := by decide +kernel
theorem mp_472 : bk_P me_472 := bkchk_ok mo_472 mb_472_0
noncomputable abbrev me_473 : mE := (473, 1292, 3, 1, 0, M_473)
set_option maxRecDepth 1000000 in
theorem mo_473 : bkchk me_473 = true := by decide +kernel
set_option maxRecDepth 1000000 in
theorem mb_473_0 : bkB me_473 M_473.2.1 = true := by decide +kernel
theorem mp_473 : bk_P me_473 := bkchk_ok mo_473 mb_473_0
noncomputable abbrev me_474 : mE := (474, 1625, 3, 1, 0, M_474)
set_option maxRecDepth 1000000 in
theorem mo_474 : bkchk me_474 = true := by decide +kernel
set_option maxRecDepth 1000000 in
theorem mb_474_0 : bkB me_474 M_474.2.1 = true := by decide +kernel
theorem mp_474 : bk_P me_474 := bkchk_ok mo_474 mb_474_0
noncomputable abbrev me_475 : mE := (475, 1607, 3, 1, 0, M_475)
set_option maxRecDepth 1000000 in
theorem mo_475 : bkchk me_475 = true := by decide +kernel
set_option maxRecDepth 1000000 in
theorem mb_475_0 : bkB me_475 M_475.2.1 = true := by decide +kernel
theorem mp_475 : bk_P me_475 := bkchk_ok mo_475 mb_475_0
noncomputable abbrev me_476 : mE := (476, 1508, 3, 1, 0, M_476)
set_option maxRecDepth 1000000 in
theorem mo_476 : bkchk me_476 = true := by decide +kernel
set_option maxRecDepth 1000000 in
theorem mb_476_0 : bkB me_476 M_476.2.1 = true := by decide +kernel
theorem mp_476 : bk_P me_476 := bkchk_ok mo_476 mb_476_0
noncomputable abbrev me_1002 : mE := (1002, 1221, 13, 1, 0, M_1002)
set_option maxRecDepth 1000000 in
theorem mo_1002 : bkchk me_1002 = true := by decide +kernel
set_option maxRecDepth 1000000 in
theorem mb_1002_0 : bkB me_1002 M_1002.2.1 = true := by decide +kernel
theorem mp_1002 : bk_P me_1002 := bkchk_ok mo_1002 mb_1002_0
noncomputable def ME_16 : List mE := [me_456, me_457, me_460, me_461, me_462, me_463, me_464, me_465, me_466, me_467, me_468, me_470, me_471, me_472, me_473, me_474, me_475, me_476, me_1002]
theorem ME_ok_16 : ∀ q ∈ ME_16, bk_P q := by
  unfold ME_16
  intro q hq
  rcases List.mem_cons.mp hq with rfl | hq
  · exact mp_456
  rcases List.mem_cons.mp hq with rfl | hq
  · exact mp_457
  rcases List.mem_cons.mp hq with rfl | hq
  · exact mp_460
  rcases List.mem_cons.mp hq with rfl | hq
  · exact mp_461
  rcases List.mem_cons.mp hq with rfl | hq
  · exact mp_462
  rcases List.mem_cons.mp hq with rfl | hq
  · exact mp_463
  rcases List.mem_cons.mp hq with rfl | hq
  · exact mp_464
  rcases List.mem_cons.mp hq with rfl | hq
  · exact mp_465
  rcases List.mem_cons.mp hq with rfl | hq
  · exact mp_466
  rcases List.mem_cons.mp hq with rfl | hq
  · exact mp_467
  rcases List.mem_cons.mp hq with rfl | hq
  · exact mp_468
  rcases List.mem_cons.mp hq with rfl | hq
  · exact mp_470
  rcases List.mem_cons.mp hq with rfl | hq
  · exact mp_471
  rcases List.mem_cons.mp hq with rfl | hq
  · exact mp_472
  rcases List.mem_cons.mp hq with rfl | hq
  · exact mp_473
  rcases List.mem_cons.mp hq with rfl | hq
  · exact mp_474
  rcases List.mem_cons.mp hq with rfl | hq
  · exact mp_475
  rcases List.mem_cons.mp hq with rfl | hq
  · exact mp_476
  rcases List.mem_cons.mp hq with rfl | hq
  · exact mp_1002
  cases hq
