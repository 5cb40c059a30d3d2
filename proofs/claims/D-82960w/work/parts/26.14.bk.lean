noncomputable abbrev me_396 : mE := (396, 1438, 5, 0, 0, M_396)
set_option maxRecDepth 1000000 in
theorem mo_396 : bkchk me_396 = true := by decide +kernel
set_option maxRecDepth 1000000 in
theorem mb_396_0 : bkB me_396 M_396.2.1 = true := by decide +kernel
theorem mp_396 : bk_P me_396 := bkchk_ok mo_396 mb_396_0
noncomputable abbrev me_397 : mE := (397, 1430, 5, 0, 0, M_397)
set_option maxRecDepth 1000000 in
theorem mo_397 : bkchk me_397 = true := by decide +kernel
set_option maxRecDepth 1000000 in
theorem mb_397_0 : bkB me_397 M_397.2.1 = true := by decide +kernel
theorem mp_397 : bk_P me_397 := bkchk_ok mo_397 mb_397_0
noncomputable abbrev me_398 : mE := (398, 1446, 5, 0, 0, M_398)
set_option maxRecDepth 1000000 in
theorem mo_398 : bkchk me_398 = true := by decide +kernel
set_option maxRecDepth 1000000 in
theorem mb_398_0 : bkB me_398 M_398.2.1 = true := by decide +kernel
theorem mp_398 : bk_P me_398 := bkchk_ok mo_398 mb_398_0
noncomputable abbrev me_399 : mE := (399, 1451, 5, 0, 0, M_399)
set_option maxRecDepth 1000000 in
theorem mo_399 : bkchk me_399 = true := by decide +kernel
set_option maxRecDepth 1000000 in
theorem mb_399_0 : bkB me_399 M_399.2.1 = true := by decide +kernel
theorem mp_399 : bk_P me_399 := bkchk_ok mo_399 mb_399_0
noncomputable abbrev me_400 : mE := (400, 1459, 5, 2, 0, M_400)
set_option maxRecDepth 1000000 in
theorem mo_400 : bkchk me_400 = true := by decide +kernel
set_option maxRecDepth 1000000 in
theorem mb_400_0 : bkB me_400 M_400.2.1 = true := by decide +kernel
theorem mp_400 : bk_P me_400 := bkchk_ok mo_400 mb_400_0
noncomputable abbrev me_401 : mE := (401, 1418, 5, 2, 0, M_401)
set_option maxRecDepth 1000000 in
theorem mo_401 : bkchk me_401 = true := by decide +kernel
set_option maxRecDepth 1000000 in
theorem mb_401_0 : bkB me_401 M_401.2.1 = true := by decide +kernel
theorem mp_401 : bk_P me_401 := bkchk_ok mo_401 mb_401_0
noncomputable abbrev me_402 : mE := (402, 1442, 5, 0, 0, M_402)
set_option maxRecDepth 1000000 in
theorem mo_402 : bkchk me_402 = true := by decide +kernel
set_option maxRecDepth 1000000 in
theorem mb_402_0 : bkB me_402 M_402.2.1 = true := by decide +kernel
theorem mp_402 : bk_P me_402 := bkchk_ok mo_402 mb_402_0
noncomputable abbrev me_403 : mE := (403, 1495, 5, 0, 0, M_403)
set_option maxRecDepth 1000000 in
theorem mo_403 : bkchk me_403 = true := by decide +kernel
set_option maxRecDepth 1000000 in
theorem mb_403_0 : bkB me_403 M_403.2.1 = true := by decide +kernel
theorem mp_403 : bk_P me_403 := bkchk_ok mo_403 mb_403_0
noncomputable abbrev me_404 : mE := (404, 1709, 5, 1, 0, M_404)
set_option maxRecDepth 1000000 in
theorem mo_404 : bkchk me_404 = true := by decide +kernel
set_option maxRecDepth 1000000 in
theorem mb_404_0 : bkB me_404 M_404.2.1 = true := by decide +kernel
theorem mp_404 : bk_P me_404 := bkchk_ok mo_404 mb_404_0
noncomputable abbrev me_405 : mE := (405, 1471, 5, 0, 0, M_405)
set_option maxRecDepth 1000000 in
theorem mo_405 : bkchk me_405 = true := by decide +kernel
set_option maxRecDepth 1000000 in
theorem mb_405_0 : bkB me_405 M_405.2.1 = true := by decide +kernel
theorem mp_405 : bk_P me_405 := bkchk_ok mo_405 mb_405_0
noncomputable abbrev me_406 : mE := (406, 1560, 5, 1, 0, M_406)
set_option maxRecDepth 1000000 in
theorem mo_406 : bkchk me_406 = true := by decide +kernel
set_option maxRecDepth 1000000 in
theorem mb_406_0 : bkB me_406 M_406.2.1 = true := by decide +kernel
theorem mp_406 : bk_P me_406 := bkchk_ok mo_406 mb_406_0
noncomputable abbrev me_407 : mE := (407, 1595, 5, 0, 0, M_407)
set_option maxRecDepth 1000000 in
theorem mo_407 : bkchk me_407 = true := by decide +kernel
set_option maxRecDepth 1000000 in
theorem mb_407_0 : bkB me_407 M_407.2.1 = true := by decide +kernel
theorem mp_407 : bk_P me_407 := bkchk_ok mo_407 mb_407_0
noncomputable abbrev me_408 : mE := (408, 1307, 5, 1, 9, M_408)
set_option maxRecDepth 1000000 in
theorem mo_408 : bkchk me_408 = true := by decide +kernel
set_option maxRecDepth 1000000 in
theorem mb_408_0 : bkB me_408 M_408.2.1 = true := by decide +kernel
theorem mp_408 : bk_P me_408 := bkchk_ok mo_408 mb_408_0
noncomputable abbrev me_409 : mE := (409, 1410, 5, 0, 0, M_409)
set_option maxRecDepth 1000000 in
theorem mo_409 : bkchk me_409 = true := by decide +kernel
set_option maxRecDepth 1000000 in
theorem mb_409_0 : bkB me_409 M_409.2.1 = true := by decide +kernel
theorem mp_409 : bk_P me_409 := bkchk_ok mo_409 mb_409_0
noncomputable abbrev me_410 : mE := (410, 1713, 5, 0, 0, M_410)
set_option maxRecDepth 1000000 in
theorem mo_410 : bkchk me_410 = true := by decide +kernel
set_option maxRecDepth 1000000 in
theorem mb_410_0 : bkB me_410 (M_410.2.1.take 6) = true := by decide +kernel
set_option maxRecDepth 1000000 in
theorem mb_410_1 : bkB me_410 (M_410.2.1.drop 6) = true := by decide +kernel
theorem mp_410 : bk_P me_410 := bkchk_ok mo_410 (bk_split 6 mb_410_0 mb_410_1)
noncomputable abbrev me_411 : mE := (411, 1576, 5, 1, 0, M_411)
set_option maxRecDepth 1000000 in
theorem mo_411 : bkchk me_411 = true := by decide +kernel
set_option maxRecDepth 1000000 in
theorem mb_411_0 : bkB me_411 M_411.2.1 = true := by decide +kernel
theorem mp_411 : bk_P me_411 := bkchk_ok mo_411 mb_411_0
noncomputable abbrev me_412 : mE := (412, 1414, 5, 0, 0, M_412)
set_option maxRecDepth 1000000 in
theorem mo_412 : bkchk me_412 = true := by decide +kernel
set_option maxRecDepth 1000000 in
theorem mb_412_0 : bkB me_412 (M_412.2.1.take 6) = true := by decide +kernel
set_option maxRecDepth 1000000 in
theorem mb_412_1 : bkB me_412 ((M_412.2.1.drop 6).take 4) = true := by decide +kernel
set_option maxRecDepth 1000000 in
theorem mb_412_2 : bkB me_412 ((M_412.2.1.drop 6).drop 4) = true := by decide +kernel
theorem mp_412 : bk_P me_412 := bkchk_ok mo_412 (bk_split 6 mb_412_0 (bk_split 4 mb_412_1 mb_412_2))
noncomputable abbrev me_413 : mE := (413, 1475, 5, 4, 0, M_413)
set_option maxRecDepth 1000000 in
theorem mo_413 : bkchk me_413 = true := by decide +kernel
set_option maxRecDepth 1000000 in
theorem mb_413_0 : bkB me_413 (M_413.2.1.take 9) = true := by decide +kernel
set_option maxRecDepth 1000000 in
theorem mb_413_1 : bkB me_413 (M_413.2.1.drop 9) = true := by decide +kernel
theorem mp_413 : bk_P me_413 := bkchk_ok mo_413 (bk_split 9 mb_413_0 mb_413_1)
noncomputable abbrev me_414 : mE := (414, 1463, 5, 0, 0, M_414)
set_option maxRecDepth 1000000 in
theorem mo_414 : bkchk me_414 = true := by decide +kernel
set_option maxRecDepth 1000000 in
theorem mb_414_0 : bkB me_414 M_414.2.1 = true := by decide +kernel
theorem mp_414 : bk_P me_414 := bkchk_ok mo_414 mb_414_0
noncomputable abbrev me_415 : mE := (415, 1512, 5, 0, 0, M_415)
set_option maxRecDepth 1000000 in
theorem mo_415 : bkchk me_415 = true := by decide +kernel
set_option maxRecDepth 1000000 in
theorem mb_415_0 : bkB me_415 M_415.2.1 = true := by decide +kernel
theorem mp_415 : bk_P me_415 := bkchk_ok mo_415 mb_415_0
noncomputable abbrev me_416 : mE := (416, 1503, 5, 2, 0, M_416)
set_option maxRecDepth 1000000 in
theorem mo_416 : bkchk me_416 = true := by decide +kernel
set_option maxRecDepth 1000000 in
theorem mb_416_0 : bkB me_416 (M_416.2.1.take 3) = true := by decide +kernel
set_option maxRecDepth 1000000 in
theorem mb_416_1 : bkB me_416 (M_416.2.1.drop 3) = true := by decide +kernel
theorem mp_416 : bk_P me_416 := bkchk_ok mo_416 (bk_split 3 mb_416_0 mb_416_1)
noncomputable abbrev me_417 : mE := (417, 1479, 5, 0, 0, M_417)
set_option maxRecDepth 1000000 in
theorem mo_417 : bkchk me_417 = true := by decide +kernel
set_option maxRecDepth 1000000 in
theorem mb_417_0 : bkB me_417 (M_417.2.1.take 7) = true := by decide +kernel
set_option maxRecDepth 1000000 in
theorem mb_417_1 : bkB me_417 (M_417.2.1.drop 7) = true := by decide +kernel
theorem mp_417 : bk_P me_417 := bkchk_ok mo_417 (bk_split 7 mb_417_0 mb_417_1)
noncomputable abbrev me_418 : mE := (418, 1491, 5, 2, 0, M_418)
set_option maxRecDepth 1000000 in
theorem mo_418 : bkchk me_418 = true := by decide +kernel
set_option maxRecDepth 1000000 in
theorem mb_418_0 : bkB me_418 M_418.2.1 = true := by decide +kernel
theorem mp_418 : bk_P me_418 := bkchk_ok mo_418 mb_418_0
noncomputable abbrev me_419 : mE := (419, 1487, 5, 1, 0, M_419)
set_option maxRecDepth 1000000 in
theorem mo_419 : bkchk me_419 = true := by decide +kernel
set_option maxRecDepth 1000000 in
theorem mb_419_0 : bkB me_419 M_419.2.1 = true := by decide +kernel
theorem mp_419 : bk_P me_419 := bkchk_ok mo_419 mb_419_0
noncomputable abbrev me_420 : mE := (420, 1483, 5, 1, 0, M_420)
set_option maxRecDepth 1000000 in
theorem mo_420 : bkchk me_420 = true := by decide +kernel
set_option maxRecDepth 1000000 in
theorem mb_420_0 : bkB me_420 M_420.2.1 = true := by decide +kernel
theorem mp_420 : bk_P me_420 := bkchk_ok mo_420 mb_420_0
noncomputable abbrev me_421 : mE := (421, 1705, 5, 0, 0, M_421)
set_option maxRecDepth 1000000 in
theorem mo_421 : bkchk me_421 = true := by decide +kernel
set_option maxRecDepth 1000000 in
theorem mb_421_0 : bkB me_421 (M_421.2.1.take 7) = true := by decide +kernel
set_option maxRecDepth 1000000 in
theorem mb_421_1 : bkB me_421 ((M_421.2.1.drop 7).take 7) = true := by decide +kernel
set_option maxRecDepth 1000000 in
theorem mb_421_2 : bkB me_421 (((M_421.2.1.drop 7).drop 7).take 5) = true := by decide +kernel
set_option maxRecDepth 1000000 in
theorem mb_421_3 : bkB me_421 (((M_421.2.1.drop 7).drop 7).drop 5) = true := by decide +kernel
theorem mp_421 : bk_P me_421 := bkchk_ok mo_421 (bk_split 7 mb_421_0 (bk_split 7 mb_421_1 (bk_split 5 mb_421_2 mb_421_3)))
noncomputable abbrev me_422 : mE := (422, 1499, 5, 0, 0, M_422)
set_option maxRecDepth 1000000 in
theorem mo_422 : bkchk me_422 = true := by decide +kernel
set_option maxRecDepth 1000000 in
theorem mb_422_0 : bkB me_422 (M_422.2.1.take 5) = true := by decide +kernel
set_option maxRecDepth 1000000 in
theorem mb_422_1 : bkB me_422 ((M_422.2.1.drop 5).take 2) = true := by decide +kernel
set_option maxRecDepth 1000000 in
theorem mb_422_2 : bkB me_422 ((M_422.2.1.drop 5).drop 2) = true := by decide +kernel
theorem mp_422 : bk_P me_422 := bkchk_ok mo_422 (bk_split 5 mb_422_0 (bk_split 2 mb_422_1 mb_422_2))
noncomputable abbrev me_423 : mE := (423, 1665, 5, 0, 0, M_423)
set_option maxRecDepth 1000000 in
theorem mo_423 : bkchk me_423 = true := by decide +kernel
set_option maxRecDepth 1000000 in
theorem mb_423_0 : bkB me_423 (M_423.2.1.take 5) = true := by decide +kernel
set_option maxRecDepth 1000000 in
theorem mb_423_1 : bkB me_423 ((M_423.2.1.drop 5).take 3) = true := by decide +kernel
set_option maxRecDepth 1000000 in
theorem mb_423_2 : bkB me_423 (((M_423.2.1.drop 5).drop 3).take 6) = true := by decide +kernel
set_option maxRecDepth 1000000 in
theorem mb_423_3 : bkB me_423 ((((M_423.2.1.drop 5).drop 3).drop 6).take 3) = true := by decide +kernel
set_option maxRecDepth 1000000 in
theorem mb_423_4 : bkB me_423 (((((M_423.2.1.drop 5).drop 3).drop 6).drop 3).take 2) = true := by decide +kernel
set_option maxRecDepth 1000000 in
theorem mb_423_5 : bkB me_423 (((((M_423.2.1.drop 5).drop 3).drop 6).drop 3).drop 2) = true := by decide +kernel
theorem mp_423 : bk_P me_423 := bkchk_ok mo_423 (bk_split 5 mb_423_0 (bk_split 3 mb_423_1 (bk_split 6 mb_423_2 (bk_split 3 mb_423_3 (bk_split 2 mb_423_4 mb_423_5)))))
noncomputable abbrev me_424 : mE := (424, 1587, 5, 1, 0, M_424)
set_option maxRecDepth 1000000 in
theorem mo_424 : bkchk me_424 = true := by decide +kernel
set_option maxRecDepth 1000000 in
theorem mb_424_0 : bkB me_424 M_424.2.1 = true := by decide +kernel
theorem mp_424 : bk_P me_424 := bkchk_ok mo_424 mb_424_0
noncomputable abbrev me_425 : mE := (425, 1591, 5, 0, 0, M_425)
set_option maxRecDepth 1000000 in
theorem mo_425 : bkchk me_425 = true := by decide +kernel
set_option maxRecDepth 1000000 in
theorem mb_425_0 : bkB me_425 M_425.2.1 = true := by decide +kernel
theorem mp_425 : bk_P me_425 := bkchk_ok mo_425 mb_425_0
noncomputable def ME_14 : List mE := [me_396, me_397, me_398, me_399, me_400, me_401, me_402, me_403, me_404, me_405, me_406, me_407, me_408, me_409, me_410, me_411, me_412, me_413, me_414, me_415, me_416, me_417, me_418, me_419, me_420, me_421, me_422, me_423, me_424, me_425]
theorem ME_ok_14 : ∀ q ∈ ME_14, bk_P q := by
  unfold ME_14
  intro q hq
  rcases List.mem_cons.mp hq with rfl | hq
  · exact mp_396
  rcases List.mem_cons.mp hq with rfl | hq
  · exact mp_397
  rcases List.mem_cons.mp hq with rfl | hq
  · exact mp_398
  rcases List.mem_cons.mp hq with rfl | hq
  · exact mp_399
  rcases List.mem_cons.mp hq with rfl | hq
  · exact mp_400
  rcases List.mem_cons.mp hq with rfl | hq
  · exact mp_401
  rcases List.mem_cons.mp hq with rfl | hq
  · exact mp_402
  rcases List.mem_cons.mp hq with rfl | hq
  · exact mp_403
  rcases List.mem_cons.mp hq with rfl | hq
  · exact mp_404
  rcases List.mem_cons.mp hq with rfl | hq
  · exact mp_405
  rcases List.mem_cons.mp hq with rfl | hq
  · exact mp_406
  rcases List.mem_cons.mp hq with rfl | hq
  · exact mp_407
  rcases List.mem_cons.mp hq with rfl | hq
  · exact mp_408
  rcases List.mem_cons.mp hq with rfl | hq
  · exact mp_409
  rcases List.mem_cons.mp hq with rfl | hq
  · exact mp_410
  rcases List.mem_cons.mp hq with rfl | hq
  · exact mp_411
  rcases List.mem_cons.mp hq with rfl | hq
  · exact mp_412
  rcases List.mem_cons.mp hq with rfl | hq
  · exact mp_413
  rcases List.mem_cons.mp hq with rfl | hq
  · exact mp_414
  rcases List.mem_cons.mp hq with rfl | hq
  · exact mp_415
  rcases List.mem_cons.mp hq with rfl | hq
  · exact mp_416
  rcases List.mem_cons.mp hq with rfl | hq
  · exact mp_417
  rcases List.mem_cons.mp hq with rfl | hq
  · exact mp_418
  rcases List.mem_cons.mp hq with rfl | hq
  · exact mp_419
  rcases List.mem_cons.mp hq with rfl | hq
  · exact mp_420
  rcases List.mem_cons.mp hq with rfl | hq
  · exact mp_421
  rcases List.mem_cons.mp hq with rfl | hq
  · exact mp_422
  rcases List.mem_cons.mp hq with rfl | hq
  · exact mp_423
  rcases List.mem_cons.mp hq with rfl | hq
  · exact mp_424
  rcases List.mem_cons.mp hq with rfl | hq
  · exact mp_425
  cases hq
