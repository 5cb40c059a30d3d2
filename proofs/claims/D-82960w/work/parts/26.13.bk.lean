noncomputable abbrev me_362 : mE := (362, 3276, 9, 1, 0, M_362)
set_option maxRecDepth 1000000 in
theorem mo_362 : bkchk me_362 = true := by decide +kernel
set_option maxRecDepth 1000000 in
theorem mb_362_0 : bkB me_362 M_362.2.1 = true := by decide +kernel
theorem mp_362 : bk_P me_362 := bkchk_ok mo_362 mb_362_0
noncomputable abbrev me_363 : mE := (363, 3272, 9, 2, 0, M_363)
set_option maxRecDepth 1000000 in
theorem mo_363 : bkchk me_363 = true := by decide +kernel
set_option maxRecDepth 1000000 in
theorem mb_363_0 : bkB me_363 (M_363.2.1.take 4) = true := by decide +kernel
set_option maxRecDepth 1000000 in
theorem mb_363_1 : bkB me_363 ((M_363.2.1.drop 4).take 1) = true := by decide +kernel
set_option maxRecDepth 1000000 in
theorem mb_363_2 : bkB me_363 (((M_363.2.1.drop 4).drop 1).take 1) = true := by decide +kernel
set_option maxRecDepth 1000000 in
theorem mb_363_3 : bkB me_363 ((((M_363.2.1.drop 4).drop 1).drop 1).take 1) = true := by decide +kernel
set_option maxRecDepth 1000000 in
theorem mb_363_4 : bkB me_363 (((((M_363.2.1.drop 4).drop 1).drop 1).drop 1).take 1) = true := by decide +kernel
set_option maxRecDepth 1000000 in
theorem mb_363_5 : bkB me_363 ((((((M_363.2.1.drop 4).drop 1).drop 1).drop 1).drop 1).take 2) = true := by decide +kernel
set_option maxRecDepth 1000000 in
theorem mb_363_6 : bkB me_363 ((((((M_363.2.1.drop 4).drop 1).drop 1).drop 1).drop 1).drop 2) = true := by decide +kernel
theorem mp_363 : bk_P me_363 := bkchk_ok mo_363 (bk_split 4 mb_363_0 (bk_split 1 mb_363_1 (bk_split 1 mb_363_2 (bk_split 1 mb_363_3 (bk_split 1 mb_363_4 (bk_split 2 mb_363_5 mb_363_6))))))
noncomputable abbrev me_364 : mE := (364, 3296, 9, 0, 0, M_364)
set_option maxRecDepth 1000000 in
theorem mo_364 : bkchk me_364 = true := by decide +kernel
set_option maxRecDepth 1000000 in
theorem mb_364_0 : bkB me_364 (M_364.2.1.take 6) = true := by decide +kernel
set_option maxRecDepth 1000000 in
theorem mb_364_1 : bkB me_364 (M_364.2.1.drop 6) = true := by decide +kernel
theorem mp_364 : bk_P me_364 := bkchk_ok mo_364 (bk_split 6 mb_364_0 mb_364_1)
noncomputable abbrev me_365 : mE := (365, 3300, 9, 0, 0, M_365)
set_option maxRecDepth 1000000 in
theorem mo_365 : bkchk me_365 = true := by decide +kernel
set_option maxRecDepth 1000000 in
theorem mb_365_0 : bkB me_365 M_365.2.1 = true := by decide +kernel
theorem mp_365 : bk_P me_365 := bkchk_ok mo_365 mb_365_0
noncomputable abbrev me_366 : mE := (366, 3304, 9, 0, 0, M_366)
set_option maxRecDepth 1000000 in
theorem mo_366 : bkchk me_366 = true := by decide +kernel
set_option maxRecDepth 1000000 in
theorem mb_366_0 : bkB me_366 (M_366.2.1.take 3) = true := by decide +kernel
set_option maxRecDepth 1000000 in
theorem mb_366_1 : bkB me_366 ((M_366.2.1.drop 3).take 1) = true := by decide +kernel
set_option maxRecDepth 1000000 in
theorem mb_366_2 : bkB me_366 ((M_366.2.1.drop 3).drop 1) = true := by decide +kernel
theorem mp_366 : bk_P me_366 := bkchk_ok mo_366 (bk_split 3 mb_366_0 (bk_split 1 mb_366_1 mb_366_2))
noncomputable abbrev me_367 : mE := (367, 2672, 9, 0, 0, M_367)
set_option maxRecDepth 1000000 in
theorem mo_367 : bkchk me_367 = true := by decide +kernel
set_option maxRecDepth 1000000 in
theorem mb_367_0 : bkB me_367 M_367.2.1 = true := by decide +kernel
theorem mp_367 : bk_P me_367 := bkchk_ok mo_367 mb_367_0
noncomputable abbrev me_368 : mE := (368, 3308, 9, 2, 0, M_368)
set_option maxRecDepth 1000000 in
theorem mo_368 : bkchk me_368 = true := by decide +kernel
set_option maxRecDepth 1000000 in
theorem mb_368_0 : bkB me_368 M_368.2.1 = true := by decide +kernel
theorem mp_368 : bk_P me_368 := bkchk_ok mo_368 mb_368_0
noncomputable abbrev me_369 : mE := (369, 3316, 9, 0, 0, M_369)
set_option maxRecDepth 1000000 in
theorem mo_369 : bkchk me_369 = true := by decide +kernel
set_option maxRecDepth 1000000 in
theorem mb_369_0 : bkB me_369 M_369.2.1 = true := by decide +kernel
theorem mp_369 : bk_P me_369 := bkchk_ok mo_369 mb_369_0
noncomputable abbrev me_370 : mE := (370, 3312, 9, 1, 0, M_370)
set_option maxRecDepth 1000000 in
theorem mo_370 : bkchk me_370 = true := by decide +kernel
set_option maxRecDepth 1000000 in
theorem mb_370_0 : bkB me_370 (M_370.2.1.take 7) = true := by decide +kernel
set_option maxRecDepth 1000000 in
theorem mb_370_1 : bkB me_370 ((M_370.2.1.drop 7).take 4) = true := by decide +kernel
set_option maxRecDepth 1000000 in
theorem mb_370_2 : bkB me_370 (((M_370.2.1.drop 7).drop 4).take 3) = true := by decide +kernel
set_option maxRecDepth 1000000 in
theorem mb_370_3 : bkB me_370 ((((M_370.2.1.drop 7).drop 4).drop 3).take 7) = true := by decide +kernel
set_option maxRecDepth 1000000 in
theorem mb_370_4 : bkB me_370 (((((M_370.2.1.drop 7).drop 4).drop 3).drop 7).take 4) = true := by decide +kernel
set_option maxRecDepth 1000000 in
theorem mb_370_5 : bkB me_370 (((((M_370.2.1.drop 7).drop 4).drop 3).drop 7).drop 4) = true := by decide +kernel
theorem mp_370 : bk_P me_370 := bkchk_ok mo_370 (bk_split 7 mb_370_0 (bk_split 4 mb_370_1 (bk_split 3 mb_370_2 (bk_split 7 mb_370_3 (bk_split 4 mb_370_4 mb_370_5)))))
noncomputable abbrev me_371 : mE := (371, 3320, 9, 1, 0, M_371)
set_option maxRecDepth 1000000 in
theorem mo_371 : bkchk me_371 = true := by decide +kernel
set_option maxRecDepth 1000000 in
theorem mb_371_0 : bkB me_371 M_371.2.1 = true := by decide +kernel
theorem mp_371 : bk_P me_371 := bkchk_ok mo_371 mb_371_0
noncomputable abbrev me_372 : mE := (372, 3324, 9, 1, 0, M_372)
set_option maxRecDepth 1000000 in
theorem mo_372 : bkchk me_372 = true := by decide +kernel
set_option maxRecDepth 1000000 in
theorem mb_372_0 : bkB me_372 (M_372.2.1.take 4) = true := by decide +kernel
set_option maxRecDepth 1000000 in
theorem mb_372_1 : bkB me_372 ((M_372.2.1.drop 4).take 1) = true := by decide +kernel
set_option maxRecDepth 1000000 in
theorem mb_372_2 : bkB me_372 ((M_372.2.1.drop 4).drop 1) = true := by decide +kernel
theorem mp_372 : bk_P me_372 := bkchk_ok mo_372 (bk_split 4 mb_372_0 (bk_split 1 mb_372_1 mb_372_2))
noncomputable abbrev me_374 : mE := (374, 1564, 4, 1, 0, M_374)
set_option maxRecDepth 1000000 in
theorem mo_374 : bkchk me_374 = true := by decide +kernel
set_option maxRecDepth 1000000 in
theorem mb_374_0 : bkB me_374 M_374.2.1 = true := by decide +kernel
theorem mp_374 : bk_P me_374 := bkchk_ok mo_374 mb_374_0
noncomputable abbrev me_376 : mE := (376, 1284, 1, 1, 0, M_376)
set_option maxRecDepth 1000000 in
theorem mo_376 : bkchk me_376 = true := by decide +kernel
set_option maxRecDepth 1000000 in
theorem mb_376_0 : bkB me_376 M_376.2.1 = true := by decide +kernel
theorem mp_376 : bk_P me_376 := bkchk_ok mo_376 mb_376_0
noncomputable abbrev me_377 : mE := (377, 901, 1, 2, 0, M_377)
set_option maxRecDepth 1000000 in
theorem mo_377 : bkchk me_377 = true := by decide +kernel
set_option maxRecDepth 1000000 in
theorem mb_377_0 : bkB me_377 M_377.2.1 = true := by decide +kernel
theorem mp_377 : bk_P me_377 := bkchk_ok mo_377 mb_377_0
noncomputable abbrev me_378 : mE := (378, 1659, 1, 2, 0, M_378)
set_option maxRecDepth 1000000 in
theorem mo_378 : bkchk me_378 = true := by decide +kernel
set_option maxRecDepth 1000000 in
theorem mb_378_0 : bkB me_378 (M_378.2.1.take 7) = true := by decide +kernel
set_option maxRecDepth 1000000 in
theorem mb_378_1 : bkB me_378 (M_378.2.1.drop 7) = true := by decide +kernel
theorem mp_378 : bk_P me_378 := bkchk_ok mo_378 (bk_split 7 mb_378_0 mb_378_1)
noncomputable abbrev me_379 : mE := (379, 1647, 1, 2, 0, M_379)
set_option maxRecDepth 1000000 in
theorem mo_379 : bkchk me_379 = true := by decide +kernel
set_option maxRecDepth 1000000 in
theorem mb_379_0 : bkB me_379 M_379.2.1 = true := by decide +kernel
theorem mp_379 : bk_P me_379 := bkchk_ok mo_379 mb_379_0
noncomputable abbrev me_380 : mE := (380, 1655, 12, 2, 0, M_380)
set_option maxRecDepth 1000000 in
theorem mo_380 : bkchk me_380 = true := by decide +kernel
set_option maxRecDepth 1000000 in
theorem mb_380_0 : bkB me_380 M_380.2.1 = true := by decide +kernel
theorem mp_380 : bk_P me_380 := bkchk_ok mo_380 mb_380_0
noncomputable abbrev me_381 : mE := (381, 897, 12, 2, 0, M_381)
set_option maxRecDepth 1000000 in
theorem mo_381 : bkchk me_381 = true := by decide +kernel
set_option maxRecDepth 1000000 in
theorem mb_381_0 : bkB me_381 M_381.2.1 = true := by decide +kernel
theorem mp_381 : bk_P me_381 := bkchk_ok mo_381 mb_381_0
noncomputable abbrev me_382 : mE := (382, 1015, 12, 2, 0, M_382)
set_option maxRecDepth 1000000 in
theorem mo_382 : bkchk me_382 = true := by decide +kernel
set_option maxRecDepth 1000000 in
theorem mb_382_0 : bkB me_382 M_382.2.1 = true := by decide +kernel
theorem mp_382 : bk_P me_382 := bkchk_ok mo_382 mb_382_0
noncomputable abbrev me_383 : mE := (383, 1652, 12, 1, 0, M_383)
set_option maxRecDepth 1000000 in
theorem mo_383 : bkchk me_383 = true := by decide +kernel
set_option maxRecDepth 1000000 in
theorem mb_383_0 : bkB me_383 M_383.2.1 = true := by decide +kernel
theorem mp_383 : bk_P me_383 := bkchk_ok mo_383 mb_383_0
noncomputable abbrev me_384 : mE := (384, 978, 12, 2, 0, M_384)
set_option maxRecDepth 1000000 in
theorem mo_384 : bkchk me_384 = true := by decide +kernel
set_option maxRecDepth 1000000 in
theorem mb_384_0 : bkB me_384 (M_384.2.1.take 1) = true := by decide +kernel
set_option maxRecDepth 1000000 in
theorem mb_384_1 : bkB me_384 ((M_384.2.1.drop 1).take 13) = true := by decide +kernel
set_option maxRecDepth 1000000 in
theorem mb_384_2 : bkB me_384 ((M_384.2.1.drop 1).drop 13) = true := by decide +kernel
theorem mp_384 : bk_P me_384 := bkchk_ok mo_384 (bk_split 1 mb_384_0 (bk_split 13 mb_384_1 mb_384_2))
noncomputable abbrev me_386 : mE := (386, 1393, 2, 1, 0, M_386)
set_option maxRecDepth 1000000 in
theorem mo_386 : bkchk me_386 = true := by decide +kernel
set_option maxRecDepth 1000000 in
theorem mb_386_0 : bkB me_386 (M_386.2.1.take 5) = true := by decide +kernel
set_option maxRecDepth 1000000 in
theorem mb_386_1 : bkB me_386 (M_386.2.1.drop 5) = true := by decide +kernel
theorem mp_386 : bk_P me_386 := bkchk_ok mo_386 (bk_split 5 mb_386_0 mb_386_1)
noncomputable abbrev me_387 : mE := (387, 1276, 2, 1, 0, M_387)
set_option maxRecDepth 1000000 in
theorem mo_387 : bkchk me_387 = true := by decide +kernel
set_option maxRecDepth 1000000 in
theorem mb_387_0 : bkB me_387 M_387.2.1 = true := by decide +kernel
theorem mp_387 : bk_P me_387 := bkchk_ok mo_387 mb_387_0
noncomputable abbrev me_388 : mE := (388, 1280, 2, 2, 0, M_388)
set_option maxRecDepth 1000000 in
theorem mo_388 : bkchk me_388 = true := by decide +kernel
set_option maxRecDepth 1000000 in
theorem mb_388_0 : bkB me_388 M_388.2.1 = true := by decide +kernel
theorem mp_388 : bk_P me_388 := bkchk_ok mo_388 mb_388_0
noncomputable abbrev me_389 : mE := (389, 1753, 2, 2, 0, M_389)
set_option maxRecDepth 1000000 in
theorem mo_389 : bkchk me_389 = true := by decide +kernel
set_option maxRecDepth 1000000 in
theorem mb_389_0 : bkB me_389 M_389.2.1 = true := by decide +kernel
theorem mp_389 : bk_P me_389 := bkchk_ok mo_389 mb_389_0
noncomputable abbrev me_390 : mE := (390, 1315, 2, 0, 0, M_390)
set_option maxRecDepth 1000000 in
theorem mo_390 : bkchk me_390 = true := by decide +kernel
set_option maxRecDepth 1000000 in
theorem mb_390_0 : bkB me_390 M_390.2.1 = true := by decide +kernel
theorem mp_390 : bk_P me_390 := bkchk_ok mo_390 mb_390_0
noncomputable abbrev me_391 : mE := (391, 1311, 2, 0, 0, M_391)
set_option maxRecDepth 1000000 in
theorem mo_391 : bkchk me_391 = true := by decide +kernel
set_option maxRecDepth 1000000 in
theorem mb_391_0 : bkB me_391 M_391.2.1 = true := by decide +kernel
theorem mp_391 : bk_P me_391 := bkchk_ok mo_391 mb_391_0
noncomputable abbrev me_393 : mE := (393, 1422, 5, 1, 0, M_393)
set_option maxRecDepth 1000000 in
theorem mo_393 : bkchk me_393 = true := by decide +kernel
set_option maxRecDepth 1000000 in
theorem mb_393_0 : bkB me_393 M_393.2.1 = true := by decide +kernel
theorem mp_393 : bk_P me_393 := bkchk_ok mo_393 mb_393_0
noncomputable abbrev me_394 : mE := (394, 1426, 5, 1, 0, M_394)
set_option maxRecDepth 1000000 in
theorem mo_394 : bkchk me_394 = true := by decide +kernel
set_option maxRecDepth 1000000 in
theorem mb_394_0 : bkB me_394 M_394.2.1 = true := by decide +kernel
theorem mp_394 : bk_P me_394 := bkchk_ok mo_394 mb_394_0
noncomputable abbrev me_395 : mE := (395, 1434, 5, 1, 0, M_395)
set_option maxRecDepth 1000000 in
theorem mo_395 : bkchk me_395 = true := by decide +kernel
set_option maxRecDepth 1000000 in
theorem mb_395_0 : bkB me_395 M_395.2.1 = true := by decide +kernel
theorem mp_395 : bk_P me_395 := bkchk_ok mo_395 mb_395_0
noncomputable def ME_13 : List mE := [me_362, me_363, me_364, me_365, me_366, me_367, me_368, me_369, me_370, me_371, me_372, me_374, me_376, me_377, me_378, me_379, me_380, me_381, me_382, me_383, me_384, me_386, me_387, me_388, me_389, me_390, me_391, me_393, me_394, me_395]
theorem ME_ok_13 : ∀ q ∈ ME_13, bk_P q := by
  unfold ME_13
  intro q hq
  rcases List.mem_cons.mp hq with rfl | hq
  · exact mp_362
  rcases List.mem_cons.mp hq with rfl | hq
  · exact mp_363
  rcases List.mem_cons.mp hq with rfl | hq
  · exact mp_364
  rcases List.mem_cons.mp hq with rfl | hq
  · exact mp_365
  rcases List.mem_cons.mp hq with rfl | hq
  · exact mp_366
  rcases List.mem_cons.mp hq with rfl | hq
  · exact mp_367
  rcases List.mem_cons.mp hq with rfl | hq
  · exact mp_368
  rcases List.mem_cons.mp hq with rfl | hq
  · exact mp_369
  rcases List.mem_cons.mp hq with rfl | hq
  · exact mp_370
  rcases List.mem_cons.mp hq with rfl | hq
  · exact mp_371
  rcases List.mem_cons.mp hq with rfl | hq
  · exact mp_372
  rcases List.mem_cons.mp hq with rfl | hq
  · exact mp_374
  rcases List.mem_cons.mp hq with rfl | hq
  · exact mp_376
  rcases List.mem_cons.mp hq with rfl | hq
  · exact mp_377
  rcases List.mem_cons.mp hq with rfl | hq
  · exact mp_378
  rcases List.mem_cons.mp hq with rfl | hq
  · exact mp_379
  rcases List.mem_cons.mp hq with rfl | hq
  · exact mp_380
  rcases List.mem_cons.mp hq with rfl | hq
  · exact mp_381
  rcases List.mem_cons.mp hq with rfl | hq
  · exact mp_382
  rcases List.mem_cons.mp hq with rfl | hq
  · exact mp_383
  rcases List.mem_cons.mp hq with rfl | hq
  · exact mp_384
  rcases List.mem_cons.mp hq with rfl | hq
  · exact mp_386
  rcases List.mem_cons.mp hq with rfl | hq
  · exact mp_387
  rcases List.mem_cons.mp hq with rfl | hq
  · exact mp_388
  rcases List.mem_cons.mp hq with rfl | hq
  · exact mp_389
  rcases List.mem_cons.mp hq with rfl | hq
  · exact mp_390
  rcases List.mem_cons.mp hq with rfl | hq
  · exact mp_391
  rcases List.mem_cons.mp hq with rfl | hq
  · exact mp_393
  rcases List.mem_cons.mp hq with rfl | hq
  · exact mp_394
  rcases List.mem_cons.mp hq with rfl | hq
  · exact mp_395
  cases hq
