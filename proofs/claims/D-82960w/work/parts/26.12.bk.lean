noncomputable abbrev me_332 : mE := (332, 2872, 9, 1, 0, M_332)
set_option maxRecDepth 1000000 in
theorem mo_332 : bkchk me_332 = true := by decide +kernel
set_option maxRecDepth 1000000 in
theorem mb_332_0 : bkB me_332 M_332.2.1 = true := by decide +kernel
theorem mp_332 : bk_P me_332 := bkchk_ok mo_332 mb_332_0
noncomputable abbrev me_333 : mE := (333, 2865, 9, 1, 0, M_333)
set_option maxRecDepth 1000000 in
theorem mo_333 : bkchk me_333 = true := by decide +kernel
set_option maxRecDepth 1000000 in
theorem mb_333_0 : bkB me_333 M_333.2.1 = true := by decide +kernel
theorem mp_333 : bk_P me_333 := bkchk_ok mo_333 mb_333_0
noncomputable abbrev me_334 : mE := (334, 2879, 9, 1, 0, M_334)
set_option maxRecDepth 1000000 in
theorem mo_334 : bkchk me_334 = true := by decide +kernel
set_option maxRecDepth 1000000 in
theorem mb_334_0 : bkB me_334 M_334.2.1 = true := by decide +kernel
theorem mp_334 : bk_P me_334 := bkchk_ok mo_334 mb_334_0
noncomputable abbrev me_335 : mE := (335, 2876, 9, 0, 0, M_335)
set_option maxRecDepth 1000000 in
theorem mo_335 : bkchk me_335 = true := by decide +kernel
set_option maxRecDepth 1000000 in
theorem mb_335_0 : bkB me_335 M_335.2.1 = true := by decide +kernel
theorem mp_335 : bk_P me_335 := bkchk_ok mo_335 mb_335_0
noncomputable abbrev me_336 : mE := (336, 2846, 9, 1, 0, M_336)
set_option maxRecDepth 1000000 in
theorem mo_336 : bkchk me_336 = true := by decide +kernel
set_option maxRecDepth 1000000 in
theorem mb_336_0 : bkB me_336 (M_336.2.1.take 5) = true := by decide +kernel
set_option maxRecDepth 1000000 in
theorem mb_336_1 : bkB me_336 ((M_336.2.1.drop 5).take 4) = true := by decide +kernel
set_option maxRecDepth 1000000 in
theorem mb_336_2 : bkB me_336 ((M_336.2.1.drop 5).drop 4) = true := by decide +kernel
theorem mp_336 : bk_P me_336 := bkchk_ok mo_336 (bk_split 5 mb_336_0 (bk_split 4 mb_336_1 mb_336_2))
noncomputable abbrev me_337 : mE := (337, 2862, 9, 0, 0, M_337)
set_option maxRecDepth 1000000 in
theorem mo_337 : bkchk me_337 = true := by decide +kernel
set_option maxRecDepth 1000000 in
theorem mb_337_0 : bkB me_337 (M_337.2.1.take 2) = true := by decide +kernel
set_option maxRecDepth 1000000 in
theorem mb_337_1 : bkB me_337 ((M_337.2.1.drop 2).take 3) = true := by decide +kernel
set_option maxRecDepth 1000000 in
theorem mb_337_2 : bkB me_337 (((M_337.2.1.drop 2).drop 3).take 1) = true := by decide +kernel
set_option maxRecDepth 1000000 in
theorem mb_337_3 : bkB me_337 (((M_337.2.1.drop 2).drop 3).drop 1) = true := by decide +kernel
theorem mp_337 : bk_P me_337 := bkchk_ok mo_337 (bk_split 2 mb_337_0 (bk_split 3 mb_337_1 (bk_split 1 mb_337_2 mb_337_3)))
noncomputable abbrev me_338 : mE := (338, 2883, 9, 3, 0, M_338)
set_option maxRecDepth 1000000 in
theorem mo_338 : bkchk me_338 = true := by decide +kernel
set_option maxRecDepth 1000000 in
theorem mb_338_0 : bkB me_338 M_338.2.1 = true := by decide +kernel
theorem mp_338 : bk_P me_338 := bkchk_ok mo_338 mb_338_0
noncomputable abbrev me_339 : mE := (339, 2895, 9, 0, 0, M_339)
set_option maxRecDepth 1000000 in
theorem mo_339 : bkchk me_339 = true := by decide +kernel
set_option maxRecDepth 1000000 in
theorem mb_339_0 : bkB me_339 M_339.2.1 = true := by decide +kernel
theorem mp_339 : bk_P me_339 := bkchk_ok mo_339 mb_339_0
noncomputable abbrev me_340 : mE := (340, 2900, 9, 3, 0, M_340)
set_option maxRecDepth 1000000 in
theorem mo_340 : bkchk me_340 = true := by decide +kernel
set_option maxRecDepth 1000000 in
theorem mb_340_0 : bkB me_340 M_340.2.1 = true := by decide +kernel
theorem mp_340 : bk_P me_340 := bkchk_ok mo_340 mb_340_0
noncomputable abbrev me_341 : mE := (341, 2916, 9, 1, 0, M_341)
set_option maxRecDepth 1000000 in
theorem mo_341 : bkchk me_341 = true := by decide +kernel
set_option maxRecDepth 1000000 in
theorem mb_341_0 : bkB me_341 (M_341.2.1.take 5) = true := by decide +kernel
set_option maxRecDepth 1000000 in
theorem mb_341_1 : bkB me_341 ((M_341.2.1.drop 5).take 3) = true := by decide +kernel
set_option maxRecDepth 1000000 in
theorem mb_341_2 : bkB me_341 ((M_341.2.1.drop 5).drop 3) = true := by decide +kernel
theorem mp_341 : bk_P me_341 := bkchk_ok mo_341 (bk_split 5 mb_341_0 (bk_split 3 mb_341_1 mb_341_2))
noncomputable abbrev me_342 : mE := (342, 2912, 9, 1, 0, M_342)
set_option maxRecDepth 1000000 in
theorem mo_342 : bkchk me_342 = true := by decide +kernel
set_option maxRecDepth 1000000 in
theorem mb_342_0 : bkB me_342 M_342.2.1 = true := by decide +kernel
theorem mp_342 : bk_P me_342 := bkchk_ok mo_342 mb_342_0
noncomputable abbrev me_343 : mE := (343, 2924, 9, 3, 0, M_343)
set_option maxRecDepth 1000000 in
theorem mo_343 : bkchk me_343 = true := by decide +kernel
set_option maxRecDepth 1000000 in
theorem mb_343_0 : bkB me_343 (M_343.2.1.take 6) = true := by decide +kernel
set_option maxRecDepth 1000000 in
theorem mb_343_1 : bkB me_343 (M_343.2.1.drop 6) = true := by decide +kernel
theorem mp_343 : bk_P me_343 := bkchk_ok mo_343 (bk_split 6 mb_343_0 mb_343_1)
noncomputable abbrev me_344 : mE := (344, 2891, 9, 0, 0, M_344)
set_option maxRecDepth 1000000 in
theorem mo_344 : bkchk me_344 = true := by decide +kernel
set_option maxRecDepth 1000000 in
theorem mb_344_0 : bkB me_344 (M_344.2.1.take 4) = true := by decide +kernel
set_option maxRecDepth 1000000 in
theorem mb_344_1 : bkB me_344 ((M_344.2.1.drop 4).take 3) = true := by decide +kernel
set_option maxRecDepth 1000000 in
theorem mb_344_2 : bkB me_344 (((M_344.2.1.drop 4).drop 3).take 4) = true := by decide +kernel
set_option maxRecDepth 1000000 in
theorem mb_344_3 : bkB me_344 (((M_344.2.1.drop 4).drop 3).drop 4) = true := by decide +kernel
theorem mp_344 : bk_P me_344 := bkchk_ok mo_344 (bk_split 4 mb_344_0 (bk_split 3 mb_344_1 (bk_split 4 mb_344_2 mb_344_3)))
noncomputable abbrev me_345 : mE := (345, 2904, 9, 0, 0, M_345)
set_option maxRecDepth 1000000 in
theorem mo_345 : bkchk me_345 = true := by decide +kernel
set_option maxRecDepth 1000000 in
theorem mb_345_0 : bkB me_345 M_345.2.1 = true := by decide +kernel
theorem mp_345 : bk_P me_345 := bkchk_ok mo_345 mb_345_0
noncomputable abbrev me_346 : mE := (346, 2908, 9, 0, 0, M_346)
set_option maxRecDepth 1000000 in
theorem mo_346 : bkchk me_346 = true := by decide +kernel
set_option maxRecDepth 1000000 in
theorem mb_346_0 : bkB me_346 (M_346.2.1.take 4) = true := by decide +kernel
set_option maxRecDepth 1000000 in
theorem mb_346_1 : bkB me_346 (M_346.2.1.drop 4) = true := by decide +kernel
theorem mp_346 : bk_P me_346 := bkchk_ok mo_346 (bk_split 4 mb_346_0 mb_346_1)
noncomputable abbrev me_347 : mE := (347, 2928, 9, 0, 0, M_347)
set_option maxRecDepth 1000000 in
theorem mo_347 : bkchk me_347 = true := by decide +kernel
set_option maxRecDepth 1000000 in
theorem mb_347_0 : bkB me_347 (M_347.2.1.take 3) = true := by decide +kernel
set_option maxRecDepth 1000000 in
theorem mb_347_1 : bkB me_347 (M_347.2.1.drop 3) = true := by decide +kernel
theorem mp_347 : bk_P me_347 := bkchk_ok mo_347 (bk_split 3 mb_347_0 mb_347_1)
noncomputable abbrev me_348 : mE := (348, 2932, 9, 0, 0, M_348)
set_option maxRecDepth 1000000 in
theorem mo_348 : bkchk me_348 = true := by decide +kernel
set_option maxRecDepth 1000000 in
theorem mb_348_0 : bkB me_348 (M_348.2.1.take 3) = true := by decide +kernel
set_option maxRecDepth 1000000 in
theorem mb_348_1 : bkB me_348 ((M_348.2.1.drop 3).take 2) = true := by decide +kernel
set_option maxRecDepth 1000000 in
theorem mb_348_2 : bkB me_348 ((M_348.2.1.drop 3).drop 2) = true := by decide +kernel
theorem mp_348 : bk_P me_348 := bkchk_ok mo_348 (bk_split 3 mb_348_0 (bk_split 2 mb_348_1 mb_348_2))
noncomputable abbrev me_349 : mE := (349, 2936, 9, 1, 0, M_349)
set_option maxRecDepth 1000000 in
theorem mo_349 : bkchk me_349 = true := by decide +kernel
set_option maxRecDepth 1000000 in
theorem mb_349_0 : bkB me_349 M_349.2.1 = true := by decide +kernel
theorem mp_349 : bk_P me_349 := bkchk_ok mo_349 mb_349_0
noncomputable abbrev me_350 : mE := (350, 2940, 9, 0, 0, M_350)
set_option maxRecDepth 1000000 in
theorem mo_350 : bkchk me_350 = true := by decide +kernel
set_option maxRecDepth 1000000 in
theorem mb_350_0 : bkB me_350 (M_350.2.1.take 3) = true := by decide +kernel
set_option maxRecDepth 1000000 in
theorem mb_350_1 : bkB me_350 ((M_350.2.1.drop 3).take 3) = true := by decide +kernel
set_option maxRecDepth 1000000 in
theorem mb_350_2 : bkB me_350 ((M_350.2.1.drop 3).drop 3) = true := by decide +kernel
theorem mp_350 : bk_P me_350 := bkchk_ok mo_350 (bk_split 3 mb_350_0 (bk_split 3 mb_350_1 mb_350_2))
noncomputable abbrev me_351 : mE := (351, 2887, 9, 1, 0, M_351)
set_option maxRecDepth 1000000 in
theorem mo_351 : bkchk me_351 = true := by decide +kernel
set_option maxRecDepth 1000000 in
theorem mb_351_0 : bkB me_351 (M_351.2.1.take 4) = true := by decide +kernel
set_option maxRecDepth 1000000 in
theorem mb_351_1 : bkB me_351 ((M_351.2.1.drop 4).take 6) = true := by decide +kernel
set_option maxRecDepth 1000000 in
theorem mb_351_2 : bkB me_351 ((M_351.2.1.drop 4).drop 6) = true := by decide +kernel
theorem mp_351 : bk_P me_351 := bkchk_ok mo_351 (bk_split 4 mb_351_0 (bk_split 6 mb_351_1 mb_351_2))
noncomputable abbrev me_352 : mE := (352, 2944, 9, 1, 0, M_352)
set_option maxRecDepth 1000000 in
theorem mo_352 : bkchk me_352 = true := by decide +kernel
set_option maxRecDepth 1000000 in
theorem mb_352_0 : bkB me_352 (M_352.2.1.take 6) = true := by decide +kernel
set_option maxRecDepth 1000000 in
theorem mb_352_1 : bkB me_352 ((M_352.2.1.drop 6).take 4) = true := by decide +kernel
set_option maxRecDepth 1000000 in
theorem mb_352_2 : bkB me_352 ((M_352.2.1.drop 6).drop 4) = true := by decide +kernel
theorem mp_352 : bk_P me_352 := bkchk_ok mo_352 (bk_split 6 mb_352_0 (bk_split 4 mb_352_1 mb_352_2))
noncomputable abbrev me_353 : mE := (353, 2952, 9, 0, 0, M_353)
set_option maxRecDepth 1000000 in
theorem mo_353 : bkchk me_353 = true := by decide +kernel
set_option maxRecDepth 1000000 in
theorem mb_353_0 : bkB me_353 (M_353.2.1.take 2) = true := by decide +kernel
set_option maxRecDepth 1000000 in
theorem mb_353_1 : bkB me_353 ((M_353.2.1.drop 2).take 1) = true := by decide +kernel
set_option maxRecDepth 1000000 in
theorem mb_353_2 : bkB me_353 (((M_353.2.1.drop 2).drop 1).take 1) = true := by decide +kernel
set_option maxRecDepth 1000000 in
theorem mb_353_3 : bkB me_353 ((((M_353.2.1.drop 2).drop 1).drop 1).take 1) = true := by decide +kernel
set_option maxRecDepth 1000000 in
theorem mb_353_4 : bkB me_353 (((((M_353.2.1.drop 2).drop 1).drop 1).drop 1).take 4) = true := by decide +kernel
set_option maxRecDepth 1000000 in
theorem mb_353_5 : bkB me_353 (((((M_353.2.1.drop 2).drop 1).drop 1).drop 1).drop 4) = true := by decide +kernel
theorem mp_353 : bk_P me_353 := bkchk_ok mo_353 (bk_split 2 mb_353_0 (bk_split 1 mb_353_1 (bk_split 1 mb_353_2 (bk_split 1 mb_353_3 (bk_split 4 mb_353_4 mb_353_5)))))
noncomputable abbrev me_354 : mE := (354, 3292, 9, 0, 0, M_354)
set_option maxRecDepth 1000000 in
theorem mo_354 : bkchk me_354 = true := by decide +kernel
set_option maxRecDepth 1000000 in
theorem mb_354_0 : bkB me_354 M_354.2.1 = true := by decide +kernel
theorem mp_354 : bk_P me_354 := bkchk_ok mo_354 mb_354_0
noncomputable abbrev me_355 : mE := (355, 2956, 9, 0, 0, M_355)
set_option maxRecDepth 1000000 in
theorem mo_355 : bkchk me_355 = true := by decide +kernel
set_option maxRecDepth 1000000 in
theorem mb_355_0 : bkB me_355 M_355.2.1 = true := by decide +kernel
theorem mp_355 : bk_P me_355 := bkchk_ok mo_355 mb_355_0
noncomputable abbrev me_356 : mE := (356, 2948, 9, 1, 0, M_356)
set_option maxRecDepth 1000000 in
theorem mo_356 : bkchk me_356 = true := by decide +kernel
set_option maxRecDepth 1000000 in
theorem mb_356_0 : bkB me_356 (M_356.2.1.take 9) = true := by decide +kernel
set_option maxRecDepth 1000000 in
theorem mb_356_1 : bkB me_356 ((M_356.2.1.drop 9).take 3) = true := by decide +kernel
set_option maxRecDepth 1000000 in
theorem mb_356_2 : bkB me_356 ((M_356.2.1.drop 9).drop 3) = true := by decide +kernel
theorem mp_356 : bk_P me_356 := bkchk_ok mo_356 (bk_split 9 mb_356_0 (bk_split 3 mb_356_1 mb_356_2))
noncomputable abbrev me_357 : mE := (357, 3264, 9, 1, 0, M_357)
set_option maxRecDepth 1000000 in
theorem mo_357 : bkchk me_357 = true := by decide +kernel
set_option maxRecDepth 1000000 in
theorem mb_357_0 : bkB me_357 (M_357.2.1.take 8) = true := by decide +kernel
set_option maxRecDepth 1000000 in
theorem mb_357_1 : bkB me_357 ((M_357.2.1.drop 8).take 7) = true := by decide +kernel
set_option maxRecDepth 1000000 in
theorem mb_357_2 : bkB me_357 (((M_357.2.1.drop 8).drop 7).take 6) = true := by decide +kernel
set_option maxRecDepth 1000000 in
theorem mb_357_3 : bkB me_357 ((((M_357.2.1.drop 8).drop 7).drop 6).take 5) = true := by decide +kernel
set_option maxRecDepth 1000000 in
theorem mb_357_4 : bkB me_357 (((((M_357.2.1.drop 8).drop 7).drop 6).drop 5).take 2) = true := by decide +kernel
set_option maxRecDepth 1000000 in
theorem mb_357_5 : bkB me_357 (((((M_357.2.1.drop 8).drop 7).drop 6).drop 5).drop 2) = true := by decide +kernel
theorem mp_357 : bk_P me_357 := bkchk_ok mo_357 (bk_split 8 mb_357_0 (bk_split 7 mb_357_1 (bk_split 6 mb_357_2 (bk_split 5 mb_357_3 (bk_split 2 mb_357_4 mb_357_5)))))
noncomputable abbrev me_358 : mE := (358, 3268, 9, 1, 0, M_358)
set_option maxRecDepth 1000000 in
theorem mo_358 : bkchk me_358 = true := by decide +kernel
set_option maxRecDepth 1000000 in
theorem mb_358_0 : bkB me_358 M_358.2.1 = true := by decide +kernel
theorem mp_358 : bk_P me_358 := bkchk_ok mo_358 mb_358_0
noncomputable abbrev me_359 : mE := (359, 3280, 9, 2, 0, M_359)
set_option maxRecDepth 1000000 in
theorem mo_359 : bkchk me_359 = true := by decide +kernel
set_option maxRecDepth 1000000 in
theorem mb_359_0 : bkB me_359 M_359.2.1 = true := by decide +kernel
theorem mp_359 : bk_P me_359 := bkchk_ok mo_359 mb_359_0
noncomputable abbrev me_360 : mE := (360, 3284, 9, 2, 0, M_360)
set_option maxRecDepth 1000000 in
theorem mo_360 : bkchk me_360 = true := by decide +kernel
set_option maxRecDepth 1000000 in
theorem mb_360_0 : bkB me_360 (M_360.2.1.take 4) = true := by decide +kernel
set_option maxRecDepth 1000000 in
theorem mb_360_1 : bkB me_360 ((M_360.2.1.drop 4).take 2) = true := by decide +kernel
set_option maxRecDepth 1000000 in
theorem mb_360_2 : bkB me_360 ((M_360.2.1.drop 4).drop 2) = true := by decide +kernel
theorem mp_360 : bk_P me_360 := bkchk_ok mo_360 (bk_split 4 mb_360_0 (bk_split 2 mb_360_1 mb_360_2))
noncomputable abbrev me_361 : mE := (361, 3288, 9, 1, 0, M_361)
set_option maxRecDepth 1000000 in
theorem mo_361 : bkchk me_361 = true := by decide +kernel
set_option maxRecDepth 1000000 in
theorem mb_361_0 : bkB me_361 M_361.2.1 = true := by decide +kernel
theorem mp_361 : bk_P me_361 := bkchk_ok mo_361 mb_361_0
noncomputable def ME_12 : List mE := [me_332, me_333, me_334, me_335, me_336, me_337, me_338, me_339, me_340, me_341, me_342, me_343, me_344, me_345, me_346, me_347, me_348, me_349, me_350, me_351, me_352, me_353, me_354, me_355, me_356, me_357, me_358, me_359, me_360, me_361]
theorem ME_ok_12 : ∀ q ∈ ME_12, bk_P q := by
  unfold ME_12
  intro q hq
  rcases List.mem_cons.mp hq with rfl | hq
  · exact mp_332
  rcases List.mem_cons.mp hq with rfl | hq
  · exact mp_333
  rcases List.mem_cons.mp hq with rfl | hq
  · exact mp_334
  rcases List.mem_cons.mp hq with rfl | hq
  · exact mp_335
  rcases List.mem_cons.mp hq with rfl | hq
  · exact mp_336
  rcases List.mem_cons.mp hq with rfl | hq
  · exact mp_337
  rcases List.mem_cons.mp hq with rfl | hq
  · exact mp_338
  rcases List.mem_cons.mp hq with rfl | hq
  · exact mp_339
  rcases List.mem_cons.mp hq with rfl | hq
  · exact mp_340
  rcases List.mem_cons.mp hq with rfl | hq
  · exact mp_341
  rcases List.mem_cons.mp hq with rfl | hq
  · exact mp_342
  rcases List.mem_cons.mp hq with rfl | hq
  · exact mp_343
  rcases List.mem_cons.mp hq with rfl | hq
  · exact mp_344
  rcases List.mem_cons.mp hq with rfl | hq
  · exact mp_345
  rcases List.mem_cons.mp hq with rfl | hq
  · exact mp_346
  rcases List.mem_cons.mp hq with rfl | hq
  · exact mp_347
  rcases List.mem_cons.mp hq with rfl | hq
  · exact mp_348
  rcases List.mem_cons.mp hq with rfl | hq
  · exact mp_349
  rcases List.mem_cons.mp hq with rfl | hq
  · exact mp_350
  rcases List.mem_cons.mp hq with rfl | hq
  · exact mp_351
  rcases List.mem_cons.mp hq with rfl | hq
  · exact mp_352
  rcases List.mem_cons.mp hq with rfl | hq
  · exact mp_353
  rcases List.mem_cons.mp hq with rfl | hq
  · exact mp_354
  rcases List.mem_cons.mp hq with rfl | hq
  · exact mp_355
  rcases List.mem_cons.mp hq with rfl | hq
  · exact mp_356
  rcases List.mem_cons.mp hq with rfl | hq
  · exact mp_357
  rcases List.mem_cons.mp hq with rfl | hq
  · exact mp_358
  rcases List.mem_cons.mp hq with rfl | hq
  · exact mp_359
  rcases List.mem_cons.mp hq with rfl | hq
  · exact mp_360
  rcases List.mem_cons.mp hq with rfl | hq
  · exact mp_361
  cases hq
