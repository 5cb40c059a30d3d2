noncomputable abbrev me_302 : mE := (302, 2736, 9, 2, 0, M_302)
set_option maxRecDepth 1000000 in
theorem mo_302 : bkchk me_302 = true := by decide +kernel
set_option maxRecDepth 1000000 in
theorem mb_302_0 : bkB me_302 M_302.2.1 = true := by decide +kernel
theorem mp_302 : bk_P me_302 := bkchk_ok mo_302 mb_302_0
noncomputable abbrev me_303 : mE := (303, 2740, 9, 1, 0, M_303)
set_option maxRecDepth 1000000 in
theorem mo_303 : bkchk me_303 = true := by decide +kernel
set_option maxRecDepth 1000000 in
theorem mb_303_0 : bkB me_303 (M_303.2.1.take 3) = true := by decide +kernel
set_option maxRecDepth 1000000 in
theorem mb_303_1 : bkB me_303 ((M_303.2.1.drop 3).take 6) = true := by decide +kernel
set_option maxRecDepth 1000000 in
theorem mb_303_2 : bkB me_303 ((M_303.2.1.drop 3).drop 6) = true := by decide +kernel
theorem mp_303 : bk_P me_303 := bkchk_ok mo_303 (bk_split 3 mb_303_0 (bk_split 6 mb_303_1 mb_303_2))
noncomputable abbrev me_304 : mE := (304, 2744, 9, 3, 0, M_304)
set_option maxRecDepth 1000000 in
theorem mo_304 : bkchk me_304 = true := by decide +kernel
set_option maxRecDepth 1000000 in
theorem mb_304_0 : bkB me_304 M_304.2.1 = true := by decide +kernel
theorem mp_304 : bk_P me_304 := bkchk_ok mo_304 mb_304_0
noncomputable abbrev me_305 : mE := (305, 2748, 9, 1, 0, M_305)
set_option maxRecDepth 1000000 in
theorem mo_305 : bkchk me_305 = true := by decide +kernel
set_option maxRecDepth 1000000 in
theorem mb_305_0 : bkB me_305 M_305.2.1 = true := by decide +kernel
theorem mp_305 : bk_P me_305 := bkchk_ok mo_305 mb_305_0
noncomputable abbrev me_306 : mE := (306, 2752, 9, 1, 0, M_306)
set_option maxRecDepth 1000000 in
theorem mo_306 : bkchk me_306 = true := by decide +kernel
set_option maxRecDepth 1000000 in
theorem mb_306_0 : bkB me_306 M_306.2.1 = true := by decide +kernel
theorem mp_306 : bk_P me_306 := bkchk_ok mo_306 mb_306_0
noncomputable abbrev me_307 : mE := (307, 2757, 9, 1, 0, M_307)
set_option maxRecDepth 1000000 in
theorem mo_307 : bkchk me_307 = true := by decide +kernel
set_option maxRecDepth 1000000 in
theorem mb_307_0 : bkB me_307 (M_307.2.1.take 6) = true := by decide +kernel
set_option maxRecDepth 1000000 in
theorem mb_307_1 : bkB me_307 ((M_307.2.1.drop 6).take 4) = true := by decide +kernel
set_option maxRecDepth 1000000 in
theorem mb_307_2 : bkB me_307 (((M_307.2.1.drop 6).drop 4).take 2) = true := by decide +kernel
set_option maxRecDepth 1000000 in
theorem mb_307_3 : bkB me_307 (((M_307.2.1.drop 6).drop 4).drop 2) = true := by decide +kernel
theorem mp_307 : bk_P me_307 := bkchk_ok mo_307 (bk_split 6 mb_307_0 (bk_split 4 mb_307_1 (bk_split 2 mb_307_2 mb_307_3)))
noncomputable abbrev me_308 : mE := (308, 2676, 9, 2, 0, M_308)
set_option maxRecDepth 1000000 in
theorem mo_308 : bkchk me_308 = true := by decide +kernel
set_option maxRecDepth 1000000 in
theorem mb_308_0 : bkB me_308 M_308.2.1 = true := by decide +kernel
theorem mp_308 : bk_P me_308 := bkchk_ok mo_308 mb_308_0
noncomputable abbrev me_309 : mE := (309, 2762, 9, 3, 0, M_309)
set_option maxRecDepth 1000000 in
theorem mo_309 : bkchk me_309 = true := by decide +kernel
set_option maxRecDepth 1000000 in
theorem mb_309_0 : bkB me_309 M_309.2.1 = true := by decide +kernel
theorem mp_309 : bk_P me_309 := bkchk_ok mo_309 mb_309_0
noncomputable abbrev me_310 : mE := (310, 2782, 9, 1, 0, M_310)
set_option maxRecDepth 1000000 in
theorem mo_310 : bkchk me_310 = true := by decide +kernel
set_option maxRecDepth 1000000 in
theorem mb_310_0 : bkB me_310 M_310.2.1 = true := by decide +kernel
theorem mp_310 : bk_P me_310 := bkchk_ok mo_310 mb_310_0
noncomputable abbrev me_311 : mE := (311, 2778, 9, 0, 0, M_311)
set_option maxRecDepth 1000000 in
theorem mo_311 : bkchk me_311 = true := by decide +kernel
set_option maxRecDepth 1000000 in
theorem mb_311_0 : bkB me_311 M_311.2.1 = true := by decide +kernel
theorem mp_311 : bk_P me_311 := bkchk_ok mo_311 mb_311_0
noncomputable abbrev me_312 : mE := (312, 2786, 9, 0, 0, M_312)
set_option maxRecDepth 1000000 in
theorem mo_312 : bkchk me_312 = true := by decide +kernel
set_option maxRecDepth 1000000 in
theorem mb_312_0 : bkB me_312 M_312.2.1 = true := by decide +kernel
theorem mp_312 : bk_P me_312 := bkchk_ok mo_312 mb_312_0
noncomputable abbrev me_313 : mE := (313, 2774, 9, 1, 0, M_313)
set_option maxRecDepth 1000000 in
theorem mo_313 : bkchk me_313 = true := by decide +kernel
set_option maxRecDepth 1000000 in
theorem mb_313_0 : bkB me_313 (M_313.2.1.take 4) = true := by decide +kernel
set_option maxRecDepth 1000000 in
theorem mb_313_1 : bkB me_313 (M_313.2.1.drop 4) = true := by decide +kernel
theorem mp_313 : bk_P me_313 := bkchk_ok mo_313 (bk_split 4 mb_313_0 mb_313_1)
noncomputable abbrev me_314 : mE := (314, 2770, 9, 2, 0, M_314)
set_option maxRecDepth 1000000 in
theorem mo_314 : bkchk me_314 = true := by decide +kernel
set_option maxRecDepth 1000000 in
theorem mb_314_0 : bkB me_314 M_314.2.1 = true := by decide +kernel
theorem mp_314 : bk_P me_314 := bkchk_ok mo_314 mb_314_0
noncomputable abbrev me_315 : mE := (315, 2766, 9, 1, 0, M_315)
set_option maxRecDepth 1000000 in
theorem mo_315 : bkchk me_315 = true := by decide +kernel
set_option maxRecDepth 1000000 in
theorem mb_315_0 : bkB me_315 (M_315.2.1.take 4) = true := by decide +kernel
set_option maxRecDepth 1000000 in
theorem mb_315_1 : bkB me_315 (M_315.2.1.drop 4) = true := by decide +kernel
theorem mp_315 : bk_P me_315 := bkchk_ok mo_315 (bk_split 4 mb_315_0 mb_315_1)
noncomputable abbrev me_316 : mE := (316, 2798, 9, 2, 0, M_316)
set_option maxRecDepth 1000000 in
theorem mo_316 : bkchk me_316 = true := by decide +kernel
set_option maxRecDepth 1000000 in
theorem mb_316_0 : bkB me_316 M_316.2.1 = true := by decide +kernel
theorem mp_316 : bk_P me_316 := bkchk_ok mo_316 mb_316_0
noncomputable abbrev me_317 : mE := (317, 2802, 9, 2, 0, M_317)
set_option maxRecDepth 1000000 in
theorem mo_317 : bkchk me_317 = true := by decide +kernel
set_option maxRecDepth 1000000 in
theorem mb_317_0 : bkB me_317 M_317.2.1 = true := by decide +kernel
theorem mp_317 : bk_P me_317 := bkchk_ok mo_317 mb_317_0
noncomputable abbrev me_318 : mE := (318, 2794, 9, 1, 0, M_318)
set_option maxRecDepth 1000000 in
theorem mo_318 : bkchk me_318 = true := by decide +kernel
set_option maxRecDepth 1000000 in
theorem mb_318_0 : bkB me_318 (M_318.2.1.take 5) = true := by decide +kernel
set_option maxRecDepth 1000000 in
theorem mb_318_1 : bkB me_318 ((M_318.2.1.drop 5).take 5) = true := by decide +kernel
set_option maxRecDepth 1000000 in
theorem mb_318_2 : bkB me_318 (((M_318.2.1.drop 5).drop 5).take 4) = true := by decide +kernel
set_option maxRecDepth 1000000 in
theorem mb_318_3 : bkB me_318 (((M_318.2.1.drop 5).drop 5).drop 4) = true := by decide +kernel
theorem mp_318 : bk_P me_318 := bkchk_ok mo_318 (bk_split 5 mb_318_0 (bk_split 5 mb_318_1 (bk_split 4 mb_318_2 mb_318_3)))
noncomputable abbrev me_319 : mE := (319, 2806, 9, 1, 0, M_319)
set_option maxRecDepth 1000000 in
theorem mo_319 : bkchk me_319 = true := by decide +kernel
set_option maxRecDepth 1000000 in
theorem mb_319_0 : bkB me_319 M_319.2.1 = true := by decide +kernel
theorem mp_319 : bk_P me_319 := bkchk_ok mo_319 mb_319_0
noncomputable abbrev me_320 : mE := (320, 2810, 9, 1, 0, M_320)
set_option maxRecDepth 1000000 in
theorem mo_320 : bkchk me_320 = true := by decide +kernel
set_option maxRecDepth 1000000 in
theorem mb_320_0 : bkB me_320 (M_320.2.1.take 5) = true := by decide +kernel
set_option maxRecDepth 1000000 in
theorem mb_320_1 : bkB me_320 ((M_320.2.1.drop 5).take 1) = true := by decide +kernel
set_option maxRecDepth 1000000 in
theorem mb_320_2 : bkB me_320 ((M_320.2.1.drop 5).drop 1) = true := by decide +kernel
theorem mp_320 : bk_P me_320 := bkchk_ok mo_320 (bk_split 5 mb_320_0 (bk_split 1 mb_320_1 mb_320_2))
noncomputable abbrev me_321 : mE := (321, 2814, 9, 3, 0, M_321)
set_option maxRecDepth 1000000 in
theorem mo_321 : bkchk me_321 = true := by decide +kernel
set_option maxRecDepth 1000000 in
theorem mb_321_0 : bkB me_321 (M_321.2.1.take 2) = true := by decide +kernel
set_option maxRecDepth 1000000 in
theorem mb_321_1 : bkB me_321 ((M_321.2.1.drop 2).take 1) = true := by decide +kernel
set_option maxRecDepth 1000000 in
theorem mb_321_2 : bkB me_321 ((M_321.2.1.drop 2).drop 1) = true := by decide +kernel
theorem mp_321 : bk_P me_321 := bkchk_ok mo_321 (bk_split 2 mb_321_0 (bk_split 1 mb_321_1 mb_321_2))
noncomputable abbrev me_322 : mE := (322, 2826, 9, 0, 0, M_322)
set_option maxRecDepth 1000000 in
theorem mo_322 : bkchk me_322 = true := by decide +kernel
set_option maxRecDepth 1000000 in
theorem mb_322_0 : bkB me_322 M_322.2.1 = true := by decide +kernel
theorem mp_322 : bk_P me_322 := bkchk_ok mo_322 mb_322_0
noncomputable abbrev me_323 : mE := (323, 2830, 9, 0, 0, M_323)
set_option maxRecDepth 1000000 in
theorem mo_323 : bkchk me_323 = true := by decide +kernel
set_option maxRecDepth 1000000 in
theorem mb_323_0 : bkB me_323 M_323.2.1 = true := by decide +kernel
theorem mp_323 : bk_P me_323 := bkchk_ok mo_323 mb_323_0
noncomputable abbrev me_324 : mE := (324, 2822, 9, 3, 0, M_324)
set_option maxRecDepth 1000000 in
theorem mo_324 : bkchk me_324 = true := by decide +kernel
set_option maxRecDepth 1000000 in
theorem mb_324_0 : bkB me_324 M_324.2.1 = true := by decide +kernel
theorem mp_324 : bk_P me_324 := bkchk_ok mo_324 mb_324_0
noncomputable abbrev me_325 : mE := (325, 2834, 9, 1, 0, M_325)
set_option maxRecDepth 1000000 in
theorem mo_325 : bkchk me_325 = true := by decide +kernel
set_option maxRecDepth 1000000 in
theorem mb_325_0 : bkB me_325 M_325.2.1 = true := by decide +kernel
theorem mp_325 : bk_P me_325 := bkchk_ok mo_325 mb_325_0
noncomputable abbrev me_326 : mE := (326, 2838, 9, 3, 0, M_326)
set_option maxRecDepth 1000000 in
theorem mo_326 : bkchk me_326 = true := by decide +kernel
set_option maxRecDepth 1000000 in
theorem mb_326_0 : bkB me_326 (M_326.2.1.take 5) = true := by decide +kernel
set_option maxRecDepth 1000000 in
theorem mb_326_1 : bkB me_326 ((M_326.2.1.drop 5).take 3) = true := by decide +kernel
set_option maxRecDepth 1000000 in
theorem mb_326_2 : bkB me_326 (((M_326.2.1.drop 5).drop 3).take 3) = true := by decide +kernel
set_option maxRecDepth 1000000 in
theorem mb_326_3 : bkB me_326 ((((M_326.2.1.drop 5).drop 3).drop 3).take 7) = true := by decide +kernel
set_option maxRecDepth 1000000 in
theorem mb_326_4 : bkB me_326 (((((M_326.2.1.drop 5).drop 3).drop 3).drop 7).take 3) = true := by decide +kernel
set_option maxRecDepth 1000000 in
theorem mb_326_5 : bkB me_326 ((((((M_326.2.1.drop 5).drop 3).drop 3).drop 7).drop 3).take 7) = true := by decide +kernel
set_option maxRecDepth 1000000 in
theorem mb_326_6 : bkB me_326 (((((((M_326.2.1.drop 5).drop 3).drop 3).drop 7).drop 3).drop 7).take 1) = true := by decide +kernel
set_option maxRecDepth 1000000 in
theorem mb_326_7 : bkB me_326 ((((((((M_326.2.1.drop 5).drop 3).drop 3).drop 7).drop 3).drop 7).drop 1).take 5) = true := by decide +kernel
set_option maxRecDepth 1000000 in
theorem mb_326_8 : bkB me_326 ((((((((M_326.2.1.drop 5).drop 3).drop 3).drop 7).drop 3).drop 7).drop 1).drop 5) = true := by decide +kernel
theorem mp_326 : bk_P me_326 := bkchk_ok mo_326 (bk_split 5 mb_326_0 (bk_split 3 mb_326_1 (bk_split 3 mb_326_2 (bk_split 7 mb_326_3 (bk_split 3 mb_326_4 (bk_split 7 mb_326_5 (bk_split 1 mb_326_6 (bk_split 5 mb_326_7 mb_326_8))))))))
noncomputable abbrev me_327 : mE := (327, 2842, 9, 1, 0, M_327)
set_option maxRecDepth 1000000 in
theorem mo_327 : bkchk me_327 = true := by decide +kernel
set_option maxRecDepth 1000000 in
theorem mb_327_0 : bkB me_327 (M_327.2.1.take 5) = true := by decide +kernel
set_option maxRecDepth 1000000 in
theorem mb_327_1 : bkB me_327 ((M_327.2.1.drop 5).take 2) = true := by decide +kernel
set_option maxRecDepth 1000000 in
theorem mb_327_2 : bkB me_327 ((M_327.2.1.drop 5).drop 2) = true := by decide +kernel
theorem mp_327 : bk_P me_327 := bkchk_ok mo_327 (bk_split 5 mb_327_0 (bk_split 2 mb_327_1 mb_327_2))
noncomputable abbrev me_328 : mE := (328, 2854, 9, 1, 0, M_328)
set_option maxRecDepth 1000000 in
theorem mo_328 : bkchk me_328 = true := by decide +kernel
set_option maxRecDepth 1000000 in
theorem mb_328_0 : bkB me_328 M_328.2.1 = true := by decide +kernel
theorem mp_328 : bk_P me_328 := bkchk_ok mo_328 mb_328_0
noncomputable abbrev me_329 : mE := (329, 2850, 9, 0, 0, M_329)
set_option maxRecDepth 1000000 in
theorem mo_329 : bkchk me_329 = true := by decide +kernel
set_option maxRecDepth 1000000 in
theorem mb_329_0 : bkB me_329 (M_329.2.1.take 2) = true := by decide +kernel
set_option maxRecDepth 1000000 in
theorem mb_329_1 : bkB me_329 (M_329.2.1.drop 2) = true := by decide +kernel
theorem mp_329 : bk_P me_329 := bkchk_ok mo_329 (bk_split 2 mb_329_0 mb_329_1)
noncomputable abbrev me_330 : mE := (330, 2858, 9, 0, 0, M_330)
set_option maxRecDepth 1000000 in
theorem mo_330 : bkchk me_330 = true := by decide +kernel
set_option maxRecDepth 1000000 in
theorem mb_330_0 : bkB me_330 M_330.2.1 = true := by decide +kernel
theorem mp_330 : bk_P me_330 := bkchk_ok mo_330 mb_330_0
noncomputable abbrev me_331 : mE := (331, 2869, 9, 0, 0, M_331)
set_option maxRecDepth 1000000 in
theorem mo_331 : bkchk me_331 = true := by decide +kernel
set_option maxRecDepth 1000000 in
theorem mb_331_0 : bkB me_331 M_331.2.1 = true := by decide +kernel
theorem mp_331 : bk_P me_331 := bkchk_ok mo_331 mb_331_0
noncomputable def ME_11 : List mE := [me_302, me_303, me_304, me_305, me_306, me_307, me_308, me_309, me_310, me_311, me_312, me_313, me_314, me_315, me_316, me_317, me_318, me_319, me_320, me_321, me_322, me_323, me_324, me_325, me_326, me_327, me_328, me_329, me_330, me_331]
theorem ME_ok_11 : ∀ q ∈ ME_11, bk_P q := by
  unfold ME_11
  intro q hq
  rcases List.mem_cons.mp hq with rfl | hq
  · exact mp_302
  rcases List.mem_cons.mp hq with rfl | hq
  · exact mp_303
  rcases List.mem_cons.mp hq with rfl | hq
  · exact mp_304
  rcases List.mem_cons.mp hq with rfl | hq
  · exact mp_305
  rcases List.mem_cons.mp hq with rfl | hq
  · exact mp_306
  rcases List.mem_cons.mp hq with rfl | hq
  · exact mp_307
  rcases List.mem_cons.mp hq with rfl | hq
  · exact mp_308
  rcases List.mem_cons.mp hq with rfl | hq
  · exact mp_309
  rcases List.mem_cons.mp hq with rfl | hq
  · exact mp_310
  rcases List.mem_cons.mp hq with rfl | hq
  · exact mp_311
  rcases List.mem_cons.mp hq with rfl | hq
  · exact mp_312
  rcases List.mem_cons.mp hq with rfl | hq
  · exact mp_313
  rcases List.mem_cons.mp hq with rfl | hq
  · exact mp_314
  rcases List.mem_cons.mp hq with rfl | hq
  · exact mp_315
  rcases List.mem_cons.mp hq with rfl | hq
  · exact mp_316
  rcases List.mem_cons.mp hq with rfl | hq
  · exact mp_317
  rcases List.mem_cons.mp hq with rfl | hq
  · exact mp_318
  rcases List.mem_cons.mp hq with rfl | hq
  · exact mp_319
  rcases List.mem_cons.mp hq with rfl | hq
  · exact mp_320
  rcases List.mem_cons.mp hq with rfl | hq
  · exact mp_321
  rcases List.mem_cons.mp hq with rfl | hq
  · exact mp_322
  rcases List.mem_cons.mp hq with rfl | hq
  · exact mp_323
  rcases List.mem_cons.mp hq with rfl | hq
  · exact mp_324
  rcases List.mem_cons.mp hq with rfl | hq
  · exact mp_325
  rcases List.mem_cons.mp hq with rfl | hq
  · exact mp_326
  rcases List.mem_cons.mp hq with rfl | hq
  · exact mp_327
  rcases List.mem_cons.mp hq with rfl | hq
  · exact mp_328
  rcases List.mem_cons.mp hq with rfl | hq
  · exact mp_329
  rcases List.mem_cons.mp hq with rfl | hq
  · exact mp_330
  rcases List.mem_cons.mp hq with rfl | hq
  · exact mp_331
  cases hq
