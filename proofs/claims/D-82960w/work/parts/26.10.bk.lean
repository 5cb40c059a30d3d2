noncomputable abbrev me_272 : mE := (272, 2466, 9, 1, 0, M_272)
set_option maxRecDepth 1000000 in
theorem mo_272 : bkchk me_272 = true := by decide +kernel
set_option maxRecDepth 1000000 in
theorem mb_272_0 : bkB me_272 M_272.2.1 = true := by decide +kernel
theorem mp_272 : bk_P me_272 := bkchk_ok mo_272 mb_272_0
noncomputable abbrev me_273 : mE := (273, 2474, 9, 1, 0, M_273)
set_option maxRecDepth 1000000 in
theorem mo_273 : bkchk me_273 = true := by decide +kernel
set_option maxRecDepth 1000000 in
theorem mb_273_0 : bkB me_273 M_273.2.1 = true := by decide +kernel
theorem mp_273 : bk_P me_273 := bkchk_ok mo_273 mb_273_0
noncomputable abbrev me_274 : mE := (274, 2648, 9, 1, 0, M_274)
set_option maxRecDepth 1000000 in
theorem mo_274 : bkchk me_274 = true := by decide +kernel
set_option maxRecDepth 1000000 in
theorem mb_274_0 : bkB me_274 M_274.2.1 = true := by decide +kernel
theorem mp_274 : bk_P me_274 := bkchk_ok mo_274 mb_274_0
noncomputable abbrev me_275 : mE := (275, 2457, 9, 0, 0, M_275)
set_option maxRecDepth 1000000 in
theorem mo_275 : bkchk me_275 = true := by decide +kernel
set_option maxRecDepth 1000000 in
theorem mb_275_0 : bkB me_275 M_275.2.1 = true := by decide +kernel
theorem mp_275 : bk_P me_275 := bkchk_ok mo_275 mb_275_0
noncomputable abbrev me_276 : mE := (276, 2445, 9, 2, 0, M_276)
set_option maxRecDepth 1000000 in
theorem mo_276 : bkchk me_276 = true := by decide +kernel
set_option maxRecDepth 1000000 in
theorem mb_276_0 : bkB me_276 (M_276.2.1.take 6) = true := by decide +kernel
set_option maxRecDepth 1000000 in
theorem mb_276_1 : bkB me_276 (M_276.2.1.drop 6) = true := by decide +kernel
theorem mp_276 : bk_P me_276 := bkchk_ok mo_276 (bk_split 6 mb_276_0 mb_276_1)
noncomputable abbrev me_277 : mE := (277, 2636, 9, 1, 0, M_277)
set_option maxRecDepth 1000000 in
theorem mo_277 : bkchk me_277 = true := by decide +kernel
set_option maxRecDepth 1000000 in
theorem mb_277_0 : bkB me_277 M_277.2.1 = true := by decide +kernel
theorem mp_277 : bk_P me_277 := bkchk_ok mo_277 mb_277_0
noncomputable abbrev me_278 : mE := (278, 2462, 9, 1, 0, M_278)
set_option maxRecDepth 1000000 in
theorem mo_278 : bkchk me_278 = true := by decide +kernel
set_option maxRecDepth 1000000 in
theorem mb_278_0 : bkB me_278 (M_278.2.1.take 4) = true := by decide +kernel
set_option maxRecDepth 1000000 in
theorem mb_278_1 : bkB me_278 (M_278.2.1.drop 4) = true := by decide +kernel
theorem mp_278 : bk_P me_278 := bkchk_ok mo_278 (bk_split 4 mb_278_0 mb_278_1)
noncomputable abbrev me_279 : mE := (279, 2417, 9, 0, 0, M_279)
set_option maxRecDepth 1000000 in
theorem mo_279 : bkchk me_279 = true := by decide +kernel
set_option maxRecDepth 1000000 in
theorem mb_279_0 : bkB me_279 M_279.2.1 = true := by decide +kernel
theorem mp_279 : bk_P me_279 := bkchk_ok mo_279 mb_279_0
noncomputable abbrev me_280 : mE := (280, 2433, 9, 0, 0, M_280)
set_option maxRecDepth 1000000 in
theorem mo_280 : bkchk me_280 = true := by decide +kernel
set_option maxRecDepth 1000000 in
theorem mb_280_0 : bkB me_280 (M_280.2.1.take 5) = true := by decide +kernel
set_option maxRecDepth 1000000 in
theorem mb_280_1 : bkB me_280 ((M_280.2.1.drop 5).take 4) = true := by decide +kernel
set_option maxRecDepth 1000000 in
theorem mb_280_2 : bkB me_280 ((M_280.2.1.drop 5).drop 4) = true := by decide +kernel
theorem mp_280 : bk_P me_280 := bkchk_ok mo_280 (bk_split 5 mb_280_0 (bk_split 4 mb_280_1 mb_280_2))
noncomputable abbrev me_281 : mE := (281, 2441, 9, 0, 0, M_281)
set_option maxRecDepth 1000000 in
theorem mo_281 : bkchk me_281 = true := by decide +kernel
set_option maxRecDepth 1000000 in
theorem mb_281_0 : bkB me_281 M_281.2.1 = true := by decide +kernel
theorem mp_281 : bk_P me_281 := bkchk_ok mo_281 mb_281_0
noncomputable abbrev me_282 : mE := (282, 2429, 9, 1, 0, M_282)
set_option maxRecDepth 1000000 in
theorem mo_282 : bkchk me_282 = true := by decide +kernel
set_option maxRecDepth 1000000 in
theorem mb_282_0 : bkB me_282 (M_282.2.1.take 5) = true := by decide +kernel
set_option maxRecDepth 1000000 in
theorem mb_282_1 : bkB me_282 ((M_282.2.1.drop 5).take 3) = true := by decide +kernel
set_option maxRecDepth 1000000 in
theorem mb_282_2 : bkB me_282 ((M_282.2.1.drop 5).drop 3) = true := by decide +kernel
theorem mp_282 : bk_P me_282 := bkchk_ok mo_282 (bk_split 5 mb_282_0 (bk_split 3 mb_282_1 mb_282_2))
noncomputable abbrev me_283 : mE := (283, 2818, 9, 1, 0, M_283)
set_option maxRecDepth 1000000 in
theorem mo_283 : bkchk me_283 = true := by decide +kernel
set_option maxRecDepth 1000000 in
theorem mb_283_0 : bkB me_283 M_283.2.1 = true := by decide +kernel
theorem mp_283 : bk_P me_283 := bkchk_ok mo_283 mb_283_0
noncomputable abbrev me_284 : mE := (284, 2413, 9, 0, 0, M_284)
set_option maxRecDepth 1000000 in
theorem mo_284 : bkchk me_284 = true := by decide +kernel
set_option maxRecDepth 1000000 in
theorem mb_284_0 : bkB me_284 M_284.2.1 = true := by decide +kernel
theorem mp_284 : bk_P me_284 := bkchk_ok mo_284 mb_284_0
noncomputable abbrev me_285 : mE := (285, 2696, 9, 0, 0, M_285)
set_option maxRecDepth 1000000 in
theorem mo_285 : bkchk me_285 = true := by decide +kernel
set_option maxRecDepth 1000000 in
theorem mb_285_0 : bkB me_285 M_285.2.1 = true := by decide +kernel
theorem mp_285 : bk_P me_285 := bkchk_ok mo_285 mb_285_0
noncomputable abbrev me_286 : mE := (286, 2664, 9, 0, 0, M_286)
set_option maxRecDepth 1000000 in
theorem mo_286 : bkchk me_286 = true := by decide +kernel
set_option maxRecDepth 1000000 in
theorem mb_286_0 : bkB me_286 (M_286.2.1.take 4) = true := by decide +kernel
set_option maxRecDepth 1000000 in
theorem mb_286_1 : bkB me_286 (M_286.2.1.drop 4) = true := by decide +kernel
theorem mp_286 : bk_P me_286 := bkchk_ok mo_286 (bk_split 4 mb_286_0 mb_286_1)
noncomputable abbrev me_287 : mE := (287, 2700, 9, 1, 0, M_287)
set_option maxRecDepth 1000000 in
theorem mo_287 : bkchk me_287 = true := by decide +kernel
set_option maxRecDepth 1000000 in
theorem mb_287_0 : bkB me_287 M_287.2.1 = true := by decide +kernel
theorem mp_287 : bk_P me_287 := bkchk_ok mo_287 mb_287_0
noncomputable abbrev me_288 : mE := (288, 2680, 9, 0, 0, M_288)
set_option maxRecDepth 1000000 in
theorem mo_288 : bkchk me_288 = true := by decide +kernel
set_option maxRecDepth 1000000 in
theorem mb_288_0 : bkB me_288 M_288.2.1 = true := by decide +kernel
theorem mp_288 : bk_P me_288 := bkchk_ok mo_288 mb_288_0
noncomputable abbrev me_289 : mE := (289, 2425, 9, 1, 0, M_289)
set_option maxRecDepth 1000000 in
theorem mo_289 : bkchk me_289 = true := by decide +kernel
set_option maxRecDepth 1000000 in
theorem mb_289_0 : bkB me_289 (M_289.2.1.take 2) = true := by decide +kernel
set_option maxRecDepth 1000000 in
theorem mb_289_1 : bkB me_289 (M_289.2.1.drop 2) = true := by decide +kernel
theorem mp_289 : bk_P me_289 := bkchk_ok mo_289 (bk_split 2 mb_289_0 mb_289_1)
noncomputable abbrev me_290 : mE := (290, 2644, 9, 1, 0, M_290)
set_option maxRecDepth 1000000 in
theorem mo_290 : bkchk me_290 = true := by decide +kernel
set_option maxRecDepth 1000000 in
theorem mb_290_0 : bkB me_290 (M_290.2.1.take 5) = true := by decide +kernel
set_option maxRecDepth 1000000 in
theorem mb_290_1 : bkB me_290 (M_290.2.1.drop 5) = true := by decide +kernel
theorem mp_290 : bk_P me_290 := bkchk_ok mo_290 (bk_split 5 mb_290_0 mb_290_1)
noncomputable abbrev me_291 : mE := (291, 2660, 9, 2, 0, M_291)
set_option maxRecDepth 1000000 in
theorem mo_291 : bkchk me_291 = true := by decide +kernel
set_option maxRecDepth 1000000 in
theorem mb_291_0 : bkB me_291 M_291.2.1 = true := by decide +kernel
theorem mp_291 : bk_P me_291 := bkchk_ok mo_291 mb_291_0
noncomputable abbrev me_292 : mE := (292, 2652, 9, 0, 0, M_292)
set_option maxRecDepth 1000000 in
theorem mo_292 : bkchk me_292 = true := by decide +kernel
set_option maxRecDepth 1000000 in
theorem mb_292_0 : bkB me_292 (M_292.2.1.take 6) = true := by decide +kernel
set_option maxRecDepth 1000000 in
theorem mb_292_1 : bkB me_292 ((M_292.2.1.drop 6).take 1) = true := by decide +kernel
set_option maxRecDepth 1000000 in
theorem mb_292_2 : bkB me_292 ((M_292.2.1.drop 6).drop 1) = true := by decide +kernel
theorem mp_292 : bk_P me_292 := bkchk_ok mo_292 (bk_split 6 mb_292_0 (bk_split 1 mb_292_1 mb_292_2))
noncomputable abbrev me_293 : mE := (293, 2409, 9, 1, 0, M_293)
set_option maxRecDepth 1000000 in
theorem mo_293 : bkchk me_293 = true := by decide +kernel
set_option maxRecDepth 1000000 in
theorem mb_293_0 : bkB me_293 M_293.2.1 = true := by decide +kernel
theorem mp_293 : bk_P me_293 := bkchk_ok mo_293 mb_293_0
noncomputable abbrev me_294 : mE := (294, 2421, 9, 1, 0, M_294)
set_option maxRecDepth 1000000 in
theorem mo_294 : bkchk me_294 = true := by decide +kernel
set_option maxRecDepth 1000000 in
theorem mb_294_0 : bkB me_294 M_294.2.1 = true := by decide +kernel
theorem mp_294 : bk_P me_294 := bkchk_ok mo_294 mb_294_0
noncomputable abbrev me_295 : mE := (295, 2684, 9, 1, 0, M_295)
set_option maxRecDepth 1000000 in
theorem mo_295 : bkchk me_295 = true := by decide +kernel
set_option maxRecDepth 1000000 in
theorem mb_295_0 : bkB me_295 M_295.2.1 = true := by decide +kernel
theorem mp_295 : bk_P me_295 := bkchk_ok mo_295 mb_295_0
noncomputable abbrev me_296 : mE := (296, 2688, 9, 1, 0, M_296)
set_option maxRecDepth 1000000 in
theorem mo_296 : bkchk me_296 = true := by decide +kernel
set_option maxRecDepth 1000000 in
theorem mb_296_0 : bkB me_296 M_296.2.1 = true := by decide +kernel
theorem mp_296 : bk_P me_296 := bkchk_ok mo_296 mb_296_0
noncomputable abbrev me_297 : mE := (297, 2692, 9, 1, 0, M_297)
set_option maxRecDepth 1000000 in
theorem mo_297 : bkchk me_297 = true := by decide +kernel
set_option maxRecDepth 1000000 in
theorem mb_297_0 : bkB me_297 M_297.2.1 = true := by decide +kernel
theorem mp_297 : bk_P me_297 := bkchk_ok mo_297 mb_297_0
noncomputable abbrev me_298 : mE := (298, 2704, 9, 1, 0, M_298)
set_option maxRecDepth 1000000 in
theorem mo_298 : bkchk me_298 = true := by decide +kernel
set_option maxRecDepth 1000000 in
theorem mb_298_0 : bkB me_298 M_298.2.1 = true := by decide +kernel
theorem mp_298 : bk_P me_298 := bkchk_ok mo_298 mb_298_0
noncomputable abbrev me_299 : mE := (299, 2708, 9, 3, 0, M_299)
set_option maxRecDepth 1000000 in
theorem mo_299 : bkchk me_299 = true := by decide +kernel
set_option maxRecDepth 1000000 in
theorem mb_299_0 : bkB me_299 M_299.2.1 = true := by decide +kernel
theorem mp_299 : bk_P me_299 := bkchk_ok mo_299 mb_299_0
noncomputable abbrev me_300 : mE := (300, 2720, 9, 1, 0, M_300)
set_option maxRecDepth 1000000 in
theorem mo_300 : bkchk me_300 = true := by decide +kernel
set_option maxRecDepth 1000000 in
theorem mb_300_0 : bkB me_300 M_300.2.1 = true := by decide +kernel
theorem mp_300 : bk_P me_300 := bkchk_ok mo_300 mb_300_0
noncomputable abbrev me_301 : mE := (301, 2733, 9, 1, 0, M_301)
set_option maxRecDepth 1000000 in
theorem mo_301 : bkchk me_301 = true := by decide +kernel
set_option maxRecDepth 1000000 in
theorem mb_301_0 : bkB me_301 (M_301.2.1.take 4) = true := by decide +kernel
set_option maxRecDepth 1000000 in
theorem mb_301_1 : bkB me_301 ((M_301.2.1.drop 4).take 3) = true := by decide +kernel
set_option maxRecDepth 1000000 in
theorem mb_301_2 : bkB me_301 (((M_301.2.1.drop 4).drop 3).take 1) = true := by decide +kernel
set_option maxRecDepth 1000000 in
theorem mb_301_3 : bkB me_301 (((M_301.2.1.drop 4).drop 3).drop 1) = true := by decide +kernel
theorem mp_301 : bk_P me_301 := bkchk_ok mo_301 (bk_split 4 mb_301_0 (bk_split 3 mb_301_1 (bk_split 1 mb_301_2 mb_301_3)))
noncomputable def ME_10 : List mE := [me_272, me_273, me_274, me_275, me_276, me_277, me_278, me_279, me_280, me_281, me_282, me_283, me_284, me_285, me_286, me_287, me_288, me_289, me_290, me_291, me_292, me_293, me_294, me_295, me_296, me_297, me_298, me_299, me_300, me_301]
theorem ME_ok_10 : ∀ q ∈ ME_10, bk_P q := by
  unfold ME_10
  intro q hq
  rcases List.mem_cons.mp hq with rfl | hq
  · exact mp_272
  rcases List.mem_cons.mp hq with rfl | hq
  · exact mp_273
  rcases List.mem_cons.mp hq with rfl | hq
  · exact mp_274
  rcases List.mem_cons.mp hq with rfl | hq
  · exact mp_275
  rcases List.mem_cons.mp hq with rfl | hq
  · exact mp_276
  rcases List.mem_cons.mp hq with rfl | hq
  · exact mp_277
  rcases List.mem_cons.mp hq with rfl | hq
  · exact mp_278
  rcases List.mem_cons.mp hq with rfl | hq
  · exact mp_279
  rcases List.mem_cons.mp hq with rfl | hq
  · exact mp_280
  rcases List.mem_cons.mp hq with rfl | hq
  · exact mp_281
  rcases List.mem_cons.mp hq with rfl | hq
  · exact mp_282
  rcases List.mem_cons.mp hq with rfl | hq
  · exact mp_283
  rcases List.mem_cons.mp hq with rfl | hq
  · exact mp_284
  rcases List.mem_cons.mp hq with rfl | hq
  · exact mp_285
  rcases List.mem_cons.mp hq with rfl | hq
  · exact mp_286
  rcases List.mem_cons.mp hq with rfl | hq
  · exact mp_287
  rcases List.mem_cons.mp hq with rfl | hq
  · exact mp_288
  rcases List.mem_cons.mp hq with rfl | hq
  · exact mp_289
  rcases List.mem_cons.mp hq with rfl | hq
  · exact mp_290
  rcases List.mem_cons.mp hq with rfl | hq
  · exact mp_291
  rcases List.mem_cons.mp hq with rfl | hq
  · exact mp_292
  rcases List.mem_cons.mp hq with rfl | hq
  · exact mp_293
  rcases List.mem_cons.mp hq with rfl | hq
  · exact mp_294
  rcases List.mem_cons.mp hq with rfl | hq
  · exact mp_295
  rcases List.mem_cons.mp hq with rfl | hq
  · exact mp_296
  rcases List.mem_cons.mp hq with rfl | hq
  · exact mp_297
  rcases List.mem_cons.mp hq with rfl | hq
  · exact mp_298
  rcases List.mem_cons.mp hq with rfl | hq
  · exact mp_299
  rcases List.mem_cons.mp hq with rfl | hq
  · exact mp_300
  rcases List.mem_cons.mp hq with rfl | hq
  · exact mp_301
  cases hq
