noncomputable abbrev me_242 : mE := (242, 2519, 9, 3, 0, M_242)
set_option maxRecDepth 1000000 in
theorem mo_242 : bkchk me_242 = true := by decide +kernel
set_option maxRecDepth 1000000 in
theorem mb_242_0 : bkB me_242 M_242.2.1 = true := by decide +kernel
theorem mp_242 : bk_P me_242 := bkchk_ok mo_242 mb_242_0
noncomputable abbrev me_243 : mE := (243, 2511, 9, 1, 0, M_243)
set_option maxRecDepth 1000000 in
theorem mo_243 : bkchk me_243 = true := by decide +kernel
set_option maxRecDepth 1000000 in
theorem mb_243_0 : bkB me_243 (M_243.2.1.take 3) = true := by decide +kernel
set_option maxRecDepth 1000000 in
theorem mb_243_1 : bkB me_243 ((M_243.2.1.drop 3).take 3) = true := by decide +kernel
set_option maxRecDepth 1000000 in
theorem mb_243_2 : bkB me_243 ((M_243.2.1.drop 3).drop 3) = true := by decide +kernel
theorem mp_243 : bk_P me_243 := bkchk_ok mo_243 (bk_split 3 mb_243_0 (bk_split 3 mb_243_1 mb_243_2))
noncomputable abbrev me_244 : mE := (244, 2470, 9, 1, 0, M_244)
set_option maxRecDepth 1000000 in
theorem mo_244 : bkchk me_244 = true := by decide +kernel
set_option maxRecDepth 1000000 in
theorem mb_244_0 : bkB me_244 M_244.2.1 = true := by decide +kernel
theorem mp_244 : bk_P me_244 := bkchk_ok mo_244 mb_244_0
noncomputable abbrev me_245 : mE := (245, 2527, 9, 0, 0, M_245)
set_option maxRecDepth 1000000 in
theorem mo_245 : bkchk me_245 = true := by decide +kernel
set_option maxRecDepth 1000000 in
theorem mb_245_0 : bkB me_245 (M_245.2.1.take 3) = true := by decide +kernel
set_option maxRecDepth 1000000 in
theorem mb_245_1 : bkB me_245 ((M_245.2.1.drop 3).take 1) = true := by decide +kernel
set_option maxRecDepth 1000000 in
theorem mb_245_2 : bkB me_245 ((M_245.2.1.drop 3).drop 1) = true := by decide +kernel
theorem mp_245 : bk_P me_245 := bkchk_ok mo_245 (bk_split 3 mb_245_0 (bk_split 1 mb_245_1 mb_245_2))
noncomputable abbrev me_246 : mE := (246, 2498, 9, 0, 0, M_246)
set_option maxRecDepth 1000000 in
theorem mo_246 : bkchk me_246 = true := by decide +kernel
set_option maxRecDepth 1000000 in
theorem mb_246_0 : bkB me_246 M_246.2.1 = true := by decide +kernel
theorem mp_246 : bk_P me_246 := bkchk_ok mo_246 mb_246_0
noncomputable abbrev me_247 : mE := (247, 2482, 9, 0, 0, M_247)
set_option maxRecDepth 1000000 in
theorem mo_247 : bkchk me_247 = true := by decide +kernel
set_option maxRecDepth 1000000 in
theorem mb_247_0 : bkB me_247 (M_247.2.1.take 1) = true := by decide +kernel
set_option maxRecDepth 1000000 in
theorem mb_247_1 : bkB me_247 (M_247.2.1.drop 1) = true := by decide +kernel
theorem mp_247 : bk_P me_247 := bkchk_ok mo_247 (bk_split 1 mb_247_0 mb_247_1)
noncomputable abbrev me_248 : mE := (248, 2486, 9, 0, 0, M_248)
set_option maxRecDepth 1000000 in
theorem mo_248 : bkchk me_248 = true := by decide +kernel
set_option maxRecDepth 1000000 in
theorem mb_248_0 : bkB me_248 (M_248.2.1.take 8) = true := by decide +kernel
set_option maxRecDepth 1000000 in
theorem mb_248_1 : bkB me_248 (M_248.2.1.drop 8) = true := by decide +kernel
theorem mp_248 : bk_P me_248 := bkchk_ok mo_248 (bk_split 8 mb_248_0 mb_248_1)
noncomputable abbrev me_249 : mE := (249, 2490, 9, 0, 0, M_249)
set_option maxRecDepth 1000000 in
theorem mo_249 : bkchk me_249 = true := by decide +kernel
set_option maxRecDepth 1000000 in
theorem mb_249_0 : bkB me_249 (M_249.2.1.take 3) = true := by decide +kernel
set_option maxRecDepth 1000000 in
theorem mb_249_1 : bkB me_249 (M_249.2.1.drop 3) = true := by decide +kernel
theorem mp_249 : bk_P me_249 := bkchk_ok mo_249 (bk_split 3 mb_249_0 mb_249_1)
noncomputable abbrev me_250 : mE := (250, 2494, 9, 0, 0, M_250)
set_option maxRecDepth 1000000 in
theorem mo_250 : bkchk me_250 = true := by decide +kernel
set_option maxRecDepth 1000000 in
theorem mb_250_0 : bkB me_250 M_250.2.1 = true := by decide +kernel
theorem mp_250 : bk_P me_250 := bkchk_ok mo_250 mb_250_0
noncomputable abbrev me_251 : mE := (251, 2478, 9, 0, 0, M_251)
set_option maxRecDepth 1000000 in
theorem mo_251 : bkchk me_251 = true := by decide +kernel
set_option maxRecDepth 1000000 in
theorem mb_251_0 : bkB me_251 (M_251.2.1.take 1) = true := by decide +kernel
set_option maxRecDepth 1000000 in
theorem mb_251_1 : bkB me_251 ((M_251.2.1.drop 1).take 2) = true := by decide +kernel
set_option maxRecDepth 1000000 in
theorem mb_251_2 : bkB me_251 ((M_251.2.1.drop 1).drop 2) = true := by decide +kernel
theorem mp_251 : bk_P me_251 := bkchk_ok mo_251 (bk_split 1 mb_251_0 (bk_split 2 mb_251_1 mb_251_2))
noncomputable abbrev me_252 : mE := (252, 2507, 9, 0, 0, M_252)
set_option maxRecDepth 1000000 in
theorem mo_252 : bkchk me_252 = true := by decide +kernel
set_option maxRecDepth 1000000 in
theorem mb_252_0 : bkB me_252 M_252.2.1 = true := by decide +kernel
theorem mp_252 : bk_P me_252 := bkchk_ok mo_252 mb_252_0
noncomputable abbrev me_253 : mE := (253, 2531, 9, 0, 0, M_253)
set_option maxRecDepth 1000000 in
theorem mo_253 : bkchk me_253 = true := by decide +kernel
set_option maxRecDepth 1000000 in
theorem mb_253_0 : bkB me_253 (M_253.2.1.take 1) = true := by decide +kernel
set_option maxRecDepth 1000000 in
theorem mb_253_1 : bkB me_253 ((M_253.2.1.drop 1).take 4) = true := by decide +kernel
set_option maxRecDepth 1000000 in
theorem mb_253_2 : bkB me_253 (((M_253.2.1.drop 1).drop 4).take 6) = true := by decide +kernel
set_option maxRecDepth 1000000 in
theorem mb_253_3 : bkB me_253 ((((M_253.2.1.drop 1).drop 4).drop 6).take 4) = true := by decide +kernel
set_option maxRecDepth 1000000 in
theorem mb_253_4 : bkB me_253 (((((M_253.2.1.drop 1).drop 4).drop 6).drop 4).take 5) = true := by decide +kernel
set_option maxRecDepth 1000000 in
theorem mb_253_5 : bkB me_253 ((((((M_253.2.1.drop 1).drop 4).drop 6).drop 4).drop 5).take 4) = true := by decide +kernel
set_option maxRecDepth 1000000 in
theorem mb_253_6 : bkB me_253 ((((((M_253.2.1.drop 1).drop 4).drop 6).drop 4).drop 5).drop 4) = true := by decide +kernel
theorem mp_253 : bk_P me_253 := bkchk_ok mo_253 (bk_split 1 mb_253_0 (bk_split 4 mb_253_1 (bk_split 6 mb_253_2 (bk_split 4 mb_253_3 (bk_split 5 mb_253_4 (bk_split 4 mb_253_5 mb_253_6))))))
noncomputable abbrev me_254 : mE := (254, 2539, 9, 0, 0, M_254)
set_option maxRecDepth 1000000 in
theorem mo_254 : bkchk me_254 = true := by decide +kernel
set_option maxRecDepth 1000000 in
theorem mb_254_0 : bkB me_254 M_254.2.1 = true := by decide +kernel
theorem mp_254 : bk_P me_254 := bkchk_ok mo_254 mb_254_0
noncomputable abbrev me_255 : mE := (255, 2543, 9, 0, 0, M_255)
set_option maxRecDepth 1000000 in
theorem mo_255 : bkchk me_255 = true := by decide +kernel
set_option maxRecDepth 1000000 in
theorem mb_255_0 : bkB me_255 M_255.2.1 = true := by decide +kernel
theorem mp_255 : bk_P me_255 := bkchk_ok mo_255 mb_255_0
noncomputable abbrev me_256 : mE := (256, 2547, 9, 0, 0, M_256)
set_option maxRecDepth 1000000 in
theorem mo_256 : bkchk me_256 = true := by decide +kernel
set_option maxRecDepth 1000000 in
theorem mb_256_0 : bkB me_256 M_256.2.1 = true := by decide +kernel
theorem mp_256 : bk_P me_256 := bkchk_ok mo_256 mb_256_0
noncomputable abbrev me_257 : mE := (257, 2551, 9, 0, 0, M_257)
set_option maxRecDepth 1000000 in
theorem mo_257 : bkchk me_257 = true := by decide +kernel
set_option maxRecDepth 1000000 in
theorem mb_257_0 : bkB me_257 M_257.2.1 = true := by decide +kernel
theorem mp_257 : bk_P me_257 := bkchk_ok mo_257 mb_257_0
noncomputable abbrev me_258 : mE := (258, 2555, 9, 0, 0, M_258)
set_option maxRecDepth 1000000 in
theorem mo_258 : bkchk me_258 = true := by decide +kernel
set_option maxRecDepth 1000000 in
theorem mb_258_0 : bkB me_258 M_258.2.1 = true := by decide +kernel
theorem mp_258 : bk_P me_258 := bkchk_ok mo_258 mb_258_0
noncomputable abbrev me_259 : mE := (259, 2559, 9, 0, 0, M_259)
set_option maxRecDepth 1000000 in
theorem mo_259 : bkchk me_259 = true := by decide +kernel
set_option maxRecDepth 1000000 in
theorem mb_259_0 : bkB me_259 M_259.2.1 = true := by decide +kernel
theorem mp_259 : bk_P me_259 := bkchk_ok mo_259 mb_259_0
noncomputable abbrev me_260 : mE := (260, 2564, 9, 0, 0, M_260)
set_option maxRecDepth 1000000 in
theorem mo_260 : bkchk me_260 = true := by decide +kernel
set_option maxRecDepth 1000000 in
theorem mb_260_0 : bkB me_260 (M_260.2.1.take 6) = true := by decide +kernel
set_option maxRecDepth 1000000 in
theorem mb_260_1 : bkB me_260 ((M_260.2.1.drop 6).take 7) = true := by decide +kernel
set_option maxRecDepth 1000000 in
theorem mb_260_2 : bkB me_260 (((M_260.2.1.drop 6).drop 7).take 9) = true := by decide +kernel
set_option maxRecDepth 1000000 in
theorem mb_260_3 : bkB me_260 (((M_260.2.1.drop 6).drop 7).drop 9) = true := by decide +kernel
theorem mp_260 : bk_P me_260 := bkchk_ok mo_260 (bk_split 6 mb_260_0 (bk_split 7 mb_260_1 (bk_split 9 mb_260_2 mb_260_3)))
noncomputable abbrev me_261 : mE := (261, 2569, 9, 0, 0, M_261)
set_option maxRecDepth 1000000 in
theorem mo_261 : bkchk me_261 = true := by decide +kernel
set_option maxRecDepth 1000000 in
theorem mb_261_0 : bkB me_261 (M_261.2.1.take 8) = true := by decide +kernel
set_option maxRecDepth 1000000 in
theorem mb_261_1 : bkB me_261 (M_261.2.1.drop 8) = true := by decide +kernel
theorem mp_261 : bk_P me_261 := bkchk_ok mo_261 (bk_split 8 mb_261_0 mb_261_1)
noncomputable abbrev me_262 : mE := (262, 2573, 9, 0, 0, M_262)
set_option maxRecDepth 1000000 in
theorem mo_262 : bkchk me_262 = true := by decide +kernel
set_option maxRecDepth 1000000 in
theorem mb_262_0 : bkB me_262 M_262.2.1 = true := by decide +kernel
theorem mp_262 : bk_P me_262 := bkchk_ok mo_262 mb_262_0
noncomputable abbrev me_263 : mE := (263, 2577, 9, 0, 0, M_263)
set_option maxRecDepth 1000000 in
theorem mo_263 : bkchk me_263 = true := by decide +kernel
set_option maxRecDepth 1000000 in
theorem mb_263_0 : bkB me_263 (M_263.2.1.take 4) = true := by decide +kernel
set_option maxRecDepth 1000000 in
theorem mb_263_1 : bkB me_263 (M_263.2.1.drop 4) = true := by decide +kernel
theorem mp_263 : bk_P me_263 := bkchk_ok mo_263 (bk_split 4 mb_263_0 mb_263_1)
noncomputable abbrev me_264 : mE := (264, 2581, 9, 0, 0, M_264)
set_option maxRecDepth 1000000 in
theorem mo_264 : bkchk me_264 = true := by decide +kernel
set_option maxRecDepth 1000000 in
theorem mb_264_0 : bkB me_264 M_264.2.1 = true := by decide +kernel
theorem mp_264 : bk_P me_264 := bkchk_ok mo_264 mb_264_0
noncomputable abbrev me_265 : mE := (265, 2585, 9, 0, 0, M_265)
set_option maxRecDepth 1000000 in
theorem mo_265 : bkchk me_265 = true := by decide +kernel
set_option maxRecDepth 1000000 in
theorem mb_265_0 : bkB me_265 M_265.2.1 = true := by decide +kernel
theorem mp_265 : bk_P me_265 := bkchk_ok mo_265 mb_265_0
noncomputable abbrev me_266 : mE := (266, 2589, 9, 0, 0, M_266)
set_option maxRecDepth 1000000 in
theorem mo_266 : bkchk me_266 = true := by decide +kernel
set_option maxRecDepth 1000000 in
theorem mb_266_0 : bkB me_266 (M_266.2.1.take 1) = true := by decide +kernel
set_option maxRecDepth 1000000 in
theorem mb_266_1 : bkB me_266 ((M_266.2.1.drop 1).take 6) = true := by decide +kernel
set_option maxRecDepth 1000000 in
theorem mb_266_2 : bkB me_266 (((M_266.2.1.drop 1).drop 6).take 4) = true := by decide +kernel
set_option maxRecDepth 1000000 in
theorem mb_266_3 : bkB me_266 ((((M_266.2.1.drop 1).drop 6).drop 4).take 1) = true := by decide +kernel
set_option maxRecDepth 1000000 in
theorem mb_266_4 : bkB me_266 (((((M_266.2.1.drop 1).drop 6).drop 4).drop 1).take 1) = true := by decide +kernel
set_option maxRecDepth 1000000 in
theorem mb_266_5 : bkB me_266 ((((((M_266.2.1.drop 1).drop 6).drop 4).drop 1).drop 1).take 1) = true := by decide +kernel
set_option maxRecDepth 1000000 in
theorem mb_266_6 : bkB me_266 (((((((M_266.2.1.drop 1).drop 6).drop 4).drop 1).drop 1).drop 1).take 2) = true := by decide +kernel
set_option maxRecDepth 1000000 in
theorem mb_266_7 : bkB me_266 ((((((((M_266.2.1.drop 1).drop 6).drop 4).drop 1).drop 1).drop 1).drop 2).take 2) = true := by decide +kernel
set_option maxRecDepth 1000000 in
theorem mb_266_8 : bkB me_266 ((((((((M_266.2.1.drop 1).drop 6).drop 4).drop 1).drop 1).drop 1).drop 2).drop 2) = true := by decide +kernel
theorem mp_266 : bk_P me_266 := bkchk_ok mo_266 (bk_split 1 mb_266_0 (bk_split 6 mb_266_1 (bk_split 4 mb_266_2 (bk_split 1 mb_266_3 (bk_split 1 mb_266_4 (bk_split 1 mb_266_5 (bk_split 2 mb_266_6 (bk_split 2 mb_266_7 mb_266_8))))))))
noncomputable abbrev me_267 : mE := (267, 2606, 9, 0, 0, M_267)
set_option maxRecDepth 1000000 in
theorem mo_267 : bkchk me_267 = true := by decide +kernel
set_option maxRecDepth 1000000 in
theorem mb_267_0 : bkB me_267 M_267.2.1 = true := by decide +kernel
theorem mp_267 : bk_P me_267 := bkchk_ok mo_267 mb_267_0
noncomputable abbrev me_268 : mE := (268, 2601, 9, 0, 0, M_268)
set_option maxRecDepth 1000000 in
theorem mo_268 : bkchk me_268 = true := by decide +kernel
set_option maxRecDepth 1000000 in
theorem mb_268_0 : bkB me_268 M_268.2.1 = true := by decide +kernel
theorem mp_268 : bk_P me_268 := bkchk_ok mo_268 mb_268_0
noncomputable abbrev me_269 : mE := (269, 2610, 9, 0, 0, M_269)
set_option maxRecDepth 1000000 in
theorem mo_269 : bkchk me_269 = true := by decide +kernel
set_option maxRecDepth 1000000 in
theorem mb_269_0 : bkB me_269 M_269.2.1 = true := by decide +kernel
theorem mp_269 : bk_P me_269 := bkchk_ok mo_269 mb_269_0
noncomputable abbrev me_270 : mE := (270, 2614, 9, 0, 0, M_270)
set_option maxRecDepth 1000000 in
theorem mo_270 : bkchk me_270 = true := by decide +kernel
set_option maxRecDepth 1000000 in
theorem mb_270_0 : bkB me_270 M_270.2.1 = true := by decide +kernel
theorem mp_270 : bk_P me_270 := bkchk_ok mo_270 mb_270_0
noncomputable abbrev me_271 : mE := (271, 2640, 9, 0, 0, M_271)
set_option maxRecDepth 1000000 in
theorem mo_271 : bkchk me_271 = true := by decide +kernel
set_option maxRecDepth 1000000 in
theorem mb_271_0 : bkB me_271 (M_271.2.1.take 4) = true := by decide +kernel
set_option maxRecDepth 1000000 in
theorem mb_271_1 : bkB me_271 ((M_271.2.1.drop 4).take 3) = true := by decide +kernel
set_option maxRecDepth 1000000 in
theorem mb_271_2 : bkB me_271 ((M_271.2.1.drop 4).drop 3) = true := by decide +kernel
theorem mp_271 : bk_P me_271 := bkchk_ok mo_271 (bk_split 4 mb_271_0 (bk_split 3 mb_271_1 mb_271_2))
noncomputable def ME_9 : List mE := [me_242, me_243, me_244, me_245, me_246, me_247, me_248, me_249, me_250, me_251, me_252, me_253, me_254, me_255, me_256, me_257, me_258, me_259, me_260, me_261, me_262, me_263, me_264, me_265, me_266, me_267, me_268, me_269, me_270, me_271]
theorem ME_ok_9 : ∀ q ∈ ME_9, bk_P q := by
  unfold ME_9
  intro q hq
  rcases List.mem_cons.mp hq with rfl | hq
  · exact mp_242
  rcases List.mem_cons.mp hq with rfl | hq
  · exact mp_243
  rcases List.mem_cons.mp hq with rfl | hq
  · exact mp_244
  rcases List.mem_cons.mp hq with rfl | hq
  · exact mp_245
  rcases List.mem_cons.mp hq with rfl | hq
  · exact mp_246
  rcases List.mem_cons.mp hq with rfl | hq
  · exact mp_247
  rcases List.mem_cons.mp hq with rfl | hq
  · exact mp_248
  rcases List.mem_cons.mp hq with rfl | hq
  · exact mp_249
  rcases List.mem_cons.mp hq with rfl | hq
  · exact mp_250
  rcases List.mem_cons.mp hq with rfl | hq
  · exact mp_251
  rcases List.mem_cons.mp hq with rfl | hq
  · exact mp_252
  rcases List.mem_cons.mp hq with rfl | hq
  · exact mp_253
  rcases List.mem_cons.mp hq with rfl | hq
  · exact mp_254
  rcases List.mem_cons.mp hq with rfl | hq
  · exact mp_255
  rcases List.mem_cons.mp hq with rfl | hq
  · exact mp_256
  rcases List.mem_cons.mp hq with rfl | hq
  · exact mp_257
  rcases List.mem_cons.mp hq with rfl | hq
  · exact mp_258
  rcases List.mem_cons.mp hq with rfl | hq
  · exact mp_259
  rcases List.mem_cons.mp hq with rfl | hq
  · exact mp_260
  rcases List.mem_cons.mp hq with rfl | hq
  · exact mp_261
  rcases List.mem_cons.mp hq with rfl | hq
  · exact mp_262
  rcases List.mem_cons.mp hq with rfl | hq
  · exact mp_263
  rcases List.mem_cons.mp hq with rfl | hq
  · exact mp_264
  rcases List.mem_cons.mp hq with rfl | hq
  · exact mp_265
  rcases List.mem_cons.mp hq with rfl | hq
  · exact mp_266
  rcases List.mem_cons.mp hq with rfl | hq
  · exact mp_267
  rcases List.mem_cons.mp hq with rfl | hq
  · exact mp_268
  rcases List.mem_cons.mp hq with rfl | hq
  · exact mp_269
  rcases List.mem_cons.mp hq with rfl | hq
  · exact mp_270
  rcases List.mem_cons.mp hq with rfl | hq
  · exact mp_271
  cases hq
