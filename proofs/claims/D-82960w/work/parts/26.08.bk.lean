noncomputable abbrev me_212 : mE := (212, 3212, 9, 1, 0, M_212)
set_option maxRecDepth 1000000 in
theorem mo_212 : bkchk me_212 = true := by decide +kernel
set_option maxRecDepth 1000000 in
theorem mb_212_0 : bkB me_212 (M_212.2.1.take 7) = true := by decide +kernel
set_option maxRecDepth 1000000 in
theorem mb_212_1 : bkB me_212 (M_212.2.1.drop 7) = true := by decide +kernel
theorem mp_212 : bk_P me_212 := bkchk_ok mo_212 (bk_split 7 mb_212_0 mb_212_1)
noncomputable abbrev me_213 : mE := (213, 3216, 9, 1, 0, M_213)
set_option maxRecDepth 1000000 in
theorem mo_213 : bkchk me_213 = true := by decide +kernel
set_option maxRecDepth 1000000 in
theorem mb_213_0 : bkB me_213 (M_213.2.1.take 5) = true := by decide +kernel
set_option maxRecDepth 1000000 in
theorem mb_213_1 : bkB me_213 ((M_213.2.1.drop 5).take 3) = true := by decide +kernel
set_option maxRecDepth 1000000 in
theorem mb_213_2 : bkB me_213 ((M_213.2.1.drop 5).drop 3) = true := by decide +kernel
theorem mp_213 : bk_P me_213 := bkchk_ok mo_213 (bk_split 5 mb_213_0 (bk_split 3 mb_213_1 mb_213_2))
noncomputable abbrev me_214 : mE := (214, 3224, 9, 1, 0, M_214)
set_option maxRecDepth 1000000 in
theorem mo_214 : bkchk me_214 = true := by decide +kernel
set_option maxRecDepth 1000000 in
theorem mb_214_0 : bkB me_214 (M_214.2.1.take 6) = true := by decide +kernel
set_option maxRecDepth 1000000 in
theorem mb_214_1 : bkB me_214 ((M_214.2.1.drop 6).take 3) = true := by decide +kernel
set_option maxRecDepth 1000000 in
theorem mb_214_2 : bkB me_214 (((M_214.2.1.drop 6).drop 3).take 4) = true := by decide +kernel
set_option maxRecDepth 1000000 in
theorem mb_214_3 : bkB me_214 ((((M_214.2.1.drop 6).drop 3).drop 4).take 2) = true := by decide +kernel
set_option maxRecDepth 1000000 in
theorem mb_214_4 : bkB me_214 (((((M_214.2.1.drop 6).drop 3).drop 4).drop 2).take 1) = true := by decide +kernel
set_option maxRecDepth 1000000 in
theorem mb_214_5 : bkB me_214 (((((M_214.2.1.drop 6).drop 3).drop 4).drop 2).drop 1) = true := by decide +kernel
theorem mp_214 : bk_P me_214 := bkchk_ok mo_214 (bk_split 6 mb_214_0 (bk_split 3 mb_214_1 (bk_split 4 mb_214_2 (bk_split 2 mb_214_3 (bk_split 1 mb_214_4 mb_214_5)))))
noncomputable abbrev me_215 : mE := (215, 3144, 9, 1, 0, M_215)
set_option maxRecDepth 1000000 in
theorem mo_215 : bkchk me_215 = true := by decide +kernel
set_option maxRecDepth 1000000 in
theorem mb_215_0 : bkB me_215 (M_215.2.1.take 2) = true := by decide +kernel
set_option maxRecDepth 1000000 in
theorem mb_215_1 : bkB me_215 ((M_215.2.1.drop 2).take 2) = true := by decide +kernel
set_option maxRecDepth 1000000 in
theorem mb_215_2 : bkB me_215 (((M_215.2.1.drop 2).drop 2).take 2) = true := by decide +kernel
set_option maxRecDepth 1000000 in
theorem mb_215_3 : bkB me_215 ((((M_215.2.1.drop 2).drop 2).drop 2).take 2) = true := by decide +kernel
set_option maxRecDepth 1000000 in
theorem mb_215_4 : bkB me_215 ((((M_215.2.1.drop 2).drop 2).drop 2).drop 2) = true := by decide +kernel
theorem mp_215 : bk_P me_215 := bkchk_ok mo_215 (bk_split 2 mb_215_0 (bk_split 2 mb_215_1 (bk_split 2 mb_215_2 (bk_split 2 mb_215_3 mb_215_4))))
noncomputable abbrev me_216 : mE := (216, 3208, 9, 1, 0, M_216)
set_option maxRecDepth 1000000 in
theorem mo_216 : bkchk me_216 = true := by decide +kernel
set_option maxRecDepth 1000000 in
theorem mb_216_0 : bkB me_216 M_216.2.1 = true := by decide +kernel
theorem mp_216 : bk_P me_216 := bkchk_ok mo_216 mb_216_0
noncomputable abbrev me_217 : mE := (217, 3200, 9, 1, 0, M_217)
set_option maxRecDepth 1000000 in
theorem mo_217 : bkchk me_217 = true := by decide +kernel
set_option maxRecDepth 1000000 in
theorem mb_217_0 : bkB me_217 M_217.2.1 = true := by decide +kernel
theorem mp_217 : bk_P me_217 := bkchk_ok mo_217 mb_217_0
noncomputable abbrev me_218 : mE := (218, 3148, 9, 1, 0, M_218)
set_option maxRecDepth 1000000 in
theorem mo_218 : bkchk me_218 = true := by decide +kernel
set_option maxRecDepth 1000000 in
theorem mb_218_0 : bkB me_218 (M_218.2.1.take 5) = true := by decide +kernel
set_option maxRecDepth 1000000 in
theorem mb_218_1 : bkB me_218 ((M_218.2.1.drop 5).take 2) = true := by decide +kernel
set_option maxRecDepth 1000000 in
theorem mb_218_2 : bkB me_218 (((M_218.2.1.drop 5).drop 2).take 5) = true := by decide +kernel
set_option maxRecDepth 1000000 in
theorem mb_218_3 : bkB me_218 (((M_218.2.1.drop 5).drop 2).drop 5) = true := by decide +kernel
theorem mp_218 : bk_P me_218 := bkchk_ok mo_218 (bk_split 5 mb_218_0 (bk_split 2 mb_218_1 (bk_split 5 mb_218_2 mb_218_3)))
noncomputable abbrev me_219 : mE := (219, 3244, 9, 0, 0, M_219)
set_option maxRecDepth 1000000 in
theorem mo_219 : bkchk me_219 = true := by decide +kernel
set_option maxRecDepth 1000000 in
theorem mb_219_0 : bkB me_219 (M_219.2.1.take 5) = true := by decide +kernel
set_option maxRecDepth 1000000 in
theorem mb_219_1 : bkB me_219 ((M_219.2.1.drop 5).take 3) = true := by decide +kernel
set_option maxRecDepth 1000000 in
theorem mb_219_2 : bkB me_219 (((M_219.2.1.drop 5).drop 3).take 2) = true := by decide +kernel
set_option maxRecDepth 1000000 in
theorem mb_219_3 : bkB me_219 (((M_219.2.1.drop 5).drop 3).drop 2) = true := by decide +kernel
theorem mp_219 : bk_P me_219 := bkchk_ok mo_219 (bk_split 5 mb_219_0 (bk_split 3 mb_219_1 (bk_split 2 mb_219_2 mb_219_3)))
noncomputable abbrev me_220 : mE := (220, 3248, 9, 0, 0, M_220)
set_option maxRecDepth 1000000 in
theorem mo_220 : bkchk me_220 = true := by decide +kernel
set_option maxRecDepth 1000000 in
theorem mb_220_0 : bkB me_220 M_220.2.1 = true := by decide +kernel
theorem mp_220 : bk_P me_220 := bkchk_ok mo_220 mb_220_0
noncomputable abbrev me_221 : mE := (221, 3252, 9, 0, 0, M_221)
set_option maxRecDepth 1000000 in
theorem mo_221 : bkchk me_221 = true := by decide +kernel
set_option maxRecDepth 1000000 in
theorem mb_221_0 : bkB me_221 (M_221.2.1.take 1) = true := by decide +kernel
set_option maxRecDepth 1000000 in
theorem mb_221_1 : bkB me_221 ((M_221.2.1.drop 1).take 1) = true := by decide +kernel
set_option maxRecDepth 1000000 in
theorem mb_221_2 : bkB me_221 (((M_221.2.1.drop 1).drop 1).take 2) = true := by decide +kernel
set_option maxRecDepth 1000000 in
theorem mb_221_3 : bkB me_221 ((((M_221.2.1.drop 1).drop 1).drop 2).take 1) = true := by decide +kernel
set_option maxRecDepth 1000000 in
theorem mb_221_4 : bkB me_221 (((((M_221.2.1.drop 1).drop 1).drop 2).drop 1).take 2) = true := by decide +kernel
set_option maxRecDepth 1000000 in
theorem mb_221_5 : bkB me_221 (((((M_221.2.1.drop 1).drop 1).drop 2).drop 1).drop 2) = true := by decide +kernel
theorem mp_221 : bk_P me_221 := bkchk_ok mo_221 (bk_split 1 mb_221_0 (bk_split 1 mb_221_1 (bk_split 2 mb_221_2 (bk_split 1 mb_221_3 (bk_split 2 mb_221_4 mb_221_5)))))
noncomputable abbrev me_222 : mE := (222, 3256, 9, 0, 0, M_222)
set_option maxRecDepth 1000000 in
theorem mo_222 : bkchk me_222 = true := by decide +kernel
set_option maxRecDepth 1000000 in
theorem mb_222_0 : bkB me_222 (M_222.2.1.take 3) = true := by decide +kernel
set_option maxRecDepth 1000000 in
theorem mb_222_1 : bkB me_222 ((M_222.2.1.drop 3).take 6) = true := by decide +kernel
set_option maxRecDepth 1000000 in
theorem mb_222_2 : bkB me_222 ((M_222.2.1.drop 3).drop 6) = true := by decide +kernel
theorem mp_222 : bk_P me_222 := bkchk_ok mo_222 (bk_split 3 mb_222_0 (bk_split 6 mb_222_1 mb_222_2))
noncomputable abbrev me_223 : mE := (223, 3260, 9, 0, 0, M_223)
set_option maxRecDepth 1000000 in
theorem mo_223 : bkchk me_223 = true := by decide +kernel
set_option maxRecDepth 1000000 in
theorem mb_223_0 : bkB me_223 (M_223.2.1.take 6) = true := by decide +kernel
set_option maxRecDepth 1000000 in
theorem mb_223_1 : bkB me_223 ((M_223.2.1.drop 6).take 7) = true := by decide +kernel
set_option maxRecDepth 1000000 in
theorem mb_223_2 : bkB me_223 (((M_223.2.1.drop 6).drop 7).take 4) = true := by decide +kernel
set_option maxRecDepth 1000000 in
theorem mb_223_3 : bkB me_223 ((((M_223.2.1.drop 6).drop 7).drop 4).take 2) = true := by decide +kernel
set_option maxRecDepth 1000000 in
theorem mb_223_4 : bkB me_223 ((((M_223.2.1.drop 6).drop 7).drop 4).drop 2) = true := by decide +kernel
theorem mp_223 : bk_P me_223 := bkchk_ok mo_223 (bk_split 6 mb_223_0 (bk_split 7 mb_223_1 (bk_split 4 mb_223_2 (bk_split 2 mb_223_3 mb_223_4))))
noncomputable abbrev me_224 : mE := (224, 2449, 9, 2, 0, M_224)
set_option maxRecDepth 1000000 in
theorem mo_224 : bkchk me_224 = true := by decide +kernel
set_option maxRecDepth 1000000 in
theorem mb_224_0 : bkB me_224 M_224.2.1 = true := by decide +kernel
theorem mp_224 : bk_P me_224 := bkchk_ok mo_224 mb_224_0
noncomputable abbrev me_225 : mE := (225, 2437, 9, 1, 0, M_225)
set_option maxRecDepth 1000000 in
theorem mo_225 : bkchk me_225 = true := by decide +kernel
set_option maxRecDepth 1000000 in
theorem mb_225_0 : bkB me_225 M_225.2.1 = true := by decide +kernel
theorem mp_225 : bk_P me_225 := bkchk_ok mo_225 mb_225_0
noncomputable abbrev me_226 : mE := (226, 2716, 9, 1, 0, M_226)
set_option maxRecDepth 1000000 in
theorem mo_226 : bkchk me_226 = true := by decide +kernel
set_option maxRecDepth 1000000 in
theorem mb_226_0 : bkB me_226 M_226.2.1 = true := by decide +kernel
theorem mp_226 : bk_P me_226 := bkchk_ok mo_226 mb_226_0
noncomputable abbrev me_227 : mE := (227, 2523, 9, 2, 0, M_227)
set_option maxRecDepth 1000000 in
theorem mo_227 : bkchk me_227 = true := by decide +kernel
set_option maxRecDepth 1000000 in
theorem mb_227_0 : bkB me_227 M_227.2.1 = true := by decide +kernel
theorem mp_227 : bk_P me_227 := bkchk_ok mo_227 mb_227_0
noncomputable abbrev me_228 : mE := (228, 2712, 9, 2, 0, M_228)
set_option maxRecDepth 1000000 in
theorem mo_228 : bkchk me_228 = true := by decide +kernel
set_option maxRecDepth 1000000 in
theorem mb_228_0 : bkB me_228 M_228.2.1 = true := by decide +kernel
theorem mp_228 : bk_P me_228 := bkchk_ok mo_228 mb_228_0
noncomputable abbrev me_229 : mE := (229, 2724, 9, 1, 0, M_229)
set_option maxRecDepth 1000000 in
theorem mo_229 : bkchk me_229 = true := by decide +kernel
set_option maxRecDepth 1000000 in
theorem mb_229_0 : bkB me_229 M_229.2.1 = true := by decide +kernel
theorem mp_229 : bk_P me_229 := bkchk_ok mo_229 mb_229_0
noncomputable abbrev me_230 : mE := (230, 2632, 9, 2, 0, M_230)
set_option maxRecDepth 1000000 in
theorem mo_230 : bkchk me_230 = true := by decide +kernel
set_option maxRecDepth 1000000 in
theorem mb_230_0 : bkB me_230 M_230.2.1 = true := by decide +kernel
theorem mp_230 : bk_P me_230 := bkchk_ok mo_230 mb_230_0
noncomputable abbrev me_231 : mE := (231, 2617, 9, 2, 0, M_231)
set_option maxRecDepth 1000000 in
theorem mo_231 : bkchk me_231 = true := by decide +kernel
set_option maxRecDepth 1000000 in
theorem mb_231_0 : bkB me_231 (M_231.2.1.take 1) = true := by decide +kernel
set_option maxRecDepth 1000000 in
theorem mb_231_1 : bkB me_231 ((M_231.2.1.drop 1).take 13) = true := by decide +kernel
set_option maxRecDepth 1000000 in
theorem mb_231_2 : bkB me_231 ((M_231.2.1.drop 1).drop 13) = true := by decide +kernel
theorem mp_231 : bk_P me_231 := bkchk_ok mo_231 (bk_split 1 mb_231_0 (bk_split 13 mb_231_1 mb_231_2))
noncomputable abbrev me_232 : mE := (232, 2728, 9, 2, 0, M_232)
set_option maxRecDepth 1000000 in
theorem mo_232 : bkchk me_232 = true := by decide +kernel
set_option maxRecDepth 1000000 in
theorem mb_232_0 : bkB me_232 (M_232.2.1.take 7) = true := by decide +kernel
set_option maxRecDepth 1000000 in
theorem mb_232_1 : bkB me_232 (M_232.2.1.drop 7) = true := by decide +kernel
theorem mp_232 : bk_P me_232 := bkchk_ok mo_232 (bk_split 7 mb_232_0 mb_232_1)
noncomputable abbrev me_233 : mE := (233, 2597, 9, 1, 0, M_233)
set_option maxRecDepth 1000000 in
theorem mo_233 : bkchk me_233 = true := by decide +kernel
set_option maxRecDepth 1000000 in
theorem mb_233_0 : bkB me_233 (M_233.2.1.take 1) = true := by decide +kernel
set_option maxRecDepth 1000000 in
theorem mb_233_1 : bkB me_233 (M_233.2.1.drop 1) = true := by decide +kernel
theorem mp_233 : bk_P me_233 := bkchk_ok mo_233 (bk_split 1 mb_233_0 mb_233_1)
noncomputable abbrev me_234 : mE := (234, 2656, 9, 0, 0, M_234)
set_option maxRecDepth 1000000 in
theorem mo_234 : bkchk me_234 = true := by decide +kernel
set_option maxRecDepth 1000000 in
theorem mb_234_0 : bkB me_234 M_234.2.1 = true := by decide +kernel
theorem mp_234 : bk_P me_234 := bkchk_ok mo_234 mb_234_0
noncomputable abbrev me_235 : mE := (235, 2790, 9, 0, 0, M_235)
set_option maxRecDepth 1000000 in
theorem mo_235 : bkchk me_235 = true := by decide +kernel
set_option maxRecDepth 1000000 in
theorem mb_235_0 : bkB me_235 M_235.2.1 = true := by decide +kernel
theorem mp_235 : bk_P me_235 := bkchk_ok mo_235 mb_235_0
noncomputable abbrev me_236 : mE := (236, 2668, 9, 0, 0, M_236)
set_option maxRecDepth 1000000 in
theorem mo_236 : bkchk me_236 = true := by decide +kernel
set_option maxRecDepth 1000000 in
theorem mb_236_0 : bkB me_236 M_236.2.1 = true := by decide +kernel
theorem mp_236 : bk_P me_236 := bkchk_ok mo_236 mb_236_0
noncomputable abbrev me_237 : mE := (237, 2628, 9, 1, 0, M_237)
set_option maxRecDepth 1000000 in
theorem mo_237 : bkchk me_237 = true := by decide +kernel
set_option maxRecDepth 1000000 in
theorem mb_237_0 : bkB me_237 (M_237.2.1.take 3) = true := by decide +kernel
set_option maxRecDepth 1000000 in
theorem mb_237_1 : bkB me_237 (M_237.2.1.drop 3) = true := by decide +kernel
theorem mp_237 : bk_P me_237 := bkchk_ok mo_237 (bk_split 3 mb_237_0 mb_237_1)
noncomputable abbrev me_238 : mE := (238, 2593, 9, 1, 0, M_238)
set_option maxRecDepth 1000000 in
theorem mo_238 : bkchk me_238 = true := by decide +kernel
set_option maxRecDepth 1000000 in
theorem mb_238_0 : bkB me_238 (M_238.2.1.take 3) = true := by decide +kernel
set_option maxRecDepth 1000000 in
theorem mb_238_1 : bkB me_238 (M_238.2.1.drop 3) = true := by decide +kernel
theorem mp_238 : bk_P me_238 := bkchk_ok mo_238 (bk_split 3 mb_238_0 mb_238_1)
noncomputable abbrev me_239 : mE := (239, 2502, 9, 2, 0, M_239)
set_option maxRecDepth 1000000 in
theorem mo_239 : bkchk me_239 = true := by decide +kernel
set_option maxRecDepth 1000000 in
theorem mb_239_0 : bkB me_239 M_239.2.1 = true := by decide +kernel
theorem mp_239 : bk_P me_239 := bkchk_ok mo_239 mb_239_0
noncomputable abbrev me_240 : mE := (240, 2515, 9, 0, 0, M_240)
set_option maxRecDepth 1000000 in
theorem mo_240 : bkchk me_240 = true := by decide +kernel
set_option maxRecDepth 1000000 in
theorem mb_240_0 : bkB me_240 M_240.2.1 = true := by decide +kernel
theorem mp_240 : bk_P me_240 := bkchk_ok mo_240 mb_240_0
noncomputable abbrev me_241 : mE := (241, 2535, 9, 3, 0, M_241)
set_option maxRecDepth 1000000 in
theorem mo_241 : bkchk me_241 = true := by decide +kernel
set_option maxRecDepth 1000000 in
theorem mb_241_0 : bkB me_241 M_241.2.1 = true := by decide +kernel
theorem mp_241 : bk_P me_241 := bkchk_ok mo_241 mb_241_0
noncomputable def ME_8 : List mE := [me_212, me_213, me_214, me_215, me_216, me_217, me_218, me_219, me_220, me_221, me_222, me_223, me_224, me_225, me_226, me_227, me_228, me_229, me_230, me_231, me_232, me_233, me_234, me_235, me_236, me_237, me_238, me_239, me_240, me_241]
theorem ME_ok_8 : ∀ q ∈ ME_8, bk_P q := by
  unfold ME_8
  intro q hq
  rcases List.mem_cons.mp hq with rfl | hq
  · exact mp_212
  rcases List.mem_cons.mp hq with rfl | hq
  · exact mp_213
  rcases List.mem_cons.mp hq with rfl | hq
  · exact mp_214
  rcases List.mem_cons.mp hq with rfl | hq
  · exact mp_215
  rcases List.mem_cons.mp hq with rfl | hq
  · exact mp_216
  rcases List.mem_cons.mp hq with rfl | hq
  · exact mp_217
  rcases List.mem_cons.mp hq with rfl | hq
  · exact mp_218
  rcases List.mem_cons.mp hq with rfl | hq
  · exact mp_219
  rcases List.mem_cons.mp hq with rfl | hq
  · exact mp_220
  rcases List.mem_cons.mp hq with rfl | hq
  · exact mp_221
  rcases List.mem_cons.mp hq with rfl | hq
  · exact mp_222
  rcases List.mem_cons.mp hq with rfl | hq
  · exact mp_223
  rcases List.mem_cons.mp hq with rfl | hq
  · exact mp_224
  rcases List.mem_cons.mp hq with rfl | hq
  · exact mp_225
  rcases List.mem_cons.mp hq with rfl | hq
  · exact mp_226
  rcases List.mem_cons.mp hq with rfl | hq
  · exact mp_227
  rcases List.mem_cons.mp hq with rfl | hq
  · exact mp_228
  rcases List.mem_cons.mp hq with rfl | hq
  · exact mp_229
  rcases List.mem_cons.mp hq with rfl | hq
  · exact mp_230
  rcases List.mem_cons.mp hq with rfl | hq
  · exact mp_231
  rcases List.mem_cons.mp hq with rfl | hq
  · exact mp_232
  rcases List.mem_cons.mp hq with rfl | hq
  · exact mp_233
  rcases List.mem_cons.mp hq with rfl | hq
  · exact mp_234
  rcases List.mem_cons.mp hq with rfl | hq
  · exact mp_235
  rcases List.mem_cons.mp hq with rfl | hq
  · exact mp_236
  rcases List.mem_cons.mp hq with rfl | hq
  · exact mp_237
  rcases List.mem_cons.mp hq with rfl | hq
  · exact mp_238
  rcases List.mem_cons.mp hq with rfl | hq
  · exact mp_239
  rcases List.mem_cons.mp hq with rfl | hq
  · exact mp_240
  rcases List.mem_cons.mp hq with rfl | hq
  · exact mp_241
  cases hq
