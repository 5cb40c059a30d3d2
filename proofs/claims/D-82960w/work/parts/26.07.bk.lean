noncomputable abbrev me_182 : mE := (182, 2964, 9, 0, 0, M_182)
set_option maxRecDepth 1000000 in
theorem mo_182 : bkchk me_182 = true := by decide +kernel
set_option maxRecDepth 1000000 in
theorem mb_182_0 : bkB me_182 M_182.2.1 = true := by decide +kernel
theorem mp_182 : bk_P me_182 := bkchk_ok mo_182 mb_182_0
noncomputable abbrev me_183 : mE := (183, 3024, 9, 0, 0, M_183)
set_option maxRecDepth 1000000 in
theorem mo_183 : bkchk me_183 = true := by decide +kernel
set_option maxRecDepth 1000000 in
theorem mb_183_0 : bkB me_183 (M_183.2.1.take 2) = true := by decide +kernel
set_option maxRecDepth 1000000 in
theorem mb_183_1 : bkB me_183 ((M_183.2.1.drop 2).take 1) = true := by decide +kernel
set_option maxRecDepth 1000000 in
theorem mb_183_2 : bkB me_183 (((M_183.2.1.drop 2).drop 1).take 3) = true := by decide +kernel
set_option maxRecDepth 1000000 in
theorem mb_183_3 : bkB me_183 (((M_183.2.1.drop 2).drop 1).drop 3) = true := by decide +kernel
theorem mp_183 : bk_P me_183 := bkchk_ok mo_183 (bk_split 2 mb_183_0 (bk_split 1 mb_183_1 (bk_split 3 mb_183_2 mb_183_3)))
noncomputable abbrev me_184 : mE := (184, 3048, 9, 0, 0, M_184)
set_option maxRecDepth 1000000 in
theorem mo_184 : bkchk me_184 = true := by decide +kernel
set_option maxRecDepth 1000000 in
theorem mb_184_0 : bkB me_184 (M_184.2.1.take 1) = true := by decide +kernel
set_option maxRecDepth 1000000 in
theorem mb_184_1 : bkB me_184 ((M_184.2.1.drop 1).take 3) = true := by decide +kernel
set_option maxRecDepth 1000000 in
theorem mb_184_2 : bkB me_184 ((M_184.2.1.drop 1).drop 3) = true := by decide +kernel
theorem mp_184 : bk_P me_184 := bkchk_ok mo_184 (bk_split 1 mb_184_0 (bk_split 3 mb_184_1 mb_184_2))
noncomputable abbrev me_185 : mE := (185, 3088, 9, 1, 0, M_185)
set_option maxRecDepth 1000000 in
theorem mo_185 : bkchk me_185 = true := by decide +kernel
set_option maxRecDepth 1000000 in
theorem mb_185_0 : bkB me_185 (M_185.2.1.take 4) = true := by decide +kernel
set_option maxRecDepth 1000000 in
theorem mb_185_1 : bkB me_185 ((M_185.2.1.drop 4).take 8) = true := by decide +kernel
set_option maxRecDepth 1000000 in
theorem mb_185_2 : bkB me_185 (((M_185.2.1.drop 4).drop 8).take 1) = true := by decide +kernel
set_option maxRecDepth 1000000 in
theorem mb_185_3 : bkB me_185 ((((M_185.2.1.drop 4).drop 8).drop 1).take 1) = true := by decide +kernel
set_option maxRecDepth 1000000 in
theorem mb_185_4 : bkB me_185 (((((M_185.2.1.drop 4).drop 8).drop 1).drop 1).take 1) = true := by decide +kernel
set_option maxRecDepth 1000000 in
theorem mb_185_5 : bkB me_185 (((((M_185.2.1.drop 4).drop 8).drop 1).drop 1).drop 1) = true := by decide +kernel
theorem mp_185 : bk_P me_185 := bkchk_ok mo_185 (bk_split 4 mb_185_0 (bk_split 8 mb_185_1 (bk_split 1 mb_185_2 (bk_split 1 mb_185_3 (bk_split 1 mb_185_4 mb_185_5)))))
noncomputable abbrev me_186 : mE := (186, 3072, 9, 2, 0, M_186)
set_option maxRecDepth 1000000 in
theorem mo_186 : bkchk me_186 = true := by decide +kernel
set_option maxRecDepth 1000000 in
theorem mb_186_0 : bkB me_186 M_186.2.1 = true := by decide +kernel
theorem mp_186 : bk_P me_186 := bkchk_ok mo_186 mb_186_0
noncomputable abbrev me_187 : mE := (187, 3080, 9, 1, 0, M_187)
set_option maxRecDepth 1000000 in
theorem mo_187 : bkchk me_187 = true := by decide +kernel
set_option maxRecDepth 1000000 in
theorem mb_187_0 : bkB me_187 (M_187.2.1.take 6) = true := by decide +kernel
set_option maxRecDepth 1000000 in
theorem mb_187_1 : bkB me_187 (M_187.2.1.drop 6) = true := by decide +kernel
theorem mp_187 : bk_P me_187 := bkchk_ok mo_187 (bk_split 6 mb_187_0 mb_187_1)
noncomputable abbrev me_188 : mE := (188, 3076, 9, 1, 0, M_188)
set_option maxRecDepth 1000000 in
theorem mo_188 : bkchk me_188 = true := by decide +kernel
set_option maxRecDepth 1000000 in
theorem mb_188_0 : bkB me_188 M_188.2.1 = true := by decide +kernel
theorem mp_188 : bk_P me_188 := bkchk_ok mo_188 mb_188_0
noncomputable abbrev me_189 : mE := (189, 3060, 9, 0, 0, M_189)
set_option maxRecDepth 1000000 in
theorem mo_189 : bkchk me_189 = true := by decide +kernel
set_option maxRecDepth 1000000 in
theorem mb_189_0 : bkB me_189 (M_189.2.1.take 5) = true := by decide +kernel
set_option maxRecDepth 1000000 in
theorem mb_189_1 : bkB me_189 (M_189.2.1.drop 5) = true := by decide +kernel
theorem mp_189 : bk_P me_189 := bkchk_ok mo_189 (bk_split 5 mb_189_0 mb_189_1)
noncomputable abbrev me_190 : mE := (190, 3068, 9, 0, 0, M_190)
set_option maxRecDepth 1000000 in
theorem mo_190 : bkchk me_190 = true := by decide +kernel
set_option maxRecDepth 1000000 in
theorem mb_190_0 : bkB me_190 M_190.2.1 = true := by decide +kernel
theorem mp_190 : bk_P me_190 := bkchk_ok mo_190 mb_190_0
noncomputable abbrev me_191 : mE := (191, 3140, 9, 1, 0, M_191)
set_option maxRecDepth 1000000 in
theorem mo_191 : bkchk me_191 = true := by decide +kernel
set_option maxRecDepth 1000000 in
theorem mb_191_0 : bkB me_191 M_191.2.1 = true := by decide +kernel
theorem mp_191 : bk_P me_191 := bkchk_ok mo_191 mb_191_0
noncomputable abbrev me_192 : mE := (192, 3136, 9, 0, 0, M_192)
set_option maxRecDepth 1000000 in
theorem mo_192 : bkchk me_192 = true := by decide +kernel
set_option maxRecDepth 1000000 in
theorem mb_192_0 : bkB me_192 M_192.2.1 = true := by decide +kernel
theorem mp_192 : bk_P me_192 := bkchk_ok mo_192 mb_192_0
noncomputable abbrev me_193 : mE := (193, 3185, 9, 1, 0, M_193)
set_option maxRecDepth 1000000 in
theorem mo_193 : bkchk me_193 = true := by decide +kernel
set_option maxRecDepth 1000000 in
theorem mb_193_0 : bkB me_193 M_193.2.1 = true := by decide +kernel
theorem mp_193 : bk_P me_193 := bkchk_ok mo_193 mb_193_0
noncomputable abbrev me_194 : mE := (194, 3228, 9, 0, 0, M_194)
set_option maxRecDepth 1000000 in
theorem mo_194 : bkchk me_194 = true := by decide +kernel
set_option maxRecDepth 1000000 in
theorem mb_194_0 : bkB me_194 M_194.2.1 = true := by decide +kernel
theorem mp_194 : bk_P me_194 := bkchk_ok mo_194 mb_194_0
noncomputable abbrev me_195 : mE := (195, 3096, 9, 0, 0, M_195)
set_option maxRecDepth 1000000 in
theorem mo_195 : bkchk me_195 = true := by decide +kernel
set_option maxRecDepth 1000000 in
theorem mb_195_0 : bkB me_195 M_195.2.1 = true := by decide +kernel
theorem mp_195 : bk_P me_195 := bkchk_ok mo_195 mb_195_0
noncomputable abbrev me_196 : mE := (196, 3159, 9, 0, 0, M_196)
set_option maxRecDepth 1000000 in
theorem mo_196 : bkchk me_196 = true := by decide +kernel
set_option maxRecDepth 1000000 in
theorem mb_196_0 : bkB me_196 M_196.2.1 = true := by decide +kernel
theorem mp_196 : bk_P me_196 := bkchk_ok mo_196 mb_196_0
noncomputable abbrev me_197 : mE := (197, 3220, 9, 2, 0, M_197)
set_option maxRecDepth 1000000 in
theorem mo_197 : bkchk me_197 = true := by decide +kernel
set_option maxRecDepth 1000000 in
theorem mb_197_0 : bkB me_197 M_197.2.1 = true := by decide +kernel
theorem mp_197 : bk_P me_197 := bkchk_ok mo_197 mb_197_0
noncomputable abbrev me_198 : mE := (198, 3100, 9, 1, 0, M_198)
set_option maxRecDepth 1000000 in
theorem mo_198 : bkchk me_198 = true := by decide +kernel
set_option maxRecDepth 1000000 in
theorem mb_198_0 : bkB me_198 (M_198.2.1.take 3) = true := by decide +kernel
set_option maxRecDepth 1000000 in
theorem mb_198_1 : bkB me_198 ((M_198.2.1.drop 3).take 1) = true := by decide +kernel
set_option maxRecDepth 1000000 in
theorem mb_198_2 : bkB me_198 ((M_198.2.1.drop 3).drop 1) = true := by decide +kernel
theorem mp_198 : bk_P me_198 := bkchk_ok mo_198 (bk_split 3 mb_198_0 (bk_split 1 mb_198_1 mb_198_2))
noncomputable abbrev me_199 : mE := (199, 3240, 9, 1, 0, M_199)
set_option maxRecDepth 1000000 in
theorem mo_199 : bkchk me_199 = true := by decide +kernel
set_option maxRecDepth 1000000 in
theorem mb_199_0 : bkB me_199 M_199.2.1 = true := by decide +kernel
theorem mp_199 : bk_P me_199 := bkchk_ok mo_199 mb_199_0
noncomputable abbrev me_200 : mE := (200, 3104, 9, 1, 0, M_200)
set_option maxRecDepth 1000000 in
theorem mo_200 : bkchk me_200 = true := by decide +kernel
set_option maxRecDepth 1000000 in
theorem mb_200_0 : bkB me_200 (M_200.2.1.take 6) = true := by decide +kernel
set_option maxRecDepth 1000000 in
theorem mb_200_1 : bkB me_200 (M_200.2.1.drop 6) = true := by decide +kernel
theorem mp_200 : bk_P me_200 := bkchk_ok mo_200 (bk_split 6 mb_200_0 mb_200_1)
noncomputable abbrev me_201 : mE := (201, 3108, 9, 1, 0, M_201)
set_option maxRecDepth 1000000 in
theorem mo_201 : bkchk me_201 = true := by decide +kernel
set_option maxRecDepth 1000000 in
theorem mb_201_0 : bkB me_201 (M_201.2.1.take 6) = true := by decide +kernel
set_option maxRecDepth 1000000 in
theorem mb_201_1 : bkB me_201 (M_201.2.1.drop 6) = true := by decide +kernel
theorem mp_201 : bk_P me_201 := bkchk_ok mo_201 (bk_split 6 mb_201_0 mb_201_1)
noncomputable abbrev me_202 : mE := (202, 3112, 9, 1, 0, M_202)
set_option maxRecDepth 1000000 in
theorem mo_202 : bkchk me_202 = true := by decide +kernel
set_option maxRecDepth 1000000 in
theorem mb_202_0 : bkB me_202 (M_202.2.1.take 5) = true := by decide +kernel
set_option maxRecDepth 1000000 in
theorem mb_202_1 : bkB me_202 ((M_202.2.1.drop 5).take 7) = true := by decide +kernel
set_option maxRecDepth 1000000 in
theorem mb_202_2 : bkB me_202 (((M_202.2.1.drop 5).drop 7).take 5) = true := by decide +kernel
set_option maxRecDepth 1000000 in
theorem mb_202_3 : bkB me_202 (((M_202.2.1.drop 5).drop 7).drop 5) = true := by decide +kernel
theorem mp_202 : bk_P me_202 := bkchk_ok mo_202 (bk_split 5 mb_202_0 (bk_split 7 mb_202_1 (bk_split 5 mb_202_2 mb_202_3)))
noncomputable abbrev me_203 : mE := (203, 3116, 9, 1, 0, M_203)
set_option maxRecDepth 1000000 in
theorem mo_203 : bkchk me_203 = true := by decide +kernel
set_option maxRecDepth 1000000 in
theorem mb_203_0 : bkB me_203 (M_203.2.1.take 6) = true := by decide +kernel
set_option maxRecDepth 1000000 in
theorem mb_203_1 : bkB me_203 (M_203.2.1.drop 6) = true := by decide +kernel
theorem mp_203 : bk_P me_203 := bkchk_ok mo_203 (bk_split 6 mb_203_0 mb_203_1)
noncomputable abbrev me_204 : mE := (204, 3120, 9, 1, 0, M_204)
set_option maxRecDepth 1000000 in
theorem mo_204 : bkchk me_204 = true := by decide +kernel
set_option maxRecDepth 1000000 in
theorem mb_204_0 : bkB me_204 (M_204.2.1.take 5) = true := by decide +kernel
set_option maxRecDepth 1000000 in
theorem mb_204_1 : bkB me_204 (M_204.2.1.drop 5) = true := by decide +kernel
theorem mp_204 : bk_P me_204 := bkchk_ok mo_204 (bk_split 5 mb_204_0 mb_204_1)
noncomputable abbrev me_205 : mE := (205, 3124, 9, 1, 0, M_205)
set_option maxRecDepth 1000000 in
theorem mo_205 : bkchk me_205 = true := by decide +kernel
set_option maxRecDepth 1000000 in
theorem mb_205_0 : bkB me_205 (M_205.2.1.take 7) = true := by decide +kernel
set_option maxRecDepth 1000000 in
theorem mb_205_1 : bkB me_205 (M_205.2.1.drop 7) = true := by decide +kernel
theorem mp_205 : bk_P me_205 := bkchk_ok mo_205 (bk_split 7 mb_205_0 mb_205_1)
noncomputable abbrev me_206 : mE := (206, 3128, 9, 1, 0, M_206)
set_option maxRecDepth 1000000 in
theorem mo_206 : bkchk me_206 = true := by decide +kernel
set_option maxRecDepth 1000000 in
theorem mb_206_0 : bkB me_206 M_206.2.1 = true := by decide +kernel
theorem mp_206 : bk_P me_206 := bkchk_ok mo_206 mb_206_0
noncomputable abbrev me_207 : mE := (207, 3232, 9, 1, 0, M_207)
set_option maxRecDepth 1000000 in
theorem mo_207 : bkchk me_207 = true := by decide +kernel
set_option maxRecDepth 1000000 in
theorem mb_207_0 : bkB me_207 (M_207.2.1.take 4) = true := by decide +kernel
set_option maxRecDepth 1000000 in
theorem mb_207_1 : bkB me_207 ((M_207.2.1.drop 4).take 3) = true := by decide +kernel
set_option maxRecDepth 1000000 in
theorem mb_207_2 : bkB me_207 ((M_207.2.1.drop 4).drop 3) = true := by decide +kernel
theorem mp_207 : bk_P me_207 := bkchk_ok mo_207 (bk_split 4 mb_207_0 (bk_split 3 mb_207_1 mb_207_2))
noncomputable abbrev me_208 : mE := (208, 3196, 9, 1, 0, M_208)
set_option maxRecDepth 1000000 in
theorem mo_208 : bkchk me_208 = true := by decide +kernel
set_option maxRecDepth 1000000 in
theorem mb_208_0 : bkB me_208 M_208.2.1 = true := by decide +kernel
theorem mp_208 : bk_P me_208 := bkchk_ok mo_208 mb_208_0
noncomputable abbrev me_209 : mE := (209, 3188, 9, 1, 0, M_209)
set_option maxRecDepth 1000000 in
theorem mo_209 : bkchk me_209 = true := by decide +kernel
set_option maxRecDepth 1000000 in
theorem mb_209_0 : bkB me_209 M_209.2.1 = true := by decide +kernel
theorem mp_209 : bk_P me_209 := bkchk_ok mo_209 mb_209_0
noncomputable abbrev me_210 : mE := (210, 3236, 9, 1, 0, M_210)
set_option maxRecDepth 1000000 in
theorem mo_210 : bkchk me_210 = true := by decide +kernel
set_option maxRecDepth 1000000 in
theorem mb_210_0 : bkB me_210 (M_210.2.1.take 2) = true := by decide +kernel
set_option maxRecDepth 1000000 in
theorem mb_210_1 : bkB me_210 (M_210.2.1.drop 2) = true := by decide +kernel
theorem mp_210 : bk_P me_210 := bkchk_ok mo_210 (bk_split 2 mb_210_0 mb_210_1)
noncomputable abbrev me_211 : mE := (211, 3132, 9, 1, 0, M_211)
set_option maxRecDepth 1000000 in
theorem mo_211 : bkchk me_211 = true := by decide +kernel
set_option maxRecDepth 1000000 in
theorem mb_211_0 : bkB me_211 (M_211.2.1.take 4) = true := by decide +kernel
set_option maxRecDepth 1000000 in
theorem mb_211_1 : bkB me_211 (M_211.2.1.drop 4) = true := by decide +kernel
theorem mp_211 : bk_P me_211 := bkchk_ok mo_211 (bk_split 4 mb_211_0 mb_211_1)
noncomputable def ME_7 : List mE := [me_182, me_183, me_184, me_185, me_186, me_187, me_188, me_189, me_190, me_191, me_192, me_193, me_194, me_195, me_196, me_197, me_198, me_199, me_200, me_201, me_202, me_203, me_204, me_205, me_206, me_207, me_208, me_209, me_210, me_211]
theorem ME_ok_7 : ∀ q ∈ ME_7, bk_P q := by
  unfold ME_7
  intro q hq
  rcases List.mem_cons.mp hq with rfl | hq
  · exact mp_182
  rcases List.mem_cons.mp hq with rfl | hq
  · exact mp_183
  rcases List.mem_cons.mp hq with rfl | hq
  · exact mp_184
  rcases List.mem_cons.mp hq with rfl | hq
  · exact mp_185
  rcases List.mem_cons.mp hq with rfl | hq
  · exact mp_186
  rcases List.mem_cons.mp hq with rfl | hq
  · exact mp_187
  rcases List.mem_cons.mp hq with rfl | hq
  · exact mp_188
  rcases List.mem_cons.mp hq with rfl | hq
  · exact mp_189
  rcases List.mem_cons.mp hq with rfl | hq
  · exact mp_190
  rcases List.mem_cons.mp hq with rfl | hq
  · exact mp_191
  rcases List.mem_cons.mp hq with rfl | hq
  · exact mp_192
  rcases List.mem_cons.mp hq with rfl | hq
  · exact mp_193
  rcases List.mem_cons.mp hq with rfl | hq
  · exact mp_194
  rcases List.mem_cons.mp hq with rfl | hq
  · exact mp_195
  rcases List.mem_cons.mp hq with rfl | hq
  · exact mp_196
  rcases List.mem_cons.mp hq with rfl | hq
  · exact mp_197
  rcases List.mem_cons.mp hq with rfl | hq
  · exact mp_198
  rcases List.mem_cons.mp hq with rfl | hq
  · exact mp_199
  rcases List.mem_cons.mp hq with rfl | hq
  · exact mp_200
  rcases List.mem_cons.mp hq with rfl | hq
  · exact mp_201
  rcases List.mem_cons.mp hq with rfl | hq
  · exact mp_202
  rcases List.mem_cons.mp hq with rfl | hq
  · exact mp_203
  rcases List.mem_cons.mp hq with rfl | hq
  · exact mp_204
  rcases List.mem_cons.mp hq with rfl | hq
  · exact mp_205
  rcases List.mem_cons.mp hq with rfl | hq
  · exact mp_206
  rcases List.mem_cons.mp hq with rfl | hq
  · exact mp_207
  rcases List.mem_cons.mp hq with rfl | hq
  · exact mp_208
  rcases List.mem_cons.mp hq with rfl | hq
  · exact mp_209
  rcases List.mem_cons.mp hq with rfl | hq
  · exact mp_210
  rcases List.mem_cons.mp hq with rfl | hq
  · exact mp_211
  cases hq
