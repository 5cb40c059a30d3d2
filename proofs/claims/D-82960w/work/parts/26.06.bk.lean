noncomputable abbrev me_152 : mE := (152, 2998, 9, 0, 0, M_152)
set_option maxRecDepth 1000000 in
theorem mo_152 : bkchk me_152 = true := by decide +kernel
set_option maxRecDepth 1000000 in
theorem mb_152_0 : bkB me_152 (M_152.2.1.take 5) = true := by decide +kernel
set_option maxRecDepth 1000000 in
theorem mb_152_1 : bkB me_152 (M_152.2.1.drop 5) = true := by decide +kernel
theorem mp_152 : bk_P me_152 := bkchk_ok mo_152 (bk_split 5 mb_152_0 mb_152_1)
noncomputable abbrev me_153 : mE := (153, 3004, 9, 0, 0, M_153)
set_option maxRecDepth 1000000 in
theorem mo_153 : bkchk me_153 = true := by decide +kernel
set_option maxRecDepth 1000000 in
theorem mb_153_0 : bkB me_153 (M_153.2.1.take 7) = true := by decide +kernel
set_option maxRecDepth 1000000 in
theorem mb_153_1 : bkB me_153 (M_153.2.1.drop 7) = true := by decide +kernel
theorem mp_153 : bk_P me_153 := bkchk_ok mo_153 (bk_split 7 mb_153_0 mb_153_1)
noncomputable abbrev me_154 : mE := (154, 2994, 9, 1, 0, M_154)
set_option maxRecDepth 1000000 in
theorem mo_154 : bkchk me_154 = true := by decide +kernel
set_option maxRecDepth 1000000 in
theorem mb_154_0 : bkB me_154 (M_154.2.1.take 5) = true := by decide +kernel
set_option maxRecDepth 1000000 in
theorem mb_154_1 : bkB me_154 (M_154.2.1.drop 5) = true := by decide +kernel
theorem mp_154 : bk_P me_154 := bkchk_ok mo_154 (bk_split 5 mb_154_0 mb_154_1)
noncomputable abbrev me_155 : mE := (155, 3020, 9, 2, 0, M_155)
set_option maxRecDepth 1000000 in
theorem mo_155 : bkchk me_155 = true := by decide +kernel
set_option maxRecDepth 1000000 in
theorem mb_155_0 : bkB me_155 M_155.2.1 = true := by decide +kernel
theorem mp_155 : bk_P me_155 := bkchk_ok mo_155 mb_155_0
noncomputable abbrev me_156 : mE := (156, 3016, 9, 0, 0, M_156)
set_option maxRecDepth 1000000 in
theorem mo_156 : bkchk me_156 = true := by decide +kernel
set_option maxRecDepth 1000000 in
theorem mb_156_0 : bkB me_156 M_156.2.1 = true := by decide +kernel
theorem mp_156 : bk_P me_156 := bkchk_ok mo_156 mb_156_0
noncomputable abbrev me_157 : mE := (157, 3012, 9, 0, 0, M_157)
set_option maxRecDepth 1000000 in
theorem mo_157 : bkchk me_157 = true := by decide +kernel
set_option maxRecDepth 1000000 in
theorem mb_157_0 : bkB me_157 M_157.2.1 = true := by decide +kernel
theorem mp_157 : bk_P me_157 := bkchk_ok mo_157 mb_157_0
noncomputable abbrev me_158 : mE := (158, 3036, 9, 0, 0, M_158)
set_option maxRecDepth 1000000 in
theorem mo_158 : bkchk me_158 = true := by decide +kernel
set_option maxRecDepth 1000000 in
theorem mb_158_0 : bkB me_158 M_158.2.1 = true := by decide +kernel
theorem mp_158 : bk_P me_158 := bkchk_ok mo_158 mb_158_0
noncomputable abbrev me_159 : mE := (159, 3044, 9, 2, 0, M_159)
set_option maxRecDepth 1000000 in
theorem mo_159 : bkchk me_159 = true := by decide +kernel
set_option maxRecDepth 1000000 in
theorem mb_159_0 : bkB me_159 M_159.2.1 = true := by decide +kernel
theorem mp_159 : bk_P me_159 := bkchk_ok mo_159 mb_159_0
noncomputable abbrev me_160 : mE := (160, 3008, 9, 2, 0, M_160)
set_option maxRecDepth 1000000 in
theorem mo_160 : bkchk me_160 = true := by decide +kernel
set_option maxRecDepth 1000000 in
theorem mb_160_0 : bkB me_160 M_160.2.1 = true := by decide +kernel
theorem mp_160 : bk_P me_160 := bkchk_ok mo_160 mb_160_0
noncomputable abbrev me_161 : mE := (161, 3040, 9, 2, 0, M_161)
set_option maxRecDepth 1000000 in
theorem mo_161 : bkchk me_161 = true := by decide +kernel
set_option maxRecDepth 1000000 in
theorem mb_161_0 : bkB me_161 M_161.2.1 = true := by decide +kernel
theorem mp_161 : bk_P me_161 := bkchk_ok mo_161 mb_161_0
noncomputable abbrev me_162 : mE := (162, 3084, 9, 0, 0, M_162)
set_option maxRecDepth 1000000 in
theorem mo_162 : bkchk me_162 = true := by decide +kernel
set_option maxRecDepth 1000000 in
theorem mb_162_0 : bkB me_162 M_162.2.1 = true := by decide +kernel
theorem mp_162 : bk_P me_162 := bkchk_ok mo_162 mb_162_0
noncomputable abbrev me_163 : mE := (163, 3064, 9, 2, 0, M_163)
set_option maxRecDepth 1000000 in
theorem mo_163 : bkchk me_163 = true := by decide +kernel
set_option maxRecDepth 1000000 in
theorem mb_163_0 : bkB me_163 M_163.2.1 = true := by decide +kernel
theorem mp_163 : bk_P me_163 := bkchk_ok mo_163 mb_163_0
noncomputable abbrev me_164 : mE := (164, 3028, 9, 0, 0, M_164)
set_option maxRecDepth 1000000 in
theorem mo_164 : bkchk me_164 = true := by decide +kernel
set_option maxRecDepth 1000000 in
theorem mb_164_0 : bkB me_164 M_164.2.1 = true := by decide +kernel
theorem mp_164 : bk_P me_164 := bkchk_ok mo_164 mb_164_0
noncomputable abbrev me_165 : mE := (165, 3056, 9, 0, 0, M_165)
set_option maxRecDepth 1000000 in
theorem mo_165 : bkchk me_165 = true := by decide +kernel
set_option maxRecDepth 1000000 in
theorem mb_165_0 : bkB me_165 M_165.2.1 = true := by decide +kernel
theorem mp_165 : bk_P me_165 := bkchk_ok mo_165 mb_165_0
noncomputable abbrev me_166 : mE := (166, 3052, 9, 0, 0, M_166)
set_option maxRecDepth 1000000 in
theorem mo_166 : bkchk me_166 = true := by decide +kernel
set_option maxRecDepth 1000000 in
theorem mb_166_0 : bkB me_166 M_166.2.1 = true := by decide +kernel
theorem mp_166 : bk_P me_166 := bkchk_ok mo_166 mb_166_0
noncomputable abbrev me_167 : mE := (167, 3177, 9, 0, 0, M_167)
set_option maxRecDepth 1000000 in
theorem mo_167 : bkchk me_167 = true := by decide +kernel
set_option maxRecDepth 1000000 in
theorem mb_167_0 : bkB me_167 M_167.2.1 = true := by decide +kernel
theorem mp_167 : bk_P me_167 := bkchk_ok mo_167 mb_167_0
noncomputable abbrev me_168 : mE := (168, 3032, 9, 0, 0, M_168)
set_option maxRecDepth 1000000 in
theorem mo_168 : bkchk me_168 = true := by decide +kernel
set_option maxRecDepth 1000000 in
theorem mb_168_0 : bkB me_168 M_168.2.1 = true := by decide +kernel
theorem mp_168 : bk_P me_168 := bkchk_ok mo_168 mb_168_0
noncomputable abbrev me_169 : mE := (169, 2920, 9, 1, 0, M_169)
set_option maxRecDepth 1000000 in
theorem mo_169 : bkchk me_169 = true := by decide +kernel
set_option maxRecDepth 1000000 in
theorem mb_169_0 : bkB me_169 M_169.2.1 = true := by decide +kernel
theorem mp_169 : bk_P me_169 := bkchk_ok mo_169 mb_169_0
noncomputable abbrev me_170 : mE := (170, 3092, 9, 1, 0, M_170)
set_option maxRecDepth 1000000 in
theorem mo_170 : bkchk me_170 = true := by decide +kernel
set_option maxRecDepth 1000000 in
theorem mb_170_0 : bkB me_170 (M_170.2.1.take 7) = true := by decide +kernel
set_option maxRecDepth 1000000 in
theorem mb_170_1 : bkB me_170 (M_170.2.1.drop 7) = true := by decide +kernel
theorem mp_170 : bk_P me_170 := bkchk_ok mo_170 (bk_split 7 mb_170_0 mb_170_1)
noncomputable abbrev me_171 : mE := (171, 3155, 9, 1, 0, M_171)
set_option maxRecDepth 1000000 in
theorem mo_171 : bkchk me_171 = true := by decide +kernel
set_option maxRecDepth 1000000 in
theorem mb_171_0 : bkB me_171 (M_171.2.1.take 5) = true := by decide +kernel
set_option maxRecDepth 1000000 in
theorem mb_171_1 : bkB me_171 (M_171.2.1.drop 5) = true := by decide +kernel
theorem mp_171 : bk_P me_171 := bkchk_ok mo_171 (bk_split 5 mb_171_0 mb_171_1)
noncomputable abbrev me_172 : mE := (172, 3192, 9, 1, 0, M_172)
set_option maxRecDepth 1000000 in
theorem mo_172 : bkchk me_172 = true := by decide +kernel
set_option maxRecDepth 1000000 in
theorem mb_172_0 : bkB me_172 M_172.2.1 = true := by decide +kernel
theorem mp_172 : bk_P me_172 := bkchk_ok mo_172 mb_172_0
noncomputable abbrev me_173 : mE := (173, 3181, 9, 1, 0, M_173)
set_option maxRecDepth 1000000 in
theorem mo_173 : bkchk me_173 = true := by decide +kernel
set_option maxRecDepth 1000000 in
theorem mb_173_0 : bkB me_173 (M_173.2.1.take 6) = true := by decide +kernel
set_option maxRecDepth 1000000 in
theorem mb_173_1 : bkB me_173 ((M_173.2.1.drop 6).take 7) = true := by decide +kernel
set_option maxRecDepth 1000000 in
theorem mb_173_2 : bkB me_173 ((M_173.2.1.drop 6).drop 7) = true := by decide +kernel
theorem mp_173 : bk_P me_173 := bkchk_ok mo_173 (bk_split 6 mb_173_0 (bk_split 7 mb_173_1 mb_173_2))
noncomputable abbrev me_174 : mE := (174, 3204, 9, 1, 0, M_174)
set_option maxRecDepth 1000000 in
theorem mo_174 : bkchk me_174 = true := by decide +kernel
set_option maxRecDepth 1000000 in
theorem mb_174_0 : bkB me_174 M_174.2.1 = true := by decide +kernel
theorem mp_174 : bk_P me_174 := bkchk_ok mo_174 mb_174_0
noncomputable abbrev me_175 : mE := (175, 2453, 9, 2, 0, M_175)
set_option maxRecDepth 1000000 in
theorem mo_175 : bkchk me_175 = true := by decide +kernel
set_option maxRecDepth 1000000 in
theorem mb_175_0 : bkB me_175 M_175.2.1 = true := by decide +kernel
theorem mp_175 : bk_P me_175 := bkchk_ok mo_175 mb_175_0
noncomputable abbrev me_176 : mE := (176, 3170, 9, 2, 0, M_176)
set_option maxRecDepth 1000000 in
theorem mo_176 : bkchk me_176 = true := by decide +kernel
set_option maxRecDepth 1000000 in
theorem mb_176_0 : bkB me_176 M_176.2.1 = true := by decide +kernel
theorem mp_176 : bk_P me_176 := bkchk_ok mo_176 mb_176_0
noncomputable abbrev me_177 : mE := (177, 3151, 9, 2, 0, M_177)
set_option maxRecDepth 1000000 in
theorem mo_177 : bkchk me_177 = true := by decide +kernel
set_option maxRecDepth 1000000 in
theorem mb_177_0 : bkB me_177 M_177.2.1 = true := by decide +kernel
theorem mp_177 : bk_P me_177 := bkchk_ok mo_177 mb_177_0
noncomputable abbrev me_178 : mE := (178, 3173, 9, 2, 0, M_178)
set_option maxRecDepth 1000000 in
theorem mo_178 : bkchk me_178 = true := by decide +kernel
set_option maxRecDepth 1000000 in
theorem mb_178_0 : bkB me_178 M_178.2.1 = true := by decide +kernel
theorem mp_178 : bk_P me_178 := bkchk_ok mo_178 mb_178_0
noncomputable abbrev me_179 : mE := (179, 3167, 9, 2, 0, M_179)
set_option maxRecDepth 1000000 in
theorem mo_179 : bkchk me_179 = true := by decide +kernel
set_option maxRecDepth 1000000 in
theorem mb_179_0 : bkB me_179 (M_179.2.1.take 13) = true := by decide +kernel
set_option maxRecDepth 1000000 in
theorem mb_179_1 : bkB me_179 (M_179.2.1.drop 13) = true := by decide +kernel
theorem mp_179 : bk_P me_179 := bkchk_ok mo_179 (bk_split 13 mb_179_0 mb_179_1)
noncomputable abbrev me_180 : mE := (180, 3163, 9, 2, 0, M_180)
set_option maxRecDepth 1000000 in
theorem mo_180 : bkchk me_180 = true := by decide +kernel
set_option maxRecDepth 1000000 in
theorem mb_180_0 : bkB me_180 M_180.2.1 = true := by decide +kernel
theorem mp_180 : bk_P me_180 := bkchk_ok mo_180 mb_180_0
noncomputable abbrev me_181 : mE := (181, 2960, 9, 2, 0, M_181)
set_option maxRecDepth 1000000 in
theorem mo_181 : bkchk me_181 = true := by decide +kernel
set_option maxRecDepth 1000000 in
theorem mb_181_0 : bkB me_181 (M_181.2.1.take 2) = true := by decide +kernel
set_option maxRecDepth 1000000 in
theorem mb_181_1 : bkB me_181 (M_181.2.1.drop 2) = true := by decide +kernel
theorem mp_181 : bk_P me_181 := bkchk_ok mo_181 (bk_split 2 mb_181_0 mb_181_1)
noncomputable def ME_6 : List mE := [me_152, me_153, me_154, me_155, me_156, me_157, me_158, me_159, me_160, me_161, me_162, me_163, me_164, me_165, me_166, me_167, me_168, me_169, me_170, me_171, me_172, me_173, me_174, me_175, me_176, me_177, me_178, me_179, me_180, me_181]
theorem ME_ok_6 : ∀ q ∈ ME_6, bk_P q := by
  unfold ME_6
  intro q hq
  rcases List.mem_cons.mp hq with rfl | hq
  · exact mp_152
  rcases List.mem_cons.mp hq with rfl | hq
  · exact mp_153
  rcases List.mem_cons.mp hq with rfl | hq
  · exact mp_154
  rcases List.mem_cons.mp hq with rfl | hq
  · exact mp_155
  rcases List.mem_cons.mp hq with rfl | hq
  · exact mp_156
  rcases List.mem_cons.mp hq with rfl | hq
  · exact mp_157
  rcases List.mem_cons.mp hq with rfl | hq
  · exact mp_158
  rcases List.mem_cons.mp hq with rfl | hq
  · exact mp_159
  rcases List.mem_cons.mp hq with rfl | hq
  · exact mp_160
  rcases List.mem_cons.mp hq with rfl | hq
  · exact mp_161
  rcases List.mem_cons.mp hq with rfl | hq
  · exact mp_162
  rcases List.mem_cons.mp hq with rfl | hq
  · exact mp_163
  rcases List.mem_cons.mp hq with rfl | hq
  · exact mp_164
  rcases List.mem_cons.mp hq with rfl | hq
  · exact mp_165
  rcases List.mem_cons.mp hq with rfl | hq
  · exact mp_166
  rcases List.mem_cons.mp hq with rfl | hq
  · exact mp_167
  rcases List.mem_cons.mp hq with rfl | hq
  · exact mp_168
  rcases List.mem_cons.mp hq with rfl | hq
  · exact mp_169
  rcases List.mem_cons.mp hq with rfl | hq
  · exact mp_170
  rcases List.mem_cons.mp hq with rfl | hq
  · exact mp_171
  rcases List.mem_cons.mp hq with rfl | hq
  · exact mp_172
  rcases List.mem_cons.mp hq with rfl | hq
  · exact mp_173
  rcases List.mem_cons.mp hq with rfl | hq
  · exact mp_174
  rcases List.mem_cons.mp hq with rfl | hq
  · exact mp_175
  rcases List.mem_cons.mp hq with rfl | hq
  · exact mp_176
  rcases List.mem_cons.mp hq with rfl | hq
  · exact mp_177
  rcases List.mem_cons.mp hq with rfl | hq
  · exact mp_178
  rcases List.mem_cons.mp hq with rfl | hq
  · exact mp_179
  rcases List.mem_cons.mp hq with rfl | hq
  · exact mp_180
  rcases List.mem_cons.mp hq with rfl | hq
  · exact mp_181
  cases hq
