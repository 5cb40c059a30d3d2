noncomputable abbrev me_121 : mE := (121, 1737, 0, 2, 0, M_121)
set_option maxRecDepth 1000000 in
theorem mo_121 : bkchk me_121 = true := by decide +kernel
set_option maxRecDepth 1000000 in
theorem mb_121_0 : bkB me_121 (M_121.2.1.take 10) = true := by decide +kernel
set_option maxRecDepth 1000000 in
theorem mb_121_1 : bkB me_121 (M_121.2.1.drop 10) = true := by decide +kernel
theorem mp_121 : bk_P me_121 := bkchk_ok mo_121 (bk_split 10 mb_121_0 mb_121_1)
noncomputable abbrev me_122 : mE := (122, 1749, 0, 1, 0, M_122)
set_option maxRecDepth 1000000 in
theorem mo_122 : bkchk me_122 = true := by decide +kernel
set_option maxRecDepth 1000000 in
theorem mb_122_0 : bkB me_122 M_122.2.1 = true := by decide +kernel
theorem mp_122 : bk_P me_122 := bkchk_ok mo_122 mb_122_0
noncomputable abbrev me_123 : mE := (123, 1746, 0, 2, 0, M_123)
set_option maxRecDepth 1000000 in
theorem mo_123 : bkchk me_123 = true := by decide +kernel
set_option maxRecDepth 1000000 in
theorem mb_123_0 : bkB me_123 (M_123.2.1.take 1) = true := by decide +kernel
set_option maxRecDepth 1000000 in
theorem mb_123_1 : bkB me_123 ((M_123.2.1.drop 1).take 2) = true := by decide +kernel
set_option maxRecDepth 1000000 in
theorem mb_123_2 : bkB me_123 ((M_123.2.1.drop 1).drop 2) = true := by decide +kernel
theorem mp_123 : bk_P me_123 := bkchk_ok mo_123 (bk_split 1 mb_123_0 (bk_split 2 mb_123_1 mb_123_2))
noncomputable abbrev me_124 : mE := (124, 1757, 0, 1, 0, M_124)
set_option maxRecDepth 1000000 in
theorem mo_124 : bkchk me_124 = true := by decide +kernel
set_option maxRecDepth 1000000 in
theorem mb_124_0 : bkB me_124 M_124.2.1 = true := by decide +kernel
theorem mp_124 : bk_P me_124 := bkchk_ok mo_124 mb_124_0
noncomputable abbrev me_125 : mE := (125, 1721, 0, 1, 0, M_125)
set_option maxRecDepth 1000000 in
theorem mo_125 : bkchk me_125 = true := by decide +kernel
set_option maxRecDepth 1000000 in
theorem mb_125_0 : bkB me_125 (M_125.2.1.take 5) = true := by decide +kernel
set_option maxRecDepth 1000000 in
theorem mb_125_1 : bkB me_125 ((M_125.2.1.drop 5).take 6) = true := by decide +kernel
set_option maxRecDepth 1000000 in
theorem mb_125_2 : bkB me_125 ((M_125.2.1.drop 5).drop 6) = true := by decide +kernel
theorem mp_125 : bk_P me_125 := bkchk_ok mo_125 (bk_split 5 mb_125_0 (bk_split 6 mb_125_1 mb_125_2))
noncomputable abbrev me_126 : mE := (126, 1733, 0, 2, 0, M_126)
set_option maxRecDepth 1000000 in
theorem mo_126 : bkchk me_126 = true := by decide +kernel
set_option maxRecDepth 1000000 in
theorem mb_126_0 : bkB me_126 (M_126.2.1.take 3) = true := by decide +kernel
set_option maxRecDepth 1000000 in
theorem mb_126_1 : bkB me_126 (M_126.2.1.drop 3) = true := by decide +kernel
theorem mp_126 : bk_P me_126 := bkchk_ok mo_126 (bk_split 3 mb_126_0 mb_126_1)
noncomputable abbrev me_127 : mE := (127, 1742, 0, 2, 0, M_127)
set_option maxRecDepth 1000000 in
theorem mo_127 : bkchk me_127 = true := by decide +kernel
set_option maxRecDepth 1000000 in
theorem mb_127_0 : bkB me_127 M_127.2.1 = true := by decide +kernel
theorem mp_127 : bk_P me_127 := bkchk_ok mo_127 mb_127_0
noncomputable abbrev me_128 : mE := (128, 1762, 0, 2, 0, M_128)
set_option maxRecDepth 1000000 in
theorem mo_128 : bkchk me_128 = true := by decide +kernel
set_option maxRecDepth 1000000 in
theorem mb_128_0 : bkB me_128 (M_128.2.1.take 3) = true := by decide +kernel
set_option maxRecDepth 1000000 in
theorem mb_128_1 : bkB me_128 ((M_128.2.1.drop 3).take 1) = true := by decide +kernel
set_option maxRecDepth 1000000 in
theorem mb_128_2 : bkB me_128 (((M_128.2.1.drop 3).drop 1).take 1) = true := by decide +kernel
set_option maxRecDepth 1000000 in
theorem mb_128_3 : bkB me_128 ((((M_128.2.1.drop 3).drop 1).drop 1).take 2) = true := by decide +kernel
set_option maxRecDepth 1000000 in
theorem mb_128_4 : bkB me_128 ((((M_128.2.1.drop 3).drop 1).drop 1).drop 2) = true := by decide +kernel
theorem mp_128 : bk_P me_128 := bkchk_ok mo_128 (bk_split 3 mb_128_0 (bk_split 1 mb_128_1 (bk_split 1 mb_128_2 (bk_split 2 mb_128_3 mb_128_4))))
noncomputable abbrev me_129 : mE := (129, 1774, 0, 0, 0, M_129)
set_option maxRecDepth 1000000 in
theorem mo_129 : bkchk me_129 = true := by decide +kernel
set_option maxRecDepth 1000000 in
theorem mb_129_0 : bkB me_129 (M_129.2.1.take 6) = true := by decide +kernel
set_option maxRecDepth 1000000 in
theorem mb_129_1 : bkB me_129 ((M_129.2.1.drop 6).take 4) = true := by decide +kernel
set_option maxRecDepth 1000000 in
theorem mb_129_2 : bkB me_129 (((M_129.2.1.drop 6).drop 4).take 2) = true := by decide +kernel
set_option maxRecDepth 1000000 in
theorem mb_129_3 : bkB me_129 (((M_129.2.1.drop 6).drop 4).drop 2) = true := by decide +kernel
theorem mp_129 : bk_P me_129 := bkchk_ok mo_129 (bk_split 6 mb_129_0 (bk_split 4 mb_129_1 (bk_split 2 mb_129_2 mb_129_3)))
noncomputable abbrev me_130 : mE := (130, 1778, 0, 0, 0, M_130)
set_option maxRecDepth 1000000 in
theorem mo_130 : bkchk me_130 = true := by decide +kernel
set_option maxRecDepth 1000000 in
theorem mb_130_0 : bkB me_130 (M_130.2.1.take 2) = true := by decide +kernel
set_option maxRecDepth 1000000 in
theorem mb_130_1 : bkB me_130 (M_130.2.1.drop 2) = true := by decide +kernel
theorem mp_130 : bk_P me_130 := bkchk_ok mo_130 (bk_split 2 mb_130_0 mb_130_1)
noncomputable abbrev me_131 : mE := (131, 1782, 0, 0, 0, M_131)
set_option maxRecDepth 1000000 in
theorem mo_131 : bkchk me_131 = true := by decide +kernel
set_option maxRecDepth 1000000 in
theorem mb_131_0 : bkB me_131 (M_131.2.1.take 2) = true := by decide +kernel
set_option maxRecDepth 1000000 in
theorem mb_131_1 : bkB me_131 ((M_131.2.1.drop 2).take 3) = true := by decide +kernel
set_option maxRecDepth 1000000 in
theorem mb_131_2 : bkB me_131 ((M_131.2.1.drop 2).drop 3) = true := by decide +kernel
theorem mp_131 : bk_P me_131 := bkchk_ok mo_131 (bk_split 2 mb_131_0 (bk_split 3 mb_131_1 mb_131_2))
noncomputable abbrev me_132 : mE := (132, 1766, 0, 0, 0, M_132)
set_option maxRecDepth 1000000 in
theorem mo_132 : bkchk me_132 = true := by decide +kernel
set_option maxRecDepth 1000000 in
theorem mb_132_0 : bkB me_132 (M_132.2.1.take 3) = true := by decide +kernel
set_option maxRecDepth 1000000 in
theorem mb_132_1 : bkB me_132 (M_132.2.1.drop 3) = true := by decide +kernel
theorem mp_132 : bk_P me_132 := bkchk_ok mo_132 (bk_split 3 mb_132_0 mb_132_1)
noncomputable abbrev me_133 : mE := (133, 1770, 0, 1, 0, M_133)
set_option maxRecDepth 1000000 in
theorem mo_133 : bkchk me_133 = true := by decide +kernel
set_option maxRecDepth 1000000 in
theorem mb_133_0 : bkB me_133 (M_133.2.1.take 6) = true := by decide +kernel
set_option maxRecDepth 1000000 in
theorem mb_133_1 : bkB me_133 (M_133.2.1.drop 6) = true := by decide +kernel
theorem mp_133 : bk_P me_133 := bkchk_ok mo_133 (bk_split 6 mb_133_0 mb_133_1)
noncomputable abbrev me_134 : mE := (134, 1717, 0, 1, 0, M_134)
set_option maxRecDepth 1000000 in
theorem mo_134 : bkchk me_134 = true := by decide +kernel
set_option maxRecDepth 1000000 in
theorem mb_134_0 : bkB me_134 (M_134.2.1.take 5) = true := by decide +kernel
set_option maxRecDepth 1000000 in
theorem mb_134_1 : bkB me_134 (M_134.2.1.drop 5) = true := by decide +kernel
theorem mp_134 : bk_P me_134 := bkchk_ok mo_134 (bk_split 5 mb_134_0 mb_134_1)
noncomputable abbrev me_135 : mE := (135, 1303, 0, 1, 0, M_135)
set_option maxRecDepth 1000000 in
theorem mo_135 : bkchk me_135 = true := by decide +kernel
set_option maxRecDepth 1000000 in
theorem mb_135_0 : bkB me_135 (M_135.2.1.take 4) = true := by decide +kernel
set_option maxRecDepth 1000000 in
theorem mb_135_1 : bkB me_135 ((M_135.2.1.drop 4).take 2) = true := by decide +kernel
set_option maxRecDepth 1000000 in
theorem mb_135_2 : bkB me_135 ((M_135.2.1.drop 4).drop 2) = true := by decide +kernel
theorem mp_135 : bk_P me_135 := bkchk_ok mo_135 (bk_split 4 mb_135_0 (bk_split 2 mb_135_1 mb_135_2))
noncomputable abbrev me_136 : mE := (136, 1786, 0, 2, 0, M_136)
set_option maxRecDepth 1000000 in
theorem mo_136 : bkchk me_136 = true := by decide +kernel
set_option maxRecDepth 1000000 in
theorem mb_136_0 : bkB me_136 M_136.2.1 = true := by decide +kernel
theorem mp_136 : bk_P me_136 := bkchk_ok mo_136 mb_136_0
noncomputable abbrev me_137 : mE := (137, 1798, 0, 0, 0, M_137)
set_option maxRecDepth 1000000 in
theorem mo_137 : bkchk me_137 = true := by decide +kernel
set_option maxRecDepth 1000000 in
theorem mb_137_0 : bkB me_137 M_137.2.1 = true := by decide +kernel
theorem mp_137 : bk_P me_137 := bkchk_ok mo_137 mb_137_0
noncomputable abbrev me_138 : mE := (138, 1794, 0, 0, 0, M_138)
set_option maxRecDepth 1000000 in
theorem mo_138 : bkchk me_138 = true := by decide +kernel
set_option maxRecDepth 1000000 in
theorem mb_138_0 : bkB me_138 (M_138.2.1.take 7) = true := by decide +kernel
set_option maxRecDepth 1000000 in
theorem mb_138_1 : bkB me_138 ((M_138.2.1.drop 7).take 5) = true := by decide +kernel
set_option maxRecDepth 1000000 in
theorem mb_138_2 : bkB me_138 ((M_138.2.1.drop 7).drop 5) = true := by decide +kernel
theorem mp_138 : bk_P me_138 := bkchk_ok mo_138 (bk_split 7 mb_138_0 (bk_split 5 mb_138_1 mb_138_2))
noncomputable abbrev me_139 : mE := (139, 1790, 0, 1, 0, M_139)
set_option maxRecDepth 1000000 in
theorem mo_139 : bkchk me_139 = true := by decide +kernel
set_option maxRecDepth 1000000 in
theorem mb_139_0 : bkB me_139 (M_139.2.1.take 7) = true := by decide +kernel
set_option maxRecDepth 1000000 in
theorem mb_139_1 : bkB me_139 (M_139.2.1.drop 7) = true := by decide +kernel
theorem mp_139 : bk_P me_139 := bkchk_ok mo_139 (bk_split 7 mb_139_0 mb_139_1)
noncomputable abbrev me_140 : mE := (140, 1802, 0, 1, 0, M_140)
set_option maxRecDepth 1000000 in
theorem mo_140 : bkchk me_140 = true := by decide +kernel
set_option maxRecDepth 1000000 in
theorem mb_140_0 : bkB me_140 M_140.2.1 = true := by decide +kernel
theorem mp_140 : bk_P me_140 := bkchk_ok mo_140 mb_140_0
noncomputable abbrev me_141 : mE := (141, 1806, 0, 1, 0, M_141)
set_option maxRecDepth 1000000 in
theorem mo_141 : bkchk me_141 = true := by decide +kernel
set_option maxRecDepth 1000000 in
theorem mb_141_0 : bkB me_141 (M_141.2.1.take 8) = true := by decide +kernel
set_option maxRecDepth 1000000 in
theorem mb_141_1 : bkB me_141 ((M_141.2.1.drop 8).take 1) = true := by decide +kernel
set_option maxRecDepth 1000000 in
theorem mb_141_2 : bkB me_141 ((M_141.2.1.drop 8).drop 1) = true := by decide +kernel
theorem mp_141 : bk_P me_141 := bkchk_ok mo_141 (bk_split 8 mb_141_0 (bk_split 1 mb_141_1 mb_141_2))
noncomputable abbrev me_143 : mE := (143, 2401, 9, 2, 0, M_143)
set_option maxRecDepth 1000000 in
theorem mo_143 : bkchk me_143 = true := by decide +kernel
set_option maxRecDepth 1000000 in
theorem mb_143_0 : bkB me_143 M_143.2.1 = true := by decide +kernel
theorem mp_143 : bk_P me_143 := bkchk_ok mo_143 mb_143_0
noncomputable abbrev me_144 : mE := (144, 2405, 9, 0, 0, M_144)
set_option maxRecDepth 1000000 in
theorem mo_144 : bkchk me_144 = true := by decide +kernel
set_option maxRecDepth 1000000 in
theorem mb_144_0 : bkB me_144 M_144.2.1 = true := by decide +kernel
theorem mp_144 : bk_P me_144 := bkchk_ok mo_144 mb_144_0
noncomputable abbrev me_145 : mE := (145, 2980, 9, 1, 0, M_145)
set_option maxRecDepth 1000000 in
theorem mo_145 : bkchk me_145 = true := by decide +kernel
set_option maxRecDepth 1000000 in
theorem mb_145_0 : bkB me_145 M_145.2.1 = true := by decide +kernel
theorem mp_145 : bk_P me_145 := bkchk_ok mo_145 mb_145_0
noncomputable abbrev me_146 : mE := (146, 2983, 9, 2, 0, M_146)
set_option maxRecDepth 1000000 in
theorem mo_146 : bkchk me_146 = true := by decide +kernel
set_option maxRecDepth 1000000 in
theorem mb_146_0 : bkB me_146 M_146.2.1 = true := by decide +kernel
theorem mp_146 : bk_P me_146 := bkchk_ok mo_146 mb_146_0
noncomputable abbrev me_147 : mE := (147, 2990, 9, 2, 0, M_147)
set_option maxRecDepth 1000000 in
theorem mo_147 : bkchk me_147 = true := by decide +kernel
set_option maxRecDepth 1000000 in
theorem mb_147_0 : bkB me_147 M_147.2.1 = true := by decide +kernel
theorem mp_147 : bk_P me_147 := bkchk_ok mo_147 mb_147_0
noncomputable abbrev me_148 : mE := (148, 2976, 9, 1, 0, M_148)
set_option maxRecDepth 1000000 in
theorem mo_148 : bkchk me_148 = true := by decide +kernel
set_option maxRecDepth 1000000 in
theorem mb_148_0 : bkB me_148 (M_148.2.1.take 6) = true := by decide +kernel
set_option maxRecDepth 1000000 in
theorem mb_148_1 : bkB me_148 (M_148.2.1.drop 6) = true := by decide +kernel
theorem mp_148 : bk_P me_148 := bkchk_ok mo_148 (bk_split 6 mb_148_0 mb_148_1)
noncomputable abbrev me_149 : mE := (149, 2968, 9, 0, 0, M_149)
set_option maxRecDepth 1000000 in
theorem mo_149 : bkchk me_149 = true := by decide +kernel
set_option maxRecDepth 1000000 in
theorem mb_149_0 : bkB me_149 M_149.2.1 = true := by decide +kernel
theorem mp_149 : bk_P me_149 := bkchk_ok mo_149 mb_149_0
noncomputable abbrev me_150 : mE := (150, 2972, 9, 0, 0, M_150)
set_option maxRecDepth 1000000 in
theorem mo_150 : bkchk me_150 = true := by decide +kernel
set_option maxRecDepth 1000000 in
theorem mb_150_0 : bkB me_150 (M_150.2.1.take 4) = true := by decide +kernel
set_option maxRecDepth 1000000 in
theorem mb_150_1 : bkB me_150 (M_150.2.1.drop 4) = true := by decide +kernel
theorem mp_150 : bk_P me_150 := bkchk_ok mo_150 (bk_split 4 mb_150_0 mb_150_1)
noncomputable abbrev me_151 : mE := (151, 2987, 9, 0, 0, M_151)
set_option maxRecDepth 1000000 in
theorem mo_151 : bkchk me_151 = true := by decide +kernel
set_option maxRecDepth 1000000 in
theorem mb_151_0 : bkB me_151 (M_151.2.1.take 3) = true := by decide +kernel
set_option maxRecDepth 1000000 in
theorem mb_151_1 : bkB me_151 ((M_151.2.1.drop 3).take 4) = true := by decide +kernel
set_option maxRecDepth 1000000 in
theorem mb_151_2 : bkB me_151 ((M_151.2.1.drop 3).drop 4) = true := by decide +kernel
theorem mp_151 : bk_P me_151 := bkchk_ok mo_151 (bk_split 3 mb_151_0 (bk_split 4 mb_151_1 mb_151_2))
noncomputable def ME_5 : List mE := [me_121, me_122, me_123, me_124, me_125, me_126, me_127, me_128, me_129, me_130, me_131, me_132, me_133, me_134, me_135, me_136, me_137, me_138, me_139, me_140, me_141, me_143, me_144, me_145, me_146, me_147, me_148, me_149, me_150, me_151]
theorem ME_ok_5 : ∀ q ∈ ME_5, bk_P q := by
  unfold ME_5
  intro q hq
  rcases List.mem_cons.mp hq with rfl | hq
  · exact mp_121
  rcases List.mem_cons.mp hq with rfl | hq
  · exact mp_122
  rcases List.mem_cons.mp hq with rfl | hq
  · exact mp_123
  rcases List.mem_cons.mp hq with rfl | hq
  · exact mp_124
  rcases List.mem_cons.mp hq with rfl | hq
  · exact mp_125
  rcases List.mem_cons.mp hq with rfl | hq
  · exact mp_126
  rcases List.mem_cons.mp hq with rfl | hq
  · exact mp_127
  rcases List.mem_cons.mp hq with rfl | hq
  · exact mp_128
  rcases List.mem_cons.mp hq with rfl | hq
  · exact mp_129
  rcases List.mem_cons.mp hq with rfl | hq
  · exact mp_130
  rcases List.mem_cons.mp hq with rfl | hq
  · exact mp_131
  rcases List.mem_cons.mp hq with rfl | hq
  · exact mp_132
  rcases List.mem_cons.mp hq with rfl | hq
  · exact mp_133
  rcases List.mem_cons.mp hq with rfl | hq
  · exact mp_134
  rcases List.mem_cons.mp hq with rfl | hq
  · exact mp_135
  rcases List.mem_cons.mp hq with rfl | hq
  · exact mp_136
  rcases List.mem_cons.mp hq with rfl | hq
  · exact mp_137
  rcases List.mem_cons.mp hq with rfl | hq
  · exact mp_138
  rcases List.mem_cons.mp hq with rfl | hq
  · exact mp_139
  rcases List.mem_cons.mp hq with rfl | hq
  · exact mp_140
  rcases List.mem_cons.mp hq with rfl | hq
  · exact mp_141
  rcases List.mem_cons.mp hq with rfl | hq
  · exact mp_143
  rcases List.mem_cons.mp hq with rfl | hq
  · exact mp_144
  rcases List.mem_cons.mp hq with rfl | hq
  · exact mp_145
  rcases List.mem_cons.mp hq with rfl | hq
  · exact mp_146
  rcases List.mem_cons.mp hq with rfl | hq
  · exact mp_147
  rcases List.mem_cons.mp hq with rfl | hq
  · exact mp_148
  rcases List.mem_cons.mp hq with rfl | hq
  · exact mp_149
  rcases List.mem_cons.mp hq with rfl | hq
  · exact mp_150
  rcases List.mem_cons.mp hq with rfl | hq
  · exact mp_151
  cases hq
