noncomputable abbrev me_91 : mE := (91, 1163, 0, 3, 0, M_91)
set_option maxRecDepth 1000000 in
theorem mo_91 : bkchk me_91 = true := by decide +kernel
set_option maxRecDepth 1000000 in
theorem mb_91_0 : bkB me_91 (M_91.2.1.take 2) = true := by decide +kernel
set_option maxRecDepth 1000000 in
theorem mb_91_1 : bkB me_91 ((M_91.2.1.drop 2).take 1) = true := by decide +kernel
set_option maxRecDepth 1000000 in
theorem mb_91_2 : bkB me_91 ((M_91.2.1.drop 2).drop 1) = true := by decide +kernel
theorem mp_91 : bk_P me_91 := bkchk_ok mo_91 (bk_split 2 mb_91_0 (bk_split 1 mb_91_1 mb_91_2))
noncomputable abbrev me_92 : mE := (92, 1175, 0, 2, 0, M_92)
set_option maxRecDepth 1000000 in
theorem mo_92 : bkchk me_92 = true := by decide +kernel
set_option maxRecDepth 1000000 in
theorem mb_92_0 : bkB me_92 (M_92.2.1.take 7) = true := by decide +kernel
set_option maxRecDepth 1000000 in
theorem mb_92_1 : bkB me_92 (M_92.2.1.drop 7) = true := by decide +kernel
theorem mp_92 : bk_P me_92 := bkchk_ok mo_92 (bk_split 7 mb_92_0 mb_92_1)
noncomputable abbrev me_93 : mE := (93, 1179, 0, 3, 0, M_93)
set_option maxRecDepth 1000000 in
theorem mo_93 : bkchk me_93 = true := by decide +kernel
set_option maxRecDepth 1000000 in
theorem mb_93_0 : bkB me_93 M_93.2.1 = true := by decide +kernel
theorem mp_93 : bk_P me_93 := bkchk_ok mo_93 mb_93_0
noncomputable abbrev me_94 : mE := (94, 1171, 0, 3, 0, M_94)
set_option maxRecDepth 1000000 in
theorem mo_94 : bkchk me_94 = true := by decide +kernel
set_option maxRecDepth 1000000 in
theorem mb_94_0 : bkB me_94 M_94.2.1 = true := by decide +kernel
theorem mp_94 : bk_P me_94 := bkchk_ok mo_94 mb_94_0
noncomputable abbrev me_95 : mE := (95, 1183, 0, 1, 0, M_95)
set_option maxRecDepth 1000000 in
theorem mo_95 : bkchk me_95 = true := by decide +kernel
set_option maxRecDepth 1000000 in
theorem mb_95_0 : bkB me_95 M_95.2.1 = true := by decide +kernel
theorem mp_95 : bk_P me_95 := bkchk_ok mo_95 mb_95_0
noncomputable abbrev me_96 : mE := (96, 1191, 0, 3, 0, M_96)
set_option maxRecDepth 1000000 in
theorem mo_96 : bkchk me_96 = true := by decide +kernel
set_option maxRecDepth 1000000 in
theorem mb_96_0 : bkB me_96 (M_96.2.1.take 4) = true := by decide +kernel
set_option maxRecDepth 1000000 in
theorem mb_96_1 : bkB me_96 (M_96.2.1.drop 4) = true := by decide +kernel
theorem mp_96 : bk_P me_96 := bkchk_ok mo_96 (bk_split 4 mb_96_0 mb_96_1)
noncomputable abbrev me_97 : mE := (97, 1187, 0, 3, 0, M_97)
set_option maxRecDepth 1000000 in
theorem mo_97 : bkchk me_97 = true := by decide +kernel
set_option maxRecDepth 1000000 in
theorem mb_97_0 : bkB me_97 (M_97.2.1.take 3) = true := by decide +kernel
set_option maxRecDepth 1000000 in
theorem mb_97_1 : bkB me_97 ((M_97.2.1.drop 3).take 6) = true := by decide +kernel
set_option maxRecDepth 1000000 in
theorem mb_97_2 : bkB me_97 (((M_97.2.1.drop 3).drop 6).take 6) = true := by decide +kernel
set_option maxRecDepth 1000000 in
theorem mb_97_3 : bkB me_97 ((((M_97.2.1.drop 3).drop 6).drop 6).take 7) = true := by decide +kernel
set_option maxRecDepth 1000000 in
theorem mb_97_4 : bkB me_97 ((((M_97.2.1.drop 3).drop 6).drop 6).drop 7) = true := by decide +kernel
theorem mp_97 : bk_P me_97 := bkchk_ok mo_97 (bk_split 3 mb_97_0 (bk_split 6 mb_97_1 (bk_split 6 mb_97_2 (bk_split 7 mb_97_3 mb_97_4))))
noncomputable abbrev me_98 : mE := (98, 1195, 0, 1, 0, M_98)
set_option maxRecDepth 1000000 in
theorem mo_98 : bkchk me_98 = true := by decide +kernel
set_option maxRecDepth 1000000 in
theorem mb_98_0 : bkB me_98 (M_98.2.1.take 3) = true := by decide +kernel
set_option maxRecDepth 1000000 in
theorem mb_98_1 : bkB me_98 ((M_98.2.1.drop 3).take 4) = true := by decide +kernel
set_option maxRecDepth 1000000 in
theorem mb_98_2 : bkB me_98 ((M_98.2.1.drop 3).drop 4) = true := by decide +kernel
theorem mp_98 : bk_P me_98 := bkchk_ok mo_98 (bk_split 3 mb_98_0 (bk_split 4 mb_98_1 mb_98_2))
noncomputable abbrev me_99 : mE := (99, 1199, 0, 2, 389, M_99)
set_option maxRecDepth 1000000 in
theorem mo_99 : bkchk me_99 = true := by decide +kernel
set_option maxRecDepth 1000000 in
theorem mb_99_0 : bkB me_99 M_99.2.1 = true := by decide +kernel
theorem mp_99 : bk_P me_99 := bkchk_ok mo_99 mb_99_0
noncomputable abbrev me_100 : mE := (100, 1211, 0, 0, 0, M_100)
set_option maxRecDepth 1000000 in
theorem mo_100 : bkchk me_100 = true := by decide +kernel
set_option maxRecDepth 1000000 in
theorem mb_100_0 : bkB me_100 M_100.2.1 = true := by decide +kernel
theorem mp_100 : bk_P me_100 := bkchk_ok mo_100 mb_100_0
noncomputable abbrev me_101 : mE := (101, 1225, 0, 0, 0, M_101)
set_option maxRecDepth 1000000 in
theorem mo_101 : bkchk me_101 = true := by decide +kernel
set_option maxRecDepth 1000000 in
theorem mb_101_0 : bkB me_101 M_101.2.1 = true := by decide +kernel
theorem mp_101 : bk_P me_101 := bkchk_ok mo_101 mb_101_0
noncomputable abbrev me_102 : mE := (102, 1207, 0, 0, 0, M_102)
set_option maxRecDepth 1000000 in
theorem mo_102 : bkchk me_102 = true := by decide +kernel
set_option maxRecDepth 1000000 in
theorem mb_102_0 : bkB me_102 M_102.2.1 = true := by decide +kernel
theorem mp_102 : bk_P me_102 := bkchk_ok mo_102 mb_102_0
noncomputable abbrev me_103 : mE := (103, 1218, 0, 1, 0, M_103)
set_option maxRecDepth 1000000 in
theorem mo_103 : bkchk me_103 = true := by decide +kernel
set_option maxRecDepth 1000000 in
theorem mb_103_0 : bkB me_103 M_103.2.1 = true := by decide +kernel
theorem mp_103 : bk_P me_103 := bkchk_ok mo_103 mb_103_0
noncomputable abbrev me_104 : mE := (104, 1232, 0, 1, 0, M_104)
set_option maxRecDepth 1000000 in
theorem mo_104 : bkchk me_104 = true := by decide +kernel
set_option maxRecDepth 1000000 in
theorem mb_104_0 : bkB me_104 M_104.2.1 = true := by decide +kernel
theorem mp_104 : bk_P me_104 := bkchk_ok mo_104 mb_104_0
noncomputable abbrev me_105 : mE := (105, 1229, 0, 0, 0, M_105)
set_option maxRecDepth 1000000 in
theorem mo_105 : bkchk me_105 = true := by decide +kernel
set_option maxRecDepth 1000000 in
theorem mb_105_0 : bkB me_105 M_105.2.1 = true := by decide +kernel
theorem mp_105 : bk_P me_105 := bkchk_ok mo_105 mb_105_0
noncomputable abbrev me_106 : mE := (106, 1215, 0, 0, 0, M_106)
set_option maxRecDepth 1000000 in
theorem mo_106 : bkchk me_106 = true := by decide +kernel
set_option maxRecDepth 1000000 in
theorem mb_106_0 : bkB me_106 (M_106.2.1.take 4) = true := by decide +kernel
set_option maxRecDepth 1000000 in
theorem mb_106_1 : bkB me_106 ((M_106.2.1.drop 4).take 2) = true := by decide +kernel
set_option maxRecDepth 1000000 in
theorem mb_106_2 : bkB me_106 ((M_106.2.1.drop 4).drop 2) = true := by decide +kernel
theorem mp_106 : bk_P me_106 := bkchk_ok mo_106 (bk_split 4 mb_106_0 (bk_split 2 mb_106_1 mb_106_2))
noncomputable abbrev me_107 : mE := (107, 1203, 0, 1, 0, M_107)
set_option maxRecDepth 1000000 in
theorem mo_107 : bkchk me_107 = true := by decide +kernel
set_option maxRecDepth 1000000 in
theorem mb_107_0 : bkB me_107 (M_107.2.1.take 5) = true := by decide +kernel
set_option maxRecDepth 1000000 in
theorem mb_107_1 : bkB me_107 ((M_107.2.1.drop 5).take 4) = true := by decide +kernel
set_option maxRecDepth 1000000 in
theorem mb_107_2 : bkB me_107 (((M_107.2.1.drop 5).drop 4).take 3) = true := by decide +kernel
set_option maxRecDepth 1000000 in
theorem mb_107_3 : bkB me_107 (((M_107.2.1.drop 5).drop 4).drop 3) = true := by decide +kernel
theorem mp_107 : bk_P me_107 := bkchk_ok mo_107 (bk_split 5 mb_107_0 (bk_split 4 mb_107_1 (bk_split 3 mb_107_2 mb_107_3)))
noncomputable abbrev me_108 : mE := (108, 1236, 0, 3, 0, M_108)
set_option maxRecDepth 1000000 in
theorem mo_108 : bkchk me_108 = true := by decide +kernel
set_option maxRecDepth 1000000 in
theorem mb_108_0 : bkB me_108 M_108.2.1 = true := by decide +kernel
theorem mp_108 : bk_P me_108 := bkchk_ok mo_108 mb_108_0
noncomputable abbrev me_109 : mE := (109, 1252, 0, 4, 0, M_109)
set_option maxRecDepth 1000000 in
theorem mo_109 : bkchk me_109 = true := by decide +kernel
set_option maxRecDepth 1000000 in
theorem mb_109_0 : bkB me_109 M_109.2.1 = true := by decide +kernel
theorem mp_109 : bk_P me_109 := bkchk_ok mo_109 mb_109_0
noncomputable abbrev me_110 : mE := (110, 1260, 0, 1, 0, M_110)
set_option maxRecDepth 1000000 in
theorem mo_110 : bkchk me_110 = true := by decide +kernel
set_option maxRecDepth 1000000 in
theorem mb_110_0 : bkB me_110 M_110.2.1 = true := by decide +kernel
theorem mp_110 : bk_P me_110 := bkchk_ok mo_110 mb_110_0
noncomputable abbrev me_111 : mE := (111, 1256, 0, 1, 0, M_111)
set_option maxRecDepth 1000000 in
theorem mo_111 : bkchk me_111 = true := by decide +kernel
set_option maxRecDepth 1000000 in
theorem mb_111_0 : bkB me_111 M_111.2.1 = true := by decide +kernel
theorem mp_111 : bk_P me_111 := bkchk_ok mo_111 mb_111_0
noncomputable abbrev me_112 : mE := (112, 1272, 0, 1, 0, M_112)
set_option maxRecDepth 1000000 in
theorem mo_112 : bkchk me_112 = true := by decide +kernel
set_option maxRecDepth 1000000 in
theorem mb_112_0 : bkB me_112 M_112.2.1 = true := by decide +kernel
theorem mp_112 : bk_P me_112 := bkchk_ok mo_112 mb_112_0
noncomputable abbrev me_113 : mE := (113, 1268, 0, 1, 0, M_113)
set_option maxRecDepth 1000000 in
theorem mo_113 : bkchk me_113 = true := by decide +kernel
set_option maxRecDepth 1000000 in
theorem mb_113_0 : bkB me_113 M_113.2.1 = true := by decide +kernel
theorem mp_113 : bk_P me_113 := bkchk_ok mo_113 mb_113_0
noncomputable abbrev me_114 : mE := (114, 1288, 0, 0, 0, M_114)
set_option maxRecDepth 1000000 in
theorem mo_114 : bkchk me_114 = true := by decide +kernel
set_option maxRecDepth 1000000 in
theorem mb_114_0 : bkB me_114 (M_114.2.1.take 6) = true := by decide +kernel
set_option maxRecDepth 1000000 in
theorem mb_114_1 : bkB me_114 ((M_114.2.1.drop 6).take 3) = true := by decide +kernel
set_option maxRecDepth 1000000 in
theorem mb_114_2 : bkB me_114 ((M_114.2.1.drop 6).drop 3) = true := by decide +kernel
theorem mp_114 : bk_P me_114 := bkchk_ok mo_114 (bk_split 6 mb_114_0 (bk_split 3 mb_114_1 mb_114_2))
noncomputable abbrev me_115 : mE := (115, 1264, 0, 0, 0, M_115)
set_option maxRecDepth 1000000 in
theorem mo_115 : bkchk me_115 = true := by decide +kernel
set_option maxRecDepth 1000000 in
theorem mb_115_0 : bkB me_115 (M_115.2.1.take 5) = true := by decide +kernel
set_option maxRecDepth 1000000 in
theorem mb_115_1 : bkB me_115 ((M_115.2.1.drop 5).take 2) = true := by decide +kernel
set_option maxRecDepth 1000000 in
theorem mb_115_2 : bkB me_115 (((M_115.2.1.drop 5).drop 2).take 3) = true := by decide +kernel
set_option maxRecDepth 1000000 in
theorem mb_115_3 : bkB me_115 (((M_115.2.1.drop 5).drop 2).drop 3) = true := by decide +kernel
theorem mp_115 : bk_P me_115 := bkchk_ok mo_115 (bk_split 5 mb_115_0 (bk_split 2 mb_115_1 (bk_split 3 mb_115_2 mb_115_3)))
noncomputable abbrev me_116 : mE := (116, 1299, 0, 1, 0, M_116)
set_option maxRecDepth 1000000 in
theorem mo_116 : bkchk me_116 = true := by decide +kernel
set_option maxRecDepth 1000000 in
theorem mb_116_0 : bkB me_116 M_116.2.1 = true := by decide +kernel
theorem mp_116 : bk_P me_116 := bkchk_ok mo_116 mb_116_0
noncomputable abbrev me_117 : mE := (117, 1248, 0, 1, 0, M_117)
set_option maxRecDepth 1000000 in
theorem mo_117 : bkchk me_117 = true := by decide +kernel
set_option maxRecDepth 1000000 in
theorem mb_117_0 : bkB me_117 (M_117.2.1.take 4) = true := by decide +kernel
set_option maxRecDepth 1000000 in
theorem mb_117_1 : bkB me_117 ((M_117.2.1.drop 4).take 2) = true := by decide +kernel
set_option maxRecDepth 1000000 in
theorem mb_117_2 : bkB me_117 (((M_117.2.1.drop 4).drop 2).take 4) = true := by decide +kernel
set_option maxRecDepth 1000000 in
theorem mb_117_3 : bkB me_117 ((((M_117.2.1.drop 4).drop 2).drop 4).take 1) = true := by decide +kernel
set_option maxRecDepth 1000000 in
theorem mb_117_4 : bkB me_117 (((((M_117.2.1.drop 4).drop 2).drop 4).drop 1).take 3) = true := by decide +kernel
set_option maxRecDepth 1000000 in
theorem mb_117_5 : bkB me_117 (((((M_117.2.1.drop 4).drop 2).drop 4).drop 1).drop 3) = true := by decide +kernel
theorem mp_117 : bk_P me_117 := bkchk_ok mo_117 (bk_split 4 mb_117_0 (bk_split 2 mb_117_1 (bk_split 4 mb_117_2 (bk_split 1 mb_117_3 (bk_split 3 mb_117_4 mb_117_5)))))
noncomputable abbrev me_118 : mE := (118, 1240, 0, 1, 389, M_118)
set_option maxRecDepth 1000000 in
theorem mo_118 : bkchk me_118 = true := by decide +kernel
set_option maxRecDepth 1000000 in
theorem mb_118_0 : bkB me_118 (M_118.2.1.take 7) = true := by decide +kernel
set_option maxRecDepth 1000000 in
theorem mb_118_1 : bkB me_118 ((M_118.2.1.drop 7).take 2) = true := by decide +kernel
set_option maxRecDepth 1000000 in
theorem mb_118_2 : bkB me_118 (((M_118.2.1.drop 7).drop 2).take 5) = true := by decide +kernel
set_option maxRecDepth 1000000 in
theorem mb_118_3 : bkB me_118 (((M_118.2.1.drop 7).drop 2).drop 5) = true := by decide +kernel
theorem mp_118 : bk_P me_118 := bkchk_ok mo_118 (bk_split 7 mb_118_0 (bk_split 2 mb_118_1 (bk_split 5 mb_118_2 mb_118_3)))
noncomputable abbrev me_119 : mE := (119, 1729, 0, 1, 0, M_119)
set_option maxRecDepth 1000000 in
theorem mo_119 : bkchk me_119 = true := by decide +kernel
set_option maxRecDepth 1000000 in
theorem mb_119_0 : bkB me_119 M_119.2.1 = true := by decide +kernel
theorem mp_119 : bk_P me_119 := bkchk_ok mo_119 mb_119_0
noncomputable abbrev me_120 : mE := (120, 1725, 0, 1, 0, M_120)
set_option maxRecDepth 1000000 in
theorem mo_120 : bkchk me_120 = true := by decide +kernel
set_option maxRecDepth 1000000 in
theorem mb_120_0 : bkB me_120 M_120.2.1 = true := by decide +kernel
theorem mp_120 : bk_P me_120 := bkchk_ok mo_120 mb_120_0
noncomputable def ME_4 : List mE := [me_91, me_92, me_93, me_94, me_95, me_96, me_97, me_98, me_99, me_100, me_101, me_102, me_103, me_104, me_105, me_106, me_107, me_108, me_109, me_110, me_111, me_112, me_113, me_114, me_115, me_116, me_117, me_118, me_119, me_120]
theorem ME_ok_4 : ∀ q ∈ ME_4, bk_P q := by
  unfold ME_4
  intro q hq
  rcases List.mem_cons.mp hq with rfl | hq
  · exact mp_91
  rcases List.mem_cons.mp hq with rfl | hq
  · exact mp_92
  rcases List.mem_cons.mp hq with rfl | hq
  · exact mp_93
  rcases List.mem_cons.mp hq with rfl | hq
  · exact mp_94
  rcases List.mem_cons.mp hq with rfl | hq
  · exact mp_95
  rcases List.mem_cons.mp hq with rfl | hq
  · exact mp_96
  rcases List.mem_cons.mp hq with rfl | hq
  · exact mp_97
  rcases List.mem_cons.mp hq with rfl | hq
  · exact mp_98
  rcases List.mem_cons.mp hq with rfl | hq
  · exact mp_99
  rcases List.mem_cons.mp hq with rfl | hq
  · exact mp_100
  rcases List.mem_cons.mp hq with rfl | hq
  · exact mp_101
  rcases List.mem_cons.mp hq with rfl | hq
  · exact mp_102
  rcases List.mem_cons.mp hq with rfl | hq
  · exact mp_103
  rcases List.mem_cons.mp hq with rfl | hq
  · exact mp_104
  rcases List.mem_cons.mp hq with rfl | hq
  · exact mp_105
  rcases List.mem_cons.mp hq with rfl | hq
  · exact mp_106
  rcases List.mem_cons.mp hq with rfl | hq
  · exact mp_107
  rcases List.mem_cons.mp hq with rfl | hq
  · exact mp_108
  rcases List.mem_cons.mp hq with rfl | hq
  · exact mp_109
  rcases List.mem_cons.mp hq with rfl | hq
  · exact mp_110
  rcases List.mem_cons.mp hq with rfl | hq
  · exact mp_111
  rcases List.mem_cons.mp hq with rfl | hq
  · exact mp_112
  rcases List.mem_cons.mp hq with rfl | hq
  · exact mp_113
  rcases List.mem_cons.mp hq with rfl | hq
  · exact mp_114
  rcases List.mem_cons.mp hq with rfl | hq
  · exact mp_115
  rcases List.mem_cons.mp hq with rfl | hq
  · exact mp_116
  rcases List.mem_cons.mp hq with rfl | hq
  · exact mp_117
  rcases List.mem_cons.mp hq with rfl | hq
  · exact mp_118
  rcases List.mem_cons.mp hq with rfl | hq
  · exact mp_119
  rcases List.mem_cons.mp hq with rfl | hq
  · exact mp_120
  cases hq
