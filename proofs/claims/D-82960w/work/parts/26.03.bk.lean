noncomputable abbrev me_61 : mE := (61, 794, 0, 2, 0, M_61)
set_option maxRecDepth 1000000 in
theorem mo_61 : bkchk me_61 = true := by decide +kernel
set_option maxRecDepth 1000000 in
theorem mb_61_0 : bkB me_61 M_61.2.1 = true := by decide +kernel
theorem mp_61 : bk_P me_61 := bkchk_ok mo_61 mb_61_0
noncomputable abbrev me_62 : mE := (62, 1244, 0, 0, 0, M_62)
set_option maxRecDepth 1000000 in
theorem mo_62 : bkchk me_62 = true := by decide +kernel
set_option maxRecDepth 1000000 in
theorem mb_62_0 : bkB me_62 M_62.2.1 = true := by decide +kernel
theorem mp_62 : bk_P me_62 := bkchk_ok mo_62 mb_62_0
noncomputable abbrev me_63 : mE := (63, 806, 0, 1, 389, M_63)
set_option maxRecDepth 1000000 in
theorem mo_63 : bkchk me_63 = true := by decide +kernel
set_option maxRecDepth 1000000 in
theorem mb_63_0 : bkB me_63 M_63.2.1 = true := by decide +kernel
theorem mp_63 : bk_P me_63 := bkchk_ok mo_63 mb_63_0
noncomputable abbrev me_64 : mE := (64, 802, 0, 1, 0, M_64)
set_option maxRecDepth 1000000 in
theorem mo_64 : bkchk me_64 = true := by decide +kernel
set_option maxRecDepth 1000000 in
theorem mb_64_0 : bkB me_64 M_64.2.1 = true := by decide +kernel
theorem mp_64 : bk_P me_64 := bkchk_ok mo_64 mb_64_0
noncomputable abbrev me_65 : mE := (65, 1058, 0, 1, 0, M_65)
set_option maxRecDepth 1000000 in
theorem mo_65 : bkchk me_65 = true := by decide +kernel
set_option maxRecDepth 1000000 in
theorem mb_65_0 : bkB me_65 M_65.2.1 = true := by decide +kernel
theorem mp_65 : bk_P me_65 := bkchk_ok mo_65 mb_65_0
noncomputable abbrev me_66 : mE := (66, 1062, 0, 3, 0, M_66)
set_option maxRecDepth 1000000 in
theorem mo_66 : bkchk me_66 = true := by decide +kernel
set_option maxRecDepth 1000000 in
theorem mb_66_0 : bkB me_66 M_66.2.1 = true := by decide +kernel
theorem mp_66 : bk_P me_66 := bkchk_ok mo_66 mb_66_0
noncomputable abbrev me_67 : mE := (67, 1070, 0, 1, 389, M_67)
set_option maxRecDepth 1000000 in
theorem mo_67 : bkchk me_67 = true := by decide +kernel
set_option maxRecDepth 1000000 in
theorem mb_67_0 : bkB me_67 M_67.2.1 = true := by decide +kernel
theorem mp_67 : bk_P me_67 := bkchk_ok mo_67 mb_67_0
noncomputable abbrev me_68 : mE := (68, 1078, 0, 0, 0, M_68)
set_option maxRecDepth 1000000 in
theorem mo_68 : bkchk me_68 = true := by decide +kernel
set_option maxRecDepth 1000000 in
theorem mb_68_0 : bkB me_68 (M_68.2.1.take 5) = true := by decide +kernel
set_option maxRecDepth 1000000 in
theorem mb_68_1 : bkB me_68 (M_68.2.1.drop 5) = true := by decide +kernel
theorem mp_68 : bk_P me_68 := bkchk_ok mo_68 (bk_split 5 mb_68_0 mb_68_1)
noncomputable abbrev me_69 : mE := (69, 1082, 0, 2, 0, M_69)
set_option maxRecDepth 1000000 in
theorem mo_69 : bkchk me_69 = true := by decide +kernel
set_option maxRecDepth 1000000 in
theorem mb_69_0 : bkB me_69 M_69.2.1 = true := by decide +kernel
theorem mp_69 : bk_P me_69 := bkchk_ok mo_69 mb_69_0
noncomputable abbrev me_70 : mE := (70, 1074, 0, 1, 389, M_70)
set_option maxRecDepth 1000000 in
theorem mo_70 : bkchk me_70 = true := by decide +kernel
set_option maxRecDepth 1000000 in
theorem mb_70_0 : bkB me_70 M_70.2.1 = true := by decide +kernel
theorem mp_70 : bk_P me_70 := bkchk_ok mo_70 mb_70_0
noncomputable abbrev me_71 : mE := (71, 1090, 0, 0, 0, M_71)
set_option maxRecDepth 1000000 in
theorem mo_71 : bkchk me_71 = true := by decide +kernel
set_option maxRecDepth 1000000 in
theorem mb_71_0 : bkB me_71 M_71.2.1 = true := by decide +kernel
theorem mp_71 : bk_P me_71 := bkchk_ok mo_71 mb_71_0
noncomputable abbrev me_72 : mE := (72, 1086, 0, 1, 389, M_72)
set_option maxRecDepth 1000000 in
theorem mo_72 : bkchk me_72 = true := by decide +kernel
set_option maxRecDepth 1000000 in
theorem mb_72_0 : bkB me_72 (M_72.2.1.take 7) = true := by decide +kernel
set_option maxRecDepth 1000000 in
theorem mb_72_1 : bkB me_72 (M_72.2.1.drop 7) = true := by decide +kernel
theorem mp_72 : bk_P me_72 := bkchk_ok mo_72 (bk_split 7 mb_72_0 mb_72_1)
noncomputable abbrev me_73 : mE := (73, 1094, 0, 1, 0, M_73)
set_option maxRecDepth 1000000 in
theorem mo_73 : bkchk me_73 = true := by decide +kernel
set_option maxRecDepth 1000000 in
theorem mb_73_0 : bkB me_73 M_73.2.1 = true := by decide +kernel
theorem mp_73 : bk_P me_73 := bkchk_ok mo_73 mb_73_0
noncomputable abbrev me_74 : mE := (74, 1098, 0, 1, 0, M_74)
set_option maxRecDepth 1000000 in
theorem mo_74 : bkchk me_74 = true := by decide +kernel
set_option maxRecDepth 1000000 in
theorem mb_74_0 : bkB me_74 M_74.2.1 = true := by decide +kernel
theorem mp_74 : bk_P me_74 := bkchk_ok mo_74 mb_74_0
noncomputable abbrev me_75 : mE := (75, 1102, 0, 1, 0, M_75)
set_option maxRecDepth 1000000 in
theorem mo_75 : bkchk me_75 = true := by decide +kernel
set_option maxRecDepth 1000000 in
theorem mb_75_0 : bkB me_75 M_75.2.1 = true := by decide +kernel
theorem mp_75 : bk_P me_75 := bkchk_ok mo_75 mb_75_0
noncomputable abbrev me_76 : mE := (76, 1106, 0, 1, 0, M_76)
set_option maxRecDepth 1000000 in
theorem mo_76 : bkchk me_76 = true := by decide +kernel
set_option maxRecDepth 1000000 in
theorem mb_76_0 : bkB me_76 (M_76.2.1.take 8) = true := by decide +kernel
set_option maxRecDepth 1000000 in
theorem mb_76_1 : bkB me_76 ((M_76.2.1.drop 8).take 5) = true := by decide +kernel
set_option maxRecDepth 1000000 in
theorem mb_76_2 : bkB me_76 (((M_76.2.1.drop 8).drop 5).take 4) = true := by decide +kernel
set_option maxRecDepth 1000000 in
theorem mb_76_3 : bkB me_76 ((((M_76.2.1.drop 8).drop 5).drop 4).take 3) = true := by decide +kernel
set_option maxRecDepth 1000000 in
theorem mb_76_4 : bkB me_76 (((((M_76.2.1.drop 8).drop 5).drop 4).drop 3).take 2) = true := by decide +kernel
set_option maxRecDepth 1000000 in
theorem mb_76_5 : bkB me_76 (((((M_76.2.1.drop 8).drop 5).drop 4).drop 3).drop 2) = true := by decide +kernel
theorem mp_76 : bk_P me_76 := bkchk_ok mo_76 (bk_split 8 mb_76_0 (bk_split 5 mb_76_1 (bk_split 4 mb_76_2 (bk_split 3 mb_76_3 (bk_split 2 mb_76_4 mb_76_5)))))
noncomputable abbrev me_77 : mE := (77, 1110, 0, 2, 0, M_77)
set_option maxRecDepth 1000000 in
theorem mo_77 : bkchk me_77 = true := by decide +kernel
set_option maxRecDepth 1000000 in
theorem mb_77_0 : bkB me_77 M_77.2.1 = true := by decide +kernel
theorem mp_77 : bk_P me_77 := bkchk_ok mo_77 mb_77_0
noncomputable abbrev me_78 : mE := (78, 1114, 0, 3, 0, M_78)
set_option maxRecDepth 1000000 in
theorem mo_78 : bkchk me_78 = true := by decide +kernel
set_option maxRecDepth 1000000 in
theorem mb_78_0 : bkB me_78 M_78.2.1 = true := by decide +kernel
theorem mp_78 : bk_P me_78 := bkchk_ok mo_78 mb_78_0
noncomputable abbrev me_79 : mE := (79, 1122, 0, 2, 0, M_79)
set_option maxRecDepth 1000000 in
theorem mo_79 : bkchk me_79 = true := by decide +kernel
set_option maxRecDepth 1000000 in
theorem mb_79_0 : bkB me_79 M_79.2.1 = true := by decide +kernel
theorem mp_79 : bk_P me_79 := bkchk_ok mo_79 mb_79_0
noncomputable abbrev me_80 : mE := (80, 1118, 0, 3, 389, M_80)
set_option maxRecDepth 1000000 in
theorem mo_80 : bkchk me_80 = true := by decide +kernel
set_option maxRecDepth 1000000 in
theorem mb_80_0 : bkB me_80 (M_80.2.1.take 6) = true := by decide +kernel
set_option maxRecDepth 1000000 in
theorem mb_80_1 : bkB me_80 (M_80.2.1.drop 6) = true := by decide +kernel
theorem mp_80 : bk_P me_80 := bkchk_ok mo_80 (bk_split 6 mb_80_0 mb_80_1)
noncomputable abbrev me_81 : mE := (81, 1126, 0, 1, 0, M_81)
set_option maxRecDepth 1000000 in
theorem mo_81 : bkchk me_81 = true := by decide +kernel
set_option maxRecDepth 1000000 in
theorem mb_81_0 : bkB me_81 M_81.2.1 = true := by decide +kernel
theorem mp_81 : bk_P me_81 := bkchk_ok mo_81 mb_81_0
noncomputable abbrev me_82 : mE := (82, 1130, 0, 1, 0, M_82)
set_option maxRecDepth 1000000 in
theorem mo_82 : bkchk me_82 = true := by decide +kernel
set_option maxRecDepth 1000000 in
theorem mb_82_0 : bkB me_82 M_82.2.1 = true := by decide +kernel
theorem mp_82 : bk_P me_82 := bkchk_ok mo_82 mb_82_0
noncomputable abbrev me_83 : mE := (83, 1139, 0, 2, 0, M_83)
set_option maxRecDepth 1000000 in
theorem mo_83 : bkchk me_83 = true := by decide +kernel
set_option maxRecDepth 1000000 in
theorem mb_83_0 : bkB me_83 M_83.2.1 = true := by decide +kernel
theorem mp_83 : bk_P me_83 := bkchk_ok mo_83 mb_83_0
noncomputable abbrev me_84 : mE := (84, 1147, 0, 2, 0, M_84)
set_option maxRecDepth 1000000 in
theorem mo_84 : bkchk me_84 = true := by decide +kernel
set_option maxRecDepth 1000000 in
theorem mb_84_0 : bkB me_84 M_84.2.1 = true := by decide +kernel
theorem mp_84 : bk_P me_84 := bkchk_ok mo_84 mb_84_0
noncomputable abbrev me_85 : mE := (85, 1143, 0, 1, 0, M_85)
set_option maxRecDepth 1000000 in
theorem mo_85 : bkchk me_85 = true := by decide +kernel
set_option maxRecDepth 1000000 in
theorem mb_85_0 : bkB me_85 (M_85.2.1.take 5) = true := by decide +kernel
set_option maxRecDepth 1000000 in
theorem mb_85_1 : bkB me_85 (M_85.2.1.drop 5) = true := by decide +kernel
theorem mp_85 : bk_P me_85 := bkchk_ok mo_85 (bk_split 5 mb_85_0 mb_85_1)
noncomputable abbrev me_86 : mE := (86, 1135, 0, 1, 0, M_86)
set_option maxRecDepth 1000000 in
theorem mo_86 : bkchk me_86 = true := by decide +kernel
set_option maxRecDepth 1000000 in
theorem mb_86_0 : bkB me_86 (M_86.2.1.take 6) = true := by decide +kernel
set_option maxRecDepth 1000000 in
theorem mb_86_1 : bkB me_86 ((M_86.2.1.drop 6).take 2) = true := by decide +kernel
set_option maxRecDepth 1000000 in
theorem mb_86_2 : bkB me_86 ((M_86.2.1.drop 6).drop 2) = true := by decide +kernel
theorem mp_86 : bk_P me_86 := bkchk_ok mo_86 (bk_split 6 mb_86_0 (bk_split 2 mb_86_1 mb_86_2))
noncomputable abbrev me_87 : mE := (87, 1155, 0, 2, 0, M_87)
set_option maxRecDepth 1000000 in
theorem mo_87 : bkchk me_87 = true := by decide +kernel
set_option maxRecDepth 1000000 in
theorem mb_87_0 : bkB me_87 (M_87.2.1.take 6) = true := by decide +kernel
set_option maxRecDepth 1000000 in
theorem mb_87_1 : bkB me_87 (M_87.2.1.drop 6) = true := by decide +kernel
theorem mp_87 : bk_P me_87 := bkchk_ok mo_87 (bk_split 6 mb_87_0 mb_87_1)
noncomputable abbrev me_88 : mE := (88, 1151, 0, 1, 389, M_88)
set_option maxRecDepth 1000000 in
theorem mo_88 : bkchk me_88 = true := by decide +kernel
set_option maxRecDepth 1000000 in
theorem mb_88_0 : bkB me_88 (M_88.2.1.take 4) = true := by decide +kernel
set_option maxRecDepth 1000000 in
theorem mb_88_1 : bkB me_88 ((M_88.2.1.drop 4).take 4) = true := by decide +kernel
set_option maxRecDepth 1000000 in
theorem mb_88_2 : bkB me_88 ((M_88.2.1.drop 4).drop 4) = true := by decide +kernel
theorem mp_88 : bk_P me_88 := bkchk_ok mo_88 (bk_split 4 mb_88_0 (bk_split 4 mb_88_1 mb_88_2))
noncomputable abbrev me_89 : mE := (89, 1159, 0, 1, 0, M_89)
set_option maxRecDepth 1000000 in
theorem mo_89 : bkchk me_89 = true := by decide +kernel
set_option maxRecDepth 1000000 in
theorem mb_89_0 : bkB me_89 (M_89.2.1.take 1) = true := by decide +kernel
set_option maxRecDepth 1000000 in
theorem mb_89_1 : bkB me_89 ((M_89.2.1.drop 1).take 1) = true := by decide +kernel
set_option maxRecDepth 1000000 in
theorem mb_89_2 : bkB me_89 ((M_89.2.1.drop 1).drop 1) = true := by decide +kernel
theorem mp_89 : bk_P me_89 := bkchk_ok mo_89 (bk_split 1 mb_89_0 (bk_split 1 mb_89_1 mb_89_2))
noncomputable abbrev me_90 : mE := (90, 1167, 0, 1, 0, M_90)
set_option maxRecDepth 1000000 in
theorem mo_90 : bkchk me_90 = true := by decide +kernel
set_option maxRecDepth 1000000 in
theorem mb_90_0 : bkB me_90 M_90.2.1 = true := by decide +kernel
theorem mp_90 : bk_P me_90 := bkchk_ok mo_90 mb_90_0
noncomputable def ME_3 : List mE := [me_61, me_62, me_63, me_64, me_65, me_66, me_67, me_68, me_69, me_70, me_71, me_72, me_73, me_74, me_75, me_76, me_77, me_78, me_79, me_80, me_81, me_82, me_83, me_84, me_85, me_86, me_87, me_88, me_89, me_90]
theorem ME_ok_3 : ∀ q ∈ ME_3, bk_P q := by
  unfold ME_3
  intro q hq
  rcases List.mem_cons.mp hq with rfl | hq
  · exact mp_61
  rcases List.mem_cons.mp hq with rfl | hq
  · exact mp_62
  rcases List.mem_cons.mp hq with rfl | hq
  · exact mp_63
  rcases List.mem_cons.mp hq with rfl | hq
  · exact mp_64
  rcases List.mem_cons.mp hq with rfl | hq
  · exact mp_65
  rcases List.mem_cons.mp hq with rfl | hq
  · exact mp_66
  rcases List.mem_cons.mp hq with rfl | hq
  · exact mp_67
  rcases List.mem_cons.mp hq with rfl | hq
  · exact mp_68
  rcases List.mem_cons.mp hq with rfl | hq
  · exact mp_69
  rcases List.mem_cons.mp hq with rfl | hq
  · exact mp_70
  rcases List.mem_cons.mp hq with rfl | hq
  · exact mp_71
  rcases List.mem_cons.mp hq with rfl | hq
  · exact mp_72
  rcases List.mem_cons.mp hq with rfl | hq
  · exact mp_73
  rcases List.mem_cons.mp hq with rfl | hq
  · exact mp_74
  rcases List.mem_cons.mp hq with rfl | hq
  · exact mp_75
  rcases List.mem_cons.mp hq with rfl | hq
  · exact mp_76
  rcases List.mem_cons.mp hq with rfl | hq
  · exact mp_77
  rcases List.mem_cons.mp hq with rfl | hq
  · exact mp_78
  rcases List.mem_cons.mp hq with rfl | hq
  · exact mp_79
  rcases List.mem_cons.mp hq with rfl | hq
  · exact mp_80
  rcases List.mem_cons.mp hq with rfl | hq
  · exact mp_81
  rcases List.mem_cons.mp hq with rfl | hq
  · exact mp_82
  rcases List.mem_cons.mp hq with rfl | hq
  · exact mp_83
  rcases List.mem_cons.mp hq with rfl | hq
  · exact mp_84
  rcases List.mem_cons.mp hq with rfl | hq
  · exact mp_85
  rcases List.mem_cons.mp hq with rfl | hq
  · exact mp_86
  rcases List.mem_cons.mp hq with rfl | hq
  · exact mp_87
  rcases List.mem_cons.mp hq with rfl | hq
  · exact mp_88
  rcases List.mem_cons.mp hq with rfl | hq
  · exact mp_89
  rcases List.mem_cons.mp hq with rfl | hq
  · exact mp_90
  cases hq
