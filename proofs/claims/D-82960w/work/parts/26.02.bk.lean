noncomputable abbrev me_30 : mE := (30, 971, 0, 0, 0, M_30)
set_option maxRecDepth 1000000 in
theorem mo_30 : bkchk me_30 = true := by decide +kernel
set_option maxRecDepth 1000000 in
theorem mb_30_0 : bkB me_30 M_30.2.1 = true := by decide +kernel
theorem mp_30 : bk_P me_30 := bkchk_ok mo_30 mb_30_0
noncomputable abbrev me_31 : mE := (31, 992, 0, 2, 0, M_31)
set_option maxRecDepth 1000000 in
theorem mo_31 : bkchk me_31 = true := by decide +kernel
set_option maxRecDepth 1000000 in
theorem mb_31_0 : bkB me_31 (M_31.2.1.take 3) = true := by decide +kernel
set_option maxRecDepth 1000000 in
theorem mb_31_1 : bkB me_31 (M_31.2.1.drop 3) = true := by decide +kernel
theorem mp_31 : bk_P me_31 := bkchk_ok mo_31 (bk_split 3 mb_31_0 mb_31_1)
noncomputable abbrev me_32 : mE := (32, 999, 0, 0, 0, M_32)
set_option maxRecDepth 1000000 in
theorem mo_32 : bkchk me_32 = true := by decide +kernel
set_option maxRecDepth 1000000 in
theorem mb_32_0 : bkB me_32 M_32.2.1 = true := by decide +kernel
theorem mp_32 : bk_P me_32 := bkchk_ok mo_32 mb_32_0
noncomputable abbrev me_33 : mE := (33, 1027, 0, 0, 0, M_33)
set_option maxRecDepth 1000000 in
theorem mo_33 : bkchk me_33 = true := by decide +kernel
set_option maxRecDepth 1000000 in
theorem mb_33_0 : bkB me_33 (M_33.2.1.take 2) = true := by decide +kernel
set_option maxRecDepth 1000000 in
theorem mb_33_1 : bkB me_33 ((M_33.2.1.drop 2).take 3) = true := by decide +kernel
set_option maxRecDepth 1000000 in
theorem mb_33_2 : bkB me_33 ((M_33.2.1.drop 2).drop 3) = true := by decide +kernel
theorem mp_33 : bk_P me_33 := bkchk_ok mo_33 (bk_split 2 mb_33_0 (bk_split 3 mb_33_1 mb_33_2))
noncomputable abbrev me_34 : mE := (34, 913, 0, 0, 0, M_34)
set_option maxRecDepth 1000000 in
theorem mo_34 : bkchk me_34 = true := by decide +kernel
set_option maxRecDepth 1000000 in
theorem mb_34_0 : bkB me_34 M_34.2.1 = true := by decide +kernel
theorem mp_34 : bk_P me_34 := bkchk_ok mo_34 mb_34_0
noncomputable abbrev me_35 : mE := (35, 854, 0, 0, 0, M_35)
set_option maxRecDepth 1000000 in
theorem mo_35 : bkchk me_35 = true := by decide +kernel
set_option maxRecDepth 1000000 in
theorem mb_35_0 : bkB me_35 M_35.2.1 = true := by decide +kernel
theorem mp_35 : bk_P me_35 := bkchk_ok mo_35 mb_35_0
noncomputable abbrev me_36 : mE := (36, 818, 0, 0, 0, M_36)
set_option maxRecDepth 1000000 in
theorem mo_36 : bkchk me_36 = true := by decide +kernel
set_option maxRecDepth 1000000 in
theorem mb_36_0 : bkB me_36 (M_36.2.1.take 6) = true := by decide +kernel
set_option maxRecDepth 1000000 in
theorem mb_36_1 : bkB me_36 (M_36.2.1.drop 6) = true := by decide +kernel
theorem mp_36 : bk_P me_36 := bkchk_ok mo_36 (bk_split 6 mb_36_0 mb_36_1)
noncomputable abbrev me_37 : mE := (37, 941, 0, 0, 0, M_37)
set_option maxRecDepth 1000000 in
theorem mo_37 : bkchk me_37 = true := by decide +kernel
set_option maxRecDepth 1000000 in
theorem mb_37_0 : bkB me_37 (M_37.2.1.take 5) = true := by decide +kernel
set_option maxRecDepth 1000000 in
theorem mb_37_1 : bkB me_37 (M_37.2.1.drop 5) = true := by decide +kernel
theorem mp_37 : bk_P me_37 := bkchk_ok mo_37 (bk_split 5 mb_37_0 mb_37_1)
noncomputable abbrev me_38 : mE := (38, 937, 0, 3, 0, M_38)
set_option maxRecDepth 1000000 in
theorem mo_38 : bkchk me_38 = true := by decide +kernel
set_option maxRecDepth 1000000 in
theorem mb_38_0 : bkB me_38 M_38.2.1 = true := by decide +kernel
theorem mp_38 : bk_P me_38 := bkchk_ok mo_38 mb_38_0
noncomputable abbrev me_39 : mE := (39, 946, 0, 3, 0, M_39)
set_option maxRecDepth 1000000 in
theorem mo_39 : bkchk me_39 = true := by decide +kernel
set_option maxRecDepth 1000000 in
theorem mb_39_0 : bkB me_39 M_39.2.1 = true := by decide +kernel
theorem mp_39 : bk_P me_39 := bkchk_ok mo_39 mb_39_0
noncomputable abbrev me_40 : mE := (40, 954, 0, 0, 0, M_40)
set_option maxRecDepth 1000000 in
theorem mo_40 : bkchk me_40 = true := by decide +kernel
set_option maxRecDepth 1000000 in
theorem mb_40_0 : bkB me_40 M_40.2.1 = true := by decide +kernel
theorem mp_40 : bk_P me_40 := bkchk_ok mo_40 mb_40_0
noncomputable abbrev me_41 : mE := (41, 950, 0, 0, 0, M_41)
set_option maxRecDepth 1000000 in
theorem mo_41 : bkchk me_41 = true := by decide +kernel
set_option maxRecDepth 1000000 in
theorem mb_41_0 : bkB me_41 (M_41.2.1.take 5) = true := by decide +kernel
set_option maxRecDepth 1000000 in
theorem mb_41_1 : bkB me_41 ((M_41.2.1.drop 5).take 3) = true := by decide +kernel
set_option maxRecDepth 1000000 in
theorem mb_41_2 : bkB me_41 ((M_41.2.1.drop 5).drop 3) = true := by decide +kernel
theorem mp_41 : bk_P me_41 := bkchk_ok mo_41 (bk_split 5 mb_41_0 (bk_split 3 mb_41_1 mb_41_2))
noncomputable abbrev me_42 : mE := (42, 958, 0, 2, 0, M_42)
set_option maxRecDepth 1000000 in
theorem mo_42 : bkchk me_42 = true := by decide +kernel
set_option maxRecDepth 1000000 in
theorem mb_42_0 : bkB me_42 (M_42.2.1.take 4) = true := by decide +kernel
set_option maxRecDepth 1000000 in
theorem mb_42_1 : bkB me_42 ((M_42.2.1.drop 4).take 7) = true := by decide +kernel
set_option maxRecDepth 1000000 in
theorem mb_42_2 : bkB me_42 ((M_42.2.1.drop 4).drop 7) = true := by decide +kernel
theorem mp_42 : bk_P me_42 := bkchk_ok mo_42 (bk_split 4 mb_42_0 (bk_split 7 mb_42_1 mb_42_2))
noncomputable abbrev me_43 : mE := (43, 967, 0, 0, 389, M_43)
set_option maxRecDepth 1000000 in
theorem mo_43 : bkchk me_43 = true := by decide +kernel
set_option maxRecDepth 1000000 in
theorem mb_43_0 : bkB me_43 (M_43.2.1.take 2) = true := by decide +kernel
set_option maxRecDepth 1000000 in
theorem mb_43_1 : bkB me_43 ((M_43.2.1.drop 2).take 6) = true := by decide +kernel
set_option maxRecDepth 1000000 in
theorem mb_43_2 : bkB me_43 ((M_43.2.1.drop 2).drop 6) = true := by decide +kernel
theorem mp_43 : bk_P me_43 := bkchk_ok mo_43 (bk_split 2 mb_43_0 (bk_split 6 mb_43_1 mb_43_2))
noncomputable abbrev me_44 : mE := (44, 975, 0, 2, 0, M_44)
set_option maxRecDepth 1000000 in
theorem mo_44 : bkchk me_44 = true := by decide +kernel
set_option maxRecDepth 1000000 in
theorem mb_44_0 : bkB me_44 M_44.2.1 = true := by decide +kernel
theorem mp_44 : bk_P me_44 := bkchk_ok mo_44 mb_44_0
noncomputable abbrev me_45 : mE := (45, 886, 0, 2, 0, M_45)
set_option maxRecDepth 1000000 in
theorem mo_45 : bkchk me_45 = true := by decide +kernel
set_option maxRecDepth 1000000 in
theorem mb_45_0 : bkB me_45 (M_45.2.1.take 1) = true := by decide +kernel
set_option maxRecDepth 1000000 in
theorem mb_45_1 : bkB me_45 ((M_45.2.1.drop 1).take 6) = true := by decide +kernel
set_option maxRecDepth 1000000 in
theorem mb_45_2 : bkB me_45 ((M_45.2.1.drop 1).drop 6) = true := by decide +kernel
theorem mp_45 : bk_P me_45 := bkchk_ok mo_45 (bk_split 1 mb_45_0 (bk_split 6 mb_45_1 mb_45_2))
noncomputable abbrev me_46 : mE := (46, 905, 0, 0, 0, M_46)
set_option maxRecDepth 1000000 in
theorem mo_46 : bkchk me_46 = true := by decide +kernel
set_option maxRecDepth 1000000 in
theorem mb_46_0 : bkB me_46 (M_46.2.1.take 1) = true := by decide +kernel
set_option maxRecDepth 1000000 in
theorem mb_46_1 : bkB me_46 (M_46.2.1.drop 1) = true := by decide +kernel
theorem mp_46 : bk_P me_46 := bkchk_ok mo_46 (bk_split 1 mb_46_0 mb_46_1)
noncomputable abbrev me_47 : mE := (47, 874, 0, 1, 0, M_47)
set_option maxRecDepth 1000000 in
theorem mo_47 : bkchk me_47 = true := by decide +kernel
set_option maxRecDepth 1000000 in
theorem mb_47_0 : bkB me_47 M_47.2.1 = true := by decide +kernel
theorem mp_47 : bk_P me_47 := bkchk_ok mo_47 mb_47_0
noncomputable abbrev me_48 : mE := (48, 870, 0, 2, 0, M_48)
set_option maxRecDepth 1000000 in
theorem mo_48 : bkchk me_48 = true := by decide +kernel
set_option maxRecDepth 1000000 in
theorem mb_48_0 : bkB me_48 M_48.2.1 = true := by decide +kernel
theorem mp_48 : bk_P me_48 := bkchk_ok mo_48 mb_48_0
noncomputable abbrev me_49 : mE := (49, 866, 0, 0, 0, M_49)
set_option maxRecDepth 1000000 in
theorem mo_49 : bkchk me_49 = true := by decide +kernel
set_option maxRecDepth 1000000 in
theorem mb_49_0 : bkB me_49 (M_49.2.1.take 7) = true := by decide +kernel
set_option maxRecDepth 1000000 in
theorem mb_49_1 : bkB me_49 ((M_49.2.1.drop 7).take 1) = true := by decide +kernel
set_option maxRecDepth 1000000 in
theorem mb_49_2 : bkB me_49 ((M_49.2.1.drop 7).drop 1) = true := by decide +kernel
theorem mp_49 : bk_P me_49 := bkchk_ok mo_49 (bk_split 7 mb_49_0 (bk_split 1 mb_49_1 mb_49_2))
noncomputable abbrev me_50 : mE := (50, 814, 0, 0, 0, M_50)
set_option maxRecDepth 1000000 in
theorem mo_50 : bkchk me_50 = true := by decide +kernel
set_option maxRecDepth 1000000 in
theorem mb_50_0 : bkB me_50 M_50.2.1 = true := by decide +kernel
theorem mp_50 : bk_P me_50 := bkchk_ok mo_50 mb_50_0
noncomputable abbrev me_51 : mE := (51, 810, 0, 1, 0, M_51)
set_option maxRecDepth 1000000 in
theorem mo_51 : bkchk me_51 = true := by decide +kernel
set_option maxRecDepth 1000000 in
theorem mb_51_0 : bkB me_51 M_51.2.1 = true := by decide +kernel
theorem mp_51 : bk_P me_51 := bkchk_ok mo_51 mb_51_0
noncomputable abbrev me_52 : mE := (52, 837, 0, 1, 0, M_52)
set_option maxRecDepth 1000000 in
theorem mo_52 : bkchk me_52 = true := by decide +kernel
set_option maxRecDepth 1000000 in
theorem mb_52_0 : bkB me_52 M_52.2.1 = true := by decide +kernel
theorem mp_52 : bk_P me_52 := bkchk_ok mo_52 mb_52_0
noncomputable abbrev me_53 : mE := (53, 858, 0, 1, 0, M_53)
set_option maxRecDepth 1000000 in
theorem mo_53 : bkchk me_53 = true := by decide +kernel
set_option maxRecDepth 1000000 in
theorem mb_53_0 : bkB me_53 M_53.2.1 = true := by decide +kernel
theorem mp_53 : bk_P me_53 := bkchk_ok mo_53 mb_53_0
noncomputable abbrev me_54 : mE := (54, 862, 0, 1, 389, M_54)
set_option maxRecDepth 1000000 in
theorem mo_54 : bkchk me_54 = true := by decide +kernel
set_option maxRecDepth 1000000 in
theorem mb_54_0 : bkB me_54 M_54.2.1 = true := by decide +kernel
theorem mp_54 : bk_P me_54 := bkchk_ok mo_54 mb_54_0
noncomputable abbrev me_55 : mE := (55, 1054, 0, 0, 0, M_55)
set_option maxRecDepth 1000000 in
theorem mo_55 : bkchk me_55 = true := by decide +kernel
set_option maxRecDepth 1000000 in
theorem mb_55_0 : bkB me_55 (M_55.2.1.take 2) = true := by decide +kernel
set_option maxRecDepth 1000000 in
theorem mb_55_1 : bkB me_55 (M_55.2.1.drop 2) = true := by decide +kernel
theorem mp_55 : bk_P me_55 := bkchk_ok mo_55 (bk_split 2 mb_55_0 mb_55_1)
noncomputable abbrev me_56 : mE := (56, 1042, 0, 2, 389, M_56)
set_option maxRecDepth 1000000 in
theorem mo_56 : bkchk me_56 = true := by decide +kernel
set_option maxRecDepth 1000000 in
theorem mb_56_0 : bkB me_56 M_56.2.1 = true := by decide +kernel
theorem mp_56 : bk_P me_56 := bkchk_ok mo_56 mb_56_0
noncomputable abbrev me_57 : mE := (57, 1038, 0, 2, 0, M_57)
set_option maxRecDepth 1000000 in
theorem mo_57 : bkchk me_57 = true := by decide +kernel
set_option maxRecDepth 1000000 in
theorem mb_57_0 : bkB me_57 M_57.2.1 = true := by decide +kernel
theorem mp_57 : bk_P me_57 := bkchk_ok mo_57 mb_57_0
noncomputable abbrev me_58 : mE := (58, 1046, 0, 0, 0, M_58)
set_option maxRecDepth 1000000 in
theorem mo_58 : bkchk me_58 = true := by decide +kernel
set_option maxRecDepth 1000000 in
theorem mb_58_0 : bkB me_58 (M_58.2.1.take 5) = true := by decide +kernel
set_option maxRecDepth 1000000 in
theorem mb_58_1 : bkB me_58 ((M_58.2.1.drop 5).take 5) = true := by decide +kernel
set_option maxRecDepth 1000000 in
theorem mb_58_2 : bkB me_58 (((M_58.2.1.drop 5).drop 5).take 5) = true := by decide +kernel
set_option maxRecDepth 1000000 in
theorem mb_58_3 : bkB me_58 (((M_58.2.1.drop 5).drop 5).drop 5) = true := by decide +kernel
theorem mp_58 : bk_P me_58 := bkchk_ok mo_58 (bk_split 5 mb_58_0 (bk_split 5 mb_58_1 (bk_split 5 mb_58_2 mb_58_3)))
noncomputable abbrev me_60 : mE := (60, 798, 0, 0, 0, M_60)
set_option maxRecDepth 1000000 in
theorem mo_60 : bkchk me_60 = true := by decide +kernel
set_option maxRecDepth 1000000 in
theorem mb_60_0 : bkB me_60 M_60.2.1 = true := by decide +kernel
theorem mp_60 : bk_P me_60 := bkchk_ok mo_60 mb_60_0
noncomputable def ME_2 : List mE := [me_30, me_31, me_32, me_33, me_34, me_35, me_36, me_37, me_38, me_39, me_40, me_41, me_42, me_43, me_44, me_45, me_46, me_47, me_48, me_49, me_50, me_51, me_52, me_53, me_54, me_55, me_56, me_57, me_58, me_60]
theorem ME_ok_2 : ∀ q ∈ ME_2, bk_P q := by
  unfold ME_2
  intro q hq
  rcases List.mem_cons.mp hq with rfl | hq
  · exact mp_30
  rcases List.mem_cons.mp hq with rfl | hq
  · exact mp_31
  rcases List.mem_cons.mp hq with rfl | hq
  · exact mp_32
  rcases List.mem_cons.mp hq with rfl | hq
  · exact mp_33
  rcases List.mem_cons.mp hq with rfl | hq
  · exact mp_34
  rcases List.mem_cons.mp hq with rfl | hq
  · exact mp_35
  rcases List.mem_cons.mp hq with rfl | hq
  · exact mp_36
  rcases List.mem_cons.mp hq with rfl | hq
  · exact mp_37
  rcases List.mem_cons.mp hq with rfl | hq
  · exact mp_38
  rcases List.mem_cons.mp hq with rfl | hq
  · exact mp_39
  rcases List.mem_cons.mp hq with rfl | hq
  · exact mp_40
  rcases List.mem_cons.mp hq with rfl | hq
  · exact mp_41
  rcases List.mem_cons.mp hq with rfl | hq
  · exact mp_42
  rcases List.mem_cons.mp hq with rfl | hq
  · exact mp_43
  rcases List.mem_cons.mp hq with rfl | hq
  · exact mp_44
  rcases List.mem_cons.mp hq with rfl | hq
  · exact mp_45
  rcases List.mem_cons.mp hq with rfl | hq
  · exact mp_46
  rcases List.mem_cons.mp hq with rfl | hq
  · exact mp_47
  rcases List.mem_cons.mp hq with rfl | hq
  · exact mp_48
  rcases List.mem_cons.mp hq with rfl | hq
  · exact mp_49
  rcases List.mem_cons.mp hq with rfl | hq
  · exact mp_50
  rcases List.mem_cons.mp hq with rfl | hq
  · exact mp_51
  rcases List.mem_cons.mp hq with rfl | hq
  · exact mp_52
  rcases List.mem_cons.mp hq with rfl | hq
  · exact mp_53
  rcases List.mem_cons.mp hq with rfl | hq
  · exact mp_54
  rcases List.mem_cons.mp hq with rfl | hq
  · exact mp_55
  rcases List.mem_cons.mp hq with rfl | hq
  · exact mp_56
  rcases List.mem_cons.mp hq with rfl | hq
  · exact mp_57
  rcases List.mem_cons.mp hq with rfl | hq
  · exact mp_58
  rcases List.mem_cons.mp hq with rfl | hq
  · exact mp_60
  cases hq
