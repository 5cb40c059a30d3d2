noncomputable abbrev me_0 : mE := (0, 826, 0, 4, 0, M_0)
set_option maxRecDepth 1000000 in
theorem mo_0 : bkchk me_0 = true := by decide +kernel
set_option maxRecDepth 1000000 in
theorem mb_0_0 : bkB me_0 M_0.2.1 = true := by decide +kernel
theorem mp_0 : bk_P me_0 := bkchk_ok mo_0 mb_0_0
noncomputable abbrev me_1 : mE := (1, 909, 0, 2, 0, M_1)
set_option maxRecDepth 1000000 in
theorem mo_1 : bkchk me_1 = true := by decide +kernel
set_option maxRecDepth 1000000 in
theorem mb_1_0 : bkB me_1 M_1.2.1 = true := by decide +kernel
theorem mp_1 : bk_P me_1 := bkchk_ok mo_1 mb_1_0
noncomputable abbrev me_2 : mE := (2, 833, 0, 1, 0, M_2)
set_option maxRecDepth 1000000 in
theorem mo_2 : bkchk me_2 = true := by decide +kernel
set_option maxRecDepth 1000000 in
theorem mb_2_0 : bkB me_2 M_2.2.1 = true := by decide +kernel
theorem mp_2 : bk_P me_2 := bkchk_ok mo_2 mb_2_0
noncomputable abbrev me_3 : mE := (3, 894, 0, 1, 0, M_3)
set_option maxRecDepth 1000000 in
theorem mo_3 : bkchk me_3 = true := by decide +kernel
set_option maxRecDepth 1000000 in
theorem mb_3_0 : bkB me_3 M_3.2.1 = true := by decide +kernel
theorem mp_3 : bk_P me_3 := bkchk_ok mo_3 mb_3_0
noncomputable abbrev me_4 : mE := (4, 890, 0, 2, 0, M_4)
set_option maxRecDepth 1000000 in
theorem mo_4 : bkchk me_4 = true := by decide +kernel
set_option maxRecDepth 1000000 in
theorem mb_4_0 : bkB me_4 M_4.2.1 = true := by decide +kernel
theorem mp_4 : bk_P me_4 := bkchk_ok mo_4 mb_4_0
noncomputable abbrev me_5 : mE := (5, 917, 0, 4, 0, M_5)
set_option maxRecDepth 1000000 in
theorem mo_5 : bkchk me_5 = true := by decide +kernel
set_option maxRecDepth 1000000 in
theorem mb_5_0 : bkB me_5 M_5.2.1 = true := by decide +kernel
theorem mp_5 : bk_P me_5 := bkchk_ok mo_5 mb_5_0
noncomputable abbrev me_6 : mE := (6, 982, 0, 1, 0, M_6)
set_option maxRecDepth 1000000 in
theorem mo_6 : bkchk me_6 = true := by decide +kernel
set_option maxRecDepth 1000000 in
theorem mb_6_0 : bkB me_6 M_6.2.1 = true := by decide +kernel
theorem mp_6 : bk_P me_6 := bkchk_ok mo_6 mb_6_0
noncomputable abbrev me_7 : mE := (7, 1066, 0, 2, 0, M_7)
set_option maxRecDepth 1000000 in
theorem mo_7 : bkchk me_7 = true := by decide +kernel
set_option maxRecDepth 1000000 in
theorem mb_7_0 : bkB me_7 M_7.2.1 = true := by decide +kernel
theorem mp_7 : bk_P me_7 := bkchk_ok mo_7 mb_7_0
noncomputable abbrev me_8 : mE := (8, 1007, 0, 1, 0, M_8)
set_option maxRecDepth 1000000 in
theorem mo_8 : bkchk me_8 = true := by decide +kernel
set_option maxRecDepth 1000000 in
theorem mb_8_0 : bkB me_8 M_8.2.1 = true := by decide +kernel
theorem mp_8 : bk_P me_8 := bkchk_ok mo_8 mb_8_0
noncomputable abbrev me_9 : mE := (9, 1019, 0, 2, 0, M_9)
set_option maxRecDepth 1000000 in
theorem mo_9 : bkchk me_9 = true := by decide +kernel
set_option maxRecDepth 1000000 in
theorem mb_9_0 : bkB me_9 M_9.2.1 = true := by decide +kernel
theorem mp_9 : bk_P me_9 := bkchk_ok mo_9 mb_9_0
noncomputable abbrev me_10 : mE := (10, 963, 0, 3, 0, M_10)
set_option maxRecDepth 1000000 in
theorem mo_10 : bkchk me_10 = true := by decide +kernel
set_option maxRecDepth 1000000 in
theorem mb_10_0 : bkB me_10 M_10.2.1 = true := by decide +kernel
theorem mp_10 : bk_P me_10 := bkchk_ok mo_10 mb_10_0
noncomputable abbrev me_11 : mE := (11, 1011, 0, 2, 0, M_11)
set_option maxRecDepth 1000000 in
theorem mo_11 : bkchk me_11 = true := by decide +kernel
set_option maxRecDepth 1000000 in
theorem mb_11_0 : bkB me_11 (M_11.2.1.take 7) = true := by decide +kernel
set_option maxRecDepth 1000000 in
theorem mb_11_1 : bkB me_11 (M_11.2.1.drop 7) = true := by decide +kernel
theorem mp_11 : bk_P me_11 := bkchk_ok mo_11 (bk_split 7 mb_11_0 mb_11_1)
noncomputable abbrev me_12 : mE := (12, 830, 0, 0, 0, M_12)
set_option maxRecDepth 1000000 in
theorem mo_12 : bkchk me_12 = true := by decide +kernel
set_option maxRecDepth 1000000 in
theorem mb_12_0 : bkB me_12 M_12.2.1 = true := by decide +kernel
theorem mp_12 : bk_P me_12 := bkchk_ok mo_12 mb_12_0
noncomputable abbrev me_13 : mE := (13, 1050, 0, 0, 0, M_13)
set_option maxRecDepth 1000000 in
theorem mo_13 : bkchk me_13 = true := by decide +kernel
set_option maxRecDepth 1000000 in
theorem mb_13_0 : bkB me_13 M_13.2.1 = true := by decide +kernel
theorem mp_13 : bk_P me_13 := bkchk_ok mo_13 mb_13_0
noncomputable abbrev me_14 : mE := (14, 845, 0, 0, 0, M_14)
set_option maxRecDepth 1000000 in
theorem mo_14 : bkchk me_14 = true := by decide +kernel
set_option maxRecDepth 1000000 in
theorem mb_14_0 : bkB me_14 M_14.2.1 = true := by decide +kernel
theorem mp_14 : bk_P me_14 := bkchk_ok mo_14 mb_14_0
noncomputable abbrev me_15 : mE := (15, 841, 0, 1, 0, M_15)
set_option maxRecDepth 1000000 in
theorem mo_15 : bkchk me_15 = true := by decide +kernel
set_option maxRecDepth 1000000 in
theorem mb_15_0 : bkB me_15 M_15.2.1 = true := by decide +kernel
theorem mp_15 : bk_P me_15 := bkchk_ok mo_15 mb_15_0
noncomputable abbrev me_16 : mE := (16, 850, 0, 0, 0, M_16)
set_option maxRecDepth 1000000 in
theorem mo_16 : bkchk me_16 = true := by decide +kernel
set_option maxRecDepth 1000000 in
theorem mb_16_0 : bkB me_16 M_16.2.1 = true := by decide +kernel
theorem mp_16 : bk_P me_16 := bkchk_ok mo_16 mb_16_0
noncomputable abbrev me_17 : mE := (17, 878, 0, 1, 0, M_17)
set_option maxRecDepth 1000000 in
theorem mo_17 : bkchk me_17 = true := by decide +kernel
set_option maxRecDepth 1000000 in
theorem mb_17_0 : bkB me_17 M_17.2.1 = true := by decide +kernel
theorem mp_17 : bk_P me_17 := bkchk_ok mo_17 mb_17_0
noncomputable abbrev me_18 : mE := (18, 882, 0, 1, 0, M_18)
set_option maxRecDepth 1000000 in
theorem mo_18 : bkchk me_18 = true := by decide +kernel
set_option maxRecDepth 1000000 in
theorem mb_18_0 : bkB me_18 M_18.2.1 = true := by decide +kernel
theorem mp_18 : bk_P me_18 := bkchk_ok mo_18 mb_18_0
noncomputable abbrev me_19 : mE := (19, 822, 0, 1, 0, M_19)
set_option maxRecDepth 1000000 in
theorem mo_19 : bkchk me_19 = true := by decide +kernel
set_option maxRecDepth 1000000 in
theorem mb_19_0 : bkB me_19 (M_19.2.1.take 2) = true := by decide +kernel
set_option maxRecDepth 1000000 in
theorem mb_19_1 : bkB me_19 (M_19.2.1.drop 2) = true := by decide +kernel
theorem mp_19 : bk_P me_19 := bkchk_ok mo_19 (bk_split 2 mb_19_0 mb_19_1)
noncomputable abbrev me_20 : mE := (20, 1003, 0, 0, 0, M_20)
set_option maxRecDepth 1000000 in
theorem mo_20 : bkchk me_20 = true := by decide +kernel
set_option maxRecDepth 1000000 in
theorem mb_20_0 : bkB me_20 M_20.2.1 = true := by decide +kernel
theorem mp_20 : bk_P me_20 := bkchk_ok mo_20 mb_20_0
noncomputable abbrev me_21 : mE := (21, 1023, 0, 0, 0, M_21)
set_option maxRecDepth 1000000 in
theorem mo_21 : bkchk me_21 = true := by decide +kernel
set_option maxRecDepth 1000000 in
theorem mb_21_0 : bkB me_21 M_21.2.1 = true := by decide +kernel
theorem mp_21 : bk_P me_21 := bkchk_ok mo_21 mb_21_0
noncomputable abbrev me_22 : mE := (22, 925, 0, 0, 0, M_22)
set_option maxRecDepth 1000000 in
theorem mo_22 : bkchk me_22 = true := by decide +kernel
set_option maxRecDepth 1000000 in
theorem mb_22_0 : bkB me_22 M_22.2.1 = true := by decide +kernel
theorem mp_22 : bk_P me_22 := bkchk_ok mo_22 mb_22_0
noncomputable abbrev me_23 : mE := (23, 929, 0, 3, 0, M_23)
set_option maxRecDepth 1000000 in
theorem mo_23 : bkchk me_23 = true := by decide +kernel
set_option maxRecDepth 1000000 in
theorem mb_23_0 : bkB me_23 M_23.2.1 = true := by decide +kernel
theorem mp_23 : bk_P me_23 := bkchk_ok mo_23 mb_23_0
noncomputable abbrev me_24 : mE := (24, 995, 0, 2, 0, M_24)
set_option maxRecDepth 1000000 in
theorem mo_24 : bkchk me_24 = true := by decide +kernel
set_option maxRecDepth 1000000 in
theorem mb_24_0 : bkB me_24 M_24.2.1 = true := by decide +kernel
theorem mp_24 : bk_P me_24 := bkchk_ok mo_24 mb_24_0
noncomputable abbrev me_25 : mE := (25, 1031, 0, 3, 0, M_25)
set_option maxRecDepth 1000000 in
theorem mo_25 : bkchk me_25 = true := by decide +kernel
set_option maxRecDepth 1000000 in
theorem mb_25_0 : bkB me_25 (M_25.2.1.take 1) = true := by decide +kernel
set_option maxRecDepth 1000000 in
theorem mb_25_1 : bkB me_25 ((M_25.2.1.drop 1).take 6) = true := by decide +kernel
set_option maxRecDepth 1000000 in
theorem mb_25_2 : bkB me_25 (((M_25.2.1.drop 1).drop 6).take 7) = true := by decide +kernel
set_option maxRecDepth 1000000 in
theorem mb_25_3 : bkB me_25 ((((M_25.2.1.drop 1).drop 6).drop 7).take 13) = true := by decide +kernel
set_option maxRecDepth 1000000 in
theorem mb_25_4 : bkB me_25 ((((M_25.2.1.drop 1).drop 6).drop 7).drop 13) = true := by decide +kernel
theorem mp_25 : bk_P me_25 := bkchk_ok mo_25 (bk_split 1 mb_25_0 (bk_split 6 mb_25_1 (bk_split 7 mb_25_2 (bk_split 13 mb_25_3 mb_25_4))))
noncomputable abbrev me_26 : mE := (26, 1034, 0, 2, 0, M_26)
set_option maxRecDepth 1000000 in
theorem mo_26 : bkchk me_26 = true := by decide +kernel
set_option maxRecDepth 1000000 in
theorem mb_26_0 : bkB me_26 M_26.2.1 = true := by decide +kernel
theorem mp_26 : bk_P me_26 := bkchk_ok mo_26 mb_26_0
noncomputable abbrev me_27 : mE := (27, 921, 0, 0, 0, M_27)
set_option maxRecDepth 1000000 in
theorem mo_27 : bkchk me_27 = true := by decide +kernel
set_option maxRecDepth 1000000 in
theorem mb_27_0 : bkB me_27 (M_27.2.1.take 1) = true := by decide +kernel
set_option maxRecDepth 1000000 in
theorem mb_27_1 : bkB me_27 ((M_27.2.1.drop 1).take 1) = true := by decide +kernel
set_option maxRecDepth 1000000 in
theorem mb_27_2 : bkB me_27 (((M_27.2.1.drop 1).drop 1).take 4) = true := by decide +kernel
set_option maxRecDepth 1000000 in
theorem mb_27_3 : bkB me_27 ((((M_27.2.1.drop 1).drop 1).drop 4).take 3) = true := by decide +kernel
set_option maxRecDepth 1000000 in
theorem mb_27_4 : bkB me_27 (((((M_27.2.1.drop 1).drop 1).drop 4).drop 3).take 3) = true := by decide +kernel
set_option maxRecDepth 1000000 in
theorem mb_27_5 : bkB me_27 ((((((M_27.2.1.drop 1).drop 1).drop 4).drop 3).drop 3).take 2) = true := by decide +kernel
set_option maxRecDepth 1000000 in
theorem mb_27_6 : bkB me_27 (((((((M_27.2.1.drop 1).drop 1).drop 4).drop 3).drop 3).drop 2).take 1) = true := by decide +kernel
set_option maxRecDepth 1000000 in
theorem mb_27_7 : bkB me_27 ((((((((M_27.2.1.drop 1).drop 1).drop 4).drop 3).drop 3).drop 2).drop 1).take 2) = true := by decide +kernel
set_option maxRecDepth 1000000 in
theorem mb_27_8 : bkB me_27 (((((((((M_27.2.1.drop 1).drop 1).drop 4).drop 3).drop 3).drop 2).drop 1).drop 2).take 6) = true := by decide +kernel
set_option maxRecDepth 1000000 in
theorem mb_27_9 : bkB me_27 ((((((((((M_27.2.1.drop 1).drop 1).drop 4).drop 3).drop 3).drop 2).drop 1).drop 2).drop 6).take 3) = true := by decide +kernel
set_option maxRecDepth 1000000 in
theorem mb_27_10 : bkB me_27 (((((((((((M_27.2.1.drop 1).drop 1).drop 4).drop 3).drop 3).drop 2).drop 1).drop 2).drop 6).drop 3).take 1) = true := by decide +kernel
set_option maxRecDepth 1000000 in
theorem mb_27_11 : bkB me_27 ((((((((((((M_27.2.1.drop 1).drop 1).drop 4).drop 3).drop 3).drop 2).drop 1).drop 2).drop 6).drop 3).drop 1).take 2) = true := by decide +kernel
set_option maxRecDepth 1000000 in
theorem mb_27_12 : bkB me_27 (((((((((((((M_27.2.1.drop 1).drop 1).drop 4).drop 3).drop 3).drop 2).drop 1).drop 2).drop 6).drop 3).drop 1).drop 2).take 1) = true := by decide +kernel
set_option maxRecDepth 1000000 in
theorem mb_27_13 : bkB me_27 ((((((((((((((M_27.2.1.drop 1).drop 1).drop 4).drop 3).drop 3).drop 2).drop 1).drop 2).drop 6).drop 3).drop 1).drop 2).drop 1).take 1) = true := by decide +kernel
set_option maxRecDepth 1000000 in
theorem mb_27_14 : bkB me_27 (((((((((((((((M_27.2.1.drop 1).drop 1).drop 4).drop 3).drop 3).drop 2).drop 1).drop 2).drop 6).drop 3).drop 1).drop 2).drop 1).drop 1).take 3) = true := by decide +kernel
set_option maxRecDepth 1000000 in
theorem mb_27_15 : bkB me_27 ((((((((((((((((M_27.2.1.drop 1).drop 1).drop 4).drop 3).drop 3).drop 2).drop 1).drop 2).drop 6).drop 3).drop 1).drop 2).drop 1).drop 1).drop 3).take 1) = true := by decide +kernel
set_option maxRecDepth 1000000 in
theorem mb_27_16 : bkB me_27 (((((((((((((((((M_27.2.1.drop 1).drop 1).drop 4).drop 3).drop 3).drop 2).drop 1).drop 2).drop 6).drop 3).drop 1).drop 2).drop 1).drop 1).drop 3).drop 1).take 1) = true := by decide +kernel
set_option maxRecDepth 1000000 in
theorem mb_27_17 : bkB me_27 ((((((((((((((((((M_27.2.1.drop 1).drop 1).drop 4).drop 3).drop 3).drop 2).drop 1).drop 2).drop 6).drop 3).drop 1).drop 2).drop 1).drop 1).drop 3).drop 1).drop 1).take 2) = true := by decide +kernel
set_option maxRecDepth 1000000 in
theorem mb_27_18 : bkB me_27 (((((((((((((((((((M_27.2.1.drop 1).drop 1).drop 4).drop 3).drop 3).drop 2).drop 1).drop 2).drop 6).drop 3).drop 1).drop 2).drop 1).drop 1).drop 3).drop 1).drop 1).drop 2).take 2) = true := by decide +kernel
set_option maxRecDepth 1000000 in
theorem mb_27_19 : bkB me_27 ((((((((((((((((((((M_27.2.1.drop 1).drop 1).drop 4).drop 3).drop 3).drop 2).drop 1).drop 2).drop 6).drop 3).drop 1).drop 2).drop 1).drop 1).drop 3).drop 1).drop 1).drop 2).drop 2).take 1) = true := by decide +kernel
set_option maxRecDepth 1000000 in
theorem mb_27_20 : bkB me_27 (((((((((((((((((((((M_27.2.1.drop 1).drop 1).drop 4).drop 3).drop 3).drop 2).drop 1).drop 2).drop 6).drop 3).drop 1).drop 2).drop 1).drop 1).drop 3).drop 1).drop 1).drop 2).drop 2).drop 1).take 2) = true := by decide +kernel
set_option maxRecDepth 1000000 in
theorem mb_27_21 : bkB me_27 ((((((((((((((((((((((M_27.2.1.drop 1).drop 1).drop 4).drop 3).drop 3).drop 2).drop 1).drop 2).drop 6).drop 3).drop 1).drop 2).drop 1).drop 1).drop 3).drop 1).drop 1).drop 2).drop 2).drop 1).drop 2).take 1) = true := by decide +kernel
set_option maxRecDepth 1000000 in
theorem mb_27_22 : bkB me_27 (((((((((((((((((((((((M_27.2.1.drop 1).drop 1).drop 4).drop 3).drop 3).drop 2).drop 1).drop 2).drop 6).drop 3).drop 1).drop 2).drop 1).drop 1).drop 3).drop 1).drop 1).drop 2).drop 2).drop 1).drop 2).drop 1).take 1) = true := by decide +kernel
set_option maxRecDepth 1000000 in
theorem mb_27_23 : bkB me_27 ((((((((((((((((((((((((M_27.2.1.drop 1).drop 1).drop 4).drop 3).drop 3).drop 2).drop 1).drop 2).drop 6).drop 3).drop 1).drop 2).drop 1).drop 1).drop 3).drop 1).drop 1).drop 2).drop 2).drop 1).drop 2).drop 1).drop 1).take 2) = true := by decide +kernel
set_option maxRecDepth 1000000 in
theorem mb_27_24 : bkB me_27 (((((((((((((((((((((((((M_27.2.1.drop 1).drop 1).drop 4).drop 3).drop 3).drop 2).drop 1).drop 2).drop 6).drop 3).drop 1).drop 2).drop 1).drop 1).drop 3).drop 1).drop 1).drop 2).drop 2).drop 1).drop 2).drop 1).drop 1).drop 2).take 1) = true := by decide +kernel
set_option maxRecDepth 1000000 in
theorem mb_27_25 : bkB me_27 (((((((((((((((((((((((((M_27.2.1.drop 1).drop 1).drop 4).drop 3).drop 3).drop 2).drop 1).drop 2).drop 6).drop 3).drop 1).drop 2).drop 1).drop 1).drop 3).drop 1).drop 1).drop 2).drop 2).drop 1).drop 2).drop 1).drop 1).drop 2).drop 1) = true := by decide +kernel
theorem mp_27 : bk_P me_27 := bkchk_ok mo_27 (bk_split 1 mb_27_0 (bk_split 1 mb_27_1 (bk_split 4 mb_27_2 (bk_split 3 mb_27_3 (bk_split 3 mb_27_4 (bk_split 2 mb_27_5 (bk_split 1 mb_27_6 (bk_split 2 mb_27_7 (bk_split 6 mb_27_8 (bk_split 3 mb_27_9 (bk_split 1 mb_27_10 (bk_split 2 mb_27_11 (bk_split 1 mb_27_12 (bk_split 1 mb_27_13 (bk_split 3 mb_27_14 (bk_split 1 mb_27_15 (bk_split 1 mb_27_16 (bk_split 2 mb_27_17 (bk_split 2 mb_27_18 (bk_split 1 mb_27_19 (bk_split 2 mb_27_20 (bk_split 1 mb_27_21 (bk_split 1 mb_27_22 (bk_split 2 mb_27_23 (bk_split 1 mb_27_24 mb_27_25)))))))))))))))))))))))))
noncomputable abbrev me_28 : mE := (28, 933, 0, 1, 0, M_28)
set_option maxRecDepth 1000000 in
theorem mo_28 : bkchk me_28 = true := by decide +kernel
set_option maxRecDepth 1000000 in
theorem mb_28_0 : bkB me_28 M_28.2.1 = true := by decide +kernel
theorem mp_28 : bk_P me_28 := bkchk_ok mo_28 mb_28_0
noncomputable abbrev me_29 : mE := (29, 987, 0, 2, 0, M_29)
set_option maxRecDepth 1000000 in
theorem mo_29 : bkchk me_29 = true := by decide +kernel
set_option maxRecDepth 1000000 in
theorem mb_29_0 : bkB me_29 M_29.2.1 = true := by decide +kernel
theorem mp_29 : bk_P me_29 := bkchk_ok mo_29 mb_29_0
noncomputable def ME_1 : List mE := [me_0, me_1, me_2, me_3, me_4, me_5, me_6, me_7, me_8, me_9, me_10, me_11, me_12, me_13, me_14, me_15, me_16, me_17, me_18, me_19, me_20, me_21, me_22, me_23, me_24, me_25, me_26, me_27, me_28, me_29]
theorem ME_ok_1 : ∀ q ∈ ME_1, bk_P q := by
  unfold ME_1
  intro q hq
  rcases List.mem_cons.mp hq with rfl | hq
  · exact mp_0
  rcases List.mem_cons.mp hq with rfl | hq
  · exact mp_1
  rcases List.mem_cons.mp hq with rfl | hq
  · exact mp_2
  rcases List.mem_cons.mp hq with rfl | hq
  · exact mp_3
  rcases List.mem_cons.mp hq with rfl | hq
  · exact mp_4
  rcases List.mem_cons.mp hq with rfl | hq
  · exact mp_5
  rcases List.mem_cons.mp hq with rfl | hq
  · exact mp_6
  rcases List.mem_cons.mp hq with rfl | hq
  · exact mp_7
  rcases List.mem_cons.mp hq with rfl | hq
  · exact mp_8
  rcases List.mem_cons.mp hq with rfl | hq
  · exact mp_9
  rcases List.mem_cons.mp hq with rfl | hq
  · exact mp_10
  rcases List.mem_cons.mp hq with rfl | hq
  · exact mp_11
  rcases List.mem_cons.mp hq with rfl | hq
  · exact mp_12
  rcases List.mem_cons.mp hq with rfl | hq
  · exact mp_13
  rcases List.mem_cons.mp hq with rfl | hq
  · exact mp_14
  rcases List.mem_cons.mp hq with rfl | hq
  · exact mp_15
  rcases List.mem_cons.mp hq with rfl | hq
  · exact mp_16
  rcases List.mem_cons.mp hq with rfl | hq
  · exact mp_17
  rcases List.mem_cons.mp hq with rfl | hq
  · exact mp_18
  rcases List.mem_cons.mp hq with rfl | hq
  · exact mp_19
  rcases List.mem_cons.mp hq with rfl | hq
  · exact mp_20
  rcases List.mem_cons.mp hq with rfl | hq
  · exact mp_21
  rcases List.mem_cons.mp hq with rfl | hq
  · exact mp_22
  rcases List.mem_cons.mp hq with rfl | hq
  · exact mp_23
  rcases List.mem_cons.mp hq with rfl | hq
  · exact mp_24
  rcases List.mem_cons.mp hq with rfl | hq
  · exact mp_25
  rcases List.mem_cons.mp hq with rfl | hq
  · exact mp_26
  rcases List.mem_cons.mp hq with rfl | hq
  · exact mp_27
  rcases List.mem_cons.mp hq with rfl | hq
  · exact mp_28
  rcases List.mem_cons.mp hq with rfl | hq
  · exact mp_29
  cases hq
