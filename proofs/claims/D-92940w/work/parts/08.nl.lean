/-! the law's own entry -/
set_option maxRecDepth 100000
abbrev cL_law : ByteArray := code
def dkwL_law_56 : List UInt8 := [29, 4, 96, 46, 182, 0, 190, 159, 0, 5, 3, 172, 132, 3, 5, 167, 250, 67, 4, 172]
abbrev dktL_law_56 : List UInt8 := dkwL_law_56 ++ []
def dkwL_law_55 : List UInt8 := [43, 182, 0, 183, 44, 182, 0, 186, 159, 0, 28, 3, 172, 43, 42, 29, 4, 96, 46, 182, 0, 187, 44, 42]
abbrev dktL_law_55 : List UInt8 := dkwL_law_55 ++ dktL_law_56
def dkwL_law_54 : List UInt8 := [46, 42, 29, 5, 96, 46, 42, 29, 6, 96, 46, 42, 29, 7, 96, 46, 182, 0, 182, 159, 0, 41, 3, 172]
abbrev dktL_law_54 : List UInt8 := dkwL_law_54 ++ dktL_law_55
def dkwL_law_53 : List UInt8 := [46, 42, 29, 5, 96, 46, 42, 29, 6, 96, 46, 42, 29, 7, 96, 46, 182, 0, 178, 44, 42, 29, 4, 96]
abbrev dktL_law_53 : List UInt8 := dkwL_law_53 ++ dktL_law_54
def dkwL_law_52 : List UInt8 := [46, 42, 29, 5, 96, 46, 42, 29, 6, 96, 46, 182, 0, 177, 159, 0, 94, 3, 172, 43, 42, 29, 4, 96]
abbrev dktL_law_52 : List UInt8 := dkwL_law_52 ++ dktL_law_53
def dkwL_law_51 : List UInt8 := [43, 42, 29, 4, 96, 46, 42, 29, 5, 96, 46, 42, 29, 6, 96, 46, 182, 0, 174, 44, 42, 29, 4, 96]
abbrev dktL_law_51 : List UInt8 := dkwL_law_51 ++ dktL_law_52
def dkwL_law_50 : List UInt8 := [44, 42, 29, 4, 96, 46, 42, 29, 5, 96, 46, 42, 29, 6, 96, 46, 182, 0, 173, 159, 0, 137, 3, 172]
abbrev dktL_law_50 : List UInt8 := dkwL_law_50 ++ dktL_law_51
def dkwL_law_49 : List UInt8 := [159, 0, 180, 3, 172, 43, 42, 29, 4, 96, 46, 42, 29, 5, 96, 46, 42, 29, 6, 96, 46, 182, 0, 170]
abbrev dktL_law_49 : List UInt8 := dkwL_law_49 ++ dktL_law_50
def dkwL_law_48 : List UInt8 := [159, 0, 203, 3, 172, 43, 42, 29, 4, 96, 46, 182, 0, 166, 44, 42, 29, 4, 96, 46, 182, 0, 169]
abbrev dktL_law_48 : List UInt8 := dkwL_law_48 ++ dktL_law_49
def dkwL_law_47 : List UInt8 := [159, 0, 226, 3, 172, 43, 42, 29, 4, 96, 46, 182, 0, 162, 44, 42, 29, 4, 96, 46, 182, 0, 165]
abbrev dktL_law_47 : List UInt8 := dkwL_law_47 ++ dktL_law_48
def dkwL_law_46 : List UInt8 := [159, 0, 249, 3, 172, 43, 42, 29, 4, 96, 46, 182, 0, 158, 44, 42, 29, 4, 96, 46, 182, 0, 161]
abbrev dktL_law_46 : List UInt8 := dkwL_law_46 ++ dktL_law_47
def dkwL_law_45 : List UInt8 := [96, 46, 42, 29, 5, 96, 46, 182, 0, 154, 44, 42, 29, 4, 96, 46, 42, 29, 5, 96, 46, 182, 0, 157]
abbrev dktL_law_45 : List UInt8 := dkwL_law_45 ++ dktL_law_46
def dkwL_law_44 : List UInt8 := [4, 96, 46, 182, 0, 150, 44, 42, 29, 4, 96, 46, 182, 0, 153, 159, 1, 26, 3, 172, 43, 42, 29, 4]
abbrev dktL_law_44 : List UInt8 := dkwL_law_44 ++ dktL_law_45
def dkwL_law_43 : List UInt8 := [182, 0, 145, 159, 1, 62, 3, 172, 43, 182, 0, 146, 44, 182, 0, 149, 159, 1, 49, 3, 172, 43, 42, 29]
abbrev dktL_law_43 : List UInt8 := dkwL_law_43 ++ dktL_law_44
def dkwL_law_42 : List UInt8 := [182, 0, 141, 44, 42, 29, 4, 96, 46, 42, 29, 5, 96, 46, 153, 0, 7, 4, 167, 0, 4, 3]
abbrev dktL_law_42 : List UInt8 := dkwL_law_42 ++ dktL_law_43
def dkwL_law_41 : List UInt8 := [159, 1, 111, 3, 172, 43, 42, 29, 4, 96, 46, 42, 29, 5, 96, 46, 153, 0, 7, 4, 167, 0, 4, 3]
abbrev dktL_law_41 : List UInt8 := dkwL_law_41 ++ dktL_law_42
def dkwL_law_40 : List UInt8 := [46, 42, 29, 5, 96, 46, 182, 0, 137, 44, 42, 29, 4, 96, 46, 42, 29, 5, 96, 46, 182, 0, 140]
abbrev dktL_law_40 : List UInt8 := dkwL_law_40 ++ dktL_law_41
def dkwL_law_39 : List UInt8 := [44, 42, 29, 4, 96, 46, 42, 29, 5, 96, 46, 182, 0, 136, 159, 1, 144, 3, 172, 43, 42, 29, 4, 96]
abbrev dktL_law_39 : List UInt8 := dkwL_law_39 ++ dktL_law_40
def dkwL_law_38 : List UInt8 := [96, 46, 182, 0, 132, 159, 1, 177, 3, 172, 43, 42, 29, 4, 96, 46, 42, 29, 5, 96, 46, 182, 0, 133]
abbrev dktL_law_38 : List UInt8 := dkwL_law_38 ++ dktL_law_39
def dkwL_law_37 : List UInt8 := [4, 96, 46, 182, 0, 128, 159, 1, 200, 3, 172, 43, 42, 29, 4, 96, 46, 182, 0, 129, 44, 42, 29, 4]
abbrev dktL_law_37 : List UInt8 := dkwL_law_37 ++ dktL_law_38
def dkwL_law_36 : List UInt8 := [29, 6, 96, 46, 182, 0, 124, 159, 1, 223, 3, 172, 43, 42, 29, 4, 96, 46, 182, 0, 125, 44, 42, 29]
abbrev dktL_law_36 : List UInt8 := dkwL_law_36 ++ dktL_law_37
def dkwL_law_35 : List UInt8 := [29, 5, 96, 46, 42, 29, 6, 96, 46, 182, 0, 121, 44, 42, 29, 4, 96, 46, 42, 29, 5, 96, 46, 42]
abbrev dktL_law_35 : List UInt8 := dkwL_law_35 ++ dktL_law_36
def dkwL_law_34 : List UInt8 := [29, 5, 96, 46, 42, 29, 6, 96, 46, 182, 0, 120, 159, 2, 10, 3, 172, 43, 42, 29, 4, 96, 46, 42]
abbrev dktL_law_34 : List UInt8 := dkwL_law_34 ++ dktL_law_35
def dkwL_law_33 : List UInt8 := [29, 4, 96, 46, 42, 29, 5, 96, 46, 42, 29, 6, 96, 46, 182, 0, 117, 44, 42, 29, 4, 96, 46, 42]
abbrev dktL_law_33 : List UInt8 := dkwL_law_33 ++ dktL_law_34
def dkwL_law_32 : List UInt8 := [42, 29, 4, 96, 46, 182, 0, 113, 44, 42, 29, 4, 96, 46, 182, 0, 116, 159, 2, 53, 3, 172, 43, 42]
abbrev dktL_law_32 : List UInt8 := dkwL_law_32 ++ dktL_law_33
def dkwL_law_31 : List UInt8 := [46, 182, 0, 109, 44, 42, 29, 4, 96, 46, 42, 29, 5, 96, 46, 182, 0, 112, 159, 2, 76, 3, 172, 43]
abbrev dktL_law_31 : List UInt8 := dkwL_law_31 ++ dktL_law_32
def dkwL_law_30 : List UInt8 := [46, 42, 29, 5, 96, 46, 182, 0, 108, 159, 2, 109, 3, 172, 43, 42, 29, 4, 96, 46, 42, 29, 5, 96]
abbrev dktL_law_30 : List UInt8 := dkwL_law_30 ++ dktL_law_31
def dkwL_law_29 : List UInt8 := [159, 2, 142, 3, 172, 43, 42, 29, 4, 96, 46, 42, 29, 5, 96, 46, 182, 0, 105, 44, 42, 29, 4, 96]
abbrev dktL_law_29 : List UInt8 := dkwL_law_29 ++ dktL_law_30
def dkwL_law_28 : List UInt8 := [96, 46, 42, 29, 5, 96, 46, 182, 0, 101, 44, 42, 29, 4, 96, 46, 42, 29, 5, 96, 46, 182, 0, 104]
abbrev dktL_law_28 : List UInt8 := dkwL_law_28 ++ dktL_law_29
def dkwL_law_27 : List UInt8 := [96, 46, 42, 29, 5, 96, 46, 42, 29, 6, 96, 46, 182, 0, 100, 159, 2, 175, 3, 172, 43, 42, 29, 4]
abbrev dktL_law_27 : List UInt8 := dkwL_law_27 ++ dktL_law_28
def dkwL_law_26 : List UInt8 := [172, 43, 42, 29, 4, 96, 46, 42, 29, 5, 96, 46, 42, 29, 6, 96, 46, 182, 0, 96, 44, 42, 29, 4]
abbrev dktL_law_26 : List UInt8 := dkwL_law_26 ++ dktL_law_27
def dkwL_law_25 : List UInt8 := [3, 172, 43, 42, 29, 4, 96, 46, 182, 0, 92, 44, 42, 29, 4, 96, 46, 182, 0, 95, 159, 2, 218, 3]
abbrev dktL_law_25 : List UInt8 := dkwL_law_25 ++ dktL_law_26
def dkwL_law_24 : List UInt8 := [29, 5, 96, 46, 182, 0, 88, 44, 42, 29, 4, 96, 46, 42, 29, 5, 96, 46, 182, 0, 91, 159, 2, 241]
abbrev dktL_law_24 : List UInt8 := dkwL_law_24 ++ dktL_law_25
def dkwL_law_23 : List UInt8 := [182, 0, 84, 44, 42, 29, 4, 96, 46, 182, 0, 87, 159, 3, 18, 3, 172, 43, 42, 29, 4, 96, 46, 42]
abbrev dktL_law_23 : List UInt8 := dkwL_law_23 ++ dktL_law_24
def dkwL_law_22 : List UInt8 := [29, 4, 96, 46, 42, 29, 5, 96, 46, 182, 0, 83, 159, 3, 41, 3, 172, 43, 42, 29, 4, 96, 46]
abbrev dktL_law_22 : List UInt8 := dkwL_law_22 ++ dktL_law_23
def dkwL_law_21 : List UInt8 := [182, 0, 79, 159, 3, 74, 3, 172, 43, 42, 29, 4, 96, 46, 42, 29, 5, 96, 46, 182, 0, 80, 44, 42]
abbrev dktL_law_21 : List UInt8 := dkwL_law_21 ++ dktL_law_22
def dkwL_law_20 : List UInt8 := [42, 29, 4, 96, 46, 42, 29, 5, 96, 46, 182, 0, 76, 44, 42, 29, 4, 96, 46, 42, 29, 5, 96, 46]
abbrev dktL_law_20 : List UInt8 := dkwL_law_20 ++ dktL_law_21
def dkwL_law_19 : List UInt8 := [46, 182, 0, 72, 44, 42, 29, 4, 96, 46, 42, 29, 5, 96, 46, 182, 0, 75, 159, 3, 107, 3, 172, 43]
abbrev dktL_law_19 : List UInt8 := dkwL_law_19 ++ dktL_law_20
def dkwL_law_18 : List UInt8 := [46, 42, 29, 5, 96, 46, 182, 0, 71, 159, 3, 140, 3, 172, 43, 42, 29, 4, 96, 46, 42, 29, 5, 96]
abbrev dktL_law_18 : List UInt8 := dkwL_law_18 ++ dktL_law_19
def dkwL_law_17 : List UInt8 := [159, 3, 173, 3, 172, 43, 42, 29, 4, 96, 46, 42, 29, 5, 96, 46, 182, 0, 68, 44, 42, 29, 4, 96]
abbrev dktL_law_17 : List UInt8 := dkwL_law_17 ++ dktL_law_18
def dkwL_law_16 : List UInt8 := [172, 43, 182, 0, 60, 44, 182, 0, 63, 159, 3, 186, 3, 172, 43, 182, 0, 64, 44, 182, 0, 67]
abbrev dktL_law_16 : List UInt8 := dkwL_law_16 ++ dktL_law_17
def dkwL_law_15 : List UInt8 := [5, 96, 46, 182, 0, 56, 44, 42, 29, 4, 96, 46, 42, 29, 5, 96, 46, 182, 0, 59, 159, 3, 199, 3]
abbrev dktL_law_15 : List UInt8 := dkwL_law_15 ++ dktL_law_16
def dkwL_law_14 : List UInt8 := [153, 0, 7, 4, 167, 0, 4, 3, 182, 0, 55, 159, 3, 232, 3, 172, 43, 42, 29, 4, 96, 46, 42, 29]
abbrev dktL_law_14 : List UInt8 := dkwL_law_14 ++ dktL_law_15
def dkwL_law_13 : List UInt8 := [167, 0, 4, 3, 182, 0, 51, 44, 42, 29, 4, 96, 46, 42, 29, 5, 96, 46, 42, 29, 6, 96, 46]
abbrev dktL_law_13 : List UInt8 := dkwL_law_13 ++ dktL_law_14
def dkwL_law_12 : List UInt8 := [3, 172, 43, 42, 29, 4, 96, 46, 42, 29, 5, 96, 46, 42, 29, 6, 96, 46, 153, 0, 7, 4]
abbrev dktL_law_12 : List UInt8 := dkwL_law_12 ++ dktL_law_13
def dkwL_law_11 : List UInt8 := [29, 5, 96, 46, 182, 0, 47, 44, 42, 29, 4, 96, 46, 42, 29, 5, 96, 46, 182, 0, 50, 159, 4, 35]
abbrev dktL_law_11 : List UInt8 := dkwL_law_11 ++ dktL_law_12
def dkwL_law_10 : List UInt8 := [182, 0, 43, 44, 42, 29, 4, 96, 46, 182, 0, 46, 159, 4, 68, 3, 172, 43, 42, 29, 4, 96, 46, 42]
abbrev dktL_law_10 : List UInt8 := dkwL_law_10 ++ dktL_law_11
def dkwL_law_9 : List UInt8 := [29, 4, 96, 46, 42, 29, 5, 96, 46, 182, 0, 42, 159, 4, 91, 3, 172, 43, 42, 29, 4, 96, 46]
abbrev dktL_law_9 : List UInt8 := dkwL_law_9 ++ dktL_law_10
def dkwL_law_8 : List UInt8 := [182, 0, 37, 159, 4, 124, 3, 172, 43, 42, 29, 4, 96, 46, 42, 29, 5, 96, 46, 182, 0, 38, 44, 42]
abbrev dktL_law_8 : List UInt8 := dkwL_law_8 ++ dktL_law_9
def dkwL_law_7 : List UInt8 := [182, 0, 33, 159, 4, 147, 3, 172, 43, 42, 29, 4, 96, 46, 182, 0, 34, 44, 42, 29, 4, 96, 46]
abbrev dktL_law_7 : List UInt8 := dkwL_law_7 ++ dktL_law_8
def dkwL_law_6 : List UInt8 := [159, 4, 173, 3, 172, 43, 182, 0, 25, 44, 182, 0, 29, 159, 4, 160, 3, 172, 43, 182, 0, 30, 44]
abbrev dktL_law_6 : List UInt8 := dkwL_law_6 ++ dktL_law_7
def dkwL_law_5 : List UInt8 := [159, 4, 196, 3, 172, 43, 42, 29, 4, 96, 46, 182, 0, 20, 44, 42, 29, 4, 96, 46, 182, 0, 24]
abbrev dktL_law_5 : List UInt8 := dkwL_law_5 ++ dktL_law_6
def dkwL_law_4 : List UInt8 := [44, 42, 29, 4, 96, 46, 133, 16, 32, 121, 42, 29, 5, 96, 46, 133, 20, 0, 13, 127, 129, 182, 0, 19]
abbrev dktL_law_4 : List UInt8 := dkwL_law_4 ++ dktL_law_5
def dkwL_law_3 : List UInt8 := [43, 42, 29, 4, 96, 46, 133, 16, 32, 121, 42, 29, 5, 96, 46, 133, 20, 0, 13, 127, 129, 182, 0, 15]
abbrev dktL_law_3 : List UInt8 := dkwL_law_3 ++ dktL_law_4
def dkwL_law_2 : List UInt8 := [170, 0, 0, 0, 0, 0, 5, 172, 0, 0, 0, 0, 0, 0, 0, 41, 0, 0, 0, 184, 0, 0, 0, 237, 0, 0, 1, 4, 0, 0, 1, 17, 0, 0, 1, 30, 0, 0, 1, 53, 0, 0, 1, 86, 0, 0, 1, 109, 0, 0, 1, 142, 0, 0, 1, 201, 0, 0, 1, 234, 0, 0, 1, 247, 0, 0, 2, 4, 0, 0, 2, 37, 0, 0, 2, 70, 0, 0, 2, 103, 0, 0, 2, 136, 0, 0, 2, 159, 0, 0, 2, 192, 0, 0, 2, 215, 0, 0, 3, 2, 0, 0, 3, 35, 0, 0, 3, 68, 0, 0, 3, 101, 0, 0, 3, 124, 0, 0, 3, 167, 0, 0, 3, 210, 0, 0, 3, 233, 0, 0, 4, 0, 0, 0, 4, 33, 0, 0, 4, 66, 0, 0, 4, 115, 0, 0, 4, 128, 0, 0, 4, 151, 0, 0, 4, 184, 0, 0, 4, 207, 0, 0, 4, 230, 0, 0, 4, 253, 0, 0, 5, 40, 0, 0, 5, 83, 0, 0, 5, 136, 0, 0, 5, 149]
abbrev dktL_law_2 : List UInt8 := dkwL_law_2 ++ dktL_law_3
def dkwL_law_1 : List UInt8 := [163, 5, 187, 42, 29, 46, 16, 63, 126]
abbrev dktL_law_1 : List UInt8 := dkwL_law_1 ++ dktL_law_2
def dkwL_law_0 : List UInt8 := [187, 0, 7, 89, 183, 0, 9, 76, 187, 0, 10, 89, 183, 0, 12, 77, 3, 62, 29, 42, 190, 8, 100]
abbrev dktL_law_0 : List UInt8 := dkwL_law_0 ++ dktL_law_1
theorem dksL_law_0 : cL_law.data.toList.drop 0 = dktL_law_0 := by decide +kernel
theorem dksL_law_1 : cL_law.data.toList.drop 23 = dktL_law_1 := dk_seg dksL_law_0 23 rfl rfl
theorem dksL_law_2 : cL_law.data.toList.drop 32 = dktL_law_2 := dk_seg dksL_law_1 9 rfl rfl
theorem dksL_law_3 : cL_law.data.toList.drop 216 = dktL_law_3 := dk_seg dksL_law_2 184 rfl rfl
theorem dksL_law_4 : cL_law.data.toList.drop 240 = dktL_law_4 := dk_seg dksL_law_3 24 rfl rfl
theorem dksL_law_5 : cL_law.data.toList.drop 264 = dktL_law_5 := dk_seg dksL_law_4 24 rfl rfl
theorem dksL_law_6 : cL_law.data.toList.drop 287 = dktL_law_6 := dk_seg dksL_law_5 23 rfl rfl
theorem dksL_law_7 : cL_law.data.toList.drop 310 = dktL_law_7 := dk_seg dksL_law_6 23 rfl rfl
theorem dksL_law_8 : cL_law.data.toList.drop 333 = dktL_law_8 := dk_seg dksL_law_7 23 rfl rfl
theorem dksL_law_9 : cL_law.data.toList.drop 357 = dktL_law_9 := dk_seg dksL_law_8 24 rfl rfl
theorem dksL_law_10 : cL_law.data.toList.drop 380 = dktL_law_10 := dk_seg dksL_law_9 23 rfl rfl
theorem dksL_law_11 : cL_law.data.toList.drop 404 = dktL_law_11 := dk_seg dksL_law_10 24 rfl rfl
theorem dksL_law_12 : cL_law.data.toList.drop 428 = dktL_law_12 := dk_seg dksL_law_11 24 rfl rfl
theorem dksL_law_13 : cL_law.data.toList.drop 450 = dktL_law_13 := dk_seg dksL_law_12 22 rfl rfl
theorem dksL_law_14 : cL_law.data.toList.drop 473 = dktL_law_14 := dk_seg dksL_law_13 23 rfl rfl
theorem dksL_law_15 : cL_law.data.toList.drop 497 = dktL_law_15 := dk_seg dksL_law_14 24 rfl rfl
theorem dksL_law_16 : cL_law.data.toList.drop 521 = dktL_law_16 := dk_seg dksL_law_15 24 rfl rfl
theorem dksL_law_17 : cL_law.data.toList.drop 543 = dktL_law_17 := dk_seg dksL_law_16 22 rfl rfl
theorem dksL_law_18 : cL_law.data.toList.drop 567 = dktL_law_18 := dk_seg dksL_law_17 24 rfl rfl
theorem dksL_law_19 : cL_law.data.toList.drop 591 = dktL_law_19 := dk_seg dksL_law_18 24 rfl rfl
theorem dksL_law_20 : cL_law.data.toList.drop 615 = dktL_law_20 := dk_seg dksL_law_19 24 rfl rfl
theorem dksL_law_21 : cL_law.data.toList.drop 639 = dktL_law_21 := dk_seg dksL_law_20 24 rfl rfl
theorem dksL_law_22 : cL_law.data.toList.drop 663 = dktL_law_22 := dk_seg dksL_law_21 24 rfl rfl
theorem dksL_law_23 : cL_law.data.toList.drop 686 = dktL_law_23 := dk_seg dksL_law_22 23 rfl rfl
theorem dksL_law_24 : cL_law.data.toList.drop 710 = dktL_law_24 := dk_seg dksL_law_23 24 rfl rfl
theorem dksL_law_25 : cL_law.data.toList.drop 734 = dktL_law_25 := dk_seg dksL_law_24 24 rfl rfl
theorem dksL_law_26 : cL_law.data.toList.drop 758 = dktL_law_26 := dk_seg dksL_law_25 24 rfl rfl
theorem dksL_law_27 : cL_law.data.toList.drop 782 = dktL_law_27 := dk_seg dksL_law_26 24 rfl rfl
theorem dksL_law_28 : cL_law.data.toList.drop 806 = dktL_law_28 := dk_seg dksL_law_27 24 rfl rfl
theorem dksL_law_29 : cL_law.data.toList.drop 830 = dktL_law_29 := dk_seg dksL_law_28 24 rfl rfl
theorem dksL_law_30 : cL_law.data.toList.drop 854 = dktL_law_30 := dk_seg dksL_law_29 24 rfl rfl
theorem dksL_law_31 : cL_law.data.toList.drop 878 = dktL_law_31 := dk_seg dksL_law_30 24 rfl rfl
theorem dksL_law_32 : cL_law.data.toList.drop 902 = dktL_law_32 := dk_seg dksL_law_31 24 rfl rfl
theorem dksL_law_33 : cL_law.data.toList.drop 926 = dktL_law_33 := dk_seg dksL_law_32 24 rfl rfl
theorem dksL_law_34 : cL_law.data.toList.drop 950 = dktL_law_34 := dk_seg dksL_law_33 24 rfl rfl
theorem dksL_law_35 : cL_law.data.toList.drop 974 = dktL_law_35 := dk_seg dksL_law_34 24 rfl rfl
theorem dksL_law_36 : cL_law.data.toList.drop 998 = dktL_law_36 := dk_seg dksL_law_35 24 rfl rfl
theorem dksL_law_37 : cL_law.data.toList.drop 1022 = dktL_law_37 := dk_seg dksL_law_36 24 rfl rfl
theorem dksL_law_38 : cL_law.data.toList.drop 1046 = dktL_law_38 := dk_seg dksL_law_37 24 rfl rfl
theorem dksL_law_39 : cL_law.data.toList.drop 1070 = dktL_law_39 := dk_seg dksL_law_38 24 rfl rfl
theorem dksL_law_40 : cL_law.data.toList.drop 1094 = dktL_law_40 := dk_seg dksL_law_39 24 rfl rfl
theorem dksL_law_41 : cL_law.data.toList.drop 1117 = dktL_law_41 := dk_seg dksL_law_40 23 rfl rfl
theorem dksL_law_42 : cL_law.data.toList.drop 1141 = dktL_law_42 := dk_seg dksL_law_41 24 rfl rfl
theorem dksL_law_43 : cL_law.data.toList.drop 1163 = dktL_law_43 := dk_seg dksL_law_42 22 rfl rfl
theorem dksL_law_44 : cL_law.data.toList.drop 1187 = dktL_law_44 := dk_seg dksL_law_43 24 rfl rfl
theorem dksL_law_45 : cL_law.data.toList.drop 1211 = dktL_law_45 := dk_seg dksL_law_44 24 rfl rfl
theorem dksL_law_46 : cL_law.data.toList.drop 1235 = dktL_law_46 := dk_seg dksL_law_45 24 rfl rfl
theorem dksL_law_47 : cL_law.data.toList.drop 1258 = dktL_law_47 := dk_seg dksL_law_46 23 rfl rfl
theorem dksL_law_48 : cL_law.data.toList.drop 1281 = dktL_law_48 := dk_seg dksL_law_47 23 rfl rfl
theorem dksL_law_49 : cL_law.data.toList.drop 1304 = dktL_law_49 := dk_seg dksL_law_48 23 rfl rfl
theorem dksL_law_50 : cL_law.data.toList.drop 1328 = dktL_law_50 := dk_seg dksL_law_49 24 rfl rfl
theorem dksL_law_51 : cL_law.data.toList.drop 1352 = dktL_law_51 := dk_seg dksL_law_50 24 rfl rfl
theorem dksL_law_52 : cL_law.data.toList.drop 1376 = dktL_law_52 := dk_seg dksL_law_51 24 rfl rfl
theorem dksL_law_53 : cL_law.data.toList.drop 1400 = dktL_law_53 := dk_seg dksL_law_52 24 rfl rfl
theorem dksL_law_54 : cL_law.data.toList.drop 1424 = dktL_law_54 := dk_seg dksL_law_53 24 rfl rfl
theorem dksL_law_55 : cL_law.data.toList.drop 1448 = dktL_law_55 := dk_seg dksL_law_54 24 rfl rfl
theorem dksL_law_56 : cL_law.data.toList.drop 1472 = dktL_law_56 := dk_seg dksL_law_55 24 rfl rfl
theorem dL_law_0 : decode cL_law 0 = .ok (.new 7, 3) := dk_187 0 7 (dk_at dksL_law_0 0 rfl rfl)
theorem dL_law_3 : decode cL_law 3 = .ok (.dup, 1) := dk_89 (dk_at dksL_law_0 3 rfl rfl)
theorem dL_law_4 : decode cL_law 4 = .ok (.invokespecial 9, 3) := dk_183 0 9 (dk_at dksL_law_0 4 rfl rfl)
theorem dL_law_7 : decode cL_law 7 = .ok (.astore_n 1, 1) := dk_76 (dk_at dksL_law_0 7 rfl rfl)
theorem dL_law_8 : decode cL_law 8 = .ok (.new 10, 3) := dk_187 0 10 (dk_at dksL_law_0 8 rfl rfl)
theorem dL_law_11 : decode cL_law 11 = .ok (.dup, 1) := dk_89 (dk_at dksL_law_0 11 rfl rfl)
theorem dL_law_12 : decode cL_law 12 = .ok (.invokespecial 12, 3) := dk_183 0 12 (dk_at dksL_law_0 12 rfl rfl)
theorem dL_law_15 : decode cL_law 15 = .ok (.astore_n 2, 1) := dk_77 (dk_at dksL_law_0 15 rfl rfl)
theorem dL_law_16 : decode cL_law 16 = .ok (.iconst 0, 1) := dk_3 (dk_at dksL_law_0 16 rfl rfl)
theorem dL_law_17 : decode cL_law 17 = .ok (.istore_n 3, 1) := dk_62 (dk_at dksL_law_0 17 rfl rfl)
theorem dL_law_18 : decode cL_law 18 = .ok (.iload_n 3, 1) := dk_29 (dk_at dksL_law_0 18 rfl rfl)
theorem dL_law_19 : decode cL_law 19 = .ok (.aload_n 0, 1) := dk_42 (dk_at dksL_law_0 19 rfl rfl)
theorem dL_law_20 : decode cL_law 20 = .ok (.arraylength, 1) := dk_190 (dk_at dksL_law_0 20 rfl rfl)
theorem dL_law_21 : decode cL_law 21 = .ok (.iconst 5, 1) := dk_8 (dk_at dksL_law_0 21 rfl rfl)
theorem dL_law_22 : decode cL_law 22 = .ok (.isub, 1) := dk_100 (dk_at dksL_law_0 22 rfl rfl)
theorem dL_law_23 : decode cL_law 23 = .ok (.if_icmp .gt 1467, 3) := dk_163 5 187 (dk_at dksL_law_1 0 rfl rfl)
theorem dL_law_26 : decode cL_law 26 = .ok (.aload_n 0, 1) := dk_42 (dk_at dksL_law_1 3 rfl rfl)
theorem dL_law_27 : decode cL_law 27 = .ok (.iload_n 3, 1) := dk_29 (dk_at dksL_law_1 4 rfl rfl)
theorem dL_law_28 : decode cL_law 28 = .ok (.iaload, 1) := dk_46 (dk_at dksL_law_1 5 rfl rfl)
theorem dL_law_29 : decode cL_law 29 = .ok (.bipush 63, 2) := dk_16 63 (dk_at dksL_law_1 6 rfl rfl)
theorem dL_law_31 : decode cL_law 31 = .ok (.iand, 1) := dk_126 (dk_at dksL_law_1 8 rfl rfl)
theorem dL_law_32 : decode cL_law 32 = .ok (.tableswitch 1452 0 41 #[184, 237, 260, 273, 286, 309, 342, 365, 398, 457, 490, 503, 516, 549, 582, 615, 648, 671, 704, 727, 770, 803, 836, 869, 892, 935, 978, 1001, 1024, 1057, 1090, 1139, 1152, 1175, 1208, 1231, 1254, 1277, 1320, 1363, 1416, 1429], 184) := by decide +kernel
theorem dL_law_216 : decode cL_law 216 = .ok (.aload_n 1, 1) := dk_43 (dk_at dksL_law_3 0 rfl rfl)
theorem dL_law_217 : decode cL_law 217 = .ok (.aload_n 0, 1) := dk_42 (dk_at dksL_law_3 1 rfl rfl)
theorem dL_law_218 : decode cL_law 218 = .ok (.iload_n 3, 1) := dk_29 (dk_at dksL_law_3 2 rfl rfl)
theorem dL_law_219 : decode cL_law 219 = .ok (.iconst 1, 1) := dk_4 (dk_at dksL_law_3 3 rfl rfl)
theorem dL_law_220 : decode cL_law 220 = .ok (.iadd, 1) := dk_96 (dk_at dksL_law_3 4 rfl rfl)
theorem dL_law_221 : decode cL_law 221 = .ok (.iaload, 1) := dk_46 (dk_at dksL_law_3 5 rfl rfl)
theorem dL_law_222 : decode cL_law 222 = .ok (.i2l, 1) := dk_133 (dk_at dksL_law_3 6 rfl rfl)
theorem dL_law_223 : decode cL_law 223 = .ok (.bipush 32, 2) := dk_16 32 (dk_at dksL_law_3 7 rfl rfl)
theorem dL_law_225 : decode cL_law 225 = .ok (.lshl, 1) := dk_121 (dk_at dksL_law_3 9 rfl rfl)
theorem dL_law_226 : decode cL_law 226 = .ok (.aload_n 0, 1) := dk_42 (dk_at dksL_law_3 10 rfl rfl)
theorem dL_law_227 : decode cL_law 227 = .ok (.iload_n 3, 1) := dk_29 (dk_at dksL_law_3 11 rfl rfl)
theorem dL_law_228 : decode cL_law 228 = .ok (.iconst 2, 1) := dk_5 (dk_at dksL_law_3 12 rfl rfl)
theorem dL_law_229 : decode cL_law 229 = .ok (.iadd, 1) := dk_96 (dk_at dksL_law_3 13 rfl rfl)
theorem dL_law_230 : decode cL_law 230 = .ok (.iaload, 1) := dk_46 (dk_at dksL_law_3 14 rfl rfl)
theorem dL_law_231 : decode cL_law 231 = .ok (.i2l, 1) := dk_133 (dk_at dksL_law_3 15 rfl rfl)
theorem dL_law_232 : decode cL_law 232 = .ok (.ldc2_w 13, 3) := dk_20 0 13 (dk_at dksL_law_3 16 rfl rfl)
theorem dL_law_235 : decode cL_law 235 = .ok (.land, 1) := dk_127 (dk_at dksL_law_3 19 rfl rfl)
theorem dL_law_236 : decode cL_law 236 = .ok (.lor, 1) := dk_129 (dk_at dksL_law_3 20 rfl rfl)
theorem dL_law_237 : decode cL_law 237 = .ok (.invokevirtual 15, 3) := dk_182 0 15 (dk_at dksL_law_3 21 rfl rfl)
theorem dL_law_240 : decode cL_law 240 = .ok (.aload_n 2, 1) := dk_44 (dk_at dksL_law_4 0 rfl rfl)
theorem dL_law_241 : decode cL_law 241 = .ok (.aload_n 0, 1) := dk_42 (dk_at dksL_law_4 1 rfl rfl)
theorem dL_law_242 : decode cL_law 242 = .ok (.iload_n 3, 1) := dk_29 (dk_at dksL_law_4 2 rfl rfl)
theorem dL_law_243 : decode cL_law 243 = .ok (.iconst 1, 1) := dk_4 (dk_at dksL_law_4 3 rfl rfl)
theorem dL_law_244 : decode cL_law 244 = .ok (.iadd, 1) := dk_96 (dk_at dksL_law_4 4 rfl rfl)
theorem dL_law_245 : decode cL_law 245 = .ok (.iaload, 1) := dk_46 (dk_at dksL_law_4 5 rfl rfl)
theorem dL_law_246 : decode cL_law 246 = .ok (.i2l, 1) := dk_133 (dk_at dksL_law_4 6 rfl rfl)
theorem dL_law_247 : decode cL_law 247 = .ok (.bipush 32, 2) := dk_16 32 (dk_at dksL_law_4 7 rfl rfl)
theorem dL_law_249 : decode cL_law 249 = .ok (.lshl, 1) := dk_121 (dk_at dksL_law_4 9 rfl rfl)
theorem dL_law_250 : decode cL_law 250 = .ok (.aload_n 0, 1) := dk_42 (dk_at dksL_law_4 10 rfl rfl)
theorem dL_law_251 : decode cL_law 251 = .ok (.iload_n 3, 1) := dk_29 (dk_at dksL_law_4 11 rfl rfl)
theorem dL_law_252 : decode cL_law 252 = .ok (.iconst 2, 1) := dk_5 (dk_at dksL_law_4 12 rfl rfl)
theorem dL_law_253 : decode cL_law 253 = .ok (.iadd, 1) := dk_96 (dk_at dksL_law_4 13 rfl rfl)
theorem dL_law_254 : decode cL_law 254 = .ok (.iaload, 1) := dk_46 (dk_at dksL_law_4 14 rfl rfl)
theorem dL_law_255 : decode cL_law 255 = .ok (.i2l, 1) := dk_133 (dk_at dksL_law_4 15 rfl rfl)
theorem dL_law_256 : decode cL_law 256 = .ok (.ldc2_w 13, 3) := dk_20 0 13 (dk_at dksL_law_4 16 rfl rfl)
theorem dL_law_259 : decode cL_law 259 = .ok (.land, 1) := dk_127 (dk_at dksL_law_4 19 rfl rfl)
theorem dL_law_260 : decode cL_law 260 = .ok (.lor, 1) := dk_129 (dk_at dksL_law_4 20 rfl rfl)
theorem dL_law_261 : decode cL_law 261 = .ok (.invokevirtual 19, 3) := dk_182 0 19 (dk_at dksL_law_4 21 rfl rfl)
theorem dL_law_264 : decode cL_law 264 = .ok (.if_icmp .eq 1220, 3) := dk_159 4 196 (dk_at dksL_law_5 0 rfl rfl)
theorem dL_law_267 : decode cL_law 267 = .ok (.iconst 0, 1) := dk_3 (dk_at dksL_law_5 3 rfl rfl)
theorem dL_law_268 : decode cL_law 268 = .ok (.ireturn, 1) := dk_172 (dk_at dksL_law_5 4 rfl rfl)
theorem dL_law_269 : decode cL_law 269 = .ok (.aload_n 1, 1) := dk_43 (dk_at dksL_law_5 5 rfl rfl)
theorem dL_law_270 : decode cL_law 270 = .ok (.aload_n 0, 1) := dk_42 (dk_at dksL_law_5 6 rfl rfl)
theorem dL_law_271 : decode cL_law 271 = .ok (.iload_n 3, 1) := dk_29 (dk_at dksL_law_5 7 rfl rfl)
theorem dL_law_272 : decode cL_law 272 = .ok (.iconst 1, 1) := dk_4 (dk_at dksL_law_5 8 rfl rfl)
theorem dL_law_273 : decode cL_law 273 = .ok (.iadd, 1) := dk_96 (dk_at dksL_law_5 9 rfl rfl)
theorem dL_law_274 : decode cL_law 274 = .ok (.iaload, 1) := dk_46 (dk_at dksL_law_5 10 rfl rfl)
theorem dL_law_275 : decode cL_law 275 = .ok (.invokevirtual 20, 3) := dk_182 0 20 (dk_at dksL_law_5 11 rfl rfl)
theorem dL_law_278 : decode cL_law 278 = .ok (.aload_n 2, 1) := dk_44 (dk_at dksL_law_5 14 rfl rfl)
theorem dL_law_279 : decode cL_law 279 = .ok (.aload_n 0, 1) := dk_42 (dk_at dksL_law_5 15 rfl rfl)
theorem dL_law_280 : decode cL_law 280 = .ok (.iload_n 3, 1) := dk_29 (dk_at dksL_law_5 16 rfl rfl)
theorem dL_law_281 : decode cL_law 281 = .ok (.iconst 1, 1) := dk_4 (dk_at dksL_law_5 17 rfl rfl)
theorem dL_law_282 : decode cL_law 282 = .ok (.iadd, 1) := dk_96 (dk_at dksL_law_5 18 rfl rfl)
theorem dL_law_283 : decode cL_law 283 = .ok (.iaload, 1) := dk_46 (dk_at dksL_law_5 19 rfl rfl)
theorem dL_law_284 : decode cL_law 284 = .ok (.invokevirtual 24, 3) := dk_182 0 24 (dk_at dksL_law_5 20 rfl rfl)
theorem dL_law_287 : decode cL_law 287 = .ok (.if_icmp .eq 1197, 3) := dk_159 4 173 (dk_at dksL_law_6 0 rfl rfl)
theorem dL_law_290 : decode cL_law 290 = .ok (.iconst 0, 1) := dk_3 (dk_at dksL_law_6 3 rfl rfl)
theorem dL_law_291 : decode cL_law 291 = .ok (.ireturn, 1) := dk_172 (dk_at dksL_law_6 4 rfl rfl)
theorem dL_law_292 : decode cL_law 292 = .ok (.aload_n 1, 1) := dk_43 (dk_at dksL_law_6 5 rfl rfl)
theorem dL_law_293 : decode cL_law 293 = .ok (.invokevirtual 25, 3) := dk_182 0 25 (dk_at dksL_law_6 6 rfl rfl)
theorem dL_law_296 : decode cL_law 296 = .ok (.aload_n 2, 1) := dk_44 (dk_at dksL_law_6 9 rfl rfl)
theorem dL_law_297 : decode cL_law 297 = .ok (.invokevirtual 29, 3) := dk_182 0 29 (dk_at dksL_law_6 10 rfl rfl)
theorem dL_law_300 : decode cL_law 300 = .ok (.if_icmp .eq 1184, 3) := dk_159 4 160 (dk_at dksL_law_6 13 rfl rfl)
theorem dL_law_303 : decode cL_law 303 = .ok (.iconst 0, 1) := dk_3 (dk_at dksL_law_6 16 rfl rfl)
theorem dL_law_304 : decode cL_law 304 = .ok (.ireturn, 1) := dk_172 (dk_at dksL_law_6 17 rfl rfl)
theorem dL_law_305 : decode cL_law 305 = .ok (.aload_n 1, 1) := dk_43 (dk_at dksL_law_6 18 rfl rfl)
theorem dL_law_306 : decode cL_law 306 = .ok (.invokevirtual 30, 3) := dk_182 0 30 (dk_at dksL_law_6 19 rfl rfl)
theorem dL_law_309 : decode cL_law 309 = .ok (.aload_n 2, 1) := dk_44 (dk_at dksL_law_6 22 rfl rfl)
theorem dL_law_310 : decode cL_law 310 = .ok (.invokevirtual 33, 3) := dk_182 0 33 (dk_at dksL_law_7 0 rfl rfl)
theorem dL_law_313 : decode cL_law 313 = .ok (.if_icmp .eq 1171, 3) := dk_159 4 147 (dk_at dksL_law_7 3 rfl rfl)
theorem dL_law_316 : decode cL_law 316 = .ok (.iconst 0, 1) := dk_3 (dk_at dksL_law_7 6 rfl rfl)
theorem dL_law_317 : decode cL_law 317 = .ok (.ireturn, 1) := dk_172 (dk_at dksL_law_7 7 rfl rfl)
theorem dL_law_318 : decode cL_law 318 = .ok (.aload_n 1, 1) := dk_43 (dk_at dksL_law_7 8 rfl rfl)
theorem dL_law_319 : decode cL_law 319 = .ok (.aload_n 0, 1) := dk_42 (dk_at dksL_law_7 9 rfl rfl)
theorem dL_law_320 : decode cL_law 320 = .ok (.iload_n 3, 1) := dk_29 (dk_at dksL_law_7 10 rfl rfl)
theorem dL_law_321 : decode cL_law 321 = .ok (.iconst 1, 1) := dk_4 (dk_at dksL_law_7 11 rfl rfl)
theorem dL_law_322 : decode cL_law 322 = .ok (.iadd, 1) := dk_96 (dk_at dksL_law_7 12 rfl rfl)
theorem dL_law_323 : decode cL_law 323 = .ok (.iaload, 1) := dk_46 (dk_at dksL_law_7 13 rfl rfl)
theorem dL_law_324 : decode cL_law 324 = .ok (.invokevirtual 34, 3) := dk_182 0 34 (dk_at dksL_law_7 14 rfl rfl)
theorem dL_law_327 : decode cL_law 327 = .ok (.aload_n 2, 1) := dk_44 (dk_at dksL_law_7 17 rfl rfl)
theorem dL_law_328 : decode cL_law 328 = .ok (.aload_n 0, 1) := dk_42 (dk_at dksL_law_7 18 rfl rfl)
theorem dL_law_329 : decode cL_law 329 = .ok (.iload_n 3, 1) := dk_29 (dk_at dksL_law_7 19 rfl rfl)
theorem dL_law_330 : decode cL_law 330 = .ok (.iconst 1, 1) := dk_4 (dk_at dksL_law_7 20 rfl rfl)
theorem dL_law_331 : decode cL_law 331 = .ok (.iadd, 1) := dk_96 (dk_at dksL_law_7 21 rfl rfl)
theorem dL_law_332 : decode cL_law 332 = .ok (.iaload, 1) := dk_46 (dk_at dksL_law_7 22 rfl rfl)
theorem dL_law_333 : decode cL_law 333 = .ok (.invokevirtual 37, 3) := dk_182 0 37 (dk_at dksL_law_8 0 rfl rfl)
theorem dL_law_336 : decode cL_law 336 = .ok (.if_icmp .eq 1148, 3) := dk_159 4 124 (dk_at dksL_law_8 3 rfl rfl)
theorem dL_law_339 : decode cL_law 339 = .ok (.iconst 0, 1) := dk_3 (dk_at dksL_law_8 6 rfl rfl)
theorem dL_law_340 : decode cL_law 340 = .ok (.ireturn, 1) := dk_172 (dk_at dksL_law_8 7 rfl rfl)
theorem dL_law_341 : decode cL_law 341 = .ok (.aload_n 1, 1) := dk_43 (dk_at dksL_law_8 8 rfl rfl)
theorem dL_law_342 : decode cL_law 342 = .ok (.aload_n 0, 1) := dk_42 (dk_at dksL_law_8 9 rfl rfl)
theorem dL_law_343 : decode cL_law 343 = .ok (.iload_n 3, 1) := dk_29 (dk_at dksL_law_8 10 rfl rfl)
theorem dL_law_344 : decode cL_law 344 = .ok (.iconst 1, 1) := dk_4 (dk_at dksL_law_8 11 rfl rfl)
theorem dL_law_345 : decode cL_law 345 = .ok (.iadd, 1) := dk_96 (dk_at dksL_law_8 12 rfl rfl)
theorem dL_law_346 : decode cL_law 346 = .ok (.iaload, 1) := dk_46 (dk_at dksL_law_8 13 rfl rfl)
theorem dL_law_347 : decode cL_law 347 = .ok (.aload_n 0, 1) := dk_42 (dk_at dksL_law_8 14 rfl rfl)
theorem dL_law_348 : decode cL_law 348 = .ok (.iload_n 3, 1) := dk_29 (dk_at dksL_law_8 15 rfl rfl)
theorem dL_law_349 : decode cL_law 349 = .ok (.iconst 2, 1) := dk_5 (dk_at dksL_law_8 16 rfl rfl)
theorem dL_law_350 : decode cL_law 350 = .ok (.iadd, 1) := dk_96 (dk_at dksL_law_8 17 rfl rfl)
theorem dL_law_351 : decode cL_law 351 = .ok (.iaload, 1) := dk_46 (dk_at dksL_law_8 18 rfl rfl)
theorem dL_law_352 : decode cL_law 352 = .ok (.invokevirtual 38, 3) := dk_182 0 38 (dk_at dksL_law_8 19 rfl rfl)
theorem dL_law_355 : decode cL_law 355 = .ok (.aload_n 2, 1) := dk_44 (dk_at dksL_law_8 22 rfl rfl)
theorem dL_law_356 : decode cL_law 356 = .ok (.aload_n 0, 1) := dk_42 (dk_at dksL_law_8 23 rfl rfl)
theorem dL_law_357 : decode cL_law 357 = .ok (.iload_n 3, 1) := dk_29 (dk_at dksL_law_9 0 rfl rfl)
theorem dL_law_358 : decode cL_law 358 = .ok (.iconst 1, 1) := dk_4 (dk_at dksL_law_9 1 rfl rfl)
theorem dL_law_359 : decode cL_law 359 = .ok (.iadd, 1) := dk_96 (dk_at dksL_law_9 2 rfl rfl)
theorem dL_law_360 : decode cL_law 360 = .ok (.iaload, 1) := dk_46 (dk_at dksL_law_9 3 rfl rfl)
theorem dL_law_361 : decode cL_law 361 = .ok (.aload_n 0, 1) := dk_42 (dk_at dksL_law_9 4 rfl rfl)
theorem dL_law_362 : decode cL_law 362 = .ok (.iload_n 3, 1) := dk_29 (dk_at dksL_law_9 5 rfl rfl)
theorem dL_law_363 : decode cL_law 363 = .ok (.iconst 2, 1) := dk_5 (dk_at dksL_law_9 6 rfl rfl)
theorem dL_law_364 : decode cL_law 364 = .ok (.iadd, 1) := dk_96 (dk_at dksL_law_9 7 rfl rfl)
theorem dL_law_365 : decode cL_law 365 = .ok (.iaload, 1) := dk_46 (dk_at dksL_law_9 8 rfl rfl)
theorem dL_law_366 : decode cL_law 366 = .ok (.invokevirtual 42, 3) := dk_182 0 42 (dk_at dksL_law_9 9 rfl rfl)
theorem dL_law_369 : decode cL_law 369 = .ok (.if_icmp .eq 1115, 3) := dk_159 4 91 (dk_at dksL_law_9 12 rfl rfl)
theorem dL_law_372 : decode cL_law 372 = .ok (.iconst 0, 1) := dk_3 (dk_at dksL_law_9 15 rfl rfl)
theorem dL_law_373 : decode cL_law 373 = .ok (.ireturn, 1) := dk_172 (dk_at dksL_law_9 16 rfl rfl)
theorem dL_law_374 : decode cL_law 374 = .ok (.aload_n 1, 1) := dk_43 (dk_at dksL_law_9 17 rfl rfl)
theorem dL_law_375 : decode cL_law 375 = .ok (.aload_n 0, 1) := dk_42 (dk_at dksL_law_9 18 rfl rfl)
theorem dL_law_376 : decode cL_law 376 = .ok (.iload_n 3, 1) := dk_29 (dk_at dksL_law_9 19 rfl rfl)
theorem dL_law_377 : decode cL_law 377 = .ok (.iconst 1, 1) := dk_4 (dk_at dksL_law_9 20 rfl rfl)
theorem dL_law_378 : decode cL_law 378 = .ok (.iadd, 1) := dk_96 (dk_at dksL_law_9 21 rfl rfl)
theorem dL_law_379 : decode cL_law 379 = .ok (.iaload, 1) := dk_46 (dk_at dksL_law_9 22 rfl rfl)
theorem dL_law_380 : decode cL_law 380 = .ok (.invokevirtual 43, 3) := dk_182 0 43 (dk_at dksL_law_10 0 rfl rfl)
theorem dL_law_383 : decode cL_law 383 = .ok (.aload_n 2, 1) := dk_44 (dk_at dksL_law_10 3 rfl rfl)
theorem dL_law_384 : decode cL_law 384 = .ok (.aload_n 0, 1) := dk_42 (dk_at dksL_law_10 4 rfl rfl)
theorem dL_law_385 : decode cL_law 385 = .ok (.iload_n 3, 1) := dk_29 (dk_at dksL_law_10 5 rfl rfl)
theorem dL_law_386 : decode cL_law 386 = .ok (.iconst 1, 1) := dk_4 (dk_at dksL_law_10 6 rfl rfl)
theorem dL_law_387 : decode cL_law 387 = .ok (.iadd, 1) := dk_96 (dk_at dksL_law_10 7 rfl rfl)
theorem dL_law_388 : decode cL_law 388 = .ok (.iaload, 1) := dk_46 (dk_at dksL_law_10 8 rfl rfl)
theorem dL_law_389 : decode cL_law 389 = .ok (.invokevirtual 46, 3) := dk_182 0 46 (dk_at dksL_law_10 9 rfl rfl)
theorem dL_law_392 : decode cL_law 392 = .ok (.if_icmp .eq 1092, 3) := dk_159 4 68 (dk_at dksL_law_10 12 rfl rfl)
theorem dL_law_395 : decode cL_law 395 = .ok (.iconst 0, 1) := dk_3 (dk_at dksL_law_10 15 rfl rfl)
theorem dL_law_396 : decode cL_law 396 = .ok (.ireturn, 1) := dk_172 (dk_at dksL_law_10 16 rfl rfl)
theorem dL_law_397 : decode cL_law 397 = .ok (.aload_n 1, 1) := dk_43 (dk_at dksL_law_10 17 rfl rfl)
theorem dL_law_398 : decode cL_law 398 = .ok (.aload_n 0, 1) := dk_42 (dk_at dksL_law_10 18 rfl rfl)
theorem dL_law_399 : decode cL_law 399 = .ok (.iload_n 3, 1) := dk_29 (dk_at dksL_law_10 19 rfl rfl)
theorem dL_law_400 : decode cL_law 400 = .ok (.iconst 1, 1) := dk_4 (dk_at dksL_law_10 20 rfl rfl)
theorem dL_law_401 : decode cL_law 401 = .ok (.iadd, 1) := dk_96 (dk_at dksL_law_10 21 rfl rfl)
theorem dL_law_402 : decode cL_law 402 = .ok (.iaload, 1) := dk_46 (dk_at dksL_law_10 22 rfl rfl)
theorem dL_law_403 : decode cL_law 403 = .ok (.aload_n 0, 1) := dk_42 (dk_at dksL_law_10 23 rfl rfl)
theorem dL_law_404 : decode cL_law 404 = .ok (.iload_n 3, 1) := dk_29 (dk_at dksL_law_11 0 rfl rfl)
theorem dL_law_405 : decode cL_law 405 = .ok (.iconst 2, 1) := dk_5 (dk_at dksL_law_11 1 rfl rfl)
theorem dL_law_406 : decode cL_law 406 = .ok (.iadd, 1) := dk_96 (dk_at dksL_law_11 2 rfl rfl)
theorem dL_law_407 : decode cL_law 407 = .ok (.iaload, 1) := dk_46 (dk_at dksL_law_11 3 rfl rfl)
theorem dL_law_408 : decode cL_law 408 = .ok (.invokevirtual 47, 3) := dk_182 0 47 (dk_at dksL_law_11 4 rfl rfl)
theorem dL_law_411 : decode cL_law 411 = .ok (.aload_n 2, 1) := dk_44 (dk_at dksL_law_11 7 rfl rfl)
theorem dL_law_412 : decode cL_law 412 = .ok (.aload_n 0, 1) := dk_42 (dk_at dksL_law_11 8 rfl rfl)
theorem dL_law_413 : decode cL_law 413 = .ok (.iload_n 3, 1) := dk_29 (dk_at dksL_law_11 9 rfl rfl)
theorem dL_law_414 : decode cL_law 414 = .ok (.iconst 1, 1) := dk_4 (dk_at dksL_law_11 10 rfl rfl)
theorem dL_law_415 : decode cL_law 415 = .ok (.iadd, 1) := dk_96 (dk_at dksL_law_11 11 rfl rfl)
theorem dL_law_416 : decode cL_law 416 = .ok (.iaload, 1) := dk_46 (dk_at dksL_law_11 12 rfl rfl)
theorem dL_law_417 : decode cL_law 417 = .ok (.aload_n 0, 1) := dk_42 (dk_at dksL_law_11 13 rfl rfl)
theorem dL_law_418 : decode cL_law 418 = .ok (.iload_n 3, 1) := dk_29 (dk_at dksL_law_11 14 rfl rfl)
theorem dL_law_419 : decode cL_law 419 = .ok (.iconst 2, 1) := dk_5 (dk_at dksL_law_11 15 rfl rfl)
theorem dL_law_420 : decode cL_law 420 = .ok (.iadd, 1) := dk_96 (dk_at dksL_law_11 16 rfl rfl)
theorem dL_law_421 : decode cL_law 421 = .ok (.iaload, 1) := dk_46 (dk_at dksL_law_11 17 rfl rfl)
theorem dL_law_422 : decode cL_law 422 = .ok (.invokevirtual 50, 3) := dk_182 0 50 (dk_at dksL_law_11 18 rfl rfl)
theorem dL_law_425 : decode cL_law 425 = .ok (.if_icmp .eq 1059, 3) := dk_159 4 35 (dk_at dksL_law_11 21 rfl rfl)
theorem dL_law_428 : decode cL_law 428 = .ok (.iconst 0, 1) := dk_3 (dk_at dksL_law_12 0 rfl rfl)
theorem dL_law_429 : decode cL_law 429 = .ok (.ireturn, 1) := dk_172 (dk_at dksL_law_12 1 rfl rfl)
theorem dL_law_430 : decode cL_law 430 = .ok (.aload_n 1, 1) := dk_43 (dk_at dksL_law_12 2 rfl rfl)
theorem dL_law_431 : decode cL_law 431 = .ok (.aload_n 0, 1) := dk_42 (dk_at dksL_law_12 3 rfl rfl)
theorem dL_law_432 : decode cL_law 432 = .ok (.iload_n 3, 1) := dk_29 (dk_at dksL_law_12 4 rfl rfl)
theorem dL_law_433 : decode cL_law 433 = .ok (.iconst 1, 1) := dk_4 (dk_at dksL_law_12 5 rfl rfl)
theorem dL_law_434 : decode cL_law 434 = .ok (.iadd, 1) := dk_96 (dk_at dksL_law_12 6 rfl rfl)
theorem dL_law_435 : decode cL_law 435 = .ok (.iaload, 1) := dk_46 (dk_at dksL_law_12 7 rfl rfl)
theorem dL_law_436 : decode cL_law 436 = .ok (.aload_n 0, 1) := dk_42 (dk_at dksL_law_12 8 rfl rfl)
theorem dL_law_437 : decode cL_law 437 = .ok (.iload_n 3, 1) := dk_29 (dk_at dksL_law_12 9 rfl rfl)
theorem dL_law_438 : decode cL_law 438 = .ok (.iconst 2, 1) := dk_5 (dk_at dksL_law_12 10 rfl rfl)
theorem dL_law_439 : decode cL_law 439 = .ok (.iadd, 1) := dk_96 (dk_at dksL_law_12 11 rfl rfl)
theorem dL_law_440 : decode cL_law 440 = .ok (.iaload, 1) := dk_46 (dk_at dksL_law_12 12 rfl rfl)
theorem dL_law_441 : decode cL_law 441 = .ok (.aload_n 0, 1) := dk_42 (dk_at dksL_law_12 13 rfl rfl)
theorem dL_law_442 : decode cL_law 442 = .ok (.iload_n 3, 1) := dk_29 (dk_at dksL_law_12 14 rfl rfl)
theorem dL_law_443 : decode cL_law 443 = .ok (.iconst 3, 1) := dk_6 (dk_at dksL_law_12 15 rfl rfl)
theorem dL_law_444 : decode cL_law 444 = .ok (.iadd, 1) := dk_96 (dk_at dksL_law_12 16 rfl rfl)
theorem dL_law_445 : decode cL_law 445 = .ok (.iaload, 1) := dk_46 (dk_at dksL_law_12 17 rfl rfl)
theorem dL_law_446 : decode cL_law 446 = .ok (.ifCond .eq 7, 3) := dk_153 0 7 (dk_at dksL_law_12 18 rfl rfl)
theorem dL_law_449 : decode cL_law 449 = .ok (.iconst 1, 1) := dk_4 (dk_at dksL_law_12 21 rfl rfl)
theorem dL_law_450 : decode cL_law 450 = .ok (.goto 4, 3) := dk_167 0 4 (dk_at dksL_law_13 0 rfl rfl)
theorem dL_law_453 : decode cL_law 453 = .ok (.iconst 0, 1) := dk_3 (dk_at dksL_law_13 3 rfl rfl)
theorem dL_law_454 : decode cL_law 454 = .ok (.invokevirtual 51, 3) := dk_182 0 51 (dk_at dksL_law_13 4 rfl rfl)
theorem dL_law_457 : decode cL_law 457 = .ok (.aload_n 2, 1) := dk_44 (dk_at dksL_law_13 7 rfl rfl)
theorem dL_law_458 : decode cL_law 458 = .ok (.aload_n 0, 1) := dk_42 (dk_at dksL_law_13 8 rfl rfl)
theorem dL_law_459 : decode cL_law 459 = .ok (.iload_n 3, 1) := dk_29 (dk_at dksL_law_13 9 rfl rfl)
theorem dL_law_460 : decode cL_law 460 = .ok (.iconst 1, 1) := dk_4 (dk_at dksL_law_13 10 rfl rfl)
theorem dL_law_461 : decode cL_law 461 = .ok (.iadd, 1) := dk_96 (dk_at dksL_law_13 11 rfl rfl)
theorem dL_law_462 : decode cL_law 462 = .ok (.iaload, 1) := dk_46 (dk_at dksL_law_13 12 rfl rfl)
theorem dL_law_463 : decode cL_law 463 = .ok (.aload_n 0, 1) := dk_42 (dk_at dksL_law_13 13 rfl rfl)
theorem dL_law_464 : decode cL_law 464 = .ok (.iload_n 3, 1) := dk_29 (dk_at dksL_law_13 14 rfl rfl)
theorem dL_law_465 : decode cL_law 465 = .ok (.iconst 2, 1) := dk_5 (dk_at dksL_law_13 15 rfl rfl)
theorem dL_law_466 : decode cL_law 466 = .ok (.iadd, 1) := dk_96 (dk_at dksL_law_13 16 rfl rfl)
theorem dL_law_467 : decode cL_law 467 = .ok (.iaload, 1) := dk_46 (dk_at dksL_law_13 17 rfl rfl)
theorem dL_law_468 : decode cL_law 468 = .ok (.aload_n 0, 1) := dk_42 (dk_at dksL_law_13 18 rfl rfl)
theorem dL_law_469 : decode cL_law 469 = .ok (.iload_n 3, 1) := dk_29 (dk_at dksL_law_13 19 rfl rfl)
theorem dL_law_470 : decode cL_law 470 = .ok (.iconst 3, 1) := dk_6 (dk_at dksL_law_13 20 rfl rfl)
theorem dL_law_471 : decode cL_law 471 = .ok (.iadd, 1) := dk_96 (dk_at dksL_law_13 21 rfl rfl)
theorem dL_law_472 : decode cL_law 472 = .ok (.iaload, 1) := dk_46 (dk_at dksL_law_13 22 rfl rfl)
theorem dL_law_473 : decode cL_law 473 = .ok (.ifCond .eq 7, 3) := dk_153 0 7 (dk_at dksL_law_14 0 rfl rfl)
theorem dL_law_476 : decode cL_law 476 = .ok (.iconst 1, 1) := dk_4 (dk_at dksL_law_14 3 rfl rfl)
theorem dL_law_477 : decode cL_law 477 = .ok (.goto 4, 3) := dk_167 0 4 (dk_at dksL_law_14 4 rfl rfl)
theorem dL_law_480 : decode cL_law 480 = .ok (.iconst 0, 1) := dk_3 (dk_at dksL_law_14 7 rfl rfl)
theorem dL_law_481 : decode cL_law 481 = .ok (.invokevirtual 55, 3) := dk_182 0 55 (dk_at dksL_law_14 8 rfl rfl)
theorem dL_law_484 : decode cL_law 484 = .ok (.if_icmp .eq 1000, 3) := dk_159 3 232 (dk_at dksL_law_14 11 rfl rfl)
theorem dL_law_487 : decode cL_law 487 = .ok (.iconst 0, 1) := dk_3 (dk_at dksL_law_14 14 rfl rfl)
theorem dL_law_488 : decode cL_law 488 = .ok (.ireturn, 1) := dk_172 (dk_at dksL_law_14 15 rfl rfl)
theorem dL_law_489 : decode cL_law 489 = .ok (.aload_n 1, 1) := dk_43 (dk_at dksL_law_14 16 rfl rfl)
theorem dL_law_490 : decode cL_law 490 = .ok (.aload_n 0, 1) := dk_42 (dk_at dksL_law_14 17 rfl rfl)
theorem dL_law_491 : decode cL_law 491 = .ok (.iload_n 3, 1) := dk_29 (dk_at dksL_law_14 18 rfl rfl)
theorem dL_law_492 : decode cL_law 492 = .ok (.iconst 1, 1) := dk_4 (dk_at dksL_law_14 19 rfl rfl)
theorem dL_law_493 : decode cL_law 493 = .ok (.iadd, 1) := dk_96 (dk_at dksL_law_14 20 rfl rfl)
theorem dL_law_494 : decode cL_law 494 = .ok (.iaload, 1) := dk_46 (dk_at dksL_law_14 21 rfl rfl)
theorem dL_law_495 : decode cL_law 495 = .ok (.aload_n 0, 1) := dk_42 (dk_at dksL_law_14 22 rfl rfl)
theorem dL_law_496 : decode cL_law 496 = .ok (.iload_n 3, 1) := dk_29 (dk_at dksL_law_14 23 rfl rfl)
theorem dL_law_497 : decode cL_law 497 = .ok (.iconst 2, 1) := dk_5 (dk_at dksL_law_15 0 rfl rfl)
theorem dL_law_498 : decode cL_law 498 = .ok (.iadd, 1) := dk_96 (dk_at dksL_law_15 1 rfl rfl)
theorem dL_law_499 : decode cL_law 499 = .ok (.iaload, 1) := dk_46 (dk_at dksL_law_15 2 rfl rfl)
theorem dL_law_500 : decode cL_law 500 = .ok (.invokevirtual 56, 3) := dk_182 0 56 (dk_at dksL_law_15 3 rfl rfl)
theorem dL_law_503 : decode cL_law 503 = .ok (.aload_n 2, 1) := dk_44 (dk_at dksL_law_15 6 rfl rfl)
theorem dL_law_504 : decode cL_law 504 = .ok (.aload_n 0, 1) := dk_42 (dk_at dksL_law_15 7 rfl rfl)
theorem dL_law_505 : decode cL_law 505 = .ok (.iload_n 3, 1) := dk_29 (dk_at dksL_law_15 8 rfl rfl)
theorem dL_law_506 : decode cL_law 506 = .ok (.iconst 1, 1) := dk_4 (dk_at dksL_law_15 9 rfl rfl)
theorem dL_law_507 : decode cL_law 507 = .ok (.iadd, 1) := dk_96 (dk_at dksL_law_15 10 rfl rfl)
theorem dL_law_508 : decode cL_law 508 = .ok (.iaload, 1) := dk_46 (dk_at dksL_law_15 11 rfl rfl)
theorem dL_law_509 : decode cL_law 509 = .ok (.aload_n 0, 1) := dk_42 (dk_at dksL_law_15 12 rfl rfl)
theorem dL_law_510 : decode cL_law 510 = .ok (.iload_n 3, 1) := dk_29 (dk_at dksL_law_15 13 rfl rfl)
theorem dL_law_511 : decode cL_law 511 = .ok (.iconst 2, 1) := dk_5 (dk_at dksL_law_15 14 rfl rfl)
theorem dL_law_512 : decode cL_law 512 = .ok (.iadd, 1) := dk_96 (dk_at dksL_law_15 15 rfl rfl)
theorem dL_law_513 : decode cL_law 513 = .ok (.iaload, 1) := dk_46 (dk_at dksL_law_15 16 rfl rfl)
theorem dL_law_514 : decode cL_law 514 = .ok (.invokevirtual 59, 3) := dk_182 0 59 (dk_at dksL_law_15 17 rfl rfl)
theorem dL_law_517 : decode cL_law 517 = .ok (.if_icmp .eq 967, 3) := dk_159 3 199 (dk_at dksL_law_15 20 rfl rfl)
theorem dL_law_520 : decode cL_law 520 = .ok (.iconst 0, 1) := dk_3 (dk_at dksL_law_15 23 rfl rfl)
theorem dL_law_521 : decode cL_law 521 = .ok (.ireturn, 1) := dk_172 (dk_at dksL_law_16 0 rfl rfl)
theorem dL_law_522 : decode cL_law 522 = .ok (.aload_n 1, 1) := dk_43 (dk_at dksL_law_16 1 rfl rfl)
theorem dL_law_523 : decode cL_law 523 = .ok (.invokevirtual 60, 3) := dk_182 0 60 (dk_at dksL_law_16 2 rfl rfl)
theorem dL_law_526 : decode cL_law 526 = .ok (.aload_n 2, 1) := dk_44 (dk_at dksL_law_16 5 rfl rfl)
theorem dL_law_527 : decode cL_law 527 = .ok (.invokevirtual 63, 3) := dk_182 0 63 (dk_at dksL_law_16 6 rfl rfl)
theorem dL_law_530 : decode cL_law 530 = .ok (.if_icmp .eq 954, 3) := dk_159 3 186 (dk_at dksL_law_16 9 rfl rfl)
theorem dL_law_533 : decode cL_law 533 = .ok (.iconst 0, 1) := dk_3 (dk_at dksL_law_16 12 rfl rfl)
theorem dL_law_534 : decode cL_law 534 = .ok (.ireturn, 1) := dk_172 (dk_at dksL_law_16 13 rfl rfl)
theorem dL_law_535 : decode cL_law 535 = .ok (.aload_n 1, 1) := dk_43 (dk_at dksL_law_16 14 rfl rfl)
theorem dL_law_536 : decode cL_law 536 = .ok (.invokevirtual 64, 3) := dk_182 0 64 (dk_at dksL_law_16 15 rfl rfl)
theorem dL_law_539 : decode cL_law 539 = .ok (.aload_n 2, 1) := dk_44 (dk_at dksL_law_16 18 rfl rfl)
theorem dL_law_540 : decode cL_law 540 = .ok (.invokevirtual 67, 3) := dk_182 0 67 (dk_at dksL_law_16 19 rfl rfl)
theorem dL_law_543 : decode cL_law 543 = .ok (.if_icmp .eq 941, 3) := dk_159 3 173 (dk_at dksL_law_17 0 rfl rfl)
theorem dL_law_546 : decode cL_law 546 = .ok (.iconst 0, 1) := dk_3 (dk_at dksL_law_17 3 rfl rfl)
theorem dL_law_547 : decode cL_law 547 = .ok (.ireturn, 1) := dk_172 (dk_at dksL_law_17 4 rfl rfl)
theorem dL_law_548 : decode cL_law 548 = .ok (.aload_n 1, 1) := dk_43 (dk_at dksL_law_17 5 rfl rfl)
theorem dL_law_549 : decode cL_law 549 = .ok (.aload_n 0, 1) := dk_42 (dk_at dksL_law_17 6 rfl rfl)
theorem dL_law_550 : decode cL_law 550 = .ok (.iload_n 3, 1) := dk_29 (dk_at dksL_law_17 7 rfl rfl)
theorem dL_law_551 : decode cL_law 551 = .ok (.iconst 1, 1) := dk_4 (dk_at dksL_law_17 8 rfl rfl)
theorem dL_law_552 : decode cL_law 552 = .ok (.iadd, 1) := dk_96 (dk_at dksL_law_17 9 rfl rfl)
theorem dL_law_553 : decode cL_law 553 = .ok (.iaload, 1) := dk_46 (dk_at dksL_law_17 10 rfl rfl)
theorem dL_law_554 : decode cL_law 554 = .ok (.aload_n 0, 1) := dk_42 (dk_at dksL_law_17 11 rfl rfl)
theorem dL_law_555 : decode cL_law 555 = .ok (.iload_n 3, 1) := dk_29 (dk_at dksL_law_17 12 rfl rfl)
theorem dL_law_556 : decode cL_law 556 = .ok (.iconst 2, 1) := dk_5 (dk_at dksL_law_17 13 rfl rfl)
theorem dL_law_557 : decode cL_law 557 = .ok (.iadd, 1) := dk_96 (dk_at dksL_law_17 14 rfl rfl)
theorem dL_law_558 : decode cL_law 558 = .ok (.iaload, 1) := dk_46 (dk_at dksL_law_17 15 rfl rfl)
theorem dL_law_559 : decode cL_law 559 = .ok (.invokevirtual 68, 3) := dk_182 0 68 (dk_at dksL_law_17 16 rfl rfl)
theorem dL_law_562 : decode cL_law 562 = .ok (.aload_n 2, 1) := dk_44 (dk_at dksL_law_17 19 rfl rfl)
theorem dL_law_563 : decode cL_law 563 = .ok (.aload_n 0, 1) := dk_42 (dk_at dksL_law_17 20 rfl rfl)
theorem dL_law_564 : decode cL_law 564 = .ok (.iload_n 3, 1) := dk_29 (dk_at dksL_law_17 21 rfl rfl)
theorem dL_law_565 : decode cL_law 565 = .ok (.iconst 1, 1) := dk_4 (dk_at dksL_law_17 22 rfl rfl)
theorem dL_law_566 : decode cL_law 566 = .ok (.iadd, 1) := dk_96 (dk_at dksL_law_17 23 rfl rfl)
theorem dL_law_567 : decode cL_law 567 = .ok (.iaload, 1) := dk_46 (dk_at dksL_law_18 0 rfl rfl)
theorem dL_law_568 : decode cL_law 568 = .ok (.aload_n 0, 1) := dk_42 (dk_at dksL_law_18 1 rfl rfl)
theorem dL_law_569 : decode cL_law 569 = .ok (.iload_n 3, 1) := dk_29 (dk_at dksL_law_18 2 rfl rfl)
theorem dL_law_570 : decode cL_law 570 = .ok (.iconst 2, 1) := dk_5 (dk_at dksL_law_18 3 rfl rfl)
theorem dL_law_571 : decode cL_law 571 = .ok (.iadd, 1) := dk_96 (dk_at dksL_law_18 4 rfl rfl)
theorem dL_law_572 : decode cL_law 572 = .ok (.iaload, 1) := dk_46 (dk_at dksL_law_18 5 rfl rfl)
theorem dL_law_573 : decode cL_law 573 = .ok (.invokevirtual 71, 3) := dk_182 0 71 (dk_at dksL_law_18 6 rfl rfl)
theorem dL_law_576 : decode cL_law 576 = .ok (.if_icmp .eq 908, 3) := dk_159 3 140 (dk_at dksL_law_18 9 rfl rfl)
theorem dL_law_579 : decode cL_law 579 = .ok (.iconst 0, 1) := dk_3 (dk_at dksL_law_18 12 rfl rfl)
theorem dL_law_580 : decode cL_law 580 = .ok (.ireturn, 1) := dk_172 (dk_at dksL_law_18 13 rfl rfl)
theorem dL_law_581 : decode cL_law 581 = .ok (.aload_n 1, 1) := dk_43 (dk_at dksL_law_18 14 rfl rfl)
theorem dL_law_582 : decode cL_law 582 = .ok (.aload_n 0, 1) := dk_42 (dk_at dksL_law_18 15 rfl rfl)
theorem dL_law_583 : decode cL_law 583 = .ok (.iload_n 3, 1) := dk_29 (dk_at dksL_law_18 16 rfl rfl)
theorem dL_law_584 : decode cL_law 584 = .ok (.iconst 1, 1) := dk_4 (dk_at dksL_law_18 17 rfl rfl)
theorem dL_law_585 : decode cL_law 585 = .ok (.iadd, 1) := dk_96 (dk_at dksL_law_18 18 rfl rfl)
theorem dL_law_586 : decode cL_law 586 = .ok (.iaload, 1) := dk_46 (dk_at dksL_law_18 19 rfl rfl)
theorem dL_law_587 : decode cL_law 587 = .ok (.aload_n 0, 1) := dk_42 (dk_at dksL_law_18 20 rfl rfl)
theorem dL_law_588 : decode cL_law 588 = .ok (.iload_n 3, 1) := dk_29 (dk_at dksL_law_18 21 rfl rfl)
theorem dL_law_589 : decode cL_law 589 = .ok (.iconst 2, 1) := dk_5 (dk_at dksL_law_18 22 rfl rfl)
theorem dL_law_590 : decode cL_law 590 = .ok (.iadd, 1) := dk_96 (dk_at dksL_law_18 23 rfl rfl)
theorem dL_law_591 : decode cL_law 591 = .ok (.iaload, 1) := dk_46 (dk_at dksL_law_19 0 rfl rfl)
theorem dL_law_592 : decode cL_law 592 = .ok (.invokevirtual 72, 3) := dk_182 0 72 (dk_at dksL_law_19 1 rfl rfl)
theorem dL_law_595 : decode cL_law 595 = .ok (.aload_n 2, 1) := dk_44 (dk_at dksL_law_19 4 rfl rfl)
theorem dL_law_596 : decode cL_law 596 = .ok (.aload_n 0, 1) := dk_42 (dk_at dksL_law_19 5 rfl rfl)
theorem dL_law_597 : decode cL_law 597 = .ok (.iload_n 3, 1) := dk_29 (dk_at dksL_law_19 6 rfl rfl)
theorem dL_law_598 : decode cL_law 598 = .ok (.iconst 1, 1) := dk_4 (dk_at dksL_law_19 7 rfl rfl)
theorem dL_law_599 : decode cL_law 599 = .ok (.iadd, 1) := dk_96 (dk_at dksL_law_19 8 rfl rfl)
theorem dL_law_600 : decode cL_law 600 = .ok (.iaload, 1) := dk_46 (dk_at dksL_law_19 9 rfl rfl)
theorem dL_law_601 : decode cL_law 601 = .ok (.aload_n 0, 1) := dk_42 (dk_at dksL_law_19 10 rfl rfl)
theorem dL_law_602 : decode cL_law 602 = .ok (.iload_n 3, 1) := dk_29 (dk_at dksL_law_19 11 rfl rfl)
theorem dL_law_603 : decode cL_law 603 = .ok (.iconst 2, 1) := dk_5 (dk_at dksL_law_19 12 rfl rfl)
theorem dL_law_604 : decode cL_law 604 = .ok (.iadd, 1) := dk_96 (dk_at dksL_law_19 13 rfl rfl)
theorem dL_law_605 : decode cL_law 605 = .ok (.iaload, 1) := dk_46 (dk_at dksL_law_19 14 rfl rfl)
theorem dL_law_606 : decode cL_law 606 = .ok (.invokevirtual 75, 3) := dk_182 0 75 (dk_at dksL_law_19 15 rfl rfl)
theorem dL_law_609 : decode cL_law 609 = .ok (.if_icmp .eq 875, 3) := dk_159 3 107 (dk_at dksL_law_19 18 rfl rfl)
theorem dL_law_612 : decode cL_law 612 = .ok (.iconst 0, 1) := dk_3 (dk_at dksL_law_19 21 rfl rfl)
theorem dL_law_613 : decode cL_law 613 = .ok (.ireturn, 1) := dk_172 (dk_at dksL_law_19 22 rfl rfl)
theorem dL_law_614 : decode cL_law 614 = .ok (.aload_n 1, 1) := dk_43 (dk_at dksL_law_19 23 rfl rfl)
theorem dL_law_615 : decode cL_law 615 = .ok (.aload_n 0, 1) := dk_42 (dk_at dksL_law_20 0 rfl rfl)
theorem dL_law_616 : decode cL_law 616 = .ok (.iload_n 3, 1) := dk_29 (dk_at dksL_law_20 1 rfl rfl)
theorem dL_law_617 : decode cL_law 617 = .ok (.iconst 1, 1) := dk_4 (dk_at dksL_law_20 2 rfl rfl)
theorem dL_law_618 : decode cL_law 618 = .ok (.iadd, 1) := dk_96 (dk_at dksL_law_20 3 rfl rfl)
theorem dL_law_619 : decode cL_law 619 = .ok (.iaload, 1) := dk_46 (dk_at dksL_law_20 4 rfl rfl)
theorem dL_law_620 : decode cL_law 620 = .ok (.aload_n 0, 1) := dk_42 (dk_at dksL_law_20 5 rfl rfl)
theorem dL_law_621 : decode cL_law 621 = .ok (.iload_n 3, 1) := dk_29 (dk_at dksL_law_20 6 rfl rfl)
theorem dL_law_622 : decode cL_law 622 = .ok (.iconst 2, 1) := dk_5 (dk_at dksL_law_20 7 rfl rfl)
theorem dL_law_623 : decode cL_law 623 = .ok (.iadd, 1) := dk_96 (dk_at dksL_law_20 8 rfl rfl)
theorem dL_law_624 : decode cL_law 624 = .ok (.iaload, 1) := dk_46 (dk_at dksL_law_20 9 rfl rfl)
theorem dL_law_625 : decode cL_law 625 = .ok (.invokevirtual 76, 3) := dk_182 0 76 (dk_at dksL_law_20 10 rfl rfl)
theorem dL_law_628 : decode cL_law 628 = .ok (.aload_n 2, 1) := dk_44 (dk_at dksL_law_20 13 rfl rfl)
theorem dL_law_629 : decode cL_law 629 = .ok (.aload_n 0, 1) := dk_42 (dk_at dksL_law_20 14 rfl rfl)
theorem dL_law_630 : decode cL_law 630 = .ok (.iload_n 3, 1) := dk_29 (dk_at dksL_law_20 15 rfl rfl)
theorem dL_law_631 : decode cL_law 631 = .ok (.iconst 1, 1) := dk_4 (dk_at dksL_law_20 16 rfl rfl)
theorem dL_law_632 : decode cL_law 632 = .ok (.iadd, 1) := dk_96 (dk_at dksL_law_20 17 rfl rfl)
theorem dL_law_633 : decode cL_law 633 = .ok (.iaload, 1) := dk_46 (dk_at dksL_law_20 18 rfl rfl)
theorem dL_law_634 : decode cL_law 634 = .ok (.aload_n 0, 1) := dk_42 (dk_at dksL_law_20 19 rfl rfl)
theorem dL_law_635 : decode cL_law 635 = .ok (.iload_n 3, 1) := dk_29 (dk_at dksL_law_20 20 rfl rfl)
theorem dL_law_636 : decode cL_law 636 = .ok (.iconst 2, 1) := dk_5 (dk_at dksL_law_20 21 rfl rfl)
theorem dL_law_637 : decode cL_law 637 = .ok (.iadd, 1) := dk_96 (dk_at dksL_law_20 22 rfl rfl)
theorem dL_law_638 : decode cL_law 638 = .ok (.iaload, 1) := dk_46 (dk_at dksL_law_20 23 rfl rfl)
theorem dL_law_639 : decode cL_law 639 = .ok (.invokevirtual 79, 3) := dk_182 0 79 (dk_at dksL_law_21 0 rfl rfl)
theorem dL_law_642 : decode cL_law 642 = .ok (.if_icmp .eq 842, 3) := dk_159 3 74 (dk_at dksL_law_21 3 rfl rfl)
theorem dL_law_645 : decode cL_law 645 = .ok (.iconst 0, 1) := dk_3 (dk_at dksL_law_21 6 rfl rfl)
theorem dL_law_646 : decode cL_law 646 = .ok (.ireturn, 1) := dk_172 (dk_at dksL_law_21 7 rfl rfl)
theorem dL_law_647 : decode cL_law 647 = .ok (.aload_n 1, 1) := dk_43 (dk_at dksL_law_21 8 rfl rfl)
theorem dL_law_648 : decode cL_law 648 = .ok (.aload_n 0, 1) := dk_42 (dk_at dksL_law_21 9 rfl rfl)
theorem dL_law_649 : decode cL_law 649 = .ok (.iload_n 3, 1) := dk_29 (dk_at dksL_law_21 10 rfl rfl)
theorem dL_law_650 : decode cL_law 650 = .ok (.iconst 1, 1) := dk_4 (dk_at dksL_law_21 11 rfl rfl)
theorem dL_law_651 : decode cL_law 651 = .ok (.iadd, 1) := dk_96 (dk_at dksL_law_21 12 rfl rfl)
theorem dL_law_652 : decode cL_law 652 = .ok (.iaload, 1) := dk_46 (dk_at dksL_law_21 13 rfl rfl)
theorem dL_law_653 : decode cL_law 653 = .ok (.aload_n 0, 1) := dk_42 (dk_at dksL_law_21 14 rfl rfl)
theorem dL_law_654 : decode cL_law 654 = .ok (.iload_n 3, 1) := dk_29 (dk_at dksL_law_21 15 rfl rfl)
theorem dL_law_655 : decode cL_law 655 = .ok (.iconst 2, 1) := dk_5 (dk_at dksL_law_21 16 rfl rfl)
theorem dL_law_656 : decode cL_law 656 = .ok (.iadd, 1) := dk_96 (dk_at dksL_law_21 17 rfl rfl)
theorem dL_law_657 : decode cL_law 657 = .ok (.iaload, 1) := dk_46 (dk_at dksL_law_21 18 rfl rfl)
theorem dL_law_658 : decode cL_law 658 = .ok (.invokevirtual 80, 3) := dk_182 0 80 (dk_at dksL_law_21 19 rfl rfl)
theorem dL_law_661 : decode cL_law 661 = .ok (.aload_n 2, 1) := dk_44 (dk_at dksL_law_21 22 rfl rfl)
theorem dL_law_662 : decode cL_law 662 = .ok (.aload_n 0, 1) := dk_42 (dk_at dksL_law_21 23 rfl rfl)
theorem dL_law_663 : decode cL_law 663 = .ok (.iload_n 3, 1) := dk_29 (dk_at dksL_law_22 0 rfl rfl)
theorem dL_law_664 : decode cL_law 664 = .ok (.iconst 1, 1) := dk_4 (dk_at dksL_law_22 1 rfl rfl)
theorem dL_law_665 : decode cL_law 665 = .ok (.iadd, 1) := dk_96 (dk_at dksL_law_22 2 rfl rfl)
theorem dL_law_666 : decode cL_law 666 = .ok (.iaload, 1) := dk_46 (dk_at dksL_law_22 3 rfl rfl)
theorem dL_law_667 : decode cL_law 667 = .ok (.aload_n 0, 1) := dk_42 (dk_at dksL_law_22 4 rfl rfl)
theorem dL_law_668 : decode cL_law 668 = .ok (.iload_n 3, 1) := dk_29 (dk_at dksL_law_22 5 rfl rfl)
theorem dL_law_669 : decode cL_law 669 = .ok (.iconst 2, 1) := dk_5 (dk_at dksL_law_22 6 rfl rfl)
theorem dL_law_670 : decode cL_law 670 = .ok (.iadd, 1) := dk_96 (dk_at dksL_law_22 7 rfl rfl)
theorem dL_law_671 : decode cL_law 671 = .ok (.iaload, 1) := dk_46 (dk_at dksL_law_22 8 rfl rfl)
theorem dL_law_672 : decode cL_law 672 = .ok (.invokevirtual 83, 3) := dk_182 0 83 (dk_at dksL_law_22 9 rfl rfl)
theorem dL_law_675 : decode cL_law 675 = .ok (.if_icmp .eq 809, 3) := dk_159 3 41 (dk_at dksL_law_22 12 rfl rfl)
theorem dL_law_678 : decode cL_law 678 = .ok (.iconst 0, 1) := dk_3 (dk_at dksL_law_22 15 rfl rfl)
theorem dL_law_679 : decode cL_law 679 = .ok (.ireturn, 1) := dk_172 (dk_at dksL_law_22 16 rfl rfl)
theorem dL_law_680 : decode cL_law 680 = .ok (.aload_n 1, 1) := dk_43 (dk_at dksL_law_22 17 rfl rfl)
theorem dL_law_681 : decode cL_law 681 = .ok (.aload_n 0, 1) := dk_42 (dk_at dksL_law_22 18 rfl rfl)
theorem dL_law_682 : decode cL_law 682 = .ok (.iload_n 3, 1) := dk_29 (dk_at dksL_law_22 19 rfl rfl)
theorem dL_law_683 : decode cL_law 683 = .ok (.iconst 1, 1) := dk_4 (dk_at dksL_law_22 20 rfl rfl)
theorem dL_law_684 : decode cL_law 684 = .ok (.iadd, 1) := dk_96 (dk_at dksL_law_22 21 rfl rfl)
theorem dL_law_685 : decode cL_law 685 = .ok (.iaload, 1) := dk_46 (dk_at dksL_law_22 22 rfl rfl)
theorem dL_law_686 : decode cL_law 686 = .ok (.invokevirtual 84, 3) := dk_182 0 84 (dk_at dksL_law_23 0 rfl rfl)
theorem dL_law_689 : decode cL_law 689 = .ok (.aload_n 2, 1) := dk_44 (dk_at dksL_law_23 3 rfl rfl)
theorem dL_law_690 : decode cL_law 690 = .ok (.aload_n 0, 1) := dk_42 (dk_at dksL_law_23 4 rfl rfl)
theorem dL_law_691 : decode cL_law 691 = .ok (.iload_n 3, 1) := dk_29 (dk_at dksL_law_23 5 rfl rfl)
theorem dL_law_692 : decode cL_law 692 = .ok (.iconst 1, 1) := dk_4 (dk_at dksL_law_23 6 rfl rfl)
theorem dL_law_693 : decode cL_law 693 = .ok (.iadd, 1) := dk_96 (dk_at dksL_law_23 7 rfl rfl)
theorem dL_law_694 : decode cL_law 694 = .ok (.iaload, 1) := dk_46 (dk_at dksL_law_23 8 rfl rfl)
theorem dL_law_695 : decode cL_law 695 = .ok (.invokevirtual 87, 3) := dk_182 0 87 (dk_at dksL_law_23 9 rfl rfl)
theorem dL_law_698 : decode cL_law 698 = .ok (.if_icmp .eq 786, 3) := dk_159 3 18 (dk_at dksL_law_23 12 rfl rfl)
theorem dL_law_701 : decode cL_law 701 = .ok (.iconst 0, 1) := dk_3 (dk_at dksL_law_23 15 rfl rfl)
theorem dL_law_702 : decode cL_law 702 = .ok (.ireturn, 1) := dk_172 (dk_at dksL_law_23 16 rfl rfl)
theorem dL_law_703 : decode cL_law 703 = .ok (.aload_n 1, 1) := dk_43 (dk_at dksL_law_23 17 rfl rfl)
theorem dL_law_704 : decode cL_law 704 = .ok (.aload_n 0, 1) := dk_42 (dk_at dksL_law_23 18 rfl rfl)
theorem dL_law_705 : decode cL_law 705 = .ok (.iload_n 3, 1) := dk_29 (dk_at dksL_law_23 19 rfl rfl)
theorem dL_law_706 : decode cL_law 706 = .ok (.iconst 1, 1) := dk_4 (dk_at dksL_law_23 20 rfl rfl)
theorem dL_law_707 : decode cL_law 707 = .ok (.iadd, 1) := dk_96 (dk_at dksL_law_23 21 rfl rfl)
theorem dL_law_708 : decode cL_law 708 = .ok (.iaload, 1) := dk_46 (dk_at dksL_law_23 22 rfl rfl)
theorem dL_law_709 : decode cL_law 709 = .ok (.aload_n 0, 1) := dk_42 (dk_at dksL_law_23 23 rfl rfl)
theorem dL_law_710 : decode cL_law 710 = .ok (.iload_n 3, 1) := dk_29 (dk_at dksL_law_24 0 rfl rfl)
theorem dL_law_711 : decode cL_law 711 = .ok (.iconst 2, 1) := dk_5 (dk_at dksL_law_24 1 rfl rfl)
theorem dL_law_712 : decode cL_law 712 = .ok (.iadd, 1) := dk_96 (dk_at dksL_law_24 2 rfl rfl)
theorem dL_law_713 : decode cL_law 713 = .ok (.iaload, 1) := dk_46 (dk_at dksL_law_24 3 rfl rfl)
theorem dL_law_714 : decode cL_law 714 = .ok (.invokevirtual 88, 3) := dk_182 0 88 (dk_at dksL_law_24 4 rfl rfl)
theorem dL_law_717 : decode cL_law 717 = .ok (.aload_n 2, 1) := dk_44 (dk_at dksL_law_24 7 rfl rfl)
theorem dL_law_718 : decode cL_law 718 = .ok (.aload_n 0, 1) := dk_42 (dk_at dksL_law_24 8 rfl rfl)
theorem dL_law_719 : decode cL_law 719 = .ok (.iload_n 3, 1) := dk_29 (dk_at dksL_law_24 9 rfl rfl)
theorem dL_law_720 : decode cL_law 720 = .ok (.iconst 1, 1) := dk_4 (dk_at dksL_law_24 10 rfl rfl)
theorem dL_law_721 : decode cL_law 721 = .ok (.iadd, 1) := dk_96 (dk_at dksL_law_24 11 rfl rfl)
theorem dL_law_722 : decode cL_law 722 = .ok (.iaload, 1) := dk_46 (dk_at dksL_law_24 12 rfl rfl)
theorem dL_law_723 : decode cL_law 723 = .ok (.aload_n 0, 1) := dk_42 (dk_at dksL_law_24 13 rfl rfl)
theorem dL_law_724 : decode cL_law 724 = .ok (.iload_n 3, 1) := dk_29 (dk_at dksL_law_24 14 rfl rfl)
theorem dL_law_725 : decode cL_law 725 = .ok (.iconst 2, 1) := dk_5 (dk_at dksL_law_24 15 rfl rfl)
theorem dL_law_726 : decode cL_law 726 = .ok (.iadd, 1) := dk_96 (dk_at dksL_law_24 16 rfl rfl)
theorem dL_law_727 : decode cL_law 727 = .ok (.iaload, 1) := dk_46 (dk_at dksL_law_24 17 rfl rfl)
theorem dL_law_728 : decode cL_law 728 = .ok (.invokevirtual 91, 3) := dk_182 0 91 (dk_at dksL_law_24 18 rfl rfl)
theorem dL_law_731 : decode cL_law 731 = .ok (.if_icmp .eq 753, 3) := dk_159 2 241 (dk_at dksL_law_24 21 rfl rfl)
theorem dL_law_734 : decode cL_law 734 = .ok (.iconst 0, 1) := dk_3 (dk_at dksL_law_25 0 rfl rfl)
theorem dL_law_735 : decode cL_law 735 = .ok (.ireturn, 1) := dk_172 (dk_at dksL_law_25 1 rfl rfl)
theorem dL_law_736 : decode cL_law 736 = .ok (.aload_n 1, 1) := dk_43 (dk_at dksL_law_25 2 rfl rfl)
theorem dL_law_737 : decode cL_law 737 = .ok (.aload_n 0, 1) := dk_42 (dk_at dksL_law_25 3 rfl rfl)
theorem dL_law_738 : decode cL_law 738 = .ok (.iload_n 3, 1) := dk_29 (dk_at dksL_law_25 4 rfl rfl)
theorem dL_law_739 : decode cL_law 739 = .ok (.iconst 1, 1) := dk_4 (dk_at dksL_law_25 5 rfl rfl)
theorem dL_law_740 : decode cL_law 740 = .ok (.iadd, 1) := dk_96 (dk_at dksL_law_25 6 rfl rfl)
theorem dL_law_741 : decode cL_law 741 = .ok (.iaload, 1) := dk_46 (dk_at dksL_law_25 7 rfl rfl)
theorem dL_law_742 : decode cL_law 742 = .ok (.invokevirtual 92, 3) := dk_182 0 92 (dk_at dksL_law_25 8 rfl rfl)
theorem dL_law_745 : decode cL_law 745 = .ok (.aload_n 2, 1) := dk_44 (dk_at dksL_law_25 11 rfl rfl)
theorem dL_law_746 : decode cL_law 746 = .ok (.aload_n 0, 1) := dk_42 (dk_at dksL_law_25 12 rfl rfl)
theorem dL_law_747 : decode cL_law 747 = .ok (.iload_n 3, 1) := dk_29 (dk_at dksL_law_25 13 rfl rfl)
theorem dL_law_748 : decode cL_law 748 = .ok (.iconst 1, 1) := dk_4 (dk_at dksL_law_25 14 rfl rfl)
theorem dL_law_749 : decode cL_law 749 = .ok (.iadd, 1) := dk_96 (dk_at dksL_law_25 15 rfl rfl)
theorem dL_law_750 : decode cL_law 750 = .ok (.iaload, 1) := dk_46 (dk_at dksL_law_25 16 rfl rfl)
theorem dL_law_751 : decode cL_law 751 = .ok (.invokevirtual 95, 3) := dk_182 0 95 (dk_at dksL_law_25 17 rfl rfl)
theorem dL_law_754 : decode cL_law 754 = .ok (.if_icmp .eq 730, 3) := dk_159 2 218 (dk_at dksL_law_25 20 rfl rfl)
theorem dL_law_757 : decode cL_law 757 = .ok (.iconst 0, 1) := dk_3 (dk_at dksL_law_25 23 rfl rfl)
theorem dL_law_758 : decode cL_law 758 = .ok (.ireturn, 1) := dk_172 (dk_at dksL_law_26 0 rfl rfl)
theorem dL_law_759 : decode cL_law 759 = .ok (.aload_n 1, 1) := dk_43 (dk_at dksL_law_26 1 rfl rfl)
theorem dL_law_760 : decode cL_law 760 = .ok (.aload_n 0, 1) := dk_42 (dk_at dksL_law_26 2 rfl rfl)
theorem dL_law_761 : decode cL_law 761 = .ok (.iload_n 3, 1) := dk_29 (dk_at dksL_law_26 3 rfl rfl)
theorem dL_law_762 : decode cL_law 762 = .ok (.iconst 1, 1) := dk_4 (dk_at dksL_law_26 4 rfl rfl)
theorem dL_law_763 : decode cL_law 763 = .ok (.iadd, 1) := dk_96 (dk_at dksL_law_26 5 rfl rfl)
theorem dL_law_764 : decode cL_law 764 = .ok (.iaload, 1) := dk_46 (dk_at dksL_law_26 6 rfl rfl)
theorem dL_law_765 : decode cL_law 765 = .ok (.aload_n 0, 1) := dk_42 (dk_at dksL_law_26 7 rfl rfl)
theorem dL_law_766 : decode cL_law 766 = .ok (.iload_n 3, 1) := dk_29 (dk_at dksL_law_26 8 rfl rfl)
theorem dL_law_767 : decode cL_law 767 = .ok (.iconst 2, 1) := dk_5 (dk_at dksL_law_26 9 rfl rfl)
theorem dL_law_768 : decode cL_law 768 = .ok (.iadd, 1) := dk_96 (dk_at dksL_law_26 10 rfl rfl)
theorem dL_law_769 : decode cL_law 769 = .ok (.iaload, 1) := dk_46 (dk_at dksL_law_26 11 rfl rfl)
theorem dL_law_770 : decode cL_law 770 = .ok (.aload_n 0, 1) := dk_42 (dk_at dksL_law_26 12 rfl rfl)
theorem dL_law_771 : decode cL_law 771 = .ok (.iload_n 3, 1) := dk_29 (dk_at dksL_law_26 13 rfl rfl)
theorem dL_law_772 : decode cL_law 772 = .ok (.iconst 3, 1) := dk_6 (dk_at dksL_law_26 14 rfl rfl)
theorem dL_law_773 : decode cL_law 773 = .ok (.iadd, 1) := dk_96 (dk_at dksL_law_26 15 rfl rfl)
theorem dL_law_774 : decode cL_law 774 = .ok (.iaload, 1) := dk_46 (dk_at dksL_law_26 16 rfl rfl)
theorem dL_law_775 : decode cL_law 775 = .ok (.invokevirtual 96, 3) := dk_182 0 96 (dk_at dksL_law_26 17 rfl rfl)
theorem dL_law_778 : decode cL_law 778 = .ok (.aload_n 2, 1) := dk_44 (dk_at dksL_law_26 20 rfl rfl)
theorem dL_law_779 : decode cL_law 779 = .ok (.aload_n 0, 1) := dk_42 (dk_at dksL_law_26 21 rfl rfl)
theorem dL_law_780 : decode cL_law 780 = .ok (.iload_n 3, 1) := dk_29 (dk_at dksL_law_26 22 rfl rfl)
theorem dL_law_781 : decode cL_law 781 = .ok (.iconst 1, 1) := dk_4 (dk_at dksL_law_26 23 rfl rfl)
theorem dL_law_782 : decode cL_law 782 = .ok (.iadd, 1) := dk_96 (dk_at dksL_law_27 0 rfl rfl)
theorem dL_law_783 : decode cL_law 783 = .ok (.iaload, 1) := dk_46 (dk_at dksL_law_27 1 rfl rfl)
theorem dL_law_784 : decode cL_law 784 = .ok (.aload_n 0, 1) := dk_42 (dk_at dksL_law_27 2 rfl rfl)
theorem dL_law_785 : decode cL_law 785 = .ok (.iload_n 3, 1) := dk_29 (dk_at dksL_law_27 3 rfl rfl)
theorem dL_law_786 : decode cL_law 786 = .ok (.iconst 2, 1) := dk_5 (dk_at dksL_law_27 4 rfl rfl)
theorem dL_law_787 : decode cL_law 787 = .ok (.iadd, 1) := dk_96 (dk_at dksL_law_27 5 rfl rfl)
theorem dL_law_788 : decode cL_law 788 = .ok (.iaload, 1) := dk_46 (dk_at dksL_law_27 6 rfl rfl)
theorem dL_law_789 : decode cL_law 789 = .ok (.aload_n 0, 1) := dk_42 (dk_at dksL_law_27 7 rfl rfl)
theorem dL_law_790 : decode cL_law 790 = .ok (.iload_n 3, 1) := dk_29 (dk_at dksL_law_27 8 rfl rfl)
theorem dL_law_791 : decode cL_law 791 = .ok (.iconst 3, 1) := dk_6 (dk_at dksL_law_27 9 rfl rfl)
theorem dL_law_792 : decode cL_law 792 = .ok (.iadd, 1) := dk_96 (dk_at dksL_law_27 10 rfl rfl)
theorem dL_law_793 : decode cL_law 793 = .ok (.iaload, 1) := dk_46 (dk_at dksL_law_27 11 rfl rfl)
theorem dL_law_794 : decode cL_law 794 = .ok (.invokevirtual 100, 3) := dk_182 0 100 (dk_at dksL_law_27 12 rfl rfl)
theorem dL_law_797 : decode cL_law 797 = .ok (.if_icmp .eq 687, 3) := dk_159 2 175 (dk_at dksL_law_27 15 rfl rfl)
theorem dL_law_800 : decode cL_law 800 = .ok (.iconst 0, 1) := dk_3 (dk_at dksL_law_27 18 rfl rfl)
theorem dL_law_801 : decode cL_law 801 = .ok (.ireturn, 1) := dk_172 (dk_at dksL_law_27 19 rfl rfl)
theorem dL_law_802 : decode cL_law 802 = .ok (.aload_n 1, 1) := dk_43 (dk_at dksL_law_27 20 rfl rfl)
theorem dL_law_803 : decode cL_law 803 = .ok (.aload_n 0, 1) := dk_42 (dk_at dksL_law_27 21 rfl rfl)
theorem dL_law_804 : decode cL_law 804 = .ok (.iload_n 3, 1) := dk_29 (dk_at dksL_law_27 22 rfl rfl)
theorem dL_law_805 : decode cL_law 805 = .ok (.iconst 1, 1) := dk_4 (dk_at dksL_law_27 23 rfl rfl)
theorem dL_law_806 : decode cL_law 806 = .ok (.iadd, 1) := dk_96 (dk_at dksL_law_28 0 rfl rfl)
theorem dL_law_807 : decode cL_law 807 = .ok (.iaload, 1) := dk_46 (dk_at dksL_law_28 1 rfl rfl)
theorem dL_law_808 : decode cL_law 808 = .ok (.aload_n 0, 1) := dk_42 (dk_at dksL_law_28 2 rfl rfl)
theorem dL_law_809 : decode cL_law 809 = .ok (.iload_n 3, 1) := dk_29 (dk_at dksL_law_28 3 rfl rfl)
theorem dL_law_810 : decode cL_law 810 = .ok (.iconst 2, 1) := dk_5 (dk_at dksL_law_28 4 rfl rfl)
theorem dL_law_811 : decode cL_law 811 = .ok (.iadd, 1) := dk_96 (dk_at dksL_law_28 5 rfl rfl)
theorem dL_law_812 : decode cL_law 812 = .ok (.iaload, 1) := dk_46 (dk_at dksL_law_28 6 rfl rfl)
theorem dL_law_813 : decode cL_law 813 = .ok (.invokevirtual 101, 3) := dk_182 0 101 (dk_at dksL_law_28 7 rfl rfl)
theorem dL_law_816 : decode cL_law 816 = .ok (.aload_n 2, 1) := dk_44 (dk_at dksL_law_28 10 rfl rfl)
theorem dL_law_817 : decode cL_law 817 = .ok (.aload_n 0, 1) := dk_42 (dk_at dksL_law_28 11 rfl rfl)
theorem dL_law_818 : decode cL_law 818 = .ok (.iload_n 3, 1) := dk_29 (dk_at dksL_law_28 12 rfl rfl)
theorem dL_law_819 : decode cL_law 819 = .ok (.iconst 1, 1) := dk_4 (dk_at dksL_law_28 13 rfl rfl)
theorem dL_law_820 : decode cL_law 820 = .ok (.iadd, 1) := dk_96 (dk_at dksL_law_28 14 rfl rfl)
theorem dL_law_821 : decode cL_law 821 = .ok (.iaload, 1) := dk_46 (dk_at dksL_law_28 15 rfl rfl)
theorem dL_law_822 : decode cL_law 822 = .ok (.aload_n 0, 1) := dk_42 (dk_at dksL_law_28 16 rfl rfl)
theorem dL_law_823 : decode cL_law 823 = .ok (.iload_n 3, 1) := dk_29 (dk_at dksL_law_28 17 rfl rfl)
theorem dL_law_824 : decode cL_law 824 = .ok (.iconst 2, 1) := dk_5 (dk_at dksL_law_28 18 rfl rfl)
theorem dL_law_825 : decode cL_law 825 = .ok (.iadd, 1) := dk_96 (dk_at dksL_law_28 19 rfl rfl)
theorem dL_law_826 : decode cL_law 826 = .ok (.iaload, 1) := dk_46 (dk_at dksL_law_28 20 rfl rfl)
theorem dL_law_827 : decode cL_law 827 = .ok (.invokevirtual 104, 3) := dk_182 0 104 (dk_at dksL_law_28 21 rfl rfl)
theorem dL_law_830 : decode cL_law 830 = .ok (.if_icmp .eq 654, 3) := dk_159 2 142 (dk_at dksL_law_29 0 rfl rfl)
theorem dL_law_833 : decode cL_law 833 = .ok (.iconst 0, 1) := dk_3 (dk_at dksL_law_29 3 rfl rfl)
theorem dL_law_834 : decode cL_law 834 = .ok (.ireturn, 1) := dk_172 (dk_at dksL_law_29 4 rfl rfl)
theorem dL_law_835 : decode cL_law 835 = .ok (.aload_n 1, 1) := dk_43 (dk_at dksL_law_29 5 rfl rfl)
theorem dL_law_836 : decode cL_law 836 = .ok (.aload_n 0, 1) := dk_42 (dk_at dksL_law_29 6 rfl rfl)
theorem dL_law_837 : decode cL_law 837 = .ok (.iload_n 3, 1) := dk_29 (dk_at dksL_law_29 7 rfl rfl)
theorem dL_law_838 : decode cL_law 838 = .ok (.iconst 1, 1) := dk_4 (dk_at dksL_law_29 8 rfl rfl)
theorem dL_law_839 : decode cL_law 839 = .ok (.iadd, 1) := dk_96 (dk_at dksL_law_29 9 rfl rfl)
theorem dL_law_840 : decode cL_law 840 = .ok (.iaload, 1) := dk_46 (dk_at dksL_law_29 10 rfl rfl)
theorem dL_law_841 : decode cL_law 841 = .ok (.aload_n 0, 1) := dk_42 (dk_at dksL_law_29 11 rfl rfl)
theorem dL_law_842 : decode cL_law 842 = .ok (.iload_n 3, 1) := dk_29 (dk_at dksL_law_29 12 rfl rfl)
theorem dL_law_843 : decode cL_law 843 = .ok (.iconst 2, 1) := dk_5 (dk_at dksL_law_29 13 rfl rfl)
theorem dL_law_844 : decode cL_law 844 = .ok (.iadd, 1) := dk_96 (dk_at dksL_law_29 14 rfl rfl)
theorem dL_law_845 : decode cL_law 845 = .ok (.iaload, 1) := dk_46 (dk_at dksL_law_29 15 rfl rfl)
theorem dL_law_846 : decode cL_law 846 = .ok (.invokevirtual 105, 3) := dk_182 0 105 (dk_at dksL_law_29 16 rfl rfl)
theorem dL_law_849 : decode cL_law 849 = .ok (.aload_n 2, 1) := dk_44 (dk_at dksL_law_29 19 rfl rfl)
theorem dL_law_850 : decode cL_law 850 = .ok (.aload_n 0, 1) := dk_42 (dk_at dksL_law_29 20 rfl rfl)
theorem dL_law_851 : decode cL_law 851 = .ok (.iload_n 3, 1) := dk_29 (dk_at dksL_law_29 21 rfl rfl)
theorem dL_law_852 : decode cL_law 852 = .ok (.iconst 1, 1) := dk_4 (dk_at dksL_law_29 22 rfl rfl)
theorem dL_law_853 : decode cL_law 853 = .ok (.iadd, 1) := dk_96 (dk_at dksL_law_29 23 rfl rfl)
theorem dL_law_854 : decode cL_law 854 = .ok (.iaload, 1) := dk_46 (dk_at dksL_law_30 0 rfl rfl)
theorem dL_law_855 : decode cL_law 855 = .ok (.aload_n 0, 1) := dk_42 (dk_at dksL_law_30 1 rfl rfl)
theorem dL_law_856 : decode cL_law 856 = .ok (.iload_n 3, 1) := dk_29 (dk_at dksL_law_30 2 rfl rfl)
theorem dL_law_857 : decode cL_law 857 = .ok (.iconst 2, 1) := dk_5 (dk_at dksL_law_30 3 rfl rfl)
theorem dL_law_858 : decode cL_law 858 = .ok (.iadd, 1) := dk_96 (dk_at dksL_law_30 4 rfl rfl)
theorem dL_law_859 : decode cL_law 859 = .ok (.iaload, 1) := dk_46 (dk_at dksL_law_30 5 rfl rfl)
theorem dL_law_860 : decode cL_law 860 = .ok (.invokevirtual 108, 3) := dk_182 0 108 (dk_at dksL_law_30 6 rfl rfl)
theorem dL_law_863 : decode cL_law 863 = .ok (.if_icmp .eq 621, 3) := dk_159 2 109 (dk_at dksL_law_30 9 rfl rfl)
theorem dL_law_866 : decode cL_law 866 = .ok (.iconst 0, 1) := dk_3 (dk_at dksL_law_30 12 rfl rfl)
theorem dL_law_867 : decode cL_law 867 = .ok (.ireturn, 1) := dk_172 (dk_at dksL_law_30 13 rfl rfl)
theorem dL_law_868 : decode cL_law 868 = .ok (.aload_n 1, 1) := dk_43 (dk_at dksL_law_30 14 rfl rfl)
theorem dL_law_869 : decode cL_law 869 = .ok (.aload_n 0, 1) := dk_42 (dk_at dksL_law_30 15 rfl rfl)
theorem dL_law_870 : decode cL_law 870 = .ok (.iload_n 3, 1) := dk_29 (dk_at dksL_law_30 16 rfl rfl)
theorem dL_law_871 : decode cL_law 871 = .ok (.iconst 1, 1) := dk_4 (dk_at dksL_law_30 17 rfl rfl)
theorem dL_law_872 : decode cL_law 872 = .ok (.iadd, 1) := dk_96 (dk_at dksL_law_30 18 rfl rfl)
theorem dL_law_873 : decode cL_law 873 = .ok (.iaload, 1) := dk_46 (dk_at dksL_law_30 19 rfl rfl)
theorem dL_law_874 : decode cL_law 874 = .ok (.aload_n 0, 1) := dk_42 (dk_at dksL_law_30 20 rfl rfl)
theorem dL_law_875 : decode cL_law 875 = .ok (.iload_n 3, 1) := dk_29 (dk_at dksL_law_30 21 rfl rfl)
theorem dL_law_876 : decode cL_law 876 = .ok (.iconst 2, 1) := dk_5 (dk_at dksL_law_30 22 rfl rfl)
theorem dL_law_877 : decode cL_law 877 = .ok (.iadd, 1) := dk_96 (dk_at dksL_law_30 23 rfl rfl)
theorem dL_law_878 : decode cL_law 878 = .ok (.iaload, 1) := dk_46 (dk_at dksL_law_31 0 rfl rfl)
theorem dL_law_879 : decode cL_law 879 = .ok (.invokevirtual 109, 3) := dk_182 0 109 (dk_at dksL_law_31 1 rfl rfl)
theorem dL_law_882 : decode cL_law 882 = .ok (.aload_n 2, 1) := dk_44 (dk_at dksL_law_31 4 rfl rfl)
theorem dL_law_883 : decode cL_law 883 = .ok (.aload_n 0, 1) := dk_42 (dk_at dksL_law_31 5 rfl rfl)
theorem dL_law_884 : decode cL_law 884 = .ok (.iload_n 3, 1) := dk_29 (dk_at dksL_law_31 6 rfl rfl)
theorem dL_law_885 : decode cL_law 885 = .ok (.iconst 1, 1) := dk_4 (dk_at dksL_law_31 7 rfl rfl)
theorem dL_law_886 : decode cL_law 886 = .ok (.iadd, 1) := dk_96 (dk_at dksL_law_31 8 rfl rfl)
theorem dL_law_887 : decode cL_law 887 = .ok (.iaload, 1) := dk_46 (dk_at dksL_law_31 9 rfl rfl)
theorem dL_law_888 : decode cL_law 888 = .ok (.aload_n 0, 1) := dk_42 (dk_at dksL_law_31 10 rfl rfl)
theorem dL_law_889 : decode cL_law 889 = .ok (.iload_n 3, 1) := dk_29 (dk_at dksL_law_31 11 rfl rfl)
theorem dL_law_890 : decode cL_law 890 = .ok (.iconst 2, 1) := dk_5 (dk_at dksL_law_31 12 rfl rfl)
theorem dL_law_891 : decode cL_law 891 = .ok (.iadd, 1) := dk_96 (dk_at dksL_law_31 13 rfl rfl)
theorem dL_law_892 : decode cL_law 892 = .ok (.iaload, 1) := dk_46 (dk_at dksL_law_31 14 rfl rfl)
theorem dL_law_893 : decode cL_law 893 = .ok (.invokevirtual 112, 3) := dk_182 0 112 (dk_at dksL_law_31 15 rfl rfl)
theorem dL_law_896 : decode cL_law 896 = .ok (.if_icmp .eq 588, 3) := dk_159 2 76 (dk_at dksL_law_31 18 rfl rfl)
theorem dL_law_899 : decode cL_law 899 = .ok (.iconst 0, 1) := dk_3 (dk_at dksL_law_31 21 rfl rfl)
theorem dL_law_900 : decode cL_law 900 = .ok (.ireturn, 1) := dk_172 (dk_at dksL_law_31 22 rfl rfl)
theorem dL_law_901 : decode cL_law 901 = .ok (.aload_n 1, 1) := dk_43 (dk_at dksL_law_31 23 rfl rfl)
theorem dL_law_902 : decode cL_law 902 = .ok (.aload_n 0, 1) := dk_42 (dk_at dksL_law_32 0 rfl rfl)
theorem dL_law_903 : decode cL_law 903 = .ok (.iload_n 3, 1) := dk_29 (dk_at dksL_law_32 1 rfl rfl)
theorem dL_law_904 : decode cL_law 904 = .ok (.iconst 1, 1) := dk_4 (dk_at dksL_law_32 2 rfl rfl)
theorem dL_law_905 : decode cL_law 905 = .ok (.iadd, 1) := dk_96 (dk_at dksL_law_32 3 rfl rfl)
theorem dL_law_906 : decode cL_law 906 = .ok (.iaload, 1) := dk_46 (dk_at dksL_law_32 4 rfl rfl)
theorem dL_law_907 : decode cL_law 907 = .ok (.invokevirtual 113, 3) := dk_182 0 113 (dk_at dksL_law_32 5 rfl rfl)
theorem dL_law_910 : decode cL_law 910 = .ok (.aload_n 2, 1) := dk_44 (dk_at dksL_law_32 8 rfl rfl)
theorem dL_law_911 : decode cL_law 911 = .ok (.aload_n 0, 1) := dk_42 (dk_at dksL_law_32 9 rfl rfl)
theorem dL_law_912 : decode cL_law 912 = .ok (.iload_n 3, 1) := dk_29 (dk_at dksL_law_32 10 rfl rfl)
theorem dL_law_913 : decode cL_law 913 = .ok (.iconst 1, 1) := dk_4 (dk_at dksL_law_32 11 rfl rfl)
theorem dL_law_914 : decode cL_law 914 = .ok (.iadd, 1) := dk_96 (dk_at dksL_law_32 12 rfl rfl)
theorem dL_law_915 : decode cL_law 915 = .ok (.iaload, 1) := dk_46 (dk_at dksL_law_32 13 rfl rfl)
theorem dL_law_916 : decode cL_law 916 = .ok (.invokevirtual 116, 3) := dk_182 0 116 (dk_at dksL_law_32 14 rfl rfl)
theorem dL_law_919 : decode cL_law 919 = .ok (.if_icmp .eq 565, 3) := dk_159 2 53 (dk_at dksL_law_32 17 rfl rfl)
theorem dL_law_922 : decode cL_law 922 = .ok (.iconst 0, 1) := dk_3 (dk_at dksL_law_32 20 rfl rfl)
theorem dL_law_923 : decode cL_law 923 = .ok (.ireturn, 1) := dk_172 (dk_at dksL_law_32 21 rfl rfl)
theorem dL_law_924 : decode cL_law 924 = .ok (.aload_n 1, 1) := dk_43 (dk_at dksL_law_32 22 rfl rfl)
theorem dL_law_925 : decode cL_law 925 = .ok (.aload_n 0, 1) := dk_42 (dk_at dksL_law_32 23 rfl rfl)
theorem dL_law_926 : decode cL_law 926 = .ok (.iload_n 3, 1) := dk_29 (dk_at dksL_law_33 0 rfl rfl)
theorem dL_law_927 : decode cL_law 927 = .ok (.iconst 1, 1) := dk_4 (dk_at dksL_law_33 1 rfl rfl)
theorem dL_law_928 : decode cL_law 928 = .ok (.iadd, 1) := dk_96 (dk_at dksL_law_33 2 rfl rfl)
theorem dL_law_929 : decode cL_law 929 = .ok (.iaload, 1) := dk_46 (dk_at dksL_law_33 3 rfl rfl)
theorem dL_law_930 : decode cL_law 930 = .ok (.aload_n 0, 1) := dk_42 (dk_at dksL_law_33 4 rfl rfl)
theorem dL_law_931 : decode cL_law 931 = .ok (.iload_n 3, 1) := dk_29 (dk_at dksL_law_33 5 rfl rfl)
theorem dL_law_932 : decode cL_law 932 = .ok (.iconst 2, 1) := dk_5 (dk_at dksL_law_33 6 rfl rfl)
theorem dL_law_933 : decode cL_law 933 = .ok (.iadd, 1) := dk_96 (dk_at dksL_law_33 7 rfl rfl)
theorem dL_law_934 : decode cL_law 934 = .ok (.iaload, 1) := dk_46 (dk_at dksL_law_33 8 rfl rfl)
theorem dL_law_935 : decode cL_law 935 = .ok (.aload_n 0, 1) := dk_42 (dk_at dksL_law_33 9 rfl rfl)
theorem dL_law_936 : decode cL_law 936 = .ok (.iload_n 3, 1) := dk_29 (dk_at dksL_law_33 10 rfl rfl)
theorem dL_law_937 : decode cL_law 937 = .ok (.iconst 3, 1) := dk_6 (dk_at dksL_law_33 11 rfl rfl)
theorem dL_law_938 : decode cL_law 938 = .ok (.iadd, 1) := dk_96 (dk_at dksL_law_33 12 rfl rfl)
theorem dL_law_939 : decode cL_law 939 = .ok (.iaload, 1) := dk_46 (dk_at dksL_law_33 13 rfl rfl)
theorem dL_law_940 : decode cL_law 940 = .ok (.invokevirtual 117, 3) := dk_182 0 117 (dk_at dksL_law_33 14 rfl rfl)
theorem dL_law_943 : decode cL_law 943 = .ok (.aload_n 2, 1) := dk_44 (dk_at dksL_law_33 17 rfl rfl)
theorem dL_law_944 : decode cL_law 944 = .ok (.aload_n 0, 1) := dk_42 (dk_at dksL_law_33 18 rfl rfl)
theorem dL_law_945 : decode cL_law 945 = .ok (.iload_n 3, 1) := dk_29 (dk_at dksL_law_33 19 rfl rfl)
theorem dL_law_946 : decode cL_law 946 = .ok (.iconst 1, 1) := dk_4 (dk_at dksL_law_33 20 rfl rfl)
theorem dL_law_947 : decode cL_law 947 = .ok (.iadd, 1) := dk_96 (dk_at dksL_law_33 21 rfl rfl)
theorem dL_law_948 : decode cL_law 948 = .ok (.iaload, 1) := dk_46 (dk_at dksL_law_33 22 rfl rfl)
theorem dL_law_949 : decode cL_law 949 = .ok (.aload_n 0, 1) := dk_42 (dk_at dksL_law_33 23 rfl rfl)
theorem dL_law_950 : decode cL_law 950 = .ok (.iload_n 3, 1) := dk_29 (dk_at dksL_law_34 0 rfl rfl)
theorem dL_law_951 : decode cL_law 951 = .ok (.iconst 2, 1) := dk_5 (dk_at dksL_law_34 1 rfl rfl)
theorem dL_law_952 : decode cL_law 952 = .ok (.iadd, 1) := dk_96 (dk_at dksL_law_34 2 rfl rfl)
theorem dL_law_953 : decode cL_law 953 = .ok (.iaload, 1) := dk_46 (dk_at dksL_law_34 3 rfl rfl)
theorem dL_law_954 : decode cL_law 954 = .ok (.aload_n 0, 1) := dk_42 (dk_at dksL_law_34 4 rfl rfl)
theorem dL_law_955 : decode cL_law 955 = .ok (.iload_n 3, 1) := dk_29 (dk_at dksL_law_34 5 rfl rfl)
theorem dL_law_956 : decode cL_law 956 = .ok (.iconst 3, 1) := dk_6 (dk_at dksL_law_34 6 rfl rfl)
theorem dL_law_957 : decode cL_law 957 = .ok (.iadd, 1) := dk_96 (dk_at dksL_law_34 7 rfl rfl)
theorem dL_law_958 : decode cL_law 958 = .ok (.iaload, 1) := dk_46 (dk_at dksL_law_34 8 rfl rfl)
theorem dL_law_959 : decode cL_law 959 = .ok (.invokevirtual 120, 3) := dk_182 0 120 (dk_at dksL_law_34 9 rfl rfl)
theorem dL_law_962 : decode cL_law 962 = .ok (.if_icmp .eq 522, 3) := dk_159 2 10 (dk_at dksL_law_34 12 rfl rfl)
theorem dL_law_965 : decode cL_law 965 = .ok (.iconst 0, 1) := dk_3 (dk_at dksL_law_34 15 rfl rfl)
theorem dL_law_966 : decode cL_law 966 = .ok (.ireturn, 1) := dk_172 (dk_at dksL_law_34 16 rfl rfl)
theorem dL_law_967 : decode cL_law 967 = .ok (.aload_n 1, 1) := dk_43 (dk_at dksL_law_34 17 rfl rfl)
theorem dL_law_968 : decode cL_law 968 = .ok (.aload_n 0, 1) := dk_42 (dk_at dksL_law_34 18 rfl rfl)
theorem dL_law_969 : decode cL_law 969 = .ok (.iload_n 3, 1) := dk_29 (dk_at dksL_law_34 19 rfl rfl)
theorem dL_law_970 : decode cL_law 970 = .ok (.iconst 1, 1) := dk_4 (dk_at dksL_law_34 20 rfl rfl)
theorem dL_law_971 : decode cL_law 971 = .ok (.iadd, 1) := dk_96 (dk_at dksL_law_34 21 rfl rfl)
theorem dL_law_972 : decode cL_law 972 = .ok (.iaload, 1) := dk_46 (dk_at dksL_law_34 22 rfl rfl)
theorem dL_law_973 : decode cL_law 973 = .ok (.aload_n 0, 1) := dk_42 (dk_at dksL_law_34 23 rfl rfl)
theorem dL_law_974 : decode cL_law 974 = .ok (.iload_n 3, 1) := dk_29 (dk_at dksL_law_35 0 rfl rfl)
theorem dL_law_975 : decode cL_law 975 = .ok (.iconst 2, 1) := dk_5 (dk_at dksL_law_35 1 rfl rfl)
theorem dL_law_976 : decode cL_law 976 = .ok (.iadd, 1) := dk_96 (dk_at dksL_law_35 2 rfl rfl)
theorem dL_law_977 : decode cL_law 977 = .ok (.iaload, 1) := dk_46 (dk_at dksL_law_35 3 rfl rfl)
theorem dL_law_978 : decode cL_law 978 = .ok (.aload_n 0, 1) := dk_42 (dk_at dksL_law_35 4 rfl rfl)
theorem dL_law_979 : decode cL_law 979 = .ok (.iload_n 3, 1) := dk_29 (dk_at dksL_law_35 5 rfl rfl)
theorem dL_law_980 : decode cL_law 980 = .ok (.iconst 3, 1) := dk_6 (dk_at dksL_law_35 6 rfl rfl)
theorem dL_law_981 : decode cL_law 981 = .ok (.iadd, 1) := dk_96 (dk_at dksL_law_35 7 rfl rfl)
theorem dL_law_982 : decode cL_law 982 = .ok (.iaload, 1) := dk_46 (dk_at dksL_law_35 8 rfl rfl)
theorem dL_law_983 : decode cL_law 983 = .ok (.invokevirtual 121, 3) := dk_182 0 121 (dk_at dksL_law_35 9 rfl rfl)
theorem dL_law_986 : decode cL_law 986 = .ok (.aload_n 2, 1) := dk_44 (dk_at dksL_law_35 12 rfl rfl)
theorem dL_law_987 : decode cL_law 987 = .ok (.aload_n 0, 1) := dk_42 (dk_at dksL_law_35 13 rfl rfl)
theorem dL_law_988 : decode cL_law 988 = .ok (.iload_n 3, 1) := dk_29 (dk_at dksL_law_35 14 rfl rfl)
theorem dL_law_989 : decode cL_law 989 = .ok (.iconst 1, 1) := dk_4 (dk_at dksL_law_35 15 rfl rfl)
theorem dL_law_990 : decode cL_law 990 = .ok (.iadd, 1) := dk_96 (dk_at dksL_law_35 16 rfl rfl)
theorem dL_law_991 : decode cL_law 991 = .ok (.iaload, 1) := dk_46 (dk_at dksL_law_35 17 rfl rfl)
theorem dL_law_992 : decode cL_law 992 = .ok (.aload_n 0, 1) := dk_42 (dk_at dksL_law_35 18 rfl rfl)
theorem dL_law_993 : decode cL_law 993 = .ok (.iload_n 3, 1) := dk_29 (dk_at dksL_law_35 19 rfl rfl)
theorem dL_law_994 : decode cL_law 994 = .ok (.iconst 2, 1) := dk_5 (dk_at dksL_law_35 20 rfl rfl)
theorem dL_law_995 : decode cL_law 995 = .ok (.iadd, 1) := dk_96 (dk_at dksL_law_35 21 rfl rfl)
theorem dL_law_996 : decode cL_law 996 = .ok (.iaload, 1) := dk_46 (dk_at dksL_law_35 22 rfl rfl)
theorem dL_law_997 : decode cL_law 997 = .ok (.aload_n 0, 1) := dk_42 (dk_at dksL_law_35 23 rfl rfl)
theorem dL_law_998 : decode cL_law 998 = .ok (.iload_n 3, 1) := dk_29 (dk_at dksL_law_36 0 rfl rfl)
theorem dL_law_999 : decode cL_law 999 = .ok (.iconst 3, 1) := dk_6 (dk_at dksL_law_36 1 rfl rfl)
theorem dL_law_1000 : decode cL_law 1000 = .ok (.iadd, 1) := dk_96 (dk_at dksL_law_36 2 rfl rfl)
theorem dL_law_1001 : decode cL_law 1001 = .ok (.iaload, 1) := dk_46 (dk_at dksL_law_36 3 rfl rfl)
theorem dL_law_1002 : decode cL_law 1002 = .ok (.invokevirtual 124, 3) := dk_182 0 124 (dk_at dksL_law_36 4 rfl rfl)
theorem dL_law_1005 : decode cL_law 1005 = .ok (.if_icmp .eq 479, 3) := dk_159 1 223 (dk_at dksL_law_36 7 rfl rfl)
theorem dL_law_1008 : decode cL_law 1008 = .ok (.iconst 0, 1) := dk_3 (dk_at dksL_law_36 10 rfl rfl)
theorem dL_law_1009 : decode cL_law 1009 = .ok (.ireturn, 1) := dk_172 (dk_at dksL_law_36 11 rfl rfl)
theorem dL_law_1010 : decode cL_law 1010 = .ok (.aload_n 1, 1) := dk_43 (dk_at dksL_law_36 12 rfl rfl)
theorem dL_law_1011 : decode cL_law 1011 = .ok (.aload_n 0, 1) := dk_42 (dk_at dksL_law_36 13 rfl rfl)
theorem dL_law_1012 : decode cL_law 1012 = .ok (.iload_n 3, 1) := dk_29 (dk_at dksL_law_36 14 rfl rfl)
theorem dL_law_1013 : decode cL_law 1013 = .ok (.iconst 1, 1) := dk_4 (dk_at dksL_law_36 15 rfl rfl)
theorem dL_law_1014 : decode cL_law 1014 = .ok (.iadd, 1) := dk_96 (dk_at dksL_law_36 16 rfl rfl)
theorem dL_law_1015 : decode cL_law 1015 = .ok (.iaload, 1) := dk_46 (dk_at dksL_law_36 17 rfl rfl)
theorem dL_law_1016 : decode cL_law 1016 = .ok (.invokevirtual 125, 3) := dk_182 0 125 (dk_at dksL_law_36 18 rfl rfl)
theorem dL_law_1019 : decode cL_law 1019 = .ok (.aload_n 2, 1) := dk_44 (dk_at dksL_law_36 21 rfl rfl)
theorem dL_law_1020 : decode cL_law 1020 = .ok (.aload_n 0, 1) := dk_42 (dk_at dksL_law_36 22 rfl rfl)
theorem dL_law_1021 : decode cL_law 1021 = .ok (.iload_n 3, 1) := dk_29 (dk_at dksL_law_36 23 rfl rfl)
theorem dL_law_1022 : decode cL_law 1022 = .ok (.iconst 1, 1) := dk_4 (dk_at dksL_law_37 0 rfl rfl)
theorem dL_law_1023 : decode cL_law 1023 = .ok (.iadd, 1) := dk_96 (dk_at dksL_law_37 1 rfl rfl)
theorem dL_law_1024 : decode cL_law 1024 = .ok (.iaload, 1) := dk_46 (dk_at dksL_law_37 2 rfl rfl)
theorem dL_law_1025 : decode cL_law 1025 = .ok (.invokevirtual 128, 3) := dk_182 0 128 (dk_at dksL_law_37 3 rfl rfl)
theorem dL_law_1028 : decode cL_law 1028 = .ok (.if_icmp .eq 456, 3) := dk_159 1 200 (dk_at dksL_law_37 6 rfl rfl)
theorem dL_law_1031 : decode cL_law 1031 = .ok (.iconst 0, 1) := dk_3 (dk_at dksL_law_37 9 rfl rfl)
theorem dL_law_1032 : decode cL_law 1032 = .ok (.ireturn, 1) := dk_172 (dk_at dksL_law_37 10 rfl rfl)
theorem dL_law_1033 : decode cL_law 1033 = .ok (.aload_n 1, 1) := dk_43 (dk_at dksL_law_37 11 rfl rfl)
theorem dL_law_1034 : decode cL_law 1034 = .ok (.aload_n 0, 1) := dk_42 (dk_at dksL_law_37 12 rfl rfl)
theorem dL_law_1035 : decode cL_law 1035 = .ok (.iload_n 3, 1) := dk_29 (dk_at dksL_law_37 13 rfl rfl)
theorem dL_law_1036 : decode cL_law 1036 = .ok (.iconst 1, 1) := dk_4 (dk_at dksL_law_37 14 rfl rfl)
theorem dL_law_1037 : decode cL_law 1037 = .ok (.iadd, 1) := dk_96 (dk_at dksL_law_37 15 rfl rfl)
theorem dL_law_1038 : decode cL_law 1038 = .ok (.iaload, 1) := dk_46 (dk_at dksL_law_37 16 rfl rfl)
theorem dL_law_1039 : decode cL_law 1039 = .ok (.invokevirtual 129, 3) := dk_182 0 129 (dk_at dksL_law_37 17 rfl rfl)
theorem dL_law_1042 : decode cL_law 1042 = .ok (.aload_n 2, 1) := dk_44 (dk_at dksL_law_37 20 rfl rfl)
theorem dL_law_1043 : decode cL_law 1043 = .ok (.aload_n 0, 1) := dk_42 (dk_at dksL_law_37 21 rfl rfl)
theorem dL_law_1044 : decode cL_law 1044 = .ok (.iload_n 3, 1) := dk_29 (dk_at dksL_law_37 22 rfl rfl)
theorem dL_law_1045 : decode cL_law 1045 = .ok (.iconst 1, 1) := dk_4 (dk_at dksL_law_37 23 rfl rfl)
theorem dL_law_1046 : decode cL_law 1046 = .ok (.iadd, 1) := dk_96 (dk_at dksL_law_38 0 rfl rfl)
theorem dL_law_1047 : decode cL_law 1047 = .ok (.iaload, 1) := dk_46 (dk_at dksL_law_38 1 rfl rfl)
theorem dL_law_1048 : decode cL_law 1048 = .ok (.invokevirtual 132, 3) := dk_182 0 132 (dk_at dksL_law_38 2 rfl rfl)
theorem dL_law_1051 : decode cL_law 1051 = .ok (.if_icmp .eq 433, 3) := dk_159 1 177 (dk_at dksL_law_38 5 rfl rfl)
theorem dL_law_1054 : decode cL_law 1054 = .ok (.iconst 0, 1) := dk_3 (dk_at dksL_law_38 8 rfl rfl)
theorem dL_law_1055 : decode cL_law 1055 = .ok (.ireturn, 1) := dk_172 (dk_at dksL_law_38 9 rfl rfl)
theorem dL_law_1056 : decode cL_law 1056 = .ok (.aload_n 1, 1) := dk_43 (dk_at dksL_law_38 10 rfl rfl)
theorem dL_law_1057 : decode cL_law 1057 = .ok (.aload_n 0, 1) := dk_42 (dk_at dksL_law_38 11 rfl rfl)
theorem dL_law_1058 : decode cL_law 1058 = .ok (.iload_n 3, 1) := dk_29 (dk_at dksL_law_38 12 rfl rfl)
theorem dL_law_1059 : decode cL_law 1059 = .ok (.iconst 1, 1) := dk_4 (dk_at dksL_law_38 13 rfl rfl)
theorem dL_law_1060 : decode cL_law 1060 = .ok (.iadd, 1) := dk_96 (dk_at dksL_law_38 14 rfl rfl)
theorem dL_law_1061 : decode cL_law 1061 = .ok (.iaload, 1) := dk_46 (dk_at dksL_law_38 15 rfl rfl)
theorem dL_law_1062 : decode cL_law 1062 = .ok (.aload_n 0, 1) := dk_42 (dk_at dksL_law_38 16 rfl rfl)
theorem dL_law_1063 : decode cL_law 1063 = .ok (.iload_n 3, 1) := dk_29 (dk_at dksL_law_38 17 rfl rfl)
theorem dL_law_1064 : decode cL_law 1064 = .ok (.iconst 2, 1) := dk_5 (dk_at dksL_law_38 18 rfl rfl)
theorem dL_law_1065 : decode cL_law 1065 = .ok (.iadd, 1) := dk_96 (dk_at dksL_law_38 19 rfl rfl)
theorem dL_law_1066 : decode cL_law 1066 = .ok (.iaload, 1) := dk_46 (dk_at dksL_law_38 20 rfl rfl)
theorem dL_law_1067 : decode cL_law 1067 = .ok (.invokevirtual 133, 3) := dk_182 0 133 (dk_at dksL_law_38 21 rfl rfl)
theorem dL_law_1070 : decode cL_law 1070 = .ok (.aload_n 2, 1) := dk_44 (dk_at dksL_law_39 0 rfl rfl)
theorem dL_law_1071 : decode cL_law 1071 = .ok (.aload_n 0, 1) := dk_42 (dk_at dksL_law_39 1 rfl rfl)
theorem dL_law_1072 : decode cL_law 1072 = .ok (.iload_n 3, 1) := dk_29 (dk_at dksL_law_39 2 rfl rfl)
theorem dL_law_1073 : decode cL_law 1073 = .ok (.iconst 1, 1) := dk_4 (dk_at dksL_law_39 3 rfl rfl)
theorem dL_law_1074 : decode cL_law 1074 = .ok (.iadd, 1) := dk_96 (dk_at dksL_law_39 4 rfl rfl)
theorem dL_law_1075 : decode cL_law 1075 = .ok (.iaload, 1) := dk_46 (dk_at dksL_law_39 5 rfl rfl)
theorem dL_law_1076 : decode cL_law 1076 = .ok (.aload_n 0, 1) := dk_42 (dk_at dksL_law_39 6 rfl rfl)
theorem dL_law_1077 : decode cL_law 1077 = .ok (.iload_n 3, 1) := dk_29 (dk_at dksL_law_39 7 rfl rfl)
theorem dL_law_1078 : decode cL_law 1078 = .ok (.iconst 2, 1) := dk_5 (dk_at dksL_law_39 8 rfl rfl)
theorem dL_law_1079 : decode cL_law 1079 = .ok (.iadd, 1) := dk_96 (dk_at dksL_law_39 9 rfl rfl)
theorem dL_law_1080 : decode cL_law 1080 = .ok (.iaload, 1) := dk_46 (dk_at dksL_law_39 10 rfl rfl)
theorem dL_law_1081 : decode cL_law 1081 = .ok (.invokevirtual 136, 3) := dk_182 0 136 (dk_at dksL_law_39 11 rfl rfl)
theorem dL_law_1084 : decode cL_law 1084 = .ok (.if_icmp .eq 400, 3) := dk_159 1 144 (dk_at dksL_law_39 14 rfl rfl)
theorem dL_law_1087 : decode cL_law 1087 = .ok (.iconst 0, 1) := dk_3 (dk_at dksL_law_39 17 rfl rfl)
theorem dL_law_1088 : decode cL_law 1088 = .ok (.ireturn, 1) := dk_172 (dk_at dksL_law_39 18 rfl rfl)
theorem dL_law_1089 : decode cL_law 1089 = .ok (.aload_n 1, 1) := dk_43 (dk_at dksL_law_39 19 rfl rfl)
theorem dL_law_1090 : decode cL_law 1090 = .ok (.aload_n 0, 1) := dk_42 (dk_at dksL_law_39 20 rfl rfl)
theorem dL_law_1091 : decode cL_law 1091 = .ok (.iload_n 3, 1) := dk_29 (dk_at dksL_law_39 21 rfl rfl)
theorem dL_law_1092 : decode cL_law 1092 = .ok (.iconst 1, 1) := dk_4 (dk_at dksL_law_39 22 rfl rfl)
theorem dL_law_1093 : decode cL_law 1093 = .ok (.iadd, 1) := dk_96 (dk_at dksL_law_39 23 rfl rfl)
theorem dL_law_1094 : decode cL_law 1094 = .ok (.iaload, 1) := dk_46 (dk_at dksL_law_40 0 rfl rfl)
theorem dL_law_1095 : decode cL_law 1095 = .ok (.aload_n 0, 1) := dk_42 (dk_at dksL_law_40 1 rfl rfl)
theorem dL_law_1096 : decode cL_law 1096 = .ok (.iload_n 3, 1) := dk_29 (dk_at dksL_law_40 2 rfl rfl)
theorem dL_law_1097 : decode cL_law 1097 = .ok (.iconst 2, 1) := dk_5 (dk_at dksL_law_40 3 rfl rfl)
theorem dL_law_1098 : decode cL_law 1098 = .ok (.iadd, 1) := dk_96 (dk_at dksL_law_40 4 rfl rfl)
theorem dL_law_1099 : decode cL_law 1099 = .ok (.iaload, 1) := dk_46 (dk_at dksL_law_40 5 rfl rfl)
theorem dL_law_1100 : decode cL_law 1100 = .ok (.invokevirtual 137, 3) := dk_182 0 137 (dk_at dksL_law_40 6 rfl rfl)
theorem dL_law_1103 : decode cL_law 1103 = .ok (.aload_n 2, 1) := dk_44 (dk_at dksL_law_40 9 rfl rfl)
theorem dL_law_1104 : decode cL_law 1104 = .ok (.aload_n 0, 1) := dk_42 (dk_at dksL_law_40 10 rfl rfl)
theorem dL_law_1105 : decode cL_law 1105 = .ok (.iload_n 3, 1) := dk_29 (dk_at dksL_law_40 11 rfl rfl)
theorem dL_law_1106 : decode cL_law 1106 = .ok (.iconst 1, 1) := dk_4 (dk_at dksL_law_40 12 rfl rfl)
theorem dL_law_1107 : decode cL_law 1107 = .ok (.iadd, 1) := dk_96 (dk_at dksL_law_40 13 rfl rfl)
theorem dL_law_1108 : decode cL_law 1108 = .ok (.iaload, 1) := dk_46 (dk_at dksL_law_40 14 rfl rfl)
theorem dL_law_1109 : decode cL_law 1109 = .ok (.aload_n 0, 1) := dk_42 (dk_at dksL_law_40 15 rfl rfl)
theorem dL_law_1110 : decode cL_law 1110 = .ok (.iload_n 3, 1) := dk_29 (dk_at dksL_law_40 16 rfl rfl)
theorem dL_law_1111 : decode cL_law 1111 = .ok (.iconst 2, 1) := dk_5 (dk_at dksL_law_40 17 rfl rfl)
theorem dL_law_1112 : decode cL_law 1112 = .ok (.iadd, 1) := dk_96 (dk_at dksL_law_40 18 rfl rfl)
theorem dL_law_1113 : decode cL_law 1113 = .ok (.iaload, 1) := dk_46 (dk_at dksL_law_40 19 rfl rfl)
theorem dL_law_1114 : decode cL_law 1114 = .ok (.invokevirtual 140, 3) := dk_182 0 140 (dk_at dksL_law_40 20 rfl rfl)
theorem dL_law_1117 : decode cL_law 1117 = .ok (.if_icmp .eq 367, 3) := dk_159 1 111 (dk_at dksL_law_41 0 rfl rfl)
theorem dL_law_1120 : decode cL_law 1120 = .ok (.iconst 0, 1) := dk_3 (dk_at dksL_law_41 3 rfl rfl)
theorem dL_law_1121 : decode cL_law 1121 = .ok (.ireturn, 1) := dk_172 (dk_at dksL_law_41 4 rfl rfl)
theorem dL_law_1122 : decode cL_law 1122 = .ok (.aload_n 1, 1) := dk_43 (dk_at dksL_law_41 5 rfl rfl)
theorem dL_law_1123 : decode cL_law 1123 = .ok (.aload_n 0, 1) := dk_42 (dk_at dksL_law_41 6 rfl rfl)
theorem dL_law_1124 : decode cL_law 1124 = .ok (.iload_n 3, 1) := dk_29 (dk_at dksL_law_41 7 rfl rfl)
theorem dL_law_1125 : decode cL_law 1125 = .ok (.iconst 1, 1) := dk_4 (dk_at dksL_law_41 8 rfl rfl)
theorem dL_law_1126 : decode cL_law 1126 = .ok (.iadd, 1) := dk_96 (dk_at dksL_law_41 9 rfl rfl)
theorem dL_law_1127 : decode cL_law 1127 = .ok (.iaload, 1) := dk_46 (dk_at dksL_law_41 10 rfl rfl)
theorem dL_law_1128 : decode cL_law 1128 = .ok (.aload_n 0, 1) := dk_42 (dk_at dksL_law_41 11 rfl rfl)
theorem dL_law_1129 : decode cL_law 1129 = .ok (.iload_n 3, 1) := dk_29 (dk_at dksL_law_41 12 rfl rfl)
theorem dL_law_1130 : decode cL_law 1130 = .ok (.iconst 2, 1) := dk_5 (dk_at dksL_law_41 13 rfl rfl)
theorem dL_law_1131 : decode cL_law 1131 = .ok (.iadd, 1) := dk_96 (dk_at dksL_law_41 14 rfl rfl)
theorem dL_law_1132 : decode cL_law 1132 = .ok (.iaload, 1) := dk_46 (dk_at dksL_law_41 15 rfl rfl)
theorem dL_law_1133 : decode cL_law 1133 = .ok (.ifCond .eq 7, 3) := dk_153 0 7 (dk_at dksL_law_41 16 rfl rfl)
theorem dL_law_1136 : decode cL_law 1136 = .ok (.iconst 1, 1) := dk_4 (dk_at dksL_law_41 19 rfl rfl)
theorem dL_law_1137 : decode cL_law 1137 = .ok (.goto 4, 3) := dk_167 0 4 (dk_at dksL_law_41 20 rfl rfl)
theorem dL_law_1140 : decode cL_law 1140 = .ok (.iconst 0, 1) := dk_3 (dk_at dksL_law_41 23 rfl rfl)
theorem dL_law_1141 : decode cL_law 1141 = .ok (.invokevirtual 141, 3) := dk_182 0 141 (dk_at dksL_law_42 0 rfl rfl)
theorem dL_law_1144 : decode cL_law 1144 = .ok (.aload_n 2, 1) := dk_44 (dk_at dksL_law_42 3 rfl rfl)
theorem dL_law_1145 : decode cL_law 1145 = .ok (.aload_n 0, 1) := dk_42 (dk_at dksL_law_42 4 rfl rfl)
theorem dL_law_1146 : decode cL_law 1146 = .ok (.iload_n 3, 1) := dk_29 (dk_at dksL_law_42 5 rfl rfl)
theorem dL_law_1147 : decode cL_law 1147 = .ok (.iconst 1, 1) := dk_4 (dk_at dksL_law_42 6 rfl rfl)
theorem dL_law_1148 : decode cL_law 1148 = .ok (.iadd, 1) := dk_96 (dk_at dksL_law_42 7 rfl rfl)
theorem dL_law_1149 : decode cL_law 1149 = .ok (.iaload, 1) := dk_46 (dk_at dksL_law_42 8 rfl rfl)
theorem dL_law_1150 : decode cL_law 1150 = .ok (.aload_n 0, 1) := dk_42 (dk_at dksL_law_42 9 rfl rfl)
theorem dL_law_1151 : decode cL_law 1151 = .ok (.iload_n 3, 1) := dk_29 (dk_at dksL_law_42 10 rfl rfl)
theorem dL_law_1152 : decode cL_law 1152 = .ok (.iconst 2, 1) := dk_5 (dk_at dksL_law_42 11 rfl rfl)
theorem dL_law_1153 : decode cL_law 1153 = .ok (.iadd, 1) := dk_96 (dk_at dksL_law_42 12 rfl rfl)
theorem dL_law_1154 : decode cL_law 1154 = .ok (.iaload, 1) := dk_46 (dk_at dksL_law_42 13 rfl rfl)
theorem dL_law_1155 : decode cL_law 1155 = .ok (.ifCond .eq 7, 3) := dk_153 0 7 (dk_at dksL_law_42 14 rfl rfl)
theorem dL_law_1158 : decode cL_law 1158 = .ok (.iconst 1, 1) := dk_4 (dk_at dksL_law_42 17 rfl rfl)
theorem dL_law_1159 : decode cL_law 1159 = .ok (.goto 4, 3) := dk_167 0 4 (dk_at dksL_law_42 18 rfl rfl)
theorem dL_law_1162 : decode cL_law 1162 = .ok (.iconst 0, 1) := dk_3 (dk_at dksL_law_42 21 rfl rfl)
theorem dL_law_1163 : decode cL_law 1163 = .ok (.invokevirtual 145, 3) := dk_182 0 145 (dk_at dksL_law_43 0 rfl rfl)
theorem dL_law_1166 : decode cL_law 1166 = .ok (.if_icmp .eq 318, 3) := dk_159 1 62 (dk_at dksL_law_43 3 rfl rfl)
theorem dL_law_1169 : decode cL_law 1169 = .ok (.iconst 0, 1) := dk_3 (dk_at dksL_law_43 6 rfl rfl)
theorem dL_law_1170 : decode cL_law 1170 = .ok (.ireturn, 1) := dk_172 (dk_at dksL_law_43 7 rfl rfl)
theorem dL_law_1171 : decode cL_law 1171 = .ok (.aload_n 1, 1) := dk_43 (dk_at dksL_law_43 8 rfl rfl)
theorem dL_law_1172 : decode cL_law 1172 = .ok (.invokevirtual 146, 3) := dk_182 0 146 (dk_at dksL_law_43 9 rfl rfl)
theorem dL_law_1175 : decode cL_law 1175 = .ok (.aload_n 2, 1) := dk_44 (dk_at dksL_law_43 12 rfl rfl)
theorem dL_law_1176 : decode cL_law 1176 = .ok (.invokevirtual 149, 3) := dk_182 0 149 (dk_at dksL_law_43 13 rfl rfl)
theorem dL_law_1179 : decode cL_law 1179 = .ok (.if_icmp .eq 305, 3) := dk_159 1 49 (dk_at dksL_law_43 16 rfl rfl)
theorem dL_law_1182 : decode cL_law 1182 = .ok (.iconst 0, 1) := dk_3 (dk_at dksL_law_43 19 rfl rfl)
theorem dL_law_1183 : decode cL_law 1183 = .ok (.ireturn, 1) := dk_172 (dk_at dksL_law_43 20 rfl rfl)
theorem dL_law_1184 : decode cL_law 1184 = .ok (.aload_n 1, 1) := dk_43 (dk_at dksL_law_43 21 rfl rfl)
theorem dL_law_1185 : decode cL_law 1185 = .ok (.aload_n 0, 1) := dk_42 (dk_at dksL_law_43 22 rfl rfl)
theorem dL_law_1186 : decode cL_law 1186 = .ok (.iload_n 3, 1) := dk_29 (dk_at dksL_law_43 23 rfl rfl)
theorem dL_law_1187 : decode cL_law 1187 = .ok (.iconst 1, 1) := dk_4 (dk_at dksL_law_44 0 rfl rfl)
theorem dL_law_1188 : decode cL_law 1188 = .ok (.iadd, 1) := dk_96 (dk_at dksL_law_44 1 rfl rfl)
theorem dL_law_1189 : decode cL_law 1189 = .ok (.iaload, 1) := dk_46 (dk_at dksL_law_44 2 rfl rfl)
theorem dL_law_1190 : decode cL_law 1190 = .ok (.invokevirtual 150, 3) := dk_182 0 150 (dk_at dksL_law_44 3 rfl rfl)
theorem dL_law_1193 : decode cL_law 1193 = .ok (.aload_n 2, 1) := dk_44 (dk_at dksL_law_44 6 rfl rfl)
theorem dL_law_1194 : decode cL_law 1194 = .ok (.aload_n 0, 1) := dk_42 (dk_at dksL_law_44 7 rfl rfl)
theorem dL_law_1195 : decode cL_law 1195 = .ok (.iload_n 3, 1) := dk_29 (dk_at dksL_law_44 8 rfl rfl)
theorem dL_law_1196 : decode cL_law 1196 = .ok (.iconst 1, 1) := dk_4 (dk_at dksL_law_44 9 rfl rfl)
theorem dL_law_1197 : decode cL_law 1197 = .ok (.iadd, 1) := dk_96 (dk_at dksL_law_44 10 rfl rfl)
theorem dL_law_1198 : decode cL_law 1198 = .ok (.iaload, 1) := dk_46 (dk_at dksL_law_44 11 rfl rfl)
theorem dL_law_1199 : decode cL_law 1199 = .ok (.invokevirtual 153, 3) := dk_182 0 153 (dk_at dksL_law_44 12 rfl rfl)
theorem dL_law_1202 : decode cL_law 1202 = .ok (.if_icmp .eq 282, 3) := dk_159 1 26 (dk_at dksL_law_44 15 rfl rfl)
theorem dL_law_1205 : decode cL_law 1205 = .ok (.iconst 0, 1) := dk_3 (dk_at dksL_law_44 18 rfl rfl)
theorem dL_law_1206 : decode cL_law 1206 = .ok (.ireturn, 1) := dk_172 (dk_at dksL_law_44 19 rfl rfl)
theorem dL_law_1207 : decode cL_law 1207 = .ok (.aload_n 1, 1) := dk_43 (dk_at dksL_law_44 20 rfl rfl)
theorem dL_law_1208 : decode cL_law 1208 = .ok (.aload_n 0, 1) := dk_42 (dk_at dksL_law_44 21 rfl rfl)
theorem dL_law_1209 : decode cL_law 1209 = .ok (.iload_n 3, 1) := dk_29 (dk_at dksL_law_44 22 rfl rfl)
theorem dL_law_1210 : decode cL_law 1210 = .ok (.iconst 1, 1) := dk_4 (dk_at dksL_law_44 23 rfl rfl)
theorem dL_law_1211 : decode cL_law 1211 = .ok (.iadd, 1) := dk_96 (dk_at dksL_law_45 0 rfl rfl)
theorem dL_law_1212 : decode cL_law 1212 = .ok (.iaload, 1) := dk_46 (dk_at dksL_law_45 1 rfl rfl)
theorem dL_law_1213 : decode cL_law 1213 = .ok (.aload_n 0, 1) := dk_42 (dk_at dksL_law_45 2 rfl rfl)
theorem dL_law_1214 : decode cL_law 1214 = .ok (.iload_n 3, 1) := dk_29 (dk_at dksL_law_45 3 rfl rfl)
theorem dL_law_1215 : decode cL_law 1215 = .ok (.iconst 2, 1) := dk_5 (dk_at dksL_law_45 4 rfl rfl)
theorem dL_law_1216 : decode cL_law 1216 = .ok (.iadd, 1) := dk_96 (dk_at dksL_law_45 5 rfl rfl)
theorem dL_law_1217 : decode cL_law 1217 = .ok (.iaload, 1) := dk_46 (dk_at dksL_law_45 6 rfl rfl)
theorem dL_law_1218 : decode cL_law 1218 = .ok (.invokevirtual 154, 3) := dk_182 0 154 (dk_at dksL_law_45 7 rfl rfl)
theorem dL_law_1221 : decode cL_law 1221 = .ok (.aload_n 2, 1) := dk_44 (dk_at dksL_law_45 10 rfl rfl)
theorem dL_law_1222 : decode cL_law 1222 = .ok (.aload_n 0, 1) := dk_42 (dk_at dksL_law_45 11 rfl rfl)
theorem dL_law_1223 : decode cL_law 1223 = .ok (.iload_n 3, 1) := dk_29 (dk_at dksL_law_45 12 rfl rfl)
theorem dL_law_1224 : decode cL_law 1224 = .ok (.iconst 1, 1) := dk_4 (dk_at dksL_law_45 13 rfl rfl)
theorem dL_law_1225 : decode cL_law 1225 = .ok (.iadd, 1) := dk_96 (dk_at dksL_law_45 14 rfl rfl)
theorem dL_law_1226 : decode cL_law 1226 = .ok (.iaload, 1) := dk_46 (dk_at dksL_law_45 15 rfl rfl)
theorem dL_law_1227 : decode cL_law 1227 = .ok (.aload_n 0, 1) := dk_42 (dk_at dksL_law_45 16 rfl rfl)
theorem dL_law_1228 : decode cL_law 1228 = .ok (.iload_n 3, 1) := dk_29 (dk_at dksL_law_45 17 rfl rfl)
theorem dL_law_1229 : decode cL_law 1229 = .ok (.iconst 2, 1) := dk_5 (dk_at dksL_law_45 18 rfl rfl)
theorem dL_law_1230 : decode cL_law 1230 = .ok (.iadd, 1) := dk_96 (dk_at dksL_law_45 19 rfl rfl)
theorem dL_law_1231 : decode cL_law 1231 = .ok (.iaload, 1) := dk_46 (dk_at dksL_law_45 20 rfl rfl)
theorem dL_law_1232 : decode cL_law 1232 = .ok (.invokevirtual 157, 3) := dk_182 0 157 (dk_at dksL_law_45 21 rfl rfl)
theorem dL_law_1235 : decode cL_law 1235 = .ok (.if_icmp .eq 249, 3) := dk_159 0 249 (dk_at dksL_law_46 0 rfl rfl)
theorem dL_law_1238 : decode cL_law 1238 = .ok (.iconst 0, 1) := dk_3 (dk_at dksL_law_46 3 rfl rfl)
theorem dL_law_1239 : decode cL_law 1239 = .ok (.ireturn, 1) := dk_172 (dk_at dksL_law_46 4 rfl rfl)
theorem dL_law_1240 : decode cL_law 1240 = .ok (.aload_n 1, 1) := dk_43 (dk_at dksL_law_46 5 rfl rfl)
theorem dL_law_1241 : decode cL_law 1241 = .ok (.aload_n 0, 1) := dk_42 (dk_at dksL_law_46 6 rfl rfl)
theorem dL_law_1242 : decode cL_law 1242 = .ok (.iload_n 3, 1) := dk_29 (dk_at dksL_law_46 7 rfl rfl)
theorem dL_law_1243 : decode cL_law 1243 = .ok (.iconst 1, 1) := dk_4 (dk_at dksL_law_46 8 rfl rfl)
theorem dL_law_1244 : decode cL_law 1244 = .ok (.iadd, 1) := dk_96 (dk_at dksL_law_46 9 rfl rfl)
theorem dL_law_1245 : decode cL_law 1245 = .ok (.iaload, 1) := dk_46 (dk_at dksL_law_46 10 rfl rfl)
theorem dL_law_1246 : decode cL_law 1246 = .ok (.invokevirtual 158, 3) := dk_182 0 158 (dk_at dksL_law_46 11 rfl rfl)
theorem dL_law_1249 : decode cL_law 1249 = .ok (.aload_n 2, 1) := dk_44 (dk_at dksL_law_46 14 rfl rfl)
theorem dL_law_1250 : decode cL_law 1250 = .ok (.aload_n 0, 1) := dk_42 (dk_at dksL_law_46 15 rfl rfl)
theorem dL_law_1251 : decode cL_law 1251 = .ok (.iload_n 3, 1) := dk_29 (dk_at dksL_law_46 16 rfl rfl)
theorem dL_law_1252 : decode cL_law 1252 = .ok (.iconst 1, 1) := dk_4 (dk_at dksL_law_46 17 rfl rfl)
theorem dL_law_1253 : decode cL_law 1253 = .ok (.iadd, 1) := dk_96 (dk_at dksL_law_46 18 rfl rfl)
theorem dL_law_1254 : decode cL_law 1254 = .ok (.iaload, 1) := dk_46 (dk_at dksL_law_46 19 rfl rfl)
theorem dL_law_1255 : decode cL_law 1255 = .ok (.invokevirtual 161, 3) := dk_182 0 161 (dk_at dksL_law_46 20 rfl rfl)
theorem dL_law_1258 : decode cL_law 1258 = .ok (.if_icmp .eq 226, 3) := dk_159 0 226 (dk_at dksL_law_47 0 rfl rfl)
theorem dL_law_1261 : decode cL_law 1261 = .ok (.iconst 0, 1) := dk_3 (dk_at dksL_law_47 3 rfl rfl)
theorem dL_law_1262 : decode cL_law 1262 = .ok (.ireturn, 1) := dk_172 (dk_at dksL_law_47 4 rfl rfl)
theorem dL_law_1263 : decode cL_law 1263 = .ok (.aload_n 1, 1) := dk_43 (dk_at dksL_law_47 5 rfl rfl)
theorem dL_law_1264 : decode cL_law 1264 = .ok (.aload_n 0, 1) := dk_42 (dk_at dksL_law_47 6 rfl rfl)
theorem dL_law_1265 : decode cL_law 1265 = .ok (.iload_n 3, 1) := dk_29 (dk_at dksL_law_47 7 rfl rfl)
theorem dL_law_1266 : decode cL_law 1266 = .ok (.iconst 1, 1) := dk_4 (dk_at dksL_law_47 8 rfl rfl)
theorem dL_law_1267 : decode cL_law 1267 = .ok (.iadd, 1) := dk_96 (dk_at dksL_law_47 9 rfl rfl)
theorem dL_law_1268 : decode cL_law 1268 = .ok (.iaload, 1) := dk_46 (dk_at dksL_law_47 10 rfl rfl)
theorem dL_law_1269 : decode cL_law 1269 = .ok (.invokevirtual 162, 3) := dk_182 0 162 (dk_at dksL_law_47 11 rfl rfl)
theorem dL_law_1272 : decode cL_law 1272 = .ok (.aload_n 2, 1) := dk_44 (dk_at dksL_law_47 14 rfl rfl)
theorem dL_law_1273 : decode cL_law 1273 = .ok (.aload_n 0, 1) := dk_42 (dk_at dksL_law_47 15 rfl rfl)
theorem dL_law_1274 : decode cL_law 1274 = .ok (.iload_n 3, 1) := dk_29 (dk_at dksL_law_47 16 rfl rfl)
theorem dL_law_1275 : decode cL_law 1275 = .ok (.iconst 1, 1) := dk_4 (dk_at dksL_law_47 17 rfl rfl)
theorem dL_law_1276 : decode cL_law 1276 = .ok (.iadd, 1) := dk_96 (dk_at dksL_law_47 18 rfl rfl)
theorem dL_law_1277 : decode cL_law 1277 = .ok (.iaload, 1) := dk_46 (dk_at dksL_law_47 19 rfl rfl)
theorem dL_law_1278 : decode cL_law 1278 = .ok (.invokevirtual 165, 3) := dk_182 0 165 (dk_at dksL_law_47 20 rfl rfl)
theorem dL_law_1281 : decode cL_law 1281 = .ok (.if_icmp .eq 203, 3) := dk_159 0 203 (dk_at dksL_law_48 0 rfl rfl)
theorem dL_law_1284 : decode cL_law 1284 = .ok (.iconst 0, 1) := dk_3 (dk_at dksL_law_48 3 rfl rfl)
theorem dL_law_1285 : decode cL_law 1285 = .ok (.ireturn, 1) := dk_172 (dk_at dksL_law_48 4 rfl rfl)
theorem dL_law_1286 : decode cL_law 1286 = .ok (.aload_n 1, 1) := dk_43 (dk_at dksL_law_48 5 rfl rfl)
theorem dL_law_1287 : decode cL_law 1287 = .ok (.aload_n 0, 1) := dk_42 (dk_at dksL_law_48 6 rfl rfl)
theorem dL_law_1288 : decode cL_law 1288 = .ok (.iload_n 3, 1) := dk_29 (dk_at dksL_law_48 7 rfl rfl)
theorem dL_law_1289 : decode cL_law 1289 = .ok (.iconst 1, 1) := dk_4 (dk_at dksL_law_48 8 rfl rfl)
theorem dL_law_1290 : decode cL_law 1290 = .ok (.iadd, 1) := dk_96 (dk_at dksL_law_48 9 rfl rfl)
theorem dL_law_1291 : decode cL_law 1291 = .ok (.iaload, 1) := dk_46 (dk_at dksL_law_48 10 rfl rfl)
theorem dL_law_1292 : decode cL_law 1292 = .ok (.invokevirtual 166, 3) := dk_182 0 166 (dk_at dksL_law_48 11 rfl rfl)
theorem dL_law_1295 : decode cL_law 1295 = .ok (.aload_n 2, 1) := dk_44 (dk_at dksL_law_48 14 rfl rfl)
theorem dL_law_1296 : decode cL_law 1296 = .ok (.aload_n 0, 1) := dk_42 (dk_at dksL_law_48 15 rfl rfl)
theorem dL_law_1297 : decode cL_law 1297 = .ok (.iload_n 3, 1) := dk_29 (dk_at dksL_law_48 16 rfl rfl)
theorem dL_law_1298 : decode cL_law 1298 = .ok (.iconst 1, 1) := dk_4 (dk_at dksL_law_48 17 rfl rfl)
theorem dL_law_1299 : decode cL_law 1299 = .ok (.iadd, 1) := dk_96 (dk_at dksL_law_48 18 rfl rfl)
theorem dL_law_1300 : decode cL_law 1300 = .ok (.iaload, 1) := dk_46 (dk_at dksL_law_48 19 rfl rfl)
theorem dL_law_1301 : decode cL_law 1301 = .ok (.invokevirtual 169, 3) := dk_182 0 169 (dk_at dksL_law_48 20 rfl rfl)
theorem dL_law_1304 : decode cL_law 1304 = .ok (.if_icmp .eq 180, 3) := dk_159 0 180 (dk_at dksL_law_49 0 rfl rfl)
theorem dL_law_1307 : decode cL_law 1307 = .ok (.iconst 0, 1) := dk_3 (dk_at dksL_law_49 3 rfl rfl)
theorem dL_law_1308 : decode cL_law 1308 = .ok (.ireturn, 1) := dk_172 (dk_at dksL_law_49 4 rfl rfl)
theorem dL_law_1309 : decode cL_law 1309 = .ok (.aload_n 1, 1) := dk_43 (dk_at dksL_law_49 5 rfl rfl)
theorem dL_law_1310 : decode cL_law 1310 = .ok (.aload_n 0, 1) := dk_42 (dk_at dksL_law_49 6 rfl rfl)
theorem dL_law_1311 : decode cL_law 1311 = .ok (.iload_n 3, 1) := dk_29 (dk_at dksL_law_49 7 rfl rfl)
theorem dL_law_1312 : decode cL_law 1312 = .ok (.iconst 1, 1) := dk_4 (dk_at dksL_law_49 8 rfl rfl)
theorem dL_law_1313 : decode cL_law 1313 = .ok (.iadd, 1) := dk_96 (dk_at dksL_law_49 9 rfl rfl)
theorem dL_law_1314 : decode cL_law 1314 = .ok (.iaload, 1) := dk_46 (dk_at dksL_law_49 10 rfl rfl)
theorem dL_law_1315 : decode cL_law 1315 = .ok (.aload_n 0, 1) := dk_42 (dk_at dksL_law_49 11 rfl rfl)
theorem dL_law_1316 : decode cL_law 1316 = .ok (.iload_n 3, 1) := dk_29 (dk_at dksL_law_49 12 rfl rfl)
theorem dL_law_1317 : decode cL_law 1317 = .ok (.iconst 2, 1) := dk_5 (dk_at dksL_law_49 13 rfl rfl)
theorem dL_law_1318 : decode cL_law 1318 = .ok (.iadd, 1) := dk_96 (dk_at dksL_law_49 14 rfl rfl)
theorem dL_law_1319 : decode cL_law 1319 = .ok (.iaload, 1) := dk_46 (dk_at dksL_law_49 15 rfl rfl)
theorem dL_law_1320 : decode cL_law 1320 = .ok (.aload_n 0, 1) := dk_42 (dk_at dksL_law_49 16 rfl rfl)
theorem dL_law_1321 : decode cL_law 1321 = .ok (.iload_n 3, 1) := dk_29 (dk_at dksL_law_49 17 rfl rfl)
theorem dL_law_1322 : decode cL_law 1322 = .ok (.iconst 3, 1) := dk_6 (dk_at dksL_law_49 18 rfl rfl)
theorem dL_law_1323 : decode cL_law 1323 = .ok (.iadd, 1) := dk_96 (dk_at dksL_law_49 19 rfl rfl)
theorem dL_law_1324 : decode cL_law 1324 = .ok (.iaload, 1) := dk_46 (dk_at dksL_law_49 20 rfl rfl)
theorem dL_law_1325 : decode cL_law 1325 = .ok (.invokevirtual 170, 3) := dk_182 0 170 (dk_at dksL_law_49 21 rfl rfl)
theorem dL_law_1328 : decode cL_law 1328 = .ok (.aload_n 2, 1) := dk_44 (dk_at dksL_law_50 0 rfl rfl)
theorem dL_law_1329 : decode cL_law 1329 = .ok (.aload_n 0, 1) := dk_42 (dk_at dksL_law_50 1 rfl rfl)
theorem dL_law_1330 : decode cL_law 1330 = .ok (.iload_n 3, 1) := dk_29 (dk_at dksL_law_50 2 rfl rfl)
theorem dL_law_1331 : decode cL_law 1331 = .ok (.iconst 1, 1) := dk_4 (dk_at dksL_law_50 3 rfl rfl)
theorem dL_law_1332 : decode cL_law 1332 = .ok (.iadd, 1) := dk_96 (dk_at dksL_law_50 4 rfl rfl)
theorem dL_law_1333 : decode cL_law 1333 = .ok (.iaload, 1) := dk_46 (dk_at dksL_law_50 5 rfl rfl)
theorem dL_law_1334 : decode cL_law 1334 = .ok (.aload_n 0, 1) := dk_42 (dk_at dksL_law_50 6 rfl rfl)
theorem dL_law_1335 : decode cL_law 1335 = .ok (.iload_n 3, 1) := dk_29 (dk_at dksL_law_50 7 rfl rfl)
theorem dL_law_1336 : decode cL_law 1336 = .ok (.iconst 2, 1) := dk_5 (dk_at dksL_law_50 8 rfl rfl)
theorem dL_law_1337 : decode cL_law 1337 = .ok (.iadd, 1) := dk_96 (dk_at dksL_law_50 9 rfl rfl)
theorem dL_law_1338 : decode cL_law 1338 = .ok (.iaload, 1) := dk_46 (dk_at dksL_law_50 10 rfl rfl)
theorem dL_law_1339 : decode cL_law 1339 = .ok (.aload_n 0, 1) := dk_42 (dk_at dksL_law_50 11 rfl rfl)
theorem dL_law_1340 : decode cL_law 1340 = .ok (.iload_n 3, 1) := dk_29 (dk_at dksL_law_50 12 rfl rfl)
theorem dL_law_1341 : decode cL_law 1341 = .ok (.iconst 3, 1) := dk_6 (dk_at dksL_law_50 13 rfl rfl)
theorem dL_law_1342 : decode cL_law 1342 = .ok (.iadd, 1) := dk_96 (dk_at dksL_law_50 14 rfl rfl)
theorem dL_law_1343 : decode cL_law 1343 = .ok (.iaload, 1) := dk_46 (dk_at dksL_law_50 15 rfl rfl)
theorem dL_law_1344 : decode cL_law 1344 = .ok (.invokevirtual 173, 3) := dk_182 0 173 (dk_at dksL_law_50 16 rfl rfl)
theorem dL_law_1347 : decode cL_law 1347 = .ok (.if_icmp .eq 137, 3) := dk_159 0 137 (dk_at dksL_law_50 19 rfl rfl)
theorem dL_law_1350 : decode cL_law 1350 = .ok (.iconst 0, 1) := dk_3 (dk_at dksL_law_50 22 rfl rfl)
theorem dL_law_1351 : decode cL_law 1351 = .ok (.ireturn, 1) := dk_172 (dk_at dksL_law_50 23 rfl rfl)
theorem dL_law_1352 : decode cL_law 1352 = .ok (.aload_n 1, 1) := dk_43 (dk_at dksL_law_51 0 rfl rfl)
theorem dL_law_1353 : decode cL_law 1353 = .ok (.aload_n 0, 1) := dk_42 (dk_at dksL_law_51 1 rfl rfl)
theorem dL_law_1354 : decode cL_law 1354 = .ok (.iload_n 3, 1) := dk_29 (dk_at dksL_law_51 2 rfl rfl)
theorem dL_law_1355 : decode cL_law 1355 = .ok (.iconst 1, 1) := dk_4 (dk_at dksL_law_51 3 rfl rfl)
theorem dL_law_1356 : decode cL_law 1356 = .ok (.iadd, 1) := dk_96 (dk_at dksL_law_51 4 rfl rfl)
theorem dL_law_1357 : decode cL_law 1357 = .ok (.iaload, 1) := dk_46 (dk_at dksL_law_51 5 rfl rfl)
theorem dL_law_1358 : decode cL_law 1358 = .ok (.aload_n 0, 1) := dk_42 (dk_at dksL_law_51 6 rfl rfl)
theorem dL_law_1359 : decode cL_law 1359 = .ok (.iload_n 3, 1) := dk_29 (dk_at dksL_law_51 7 rfl rfl)
theorem dL_law_1360 : decode cL_law 1360 = .ok (.iconst 2, 1) := dk_5 (dk_at dksL_law_51 8 rfl rfl)
theorem dL_law_1361 : decode cL_law 1361 = .ok (.iadd, 1) := dk_96 (dk_at dksL_law_51 9 rfl rfl)
theorem dL_law_1362 : decode cL_law 1362 = .ok (.iaload, 1) := dk_46 (dk_at dksL_law_51 10 rfl rfl)
theorem dL_law_1363 : decode cL_law 1363 = .ok (.aload_n 0, 1) := dk_42 (dk_at dksL_law_51 11 rfl rfl)
theorem dL_law_1364 : decode cL_law 1364 = .ok (.iload_n 3, 1) := dk_29 (dk_at dksL_law_51 12 rfl rfl)
theorem dL_law_1365 : decode cL_law 1365 = .ok (.iconst 3, 1) := dk_6 (dk_at dksL_law_51 13 rfl rfl)
theorem dL_law_1366 : decode cL_law 1366 = .ok (.iadd, 1) := dk_96 (dk_at dksL_law_51 14 rfl rfl)
theorem dL_law_1367 : decode cL_law 1367 = .ok (.iaload, 1) := dk_46 (dk_at dksL_law_51 15 rfl rfl)
theorem dL_law_1368 : decode cL_law 1368 = .ok (.invokevirtual 174, 3) := dk_182 0 174 (dk_at dksL_law_51 16 rfl rfl)
theorem dL_law_1371 : decode cL_law 1371 = .ok (.aload_n 2, 1) := dk_44 (dk_at dksL_law_51 19 rfl rfl)
theorem dL_law_1372 : decode cL_law 1372 = .ok (.aload_n 0, 1) := dk_42 (dk_at dksL_law_51 20 rfl rfl)
theorem dL_law_1373 : decode cL_law 1373 = .ok (.iload_n 3, 1) := dk_29 (dk_at dksL_law_51 21 rfl rfl)
theorem dL_law_1374 : decode cL_law 1374 = .ok (.iconst 1, 1) := dk_4 (dk_at dksL_law_51 22 rfl rfl)
theorem dL_law_1375 : decode cL_law 1375 = .ok (.iadd, 1) := dk_96 (dk_at dksL_law_51 23 rfl rfl)
theorem dL_law_1376 : decode cL_law 1376 = .ok (.iaload, 1) := dk_46 (dk_at dksL_law_52 0 rfl rfl)
theorem dL_law_1377 : decode cL_law 1377 = .ok (.aload_n 0, 1) := dk_42 (dk_at dksL_law_52 1 rfl rfl)
theorem dL_law_1378 : decode cL_law 1378 = .ok (.iload_n 3, 1) := dk_29 (dk_at dksL_law_52 2 rfl rfl)
theorem dL_law_1379 : decode cL_law 1379 = .ok (.iconst 2, 1) := dk_5 (dk_at dksL_law_52 3 rfl rfl)
theorem dL_law_1380 : decode cL_law 1380 = .ok (.iadd, 1) := dk_96 (dk_at dksL_law_52 4 rfl rfl)
theorem dL_law_1381 : decode cL_law 1381 = .ok (.iaload, 1) := dk_46 (dk_at dksL_law_52 5 rfl rfl)
theorem dL_law_1382 : decode cL_law 1382 = .ok (.aload_n 0, 1) := dk_42 (dk_at dksL_law_52 6 rfl rfl)
theorem dL_law_1383 : decode cL_law 1383 = .ok (.iload_n 3, 1) := dk_29 (dk_at dksL_law_52 7 rfl rfl)
theorem dL_law_1384 : decode cL_law 1384 = .ok (.iconst 3, 1) := dk_6 (dk_at dksL_law_52 8 rfl rfl)
theorem dL_law_1385 : decode cL_law 1385 = .ok (.iadd, 1) := dk_96 (dk_at dksL_law_52 9 rfl rfl)
theorem dL_law_1386 : decode cL_law 1386 = .ok (.iaload, 1) := dk_46 (dk_at dksL_law_52 10 rfl rfl)
theorem dL_law_1387 : decode cL_law 1387 = .ok (.invokevirtual 177, 3) := dk_182 0 177 (dk_at dksL_law_52 11 rfl rfl)
theorem dL_law_1390 : decode cL_law 1390 = .ok (.if_icmp .eq 94, 3) := dk_159 0 94 (dk_at dksL_law_52 14 rfl rfl)
theorem dL_law_1393 : decode cL_law 1393 = .ok (.iconst 0, 1) := dk_3 (dk_at dksL_law_52 17 rfl rfl)
theorem dL_law_1394 : decode cL_law 1394 = .ok (.ireturn, 1) := dk_172 (dk_at dksL_law_52 18 rfl rfl)
theorem dL_law_1395 : decode cL_law 1395 = .ok (.aload_n 1, 1) := dk_43 (dk_at dksL_law_52 19 rfl rfl)
theorem dL_law_1396 : decode cL_law 1396 = .ok (.aload_n 0, 1) := dk_42 (dk_at dksL_law_52 20 rfl rfl)
theorem dL_law_1397 : decode cL_law 1397 = .ok (.iload_n 3, 1) := dk_29 (dk_at dksL_law_52 21 rfl rfl)
theorem dL_law_1398 : decode cL_law 1398 = .ok (.iconst 1, 1) := dk_4 (dk_at dksL_law_52 22 rfl rfl)
theorem dL_law_1399 : decode cL_law 1399 = .ok (.iadd, 1) := dk_96 (dk_at dksL_law_52 23 rfl rfl)
theorem dL_law_1400 : decode cL_law 1400 = .ok (.iaload, 1) := dk_46 (dk_at dksL_law_53 0 rfl rfl)
theorem dL_law_1401 : decode cL_law 1401 = .ok (.aload_n 0, 1) := dk_42 (dk_at dksL_law_53 1 rfl rfl)
theorem dL_law_1402 : decode cL_law 1402 = .ok (.iload_n 3, 1) := dk_29 (dk_at dksL_law_53 2 rfl rfl)
theorem dL_law_1403 : decode cL_law 1403 = .ok (.iconst 2, 1) := dk_5 (dk_at dksL_law_53 3 rfl rfl)
theorem dL_law_1404 : decode cL_law 1404 = .ok (.iadd, 1) := dk_96 (dk_at dksL_law_53 4 rfl rfl)
theorem dL_law_1405 : decode cL_law 1405 = .ok (.iaload, 1) := dk_46 (dk_at dksL_law_53 5 rfl rfl)
theorem dL_law_1406 : decode cL_law 1406 = .ok (.aload_n 0, 1) := dk_42 (dk_at dksL_law_53 6 rfl rfl)
theorem dL_law_1407 : decode cL_law 1407 = .ok (.iload_n 3, 1) := dk_29 (dk_at dksL_law_53 7 rfl rfl)
theorem dL_law_1408 : decode cL_law 1408 = .ok (.iconst 3, 1) := dk_6 (dk_at dksL_law_53 8 rfl rfl)
theorem dL_law_1409 : decode cL_law 1409 = .ok (.iadd, 1) := dk_96 (dk_at dksL_law_53 9 rfl rfl)
theorem dL_law_1410 : decode cL_law 1410 = .ok (.iaload, 1) := dk_46 (dk_at dksL_law_53 10 rfl rfl)
theorem dL_law_1411 : decode cL_law 1411 = .ok (.aload_n 0, 1) := dk_42 (dk_at dksL_law_53 11 rfl rfl)
theorem dL_law_1412 : decode cL_law 1412 = .ok (.iload_n 3, 1) := dk_29 (dk_at dksL_law_53 12 rfl rfl)
theorem dL_law_1413 : decode cL_law 1413 = .ok (.iconst 4, 1) := dk_7 (dk_at dksL_law_53 13 rfl rfl)
theorem dL_law_1414 : decode cL_law 1414 = .ok (.iadd, 1) := dk_96 (dk_at dksL_law_53 14 rfl rfl)
theorem dL_law_1415 : decode cL_law 1415 = .ok (.iaload, 1) := dk_46 (dk_at dksL_law_53 15 rfl rfl)
theorem dL_law_1416 : decode cL_law 1416 = .ok (.invokevirtual 178, 3) := dk_182 0 178 (dk_at dksL_law_53 16 rfl rfl)
theorem dL_law_1419 : decode cL_law 1419 = .ok (.aload_n 2, 1) := dk_44 (dk_at dksL_law_53 19 rfl rfl)
theorem dL_law_1420 : decode cL_law 1420 = .ok (.aload_n 0, 1) := dk_42 (dk_at dksL_law_53 20 rfl rfl)
theorem dL_law_1421 : decode cL_law 1421 = .ok (.iload_n 3, 1) := dk_29 (dk_at dksL_law_53 21 rfl rfl)
theorem dL_law_1422 : decode cL_law 1422 = .ok (.iconst 1, 1) := dk_4 (dk_at dksL_law_53 22 rfl rfl)
theorem dL_law_1423 : decode cL_law 1423 = .ok (.iadd, 1) := dk_96 (dk_at dksL_law_53 23 rfl rfl)
theorem dL_law_1424 : decode cL_law 1424 = .ok (.iaload, 1) := dk_46 (dk_at dksL_law_54 0 rfl rfl)
theorem dL_law_1425 : decode cL_law 1425 = .ok (.aload_n 0, 1) := dk_42 (dk_at dksL_law_54 1 rfl rfl)
theorem dL_law_1426 : decode cL_law 1426 = .ok (.iload_n 3, 1) := dk_29 (dk_at dksL_law_54 2 rfl rfl)
theorem dL_law_1427 : decode cL_law 1427 = .ok (.iconst 2, 1) := dk_5 (dk_at dksL_law_54 3 rfl rfl)
theorem dL_law_1428 : decode cL_law 1428 = .ok (.iadd, 1) := dk_96 (dk_at dksL_law_54 4 rfl rfl)
theorem dL_law_1429 : decode cL_law 1429 = .ok (.iaload, 1) := dk_46 (dk_at dksL_law_54 5 rfl rfl)
theorem dL_law_1430 : decode cL_law 1430 = .ok (.aload_n 0, 1) := dk_42 (dk_at dksL_law_54 6 rfl rfl)
theorem dL_law_1431 : decode cL_law 1431 = .ok (.iload_n 3, 1) := dk_29 (dk_at dksL_law_54 7 rfl rfl)
theorem dL_law_1432 : decode cL_law 1432 = .ok (.iconst 3, 1) := dk_6 (dk_at dksL_law_54 8 rfl rfl)
theorem dL_law_1433 : decode cL_law 1433 = .ok (.iadd, 1) := dk_96 (dk_at dksL_law_54 9 rfl rfl)
theorem dL_law_1434 : decode cL_law 1434 = .ok (.iaload, 1) := dk_46 (dk_at dksL_law_54 10 rfl rfl)
theorem dL_law_1435 : decode cL_law 1435 = .ok (.aload_n 0, 1) := dk_42 (dk_at dksL_law_54 11 rfl rfl)
theorem dL_law_1436 : decode cL_law 1436 = .ok (.iload_n 3, 1) := dk_29 (dk_at dksL_law_54 12 rfl rfl)
theorem dL_law_1437 : decode cL_law 1437 = .ok (.iconst 4, 1) := dk_7 (dk_at dksL_law_54 13 rfl rfl)
theorem dL_law_1438 : decode cL_law 1438 = .ok (.iadd, 1) := dk_96 (dk_at dksL_law_54 14 rfl rfl)
theorem dL_law_1439 : decode cL_law 1439 = .ok (.iaload, 1) := dk_46 (dk_at dksL_law_54 15 rfl rfl)
theorem dL_law_1440 : decode cL_law 1440 = .ok (.invokevirtual 182, 3) := dk_182 0 182 (dk_at dksL_law_54 16 rfl rfl)
theorem dL_law_1443 : decode cL_law 1443 = .ok (.if_icmp .eq 41, 3) := dk_159 0 41 (dk_at dksL_law_54 19 rfl rfl)
theorem dL_law_1446 : decode cL_law 1446 = .ok (.iconst 0, 1) := dk_3 (dk_at dksL_law_54 22 rfl rfl)
theorem dL_law_1447 : decode cL_law 1447 = .ok (.ireturn, 1) := dk_172 (dk_at dksL_law_54 23 rfl rfl)
theorem dL_law_1448 : decode cL_law 1448 = .ok (.aload_n 1, 1) := dk_43 (dk_at dksL_law_55 0 rfl rfl)
theorem dL_law_1449 : decode cL_law 1449 = .ok (.invokevirtual 183, 3) := dk_182 0 183 (dk_at dksL_law_55 1 rfl rfl)
theorem dL_law_1452 : decode cL_law 1452 = .ok (.aload_n 2, 1) := dk_44 (dk_at dksL_law_55 4 rfl rfl)
theorem dL_law_1453 : decode cL_law 1453 = .ok (.invokevirtual 186, 3) := dk_182 0 186 (dk_at dksL_law_55 5 rfl rfl)
theorem dL_law_1456 : decode cL_law 1456 = .ok (.if_icmp .eq 28, 3) := dk_159 0 28 (dk_at dksL_law_55 8 rfl rfl)
theorem dL_law_1459 : decode cL_law 1459 = .ok (.iconst 0, 1) := dk_3 (dk_at dksL_law_55 11 rfl rfl)
theorem dL_law_1460 : decode cL_law 1460 = .ok (.ireturn, 1) := dk_172 (dk_at dksL_law_55 12 rfl rfl)
theorem dL_law_1461 : decode cL_law 1461 = .ok (.aload_n 1, 1) := dk_43 (dk_at dksL_law_55 13 rfl rfl)
theorem dL_law_1462 : decode cL_law 1462 = .ok (.aload_n 0, 1) := dk_42 (dk_at dksL_law_55 14 rfl rfl)
theorem dL_law_1463 : decode cL_law 1463 = .ok (.iload_n 3, 1) := dk_29 (dk_at dksL_law_55 15 rfl rfl)
theorem dL_law_1464 : decode cL_law 1464 = .ok (.iconst 1, 1) := dk_4 (dk_at dksL_law_55 16 rfl rfl)
theorem dL_law_1465 : decode cL_law 1465 = .ok (.iadd, 1) := dk_96 (dk_at dksL_law_55 17 rfl rfl)
theorem dL_law_1466 : decode cL_law 1466 = .ok (.iaload, 1) := dk_46 (dk_at dksL_law_55 18 rfl rfl)
theorem dL_law_1467 : decode cL_law 1467 = .ok (.invokevirtual 187, 3) := dk_182 0 187 (dk_at dksL_law_55 19 rfl rfl)
theorem dL_law_1470 : decode cL_law 1470 = .ok (.aload_n 2, 1) := dk_44 (dk_at dksL_law_55 22 rfl rfl)
theorem dL_law_1471 : decode cL_law 1471 = .ok (.aload_n 0, 1) := dk_42 (dk_at dksL_law_55 23 rfl rfl)
theorem dL_law_1472 : decode cL_law 1472 = .ok (.iload_n 3, 1) := dk_29 (dk_at dksL_law_56 0 rfl rfl)
theorem dL_law_1473 : decode cL_law 1473 = .ok (.iconst 1, 1) := dk_4 (dk_at dksL_law_56 1 rfl rfl)
theorem dL_law_1474 : decode cL_law 1474 = .ok (.iadd, 1) := dk_96 (dk_at dksL_law_56 2 rfl rfl)
theorem dL_law_1475 : decode cL_law 1475 = .ok (.iaload, 1) := dk_46 (dk_at dksL_law_56 3 rfl rfl)
theorem dL_law_1476 : decode cL_law 1476 = .ok (.invokevirtual 190, 3) := dk_182 0 190 (dk_at dksL_law_56 4 rfl rfl)
theorem dL_law_1479 : decode cL_law 1479 = .ok (.if_icmp .eq 5, 3) := dk_159 0 5 (dk_at dksL_law_56 7 rfl rfl)
theorem dL_law_1482 : decode cL_law 1482 = .ok (.iconst 0, 1) := dk_3 (dk_at dksL_law_56 10 rfl rfl)
theorem dL_law_1483 : decode cL_law 1483 = .ok (.ireturn, 1) := dk_172 (dk_at dksL_law_56 11 rfl rfl)
theorem dL_law_1484 : decode cL_law 1484 = .ok (.iinc 3 5, 3) := dk_132 3 5 (dk_at dksL_law_56 12 rfl rfl)
theorem dL_law_1487 : decode cL_law 1487 = .ok (.goto (-1469), 3) := dk_167 250 67 (dk_at dksL_law_56 15 rfl rfl)
theorem dL_law_1490 : decode cL_law 1490 = .ok (.iconst 1, 1) := dk_4 (dk_at dksL_law_56 18 rfl rfl)
theorem dL_law_1491 : decode cL_law 1491 = .ok (.ireturn, 1) := dk_172 (dk_at dksL_law_56 19 rfl rfl)
theorem q91 : (Jvm.Cond.initialized "FirstWordsLaw") ∈ lw_all := lw_g (lw_at lw_m1 0 rfl) rfl
set_option maxRecDepth 100000
theorem q121 : (Jvm.Cond.methodLink "FirstWordsLaw" (15 : Nat) ({ cls := "FirstWords", name := "feed", desc := "(J)I" } : Jvm.MethodName)) ∈ lw_all := lw_g (lw_at lw_m1 30 rfl) rfl
theorem q125 : (Jvm.Cond.methodLink "FirstWordsLaw" (20 : Nat) ({ cls := "FirstWords", name := "end", desc := "(I)I" } : Jvm.MethodName)) ∈ lw_all := lw_g (lw_at lw_m1 34 rfl) rfl
theorem q132 : (Jvm.Cond.methodLink "FirstWordsLaw" (25 : Nat) ({ cls := "FirstWords", name := "text", desc := "()I" } : Jvm.MethodName)) ∈ lw_all := lw_g (lw_at lw_m1 41 rfl) rfl
theorem q523 : (Jvm.Cond.methodLink "FirstWordsLaw" (30 : Nat) ({ cls := "FirstWords", name := "fault", desc := "()I" } : Jvm.MethodName)) ∈ lw_all := lw_g (lw_at lw_m2 192 rfl) rfl
theorem q527 : (Jvm.Cond.methodLink "FirstWordsLaw" (34 : Nat) ({ cls := "FirstWords", name := "thing", desc := "(I)I" } : Jvm.MethodName)) ∈ lw_all := lw_g (lw_at lw_m2 196 rfl) rfl
theorem q535 : (Jvm.Cond.methodLink "FirstWordsLaw" (38 : Nat) ({ cls := "FirstWords", name := "meaning", desc := "(II)I" } : Jvm.MethodName)) ∈ lw_all := lw_g (lw_at lw_m2 204 rfl) rfl
theorem q553 : (Jvm.Cond.methodLink "FirstWordsLaw" (43 : Nat) ({ cls := "FirstWords", name := "word", desc := "(I)I" } : Jvm.MethodName)) ∈ lw_all := lw_g (lw_at lw_m2 222 rfl) rfl
theorem q561 : (Jvm.Cond.methodLink "FirstWordsLaw" (47 : Nat) ({ cls := "FirstWords", name := "kind", desc := "(II)I" } : Jvm.MethodName)) ∈ lw_all := lw_g (lw_at lw_m2 230 rfl) rfl
theorem q586 : (Jvm.Cond.methodLink "FirstWordsLaw" (51 : Nat) ({ cls := "FirstWords", name := "show", desc := "(IIZ)I" } : Jvm.MethodName)) ∈ lw_all := lw_g (lw_at lw_m3 15 rfl) rfl
theorem q645 : (Jvm.Cond.methodLink "FirstWordsLaw" (56 : Nat) ({ cls := "FirstWords", name := "teach", desc := "(II)I" } : Jvm.MethodName)) ∈ lw_all := lw_g (lw_at lw_m3 74 rfl) rfl
theorem q653 : (Jvm.Cond.methodLink "FirstWordsLaw" (60 : Nat) ({ cls := "FirstWords", name := "undo", desc := "()I" } : Jvm.MethodName)) ∈ lw_all := lw_g (lw_at lw_m3 82 rfl) rfl
theorem q661 : (Jvm.Cond.methodLink "FirstWordsLaw" (64 : Nat) ({ cls := "FirstWords", name := "clear", desc := "()I" } : Jvm.MethodName)) ∈ lw_all := lw_g (lw_at lw_m3 90 rfl) rfl
theorem q665 : (Jvm.Cond.methodLink "FirstWordsLaw" (68 : Nat) ({ cls := "FirstWords", name := "shown", desc := "(II)I" } : Jvm.MethodName)) ∈ lw_all := lw_g (lw_at lw_m3 94 rfl) rfl
theorem q670 : (Jvm.Cond.methodLink "FirstWordsLaw" (72 : Nat) ({ cls := "FirstWords", name := "thinks", desc := "(II)I" } : Jvm.MethodName)) ∈ lw_all := lw_g (lw_at lw_m3 99 rfl) rfl
theorem q674 : (Jvm.Cond.methodLink "FirstWordsLaw" (76 : Nat) ({ cls := "FirstWords", name := "fits", desc := "(II)I" } : Jvm.MethodName)) ∈ lw_all := lw_g (lw_at lw_m3 103 rfl) rfl
theorem q678 : (Jvm.Cond.methodLink "FirstWordsLaw" (80 : Nat) ({ cls := "FirstWords", name := "same", desc := "(II)I" } : Jvm.MethodName)) ∈ lw_all := lw_g (lw_at lw_m3 107 rfl) rfl
theorem q686 : (Jvm.Cond.methodLink "FirstWordsLaw" (84 : Nat) ({ cls := "FirstWords", name := "fled", desc := "(I)I" } : Jvm.MethodName)) ∈ lw_all := lw_g (lw_at lw_m3 115 rfl) rfl
theorem q690 : (Jvm.Cond.methodLink "FirstWordsLaw" (88 : Nat) ({ cls := "FirstWords", name := "against", desc := "(II)I" } : Jvm.MethodName)) ∈ lw_all := lw_g (lw_at lw_m3 119 rfl) rfl
theorem q694 : (Jvm.Cond.methodLink "FirstWordsLaw" (92 : Nat) ({ cls := "FirstWords", name := "common", desc := "(I)I" } : Jvm.MethodName)) ∈ lw_all := lw_g (lw_at lw_m3 123 rfl) rfl
theorem q705 : (Jvm.Cond.methodLink "FirstWordsLaw" (96 : Nat) ({ cls := "FirstWords", name := "teaching", desc := "(III)I" } : Jvm.MethodName)) ∈ lw_all := lw_g (lw_at lw_m3 134 rfl) rfl
theorem q743 : (Jvm.Cond.methodLink "FirstWordsLaw" (101 : Nat) ({ cls := "FirstWords", name := "never", desc := "(II)I" } : Jvm.MethodName)) ∈ lw_all := lw_g (lw_at lw_m3 172 rfl) rfl
theorem q747 : (Jvm.Cond.methodLink "FirstWordsLaw" (105 : Nat) ({ cls := "FirstWords", name := "order", desc := "(II)I" } : Jvm.MethodName)) ∈ lw_all := lw_g (lw_at lw_m3 176 rfl) rfl
theorem q760 : (Jvm.Cond.methodLink "FirstWordsLaw" (109 : Nat) ({ cls := "FirstWords", name := "first", desc := "(II)I" } : Jvm.MethodName)) ∈ lw_all := lw_g (lw_at lw_m3 189 rfl) rfl
theorem q779 : (Jvm.Cond.methodLink "FirstWordsLaw" (113 : Nat) ({ cls := "FirstWords", name := "fears", desc := "(I)I" } : Jvm.MethodName)) ∈ lw_all := lw_g (lw_at lw_m3 208 rfl) rfl
theorem q783 : (Jvm.Cond.methodLink "FirstWordsLaw" (117 : Nat) ({ cls := "FirstWords", name := "answer", desc := "(III)I" } : Jvm.MethodName)) ∈ lw_all := lw_g (lw_at lw_m3 212 rfl) rfl
theorem q791 : (Jvm.Cond.methodLink "FirstWordsLaw" (121 : Nat) ({ cls := "FirstWords", name := "heard", desc := "(III)I" } : Jvm.MethodName)) ∈ lw_all := lw_g (lw_at lw_m3 220 rfl) rfl
theorem q795 : (Jvm.Cond.methodLink "FirstWordsLaw" (125 : Nat) ({ cls := "FirstWords", name := "left", desc := "(I)I" } : Jvm.MethodName)) ∈ lw_all := lw_g (lw_at lw_m3 224 rfl) rfl
theorem q799 : (Jvm.Cond.methodLink "FirstWordsLaw" (129 : Nat) ({ cls := "FirstWords", name := "ask", desc := "(I)I" } : Jvm.MethodName)) ∈ lw_all := lw_g (lw_at lw_m3 228 rfl) rfl
theorem q810 : (Jvm.Cond.methodLink "FirstWordsLaw" (133 : Nat) ({ cls := "FirstWords", name := "sure", desc := "(II)I" } : Jvm.MethodName)) ∈ lw_all := lw_g (lw_at lw_m3 239 rfl) rfl
theorem q820 : (Jvm.Cond.methodLink "FirstWordsLaw" (137 : Nat) ({ cls := "FirstWords", name := "likely", desc := "(II)I" } : Jvm.MethodName)) ∈ lw_all := lw_g (lw_at lw_m4 9 rfl) rfl
theorem q824 : (Jvm.Cond.methodLink "FirstWordsLaw" (141 : Nat) ({ cls := "FirstWords", name := "theirs", desc := "(IZ)I" } : Jvm.MethodName)) ∈ lw_all := lw_g (lw_at lw_m4 13 rfl) rfl
theorem q828 : (Jvm.Cond.methodLink "FirstWordsLaw" (146 : Nat) ({ cls := "FirstWords", name := "hush", desc := "()I" } : Jvm.MethodName)) ∈ lw_all := lw_g (lw_at lw_m4 17 rfl) rfl
theorem q832 : (Jvm.Cond.methodLink "FirstWordsLaw" (150 : Nat) ({ cls := "FirstWords", name := "meant", desc := "(I)I" } : Jvm.MethodName)) ∈ lw_all := lw_g (lw_at lw_m4 21 rfl) rfl
theorem q841 : (Jvm.Cond.methodLink "FirstWordsLaw" (154 : Nat) ({ cls := "FirstWords", name := "build", desc := "(II)I" } : Jvm.MethodName)) ∈ lw_all := lw_g (lw_at lw_m4 30 rfl) rfl
theorem q845 : (Jvm.Cond.methodLink "FirstWordsLaw" (158 : Nat) ({ cls := "FirstWords", name := "draw", desc := "(I)I" } : Jvm.MethodName)) ∈ lw_all := lw_g (lw_at lw_m4 34 rfl) rfl
theorem q850 : (Jvm.Cond.methodLink "FirstWordsLaw" (162 : Nat) ({ cls := "FirstWords", name := "keep", desc := "(I)I" } : Jvm.MethodName)) ∈ lw_all := lw_g (lw_at lw_m4 39 rfl) rfl
theorem q857 : (Jvm.Cond.methodLink "FirstWordsLaw" (166 : Nat) ({ cls := "FirstWords", name := "back", desc := "(I)I" } : Jvm.MethodName)) ∈ lw_all := lw_g (lw_at lw_m4 46 rfl) rfl
theorem q861 : (Jvm.Cond.classLink "FirstWordsLaw" (7 : Nat) "FirstWords") ∈ lw_all := lw_g (lw_at lw_m4 50 rfl) rfl
theorem q862 : (Jvm.Cond.methodLink "FirstWordsLaw" (9 : Nat) ({ cls := "FirstWords", name := "<init>", desc := "()V" } : Jvm.MethodName)) ∈ lw_all := lw_g (lw_at lw_m4 51 rfl) rfl
theorem q1079 : (Jvm.Cond.methodLink "FirstWordsLaw" (170 : Nat) ({ cls := "FirstWords", name := "sheet", desc := "(III)I" } : Jvm.MethodName)) ∈ lw_all := lw_g (lw_at lw_m5 28 rfl) rfl
theorem q1114 : (Jvm.Cond.methodLink "FirstWordsLaw" (174 : Nat) ({ cls := "FirstWords", name := "lay", desc := "(III)I" } : Jvm.MethodName)) ∈ lw_all := lw_g (lw_at lw_m5 63 rfl) rfl
theorem q1165 : (Jvm.Cond.methodLink "FirstWordsLaw" (178 : Nat) ({ cls := "FirstWords", name := "read", desc := "(IIII)I" } : Jvm.MethodName)) ∈ lw_all := lw_g (lw_at lw_m5 114 rfl) rfl
theorem q1191 : (Jvm.Cond.methodLink "FirstWordsLaw" (183 : Nat) ({ cls := "FirstWords", name := "torn", desc := "()I" } : Jvm.MethodName)) ∈ lw_all := lw_g (lw_at lw_m5 140 rfl) rfl
theorem q1195 : (Jvm.Cond.methodLink "FirstWordsLaw" (187 : Nat) ({ cls := "FirstWords", name := "count", desc := "(I)I" } : Jvm.MethodName)) ∈ lw_all := lw_g (lw_at lw_m5 144 rfl) rfl
theorem q1199 : (Jvm.Cond.classLink "FirstWordsLaw" (10 : Nat) "FirstWordsModel") ∈ lw_all := lw_g (lw_at lw_m5 148 rfl) rfl
theorem q1201 : (Jvm.Cond.methodLink "FirstWordsLaw" (12 : Nat) ({ cls := "FirstWordsModel", name := "<init>", desc := "()V" } : Jvm.MethodName)) ∈ lw_all := lw_g (lw_at lw_m5 150 rfl) rfl
theorem q1409 : (Jvm.Cond.methodLink "FirstWordsLaw" (19 : Nat) ({ cls := "FirstWordsModel", name := "feed", desc := "(J)I" } : Jvm.MethodName)) ∈ lw_all := lw_g (lw_at lw_m6 118 rfl) rfl
theorem q1414 : (Jvm.Cond.methodLink "FirstWordsLaw" (24 : Nat) ({ cls := "FirstWordsModel", name := "end", desc := "(I)I" } : Jvm.MethodName)) ∈ lw_all := lw_g (lw_at lw_m6 123 rfl) rfl
theorem q1418 : (Jvm.Cond.methodLink "FirstWordsLaw" (29 : Nat) ({ cls := "FirstWordsModel", name := "text", desc := "()I" } : Jvm.MethodName)) ∈ lw_all := lw_g (lw_at lw_m6 127 rfl) rfl
theorem q1479 : (Jvm.Cond.methodLink "FirstWordsLaw" (33 : Nat) ({ cls := "FirstWordsModel", name := "fault", desc := "()I" } : Jvm.MethodName)) ∈ lw_all := lw_g (lw_at lw_m6 188 rfl) rfl
theorem q1483 : (Jvm.Cond.methodLink "FirstWordsLaw" (37 : Nat) ({ cls := "FirstWordsModel", name := "thing", desc := "(I)I" } : Jvm.MethodName)) ∈ lw_all := lw_g (lw_at lw_m6 192 rfl) rfl
theorem q1491 : (Jvm.Cond.methodLink "FirstWordsLaw" (42 : Nat) ({ cls := "FirstWordsModel", name := "meaning", desc := "(II)I" } : Jvm.MethodName)) ∈ lw_all := lw_g (lw_at lw_m6 200 rfl) rfl
theorem q1495 : (Jvm.Cond.methodLink "FirstWordsLaw" (46 : Nat) ({ cls := "FirstWordsModel", name := "word", desc := "(I)I" } : Jvm.MethodName)) ∈ lw_all := lw_g (lw_at lw_m6 204 rfl) rfl
theorem q1503 : (Jvm.Cond.methodLink "FirstWordsLaw" (50 : Nat) ({ cls := "FirstWordsModel", name := "kind", desc := "(II)I" } : Jvm.MethodName)) ∈ lw_all := lw_g (lw_at lw_m6 212 rfl) rfl
theorem q1512 : (Jvm.Cond.methodLink "FirstWordsLaw" (55 : Nat) ({ cls := "FirstWordsModel", name := "show", desc := "(IIZ)I" } : Jvm.MethodName)) ∈ lw_all := lw_g (lw_at lw_m6 221 rfl) rfl
theorem q1520 : (Jvm.Cond.methodLink "FirstWordsLaw" (59 : Nat) ({ cls := "FirstWordsModel", name := "teach", desc := "(II)I" } : Jvm.MethodName)) ∈ lw_all := lw_g (lw_at lw_m6 229 rfl) rfl
theorem q1532 : (Jvm.Cond.methodLink "FirstWordsLaw" (63 : Nat) ({ cls := "FirstWordsModel", name := "undo", desc := "()I" } : Jvm.MethodName)) ∈ lw_all := lw_g (lw_at lw_m7 1 rfl) rfl
theorem q1536 : (Jvm.Cond.methodLink "FirstWordsLaw" (67 : Nat) ({ cls := "FirstWordsModel", name := "clear", desc := "()I" } : Jvm.MethodName)) ∈ lw_all := lw_g (lw_at lw_m7 5 rfl) rfl
theorem q1540 : (Jvm.Cond.methodLink "FirstWordsLaw" (71 : Nat) ({ cls := "FirstWordsModel", name := "shown", desc := "(II)I" } : Jvm.MethodName)) ∈ lw_all := lw_g (lw_at lw_m7 9 rfl) rfl
theorem q1545 : (Jvm.Cond.methodLink "FirstWordsLaw" (75 : Nat) ({ cls := "FirstWordsModel", name := "thinks", desc := "(II)I" } : Jvm.MethodName)) ∈ lw_all := lw_g (lw_at lw_m7 14 rfl) rfl
theorem q1549 : (Jvm.Cond.methodLink "FirstWordsLaw" (79 : Nat) ({ cls := "FirstWordsModel", name := "fits", desc := "(II)I" } : Jvm.MethodName)) ∈ lw_all := lw_g (lw_at lw_m7 18 rfl) rfl
theorem q1553 : (Jvm.Cond.methodLink "FirstWordsLaw" (83 : Nat) ({ cls := "FirstWordsModel", name := "same", desc := "(II)I" } : Jvm.MethodName)) ∈ lw_all := lw_g (lw_at lw_m7 22 rfl) rfl
theorem q1561 : (Jvm.Cond.methodLink "FirstWordsLaw" (87 : Nat) ({ cls := "FirstWordsModel", name := "fled", desc := "(I)I" } : Jvm.MethodName)) ∈ lw_all := lw_g (lw_at lw_m7 30 rfl) rfl
theorem q1565 : (Jvm.Cond.methodLink "FirstWordsLaw" (91 : Nat) ({ cls := "FirstWordsModel", name := "against", desc := "(II)I" } : Jvm.MethodName)) ∈ lw_all := lw_g (lw_at lw_m7 34 rfl) rfl
theorem q1569 : (Jvm.Cond.methodLink "FirstWordsLaw" (95 : Nat) ({ cls := "FirstWordsModel", name := "common", desc := "(I)I" } : Jvm.MethodName)) ∈ lw_all := lw_g (lw_at lw_m7 38 rfl) rfl
theorem q1581 : (Jvm.Cond.methodLink "FirstWordsLaw" (100 : Nat) ({ cls := "FirstWordsModel", name := "teaching", desc := "(III)I" } : Jvm.MethodName)) ∈ lw_all := lw_g (lw_at lw_m7 50 rfl) rfl
theorem q1605 : (Jvm.Cond.methodLink "FirstWordsLaw" (104 : Nat) ({ cls := "FirstWordsModel", name := "never", desc := "(II)I" } : Jvm.MethodName)) ∈ lw_all := lw_g (lw_at lw_m7 74 rfl) rfl
theorem q1609 : (Jvm.Cond.methodLink "FirstWordsLaw" (108 : Nat) ({ cls := "FirstWordsModel", name := "order", desc := "(II)I" } : Jvm.MethodName)) ∈ lw_all := lw_g (lw_at lw_m7 78 rfl) rfl
theorem q1621 : (Jvm.Cond.methodLink "FirstWordsLaw" (112 : Nat) ({ cls := "FirstWordsModel", name := "first", desc := "(II)I" } : Jvm.MethodName)) ∈ lw_all := lw_g (lw_at lw_m7 90 rfl) rfl
theorem q1640 : (Jvm.Cond.methodLink "FirstWordsLaw" (116 : Nat) ({ cls := "FirstWordsModel", name := "fears", desc := "(I)I" } : Jvm.MethodName)) ∈ lw_all := lw_g (lw_at lw_m7 109 rfl) rfl
theorem q1644 : (Jvm.Cond.methodLink "FirstWordsLaw" (120 : Nat) ({ cls := "FirstWordsModel", name := "answer", desc := "(III)I" } : Jvm.MethodName)) ∈ lw_all := lw_g (lw_at lw_m7 113 rfl) rfl
theorem q1652 : (Jvm.Cond.methodLink "FirstWordsLaw" (124 : Nat) ({ cls := "FirstWordsModel", name := "heard", desc := "(III)I" } : Jvm.MethodName)) ∈ lw_all := lw_g (lw_at lw_m7 121 rfl) rfl
theorem q1660 : (Jvm.Cond.methodLink "FirstWordsLaw" (128 : Nat) ({ cls := "FirstWordsModel", name := "left", desc := "(I)I" } : Jvm.MethodName)) ∈ lw_all := lw_g (lw_at lw_m7 129 rfl) rfl
theorem q1664 : (Jvm.Cond.methodLink "FirstWordsLaw" (132 : Nat) ({ cls := "FirstWordsModel", name := "ask", desc := "(I)I" } : Jvm.MethodName)) ∈ lw_all := lw_g (lw_at lw_m7 133 rfl) rfl
theorem q1668 : (Jvm.Cond.methodLink "FirstWordsLaw" (136 : Nat) ({ cls := "FirstWordsModel", name := "sure", desc := "(II)I" } : Jvm.MethodName)) ∈ lw_all := lw_g (lw_at lw_m7 137 rfl) rfl
theorem q1672 : (Jvm.Cond.methodLink "FirstWordsLaw" (140 : Nat) ({ cls := "FirstWordsModel", name := "likely", desc := "(II)I" } : Jvm.MethodName)) ∈ lw_all := lw_g (lw_at lw_m7 141 rfl) rfl
theorem q1676 : (Jvm.Cond.methodLink "FirstWordsLaw" (145 : Nat) ({ cls := "FirstWordsModel", name := "theirs", desc := "(IZ)I" } : Jvm.MethodName)) ∈ lw_all := lw_g (lw_at lw_m7 145 rfl) rfl
theorem q1680 : (Jvm.Cond.methodLink "FirstWordsLaw" (149 : Nat) ({ cls := "FirstWordsModel", name := "hush", desc := "()I" } : Jvm.MethodName)) ∈ lw_all := lw_g (lw_at lw_m7 149 rfl) rfl
theorem q1684 : (Jvm.Cond.methodLink "FirstWordsLaw" (153 : Nat) ({ cls := "FirstWordsModel", name := "meant", desc := "(I)I" } : Jvm.MethodName)) ∈ lw_all := lw_g (lw_at lw_m7 153 rfl) rfl
theorem q1696 : (Jvm.Cond.methodLink "FirstWordsLaw" (157 : Nat) ({ cls := "FirstWordsModel", name := "build", desc := "(II)I" } : Jvm.MethodName)) ∈ lw_all := lw_g (lw_at lw_m7 165 rfl) rfl
theorem q1700 : (Jvm.Cond.methodLink "FirstWordsLaw" (161 : Nat) ({ cls := "FirstWordsModel", name := "draw", desc := "(I)I" } : Jvm.MethodName)) ∈ lw_all := lw_g (lw_at lw_m7 169 rfl) rfl
theorem q1705 : (Jvm.Cond.methodLink "FirstWordsLaw" (165 : Nat) ({ cls := "FirstWordsModel", name := "keep", desc := "(I)I" } : Jvm.MethodName)) ∈ lw_all := lw_g (lw_at lw_m7 174 rfl) rfl
theorem q1709 : (Jvm.Cond.methodLink "FirstWordsLaw" (169 : Nat) ({ cls := "FirstWordsModel", name := "back", desc := "(I)I" } : Jvm.MethodName)) ∈ lw_all := lw_g (lw_at lw_m7 178 rfl) rfl
theorem q1713 : (Jvm.Cond.methodLink "FirstWordsLaw" (173 : Nat) ({ cls := "FirstWordsModel", name := "sheet", desc := "(III)I" } : Jvm.MethodName)) ∈ lw_all := lw_g (lw_at lw_m7 182 rfl) rfl
theorem q1720 : (Jvm.Cond.methodLink "FirstWordsLaw" (177 : Nat) ({ cls := "FirstWordsModel", name := "lay", desc := "(III)I" } : Jvm.MethodName)) ∈ lw_all := lw_g (lw_at lw_m7 189 rfl) rfl
theorem q1724 : (Jvm.Cond.methodLink "FirstWordsLaw" (182 : Nat) ({ cls := "FirstWordsModel", name := "read", desc := "(IIII)I" } : Jvm.MethodName)) ∈ lw_all := lw_g (lw_at lw_m7 193 rfl) rfl
theorem q1729 : (Jvm.Cond.methodLink "FirstWordsLaw" (186 : Nat) ({ cls := "FirstWordsModel", name := "torn", desc := "()I" } : Jvm.MethodName)) ∈ lw_all := lw_g (lw_at lw_m7 198 rfl) rfl
theorem q1733 : (Jvm.Cond.methodLink "FirstWordsLaw" (190 : Nat) ({ cls := "FirstWordsModel", name := "count", desc := "(I)I" } : Jvm.MethodName)) ∈ lw_all := lw_g (lw_at lw_m7 202 rfl) rfl
theorem q1737 : (Jvm.Cond.constantLong "FirstWordsLaw" (13 : Nat) (4294967295 : Int64)) ∈ lw_all := lw_g (lw_at lw_m7 206 rfl) rfl
theorem q99 : (Jvm.Cond.initialized "java/lang/System") ∈ lw_all := lw_g (lw_at lw_m1 8 rfl) rfl
set_option maxRecDepth 100000
theorem q138 : (Jvm.Cond.static ({ cls := "java/lang/System", name := "arraycopy", desc := "(Ljava/lang/Object;ILjava/lang/Object;II)V" } : Jvm.MethodName)) ∈ lw_all := lw_g (lw_at lw_m1 47 rfl) rfl
theorem q139 : (Jvm.Cond.native ({ cls := "java/lang/System", name := "arraycopy", desc := "(Ljava/lang/Object;ILjava/lang/Object;II)V" } : Jvm.MethodName)) ∈ lw_all := lw_g (lw_at lw_m1 48 rfl) rfl
theorem q149 : (Jvm.Cond.arrayOver (Jvm.ClassFile.FieldType.object "FirstWords$Meaning")) ∈ lw_tbl := lw_at lw_m1 58 rfl
set_option maxRecDepth 100000
theorem q151 : (Jvm.Cond.arrayOver (Jvm.ClassFile.FieldType.object "FirstWords$Stranger")) ∈ lw_tbl := lw_at lw_m1 60 rfl
theorem q258 : (Jvm.Cond.arrayClass Jvm.ClassFile.FieldType.byte) ∈ lw_all := lw_g (lw_at lw_m1 167 rfl) rfl
theorem q259 : (Jvm.Cond.arrayClass Jvm.ClassFile.FieldType.int) ∈ lw_all := lw_g (lw_at lw_m1 168 rfl) rfl
theorem q869 : (Jvm.Cond.arrayOver (Jvm.ClassFile.FieldType.array Jvm.ClassFile.FieldType.int)) ∈ lw_tbl := lw_at lw_m4 58 rfl
theorem q871 : (Jvm.Cond.arrayOver (Jvm.ClassFile.FieldType.object "FirstWords$Mind")) ∈ lw_tbl := lw_at lw_m4 60 rfl
theorem q907 : (Jvm.Cond.arrayOver (Jvm.ClassFile.FieldType.array (Jvm.ClassFile.FieldType.object "FirstWords$Mind"))) ∈ lw_tbl := lw_at lw_m4 96 rfl
theorem q932 : (Jvm.Cond.arrayOver (Jvm.ClassFile.FieldType.object "FirstWords$Image")) ∈ lw_tbl := lw_at lw_m4 121 rfl
theorem q961 : (Jvm.Cond.arrayOver (Jvm.ClassFile.FieldType.object "FirstWords$Sheet")) ∈ lw_tbl := lw_at lw_m4 150 rfl
theorem q1113 : (Jvm.Cond.arrayClass Jvm.ClassFile.FieldType.short) ∈ lw_all := lw_g (lw_at lw_m5 62 rfl) rfl
theorem q1408 : (Jvm.Cond.arrayClass Jvm.ClassFile.FieldType.boolean) ∈ lw_all := lw_g (lw_at lw_m6 117 rfl) rfl
theorem q1752 : (Jvm.Cond.arrayOver (Jvm.ClassFile.FieldType.object "java/lang/String")) ∈ lw_tbl := lw_at lw_m7 221 rfl
