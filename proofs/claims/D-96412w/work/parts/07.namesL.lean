/-! the law's own entry -/
set_option maxRecDepth 100000
abbrev cL_law : ByteArray := code
def dkwL_law_59 : List UInt8 := [132, 3, 6, 167, 250, 9, 4, 172]
abbrev dktL_law_59 : List UInt8 := dkwL_law_59 ++ []
def dkwL_law_58 : List UInt8 := [46, 42, 29, 6, 96, 46, 42, 29, 7, 96, 46, 42, 29, 8, 96, 46, 182, 0, 195, 159, 0, 5, 3, 172]
abbrev dktL_law_58 : List UInt8 := dkwL_law_58 ++ dktL_law_59
def dkwL_law_57 : List UInt8 := [46, 42, 29, 7, 96, 46, 42, 29, 8, 96, 46, 182, 0, 191, 44, 42, 29, 4, 96, 46, 42, 29, 5, 96]
abbrev dktL_law_57 : List UInt8 := dkwL_law_57 ++ dktL_law_58
def dkwL_law_56 : List UInt8 := [182, 0, 190, 148, 153, 0, 68, 3, 172, 43, 42, 29, 4, 96, 46, 42, 29, 5, 96, 46, 42, 29, 6, 96]
abbrev dktL_law_56 : List UInt8 := dkwL_law_56 ++ dktL_law_57
def dkwL_law_55 : List UInt8 := [42, 29, 4, 96, 46, 42, 29, 5, 96, 46, 182, 0, 187, 44, 42, 29, 4, 96, 46, 42, 29, 5, 96, 46]
abbrev dktL_law_55 : List UInt8 := dkwL_law_55 ++ dktL_law_56
def dkwL_law_54 : List UInt8 := [133, 16, 32, 121, 42, 29, 7, 96, 46, 133, 20, 0, 180, 127, 129, 182, 0, 186, 159, 0, 102, 3, 172, 43]
abbrev dktL_law_54 : List UInt8 := dkwL_law_54 ++ dktL_law_55
def dkwL_law_53 : List UInt8 := [20, 0, 180, 127, 129, 182, 0, 182, 44, 42, 29, 4, 96, 46, 42, 29, 5, 96, 46, 42, 29, 6, 96, 46]
abbrev dktL_law_53 : List UInt8 := dkwL_law_53 ++ dktL_law_54
def dkwL_law_52 : List UInt8 := [96, 46, 42, 29, 5, 96, 46, 42, 29, 6, 96, 46, 133, 16, 32, 121, 42, 29, 7, 96, 46, 133]
abbrev dktL_law_52 : List UInt8 := dkwL_law_52 ++ dktL_law_53
def dkwL_law_51 : List UInt8 := [96, 46, 42, 29, 5, 96, 46, 42, 29, 6, 96, 46, 182, 0, 179, 159, 0, 175, 3, 172, 43, 42, 29, 4]
abbrev dktL_law_51 : List UInt8 := dkwL_law_51 ++ dktL_law_52
def dkwL_law_50 : List UInt8 := [172, 43, 42, 29, 4, 96, 46, 42, 29, 5, 96, 46, 42, 29, 6, 96, 46, 182, 0, 176, 44, 42, 29, 4]
abbrev dktL_law_50 : List UInt8 := dkwL_law_50 ++ dktL_law_51
def dkwL_law_49 : List UInt8 := [3, 172, 43, 42, 29, 4, 96, 46, 182, 0, 172, 44, 42, 29, 4, 96, 46, 182, 0, 175, 159, 0, 218, 3]
abbrev dktL_law_49 : List UInt8 := dkwL_law_49 ++ dktL_law_50
def dkwL_law_48 : List UInt8 := [29, 5, 96, 46, 182, 0, 168, 44, 42, 29, 4, 96, 46, 42, 29, 5, 96, 46, 182, 0, 171, 159, 0, 241]
abbrev dktL_law_48 : List UInt8 := dkwL_law_48 ++ dktL_law_49
def dkwL_law_47 : List UInt8 := [182, 0, 164, 44, 42, 29, 4, 96, 46, 182, 0, 167, 159, 1, 18, 3, 172, 43, 42, 29, 4, 96, 46, 42]
abbrev dktL_law_47 : List UInt8 := dkwL_law_47 ++ dktL_law_48
def dkwL_law_46 : List UInt8 := [5, 96, 46, 42, 29, 6, 96, 46, 182, 0, 163, 159, 1, 41, 3, 172, 43, 42, 29, 4, 96, 46]
abbrev dktL_law_46 : List UInt8 := dkwL_law_46 ++ dktL_law_47
def dkwL_law_45 : List UInt8 := [4, 96, 46, 42, 29, 5, 96, 46, 42, 29, 6, 96, 46, 182, 0, 160, 44, 42, 29, 4, 96, 46, 42, 29]
abbrev dktL_law_45 : List UInt8 := dkwL_law_45 ++ dktL_law_46
def dkwL_law_44 : List UInt8 := [182, 0, 155, 159, 1, 97, 3, 172, 43, 182, 0, 156, 44, 182, 0, 159, 159, 1, 84, 3, 172, 43, 42, 29]
abbrev dktL_law_44 : List UInt8 := dkwL_law_44 ++ dktL_law_45
def dkwL_law_43 : List UInt8 := [29, 4, 96, 46, 42, 29, 5, 96, 46, 182, 0, 151, 159, 1, 110, 3, 172, 43, 182, 0, 152, 44]
abbrev dktL_law_43 : List UInt8 := dkwL_law_43 ++ dktL_law_44
def dkwL_law_42 : List UInt8 := [182, 0, 147, 159, 1, 143, 3, 172, 43, 42, 29, 4, 96, 46, 42, 29, 5, 96, 46, 182, 0, 148, 44, 42]
abbrev dktL_law_42 : List UInt8 := dkwL_law_42 ++ dktL_law_43
def dkwL_law_41 : List UInt8 := [42, 29, 4, 96, 46, 42, 29, 5, 96, 46, 182, 0, 143, 159, 1, 156, 3, 172, 43, 182, 0, 144, 44]
abbrev dktL_law_41 : List UInt8 := dkwL_law_41 ++ dktL_law_42
def dkwL_law_40 : List UInt8 := [182, 0, 139, 148, 153, 1, 189, 3, 172, 43, 42, 29, 4, 96, 46, 42, 29, 5, 96, 46, 182, 0, 140, 44]
abbrev dktL_law_40 : List UInt8 := dkwL_law_40 ++ dktL_law_41
def dkwL_law_39 : List UInt8 := [29, 4, 96, 46, 42, 29, 5, 96, 46, 182, 0, 135, 44, 42, 29, 4, 96, 46, 42, 29, 5, 96, 46]
abbrev dktL_law_39 : List UInt8 := dkwL_law_39 ++ dktL_law_40
def dkwL_law_38 : List UInt8 := [4, 96, 46, 42, 29, 5, 96, 46, 42, 29, 6, 96, 46, 182, 0, 134, 148, 153, 1, 223, 3, 172, 43, 42]
abbrev dktL_law_38 : List UInt8 := dkwL_law_38 ++ dktL_law_39
def dkwL_law_37 : List UInt8 := [3, 172, 43, 42, 29, 4, 96, 46, 42, 29, 5, 96, 46, 42, 29, 6, 96, 46, 182, 0, 130, 44, 42, 29]
abbrev dktL_law_37 : List UInt8 := dkwL_law_37 ++ dktL_law_38
def dkwL_law_36 : List UInt8 := [42, 29, 4, 96, 46, 182, 0, 125, 159, 2, 24, 3, 172, 43, 182, 0, 126, 44, 182, 0, 129, 159, 2, 11]
abbrev dktL_law_36 : List UInt8 := dkwL_law_36 ++ dktL_law_37
def dkwL_law_35 : List UInt8 := [46, 42, 29, 5, 96, 46, 182, 0, 121, 159, 2, 47, 3, 172, 43, 42, 29, 4, 96, 46, 182, 0, 122, 44]
abbrev dktL_law_35 : List UInt8 := dkwL_law_35 ++ dktL_law_36
def dkwL_law_34 : List UInt8 := [159, 2, 80, 3, 172, 43, 42, 29, 4, 96, 46, 42, 29, 5, 96, 46, 182, 0, 118, 44, 42, 29, 4, 96]
abbrev dktL_law_34 : List UInt8 := dkwL_law_34 ++ dktL_law_35
def dkwL_law_33 : List UInt8 := [42, 29, 5, 96, 46, 182, 0, 114, 44, 42, 29, 4, 96, 46, 42, 29, 5, 96, 46, 182, 0, 117]
abbrev dktL_law_33 : List UInt8 := dkwL_law_33 ++ dktL_law_34
def dkwL_law_32 : List UInt8 := [46, 182, 0, 110, 44, 42, 29, 4, 96, 46, 182, 0, 113, 159, 2, 113, 3, 172, 43, 42, 29, 4, 96, 46]
abbrev dktL_law_32 : List UInt8 := dkwL_law_32 ++ dktL_law_33
def dkwL_law_31 : List UInt8 := [44, 42, 29, 4, 96, 46, 42, 29, 5, 96, 46, 182, 0, 109, 159, 2, 136, 3, 172, 43, 42, 29, 4, 96]
abbrev dktL_law_31 : List UInt8 := dkwL_law_31 ++ dktL_law_32
def dkwL_law_30 : List UInt8 := [96, 46, 182, 0, 105, 159, 2, 169, 3, 172, 43, 42, 29, 4, 96, 46, 42, 29, 5, 96, 46, 182, 0, 106]
abbrev dktL_law_30 : List UInt8 := dkwL_law_30 ++ dktL_law_31
def dkwL_law_29 : List UInt8 := [4, 96, 46, 182, 0, 101, 159, 2, 192, 3, 172, 43, 42, 29, 4, 96, 46, 182, 0, 102, 44, 42, 29, 4]
abbrev dktL_law_29 : List UInt8 := dkwL_law_29 ++ dktL_law_30
def dkwL_law_28 : List UInt8 := [29, 6, 96, 46, 182, 0, 97, 159, 2, 215, 3, 172, 43, 42, 29, 4, 96, 46, 182, 0, 98, 44, 42, 29]
abbrev dktL_law_28 : List UInt8 := dkwL_law_28 ++ dktL_law_29
def dkwL_law_27 : List UInt8 := [29, 5, 96, 46, 42, 29, 6, 96, 46, 182, 0, 94, 44, 42, 29, 4, 96, 46, 42, 29, 5, 96, 46, 42]
abbrev dktL_law_27 : List UInt8 := dkwL_law_27 ++ dktL_law_28
def dkwL_law_26 : List UInt8 := [29, 4, 96, 46, 42, 29, 5, 96, 46, 182, 0, 93, 159, 3, 2, 3, 172, 43, 42, 29, 4, 96, 46, 42]
abbrev dktL_law_26 : List UInt8 := dkwL_law_26 ++ dktL_law_27
def dkwL_law_25 : List UInt8 := [182, 0, 89, 159, 3, 35, 3, 172, 43, 42, 29, 4, 96, 46, 42, 29, 5, 96, 46, 182, 0, 90, 44, 42]
abbrev dktL_law_25 : List UInt8 := dkwL_law_25 ++ dktL_law_26
def dkwL_law_24 : List UInt8 := [182, 0, 85, 159, 3, 58, 3, 172, 43, 42, 29, 4, 96, 46, 182, 0, 86, 44, 42, 29, 4, 96, 46]
abbrev dktL_law_24 : List UInt8 := dkwL_law_24 ++ dktL_law_25
def dkwL_law_23 : List UInt8 := [182, 0, 81, 159, 3, 81, 3, 172, 43, 42, 29, 4, 96, 46, 182, 0, 82, 44, 42, 29, 4, 96, 46]
abbrev dktL_law_23 : List UInt8 := dkwL_law_23 ++ dktL_law_24
def dkwL_law_22 : List UInt8 := [29, 4, 96, 46, 42, 29, 5, 96, 46, 182, 0, 78, 44, 42, 29, 4, 96, 46, 42, 29, 5, 96, 46]
abbrev dktL_law_22 : List UInt8 := dkwL_law_22 ++ dktL_law_23
def dkwL_law_21 : List UInt8 := [182, 0, 74, 44, 42, 29, 4, 96, 46, 42, 29, 5, 96, 46, 182, 0, 77, 159, 3, 114, 3, 172, 43, 42]
abbrev dktL_law_21 : List UInt8 := dkwL_law_21 ++ dktL_law_22
def dkwL_law_20 : List UInt8 := [5, 96, 46, 182, 0, 73, 159, 3, 147, 3, 172, 43, 42, 29, 4, 96, 46, 42, 29, 5, 96, 46]
abbrev dktL_law_20 : List UInt8 := dkwL_law_20 ++ dktL_law_21
def dkwL_law_19 : List UInt8 := [3, 172, 43, 42, 29, 4, 96, 46, 42, 29, 5, 96, 46, 182, 0, 70, 44, 42, 29, 4, 96, 46, 42, 29]
abbrev dktL_law_19 : List UInt8 := dkwL_law_19 ++ dktL_law_20
def dkwL_law_18 : List UInt8 := [29, 5, 96, 46, 182, 0, 66, 44, 42, 29, 4, 96, 46, 42, 29, 5, 96, 46, 182, 0, 69, 159, 3, 180]
abbrev dktL_law_18 : List UInt8 := dkwL_law_18 ++ dktL_law_19
def dkwL_law_17 : List UInt8 := [29, 4, 96, 46, 42, 29, 5, 96, 46, 182, 0, 65, 159, 3, 213, 3, 172, 43, 42, 29, 4, 96, 46, 42]
abbrev dktL_law_17 : List UInt8 := dkwL_law_17 ++ dktL_law_18
def dkwL_law_16 : List UInt8 := [182, 0, 61, 159, 3, 246, 3, 172, 43, 42, 29, 4, 96, 46, 42, 29, 5, 96, 46, 182, 0, 62, 44, 42]
abbrev dktL_law_16 : List UInt8 := dkwL_law_16 ++ dktL_law_17
def dkwL_law_15 : List UInt8 := [182, 0, 57, 159, 4, 13, 3, 172, 43, 42, 29, 4, 96, 46, 182, 0, 58, 44, 42, 29, 4, 96, 46]
abbrev dktL_law_15 : List UInt8 := dkwL_law_15 ++ dktL_law_16
def dkwL_law_14 : List UInt8 := [182, 0, 53, 159, 4, 36, 3, 172, 43, 42, 29, 4, 96, 46, 182, 0, 54, 44, 42, 29, 4, 96, 46]
abbrev dktL_law_14 : List UInt8 := dkwL_law_14 ++ dktL_law_15
def dkwL_law_13 : List UInt8 := [182, 0, 49, 159, 4, 59, 3, 172, 43, 42, 29, 4, 96, 46, 182, 0, 50, 44, 42, 29, 4, 96, 46]
abbrev dktL_law_13 : List UInt8 := dkwL_law_13 ++ dktL_law_14
def dkwL_law_12 : List UInt8 := [182, 0, 45, 159, 4, 82, 3, 172, 43, 42, 29, 4, 96, 46, 182, 0, 46, 44, 42, 29, 4, 96, 46]
abbrev dktL_law_12 : List UInt8 := dkwL_law_12 ++ dktL_law_13
def dkwL_law_11 : List UInt8 := [182, 0, 41, 159, 4, 105, 3, 172, 43, 42, 29, 4, 96, 46, 182, 0, 42, 44, 42, 29, 4, 96, 46]
abbrev dktL_law_11 : List UInt8 := dkwL_law_11 ++ dktL_law_12
def dkwL_law_10 : List UInt8 := [182, 0, 32, 44, 42, 29, 4, 96, 46, 182, 0, 36, 159, 4, 118, 3, 172, 43, 182, 0, 37, 44]
abbrev dktL_law_10 : List UInt8 := dkwL_law_10 ++ dktL_law_11
def dkwL_law_9 : List UInt8 := [42, 29, 5, 96, 46, 42, 29, 6, 96, 46, 182, 0, 31, 159, 4, 141, 3, 172, 43, 42, 29, 4, 96, 46]
abbrev dktL_law_9 : List UInt8 := dkwL_law_9 ++ dktL_law_10
def dkwL_law_8 : List UInt8 := [42, 29, 4, 96, 46, 42, 29, 5, 96, 46, 42, 29, 6, 96, 46, 182, 0, 27, 44, 42, 29, 4, 96, 46]
abbrev dktL_law_8 : List UInt8 := dkwL_law_8 ++ dktL_law_9
def dkwL_law_7 : List UInt8 := [46, 182, 0, 23, 44, 42, 29, 4, 96, 46, 42, 29, 5, 96, 46, 182, 0, 26, 159, 4, 184, 3, 172, 43]
abbrev dktL_law_7 : List UInt8 := dkwL_law_7 ++ dktL_law_8
def dkwL_law_6 : List UInt8 := [46, 42, 29, 5, 96, 46, 182, 0, 22, 159, 4, 217, 3, 172, 43, 42, 29, 4, 96, 46, 42, 29, 5, 96]
abbrev dktL_law_6 : List UInt8 := dkwL_law_6 ++ dktL_law_7
def dkwL_law_5 : List UInt8 := [159, 4, 250, 3, 172, 43, 42, 29, 4, 96, 46, 42, 29, 5, 96, 46, 182, 0, 18, 44, 42, 29, 4, 96]
abbrev dktL_law_5 : List UInt8 := dkwL_law_5 ++ dktL_law_6
def dkwL_law_4 : List UInt8 := [44, 42, 29, 4, 96, 46, 42, 29, 5, 96, 46, 42, 29, 6, 96, 46, 42, 29, 7, 96, 46, 182, 0, 17]
abbrev dktL_law_4 : List UInt8 := dkwL_law_4 ++ dktL_law_5
def dkwL_law_3 : List UInt8 := [43, 42, 29, 4, 96, 46, 42, 29, 5, 96, 46, 42, 29, 6, 96, 46, 42, 29, 7, 96, 46, 182, 0, 13]
abbrev dktL_law_3 : List UInt8 := dkwL_law_3 ++ dktL_law_4
def dkwL_law_2 : List UInt8 := [170, 0, 0, 0, 0, 5, 229, 0, 0, 0, 0, 0, 0, 0, 42, 0, 0, 0, 187, 0, 0, 0, 240, 0, 0, 1, 17, 0, 0, 1, 50, 0, 0, 1, 93, 0, 0, 1, 116, 0, 0, 1, 129, 0, 0, 1, 152, 0, 0, 1, 175, 0, 0, 1, 198, 0, 0, 1, 221, 0, 0, 1, 244, 0, 0, 2, 21, 0, 0, 2, 54, 0, 0, 2, 87, 0, 0, 2, 120, 0, 0, 2, 153, 0, 0, 2, 176, 0, 0, 2, 199, 0, 0, 2, 232, 0, 0, 3, 19, 0, 0, 3, 42, 0, 0, 3, 65, 0, 0, 3, 98, 0, 0, 3, 121, 0, 0, 3, 154, 0, 0, 3, 187, 0, 0, 3, 210, 0, 0, 3, 223, 0, 0, 4, 11, 0, 0, 4, 45, 0, 0, 4, 78, 0, 0, 4, 91, 0, 0, 4, 124, 0, 0, 4, 137, 0, 0, 4, 150, 0, 0, 4, 193, 0, 0, 4, 216, 0, 0, 4, 249, 0, 0, 5, 16, 0, 0, 5, 59, 0, 0, 5, 132, 0, 0, 5, 166]
abbrev dktL_law_2 : List UInt8 := dkwL_law_2 ++ dktL_law_3
def dkwL_law_1 : List UInt8 := [163, 5, 244, 42, 29, 46, 16, 63, 126]
abbrev dktL_law_1 : List UInt8 := dkwL_law_1 ++ dktL_law_2
def dkwL_law_0 : List UInt8 := [187, 0, 7, 89, 183, 0, 9, 76, 187, 0, 10, 89, 183, 0, 12, 77, 3, 62, 29, 42, 190, 16, 6, 100]
abbrev dktL_law_0 : List UInt8 := dkwL_law_0 ++ dktL_law_1
theorem dksL_law_0 : cL_law.data.toList.drop 0 = dktL_law_0 := by decide +kernel
theorem dksL_law_1 : cL_law.data.toList.drop 24 = dktL_law_1 := dk_seg dksL_law_0 24 rfl rfl
theorem dksL_law_2 : cL_law.data.toList.drop 33 = dktL_law_2 := dk_seg dksL_law_1 9 rfl rfl
theorem dksL_law_3 : cL_law.data.toList.drop 220 = dktL_law_3 := dk_seg dksL_law_2 187 rfl rfl
theorem dksL_law_4 : cL_law.data.toList.drop 244 = dktL_law_4 := dk_seg dksL_law_3 24 rfl rfl
theorem dksL_law_5 : cL_law.data.toList.drop 268 = dktL_law_5 := dk_seg dksL_law_4 24 rfl rfl
theorem dksL_law_6 : cL_law.data.toList.drop 292 = dktL_law_6 := dk_seg dksL_law_5 24 rfl rfl
theorem dksL_law_7 : cL_law.data.toList.drop 316 = dktL_law_7 := dk_seg dksL_law_6 24 rfl rfl
theorem dksL_law_8 : cL_law.data.toList.drop 340 = dktL_law_8 := dk_seg dksL_law_7 24 rfl rfl
theorem dksL_law_9 : cL_law.data.toList.drop 364 = dktL_law_9 := dk_seg dksL_law_8 24 rfl rfl
theorem dksL_law_10 : cL_law.data.toList.drop 388 = dktL_law_10 := dk_seg dksL_law_9 24 rfl rfl
theorem dksL_law_11 : cL_law.data.toList.drop 410 = dktL_law_11 := dk_seg dksL_law_10 22 rfl rfl
theorem dksL_law_12 : cL_law.data.toList.drop 433 = dktL_law_12 := dk_seg dksL_law_11 23 rfl rfl
theorem dksL_law_13 : cL_law.data.toList.drop 456 = dktL_law_13 := dk_seg dksL_law_12 23 rfl rfl
theorem dksL_law_14 : cL_law.data.toList.drop 479 = dktL_law_14 := dk_seg dksL_law_13 23 rfl rfl
theorem dksL_law_15 : cL_law.data.toList.drop 502 = dktL_law_15 := dk_seg dksL_law_14 23 rfl rfl
theorem dksL_law_16 : cL_law.data.toList.drop 525 = dktL_law_16 := dk_seg dksL_law_15 23 rfl rfl
theorem dksL_law_17 : cL_law.data.toList.drop 549 = dktL_law_17 := dk_seg dksL_law_16 24 rfl rfl
theorem dksL_law_18 : cL_law.data.toList.drop 573 = dktL_law_18 := dk_seg dksL_law_17 24 rfl rfl
theorem dksL_law_19 : cL_law.data.toList.drop 597 = dktL_law_19 := dk_seg dksL_law_18 24 rfl rfl
theorem dksL_law_20 : cL_law.data.toList.drop 621 = dktL_law_20 := dk_seg dksL_law_19 24 rfl rfl
theorem dksL_law_21 : cL_law.data.toList.drop 643 = dktL_law_21 := dk_seg dksL_law_20 22 rfl rfl
theorem dksL_law_22 : cL_law.data.toList.drop 667 = dktL_law_22 := dk_seg dksL_law_21 24 rfl rfl
theorem dksL_law_23 : cL_law.data.toList.drop 690 = dktL_law_23 := dk_seg dksL_law_22 23 rfl rfl
theorem dksL_law_24 : cL_law.data.toList.drop 713 = dktL_law_24 := dk_seg dksL_law_23 23 rfl rfl
theorem dksL_law_25 : cL_law.data.toList.drop 736 = dktL_law_25 := dk_seg dksL_law_24 23 rfl rfl
theorem dksL_law_26 : cL_law.data.toList.drop 760 = dktL_law_26 := dk_seg dksL_law_25 24 rfl rfl
theorem dksL_law_27 : cL_law.data.toList.drop 784 = dktL_law_27 := dk_seg dksL_law_26 24 rfl rfl
theorem dksL_law_28 : cL_law.data.toList.drop 808 = dktL_law_28 := dk_seg dksL_law_27 24 rfl rfl
theorem dksL_law_29 : cL_law.data.toList.drop 832 = dktL_law_29 := dk_seg dksL_law_28 24 rfl rfl
theorem dksL_law_30 : cL_law.data.toList.drop 856 = dktL_law_30 := dk_seg dksL_law_29 24 rfl rfl
theorem dksL_law_31 : cL_law.data.toList.drop 880 = dktL_law_31 := dk_seg dksL_law_30 24 rfl rfl
theorem dksL_law_32 : cL_law.data.toList.drop 904 = dktL_law_32 := dk_seg dksL_law_31 24 rfl rfl
theorem dksL_law_33 : cL_law.data.toList.drop 928 = dktL_law_33 := dk_seg dksL_law_32 24 rfl rfl
theorem dksL_law_34 : cL_law.data.toList.drop 950 = dktL_law_34 := dk_seg dksL_law_33 22 rfl rfl
theorem dksL_law_35 : cL_law.data.toList.drop 974 = dktL_law_35 := dk_seg dksL_law_34 24 rfl rfl
theorem dksL_law_36 : cL_law.data.toList.drop 998 = dktL_law_36 := dk_seg dksL_law_35 24 rfl rfl
theorem dksL_law_37 : cL_law.data.toList.drop 1022 = dktL_law_37 := dk_seg dksL_law_36 24 rfl rfl
theorem dksL_law_38 : cL_law.data.toList.drop 1046 = dktL_law_38 := dk_seg dksL_law_37 24 rfl rfl
theorem dksL_law_39 : cL_law.data.toList.drop 1070 = dktL_law_39 := dk_seg dksL_law_38 24 rfl rfl
theorem dksL_law_40 : cL_law.data.toList.drop 1093 = dktL_law_40 := dk_seg dksL_law_39 23 rfl rfl
theorem dksL_law_41 : cL_law.data.toList.drop 1117 = dktL_law_41 := dk_seg dksL_law_40 24 rfl rfl
theorem dksL_law_42 : cL_law.data.toList.drop 1140 = dktL_law_42 := dk_seg dksL_law_41 23 rfl rfl
theorem dksL_law_43 : cL_law.data.toList.drop 1164 = dktL_law_43 := dk_seg dksL_law_42 24 rfl rfl
theorem dksL_law_44 : cL_law.data.toList.drop 1186 = dktL_law_44 := dk_seg dksL_law_43 22 rfl rfl
theorem dksL_law_45 : cL_law.data.toList.drop 1210 = dktL_law_45 := dk_seg dksL_law_44 24 rfl rfl
theorem dksL_law_46 : cL_law.data.toList.drop 1234 = dktL_law_46 := dk_seg dksL_law_45 24 rfl rfl
theorem dksL_law_47 : cL_law.data.toList.drop 1256 = dktL_law_47 := dk_seg dksL_law_46 22 rfl rfl
theorem dksL_law_48 : cL_law.data.toList.drop 1280 = dktL_law_48 := dk_seg dksL_law_47 24 rfl rfl
theorem dksL_law_49 : cL_law.data.toList.drop 1304 = dktL_law_49 := dk_seg dksL_law_48 24 rfl rfl
theorem dksL_law_50 : cL_law.data.toList.drop 1328 = dktL_law_50 := dk_seg dksL_law_49 24 rfl rfl
theorem dksL_law_51 : cL_law.data.toList.drop 1352 = dktL_law_51 := dk_seg dksL_law_50 24 rfl rfl
theorem dksL_law_52 : cL_law.data.toList.drop 1376 = dktL_law_52 := dk_seg dksL_law_51 24 rfl rfl
theorem dksL_law_53 : cL_law.data.toList.drop 1398 = dktL_law_53 := dk_seg dksL_law_52 22 rfl rfl
theorem dksL_law_54 : cL_law.data.toList.drop 1422 = dktL_law_54 := dk_seg dksL_law_53 24 rfl rfl
theorem dksL_law_55 : cL_law.data.toList.drop 1446 = dktL_law_55 := dk_seg dksL_law_54 24 rfl rfl
theorem dksL_law_56 : cL_law.data.toList.drop 1470 = dktL_law_56 := dk_seg dksL_law_55 24 rfl rfl
theorem dksL_law_57 : cL_law.data.toList.drop 1494 = dktL_law_57 := dk_seg dksL_law_56 24 rfl rfl
theorem dksL_law_58 : cL_law.data.toList.drop 1518 = dktL_law_58 := dk_seg dksL_law_57 24 rfl rfl
theorem dksL_law_59 : cL_law.data.toList.drop 1542 = dktL_law_59 := dk_seg dksL_law_58 24 rfl rfl
theorem dL_law_0 : decode cL_law 0 = .ok (.new 7, 3) := dk_187 0 7 (dk_at dksL_law_0 0 rfl rfl)
theorem dL_law_3 : decode cL_law 3 = .ok (.dup, 1) := dk_89 (dk_at dksL_law_0 3 rfl rfl)
theorem dL_law_4 : decode cL_law 4 = .ok (.invokespecial 9, 3) := dk_183 0 9 (dk_at dksL_law_0 4 rfl rfl)
theorem dL_law_7 : decode cL_law 7 = .ok (.astore_n 1, 1) := dk_76 (dk_at dksL_law_0 7 rfl rfl)
theorem dL_law_8 : decode cL_law 8 = .ok (.new 10, 3) := dk_187 0 10 (dk_at dksL_law_0 8 rfl rfl)
theorem dL_law_11 : decode cL_law 11 = .ok (.dup, 1) := dk_89 (dk_at dksL_law_0 11 rfl rfl)
theorem dL_law_12 : decode cL_law 12 = .ok (.invokespecial 12, 3) := dk_183 0 12 (dk_at dksL_law_0 12 rfl rfl)
theorem dL_law_15 : decode cL_law 15 = .ok (.astore_n 2, 1) := dk_77 (dk_at dksL_law_0 15 rfl rfl)
theorem dL_law_16 : decode cL_law 16 = .ok (.iconst 0, 1) := dk_3 (dk_at dksL_law_0 16 rfl rfl)
theorem dL_law_17 : decode cL_law 17 = .ok (.istore_n 3, 1) := dk_62 (dk_at dksL_law_0 17 rfl rfl)
theorem dL_law_18 : decode cL_law 18 = .ok (.iload_n 3, 1) := dk_29 (dk_at dksL_law_0 18 rfl rfl)
theorem dL_law_19 : decode cL_law 19 = .ok (.aload_n 0, 1) := dk_42 (dk_at dksL_law_0 19 rfl rfl)
theorem dL_law_20 : decode cL_law 20 = .ok (.arraylength, 1) := dk_190 (dk_at dksL_law_0 20 rfl rfl)
theorem dL_law_21 : decode cL_law 21 = .ok (.bipush 6, 2) := dk_16 6 (dk_at dksL_law_0 21 rfl rfl)
theorem dL_law_23 : decode cL_law 23 = .ok (.isub, 1) := dk_100 (dk_at dksL_law_0 23 rfl rfl)
theorem dL_law_24 : decode cL_law 24 = .ok (.if_icmp .gt 1524, 3) := dk_163 5 244 (dk_at dksL_law_1 0 rfl rfl)
theorem dL_law_27 : decode cL_law 27 = .ok (.aload_n 0, 1) := dk_42 (dk_at dksL_law_1 3 rfl rfl)
theorem dL_law_28 : decode cL_law 28 = .ok (.iload_n 3, 1) := dk_29 (dk_at dksL_law_1 4 rfl rfl)
theorem dL_law_29 : decode cL_law 29 = .ok (.iaload, 1) := dk_46 (dk_at dksL_law_1 5 rfl rfl)
theorem dL_law_30 : decode cL_law 30 = .ok (.bipush 63, 2) := dk_16 63 (dk_at dksL_law_1 6 rfl rfl)
theorem dL_law_32 : decode cL_law 32 = .ok (.iand, 1) := dk_126 (dk_at dksL_law_1 8 rfl rfl)
theorem dL_law_33 : decode cL_law 33 = .ok (.tableswitch 1509 0 42 #[187, 240, 273, 306, 349, 372, 385, 408, 431, 454, 477, 500, 533, 566, 599, 632, 665, 688, 711, 744, 787, 810, 833, 866, 889, 922, 955, 978, 991, 1035, 1069, 1102, 1115, 1148, 1161, 1174, 1217, 1240, 1273, 1296, 1339, 1412, 1446], 187) := by decide +kernel
theorem dL_law_220 : decode cL_law 220 = .ok (.aload_n 1, 1) := dk_43 (dk_at dksL_law_3 0 rfl rfl)
theorem dL_law_221 : decode cL_law 221 = .ok (.aload_n 0, 1) := dk_42 (dk_at dksL_law_3 1 rfl rfl)
theorem dL_law_222 : decode cL_law 222 = .ok (.iload_n 3, 1) := dk_29 (dk_at dksL_law_3 2 rfl rfl)
theorem dL_law_223 : decode cL_law 223 = .ok (.iconst 1, 1) := dk_4 (dk_at dksL_law_3 3 rfl rfl)
theorem dL_law_224 : decode cL_law 224 = .ok (.iadd, 1) := dk_96 (dk_at dksL_law_3 4 rfl rfl)
theorem dL_law_225 : decode cL_law 225 = .ok (.iaload, 1) := dk_46 (dk_at dksL_law_3 5 rfl rfl)
theorem dL_law_226 : decode cL_law 226 = .ok (.aload_n 0, 1) := dk_42 (dk_at dksL_law_3 6 rfl rfl)
theorem dL_law_227 : decode cL_law 227 = .ok (.iload_n 3, 1) := dk_29 (dk_at dksL_law_3 7 rfl rfl)
theorem dL_law_228 : decode cL_law 228 = .ok (.iconst 2, 1) := dk_5 (dk_at dksL_law_3 8 rfl rfl)
theorem dL_law_229 : decode cL_law 229 = .ok (.iadd, 1) := dk_96 (dk_at dksL_law_3 9 rfl rfl)
theorem dL_law_230 : decode cL_law 230 = .ok (.iaload, 1) := dk_46 (dk_at dksL_law_3 10 rfl rfl)
theorem dL_law_231 : decode cL_law 231 = .ok (.aload_n 0, 1) := dk_42 (dk_at dksL_law_3 11 rfl rfl)
theorem dL_law_232 : decode cL_law 232 = .ok (.iload_n 3, 1) := dk_29 (dk_at dksL_law_3 12 rfl rfl)
theorem dL_law_233 : decode cL_law 233 = .ok (.iconst 3, 1) := dk_6 (dk_at dksL_law_3 13 rfl rfl)
theorem dL_law_234 : decode cL_law 234 = .ok (.iadd, 1) := dk_96 (dk_at dksL_law_3 14 rfl rfl)
theorem dL_law_235 : decode cL_law 235 = .ok (.iaload, 1) := dk_46 (dk_at dksL_law_3 15 rfl rfl)
theorem dL_law_236 : decode cL_law 236 = .ok (.aload_n 0, 1) := dk_42 (dk_at dksL_law_3 16 rfl rfl)
theorem dL_law_237 : decode cL_law 237 = .ok (.iload_n 3, 1) := dk_29 (dk_at dksL_law_3 17 rfl rfl)
theorem dL_law_238 : decode cL_law 238 = .ok (.iconst 4, 1) := dk_7 (dk_at dksL_law_3 18 rfl rfl)
theorem dL_law_239 : decode cL_law 239 = .ok (.iadd, 1) := dk_96 (dk_at dksL_law_3 19 rfl rfl)
theorem dL_law_240 : decode cL_law 240 = .ok (.iaload, 1) := dk_46 (dk_at dksL_law_3 20 rfl rfl)
theorem dL_law_241 : decode cL_law 241 = .ok (.invokevirtual 13, 3) := dk_182 0 13 (dk_at dksL_law_3 21 rfl rfl)
theorem dL_law_244 : decode cL_law 244 = .ok (.aload_n 2, 1) := dk_44 (dk_at dksL_law_4 0 rfl rfl)
theorem dL_law_245 : decode cL_law 245 = .ok (.aload_n 0, 1) := dk_42 (dk_at dksL_law_4 1 rfl rfl)
theorem dL_law_246 : decode cL_law 246 = .ok (.iload_n 3, 1) := dk_29 (dk_at dksL_law_4 2 rfl rfl)
theorem dL_law_247 : decode cL_law 247 = .ok (.iconst 1, 1) := dk_4 (dk_at dksL_law_4 3 rfl rfl)
theorem dL_law_248 : decode cL_law 248 = .ok (.iadd, 1) := dk_96 (dk_at dksL_law_4 4 rfl rfl)
theorem dL_law_249 : decode cL_law 249 = .ok (.iaload, 1) := dk_46 (dk_at dksL_law_4 5 rfl rfl)
theorem dL_law_250 : decode cL_law 250 = .ok (.aload_n 0, 1) := dk_42 (dk_at dksL_law_4 6 rfl rfl)
theorem dL_law_251 : decode cL_law 251 = .ok (.iload_n 3, 1) := dk_29 (dk_at dksL_law_4 7 rfl rfl)
theorem dL_law_252 : decode cL_law 252 = .ok (.iconst 2, 1) := dk_5 (dk_at dksL_law_4 8 rfl rfl)
theorem dL_law_253 : decode cL_law 253 = .ok (.iadd, 1) := dk_96 (dk_at dksL_law_4 9 rfl rfl)
theorem dL_law_254 : decode cL_law 254 = .ok (.iaload, 1) := dk_46 (dk_at dksL_law_4 10 rfl rfl)
theorem dL_law_255 : decode cL_law 255 = .ok (.aload_n 0, 1) := dk_42 (dk_at dksL_law_4 11 rfl rfl)
theorem dL_law_256 : decode cL_law 256 = .ok (.iload_n 3, 1) := dk_29 (dk_at dksL_law_4 12 rfl rfl)
theorem dL_law_257 : decode cL_law 257 = .ok (.iconst 3, 1) := dk_6 (dk_at dksL_law_4 13 rfl rfl)
theorem dL_law_258 : decode cL_law 258 = .ok (.iadd, 1) := dk_96 (dk_at dksL_law_4 14 rfl rfl)
theorem dL_law_259 : decode cL_law 259 = .ok (.iaload, 1) := dk_46 (dk_at dksL_law_4 15 rfl rfl)
theorem dL_law_260 : decode cL_law 260 = .ok (.aload_n 0, 1) := dk_42 (dk_at dksL_law_4 16 rfl rfl)
theorem dL_law_261 : decode cL_law 261 = .ok (.iload_n 3, 1) := dk_29 (dk_at dksL_law_4 17 rfl rfl)
theorem dL_law_262 : decode cL_law 262 = .ok (.iconst 4, 1) := dk_7 (dk_at dksL_law_4 18 rfl rfl)
theorem dL_law_263 : decode cL_law 263 = .ok (.iadd, 1) := dk_96 (dk_at dksL_law_4 19 rfl rfl)
theorem dL_law_264 : decode cL_law 264 = .ok (.iaload, 1) := dk_46 (dk_at dksL_law_4 20 rfl rfl)
theorem dL_law_265 : decode cL_law 265 = .ok (.invokevirtual 17, 3) := dk_182 0 17 (dk_at dksL_law_4 21 rfl rfl)
theorem dL_law_268 : decode cL_law 268 = .ok (.if_icmp .eq 1274, 3) := dk_159 4 250 (dk_at dksL_law_5 0 rfl rfl)
theorem dL_law_271 : decode cL_law 271 = .ok (.iconst 0, 1) := dk_3 (dk_at dksL_law_5 3 rfl rfl)
theorem dL_law_272 : decode cL_law 272 = .ok (.ireturn, 1) := dk_172 (dk_at dksL_law_5 4 rfl rfl)
theorem dL_law_273 : decode cL_law 273 = .ok (.aload_n 1, 1) := dk_43 (dk_at dksL_law_5 5 rfl rfl)
theorem dL_law_274 : decode cL_law 274 = .ok (.aload_n 0, 1) := dk_42 (dk_at dksL_law_5 6 rfl rfl)
theorem dL_law_275 : decode cL_law 275 = .ok (.iload_n 3, 1) := dk_29 (dk_at dksL_law_5 7 rfl rfl)
theorem dL_law_276 : decode cL_law 276 = .ok (.iconst 1, 1) := dk_4 (dk_at dksL_law_5 8 rfl rfl)
theorem dL_law_277 : decode cL_law 277 = .ok (.iadd, 1) := dk_96 (dk_at dksL_law_5 9 rfl rfl)
theorem dL_law_278 : decode cL_law 278 = .ok (.iaload, 1) := dk_46 (dk_at dksL_law_5 10 rfl rfl)
theorem dL_law_279 : decode cL_law 279 = .ok (.aload_n 0, 1) := dk_42 (dk_at dksL_law_5 11 rfl rfl)
theorem dL_law_280 : decode cL_law 280 = .ok (.iload_n 3, 1) := dk_29 (dk_at dksL_law_5 12 rfl rfl)
theorem dL_law_281 : decode cL_law 281 = .ok (.iconst 2, 1) := dk_5 (dk_at dksL_law_5 13 rfl rfl)
theorem dL_law_282 : decode cL_law 282 = .ok (.iadd, 1) := dk_96 (dk_at dksL_law_5 14 rfl rfl)
theorem dL_law_283 : decode cL_law 283 = .ok (.iaload, 1) := dk_46 (dk_at dksL_law_5 15 rfl rfl)
theorem dL_law_284 : decode cL_law 284 = .ok (.invokevirtual 18, 3) := dk_182 0 18 (dk_at dksL_law_5 16 rfl rfl)
theorem dL_law_287 : decode cL_law 287 = .ok (.aload_n 2, 1) := dk_44 (dk_at dksL_law_5 19 rfl rfl)
theorem dL_law_288 : decode cL_law 288 = .ok (.aload_n 0, 1) := dk_42 (dk_at dksL_law_5 20 rfl rfl)
theorem dL_law_289 : decode cL_law 289 = .ok (.iload_n 3, 1) := dk_29 (dk_at dksL_law_5 21 rfl rfl)
theorem dL_law_290 : decode cL_law 290 = .ok (.iconst 1, 1) := dk_4 (dk_at dksL_law_5 22 rfl rfl)
theorem dL_law_291 : decode cL_law 291 = .ok (.iadd, 1) := dk_96 (dk_at dksL_law_5 23 rfl rfl)
theorem dL_law_292 : decode cL_law 292 = .ok (.iaload, 1) := dk_46 (dk_at dksL_law_6 0 rfl rfl)
theorem dL_law_293 : decode cL_law 293 = .ok (.aload_n 0, 1) := dk_42 (dk_at dksL_law_6 1 rfl rfl)
theorem dL_law_294 : decode cL_law 294 = .ok (.iload_n 3, 1) := dk_29 (dk_at dksL_law_6 2 rfl rfl)
theorem dL_law_295 : decode cL_law 295 = .ok (.iconst 2, 1) := dk_5 (dk_at dksL_law_6 3 rfl rfl)
theorem dL_law_296 : decode cL_law 296 = .ok (.iadd, 1) := dk_96 (dk_at dksL_law_6 4 rfl rfl)
theorem dL_law_297 : decode cL_law 297 = .ok (.iaload, 1) := dk_46 (dk_at dksL_law_6 5 rfl rfl)
theorem dL_law_298 : decode cL_law 298 = .ok (.invokevirtual 22, 3) := dk_182 0 22 (dk_at dksL_law_6 6 rfl rfl)
theorem dL_law_301 : decode cL_law 301 = .ok (.if_icmp .eq 1241, 3) := dk_159 4 217 (dk_at dksL_law_6 9 rfl rfl)
theorem dL_law_304 : decode cL_law 304 = .ok (.iconst 0, 1) := dk_3 (dk_at dksL_law_6 12 rfl rfl)
theorem dL_law_305 : decode cL_law 305 = .ok (.ireturn, 1) := dk_172 (dk_at dksL_law_6 13 rfl rfl)
theorem dL_law_306 : decode cL_law 306 = .ok (.aload_n 1, 1) := dk_43 (dk_at dksL_law_6 14 rfl rfl)
theorem dL_law_307 : decode cL_law 307 = .ok (.aload_n 0, 1) := dk_42 (dk_at dksL_law_6 15 rfl rfl)
theorem dL_law_308 : decode cL_law 308 = .ok (.iload_n 3, 1) := dk_29 (dk_at dksL_law_6 16 rfl rfl)
theorem dL_law_309 : decode cL_law 309 = .ok (.iconst 1, 1) := dk_4 (dk_at dksL_law_6 17 rfl rfl)
theorem dL_law_310 : decode cL_law 310 = .ok (.iadd, 1) := dk_96 (dk_at dksL_law_6 18 rfl rfl)
theorem dL_law_311 : decode cL_law 311 = .ok (.iaload, 1) := dk_46 (dk_at dksL_law_6 19 rfl rfl)
theorem dL_law_312 : decode cL_law 312 = .ok (.aload_n 0, 1) := dk_42 (dk_at dksL_law_6 20 rfl rfl)
theorem dL_law_313 : decode cL_law 313 = .ok (.iload_n 3, 1) := dk_29 (dk_at dksL_law_6 21 rfl rfl)
theorem dL_law_314 : decode cL_law 314 = .ok (.iconst 2, 1) := dk_5 (dk_at dksL_law_6 22 rfl rfl)
theorem dL_law_315 : decode cL_law 315 = .ok (.iadd, 1) := dk_96 (dk_at dksL_law_6 23 rfl rfl)
theorem dL_law_316 : decode cL_law 316 = .ok (.iaload, 1) := dk_46 (dk_at dksL_law_7 0 rfl rfl)
theorem dL_law_317 : decode cL_law 317 = .ok (.invokevirtual 23, 3) := dk_182 0 23 (dk_at dksL_law_7 1 rfl rfl)
theorem dL_law_320 : decode cL_law 320 = .ok (.aload_n 2, 1) := dk_44 (dk_at dksL_law_7 4 rfl rfl)
theorem dL_law_321 : decode cL_law 321 = .ok (.aload_n 0, 1) := dk_42 (dk_at dksL_law_7 5 rfl rfl)
theorem dL_law_322 : decode cL_law 322 = .ok (.iload_n 3, 1) := dk_29 (dk_at dksL_law_7 6 rfl rfl)
theorem dL_law_323 : decode cL_law 323 = .ok (.iconst 1, 1) := dk_4 (dk_at dksL_law_7 7 rfl rfl)
theorem dL_law_324 : decode cL_law 324 = .ok (.iadd, 1) := dk_96 (dk_at dksL_law_7 8 rfl rfl)
theorem dL_law_325 : decode cL_law 325 = .ok (.iaload, 1) := dk_46 (dk_at dksL_law_7 9 rfl rfl)
theorem dL_law_326 : decode cL_law 326 = .ok (.aload_n 0, 1) := dk_42 (dk_at dksL_law_7 10 rfl rfl)
theorem dL_law_327 : decode cL_law 327 = .ok (.iload_n 3, 1) := dk_29 (dk_at dksL_law_7 11 rfl rfl)
theorem dL_law_328 : decode cL_law 328 = .ok (.iconst 2, 1) := dk_5 (dk_at dksL_law_7 12 rfl rfl)
theorem dL_law_329 : decode cL_law 329 = .ok (.iadd, 1) := dk_96 (dk_at dksL_law_7 13 rfl rfl)
theorem dL_law_330 : decode cL_law 330 = .ok (.iaload, 1) := dk_46 (dk_at dksL_law_7 14 rfl rfl)
theorem dL_law_331 : decode cL_law 331 = .ok (.invokevirtual 26, 3) := dk_182 0 26 (dk_at dksL_law_7 15 rfl rfl)
theorem dL_law_334 : decode cL_law 334 = .ok (.if_icmp .eq 1208, 3) := dk_159 4 184 (dk_at dksL_law_7 18 rfl rfl)
theorem dL_law_337 : decode cL_law 337 = .ok (.iconst 0, 1) := dk_3 (dk_at dksL_law_7 21 rfl rfl)
theorem dL_law_338 : decode cL_law 338 = .ok (.ireturn, 1) := dk_172 (dk_at dksL_law_7 22 rfl rfl)
theorem dL_law_339 : decode cL_law 339 = .ok (.aload_n 1, 1) := dk_43 (dk_at dksL_law_7 23 rfl rfl)
theorem dL_law_340 : decode cL_law 340 = .ok (.aload_n 0, 1) := dk_42 (dk_at dksL_law_8 0 rfl rfl)
theorem dL_law_341 : decode cL_law 341 = .ok (.iload_n 3, 1) := dk_29 (dk_at dksL_law_8 1 rfl rfl)
theorem dL_law_342 : decode cL_law 342 = .ok (.iconst 1, 1) := dk_4 (dk_at dksL_law_8 2 rfl rfl)
theorem dL_law_343 : decode cL_law 343 = .ok (.iadd, 1) := dk_96 (dk_at dksL_law_8 3 rfl rfl)
theorem dL_law_344 : decode cL_law 344 = .ok (.iaload, 1) := dk_46 (dk_at dksL_law_8 4 rfl rfl)
theorem dL_law_345 : decode cL_law 345 = .ok (.aload_n 0, 1) := dk_42 (dk_at dksL_law_8 5 rfl rfl)
theorem dL_law_346 : decode cL_law 346 = .ok (.iload_n 3, 1) := dk_29 (dk_at dksL_law_8 6 rfl rfl)
theorem dL_law_347 : decode cL_law 347 = .ok (.iconst 2, 1) := dk_5 (dk_at dksL_law_8 7 rfl rfl)
theorem dL_law_348 : decode cL_law 348 = .ok (.iadd, 1) := dk_96 (dk_at dksL_law_8 8 rfl rfl)
theorem dL_law_349 : decode cL_law 349 = .ok (.iaload, 1) := dk_46 (dk_at dksL_law_8 9 rfl rfl)
theorem dL_law_350 : decode cL_law 350 = .ok (.aload_n 0, 1) := dk_42 (dk_at dksL_law_8 10 rfl rfl)
theorem dL_law_351 : decode cL_law 351 = .ok (.iload_n 3, 1) := dk_29 (dk_at dksL_law_8 11 rfl rfl)
theorem dL_law_352 : decode cL_law 352 = .ok (.iconst 3, 1) := dk_6 (dk_at dksL_law_8 12 rfl rfl)
theorem dL_law_353 : decode cL_law 353 = .ok (.iadd, 1) := dk_96 (dk_at dksL_law_8 13 rfl rfl)
theorem dL_law_354 : decode cL_law 354 = .ok (.iaload, 1) := dk_46 (dk_at dksL_law_8 14 rfl rfl)
theorem dL_law_355 : decode cL_law 355 = .ok (.invokevirtual 27, 3) := dk_182 0 27 (dk_at dksL_law_8 15 rfl rfl)
theorem dL_law_358 : decode cL_law 358 = .ok (.aload_n 2, 1) := dk_44 (dk_at dksL_law_8 18 rfl rfl)
theorem dL_law_359 : decode cL_law 359 = .ok (.aload_n 0, 1) := dk_42 (dk_at dksL_law_8 19 rfl rfl)
theorem dL_law_360 : decode cL_law 360 = .ok (.iload_n 3, 1) := dk_29 (dk_at dksL_law_8 20 rfl rfl)
theorem dL_law_361 : decode cL_law 361 = .ok (.iconst 1, 1) := dk_4 (dk_at dksL_law_8 21 rfl rfl)
theorem dL_law_362 : decode cL_law 362 = .ok (.iadd, 1) := dk_96 (dk_at dksL_law_8 22 rfl rfl)
theorem dL_law_363 : decode cL_law 363 = .ok (.iaload, 1) := dk_46 (dk_at dksL_law_8 23 rfl rfl)
theorem dL_law_364 : decode cL_law 364 = .ok (.aload_n 0, 1) := dk_42 (dk_at dksL_law_9 0 rfl rfl)
theorem dL_law_365 : decode cL_law 365 = .ok (.iload_n 3, 1) := dk_29 (dk_at dksL_law_9 1 rfl rfl)
theorem dL_law_366 : decode cL_law 366 = .ok (.iconst 2, 1) := dk_5 (dk_at dksL_law_9 2 rfl rfl)
theorem dL_law_367 : decode cL_law 367 = .ok (.iadd, 1) := dk_96 (dk_at dksL_law_9 3 rfl rfl)
theorem dL_law_368 : decode cL_law 368 = .ok (.iaload, 1) := dk_46 (dk_at dksL_law_9 4 rfl rfl)
theorem dL_law_369 : decode cL_law 369 = .ok (.aload_n 0, 1) := dk_42 (dk_at dksL_law_9 5 rfl rfl)
theorem dL_law_370 : decode cL_law 370 = .ok (.iload_n 3, 1) := dk_29 (dk_at dksL_law_9 6 rfl rfl)
theorem dL_law_371 : decode cL_law 371 = .ok (.iconst 3, 1) := dk_6 (dk_at dksL_law_9 7 rfl rfl)
theorem dL_law_372 : decode cL_law 372 = .ok (.iadd, 1) := dk_96 (dk_at dksL_law_9 8 rfl rfl)
theorem dL_law_373 : decode cL_law 373 = .ok (.iaload, 1) := dk_46 (dk_at dksL_law_9 9 rfl rfl)
theorem dL_law_374 : decode cL_law 374 = .ok (.invokevirtual 31, 3) := dk_182 0 31 (dk_at dksL_law_9 10 rfl rfl)
theorem dL_law_377 : decode cL_law 377 = .ok (.if_icmp .eq 1165, 3) := dk_159 4 141 (dk_at dksL_law_9 13 rfl rfl)
theorem dL_law_380 : decode cL_law 380 = .ok (.iconst 0, 1) := dk_3 (dk_at dksL_law_9 16 rfl rfl)
theorem dL_law_381 : decode cL_law 381 = .ok (.ireturn, 1) := dk_172 (dk_at dksL_law_9 17 rfl rfl)
theorem dL_law_382 : decode cL_law 382 = .ok (.aload_n 1, 1) := dk_43 (dk_at dksL_law_9 18 rfl rfl)
theorem dL_law_383 : decode cL_law 383 = .ok (.aload_n 0, 1) := dk_42 (dk_at dksL_law_9 19 rfl rfl)
theorem dL_law_384 : decode cL_law 384 = .ok (.iload_n 3, 1) := dk_29 (dk_at dksL_law_9 20 rfl rfl)
theorem dL_law_385 : decode cL_law 385 = .ok (.iconst 1, 1) := dk_4 (dk_at dksL_law_9 21 rfl rfl)
theorem dL_law_386 : decode cL_law 386 = .ok (.iadd, 1) := dk_96 (dk_at dksL_law_9 22 rfl rfl)
theorem dL_law_387 : decode cL_law 387 = .ok (.iaload, 1) := dk_46 (dk_at dksL_law_9 23 rfl rfl)
theorem dL_law_388 : decode cL_law 388 = .ok (.invokevirtual 32, 3) := dk_182 0 32 (dk_at dksL_law_10 0 rfl rfl)
theorem dL_law_391 : decode cL_law 391 = .ok (.aload_n 2, 1) := dk_44 (dk_at dksL_law_10 3 rfl rfl)
theorem dL_law_392 : decode cL_law 392 = .ok (.aload_n 0, 1) := dk_42 (dk_at dksL_law_10 4 rfl rfl)
theorem dL_law_393 : decode cL_law 393 = .ok (.iload_n 3, 1) := dk_29 (dk_at dksL_law_10 5 rfl rfl)
theorem dL_law_394 : decode cL_law 394 = .ok (.iconst 1, 1) := dk_4 (dk_at dksL_law_10 6 rfl rfl)
theorem dL_law_395 : decode cL_law 395 = .ok (.iadd, 1) := dk_96 (dk_at dksL_law_10 7 rfl rfl)
theorem dL_law_396 : decode cL_law 396 = .ok (.iaload, 1) := dk_46 (dk_at dksL_law_10 8 rfl rfl)
theorem dL_law_397 : decode cL_law 397 = .ok (.invokevirtual 36, 3) := dk_182 0 36 (dk_at dksL_law_10 9 rfl rfl)
theorem dL_law_400 : decode cL_law 400 = .ok (.if_icmp .eq 1142, 3) := dk_159 4 118 (dk_at dksL_law_10 12 rfl rfl)
theorem dL_law_403 : decode cL_law 403 = .ok (.iconst 0, 1) := dk_3 (dk_at dksL_law_10 15 rfl rfl)
theorem dL_law_404 : decode cL_law 404 = .ok (.ireturn, 1) := dk_172 (dk_at dksL_law_10 16 rfl rfl)
theorem dL_law_405 : decode cL_law 405 = .ok (.aload_n 1, 1) := dk_43 (dk_at dksL_law_10 17 rfl rfl)
theorem dL_law_406 : decode cL_law 406 = .ok (.invokevirtual 37, 3) := dk_182 0 37 (dk_at dksL_law_10 18 rfl rfl)
theorem dL_law_409 : decode cL_law 409 = .ok (.aload_n 2, 1) := dk_44 (dk_at dksL_law_10 21 rfl rfl)
theorem dL_law_410 : decode cL_law 410 = .ok (.invokevirtual 41, 3) := dk_182 0 41 (dk_at dksL_law_11 0 rfl rfl)
theorem dL_law_413 : decode cL_law 413 = .ok (.if_icmp .eq 1129, 3) := dk_159 4 105 (dk_at dksL_law_11 3 rfl rfl)
theorem dL_law_416 : decode cL_law 416 = .ok (.iconst 0, 1) := dk_3 (dk_at dksL_law_11 6 rfl rfl)
theorem dL_law_417 : decode cL_law 417 = .ok (.ireturn, 1) := dk_172 (dk_at dksL_law_11 7 rfl rfl)
theorem dL_law_418 : decode cL_law 418 = .ok (.aload_n 1, 1) := dk_43 (dk_at dksL_law_11 8 rfl rfl)
theorem dL_law_419 : decode cL_law 419 = .ok (.aload_n 0, 1) := dk_42 (dk_at dksL_law_11 9 rfl rfl)
theorem dL_law_420 : decode cL_law 420 = .ok (.iload_n 3, 1) := dk_29 (dk_at dksL_law_11 10 rfl rfl)
theorem dL_law_421 : decode cL_law 421 = .ok (.iconst 1, 1) := dk_4 (dk_at dksL_law_11 11 rfl rfl)
theorem dL_law_422 : decode cL_law 422 = .ok (.iadd, 1) := dk_96 (dk_at dksL_law_11 12 rfl rfl)
theorem dL_law_423 : decode cL_law 423 = .ok (.iaload, 1) := dk_46 (dk_at dksL_law_11 13 rfl rfl)
theorem dL_law_424 : decode cL_law 424 = .ok (.invokevirtual 42, 3) := dk_182 0 42 (dk_at dksL_law_11 14 rfl rfl)
theorem dL_law_427 : decode cL_law 427 = .ok (.aload_n 2, 1) := dk_44 (dk_at dksL_law_11 17 rfl rfl)
theorem dL_law_428 : decode cL_law 428 = .ok (.aload_n 0, 1) := dk_42 (dk_at dksL_law_11 18 rfl rfl)
theorem dL_law_429 : decode cL_law 429 = .ok (.iload_n 3, 1) := dk_29 (dk_at dksL_law_11 19 rfl rfl)
theorem dL_law_430 : decode cL_law 430 = .ok (.iconst 1, 1) := dk_4 (dk_at dksL_law_11 20 rfl rfl)
theorem dL_law_431 : decode cL_law 431 = .ok (.iadd, 1) := dk_96 (dk_at dksL_law_11 21 rfl rfl)
theorem dL_law_432 : decode cL_law 432 = .ok (.iaload, 1) := dk_46 (dk_at dksL_law_11 22 rfl rfl)
theorem dL_law_433 : decode cL_law 433 = .ok (.invokevirtual 45, 3) := dk_182 0 45 (dk_at dksL_law_12 0 rfl rfl)
theorem dL_law_436 : decode cL_law 436 = .ok (.if_icmp .eq 1106, 3) := dk_159 4 82 (dk_at dksL_law_12 3 rfl rfl)
theorem dL_law_439 : decode cL_law 439 = .ok (.iconst 0, 1) := dk_3 (dk_at dksL_law_12 6 rfl rfl)
theorem dL_law_440 : decode cL_law 440 = .ok (.ireturn, 1) := dk_172 (dk_at dksL_law_12 7 rfl rfl)
theorem dL_law_441 : decode cL_law 441 = .ok (.aload_n 1, 1) := dk_43 (dk_at dksL_law_12 8 rfl rfl)
theorem dL_law_442 : decode cL_law 442 = .ok (.aload_n 0, 1) := dk_42 (dk_at dksL_law_12 9 rfl rfl)
theorem dL_law_443 : decode cL_law 443 = .ok (.iload_n 3, 1) := dk_29 (dk_at dksL_law_12 10 rfl rfl)
theorem dL_law_444 : decode cL_law 444 = .ok (.iconst 1, 1) := dk_4 (dk_at dksL_law_12 11 rfl rfl)
theorem dL_law_445 : decode cL_law 445 = .ok (.iadd, 1) := dk_96 (dk_at dksL_law_12 12 rfl rfl)
theorem dL_law_446 : decode cL_law 446 = .ok (.iaload, 1) := dk_46 (dk_at dksL_law_12 13 rfl rfl)
theorem dL_law_447 : decode cL_law 447 = .ok (.invokevirtual 46, 3) := dk_182 0 46 (dk_at dksL_law_12 14 rfl rfl)
theorem dL_law_450 : decode cL_law 450 = .ok (.aload_n 2, 1) := dk_44 (dk_at dksL_law_12 17 rfl rfl)
theorem dL_law_451 : decode cL_law 451 = .ok (.aload_n 0, 1) := dk_42 (dk_at dksL_law_12 18 rfl rfl)
theorem dL_law_452 : decode cL_law 452 = .ok (.iload_n 3, 1) := dk_29 (dk_at dksL_law_12 19 rfl rfl)
theorem dL_law_453 : decode cL_law 453 = .ok (.iconst 1, 1) := dk_4 (dk_at dksL_law_12 20 rfl rfl)
theorem dL_law_454 : decode cL_law 454 = .ok (.iadd, 1) := dk_96 (dk_at dksL_law_12 21 rfl rfl)
theorem dL_law_455 : decode cL_law 455 = .ok (.iaload, 1) := dk_46 (dk_at dksL_law_12 22 rfl rfl)
theorem dL_law_456 : decode cL_law 456 = .ok (.invokevirtual 49, 3) := dk_182 0 49 (dk_at dksL_law_13 0 rfl rfl)
theorem dL_law_459 : decode cL_law 459 = .ok (.if_icmp .eq 1083, 3) := dk_159 4 59 (dk_at dksL_law_13 3 rfl rfl)
theorem dL_law_462 : decode cL_law 462 = .ok (.iconst 0, 1) := dk_3 (dk_at dksL_law_13 6 rfl rfl)
theorem dL_law_463 : decode cL_law 463 = .ok (.ireturn, 1) := dk_172 (dk_at dksL_law_13 7 rfl rfl)
theorem dL_law_464 : decode cL_law 464 = .ok (.aload_n 1, 1) := dk_43 (dk_at dksL_law_13 8 rfl rfl)
theorem dL_law_465 : decode cL_law 465 = .ok (.aload_n 0, 1) := dk_42 (dk_at dksL_law_13 9 rfl rfl)
theorem dL_law_466 : decode cL_law 466 = .ok (.iload_n 3, 1) := dk_29 (dk_at dksL_law_13 10 rfl rfl)
theorem dL_law_467 : decode cL_law 467 = .ok (.iconst 1, 1) := dk_4 (dk_at dksL_law_13 11 rfl rfl)
theorem dL_law_468 : decode cL_law 468 = .ok (.iadd, 1) := dk_96 (dk_at dksL_law_13 12 rfl rfl)
theorem dL_law_469 : decode cL_law 469 = .ok (.iaload, 1) := dk_46 (dk_at dksL_law_13 13 rfl rfl)
theorem dL_law_470 : decode cL_law 470 = .ok (.invokevirtual 50, 3) := dk_182 0 50 (dk_at dksL_law_13 14 rfl rfl)
theorem dL_law_473 : decode cL_law 473 = .ok (.aload_n 2, 1) := dk_44 (dk_at dksL_law_13 17 rfl rfl)
theorem dL_law_474 : decode cL_law 474 = .ok (.aload_n 0, 1) := dk_42 (dk_at dksL_law_13 18 rfl rfl)
theorem dL_law_475 : decode cL_law 475 = .ok (.iload_n 3, 1) := dk_29 (dk_at dksL_law_13 19 rfl rfl)
theorem dL_law_476 : decode cL_law 476 = .ok (.iconst 1, 1) := dk_4 (dk_at dksL_law_13 20 rfl rfl)
theorem dL_law_477 : decode cL_law 477 = .ok (.iadd, 1) := dk_96 (dk_at dksL_law_13 21 rfl rfl)
theorem dL_law_478 : decode cL_law 478 = .ok (.iaload, 1) := dk_46 (dk_at dksL_law_13 22 rfl rfl)
theorem dL_law_479 : decode cL_law 479 = .ok (.invokevirtual 53, 3) := dk_182 0 53 (dk_at dksL_law_14 0 rfl rfl)
theorem dL_law_482 : decode cL_law 482 = .ok (.if_icmp .eq 1060, 3) := dk_159 4 36 (dk_at dksL_law_14 3 rfl rfl)
theorem dL_law_485 : decode cL_law 485 = .ok (.iconst 0, 1) := dk_3 (dk_at dksL_law_14 6 rfl rfl)
theorem dL_law_486 : decode cL_law 486 = .ok (.ireturn, 1) := dk_172 (dk_at dksL_law_14 7 rfl rfl)
theorem dL_law_487 : decode cL_law 487 = .ok (.aload_n 1, 1) := dk_43 (dk_at dksL_law_14 8 rfl rfl)
theorem dL_law_488 : decode cL_law 488 = .ok (.aload_n 0, 1) := dk_42 (dk_at dksL_law_14 9 rfl rfl)
theorem dL_law_489 : decode cL_law 489 = .ok (.iload_n 3, 1) := dk_29 (dk_at dksL_law_14 10 rfl rfl)
theorem dL_law_490 : decode cL_law 490 = .ok (.iconst 1, 1) := dk_4 (dk_at dksL_law_14 11 rfl rfl)
theorem dL_law_491 : decode cL_law 491 = .ok (.iadd, 1) := dk_96 (dk_at dksL_law_14 12 rfl rfl)
theorem dL_law_492 : decode cL_law 492 = .ok (.iaload, 1) := dk_46 (dk_at dksL_law_14 13 rfl rfl)
theorem dL_law_493 : decode cL_law 493 = .ok (.invokevirtual 54, 3) := dk_182 0 54 (dk_at dksL_law_14 14 rfl rfl)
theorem dL_law_496 : decode cL_law 496 = .ok (.aload_n 2, 1) := dk_44 (dk_at dksL_law_14 17 rfl rfl)
theorem dL_law_497 : decode cL_law 497 = .ok (.aload_n 0, 1) := dk_42 (dk_at dksL_law_14 18 rfl rfl)
theorem dL_law_498 : decode cL_law 498 = .ok (.iload_n 3, 1) := dk_29 (dk_at dksL_law_14 19 rfl rfl)
theorem dL_law_499 : decode cL_law 499 = .ok (.iconst 1, 1) := dk_4 (dk_at dksL_law_14 20 rfl rfl)
theorem dL_law_500 : decode cL_law 500 = .ok (.iadd, 1) := dk_96 (dk_at dksL_law_14 21 rfl rfl)
theorem dL_law_501 : decode cL_law 501 = .ok (.iaload, 1) := dk_46 (dk_at dksL_law_14 22 rfl rfl)
theorem dL_law_502 : decode cL_law 502 = .ok (.invokevirtual 57, 3) := dk_182 0 57 (dk_at dksL_law_15 0 rfl rfl)
theorem dL_law_505 : decode cL_law 505 = .ok (.if_icmp .eq 1037, 3) := dk_159 4 13 (dk_at dksL_law_15 3 rfl rfl)
theorem dL_law_508 : decode cL_law 508 = .ok (.iconst 0, 1) := dk_3 (dk_at dksL_law_15 6 rfl rfl)
theorem dL_law_509 : decode cL_law 509 = .ok (.ireturn, 1) := dk_172 (dk_at dksL_law_15 7 rfl rfl)
theorem dL_law_510 : decode cL_law 510 = .ok (.aload_n 1, 1) := dk_43 (dk_at dksL_law_15 8 rfl rfl)
theorem dL_law_511 : decode cL_law 511 = .ok (.aload_n 0, 1) := dk_42 (dk_at dksL_law_15 9 rfl rfl)
theorem dL_law_512 : decode cL_law 512 = .ok (.iload_n 3, 1) := dk_29 (dk_at dksL_law_15 10 rfl rfl)
theorem dL_law_513 : decode cL_law 513 = .ok (.iconst 1, 1) := dk_4 (dk_at dksL_law_15 11 rfl rfl)
theorem dL_law_514 : decode cL_law 514 = .ok (.iadd, 1) := dk_96 (dk_at dksL_law_15 12 rfl rfl)
theorem dL_law_515 : decode cL_law 515 = .ok (.iaload, 1) := dk_46 (dk_at dksL_law_15 13 rfl rfl)
theorem dL_law_516 : decode cL_law 516 = .ok (.invokevirtual 58, 3) := dk_182 0 58 (dk_at dksL_law_15 14 rfl rfl)
theorem dL_law_519 : decode cL_law 519 = .ok (.aload_n 2, 1) := dk_44 (dk_at dksL_law_15 17 rfl rfl)
theorem dL_law_520 : decode cL_law 520 = .ok (.aload_n 0, 1) := dk_42 (dk_at dksL_law_15 18 rfl rfl)
theorem dL_law_521 : decode cL_law 521 = .ok (.iload_n 3, 1) := dk_29 (dk_at dksL_law_15 19 rfl rfl)
theorem dL_law_522 : decode cL_law 522 = .ok (.iconst 1, 1) := dk_4 (dk_at dksL_law_15 20 rfl rfl)
theorem dL_law_523 : decode cL_law 523 = .ok (.iadd, 1) := dk_96 (dk_at dksL_law_15 21 rfl rfl)
theorem dL_law_524 : decode cL_law 524 = .ok (.iaload, 1) := dk_46 (dk_at dksL_law_15 22 rfl rfl)
theorem dL_law_525 : decode cL_law 525 = .ok (.invokevirtual 61, 3) := dk_182 0 61 (dk_at dksL_law_16 0 rfl rfl)
theorem dL_law_528 : decode cL_law 528 = .ok (.if_icmp .eq 1014, 3) := dk_159 3 246 (dk_at dksL_law_16 3 rfl rfl)
theorem dL_law_531 : decode cL_law 531 = .ok (.iconst 0, 1) := dk_3 (dk_at dksL_law_16 6 rfl rfl)
theorem dL_law_532 : decode cL_law 532 = .ok (.ireturn, 1) := dk_172 (dk_at dksL_law_16 7 rfl rfl)
theorem dL_law_533 : decode cL_law 533 = .ok (.aload_n 1, 1) := dk_43 (dk_at dksL_law_16 8 rfl rfl)
theorem dL_law_534 : decode cL_law 534 = .ok (.aload_n 0, 1) := dk_42 (dk_at dksL_law_16 9 rfl rfl)
theorem dL_law_535 : decode cL_law 535 = .ok (.iload_n 3, 1) := dk_29 (dk_at dksL_law_16 10 rfl rfl)
theorem dL_law_536 : decode cL_law 536 = .ok (.iconst 1, 1) := dk_4 (dk_at dksL_law_16 11 rfl rfl)
theorem dL_law_537 : decode cL_law 537 = .ok (.iadd, 1) := dk_96 (dk_at dksL_law_16 12 rfl rfl)
theorem dL_law_538 : decode cL_law 538 = .ok (.iaload, 1) := dk_46 (dk_at dksL_law_16 13 rfl rfl)
theorem dL_law_539 : decode cL_law 539 = .ok (.aload_n 0, 1) := dk_42 (dk_at dksL_law_16 14 rfl rfl)
theorem dL_law_540 : decode cL_law 540 = .ok (.iload_n 3, 1) := dk_29 (dk_at dksL_law_16 15 rfl rfl)
theorem dL_law_541 : decode cL_law 541 = .ok (.iconst 2, 1) := dk_5 (dk_at dksL_law_16 16 rfl rfl)
theorem dL_law_542 : decode cL_law 542 = .ok (.iadd, 1) := dk_96 (dk_at dksL_law_16 17 rfl rfl)
theorem dL_law_543 : decode cL_law 543 = .ok (.iaload, 1) := dk_46 (dk_at dksL_law_16 18 rfl rfl)
theorem dL_law_544 : decode cL_law 544 = .ok (.invokevirtual 62, 3) := dk_182 0 62 (dk_at dksL_law_16 19 rfl rfl)
theorem dL_law_547 : decode cL_law 547 = .ok (.aload_n 2, 1) := dk_44 (dk_at dksL_law_16 22 rfl rfl)
theorem dL_law_548 : decode cL_law 548 = .ok (.aload_n 0, 1) := dk_42 (dk_at dksL_law_16 23 rfl rfl)
theorem dL_law_549 : decode cL_law 549 = .ok (.iload_n 3, 1) := dk_29 (dk_at dksL_law_17 0 rfl rfl)
theorem dL_law_550 : decode cL_law 550 = .ok (.iconst 1, 1) := dk_4 (dk_at dksL_law_17 1 rfl rfl)
theorem dL_law_551 : decode cL_law 551 = .ok (.iadd, 1) := dk_96 (dk_at dksL_law_17 2 rfl rfl)
theorem dL_law_552 : decode cL_law 552 = .ok (.iaload, 1) := dk_46 (dk_at dksL_law_17 3 rfl rfl)
theorem dL_law_553 : decode cL_law 553 = .ok (.aload_n 0, 1) := dk_42 (dk_at dksL_law_17 4 rfl rfl)
theorem dL_law_554 : decode cL_law 554 = .ok (.iload_n 3, 1) := dk_29 (dk_at dksL_law_17 5 rfl rfl)
theorem dL_law_555 : decode cL_law 555 = .ok (.iconst 2, 1) := dk_5 (dk_at dksL_law_17 6 rfl rfl)
theorem dL_law_556 : decode cL_law 556 = .ok (.iadd, 1) := dk_96 (dk_at dksL_law_17 7 rfl rfl)
theorem dL_law_557 : decode cL_law 557 = .ok (.iaload, 1) := dk_46 (dk_at dksL_law_17 8 rfl rfl)
theorem dL_law_558 : decode cL_law 558 = .ok (.invokevirtual 65, 3) := dk_182 0 65 (dk_at dksL_law_17 9 rfl rfl)
theorem dL_law_561 : decode cL_law 561 = .ok (.if_icmp .eq 981, 3) := dk_159 3 213 (dk_at dksL_law_17 12 rfl rfl)
theorem dL_law_564 : decode cL_law 564 = .ok (.iconst 0, 1) := dk_3 (dk_at dksL_law_17 15 rfl rfl)
theorem dL_law_565 : decode cL_law 565 = .ok (.ireturn, 1) := dk_172 (dk_at dksL_law_17 16 rfl rfl)
theorem dL_law_566 : decode cL_law 566 = .ok (.aload_n 1, 1) := dk_43 (dk_at dksL_law_17 17 rfl rfl)
theorem dL_law_567 : decode cL_law 567 = .ok (.aload_n 0, 1) := dk_42 (dk_at dksL_law_17 18 rfl rfl)
theorem dL_law_568 : decode cL_law 568 = .ok (.iload_n 3, 1) := dk_29 (dk_at dksL_law_17 19 rfl rfl)
theorem dL_law_569 : decode cL_law 569 = .ok (.iconst 1, 1) := dk_4 (dk_at dksL_law_17 20 rfl rfl)
theorem dL_law_570 : decode cL_law 570 = .ok (.iadd, 1) := dk_96 (dk_at dksL_law_17 21 rfl rfl)
theorem dL_law_571 : decode cL_law 571 = .ok (.iaload, 1) := dk_46 (dk_at dksL_law_17 22 rfl rfl)
theorem dL_law_572 : decode cL_law 572 = .ok (.aload_n 0, 1) := dk_42 (dk_at dksL_law_17 23 rfl rfl)
theorem dL_law_573 : decode cL_law 573 = .ok (.iload_n 3, 1) := dk_29 (dk_at dksL_law_18 0 rfl rfl)
theorem dL_law_574 : decode cL_law 574 = .ok (.iconst 2, 1) := dk_5 (dk_at dksL_law_18 1 rfl rfl)
theorem dL_law_575 : decode cL_law 575 = .ok (.iadd, 1) := dk_96 (dk_at dksL_law_18 2 rfl rfl)
theorem dL_law_576 : decode cL_law 576 = .ok (.iaload, 1) := dk_46 (dk_at dksL_law_18 3 rfl rfl)
theorem dL_law_577 : decode cL_law 577 = .ok (.invokevirtual 66, 3) := dk_182 0 66 (dk_at dksL_law_18 4 rfl rfl)
theorem dL_law_580 : decode cL_law 580 = .ok (.aload_n 2, 1) := dk_44 (dk_at dksL_law_18 7 rfl rfl)
theorem dL_law_581 : decode cL_law 581 = .ok (.aload_n 0, 1) := dk_42 (dk_at dksL_law_18 8 rfl rfl)
theorem dL_law_582 : decode cL_law 582 = .ok (.iload_n 3, 1) := dk_29 (dk_at dksL_law_18 9 rfl rfl)
theorem dL_law_583 : decode cL_law 583 = .ok (.iconst 1, 1) := dk_4 (dk_at dksL_law_18 10 rfl rfl)
theorem dL_law_584 : decode cL_law 584 = .ok (.iadd, 1) := dk_96 (dk_at dksL_law_18 11 rfl rfl)
theorem dL_law_585 : decode cL_law 585 = .ok (.iaload, 1) := dk_46 (dk_at dksL_law_18 12 rfl rfl)
theorem dL_law_586 : decode cL_law 586 = .ok (.aload_n 0, 1) := dk_42 (dk_at dksL_law_18 13 rfl rfl)
theorem dL_law_587 : decode cL_law 587 = .ok (.iload_n 3, 1) := dk_29 (dk_at dksL_law_18 14 rfl rfl)
theorem dL_law_588 : decode cL_law 588 = .ok (.iconst 2, 1) := dk_5 (dk_at dksL_law_18 15 rfl rfl)
theorem dL_law_589 : decode cL_law 589 = .ok (.iadd, 1) := dk_96 (dk_at dksL_law_18 16 rfl rfl)
theorem dL_law_590 : decode cL_law 590 = .ok (.iaload, 1) := dk_46 (dk_at dksL_law_18 17 rfl rfl)
theorem dL_law_591 : decode cL_law 591 = .ok (.invokevirtual 69, 3) := dk_182 0 69 (dk_at dksL_law_18 18 rfl rfl)
theorem dL_law_594 : decode cL_law 594 = .ok (.if_icmp .eq 948, 3) := dk_159 3 180 (dk_at dksL_law_18 21 rfl rfl)
theorem dL_law_597 : decode cL_law 597 = .ok (.iconst 0, 1) := dk_3 (dk_at dksL_law_19 0 rfl rfl)
theorem dL_law_598 : decode cL_law 598 = .ok (.ireturn, 1) := dk_172 (dk_at dksL_law_19 1 rfl rfl)
theorem dL_law_599 : decode cL_law 599 = .ok (.aload_n 1, 1) := dk_43 (dk_at dksL_law_19 2 rfl rfl)
theorem dL_law_600 : decode cL_law 600 = .ok (.aload_n 0, 1) := dk_42 (dk_at dksL_law_19 3 rfl rfl)
theorem dL_law_601 : decode cL_law 601 = .ok (.iload_n 3, 1) := dk_29 (dk_at dksL_law_19 4 rfl rfl)
theorem dL_law_602 : decode cL_law 602 = .ok (.iconst 1, 1) := dk_4 (dk_at dksL_law_19 5 rfl rfl)
theorem dL_law_603 : decode cL_law 603 = .ok (.iadd, 1) := dk_96 (dk_at dksL_law_19 6 rfl rfl)
theorem dL_law_604 : decode cL_law 604 = .ok (.iaload, 1) := dk_46 (dk_at dksL_law_19 7 rfl rfl)
theorem dL_law_605 : decode cL_law 605 = .ok (.aload_n 0, 1) := dk_42 (dk_at dksL_law_19 8 rfl rfl)
theorem dL_law_606 : decode cL_law 606 = .ok (.iload_n 3, 1) := dk_29 (dk_at dksL_law_19 9 rfl rfl)
theorem dL_law_607 : decode cL_law 607 = .ok (.iconst 2, 1) := dk_5 (dk_at dksL_law_19 10 rfl rfl)
theorem dL_law_608 : decode cL_law 608 = .ok (.iadd, 1) := dk_96 (dk_at dksL_law_19 11 rfl rfl)
theorem dL_law_609 : decode cL_law 609 = .ok (.iaload, 1) := dk_46 (dk_at dksL_law_19 12 rfl rfl)
theorem dL_law_610 : decode cL_law 610 = .ok (.invokevirtual 70, 3) := dk_182 0 70 (dk_at dksL_law_19 13 rfl rfl)
theorem dL_law_613 : decode cL_law 613 = .ok (.aload_n 2, 1) := dk_44 (dk_at dksL_law_19 16 rfl rfl)
theorem dL_law_614 : decode cL_law 614 = .ok (.aload_n 0, 1) := dk_42 (dk_at dksL_law_19 17 rfl rfl)
theorem dL_law_615 : decode cL_law 615 = .ok (.iload_n 3, 1) := dk_29 (dk_at dksL_law_19 18 rfl rfl)
theorem dL_law_616 : decode cL_law 616 = .ok (.iconst 1, 1) := dk_4 (dk_at dksL_law_19 19 rfl rfl)
theorem dL_law_617 : decode cL_law 617 = .ok (.iadd, 1) := dk_96 (dk_at dksL_law_19 20 rfl rfl)
theorem dL_law_618 : decode cL_law 618 = .ok (.iaload, 1) := dk_46 (dk_at dksL_law_19 21 rfl rfl)
theorem dL_law_619 : decode cL_law 619 = .ok (.aload_n 0, 1) := dk_42 (dk_at dksL_law_19 22 rfl rfl)
theorem dL_law_620 : decode cL_law 620 = .ok (.iload_n 3, 1) := dk_29 (dk_at dksL_law_19 23 rfl rfl)
theorem dL_law_621 : decode cL_law 621 = .ok (.iconst 2, 1) := dk_5 (dk_at dksL_law_20 0 rfl rfl)
theorem dL_law_622 : decode cL_law 622 = .ok (.iadd, 1) := dk_96 (dk_at dksL_law_20 1 rfl rfl)
theorem dL_law_623 : decode cL_law 623 = .ok (.iaload, 1) := dk_46 (dk_at dksL_law_20 2 rfl rfl)
theorem dL_law_624 : decode cL_law 624 = .ok (.invokevirtual 73, 3) := dk_182 0 73 (dk_at dksL_law_20 3 rfl rfl)
theorem dL_law_627 : decode cL_law 627 = .ok (.if_icmp .eq 915, 3) := dk_159 3 147 (dk_at dksL_law_20 6 rfl rfl)
theorem dL_law_630 : decode cL_law 630 = .ok (.iconst 0, 1) := dk_3 (dk_at dksL_law_20 9 rfl rfl)
theorem dL_law_631 : decode cL_law 631 = .ok (.ireturn, 1) := dk_172 (dk_at dksL_law_20 10 rfl rfl)
theorem dL_law_632 : decode cL_law 632 = .ok (.aload_n 1, 1) := dk_43 (dk_at dksL_law_20 11 rfl rfl)
theorem dL_law_633 : decode cL_law 633 = .ok (.aload_n 0, 1) := dk_42 (dk_at dksL_law_20 12 rfl rfl)
theorem dL_law_634 : decode cL_law 634 = .ok (.iload_n 3, 1) := dk_29 (dk_at dksL_law_20 13 rfl rfl)
theorem dL_law_635 : decode cL_law 635 = .ok (.iconst 1, 1) := dk_4 (dk_at dksL_law_20 14 rfl rfl)
theorem dL_law_636 : decode cL_law 636 = .ok (.iadd, 1) := dk_96 (dk_at dksL_law_20 15 rfl rfl)
theorem dL_law_637 : decode cL_law 637 = .ok (.iaload, 1) := dk_46 (dk_at dksL_law_20 16 rfl rfl)
theorem dL_law_638 : decode cL_law 638 = .ok (.aload_n 0, 1) := dk_42 (dk_at dksL_law_20 17 rfl rfl)
theorem dL_law_639 : decode cL_law 639 = .ok (.iload_n 3, 1) := dk_29 (dk_at dksL_law_20 18 rfl rfl)
theorem dL_law_640 : decode cL_law 640 = .ok (.iconst 2, 1) := dk_5 (dk_at dksL_law_20 19 rfl rfl)
theorem dL_law_641 : decode cL_law 641 = .ok (.iadd, 1) := dk_96 (dk_at dksL_law_20 20 rfl rfl)
theorem dL_law_642 : decode cL_law 642 = .ok (.iaload, 1) := dk_46 (dk_at dksL_law_20 21 rfl rfl)
theorem dL_law_643 : decode cL_law 643 = .ok (.invokevirtual 74, 3) := dk_182 0 74 (dk_at dksL_law_21 0 rfl rfl)
theorem dL_law_646 : decode cL_law 646 = .ok (.aload_n 2, 1) := dk_44 (dk_at dksL_law_21 3 rfl rfl)
theorem dL_law_647 : decode cL_law 647 = .ok (.aload_n 0, 1) := dk_42 (dk_at dksL_law_21 4 rfl rfl)
theorem dL_law_648 : decode cL_law 648 = .ok (.iload_n 3, 1) := dk_29 (dk_at dksL_law_21 5 rfl rfl)
theorem dL_law_649 : decode cL_law 649 = .ok (.iconst 1, 1) := dk_4 (dk_at dksL_law_21 6 rfl rfl)
theorem dL_law_650 : decode cL_law 650 = .ok (.iadd, 1) := dk_96 (dk_at dksL_law_21 7 rfl rfl)
theorem dL_law_651 : decode cL_law 651 = .ok (.iaload, 1) := dk_46 (dk_at dksL_law_21 8 rfl rfl)
theorem dL_law_652 : decode cL_law 652 = .ok (.aload_n 0, 1) := dk_42 (dk_at dksL_law_21 9 rfl rfl)
theorem dL_law_653 : decode cL_law 653 = .ok (.iload_n 3, 1) := dk_29 (dk_at dksL_law_21 10 rfl rfl)
theorem dL_law_654 : decode cL_law 654 = .ok (.iconst 2, 1) := dk_5 (dk_at dksL_law_21 11 rfl rfl)
theorem dL_law_655 : decode cL_law 655 = .ok (.iadd, 1) := dk_96 (dk_at dksL_law_21 12 rfl rfl)
theorem dL_law_656 : decode cL_law 656 = .ok (.iaload, 1) := dk_46 (dk_at dksL_law_21 13 rfl rfl)
theorem dL_law_657 : decode cL_law 657 = .ok (.invokevirtual 77, 3) := dk_182 0 77 (dk_at dksL_law_21 14 rfl rfl)
theorem dL_law_660 : decode cL_law 660 = .ok (.if_icmp .eq 882, 3) := dk_159 3 114 (dk_at dksL_law_21 17 rfl rfl)
theorem dL_law_663 : decode cL_law 663 = .ok (.iconst 0, 1) := dk_3 (dk_at dksL_law_21 20 rfl rfl)
theorem dL_law_664 : decode cL_law 664 = .ok (.ireturn, 1) := dk_172 (dk_at dksL_law_21 21 rfl rfl)
theorem dL_law_665 : decode cL_law 665 = .ok (.aload_n 1, 1) := dk_43 (dk_at dksL_law_21 22 rfl rfl)
theorem dL_law_666 : decode cL_law 666 = .ok (.aload_n 0, 1) := dk_42 (dk_at dksL_law_21 23 rfl rfl)
theorem dL_law_667 : decode cL_law 667 = .ok (.iload_n 3, 1) := dk_29 (dk_at dksL_law_22 0 rfl rfl)
theorem dL_law_668 : decode cL_law 668 = .ok (.iconst 1, 1) := dk_4 (dk_at dksL_law_22 1 rfl rfl)
theorem dL_law_669 : decode cL_law 669 = .ok (.iadd, 1) := dk_96 (dk_at dksL_law_22 2 rfl rfl)
theorem dL_law_670 : decode cL_law 670 = .ok (.iaload, 1) := dk_46 (dk_at dksL_law_22 3 rfl rfl)
theorem dL_law_671 : decode cL_law 671 = .ok (.aload_n 0, 1) := dk_42 (dk_at dksL_law_22 4 rfl rfl)
theorem dL_law_672 : decode cL_law 672 = .ok (.iload_n 3, 1) := dk_29 (dk_at dksL_law_22 5 rfl rfl)
theorem dL_law_673 : decode cL_law 673 = .ok (.iconst 2, 1) := dk_5 (dk_at dksL_law_22 6 rfl rfl)
theorem dL_law_674 : decode cL_law 674 = .ok (.iadd, 1) := dk_96 (dk_at dksL_law_22 7 rfl rfl)
theorem dL_law_675 : decode cL_law 675 = .ok (.iaload, 1) := dk_46 (dk_at dksL_law_22 8 rfl rfl)
theorem dL_law_676 : decode cL_law 676 = .ok (.invokevirtual 78, 3) := dk_182 0 78 (dk_at dksL_law_22 9 rfl rfl)
theorem dL_law_679 : decode cL_law 679 = .ok (.aload_n 2, 1) := dk_44 (dk_at dksL_law_22 12 rfl rfl)
theorem dL_law_680 : decode cL_law 680 = .ok (.aload_n 0, 1) := dk_42 (dk_at dksL_law_22 13 rfl rfl)
theorem dL_law_681 : decode cL_law 681 = .ok (.iload_n 3, 1) := dk_29 (dk_at dksL_law_22 14 rfl rfl)
theorem dL_law_682 : decode cL_law 682 = .ok (.iconst 1, 1) := dk_4 (dk_at dksL_law_22 15 rfl rfl)
theorem dL_law_683 : decode cL_law 683 = .ok (.iadd, 1) := dk_96 (dk_at dksL_law_22 16 rfl rfl)
theorem dL_law_684 : decode cL_law 684 = .ok (.iaload, 1) := dk_46 (dk_at dksL_law_22 17 rfl rfl)
theorem dL_law_685 : decode cL_law 685 = .ok (.aload_n 0, 1) := dk_42 (dk_at dksL_law_22 18 rfl rfl)
theorem dL_law_686 : decode cL_law 686 = .ok (.iload_n 3, 1) := dk_29 (dk_at dksL_law_22 19 rfl rfl)
theorem dL_law_687 : decode cL_law 687 = .ok (.iconst 2, 1) := dk_5 (dk_at dksL_law_22 20 rfl rfl)
theorem dL_law_688 : decode cL_law 688 = .ok (.iadd, 1) := dk_96 (dk_at dksL_law_22 21 rfl rfl)
theorem dL_law_689 : decode cL_law 689 = .ok (.iaload, 1) := dk_46 (dk_at dksL_law_22 22 rfl rfl)
theorem dL_law_690 : decode cL_law 690 = .ok (.invokevirtual 81, 3) := dk_182 0 81 (dk_at dksL_law_23 0 rfl rfl)
theorem dL_law_693 : decode cL_law 693 = .ok (.if_icmp .eq 849, 3) := dk_159 3 81 (dk_at dksL_law_23 3 rfl rfl)
theorem dL_law_696 : decode cL_law 696 = .ok (.iconst 0, 1) := dk_3 (dk_at dksL_law_23 6 rfl rfl)
theorem dL_law_697 : decode cL_law 697 = .ok (.ireturn, 1) := dk_172 (dk_at dksL_law_23 7 rfl rfl)
theorem dL_law_698 : decode cL_law 698 = .ok (.aload_n 1, 1) := dk_43 (dk_at dksL_law_23 8 rfl rfl)
theorem dL_law_699 : decode cL_law 699 = .ok (.aload_n 0, 1) := dk_42 (dk_at dksL_law_23 9 rfl rfl)
theorem dL_law_700 : decode cL_law 700 = .ok (.iload_n 3, 1) := dk_29 (dk_at dksL_law_23 10 rfl rfl)
theorem dL_law_701 : decode cL_law 701 = .ok (.iconst 1, 1) := dk_4 (dk_at dksL_law_23 11 rfl rfl)
theorem dL_law_702 : decode cL_law 702 = .ok (.iadd, 1) := dk_96 (dk_at dksL_law_23 12 rfl rfl)
theorem dL_law_703 : decode cL_law 703 = .ok (.iaload, 1) := dk_46 (dk_at dksL_law_23 13 rfl rfl)
theorem dL_law_704 : decode cL_law 704 = .ok (.invokevirtual 82, 3) := dk_182 0 82 (dk_at dksL_law_23 14 rfl rfl)
theorem dL_law_707 : decode cL_law 707 = .ok (.aload_n 2, 1) := dk_44 (dk_at dksL_law_23 17 rfl rfl)
theorem dL_law_708 : decode cL_law 708 = .ok (.aload_n 0, 1) := dk_42 (dk_at dksL_law_23 18 rfl rfl)
theorem dL_law_709 : decode cL_law 709 = .ok (.iload_n 3, 1) := dk_29 (dk_at dksL_law_23 19 rfl rfl)
theorem dL_law_710 : decode cL_law 710 = .ok (.iconst 1, 1) := dk_4 (dk_at dksL_law_23 20 rfl rfl)
theorem dL_law_711 : decode cL_law 711 = .ok (.iadd, 1) := dk_96 (dk_at dksL_law_23 21 rfl rfl)
theorem dL_law_712 : decode cL_law 712 = .ok (.iaload, 1) := dk_46 (dk_at dksL_law_23 22 rfl rfl)
theorem dL_law_713 : decode cL_law 713 = .ok (.invokevirtual 85, 3) := dk_182 0 85 (dk_at dksL_law_24 0 rfl rfl)
theorem dL_law_716 : decode cL_law 716 = .ok (.if_icmp .eq 826, 3) := dk_159 3 58 (dk_at dksL_law_24 3 rfl rfl)
theorem dL_law_719 : decode cL_law 719 = .ok (.iconst 0, 1) := dk_3 (dk_at dksL_law_24 6 rfl rfl)
theorem dL_law_720 : decode cL_law 720 = .ok (.ireturn, 1) := dk_172 (dk_at dksL_law_24 7 rfl rfl)
theorem dL_law_721 : decode cL_law 721 = .ok (.aload_n 1, 1) := dk_43 (dk_at dksL_law_24 8 rfl rfl)
theorem dL_law_722 : decode cL_law 722 = .ok (.aload_n 0, 1) := dk_42 (dk_at dksL_law_24 9 rfl rfl)
theorem dL_law_723 : decode cL_law 723 = .ok (.iload_n 3, 1) := dk_29 (dk_at dksL_law_24 10 rfl rfl)
theorem dL_law_724 : decode cL_law 724 = .ok (.iconst 1, 1) := dk_4 (dk_at dksL_law_24 11 rfl rfl)
theorem dL_law_725 : decode cL_law 725 = .ok (.iadd, 1) := dk_96 (dk_at dksL_law_24 12 rfl rfl)
theorem dL_law_726 : decode cL_law 726 = .ok (.iaload, 1) := dk_46 (dk_at dksL_law_24 13 rfl rfl)
theorem dL_law_727 : decode cL_law 727 = .ok (.invokevirtual 86, 3) := dk_182 0 86 (dk_at dksL_law_24 14 rfl rfl)
theorem dL_law_730 : decode cL_law 730 = .ok (.aload_n 2, 1) := dk_44 (dk_at dksL_law_24 17 rfl rfl)
theorem dL_law_731 : decode cL_law 731 = .ok (.aload_n 0, 1) := dk_42 (dk_at dksL_law_24 18 rfl rfl)
theorem dL_law_732 : decode cL_law 732 = .ok (.iload_n 3, 1) := dk_29 (dk_at dksL_law_24 19 rfl rfl)
theorem dL_law_733 : decode cL_law 733 = .ok (.iconst 1, 1) := dk_4 (dk_at dksL_law_24 20 rfl rfl)
theorem dL_law_734 : decode cL_law 734 = .ok (.iadd, 1) := dk_96 (dk_at dksL_law_24 21 rfl rfl)
theorem dL_law_735 : decode cL_law 735 = .ok (.iaload, 1) := dk_46 (dk_at dksL_law_24 22 rfl rfl)
theorem dL_law_736 : decode cL_law 736 = .ok (.invokevirtual 89, 3) := dk_182 0 89 (dk_at dksL_law_25 0 rfl rfl)
theorem dL_law_739 : decode cL_law 739 = .ok (.if_icmp .eq 803, 3) := dk_159 3 35 (dk_at dksL_law_25 3 rfl rfl)
theorem dL_law_742 : decode cL_law 742 = .ok (.iconst 0, 1) := dk_3 (dk_at dksL_law_25 6 rfl rfl)
theorem dL_law_743 : decode cL_law 743 = .ok (.ireturn, 1) := dk_172 (dk_at dksL_law_25 7 rfl rfl)
theorem dL_law_744 : decode cL_law 744 = .ok (.aload_n 1, 1) := dk_43 (dk_at dksL_law_25 8 rfl rfl)
theorem dL_law_745 : decode cL_law 745 = .ok (.aload_n 0, 1) := dk_42 (dk_at dksL_law_25 9 rfl rfl)
theorem dL_law_746 : decode cL_law 746 = .ok (.iload_n 3, 1) := dk_29 (dk_at dksL_law_25 10 rfl rfl)
theorem dL_law_747 : decode cL_law 747 = .ok (.iconst 1, 1) := dk_4 (dk_at dksL_law_25 11 rfl rfl)
theorem dL_law_748 : decode cL_law 748 = .ok (.iadd, 1) := dk_96 (dk_at dksL_law_25 12 rfl rfl)
theorem dL_law_749 : decode cL_law 749 = .ok (.iaload, 1) := dk_46 (dk_at dksL_law_25 13 rfl rfl)
theorem dL_law_750 : decode cL_law 750 = .ok (.aload_n 0, 1) := dk_42 (dk_at dksL_law_25 14 rfl rfl)
theorem dL_law_751 : decode cL_law 751 = .ok (.iload_n 3, 1) := dk_29 (dk_at dksL_law_25 15 rfl rfl)
theorem dL_law_752 : decode cL_law 752 = .ok (.iconst 2, 1) := dk_5 (dk_at dksL_law_25 16 rfl rfl)
theorem dL_law_753 : decode cL_law 753 = .ok (.iadd, 1) := dk_96 (dk_at dksL_law_25 17 rfl rfl)
theorem dL_law_754 : decode cL_law 754 = .ok (.iaload, 1) := dk_46 (dk_at dksL_law_25 18 rfl rfl)
theorem dL_law_755 : decode cL_law 755 = .ok (.invokevirtual 90, 3) := dk_182 0 90 (dk_at dksL_law_25 19 rfl rfl)
theorem dL_law_758 : decode cL_law 758 = .ok (.aload_n 2, 1) := dk_44 (dk_at dksL_law_25 22 rfl rfl)
theorem dL_law_759 : decode cL_law 759 = .ok (.aload_n 0, 1) := dk_42 (dk_at dksL_law_25 23 rfl rfl)
theorem dL_law_760 : decode cL_law 760 = .ok (.iload_n 3, 1) := dk_29 (dk_at dksL_law_26 0 rfl rfl)
theorem dL_law_761 : decode cL_law 761 = .ok (.iconst 1, 1) := dk_4 (dk_at dksL_law_26 1 rfl rfl)
theorem dL_law_762 : decode cL_law 762 = .ok (.iadd, 1) := dk_96 (dk_at dksL_law_26 2 rfl rfl)
theorem dL_law_763 : decode cL_law 763 = .ok (.iaload, 1) := dk_46 (dk_at dksL_law_26 3 rfl rfl)
theorem dL_law_764 : decode cL_law 764 = .ok (.aload_n 0, 1) := dk_42 (dk_at dksL_law_26 4 rfl rfl)
theorem dL_law_765 : decode cL_law 765 = .ok (.iload_n 3, 1) := dk_29 (dk_at dksL_law_26 5 rfl rfl)
theorem dL_law_766 : decode cL_law 766 = .ok (.iconst 2, 1) := dk_5 (dk_at dksL_law_26 6 rfl rfl)
theorem dL_law_767 : decode cL_law 767 = .ok (.iadd, 1) := dk_96 (dk_at dksL_law_26 7 rfl rfl)
theorem dL_law_768 : decode cL_law 768 = .ok (.iaload, 1) := dk_46 (dk_at dksL_law_26 8 rfl rfl)
theorem dL_law_769 : decode cL_law 769 = .ok (.invokevirtual 93, 3) := dk_182 0 93 (dk_at dksL_law_26 9 rfl rfl)
theorem dL_law_772 : decode cL_law 772 = .ok (.if_icmp .eq 770, 3) := dk_159 3 2 (dk_at dksL_law_26 12 rfl rfl)
theorem dL_law_775 : decode cL_law 775 = .ok (.iconst 0, 1) := dk_3 (dk_at dksL_law_26 15 rfl rfl)
theorem dL_law_776 : decode cL_law 776 = .ok (.ireturn, 1) := dk_172 (dk_at dksL_law_26 16 rfl rfl)
theorem dL_law_777 : decode cL_law 777 = .ok (.aload_n 1, 1) := dk_43 (dk_at dksL_law_26 17 rfl rfl)
theorem dL_law_778 : decode cL_law 778 = .ok (.aload_n 0, 1) := dk_42 (dk_at dksL_law_26 18 rfl rfl)
theorem dL_law_779 : decode cL_law 779 = .ok (.iload_n 3, 1) := dk_29 (dk_at dksL_law_26 19 rfl rfl)
theorem dL_law_780 : decode cL_law 780 = .ok (.iconst 1, 1) := dk_4 (dk_at dksL_law_26 20 rfl rfl)
theorem dL_law_781 : decode cL_law 781 = .ok (.iadd, 1) := dk_96 (dk_at dksL_law_26 21 rfl rfl)
theorem dL_law_782 : decode cL_law 782 = .ok (.iaload, 1) := dk_46 (dk_at dksL_law_26 22 rfl rfl)
theorem dL_law_783 : decode cL_law 783 = .ok (.aload_n 0, 1) := dk_42 (dk_at dksL_law_26 23 rfl rfl)
theorem dL_law_784 : decode cL_law 784 = .ok (.iload_n 3, 1) := dk_29 (dk_at dksL_law_27 0 rfl rfl)
theorem dL_law_785 : decode cL_law 785 = .ok (.iconst 2, 1) := dk_5 (dk_at dksL_law_27 1 rfl rfl)
theorem dL_law_786 : decode cL_law 786 = .ok (.iadd, 1) := dk_96 (dk_at dksL_law_27 2 rfl rfl)
theorem dL_law_787 : decode cL_law 787 = .ok (.iaload, 1) := dk_46 (dk_at dksL_law_27 3 rfl rfl)
theorem dL_law_788 : decode cL_law 788 = .ok (.aload_n 0, 1) := dk_42 (dk_at dksL_law_27 4 rfl rfl)
theorem dL_law_789 : decode cL_law 789 = .ok (.iload_n 3, 1) := dk_29 (dk_at dksL_law_27 5 rfl rfl)
theorem dL_law_790 : decode cL_law 790 = .ok (.iconst 3, 1) := dk_6 (dk_at dksL_law_27 6 rfl rfl)
theorem dL_law_791 : decode cL_law 791 = .ok (.iadd, 1) := dk_96 (dk_at dksL_law_27 7 rfl rfl)
theorem dL_law_792 : decode cL_law 792 = .ok (.iaload, 1) := dk_46 (dk_at dksL_law_27 8 rfl rfl)
theorem dL_law_793 : decode cL_law 793 = .ok (.invokevirtual 94, 3) := dk_182 0 94 (dk_at dksL_law_27 9 rfl rfl)
theorem dL_law_796 : decode cL_law 796 = .ok (.aload_n 2, 1) := dk_44 (dk_at dksL_law_27 12 rfl rfl)
theorem dL_law_797 : decode cL_law 797 = .ok (.aload_n 0, 1) := dk_42 (dk_at dksL_law_27 13 rfl rfl)
theorem dL_law_798 : decode cL_law 798 = .ok (.iload_n 3, 1) := dk_29 (dk_at dksL_law_27 14 rfl rfl)
theorem dL_law_799 : decode cL_law 799 = .ok (.iconst 1, 1) := dk_4 (dk_at dksL_law_27 15 rfl rfl)
theorem dL_law_800 : decode cL_law 800 = .ok (.iadd, 1) := dk_96 (dk_at dksL_law_27 16 rfl rfl)
theorem dL_law_801 : decode cL_law 801 = .ok (.iaload, 1) := dk_46 (dk_at dksL_law_27 17 rfl rfl)
theorem dL_law_802 : decode cL_law 802 = .ok (.aload_n 0, 1) := dk_42 (dk_at dksL_law_27 18 rfl rfl)
theorem dL_law_803 : decode cL_law 803 = .ok (.iload_n 3, 1) := dk_29 (dk_at dksL_law_27 19 rfl rfl)
theorem dL_law_804 : decode cL_law 804 = .ok (.iconst 2, 1) := dk_5 (dk_at dksL_law_27 20 rfl rfl)
theorem dL_law_805 : decode cL_law 805 = .ok (.iadd, 1) := dk_96 (dk_at dksL_law_27 21 rfl rfl)
theorem dL_law_806 : decode cL_law 806 = .ok (.iaload, 1) := dk_46 (dk_at dksL_law_27 22 rfl rfl)
theorem dL_law_807 : decode cL_law 807 = .ok (.aload_n 0, 1) := dk_42 (dk_at dksL_law_27 23 rfl rfl)
theorem dL_law_808 : decode cL_law 808 = .ok (.iload_n 3, 1) := dk_29 (dk_at dksL_law_28 0 rfl rfl)
theorem dL_law_809 : decode cL_law 809 = .ok (.iconst 3, 1) := dk_6 (dk_at dksL_law_28 1 rfl rfl)
theorem dL_law_810 : decode cL_law 810 = .ok (.iadd, 1) := dk_96 (dk_at dksL_law_28 2 rfl rfl)
theorem dL_law_811 : decode cL_law 811 = .ok (.iaload, 1) := dk_46 (dk_at dksL_law_28 3 rfl rfl)
theorem dL_law_812 : decode cL_law 812 = .ok (.invokevirtual 97, 3) := dk_182 0 97 (dk_at dksL_law_28 4 rfl rfl)
theorem dL_law_815 : decode cL_law 815 = .ok (.if_icmp .eq 727, 3) := dk_159 2 215 (dk_at dksL_law_28 7 rfl rfl)
theorem dL_law_818 : decode cL_law 818 = .ok (.iconst 0, 1) := dk_3 (dk_at dksL_law_28 10 rfl rfl)
theorem dL_law_819 : decode cL_law 819 = .ok (.ireturn, 1) := dk_172 (dk_at dksL_law_28 11 rfl rfl)
theorem dL_law_820 : decode cL_law 820 = .ok (.aload_n 1, 1) := dk_43 (dk_at dksL_law_28 12 rfl rfl)
theorem dL_law_821 : decode cL_law 821 = .ok (.aload_n 0, 1) := dk_42 (dk_at dksL_law_28 13 rfl rfl)
theorem dL_law_822 : decode cL_law 822 = .ok (.iload_n 3, 1) := dk_29 (dk_at dksL_law_28 14 rfl rfl)
theorem dL_law_823 : decode cL_law 823 = .ok (.iconst 1, 1) := dk_4 (dk_at dksL_law_28 15 rfl rfl)
theorem dL_law_824 : decode cL_law 824 = .ok (.iadd, 1) := dk_96 (dk_at dksL_law_28 16 rfl rfl)
theorem dL_law_825 : decode cL_law 825 = .ok (.iaload, 1) := dk_46 (dk_at dksL_law_28 17 rfl rfl)
theorem dL_law_826 : decode cL_law 826 = .ok (.invokevirtual 98, 3) := dk_182 0 98 (dk_at dksL_law_28 18 rfl rfl)
theorem dL_law_829 : decode cL_law 829 = .ok (.aload_n 2, 1) := dk_44 (dk_at dksL_law_28 21 rfl rfl)
theorem dL_law_830 : decode cL_law 830 = .ok (.aload_n 0, 1) := dk_42 (dk_at dksL_law_28 22 rfl rfl)
theorem dL_law_831 : decode cL_law 831 = .ok (.iload_n 3, 1) := dk_29 (dk_at dksL_law_28 23 rfl rfl)
theorem dL_law_832 : decode cL_law 832 = .ok (.iconst 1, 1) := dk_4 (dk_at dksL_law_29 0 rfl rfl)
theorem dL_law_833 : decode cL_law 833 = .ok (.iadd, 1) := dk_96 (dk_at dksL_law_29 1 rfl rfl)
theorem dL_law_834 : decode cL_law 834 = .ok (.iaload, 1) := dk_46 (dk_at dksL_law_29 2 rfl rfl)
theorem dL_law_835 : decode cL_law 835 = .ok (.invokevirtual 101, 3) := dk_182 0 101 (dk_at dksL_law_29 3 rfl rfl)
theorem dL_law_838 : decode cL_law 838 = .ok (.if_icmp .eq 704, 3) := dk_159 2 192 (dk_at dksL_law_29 6 rfl rfl)
theorem dL_law_841 : decode cL_law 841 = .ok (.iconst 0, 1) := dk_3 (dk_at dksL_law_29 9 rfl rfl)
theorem dL_law_842 : decode cL_law 842 = .ok (.ireturn, 1) := dk_172 (dk_at dksL_law_29 10 rfl rfl)
theorem dL_law_843 : decode cL_law 843 = .ok (.aload_n 1, 1) := dk_43 (dk_at dksL_law_29 11 rfl rfl)
theorem dL_law_844 : decode cL_law 844 = .ok (.aload_n 0, 1) := dk_42 (dk_at dksL_law_29 12 rfl rfl)
theorem dL_law_845 : decode cL_law 845 = .ok (.iload_n 3, 1) := dk_29 (dk_at dksL_law_29 13 rfl rfl)
theorem dL_law_846 : decode cL_law 846 = .ok (.iconst 1, 1) := dk_4 (dk_at dksL_law_29 14 rfl rfl)
theorem dL_law_847 : decode cL_law 847 = .ok (.iadd, 1) := dk_96 (dk_at dksL_law_29 15 rfl rfl)
theorem dL_law_848 : decode cL_law 848 = .ok (.iaload, 1) := dk_46 (dk_at dksL_law_29 16 rfl rfl)
theorem dL_law_849 : decode cL_law 849 = .ok (.invokevirtual 102, 3) := dk_182 0 102 (dk_at dksL_law_29 17 rfl rfl)
theorem dL_law_852 : decode cL_law 852 = .ok (.aload_n 2, 1) := dk_44 (dk_at dksL_law_29 20 rfl rfl)
theorem dL_law_853 : decode cL_law 853 = .ok (.aload_n 0, 1) := dk_42 (dk_at dksL_law_29 21 rfl rfl)
theorem dL_law_854 : decode cL_law 854 = .ok (.iload_n 3, 1) := dk_29 (dk_at dksL_law_29 22 rfl rfl)
theorem dL_law_855 : decode cL_law 855 = .ok (.iconst 1, 1) := dk_4 (dk_at dksL_law_29 23 rfl rfl)
theorem dL_law_856 : decode cL_law 856 = .ok (.iadd, 1) := dk_96 (dk_at dksL_law_30 0 rfl rfl)
theorem dL_law_857 : decode cL_law 857 = .ok (.iaload, 1) := dk_46 (dk_at dksL_law_30 1 rfl rfl)
theorem dL_law_858 : decode cL_law 858 = .ok (.invokevirtual 105, 3) := dk_182 0 105 (dk_at dksL_law_30 2 rfl rfl)
theorem dL_law_861 : decode cL_law 861 = .ok (.if_icmp .eq 681, 3) := dk_159 2 169 (dk_at dksL_law_30 5 rfl rfl)
theorem dL_law_864 : decode cL_law 864 = .ok (.iconst 0, 1) := dk_3 (dk_at dksL_law_30 8 rfl rfl)
theorem dL_law_865 : decode cL_law 865 = .ok (.ireturn, 1) := dk_172 (dk_at dksL_law_30 9 rfl rfl)
theorem dL_law_866 : decode cL_law 866 = .ok (.aload_n 1, 1) := dk_43 (dk_at dksL_law_30 10 rfl rfl)
theorem dL_law_867 : decode cL_law 867 = .ok (.aload_n 0, 1) := dk_42 (dk_at dksL_law_30 11 rfl rfl)
theorem dL_law_868 : decode cL_law 868 = .ok (.iload_n 3, 1) := dk_29 (dk_at dksL_law_30 12 rfl rfl)
theorem dL_law_869 : decode cL_law 869 = .ok (.iconst 1, 1) := dk_4 (dk_at dksL_law_30 13 rfl rfl)
theorem dL_law_870 : decode cL_law 870 = .ok (.iadd, 1) := dk_96 (dk_at dksL_law_30 14 rfl rfl)
theorem dL_law_871 : decode cL_law 871 = .ok (.iaload, 1) := dk_46 (dk_at dksL_law_30 15 rfl rfl)
theorem dL_law_872 : decode cL_law 872 = .ok (.aload_n 0, 1) := dk_42 (dk_at dksL_law_30 16 rfl rfl)
theorem dL_law_873 : decode cL_law 873 = .ok (.iload_n 3, 1) := dk_29 (dk_at dksL_law_30 17 rfl rfl)
theorem dL_law_874 : decode cL_law 874 = .ok (.iconst 2, 1) := dk_5 (dk_at dksL_law_30 18 rfl rfl)
theorem dL_law_875 : decode cL_law 875 = .ok (.iadd, 1) := dk_96 (dk_at dksL_law_30 19 rfl rfl)
theorem dL_law_876 : decode cL_law 876 = .ok (.iaload, 1) := dk_46 (dk_at dksL_law_30 20 rfl rfl)
theorem dL_law_877 : decode cL_law 877 = .ok (.invokevirtual 106, 3) := dk_182 0 106 (dk_at dksL_law_30 21 rfl rfl)
theorem dL_law_880 : decode cL_law 880 = .ok (.aload_n 2, 1) := dk_44 (dk_at dksL_law_31 0 rfl rfl)
theorem dL_law_881 : decode cL_law 881 = .ok (.aload_n 0, 1) := dk_42 (dk_at dksL_law_31 1 rfl rfl)
theorem dL_law_882 : decode cL_law 882 = .ok (.iload_n 3, 1) := dk_29 (dk_at dksL_law_31 2 rfl rfl)
theorem dL_law_883 : decode cL_law 883 = .ok (.iconst 1, 1) := dk_4 (dk_at dksL_law_31 3 rfl rfl)
theorem dL_law_884 : decode cL_law 884 = .ok (.iadd, 1) := dk_96 (dk_at dksL_law_31 4 rfl rfl)
theorem dL_law_885 : decode cL_law 885 = .ok (.iaload, 1) := dk_46 (dk_at dksL_law_31 5 rfl rfl)
theorem dL_law_886 : decode cL_law 886 = .ok (.aload_n 0, 1) := dk_42 (dk_at dksL_law_31 6 rfl rfl)
theorem dL_law_887 : decode cL_law 887 = .ok (.iload_n 3, 1) := dk_29 (dk_at dksL_law_31 7 rfl rfl)
theorem dL_law_888 : decode cL_law 888 = .ok (.iconst 2, 1) := dk_5 (dk_at dksL_law_31 8 rfl rfl)
theorem dL_law_889 : decode cL_law 889 = .ok (.iadd, 1) := dk_96 (dk_at dksL_law_31 9 rfl rfl)
theorem dL_law_890 : decode cL_law 890 = .ok (.iaload, 1) := dk_46 (dk_at dksL_law_31 10 rfl rfl)
theorem dL_law_891 : decode cL_law 891 = .ok (.invokevirtual 109, 3) := dk_182 0 109 (dk_at dksL_law_31 11 rfl rfl)
theorem dL_law_894 : decode cL_law 894 = .ok (.if_icmp .eq 648, 3) := dk_159 2 136 (dk_at dksL_law_31 14 rfl rfl)
theorem dL_law_897 : decode cL_law 897 = .ok (.iconst 0, 1) := dk_3 (dk_at dksL_law_31 17 rfl rfl)
theorem dL_law_898 : decode cL_law 898 = .ok (.ireturn, 1) := dk_172 (dk_at dksL_law_31 18 rfl rfl)
theorem dL_law_899 : decode cL_law 899 = .ok (.aload_n 1, 1) := dk_43 (dk_at dksL_law_31 19 rfl rfl)
theorem dL_law_900 : decode cL_law 900 = .ok (.aload_n 0, 1) := dk_42 (dk_at dksL_law_31 20 rfl rfl)
theorem dL_law_901 : decode cL_law 901 = .ok (.iload_n 3, 1) := dk_29 (dk_at dksL_law_31 21 rfl rfl)
theorem dL_law_902 : decode cL_law 902 = .ok (.iconst 1, 1) := dk_4 (dk_at dksL_law_31 22 rfl rfl)
theorem dL_law_903 : decode cL_law 903 = .ok (.iadd, 1) := dk_96 (dk_at dksL_law_31 23 rfl rfl)
theorem dL_law_904 : decode cL_law 904 = .ok (.iaload, 1) := dk_46 (dk_at dksL_law_32 0 rfl rfl)
theorem dL_law_905 : decode cL_law 905 = .ok (.invokevirtual 110, 3) := dk_182 0 110 (dk_at dksL_law_32 1 rfl rfl)
theorem dL_law_908 : decode cL_law 908 = .ok (.aload_n 2, 1) := dk_44 (dk_at dksL_law_32 4 rfl rfl)
theorem dL_law_909 : decode cL_law 909 = .ok (.aload_n 0, 1) := dk_42 (dk_at dksL_law_32 5 rfl rfl)
theorem dL_law_910 : decode cL_law 910 = .ok (.iload_n 3, 1) := dk_29 (dk_at dksL_law_32 6 rfl rfl)
theorem dL_law_911 : decode cL_law 911 = .ok (.iconst 1, 1) := dk_4 (dk_at dksL_law_32 7 rfl rfl)
theorem dL_law_912 : decode cL_law 912 = .ok (.iadd, 1) := dk_96 (dk_at dksL_law_32 8 rfl rfl)
theorem dL_law_913 : decode cL_law 913 = .ok (.iaload, 1) := dk_46 (dk_at dksL_law_32 9 rfl rfl)
theorem dL_law_914 : decode cL_law 914 = .ok (.invokevirtual 113, 3) := dk_182 0 113 (dk_at dksL_law_32 10 rfl rfl)
theorem dL_law_917 : decode cL_law 917 = .ok (.if_icmp .eq 625, 3) := dk_159 2 113 (dk_at dksL_law_32 13 rfl rfl)
theorem dL_law_920 : decode cL_law 920 = .ok (.iconst 0, 1) := dk_3 (dk_at dksL_law_32 16 rfl rfl)
theorem dL_law_921 : decode cL_law 921 = .ok (.ireturn, 1) := dk_172 (dk_at dksL_law_32 17 rfl rfl)
theorem dL_law_922 : decode cL_law 922 = .ok (.aload_n 1, 1) := dk_43 (dk_at dksL_law_32 18 rfl rfl)
theorem dL_law_923 : decode cL_law 923 = .ok (.aload_n 0, 1) := dk_42 (dk_at dksL_law_32 19 rfl rfl)
theorem dL_law_924 : decode cL_law 924 = .ok (.iload_n 3, 1) := dk_29 (dk_at dksL_law_32 20 rfl rfl)
theorem dL_law_925 : decode cL_law 925 = .ok (.iconst 1, 1) := dk_4 (dk_at dksL_law_32 21 rfl rfl)
theorem dL_law_926 : decode cL_law 926 = .ok (.iadd, 1) := dk_96 (dk_at dksL_law_32 22 rfl rfl)
theorem dL_law_927 : decode cL_law 927 = .ok (.iaload, 1) := dk_46 (dk_at dksL_law_32 23 rfl rfl)
theorem dL_law_928 : decode cL_law 928 = .ok (.aload_n 0, 1) := dk_42 (dk_at dksL_law_33 0 rfl rfl)
theorem dL_law_929 : decode cL_law 929 = .ok (.iload_n 3, 1) := dk_29 (dk_at dksL_law_33 1 rfl rfl)
theorem dL_law_930 : decode cL_law 930 = .ok (.iconst 2, 1) := dk_5 (dk_at dksL_law_33 2 rfl rfl)
theorem dL_law_931 : decode cL_law 931 = .ok (.iadd, 1) := dk_96 (dk_at dksL_law_33 3 rfl rfl)
theorem dL_law_932 : decode cL_law 932 = .ok (.iaload, 1) := dk_46 (dk_at dksL_law_33 4 rfl rfl)
theorem dL_law_933 : decode cL_law 933 = .ok (.invokevirtual 114, 3) := dk_182 0 114 (dk_at dksL_law_33 5 rfl rfl)
theorem dL_law_936 : decode cL_law 936 = .ok (.aload_n 2, 1) := dk_44 (dk_at dksL_law_33 8 rfl rfl)
theorem dL_law_937 : decode cL_law 937 = .ok (.aload_n 0, 1) := dk_42 (dk_at dksL_law_33 9 rfl rfl)
theorem dL_law_938 : decode cL_law 938 = .ok (.iload_n 3, 1) := dk_29 (dk_at dksL_law_33 10 rfl rfl)
theorem dL_law_939 : decode cL_law 939 = .ok (.iconst 1, 1) := dk_4 (dk_at dksL_law_33 11 rfl rfl)
theorem dL_law_940 : decode cL_law 940 = .ok (.iadd, 1) := dk_96 (dk_at dksL_law_33 12 rfl rfl)
theorem dL_law_941 : decode cL_law 941 = .ok (.iaload, 1) := dk_46 (dk_at dksL_law_33 13 rfl rfl)
theorem dL_law_942 : decode cL_law 942 = .ok (.aload_n 0, 1) := dk_42 (dk_at dksL_law_33 14 rfl rfl)
theorem dL_law_943 : decode cL_law 943 = .ok (.iload_n 3, 1) := dk_29 (dk_at dksL_law_33 15 rfl rfl)
theorem dL_law_944 : decode cL_law 944 = .ok (.iconst 2, 1) := dk_5 (dk_at dksL_law_33 16 rfl rfl)
theorem dL_law_945 : decode cL_law 945 = .ok (.iadd, 1) := dk_96 (dk_at dksL_law_33 17 rfl rfl)
theorem dL_law_946 : decode cL_law 946 = .ok (.iaload, 1) := dk_46 (dk_at dksL_law_33 18 rfl rfl)
theorem dL_law_947 : decode cL_law 947 = .ok (.invokevirtual 117, 3) := dk_182 0 117 (dk_at dksL_law_33 19 rfl rfl)
theorem dL_law_950 : decode cL_law 950 = .ok (.if_icmp .eq 592, 3) := dk_159 2 80 (dk_at dksL_law_34 0 rfl rfl)
theorem dL_law_953 : decode cL_law 953 = .ok (.iconst 0, 1) := dk_3 (dk_at dksL_law_34 3 rfl rfl)
theorem dL_law_954 : decode cL_law 954 = .ok (.ireturn, 1) := dk_172 (dk_at dksL_law_34 4 rfl rfl)
theorem dL_law_955 : decode cL_law 955 = .ok (.aload_n 1, 1) := dk_43 (dk_at dksL_law_34 5 rfl rfl)
theorem dL_law_956 : decode cL_law 956 = .ok (.aload_n 0, 1) := dk_42 (dk_at dksL_law_34 6 rfl rfl)
theorem dL_law_957 : decode cL_law 957 = .ok (.iload_n 3, 1) := dk_29 (dk_at dksL_law_34 7 rfl rfl)
theorem dL_law_958 : decode cL_law 958 = .ok (.iconst 1, 1) := dk_4 (dk_at dksL_law_34 8 rfl rfl)
theorem dL_law_959 : decode cL_law 959 = .ok (.iadd, 1) := dk_96 (dk_at dksL_law_34 9 rfl rfl)
theorem dL_law_960 : decode cL_law 960 = .ok (.iaload, 1) := dk_46 (dk_at dksL_law_34 10 rfl rfl)
theorem dL_law_961 : decode cL_law 961 = .ok (.aload_n 0, 1) := dk_42 (dk_at dksL_law_34 11 rfl rfl)
theorem dL_law_962 : decode cL_law 962 = .ok (.iload_n 3, 1) := dk_29 (dk_at dksL_law_34 12 rfl rfl)
theorem dL_law_963 : decode cL_law 963 = .ok (.iconst 2, 1) := dk_5 (dk_at dksL_law_34 13 rfl rfl)
theorem dL_law_964 : decode cL_law 964 = .ok (.iadd, 1) := dk_96 (dk_at dksL_law_34 14 rfl rfl)
theorem dL_law_965 : decode cL_law 965 = .ok (.iaload, 1) := dk_46 (dk_at dksL_law_34 15 rfl rfl)
theorem dL_law_966 : decode cL_law 966 = .ok (.invokevirtual 118, 3) := dk_182 0 118 (dk_at dksL_law_34 16 rfl rfl)
theorem dL_law_969 : decode cL_law 969 = .ok (.aload_n 2, 1) := dk_44 (dk_at dksL_law_34 19 rfl rfl)
theorem dL_law_970 : decode cL_law 970 = .ok (.aload_n 0, 1) := dk_42 (dk_at dksL_law_34 20 rfl rfl)
theorem dL_law_971 : decode cL_law 971 = .ok (.iload_n 3, 1) := dk_29 (dk_at dksL_law_34 21 rfl rfl)
theorem dL_law_972 : decode cL_law 972 = .ok (.iconst 1, 1) := dk_4 (dk_at dksL_law_34 22 rfl rfl)
theorem dL_law_973 : decode cL_law 973 = .ok (.iadd, 1) := dk_96 (dk_at dksL_law_34 23 rfl rfl)
theorem dL_law_974 : decode cL_law 974 = .ok (.iaload, 1) := dk_46 (dk_at dksL_law_35 0 rfl rfl)
theorem dL_law_975 : decode cL_law 975 = .ok (.aload_n 0, 1) := dk_42 (dk_at dksL_law_35 1 rfl rfl)
theorem dL_law_976 : decode cL_law 976 = .ok (.iload_n 3, 1) := dk_29 (dk_at dksL_law_35 2 rfl rfl)
theorem dL_law_977 : decode cL_law 977 = .ok (.iconst 2, 1) := dk_5 (dk_at dksL_law_35 3 rfl rfl)
theorem dL_law_978 : decode cL_law 978 = .ok (.iadd, 1) := dk_96 (dk_at dksL_law_35 4 rfl rfl)
theorem dL_law_979 : decode cL_law 979 = .ok (.iaload, 1) := dk_46 (dk_at dksL_law_35 5 rfl rfl)
theorem dL_law_980 : decode cL_law 980 = .ok (.invokevirtual 121, 3) := dk_182 0 121 (dk_at dksL_law_35 6 rfl rfl)
theorem dL_law_983 : decode cL_law 983 = .ok (.if_icmp .eq 559, 3) := dk_159 2 47 (dk_at dksL_law_35 9 rfl rfl)
theorem dL_law_986 : decode cL_law 986 = .ok (.iconst 0, 1) := dk_3 (dk_at dksL_law_35 12 rfl rfl)
theorem dL_law_987 : decode cL_law 987 = .ok (.ireturn, 1) := dk_172 (dk_at dksL_law_35 13 rfl rfl)
theorem dL_law_988 : decode cL_law 988 = .ok (.aload_n 1, 1) := dk_43 (dk_at dksL_law_35 14 rfl rfl)
theorem dL_law_989 : decode cL_law 989 = .ok (.aload_n 0, 1) := dk_42 (dk_at dksL_law_35 15 rfl rfl)
theorem dL_law_990 : decode cL_law 990 = .ok (.iload_n 3, 1) := dk_29 (dk_at dksL_law_35 16 rfl rfl)
theorem dL_law_991 : decode cL_law 991 = .ok (.iconst 1, 1) := dk_4 (dk_at dksL_law_35 17 rfl rfl)
theorem dL_law_992 : decode cL_law 992 = .ok (.iadd, 1) := dk_96 (dk_at dksL_law_35 18 rfl rfl)
theorem dL_law_993 : decode cL_law 993 = .ok (.iaload, 1) := dk_46 (dk_at dksL_law_35 19 rfl rfl)
theorem dL_law_994 : decode cL_law 994 = .ok (.invokevirtual 122, 3) := dk_182 0 122 (dk_at dksL_law_35 20 rfl rfl)
theorem dL_law_997 : decode cL_law 997 = .ok (.aload_n 2, 1) := dk_44 (dk_at dksL_law_35 23 rfl rfl)
theorem dL_law_998 : decode cL_law 998 = .ok (.aload_n 0, 1) := dk_42 (dk_at dksL_law_36 0 rfl rfl)
theorem dL_law_999 : decode cL_law 999 = .ok (.iload_n 3, 1) := dk_29 (dk_at dksL_law_36 1 rfl rfl)
theorem dL_law_1000 : decode cL_law 1000 = .ok (.iconst 1, 1) := dk_4 (dk_at dksL_law_36 2 rfl rfl)
theorem dL_law_1001 : decode cL_law 1001 = .ok (.iadd, 1) := dk_96 (dk_at dksL_law_36 3 rfl rfl)
theorem dL_law_1002 : decode cL_law 1002 = .ok (.iaload, 1) := dk_46 (dk_at dksL_law_36 4 rfl rfl)
theorem dL_law_1003 : decode cL_law 1003 = .ok (.invokevirtual 125, 3) := dk_182 0 125 (dk_at dksL_law_36 5 rfl rfl)
theorem dL_law_1006 : decode cL_law 1006 = .ok (.if_icmp .eq 536, 3) := dk_159 2 24 (dk_at dksL_law_36 8 rfl rfl)
theorem dL_law_1009 : decode cL_law 1009 = .ok (.iconst 0, 1) := dk_3 (dk_at dksL_law_36 11 rfl rfl)
theorem dL_law_1010 : decode cL_law 1010 = .ok (.ireturn, 1) := dk_172 (dk_at dksL_law_36 12 rfl rfl)
theorem dL_law_1011 : decode cL_law 1011 = .ok (.aload_n 1, 1) := dk_43 (dk_at dksL_law_36 13 rfl rfl)
theorem dL_law_1012 : decode cL_law 1012 = .ok (.invokevirtual 126, 3) := dk_182 0 126 (dk_at dksL_law_36 14 rfl rfl)
theorem dL_law_1015 : decode cL_law 1015 = .ok (.aload_n 2, 1) := dk_44 (dk_at dksL_law_36 17 rfl rfl)
theorem dL_law_1016 : decode cL_law 1016 = .ok (.invokevirtual 129, 3) := dk_182 0 129 (dk_at dksL_law_36 18 rfl rfl)
theorem dL_law_1019 : decode cL_law 1019 = .ok (.if_icmp .eq 523, 3) := dk_159 2 11 (dk_at dksL_law_36 21 rfl rfl)
theorem dL_law_1022 : decode cL_law 1022 = .ok (.iconst 0, 1) := dk_3 (dk_at dksL_law_37 0 rfl rfl)
theorem dL_law_1023 : decode cL_law 1023 = .ok (.ireturn, 1) := dk_172 (dk_at dksL_law_37 1 rfl rfl)
theorem dL_law_1024 : decode cL_law 1024 = .ok (.aload_n 1, 1) := dk_43 (dk_at dksL_law_37 2 rfl rfl)
theorem dL_law_1025 : decode cL_law 1025 = .ok (.aload_n 0, 1) := dk_42 (dk_at dksL_law_37 3 rfl rfl)
theorem dL_law_1026 : decode cL_law 1026 = .ok (.iload_n 3, 1) := dk_29 (dk_at dksL_law_37 4 rfl rfl)
theorem dL_law_1027 : decode cL_law 1027 = .ok (.iconst 1, 1) := dk_4 (dk_at dksL_law_37 5 rfl rfl)
theorem dL_law_1028 : decode cL_law 1028 = .ok (.iadd, 1) := dk_96 (dk_at dksL_law_37 6 rfl rfl)
theorem dL_law_1029 : decode cL_law 1029 = .ok (.iaload, 1) := dk_46 (dk_at dksL_law_37 7 rfl rfl)
theorem dL_law_1030 : decode cL_law 1030 = .ok (.aload_n 0, 1) := dk_42 (dk_at dksL_law_37 8 rfl rfl)
theorem dL_law_1031 : decode cL_law 1031 = .ok (.iload_n 3, 1) := dk_29 (dk_at dksL_law_37 9 rfl rfl)
theorem dL_law_1032 : decode cL_law 1032 = .ok (.iconst 2, 1) := dk_5 (dk_at dksL_law_37 10 rfl rfl)
theorem dL_law_1033 : decode cL_law 1033 = .ok (.iadd, 1) := dk_96 (dk_at dksL_law_37 11 rfl rfl)
theorem dL_law_1034 : decode cL_law 1034 = .ok (.iaload, 1) := dk_46 (dk_at dksL_law_37 12 rfl rfl)
theorem dL_law_1035 : decode cL_law 1035 = .ok (.aload_n 0, 1) := dk_42 (dk_at dksL_law_37 13 rfl rfl)
theorem dL_law_1036 : decode cL_law 1036 = .ok (.iload_n 3, 1) := dk_29 (dk_at dksL_law_37 14 rfl rfl)
theorem dL_law_1037 : decode cL_law 1037 = .ok (.iconst 3, 1) := dk_6 (dk_at dksL_law_37 15 rfl rfl)
theorem dL_law_1038 : decode cL_law 1038 = .ok (.iadd, 1) := dk_96 (dk_at dksL_law_37 16 rfl rfl)
theorem dL_law_1039 : decode cL_law 1039 = .ok (.iaload, 1) := dk_46 (dk_at dksL_law_37 17 rfl rfl)
theorem dL_law_1040 : decode cL_law 1040 = .ok (.invokevirtual 130, 3) := dk_182 0 130 (dk_at dksL_law_37 18 rfl rfl)
theorem dL_law_1043 : decode cL_law 1043 = .ok (.aload_n 2, 1) := dk_44 (dk_at dksL_law_37 21 rfl rfl)
theorem dL_law_1044 : decode cL_law 1044 = .ok (.aload_n 0, 1) := dk_42 (dk_at dksL_law_37 22 rfl rfl)
theorem dL_law_1045 : decode cL_law 1045 = .ok (.iload_n 3, 1) := dk_29 (dk_at dksL_law_37 23 rfl rfl)
theorem dL_law_1046 : decode cL_law 1046 = .ok (.iconst 1, 1) := dk_4 (dk_at dksL_law_38 0 rfl rfl)
theorem dL_law_1047 : decode cL_law 1047 = .ok (.iadd, 1) := dk_96 (dk_at dksL_law_38 1 rfl rfl)
theorem dL_law_1048 : decode cL_law 1048 = .ok (.iaload, 1) := dk_46 (dk_at dksL_law_38 2 rfl rfl)
theorem dL_law_1049 : decode cL_law 1049 = .ok (.aload_n 0, 1) := dk_42 (dk_at dksL_law_38 3 rfl rfl)
theorem dL_law_1050 : decode cL_law 1050 = .ok (.iload_n 3, 1) := dk_29 (dk_at dksL_law_38 4 rfl rfl)
theorem dL_law_1051 : decode cL_law 1051 = .ok (.iconst 2, 1) := dk_5 (dk_at dksL_law_38 5 rfl rfl)
theorem dL_law_1052 : decode cL_law 1052 = .ok (.iadd, 1) := dk_96 (dk_at dksL_law_38 6 rfl rfl)
theorem dL_law_1053 : decode cL_law 1053 = .ok (.iaload, 1) := dk_46 (dk_at dksL_law_38 7 rfl rfl)
theorem dL_law_1054 : decode cL_law 1054 = .ok (.aload_n 0, 1) := dk_42 (dk_at dksL_law_38 8 rfl rfl)
theorem dL_law_1055 : decode cL_law 1055 = .ok (.iload_n 3, 1) := dk_29 (dk_at dksL_law_38 9 rfl rfl)
theorem dL_law_1056 : decode cL_law 1056 = .ok (.iconst 3, 1) := dk_6 (dk_at dksL_law_38 10 rfl rfl)
theorem dL_law_1057 : decode cL_law 1057 = .ok (.iadd, 1) := dk_96 (dk_at dksL_law_38 11 rfl rfl)
theorem dL_law_1058 : decode cL_law 1058 = .ok (.iaload, 1) := dk_46 (dk_at dksL_law_38 12 rfl rfl)
theorem dL_law_1059 : decode cL_law 1059 = .ok (.invokevirtual 134, 3) := dk_182 0 134 (dk_at dksL_law_38 13 rfl rfl)
theorem dL_law_1062 : decode cL_law 1062 = .ok (.lcmp, 1) := dk_148 (dk_at dksL_law_38 16 rfl rfl)
theorem dL_law_1063 : decode cL_law 1063 = .ok (.ifCond .eq 479, 3) := dk_153 1 223 (dk_at dksL_law_38 17 rfl rfl)
theorem dL_law_1066 : decode cL_law 1066 = .ok (.iconst 0, 1) := dk_3 (dk_at dksL_law_38 20 rfl rfl)
theorem dL_law_1067 : decode cL_law 1067 = .ok (.ireturn, 1) := dk_172 (dk_at dksL_law_38 21 rfl rfl)
theorem dL_law_1068 : decode cL_law 1068 = .ok (.aload_n 1, 1) := dk_43 (dk_at dksL_law_38 22 rfl rfl)
theorem dL_law_1069 : decode cL_law 1069 = .ok (.aload_n 0, 1) := dk_42 (dk_at dksL_law_38 23 rfl rfl)
theorem dL_law_1070 : decode cL_law 1070 = .ok (.iload_n 3, 1) := dk_29 (dk_at dksL_law_39 0 rfl rfl)
theorem dL_law_1071 : decode cL_law 1071 = .ok (.iconst 1, 1) := dk_4 (dk_at dksL_law_39 1 rfl rfl)
theorem dL_law_1072 : decode cL_law 1072 = .ok (.iadd, 1) := dk_96 (dk_at dksL_law_39 2 rfl rfl)
theorem dL_law_1073 : decode cL_law 1073 = .ok (.iaload, 1) := dk_46 (dk_at dksL_law_39 3 rfl rfl)
theorem dL_law_1074 : decode cL_law 1074 = .ok (.aload_n 0, 1) := dk_42 (dk_at dksL_law_39 4 rfl rfl)
theorem dL_law_1075 : decode cL_law 1075 = .ok (.iload_n 3, 1) := dk_29 (dk_at dksL_law_39 5 rfl rfl)
theorem dL_law_1076 : decode cL_law 1076 = .ok (.iconst 2, 1) := dk_5 (dk_at dksL_law_39 6 rfl rfl)
theorem dL_law_1077 : decode cL_law 1077 = .ok (.iadd, 1) := dk_96 (dk_at dksL_law_39 7 rfl rfl)
theorem dL_law_1078 : decode cL_law 1078 = .ok (.iaload, 1) := dk_46 (dk_at dksL_law_39 8 rfl rfl)
theorem dL_law_1079 : decode cL_law 1079 = .ok (.invokevirtual 135, 3) := dk_182 0 135 (dk_at dksL_law_39 9 rfl rfl)
theorem dL_law_1082 : decode cL_law 1082 = .ok (.aload_n 2, 1) := dk_44 (dk_at dksL_law_39 12 rfl rfl)
theorem dL_law_1083 : decode cL_law 1083 = .ok (.aload_n 0, 1) := dk_42 (dk_at dksL_law_39 13 rfl rfl)
theorem dL_law_1084 : decode cL_law 1084 = .ok (.iload_n 3, 1) := dk_29 (dk_at dksL_law_39 14 rfl rfl)
theorem dL_law_1085 : decode cL_law 1085 = .ok (.iconst 1, 1) := dk_4 (dk_at dksL_law_39 15 rfl rfl)
theorem dL_law_1086 : decode cL_law 1086 = .ok (.iadd, 1) := dk_96 (dk_at dksL_law_39 16 rfl rfl)
theorem dL_law_1087 : decode cL_law 1087 = .ok (.iaload, 1) := dk_46 (dk_at dksL_law_39 17 rfl rfl)
theorem dL_law_1088 : decode cL_law 1088 = .ok (.aload_n 0, 1) := dk_42 (dk_at dksL_law_39 18 rfl rfl)
theorem dL_law_1089 : decode cL_law 1089 = .ok (.iload_n 3, 1) := dk_29 (dk_at dksL_law_39 19 rfl rfl)
theorem dL_law_1090 : decode cL_law 1090 = .ok (.iconst 2, 1) := dk_5 (dk_at dksL_law_39 20 rfl rfl)
theorem dL_law_1091 : decode cL_law 1091 = .ok (.iadd, 1) := dk_96 (dk_at dksL_law_39 21 rfl rfl)
theorem dL_law_1092 : decode cL_law 1092 = .ok (.iaload, 1) := dk_46 (dk_at dksL_law_39 22 rfl rfl)
theorem dL_law_1093 : decode cL_law 1093 = .ok (.invokevirtual 139, 3) := dk_182 0 139 (dk_at dksL_law_40 0 rfl rfl)
theorem dL_law_1096 : decode cL_law 1096 = .ok (.lcmp, 1) := dk_148 (dk_at dksL_law_40 3 rfl rfl)
theorem dL_law_1097 : decode cL_law 1097 = .ok (.ifCond .eq 445, 3) := dk_153 1 189 (dk_at dksL_law_40 4 rfl rfl)
theorem dL_law_1100 : decode cL_law 1100 = .ok (.iconst 0, 1) := dk_3 (dk_at dksL_law_40 7 rfl rfl)
theorem dL_law_1101 : decode cL_law 1101 = .ok (.ireturn, 1) := dk_172 (dk_at dksL_law_40 8 rfl rfl)
theorem dL_law_1102 : decode cL_law 1102 = .ok (.aload_n 1, 1) := dk_43 (dk_at dksL_law_40 9 rfl rfl)
theorem dL_law_1103 : decode cL_law 1103 = .ok (.aload_n 0, 1) := dk_42 (dk_at dksL_law_40 10 rfl rfl)
theorem dL_law_1104 : decode cL_law 1104 = .ok (.iload_n 3, 1) := dk_29 (dk_at dksL_law_40 11 rfl rfl)
theorem dL_law_1105 : decode cL_law 1105 = .ok (.iconst 1, 1) := dk_4 (dk_at dksL_law_40 12 rfl rfl)
theorem dL_law_1106 : decode cL_law 1106 = .ok (.iadd, 1) := dk_96 (dk_at dksL_law_40 13 rfl rfl)
theorem dL_law_1107 : decode cL_law 1107 = .ok (.iaload, 1) := dk_46 (dk_at dksL_law_40 14 rfl rfl)
theorem dL_law_1108 : decode cL_law 1108 = .ok (.aload_n 0, 1) := dk_42 (dk_at dksL_law_40 15 rfl rfl)
theorem dL_law_1109 : decode cL_law 1109 = .ok (.iload_n 3, 1) := dk_29 (dk_at dksL_law_40 16 rfl rfl)
theorem dL_law_1110 : decode cL_law 1110 = .ok (.iconst 2, 1) := dk_5 (dk_at dksL_law_40 17 rfl rfl)
theorem dL_law_1111 : decode cL_law 1111 = .ok (.iadd, 1) := dk_96 (dk_at dksL_law_40 18 rfl rfl)
theorem dL_law_1112 : decode cL_law 1112 = .ok (.iaload, 1) := dk_46 (dk_at dksL_law_40 19 rfl rfl)
theorem dL_law_1113 : decode cL_law 1113 = .ok (.invokevirtual 140, 3) := dk_182 0 140 (dk_at dksL_law_40 20 rfl rfl)
theorem dL_law_1116 : decode cL_law 1116 = .ok (.aload_n 2, 1) := dk_44 (dk_at dksL_law_40 23 rfl rfl)
theorem dL_law_1117 : decode cL_law 1117 = .ok (.aload_n 0, 1) := dk_42 (dk_at dksL_law_41 0 rfl rfl)
theorem dL_law_1118 : decode cL_law 1118 = .ok (.iload_n 3, 1) := dk_29 (dk_at dksL_law_41 1 rfl rfl)
theorem dL_law_1119 : decode cL_law 1119 = .ok (.iconst 1, 1) := dk_4 (dk_at dksL_law_41 2 rfl rfl)
theorem dL_law_1120 : decode cL_law 1120 = .ok (.iadd, 1) := dk_96 (dk_at dksL_law_41 3 rfl rfl)
theorem dL_law_1121 : decode cL_law 1121 = .ok (.iaload, 1) := dk_46 (dk_at dksL_law_41 4 rfl rfl)
theorem dL_law_1122 : decode cL_law 1122 = .ok (.aload_n 0, 1) := dk_42 (dk_at dksL_law_41 5 rfl rfl)
theorem dL_law_1123 : decode cL_law 1123 = .ok (.iload_n 3, 1) := dk_29 (dk_at dksL_law_41 6 rfl rfl)
theorem dL_law_1124 : decode cL_law 1124 = .ok (.iconst 2, 1) := dk_5 (dk_at dksL_law_41 7 rfl rfl)
theorem dL_law_1125 : decode cL_law 1125 = .ok (.iadd, 1) := dk_96 (dk_at dksL_law_41 8 rfl rfl)
theorem dL_law_1126 : decode cL_law 1126 = .ok (.iaload, 1) := dk_46 (dk_at dksL_law_41 9 rfl rfl)
theorem dL_law_1127 : decode cL_law 1127 = .ok (.invokevirtual 143, 3) := dk_182 0 143 (dk_at dksL_law_41 10 rfl rfl)
theorem dL_law_1130 : decode cL_law 1130 = .ok (.if_icmp .eq 412, 3) := dk_159 1 156 (dk_at dksL_law_41 13 rfl rfl)
theorem dL_law_1133 : decode cL_law 1133 = .ok (.iconst 0, 1) := dk_3 (dk_at dksL_law_41 16 rfl rfl)
theorem dL_law_1134 : decode cL_law 1134 = .ok (.ireturn, 1) := dk_172 (dk_at dksL_law_41 17 rfl rfl)
theorem dL_law_1135 : decode cL_law 1135 = .ok (.aload_n 1, 1) := dk_43 (dk_at dksL_law_41 18 rfl rfl)
theorem dL_law_1136 : decode cL_law 1136 = .ok (.invokevirtual 144, 3) := dk_182 0 144 (dk_at dksL_law_41 19 rfl rfl)
theorem dL_law_1139 : decode cL_law 1139 = .ok (.aload_n 2, 1) := dk_44 (dk_at dksL_law_41 22 rfl rfl)
theorem dL_law_1140 : decode cL_law 1140 = .ok (.invokevirtual 147, 3) := dk_182 0 147 (dk_at dksL_law_42 0 rfl rfl)
theorem dL_law_1143 : decode cL_law 1143 = .ok (.if_icmp .eq 399, 3) := dk_159 1 143 (dk_at dksL_law_42 3 rfl rfl)
theorem dL_law_1146 : decode cL_law 1146 = .ok (.iconst 0, 1) := dk_3 (dk_at dksL_law_42 6 rfl rfl)
theorem dL_law_1147 : decode cL_law 1147 = .ok (.ireturn, 1) := dk_172 (dk_at dksL_law_42 7 rfl rfl)
theorem dL_law_1148 : decode cL_law 1148 = .ok (.aload_n 1, 1) := dk_43 (dk_at dksL_law_42 8 rfl rfl)
theorem dL_law_1149 : decode cL_law 1149 = .ok (.aload_n 0, 1) := dk_42 (dk_at dksL_law_42 9 rfl rfl)
theorem dL_law_1150 : decode cL_law 1150 = .ok (.iload_n 3, 1) := dk_29 (dk_at dksL_law_42 10 rfl rfl)
theorem dL_law_1151 : decode cL_law 1151 = .ok (.iconst 1, 1) := dk_4 (dk_at dksL_law_42 11 rfl rfl)
theorem dL_law_1152 : decode cL_law 1152 = .ok (.iadd, 1) := dk_96 (dk_at dksL_law_42 12 rfl rfl)
theorem dL_law_1153 : decode cL_law 1153 = .ok (.iaload, 1) := dk_46 (dk_at dksL_law_42 13 rfl rfl)
theorem dL_law_1154 : decode cL_law 1154 = .ok (.aload_n 0, 1) := dk_42 (dk_at dksL_law_42 14 rfl rfl)
theorem dL_law_1155 : decode cL_law 1155 = .ok (.iload_n 3, 1) := dk_29 (dk_at dksL_law_42 15 rfl rfl)
theorem dL_law_1156 : decode cL_law 1156 = .ok (.iconst 2, 1) := dk_5 (dk_at dksL_law_42 16 rfl rfl)
theorem dL_law_1157 : decode cL_law 1157 = .ok (.iadd, 1) := dk_96 (dk_at dksL_law_42 17 rfl rfl)
theorem dL_law_1158 : decode cL_law 1158 = .ok (.iaload, 1) := dk_46 (dk_at dksL_law_42 18 rfl rfl)
theorem dL_law_1159 : decode cL_law 1159 = .ok (.invokevirtual 148, 3) := dk_182 0 148 (dk_at dksL_law_42 19 rfl rfl)
theorem dL_law_1162 : decode cL_law 1162 = .ok (.aload_n 2, 1) := dk_44 (dk_at dksL_law_42 22 rfl rfl)
theorem dL_law_1163 : decode cL_law 1163 = .ok (.aload_n 0, 1) := dk_42 (dk_at dksL_law_42 23 rfl rfl)
theorem dL_law_1164 : decode cL_law 1164 = .ok (.iload_n 3, 1) := dk_29 (dk_at dksL_law_43 0 rfl rfl)
theorem dL_law_1165 : decode cL_law 1165 = .ok (.iconst 1, 1) := dk_4 (dk_at dksL_law_43 1 rfl rfl)
theorem dL_law_1166 : decode cL_law 1166 = .ok (.iadd, 1) := dk_96 (dk_at dksL_law_43 2 rfl rfl)
theorem dL_law_1167 : decode cL_law 1167 = .ok (.iaload, 1) := dk_46 (dk_at dksL_law_43 3 rfl rfl)
theorem dL_law_1168 : decode cL_law 1168 = .ok (.aload_n 0, 1) := dk_42 (dk_at dksL_law_43 4 rfl rfl)
theorem dL_law_1169 : decode cL_law 1169 = .ok (.iload_n 3, 1) := dk_29 (dk_at dksL_law_43 5 rfl rfl)
theorem dL_law_1170 : decode cL_law 1170 = .ok (.iconst 2, 1) := dk_5 (dk_at dksL_law_43 6 rfl rfl)
theorem dL_law_1171 : decode cL_law 1171 = .ok (.iadd, 1) := dk_96 (dk_at dksL_law_43 7 rfl rfl)
theorem dL_law_1172 : decode cL_law 1172 = .ok (.iaload, 1) := dk_46 (dk_at dksL_law_43 8 rfl rfl)
theorem dL_law_1173 : decode cL_law 1173 = .ok (.invokevirtual 151, 3) := dk_182 0 151 (dk_at dksL_law_43 9 rfl rfl)
theorem dL_law_1176 : decode cL_law 1176 = .ok (.if_icmp .eq 366, 3) := dk_159 1 110 (dk_at dksL_law_43 12 rfl rfl)
theorem dL_law_1179 : decode cL_law 1179 = .ok (.iconst 0, 1) := dk_3 (dk_at dksL_law_43 15 rfl rfl)
theorem dL_law_1180 : decode cL_law 1180 = .ok (.ireturn, 1) := dk_172 (dk_at dksL_law_43 16 rfl rfl)
theorem dL_law_1181 : decode cL_law 1181 = .ok (.aload_n 1, 1) := dk_43 (dk_at dksL_law_43 17 rfl rfl)
theorem dL_law_1182 : decode cL_law 1182 = .ok (.invokevirtual 152, 3) := dk_182 0 152 (dk_at dksL_law_43 18 rfl rfl)
theorem dL_law_1185 : decode cL_law 1185 = .ok (.aload_n 2, 1) := dk_44 (dk_at dksL_law_43 21 rfl rfl)
theorem dL_law_1186 : decode cL_law 1186 = .ok (.invokevirtual 155, 3) := dk_182 0 155 (dk_at dksL_law_44 0 rfl rfl)
theorem dL_law_1189 : decode cL_law 1189 = .ok (.if_icmp .eq 353, 3) := dk_159 1 97 (dk_at dksL_law_44 3 rfl rfl)
theorem dL_law_1192 : decode cL_law 1192 = .ok (.iconst 0, 1) := dk_3 (dk_at dksL_law_44 6 rfl rfl)
theorem dL_law_1193 : decode cL_law 1193 = .ok (.ireturn, 1) := dk_172 (dk_at dksL_law_44 7 rfl rfl)
theorem dL_law_1194 : decode cL_law 1194 = .ok (.aload_n 1, 1) := dk_43 (dk_at dksL_law_44 8 rfl rfl)
theorem dL_law_1195 : decode cL_law 1195 = .ok (.invokevirtual 156, 3) := dk_182 0 156 (dk_at dksL_law_44 9 rfl rfl)
theorem dL_law_1198 : decode cL_law 1198 = .ok (.aload_n 2, 1) := dk_44 (dk_at dksL_law_44 12 rfl rfl)
theorem dL_law_1199 : decode cL_law 1199 = .ok (.invokevirtual 159, 3) := dk_182 0 159 (dk_at dksL_law_44 13 rfl rfl)
theorem dL_law_1202 : decode cL_law 1202 = .ok (.if_icmp .eq 340, 3) := dk_159 1 84 (dk_at dksL_law_44 16 rfl rfl)
theorem dL_law_1205 : decode cL_law 1205 = .ok (.iconst 0, 1) := dk_3 (dk_at dksL_law_44 19 rfl rfl)
theorem dL_law_1206 : decode cL_law 1206 = .ok (.ireturn, 1) := dk_172 (dk_at dksL_law_44 20 rfl rfl)
theorem dL_law_1207 : decode cL_law 1207 = .ok (.aload_n 1, 1) := dk_43 (dk_at dksL_law_44 21 rfl rfl)
theorem dL_law_1208 : decode cL_law 1208 = .ok (.aload_n 0, 1) := dk_42 (dk_at dksL_law_44 22 rfl rfl)
theorem dL_law_1209 : decode cL_law 1209 = .ok (.iload_n 3, 1) := dk_29 (dk_at dksL_law_44 23 rfl rfl)
theorem dL_law_1210 : decode cL_law 1210 = .ok (.iconst 1, 1) := dk_4 (dk_at dksL_law_45 0 rfl rfl)
theorem dL_law_1211 : decode cL_law 1211 = .ok (.iadd, 1) := dk_96 (dk_at dksL_law_45 1 rfl rfl)
theorem dL_law_1212 : decode cL_law 1212 = .ok (.iaload, 1) := dk_46 (dk_at dksL_law_45 2 rfl rfl)
theorem dL_law_1213 : decode cL_law 1213 = .ok (.aload_n 0, 1) := dk_42 (dk_at dksL_law_45 3 rfl rfl)
theorem dL_law_1214 : decode cL_law 1214 = .ok (.iload_n 3, 1) := dk_29 (dk_at dksL_law_45 4 rfl rfl)
theorem dL_law_1215 : decode cL_law 1215 = .ok (.iconst 2, 1) := dk_5 (dk_at dksL_law_45 5 rfl rfl)
theorem dL_law_1216 : decode cL_law 1216 = .ok (.iadd, 1) := dk_96 (dk_at dksL_law_45 6 rfl rfl)
theorem dL_law_1217 : decode cL_law 1217 = .ok (.iaload, 1) := dk_46 (dk_at dksL_law_45 7 rfl rfl)
theorem dL_law_1218 : decode cL_law 1218 = .ok (.aload_n 0, 1) := dk_42 (dk_at dksL_law_45 8 rfl rfl)
theorem dL_law_1219 : decode cL_law 1219 = .ok (.iload_n 3, 1) := dk_29 (dk_at dksL_law_45 9 rfl rfl)
theorem dL_law_1220 : decode cL_law 1220 = .ok (.iconst 3, 1) := dk_6 (dk_at dksL_law_45 10 rfl rfl)
theorem dL_law_1221 : decode cL_law 1221 = .ok (.iadd, 1) := dk_96 (dk_at dksL_law_45 11 rfl rfl)
theorem dL_law_1222 : decode cL_law 1222 = .ok (.iaload, 1) := dk_46 (dk_at dksL_law_45 12 rfl rfl)
theorem dL_law_1223 : decode cL_law 1223 = .ok (.invokevirtual 160, 3) := dk_182 0 160 (dk_at dksL_law_45 13 rfl rfl)
theorem dL_law_1226 : decode cL_law 1226 = .ok (.aload_n 2, 1) := dk_44 (dk_at dksL_law_45 16 rfl rfl)
theorem dL_law_1227 : decode cL_law 1227 = .ok (.aload_n 0, 1) := dk_42 (dk_at dksL_law_45 17 rfl rfl)
theorem dL_law_1228 : decode cL_law 1228 = .ok (.iload_n 3, 1) := dk_29 (dk_at dksL_law_45 18 rfl rfl)
theorem dL_law_1229 : decode cL_law 1229 = .ok (.iconst 1, 1) := dk_4 (dk_at dksL_law_45 19 rfl rfl)
theorem dL_law_1230 : decode cL_law 1230 = .ok (.iadd, 1) := dk_96 (dk_at dksL_law_45 20 rfl rfl)
theorem dL_law_1231 : decode cL_law 1231 = .ok (.iaload, 1) := dk_46 (dk_at dksL_law_45 21 rfl rfl)
theorem dL_law_1232 : decode cL_law 1232 = .ok (.aload_n 0, 1) := dk_42 (dk_at dksL_law_45 22 rfl rfl)
theorem dL_law_1233 : decode cL_law 1233 = .ok (.iload_n 3, 1) := dk_29 (dk_at dksL_law_45 23 rfl rfl)
theorem dL_law_1234 : decode cL_law 1234 = .ok (.iconst 2, 1) := dk_5 (dk_at dksL_law_46 0 rfl rfl)
theorem dL_law_1235 : decode cL_law 1235 = .ok (.iadd, 1) := dk_96 (dk_at dksL_law_46 1 rfl rfl)
theorem dL_law_1236 : decode cL_law 1236 = .ok (.iaload, 1) := dk_46 (dk_at dksL_law_46 2 rfl rfl)
theorem dL_law_1237 : decode cL_law 1237 = .ok (.aload_n 0, 1) := dk_42 (dk_at dksL_law_46 3 rfl rfl)
theorem dL_law_1238 : decode cL_law 1238 = .ok (.iload_n 3, 1) := dk_29 (dk_at dksL_law_46 4 rfl rfl)
theorem dL_law_1239 : decode cL_law 1239 = .ok (.iconst 3, 1) := dk_6 (dk_at dksL_law_46 5 rfl rfl)
theorem dL_law_1240 : decode cL_law 1240 = .ok (.iadd, 1) := dk_96 (dk_at dksL_law_46 6 rfl rfl)
theorem dL_law_1241 : decode cL_law 1241 = .ok (.iaload, 1) := dk_46 (dk_at dksL_law_46 7 rfl rfl)
theorem dL_law_1242 : decode cL_law 1242 = .ok (.invokevirtual 163, 3) := dk_182 0 163 (dk_at dksL_law_46 8 rfl rfl)
theorem dL_law_1245 : decode cL_law 1245 = .ok (.if_icmp .eq 297, 3) := dk_159 1 41 (dk_at dksL_law_46 11 rfl rfl)
theorem dL_law_1248 : decode cL_law 1248 = .ok (.iconst 0, 1) := dk_3 (dk_at dksL_law_46 14 rfl rfl)
theorem dL_law_1249 : decode cL_law 1249 = .ok (.ireturn, 1) := dk_172 (dk_at dksL_law_46 15 rfl rfl)
theorem dL_law_1250 : decode cL_law 1250 = .ok (.aload_n 1, 1) := dk_43 (dk_at dksL_law_46 16 rfl rfl)
theorem dL_law_1251 : decode cL_law 1251 = .ok (.aload_n 0, 1) := dk_42 (dk_at dksL_law_46 17 rfl rfl)
theorem dL_law_1252 : decode cL_law 1252 = .ok (.iload_n 3, 1) := dk_29 (dk_at dksL_law_46 18 rfl rfl)
theorem dL_law_1253 : decode cL_law 1253 = .ok (.iconst 1, 1) := dk_4 (dk_at dksL_law_46 19 rfl rfl)
theorem dL_law_1254 : decode cL_law 1254 = .ok (.iadd, 1) := dk_96 (dk_at dksL_law_46 20 rfl rfl)
theorem dL_law_1255 : decode cL_law 1255 = .ok (.iaload, 1) := dk_46 (dk_at dksL_law_46 21 rfl rfl)
theorem dL_law_1256 : decode cL_law 1256 = .ok (.invokevirtual 164, 3) := dk_182 0 164 (dk_at dksL_law_47 0 rfl rfl)
theorem dL_law_1259 : decode cL_law 1259 = .ok (.aload_n 2, 1) := dk_44 (dk_at dksL_law_47 3 rfl rfl)
theorem dL_law_1260 : decode cL_law 1260 = .ok (.aload_n 0, 1) := dk_42 (dk_at dksL_law_47 4 rfl rfl)
theorem dL_law_1261 : decode cL_law 1261 = .ok (.iload_n 3, 1) := dk_29 (dk_at dksL_law_47 5 rfl rfl)
theorem dL_law_1262 : decode cL_law 1262 = .ok (.iconst 1, 1) := dk_4 (dk_at dksL_law_47 6 rfl rfl)
theorem dL_law_1263 : decode cL_law 1263 = .ok (.iadd, 1) := dk_96 (dk_at dksL_law_47 7 rfl rfl)
theorem dL_law_1264 : decode cL_law 1264 = .ok (.iaload, 1) := dk_46 (dk_at dksL_law_47 8 rfl rfl)
theorem dL_law_1265 : decode cL_law 1265 = .ok (.invokevirtual 167, 3) := dk_182 0 167 (dk_at dksL_law_47 9 rfl rfl)
theorem dL_law_1268 : decode cL_law 1268 = .ok (.if_icmp .eq 274, 3) := dk_159 1 18 (dk_at dksL_law_47 12 rfl rfl)
theorem dL_law_1271 : decode cL_law 1271 = .ok (.iconst 0, 1) := dk_3 (dk_at dksL_law_47 15 rfl rfl)
theorem dL_law_1272 : decode cL_law 1272 = .ok (.ireturn, 1) := dk_172 (dk_at dksL_law_47 16 rfl rfl)
theorem dL_law_1273 : decode cL_law 1273 = .ok (.aload_n 1, 1) := dk_43 (dk_at dksL_law_47 17 rfl rfl)
theorem dL_law_1274 : decode cL_law 1274 = .ok (.aload_n 0, 1) := dk_42 (dk_at dksL_law_47 18 rfl rfl)
theorem dL_law_1275 : decode cL_law 1275 = .ok (.iload_n 3, 1) := dk_29 (dk_at dksL_law_47 19 rfl rfl)
theorem dL_law_1276 : decode cL_law 1276 = .ok (.iconst 1, 1) := dk_4 (dk_at dksL_law_47 20 rfl rfl)
theorem dL_law_1277 : decode cL_law 1277 = .ok (.iadd, 1) := dk_96 (dk_at dksL_law_47 21 rfl rfl)
theorem dL_law_1278 : decode cL_law 1278 = .ok (.iaload, 1) := dk_46 (dk_at dksL_law_47 22 rfl rfl)
theorem dL_law_1279 : decode cL_law 1279 = .ok (.aload_n 0, 1) := dk_42 (dk_at dksL_law_47 23 rfl rfl)
theorem dL_law_1280 : decode cL_law 1280 = .ok (.iload_n 3, 1) := dk_29 (dk_at dksL_law_48 0 rfl rfl)
theorem dL_law_1281 : decode cL_law 1281 = .ok (.iconst 2, 1) := dk_5 (dk_at dksL_law_48 1 rfl rfl)
theorem dL_law_1282 : decode cL_law 1282 = .ok (.iadd, 1) := dk_96 (dk_at dksL_law_48 2 rfl rfl)
theorem dL_law_1283 : decode cL_law 1283 = .ok (.iaload, 1) := dk_46 (dk_at dksL_law_48 3 rfl rfl)
theorem dL_law_1284 : decode cL_law 1284 = .ok (.invokevirtual 168, 3) := dk_182 0 168 (dk_at dksL_law_48 4 rfl rfl)
theorem dL_law_1287 : decode cL_law 1287 = .ok (.aload_n 2, 1) := dk_44 (dk_at dksL_law_48 7 rfl rfl)
theorem dL_law_1288 : decode cL_law 1288 = .ok (.aload_n 0, 1) := dk_42 (dk_at dksL_law_48 8 rfl rfl)
theorem dL_law_1289 : decode cL_law 1289 = .ok (.iload_n 3, 1) := dk_29 (dk_at dksL_law_48 9 rfl rfl)
theorem dL_law_1290 : decode cL_law 1290 = .ok (.iconst 1, 1) := dk_4 (dk_at dksL_law_48 10 rfl rfl)
theorem dL_law_1291 : decode cL_law 1291 = .ok (.iadd, 1) := dk_96 (dk_at dksL_law_48 11 rfl rfl)
theorem dL_law_1292 : decode cL_law 1292 = .ok (.iaload, 1) := dk_46 (dk_at dksL_law_48 12 rfl rfl)
theorem dL_law_1293 : decode cL_law 1293 = .ok (.aload_n 0, 1) := dk_42 (dk_at dksL_law_48 13 rfl rfl)
theorem dL_law_1294 : decode cL_law 1294 = .ok (.iload_n 3, 1) := dk_29 (dk_at dksL_law_48 14 rfl rfl)
theorem dL_law_1295 : decode cL_law 1295 = .ok (.iconst 2, 1) := dk_5 (dk_at dksL_law_48 15 rfl rfl)
theorem dL_law_1296 : decode cL_law 1296 = .ok (.iadd, 1) := dk_96 (dk_at dksL_law_48 16 rfl rfl)
theorem dL_law_1297 : decode cL_law 1297 = .ok (.iaload, 1) := dk_46 (dk_at dksL_law_48 17 rfl rfl)
theorem dL_law_1298 : decode cL_law 1298 = .ok (.invokevirtual 171, 3) := dk_182 0 171 (dk_at dksL_law_48 18 rfl rfl)
theorem dL_law_1301 : decode cL_law 1301 = .ok (.if_icmp .eq 241, 3) := dk_159 0 241 (dk_at dksL_law_48 21 rfl rfl)
theorem dL_law_1304 : decode cL_law 1304 = .ok (.iconst 0, 1) := dk_3 (dk_at dksL_law_49 0 rfl rfl)
theorem dL_law_1305 : decode cL_law 1305 = .ok (.ireturn, 1) := dk_172 (dk_at dksL_law_49 1 rfl rfl)
theorem dL_law_1306 : decode cL_law 1306 = .ok (.aload_n 1, 1) := dk_43 (dk_at dksL_law_49 2 rfl rfl)
theorem dL_law_1307 : decode cL_law 1307 = .ok (.aload_n 0, 1) := dk_42 (dk_at dksL_law_49 3 rfl rfl)
theorem dL_law_1308 : decode cL_law 1308 = .ok (.iload_n 3, 1) := dk_29 (dk_at dksL_law_49 4 rfl rfl)
theorem dL_law_1309 : decode cL_law 1309 = .ok (.iconst 1, 1) := dk_4 (dk_at dksL_law_49 5 rfl rfl)
theorem dL_law_1310 : decode cL_law 1310 = .ok (.iadd, 1) := dk_96 (dk_at dksL_law_49 6 rfl rfl)
theorem dL_law_1311 : decode cL_law 1311 = .ok (.iaload, 1) := dk_46 (dk_at dksL_law_49 7 rfl rfl)
theorem dL_law_1312 : decode cL_law 1312 = .ok (.invokevirtual 172, 3) := dk_182 0 172 (dk_at dksL_law_49 8 rfl rfl)
theorem dL_law_1315 : decode cL_law 1315 = .ok (.aload_n 2, 1) := dk_44 (dk_at dksL_law_49 11 rfl rfl)
theorem dL_law_1316 : decode cL_law 1316 = .ok (.aload_n 0, 1) := dk_42 (dk_at dksL_law_49 12 rfl rfl)
theorem dL_law_1317 : decode cL_law 1317 = .ok (.iload_n 3, 1) := dk_29 (dk_at dksL_law_49 13 rfl rfl)
theorem dL_law_1318 : decode cL_law 1318 = .ok (.iconst 1, 1) := dk_4 (dk_at dksL_law_49 14 rfl rfl)
theorem dL_law_1319 : decode cL_law 1319 = .ok (.iadd, 1) := dk_96 (dk_at dksL_law_49 15 rfl rfl)
theorem dL_law_1320 : decode cL_law 1320 = .ok (.iaload, 1) := dk_46 (dk_at dksL_law_49 16 rfl rfl)
theorem dL_law_1321 : decode cL_law 1321 = .ok (.invokevirtual 175, 3) := dk_182 0 175 (dk_at dksL_law_49 17 rfl rfl)
theorem dL_law_1324 : decode cL_law 1324 = .ok (.if_icmp .eq 218, 3) := dk_159 0 218 (dk_at dksL_law_49 20 rfl rfl)
theorem dL_law_1327 : decode cL_law 1327 = .ok (.iconst 0, 1) := dk_3 (dk_at dksL_law_49 23 rfl rfl)
theorem dL_law_1328 : decode cL_law 1328 = .ok (.ireturn, 1) := dk_172 (dk_at dksL_law_50 0 rfl rfl)
theorem dL_law_1329 : decode cL_law 1329 = .ok (.aload_n 1, 1) := dk_43 (dk_at dksL_law_50 1 rfl rfl)
theorem dL_law_1330 : decode cL_law 1330 = .ok (.aload_n 0, 1) := dk_42 (dk_at dksL_law_50 2 rfl rfl)
theorem dL_law_1331 : decode cL_law 1331 = .ok (.iload_n 3, 1) := dk_29 (dk_at dksL_law_50 3 rfl rfl)
theorem dL_law_1332 : decode cL_law 1332 = .ok (.iconst 1, 1) := dk_4 (dk_at dksL_law_50 4 rfl rfl)
theorem dL_law_1333 : decode cL_law 1333 = .ok (.iadd, 1) := dk_96 (dk_at dksL_law_50 5 rfl rfl)
theorem dL_law_1334 : decode cL_law 1334 = .ok (.iaload, 1) := dk_46 (dk_at dksL_law_50 6 rfl rfl)
theorem dL_law_1335 : decode cL_law 1335 = .ok (.aload_n 0, 1) := dk_42 (dk_at dksL_law_50 7 rfl rfl)
theorem dL_law_1336 : decode cL_law 1336 = .ok (.iload_n 3, 1) := dk_29 (dk_at dksL_law_50 8 rfl rfl)
theorem dL_law_1337 : decode cL_law 1337 = .ok (.iconst 2, 1) := dk_5 (dk_at dksL_law_50 9 rfl rfl)
theorem dL_law_1338 : decode cL_law 1338 = .ok (.iadd, 1) := dk_96 (dk_at dksL_law_50 10 rfl rfl)
theorem dL_law_1339 : decode cL_law 1339 = .ok (.iaload, 1) := dk_46 (dk_at dksL_law_50 11 rfl rfl)
theorem dL_law_1340 : decode cL_law 1340 = .ok (.aload_n 0, 1) := dk_42 (dk_at dksL_law_50 12 rfl rfl)
theorem dL_law_1341 : decode cL_law 1341 = .ok (.iload_n 3, 1) := dk_29 (dk_at dksL_law_50 13 rfl rfl)
theorem dL_law_1342 : decode cL_law 1342 = .ok (.iconst 3, 1) := dk_6 (dk_at dksL_law_50 14 rfl rfl)
theorem dL_law_1343 : decode cL_law 1343 = .ok (.iadd, 1) := dk_96 (dk_at dksL_law_50 15 rfl rfl)
theorem dL_law_1344 : decode cL_law 1344 = .ok (.iaload, 1) := dk_46 (dk_at dksL_law_50 16 rfl rfl)
theorem dL_law_1345 : decode cL_law 1345 = .ok (.invokevirtual 176, 3) := dk_182 0 176 (dk_at dksL_law_50 17 rfl rfl)
theorem dL_law_1348 : decode cL_law 1348 = .ok (.aload_n 2, 1) := dk_44 (dk_at dksL_law_50 20 rfl rfl)
theorem dL_law_1349 : decode cL_law 1349 = .ok (.aload_n 0, 1) := dk_42 (dk_at dksL_law_50 21 rfl rfl)
theorem dL_law_1350 : decode cL_law 1350 = .ok (.iload_n 3, 1) := dk_29 (dk_at dksL_law_50 22 rfl rfl)
theorem dL_law_1351 : decode cL_law 1351 = .ok (.iconst 1, 1) := dk_4 (dk_at dksL_law_50 23 rfl rfl)
theorem dL_law_1352 : decode cL_law 1352 = .ok (.iadd, 1) := dk_96 (dk_at dksL_law_51 0 rfl rfl)
theorem dL_law_1353 : decode cL_law 1353 = .ok (.iaload, 1) := dk_46 (dk_at dksL_law_51 1 rfl rfl)
theorem dL_law_1354 : decode cL_law 1354 = .ok (.aload_n 0, 1) := dk_42 (dk_at dksL_law_51 2 rfl rfl)
theorem dL_law_1355 : decode cL_law 1355 = .ok (.iload_n 3, 1) := dk_29 (dk_at dksL_law_51 3 rfl rfl)
theorem dL_law_1356 : decode cL_law 1356 = .ok (.iconst 2, 1) := dk_5 (dk_at dksL_law_51 4 rfl rfl)
theorem dL_law_1357 : decode cL_law 1357 = .ok (.iadd, 1) := dk_96 (dk_at dksL_law_51 5 rfl rfl)
theorem dL_law_1358 : decode cL_law 1358 = .ok (.iaload, 1) := dk_46 (dk_at dksL_law_51 6 rfl rfl)
theorem dL_law_1359 : decode cL_law 1359 = .ok (.aload_n 0, 1) := dk_42 (dk_at dksL_law_51 7 rfl rfl)
theorem dL_law_1360 : decode cL_law 1360 = .ok (.iload_n 3, 1) := dk_29 (dk_at dksL_law_51 8 rfl rfl)
theorem dL_law_1361 : decode cL_law 1361 = .ok (.iconst 3, 1) := dk_6 (dk_at dksL_law_51 9 rfl rfl)
theorem dL_law_1362 : decode cL_law 1362 = .ok (.iadd, 1) := dk_96 (dk_at dksL_law_51 10 rfl rfl)
theorem dL_law_1363 : decode cL_law 1363 = .ok (.iaload, 1) := dk_46 (dk_at dksL_law_51 11 rfl rfl)
theorem dL_law_1364 : decode cL_law 1364 = .ok (.invokevirtual 179, 3) := dk_182 0 179 (dk_at dksL_law_51 12 rfl rfl)
theorem dL_law_1367 : decode cL_law 1367 = .ok (.if_icmp .eq 175, 3) := dk_159 0 175 (dk_at dksL_law_51 15 rfl rfl)
theorem dL_law_1370 : decode cL_law 1370 = .ok (.iconst 0, 1) := dk_3 (dk_at dksL_law_51 18 rfl rfl)
theorem dL_law_1371 : decode cL_law 1371 = .ok (.ireturn, 1) := dk_172 (dk_at dksL_law_51 19 rfl rfl)
theorem dL_law_1372 : decode cL_law 1372 = .ok (.aload_n 1, 1) := dk_43 (dk_at dksL_law_51 20 rfl rfl)
theorem dL_law_1373 : decode cL_law 1373 = .ok (.aload_n 0, 1) := dk_42 (dk_at dksL_law_51 21 rfl rfl)
theorem dL_law_1374 : decode cL_law 1374 = .ok (.iload_n 3, 1) := dk_29 (dk_at dksL_law_51 22 rfl rfl)
theorem dL_law_1375 : decode cL_law 1375 = .ok (.iconst 1, 1) := dk_4 (dk_at dksL_law_51 23 rfl rfl)
theorem dL_law_1376 : decode cL_law 1376 = .ok (.iadd, 1) := dk_96 (dk_at dksL_law_52 0 rfl rfl)
theorem dL_law_1377 : decode cL_law 1377 = .ok (.iaload, 1) := dk_46 (dk_at dksL_law_52 1 rfl rfl)
theorem dL_law_1378 : decode cL_law 1378 = .ok (.aload_n 0, 1) := dk_42 (dk_at dksL_law_52 2 rfl rfl)
theorem dL_law_1379 : decode cL_law 1379 = .ok (.iload_n 3, 1) := dk_29 (dk_at dksL_law_52 3 rfl rfl)
theorem dL_law_1380 : decode cL_law 1380 = .ok (.iconst 2, 1) := dk_5 (dk_at dksL_law_52 4 rfl rfl)
theorem dL_law_1381 : decode cL_law 1381 = .ok (.iadd, 1) := dk_96 (dk_at dksL_law_52 5 rfl rfl)
theorem dL_law_1382 : decode cL_law 1382 = .ok (.iaload, 1) := dk_46 (dk_at dksL_law_52 6 rfl rfl)
theorem dL_law_1383 : decode cL_law 1383 = .ok (.aload_n 0, 1) := dk_42 (dk_at dksL_law_52 7 rfl rfl)
theorem dL_law_1384 : decode cL_law 1384 = .ok (.iload_n 3, 1) := dk_29 (dk_at dksL_law_52 8 rfl rfl)
theorem dL_law_1385 : decode cL_law 1385 = .ok (.iconst 3, 1) := dk_6 (dk_at dksL_law_52 9 rfl rfl)
theorem dL_law_1386 : decode cL_law 1386 = .ok (.iadd, 1) := dk_96 (dk_at dksL_law_52 10 rfl rfl)
theorem dL_law_1387 : decode cL_law 1387 = .ok (.iaload, 1) := dk_46 (dk_at dksL_law_52 11 rfl rfl)
theorem dL_law_1388 : decode cL_law 1388 = .ok (.i2l, 1) := dk_133 (dk_at dksL_law_52 12 rfl rfl)
theorem dL_law_1389 : decode cL_law 1389 = .ok (.bipush 32, 2) := dk_16 32 (dk_at dksL_law_52 13 rfl rfl)
theorem dL_law_1391 : decode cL_law 1391 = .ok (.lshl, 1) := dk_121 (dk_at dksL_law_52 15 rfl rfl)
theorem dL_law_1392 : decode cL_law 1392 = .ok (.aload_n 0, 1) := dk_42 (dk_at dksL_law_52 16 rfl rfl)
theorem dL_law_1393 : decode cL_law 1393 = .ok (.iload_n 3, 1) := dk_29 (dk_at dksL_law_52 17 rfl rfl)
theorem dL_law_1394 : decode cL_law 1394 = .ok (.iconst 4, 1) := dk_7 (dk_at dksL_law_52 18 rfl rfl)
theorem dL_law_1395 : decode cL_law 1395 = .ok (.iadd, 1) := dk_96 (dk_at dksL_law_52 19 rfl rfl)
theorem dL_law_1396 : decode cL_law 1396 = .ok (.iaload, 1) := dk_46 (dk_at dksL_law_52 20 rfl rfl)
theorem dL_law_1397 : decode cL_law 1397 = .ok (.i2l, 1) := dk_133 (dk_at dksL_law_52 21 rfl rfl)
theorem dL_law_1398 : decode cL_law 1398 = .ok (.ldc2_w 180, 3) := dk_20 0 180 (dk_at dksL_law_53 0 rfl rfl)
theorem dL_law_1401 : decode cL_law 1401 = .ok (.land, 1) := dk_127 (dk_at dksL_law_53 3 rfl rfl)
theorem dL_law_1402 : decode cL_law 1402 = .ok (.lor, 1) := dk_129 (dk_at dksL_law_53 4 rfl rfl)
theorem dL_law_1403 : decode cL_law 1403 = .ok (.invokevirtual 182, 3) := dk_182 0 182 (dk_at dksL_law_53 5 rfl rfl)
theorem dL_law_1406 : decode cL_law 1406 = .ok (.aload_n 2, 1) := dk_44 (dk_at dksL_law_53 8 rfl rfl)
theorem dL_law_1407 : decode cL_law 1407 = .ok (.aload_n 0, 1) := dk_42 (dk_at dksL_law_53 9 rfl rfl)
theorem dL_law_1408 : decode cL_law 1408 = .ok (.iload_n 3, 1) := dk_29 (dk_at dksL_law_53 10 rfl rfl)
theorem dL_law_1409 : decode cL_law 1409 = .ok (.iconst 1, 1) := dk_4 (dk_at dksL_law_53 11 rfl rfl)
theorem dL_law_1410 : decode cL_law 1410 = .ok (.iadd, 1) := dk_96 (dk_at dksL_law_53 12 rfl rfl)
theorem dL_law_1411 : decode cL_law 1411 = .ok (.iaload, 1) := dk_46 (dk_at dksL_law_53 13 rfl rfl)
theorem dL_law_1412 : decode cL_law 1412 = .ok (.aload_n 0, 1) := dk_42 (dk_at dksL_law_53 14 rfl rfl)
theorem dL_law_1413 : decode cL_law 1413 = .ok (.iload_n 3, 1) := dk_29 (dk_at dksL_law_53 15 rfl rfl)
theorem dL_law_1414 : decode cL_law 1414 = .ok (.iconst 2, 1) := dk_5 (dk_at dksL_law_53 16 rfl rfl)
theorem dL_law_1415 : decode cL_law 1415 = .ok (.iadd, 1) := dk_96 (dk_at dksL_law_53 17 rfl rfl)
theorem dL_law_1416 : decode cL_law 1416 = .ok (.iaload, 1) := dk_46 (dk_at dksL_law_53 18 rfl rfl)
theorem dL_law_1417 : decode cL_law 1417 = .ok (.aload_n 0, 1) := dk_42 (dk_at dksL_law_53 19 rfl rfl)
theorem dL_law_1418 : decode cL_law 1418 = .ok (.iload_n 3, 1) := dk_29 (dk_at dksL_law_53 20 rfl rfl)
theorem dL_law_1419 : decode cL_law 1419 = .ok (.iconst 3, 1) := dk_6 (dk_at dksL_law_53 21 rfl rfl)
theorem dL_law_1420 : decode cL_law 1420 = .ok (.iadd, 1) := dk_96 (dk_at dksL_law_53 22 rfl rfl)
theorem dL_law_1421 : decode cL_law 1421 = .ok (.iaload, 1) := dk_46 (dk_at dksL_law_53 23 rfl rfl)
theorem dL_law_1422 : decode cL_law 1422 = .ok (.i2l, 1) := dk_133 (dk_at dksL_law_54 0 rfl rfl)
theorem dL_law_1423 : decode cL_law 1423 = .ok (.bipush 32, 2) := dk_16 32 (dk_at dksL_law_54 1 rfl rfl)
theorem dL_law_1425 : decode cL_law 1425 = .ok (.lshl, 1) := dk_121 (dk_at dksL_law_54 3 rfl rfl)
theorem dL_law_1426 : decode cL_law 1426 = .ok (.aload_n 0, 1) := dk_42 (dk_at dksL_law_54 4 rfl rfl)
theorem dL_law_1427 : decode cL_law 1427 = .ok (.iload_n 3, 1) := dk_29 (dk_at dksL_law_54 5 rfl rfl)
theorem dL_law_1428 : decode cL_law 1428 = .ok (.iconst 4, 1) := dk_7 (dk_at dksL_law_54 6 rfl rfl)
theorem dL_law_1429 : decode cL_law 1429 = .ok (.iadd, 1) := dk_96 (dk_at dksL_law_54 7 rfl rfl)
theorem dL_law_1430 : decode cL_law 1430 = .ok (.iaload, 1) := dk_46 (dk_at dksL_law_54 8 rfl rfl)
theorem dL_law_1431 : decode cL_law 1431 = .ok (.i2l, 1) := dk_133 (dk_at dksL_law_54 9 rfl rfl)
theorem dL_law_1432 : decode cL_law 1432 = .ok (.ldc2_w 180, 3) := dk_20 0 180 (dk_at dksL_law_54 10 rfl rfl)
theorem dL_law_1435 : decode cL_law 1435 = .ok (.land, 1) := dk_127 (dk_at dksL_law_54 13 rfl rfl)
theorem dL_law_1436 : decode cL_law 1436 = .ok (.lor, 1) := dk_129 (dk_at dksL_law_54 14 rfl rfl)
theorem dL_law_1437 : decode cL_law 1437 = .ok (.invokevirtual 186, 3) := dk_182 0 186 (dk_at dksL_law_54 15 rfl rfl)
theorem dL_law_1440 : decode cL_law 1440 = .ok (.if_icmp .eq 102, 3) := dk_159 0 102 (dk_at dksL_law_54 18 rfl rfl)
theorem dL_law_1443 : decode cL_law 1443 = .ok (.iconst 0, 1) := dk_3 (dk_at dksL_law_54 21 rfl rfl)
theorem dL_law_1444 : decode cL_law 1444 = .ok (.ireturn, 1) := dk_172 (dk_at dksL_law_54 22 rfl rfl)
theorem dL_law_1445 : decode cL_law 1445 = .ok (.aload_n 1, 1) := dk_43 (dk_at dksL_law_54 23 rfl rfl)
theorem dL_law_1446 : decode cL_law 1446 = .ok (.aload_n 0, 1) := dk_42 (dk_at dksL_law_55 0 rfl rfl)
theorem dL_law_1447 : decode cL_law 1447 = .ok (.iload_n 3, 1) := dk_29 (dk_at dksL_law_55 1 rfl rfl)
theorem dL_law_1448 : decode cL_law 1448 = .ok (.iconst 1, 1) := dk_4 (dk_at dksL_law_55 2 rfl rfl)
theorem dL_law_1449 : decode cL_law 1449 = .ok (.iadd, 1) := dk_96 (dk_at dksL_law_55 3 rfl rfl)
theorem dL_law_1450 : decode cL_law 1450 = .ok (.iaload, 1) := dk_46 (dk_at dksL_law_55 4 rfl rfl)
theorem dL_law_1451 : decode cL_law 1451 = .ok (.aload_n 0, 1) := dk_42 (dk_at dksL_law_55 5 rfl rfl)
theorem dL_law_1452 : decode cL_law 1452 = .ok (.iload_n 3, 1) := dk_29 (dk_at dksL_law_55 6 rfl rfl)
theorem dL_law_1453 : decode cL_law 1453 = .ok (.iconst 2, 1) := dk_5 (dk_at dksL_law_55 7 rfl rfl)
theorem dL_law_1454 : decode cL_law 1454 = .ok (.iadd, 1) := dk_96 (dk_at dksL_law_55 8 rfl rfl)
theorem dL_law_1455 : decode cL_law 1455 = .ok (.iaload, 1) := dk_46 (dk_at dksL_law_55 9 rfl rfl)
theorem dL_law_1456 : decode cL_law 1456 = .ok (.invokevirtual 187, 3) := dk_182 0 187 (dk_at dksL_law_55 10 rfl rfl)
theorem dL_law_1459 : decode cL_law 1459 = .ok (.aload_n 2, 1) := dk_44 (dk_at dksL_law_55 13 rfl rfl)
theorem dL_law_1460 : decode cL_law 1460 = .ok (.aload_n 0, 1) := dk_42 (dk_at dksL_law_55 14 rfl rfl)
theorem dL_law_1461 : decode cL_law 1461 = .ok (.iload_n 3, 1) := dk_29 (dk_at dksL_law_55 15 rfl rfl)
theorem dL_law_1462 : decode cL_law 1462 = .ok (.iconst 1, 1) := dk_4 (dk_at dksL_law_55 16 rfl rfl)
theorem dL_law_1463 : decode cL_law 1463 = .ok (.iadd, 1) := dk_96 (dk_at dksL_law_55 17 rfl rfl)
theorem dL_law_1464 : decode cL_law 1464 = .ok (.iaload, 1) := dk_46 (dk_at dksL_law_55 18 rfl rfl)
theorem dL_law_1465 : decode cL_law 1465 = .ok (.aload_n 0, 1) := dk_42 (dk_at dksL_law_55 19 rfl rfl)
theorem dL_law_1466 : decode cL_law 1466 = .ok (.iload_n 3, 1) := dk_29 (dk_at dksL_law_55 20 rfl rfl)
theorem dL_law_1467 : decode cL_law 1467 = .ok (.iconst 2, 1) := dk_5 (dk_at dksL_law_55 21 rfl rfl)
theorem dL_law_1468 : decode cL_law 1468 = .ok (.iadd, 1) := dk_96 (dk_at dksL_law_55 22 rfl rfl)
theorem dL_law_1469 : decode cL_law 1469 = .ok (.iaload, 1) := dk_46 (dk_at dksL_law_55 23 rfl rfl)
theorem dL_law_1470 : decode cL_law 1470 = .ok (.invokevirtual 190, 3) := dk_182 0 190 (dk_at dksL_law_56 0 rfl rfl)
theorem dL_law_1473 : decode cL_law 1473 = .ok (.lcmp, 1) := dk_148 (dk_at dksL_law_56 3 rfl rfl)
theorem dL_law_1474 : decode cL_law 1474 = .ok (.ifCond .eq 68, 3) := dk_153 0 68 (dk_at dksL_law_56 4 rfl rfl)
theorem dL_law_1477 : decode cL_law 1477 = .ok (.iconst 0, 1) := dk_3 (dk_at dksL_law_56 7 rfl rfl)
theorem dL_law_1478 : decode cL_law 1478 = .ok (.ireturn, 1) := dk_172 (dk_at dksL_law_56 8 rfl rfl)
theorem dL_law_1479 : decode cL_law 1479 = .ok (.aload_n 1, 1) := dk_43 (dk_at dksL_law_56 9 rfl rfl)
theorem dL_law_1480 : decode cL_law 1480 = .ok (.aload_n 0, 1) := dk_42 (dk_at dksL_law_56 10 rfl rfl)
theorem dL_law_1481 : decode cL_law 1481 = .ok (.iload_n 3, 1) := dk_29 (dk_at dksL_law_56 11 rfl rfl)
theorem dL_law_1482 : decode cL_law 1482 = .ok (.iconst 1, 1) := dk_4 (dk_at dksL_law_56 12 rfl rfl)
theorem dL_law_1483 : decode cL_law 1483 = .ok (.iadd, 1) := dk_96 (dk_at dksL_law_56 13 rfl rfl)
theorem dL_law_1484 : decode cL_law 1484 = .ok (.iaload, 1) := dk_46 (dk_at dksL_law_56 14 rfl rfl)
theorem dL_law_1485 : decode cL_law 1485 = .ok (.aload_n 0, 1) := dk_42 (dk_at dksL_law_56 15 rfl rfl)
theorem dL_law_1486 : decode cL_law 1486 = .ok (.iload_n 3, 1) := dk_29 (dk_at dksL_law_56 16 rfl rfl)
theorem dL_law_1487 : decode cL_law 1487 = .ok (.iconst 2, 1) := dk_5 (dk_at dksL_law_56 17 rfl rfl)
theorem dL_law_1488 : decode cL_law 1488 = .ok (.iadd, 1) := dk_96 (dk_at dksL_law_56 18 rfl rfl)
theorem dL_law_1489 : decode cL_law 1489 = .ok (.iaload, 1) := dk_46 (dk_at dksL_law_56 19 rfl rfl)
theorem dL_law_1490 : decode cL_law 1490 = .ok (.aload_n 0, 1) := dk_42 (dk_at dksL_law_56 20 rfl rfl)
theorem dL_law_1491 : decode cL_law 1491 = .ok (.iload_n 3, 1) := dk_29 (dk_at dksL_law_56 21 rfl rfl)
theorem dL_law_1492 : decode cL_law 1492 = .ok (.iconst 3, 1) := dk_6 (dk_at dksL_law_56 22 rfl rfl)
theorem dL_law_1493 : decode cL_law 1493 = .ok (.iadd, 1) := dk_96 (dk_at dksL_law_56 23 rfl rfl)
theorem dL_law_1494 : decode cL_law 1494 = .ok (.iaload, 1) := dk_46 (dk_at dksL_law_57 0 rfl rfl)
theorem dL_law_1495 : decode cL_law 1495 = .ok (.aload_n 0, 1) := dk_42 (dk_at dksL_law_57 1 rfl rfl)
theorem dL_law_1496 : decode cL_law 1496 = .ok (.iload_n 3, 1) := dk_29 (dk_at dksL_law_57 2 rfl rfl)
theorem dL_law_1497 : decode cL_law 1497 = .ok (.iconst 4, 1) := dk_7 (dk_at dksL_law_57 3 rfl rfl)
theorem dL_law_1498 : decode cL_law 1498 = .ok (.iadd, 1) := dk_96 (dk_at dksL_law_57 4 rfl rfl)
theorem dL_law_1499 : decode cL_law 1499 = .ok (.iaload, 1) := dk_46 (dk_at dksL_law_57 5 rfl rfl)
theorem dL_law_1500 : decode cL_law 1500 = .ok (.aload_n 0, 1) := dk_42 (dk_at dksL_law_57 6 rfl rfl)
theorem dL_law_1501 : decode cL_law 1501 = .ok (.iload_n 3, 1) := dk_29 (dk_at dksL_law_57 7 rfl rfl)
theorem dL_law_1502 : decode cL_law 1502 = .ok (.iconst 5, 1) := dk_8 (dk_at dksL_law_57 8 rfl rfl)
theorem dL_law_1503 : decode cL_law 1503 = .ok (.iadd, 1) := dk_96 (dk_at dksL_law_57 9 rfl rfl)
theorem dL_law_1504 : decode cL_law 1504 = .ok (.iaload, 1) := dk_46 (dk_at dksL_law_57 10 rfl rfl)
theorem dL_law_1505 : decode cL_law 1505 = .ok (.invokevirtual 191, 3) := dk_182 0 191 (dk_at dksL_law_57 11 rfl rfl)
theorem dL_law_1508 : decode cL_law 1508 = .ok (.aload_n 2, 1) := dk_44 (dk_at dksL_law_57 14 rfl rfl)
theorem dL_law_1509 : decode cL_law 1509 = .ok (.aload_n 0, 1) := dk_42 (dk_at dksL_law_57 15 rfl rfl)
theorem dL_law_1510 : decode cL_law 1510 = .ok (.iload_n 3, 1) := dk_29 (dk_at dksL_law_57 16 rfl rfl)
theorem dL_law_1511 : decode cL_law 1511 = .ok (.iconst 1, 1) := dk_4 (dk_at dksL_law_57 17 rfl rfl)
theorem dL_law_1512 : decode cL_law 1512 = .ok (.iadd, 1) := dk_96 (dk_at dksL_law_57 18 rfl rfl)
theorem dL_law_1513 : decode cL_law 1513 = .ok (.iaload, 1) := dk_46 (dk_at dksL_law_57 19 rfl rfl)
theorem dL_law_1514 : decode cL_law 1514 = .ok (.aload_n 0, 1) := dk_42 (dk_at dksL_law_57 20 rfl rfl)
theorem dL_law_1515 : decode cL_law 1515 = .ok (.iload_n 3, 1) := dk_29 (dk_at dksL_law_57 21 rfl rfl)
theorem dL_law_1516 : decode cL_law 1516 = .ok (.iconst 2, 1) := dk_5 (dk_at dksL_law_57 22 rfl rfl)
theorem dL_law_1517 : decode cL_law 1517 = .ok (.iadd, 1) := dk_96 (dk_at dksL_law_57 23 rfl rfl)
theorem dL_law_1518 : decode cL_law 1518 = .ok (.iaload, 1) := dk_46 (dk_at dksL_law_58 0 rfl rfl)
theorem dL_law_1519 : decode cL_law 1519 = .ok (.aload_n 0, 1) := dk_42 (dk_at dksL_law_58 1 rfl rfl)
theorem dL_law_1520 : decode cL_law 1520 = .ok (.iload_n 3, 1) := dk_29 (dk_at dksL_law_58 2 rfl rfl)
theorem dL_law_1521 : decode cL_law 1521 = .ok (.iconst 3, 1) := dk_6 (dk_at dksL_law_58 3 rfl rfl)
theorem dL_law_1522 : decode cL_law 1522 = .ok (.iadd, 1) := dk_96 (dk_at dksL_law_58 4 rfl rfl)
theorem dL_law_1523 : decode cL_law 1523 = .ok (.iaload, 1) := dk_46 (dk_at dksL_law_58 5 rfl rfl)
theorem dL_law_1524 : decode cL_law 1524 = .ok (.aload_n 0, 1) := dk_42 (dk_at dksL_law_58 6 rfl rfl)
theorem dL_law_1525 : decode cL_law 1525 = .ok (.iload_n 3, 1) := dk_29 (dk_at dksL_law_58 7 rfl rfl)
theorem dL_law_1526 : decode cL_law 1526 = .ok (.iconst 4, 1) := dk_7 (dk_at dksL_law_58 8 rfl rfl)
theorem dL_law_1527 : decode cL_law 1527 = .ok (.iadd, 1) := dk_96 (dk_at dksL_law_58 9 rfl rfl)
theorem dL_law_1528 : decode cL_law 1528 = .ok (.iaload, 1) := dk_46 (dk_at dksL_law_58 10 rfl rfl)
theorem dL_law_1529 : decode cL_law 1529 = .ok (.aload_n 0, 1) := dk_42 (dk_at dksL_law_58 11 rfl rfl)
theorem dL_law_1530 : decode cL_law 1530 = .ok (.iload_n 3, 1) := dk_29 (dk_at dksL_law_58 12 rfl rfl)
theorem dL_law_1531 : decode cL_law 1531 = .ok (.iconst 5, 1) := dk_8 (dk_at dksL_law_58 13 rfl rfl)
theorem dL_law_1532 : decode cL_law 1532 = .ok (.iadd, 1) := dk_96 (dk_at dksL_law_58 14 rfl rfl)
theorem dL_law_1533 : decode cL_law 1533 = .ok (.iaload, 1) := dk_46 (dk_at dksL_law_58 15 rfl rfl)
theorem dL_law_1534 : decode cL_law 1534 = .ok (.invokevirtual 195, 3) := dk_182 0 195 (dk_at dksL_law_58 16 rfl rfl)
theorem dL_law_1537 : decode cL_law 1537 = .ok (.if_icmp .eq 5, 3) := dk_159 0 5 (dk_at dksL_law_58 19 rfl rfl)
theorem dL_law_1540 : decode cL_law 1540 = .ok (.iconst 0, 1) := dk_3 (dk_at dksL_law_58 22 rfl rfl)
theorem dL_law_1541 : decode cL_law 1541 = .ok (.ireturn, 1) := dk_172 (dk_at dksL_law_58 23 rfl rfl)
theorem dL_law_1542 : decode cL_law 1542 = .ok (.iinc 3 6, 3) := dk_132 3 6 (dk_at dksL_law_59 0 rfl rfl)
theorem dL_law_1545 : decode cL_law 1545 = .ok (.goto (-1527), 3) := dk_167 250 9 (dk_at dksL_law_59 3 rfl rfl)
theorem dL_law_1548 : decode cL_law 1548 = .ok (.iconst 1, 1) := dk_4 (dk_at dksL_law_59 6 rfl rfl)
theorem dL_law_1549 : decode cL_law 1549 = .ok (.ireturn, 1) := dk_172 (dk_at dksL_law_59 7 rfl rfl)
theorem q86 : (Jvm.Cond.initialized "SomebodysLiftLaw") ∈ lw_all := lw_g (lw_at lw_m1 0 rfl) rfl
set_option maxRecDepth 100000
theorem q129 : (Jvm.Cond.classLink "SomebodysLiftLaw" (7 : Nat) "SomebodysLift") ∈ lw_all := lw_g (lw_at lw_m1 43 rfl) rfl
theorem q131 : (Jvm.Cond.methodLink "SomebodysLiftLaw" (9 : Nat) ({ cls := "SomebodysLift", name := "<init>", desc := "()V" } : Jvm.MethodName)) ∈ lw_all := lw_g (lw_at lw_m1 45 rfl) rfl
theorem q391 : (Jvm.Cond.methodLink "SomebodysLiftLaw" (13 : Nat) ({ cls := "SomebodysLift", name := "lift", desc := "(IIII)I" } : Jvm.MethodName)) ∈ lw_all := lw_g (lw_at lw_m2 65 rfl) rfl
theorem q518 : (Jvm.Cond.methodLink "SomebodysLiftLaw" (18 : Nat) ({ cls := "SomebodysLift", name := "of", desc := "(II)I" } : Jvm.MethodName)) ∈ lw_all := lw_g (lw_at lw_m2 192 rfl) rfl
theorem q633 : (Jvm.Cond.methodLink "SomebodysLiftLaw" (23 : Nat) ({ cls := "SomebodysLift", name := "pull", desc := "(II)I" } : Jvm.MethodName)) ∈ lw_all := lw_g (lw_at lw_m3 67 rfl) rfl
theorem q637 : (Jvm.Cond.methodLink "SomebodysLiftLaw" (27 : Nat) ({ cls := "SomebodysLift", name := "row", desc := "(III)I" } : Jvm.MethodName)) ∈ lw_all := lw_g (lw_at lw_m3 71 rfl) rfl
theorem q641 : (Jvm.Cond.methodLink "SomebodysLiftLaw" (32 : Nat) ({ cls := "SomebodysLift", name := "feed", desc := "(I)I" } : Jvm.MethodName)) ∈ lw_all := lw_g (lw_at lw_m3 75 rfl) rfl
theorem q645 : (Jvm.Cond.methodLink "SomebodysLiftLaw" (37 : Nat) ({ cls := "SomebodysLift", name := "air", desc := "()I" } : Jvm.MethodName)) ∈ lw_all := lw_g (lw_at lw_m3 79 rfl) rfl
theorem q992 : (Jvm.Cond.methodLink "SomebodysLiftLaw" (42 : Nat) ({ cls := "SomebodysLift", name := "home", desc := "(I)I" } : Jvm.MethodName)) ∈ lw_all := lw_g (lw_at lw_m4 186 rfl) rfl
theorem q996 : (Jvm.Cond.methodLink "SomebodysLiftLaw" (46 : Nat) ({ cls := "SomebodysLift", name := "height", desc := "(I)I" } : Jvm.MethodName)) ∈ lw_all := lw_g (lw_at lw_m4 190 rfl) rfl
theorem q1000 : (Jvm.Cond.methodLink "SomebodysLiftLaw" (50 : Nat) ({ cls := "SomebodysLift", name := "told", desc := "(I)I" } : Jvm.MethodName)) ∈ lw_all := lw_g (lw_at lw_m4 194 rfl) rfl
theorem q1013 : (Jvm.Cond.methodLink "SomebodysLiftLaw" (54 : Nat) ({ cls := "SomebodysLift", name := "enter", desc := "(I)I" } : Jvm.MethodName)) ∈ lw_all := lw_g (lw_at lw_m4 207 rfl) rfl
theorem q1017 : (Jvm.Cond.methodLink "SomebodysLiftLaw" (58 : Nat) ({ cls := "SomebodysLift", name := "turn", desc := "(I)I" } : Jvm.MethodName)) ∈ lw_all := lw_g (lw_at lw_m4 211 rfl) rfl
theorem q1031 : (Jvm.Cond.methodLink "SomebodysLiftLaw" (62 : Nat) ({ cls := "SomebodysLift", name := "glide", desc := "(II)I" } : Jvm.MethodName)) ∈ lw_all := lw_g (lw_at lw_m4 225 rfl) rfl
theorem q1060 : (Jvm.Cond.methodLink "SomebodysLiftLaw" (66 : Nat) ({ cls := "SomebodysLift", name := "up", desc := "(II)I" } : Jvm.MethodName)) ∈ lw_all := lw_g (lw_at lw_m5 14 rfl) rfl
theorem q1064 : (Jvm.Cond.methodLink "SomebodysLiftLaw" (70 : Nat) ({ cls := "SomebodysLift", name := "top", desc := "(II)I" } : Jvm.MethodName)) ∈ lw_all := lw_g (lw_at lw_m5 18 rfl) rfl
theorem q1068 : (Jvm.Cond.methodLink "SomebodysLiftLaw" (74 : Nat) ({ cls := "SomebodysLift", name := "arrives", desc := "(II)I" } : Jvm.MethodName)) ∈ lw_all := lw_g (lw_at lw_m5 22 rfl) rfl
theorem q1072 : (Jvm.Cond.methodLink "SomebodysLiftLaw" (78 : Nat) ({ cls := "SomebodysLift", name := "outed", desc := "(II)I" } : Jvm.MethodName)) ∈ lw_all := lw_g (lw_at lw_m5 26 rfl) rfl
theorem q1077 : (Jvm.Cond.methodLink "SomebodysLiftLaw" (82 : Nat) ({ cls := "SomebodysLift", name := "reach", desc := "(I)I" } : Jvm.MethodName)) ∈ lw_all := lw_g (lw_at lw_m5 31 rfl) rfl
theorem q1082 : (Jvm.Cond.methodLink "SomebodysLiftLaw" (86 : Nat) ({ cls := "SomebodysLift", name := "next", desc := "(I)I" } : Jvm.MethodName)) ∈ lw_all := lw_g (lw_at lw_m5 36 rfl) rfl
theorem q1086 : (Jvm.Cond.methodLink "SomebodysLiftLaw" (90 : Nat) ({ cls := "SomebodysLift", name := "lowest", desc := "(II)I" } : Jvm.MethodName)) ∈ lw_all := lw_g (lw_at lw_m5 40 rfl) rfl
theorem q1091 : (Jvm.Cond.methodLink "SomebodysLiftLaw" (94 : Nat) ({ cls := "SomebodysLift", name := "by", desc := "(III)I" } : Jvm.MethodName)) ∈ lw_all := lw_g (lw_at lw_m5 45 rfl) rfl
theorem q1103 : (Jvm.Cond.methodLink "SomebodysLiftLaw" (98 : Nat) ({ cls := "SomebodysLift", name := "straight", desc := "(I)I" } : Jvm.MethodName)) ∈ lw_all := lw_g (lw_at lw_m5 57 rfl) rfl
theorem q1111 : (Jvm.Cond.methodLink "SomebodysLiftLaw" (102 : Nat) ({ cls := "SomebodysLift", name := "best", desc := "(I)I" } : Jvm.MethodName)) ∈ lw_all := lw_g (lw_at lw_m5 65 rfl) rfl
theorem q1119 : (Jvm.Cond.methodLink "SomebodysLiftLaw" (106 : Nat) ({ cls := "SomebodysLift", name := "two", desc := "(II)I" } : Jvm.MethodName)) ∈ lw_all := lw_g (lw_at lw_m5 73 rfl) rfl
theorem q1127 : (Jvm.Cond.methodLink "SomebodysLiftLaw" (110 : Nat) ({ cls := "SomebodysLift", name := "worth", desc := "(I)I" } : Jvm.MethodName)) ∈ lw_all := lw_g (lw_at lw_m5 81 rfl) rfl
theorem q1134 : (Jvm.Cond.methodLink "SomebodysLiftLaw" (114 : Nat) ({ cls := "SomebodysLift", name := "leg", desc := "(II)I" } : Jvm.MethodName)) ∈ lw_all := lw_g (lw_at lw_m5 88 rfl) rfl
theorem q1138 : (Jvm.Cond.methodLink "SomebodysLiftLaw" (118 : Nat) ({ cls := "SomebodysLift", name := "flown", desc := "(II)I" } : Jvm.MethodName)) ∈ lw_all := lw_g (lw_at lw_m5 92 rfl) rfl
theorem q1146 : (Jvm.Cond.methodLink "SomebodysLiftLaw" (122 : Nat) ({ cls := "SomebodysLift", name := "see", desc := "(I)I" } : Jvm.MethodName)) ∈ lw_all := lw_g (lw_at lw_m5 100 rfl) rfl
theorem q1150 : (Jvm.Cond.methodLink "SomebodysLiftLaw" (126 : Nat) ({ cls := "SomebodysLift", name := "who", desc := "()I" } : Jvm.MethodName)) ∈ lw_all := lw_g (lw_at lw_m5 104 rfl) rfl
theorem q1158 : (Jvm.Cond.methodLink "SomebodysLiftLaw" (130 : Nat) ({ cls := "SomebodysLift", name := "odds", desc := "(III)J" } : Jvm.MethodName)) ∈ lw_all := lw_g (lw_at lw_m5 112 rfl) rfl
theorem q1170 : (Jvm.Cond.methodLink "SomebodysLiftLaw" (135 : Nat) ({ cls := "SomebodysLift", name := "mean", desc := "(II)J" } : Jvm.MethodName)) ∈ lw_all := lw_g (lw_at lw_m5 124 rfl) rfl
theorem q1174 : (Jvm.Cond.methodLink "SomebodysLiftLaw" (140 : Nat) ({ cls := "SomebodysLift", name := "book", desc := "(II)I" } : Jvm.MethodName)) ∈ lw_all := lw_g (lw_at lw_m5 128 rfl) rfl
theorem q1178 : (Jvm.Cond.methodLink "SomebodysLiftLaw" (144 : Nat) ({ cls := "SomebodysLift", name := "looked", desc := "()I" } : Jvm.MethodName)) ∈ lw_all := lw_g (lw_at lw_m5 132 rfl) rfl
theorem q1182 : (Jvm.Cond.methodLink "SomebodysLiftLaw" (148 : Nat) ({ cls := "SomebodysLift", name := "judge", desc := "(II)I" } : Jvm.MethodName)) ∈ lw_all := lw_g (lw_at lw_m5 136 rfl) rfl
theorem q1241 : (Jvm.Cond.methodLink "SomebodysLiftLaw" (152 : Nat) ({ cls := "SomebodysLift", name := "image", desc := "()I" } : Jvm.MethodName)) ∈ lw_all := lw_g (lw_at lw_m5 195 rfl) rfl
theorem q1246 : (Jvm.Cond.methodLink "SomebodysLiftLaw" (156 : Nat) ({ cls := "SomebodysLift", name := "undo", desc := "()I" } : Jvm.MethodName)) ∈ lw_all := lw_g (lw_at lw_m5 200 rfl) rfl
theorem q1250 : (Jvm.Cond.methodLink "SomebodysLiftLaw" (160 : Nat) ({ cls := "SomebodysLift", name := "act", desc := "(III)I" } : Jvm.MethodName)) ∈ lw_all := lw_g (lw_at lw_m5 204 rfl) rfl
theorem q1333 : (Jvm.Cond.methodLink "SomebodysLiftLaw" (164 : Nat) ({ cls := "SomebodysLift", name := "trace", desc := "(I)I" } : Jvm.MethodName)) ∈ lw_all := lw_g (lw_at lw_m6 47 rfl) rfl
theorem q1337 : (Jvm.Cond.methodLink "SomebodysLiftLaw" (168 : Nat) ({ cls := "SomebodysLift", name := "taken", desc := "(II)I" } : Jvm.MethodName)) ∈ lw_all := lw_g (lw_at lw_m6 51 rfl) rfl
theorem q1344 : (Jvm.Cond.methodLink "SomebodysLiftLaw" (172 : Nat) ({ cls := "SomebodysLift", name := "count", desc := "(I)I" } : Jvm.MethodName)) ∈ lw_all := lw_g (lw_at lw_m6 58 rfl) rfl
theorem q1348 : (Jvm.Cond.methodLink "SomebodysLiftLaw" (176 : Nat) ({ cls := "SomebodysLift", name := "tape", desc := "(III)I" } : Jvm.MethodName)) ∈ lw_all := lw_g (lw_at lw_m6 62 rfl) rfl
theorem q1372 : (Jvm.Cond.methodLink "SomebodysLiftLaw" (182 : Nat) ({ cls := "SomebodysLift", name := "item", desc := "(IIJ)I" } : Jvm.MethodName)) ∈ lw_all := lw_g (lw_at lw_m6 86 rfl) rfl
theorem q1396 : (Jvm.Cond.methodLink "SomebodysLiftLaw" (187 : Nat) ({ cls := "SomebodysLift", name := "read", desc := "(II)J" } : Jvm.MethodName)) ∈ lw_all := lw_g (lw_at lw_m6 110 rfl) rfl
theorem q1401 : (Jvm.Cond.methodLink "SomebodysLiftLaw" (191 : Nat) ({ cls := "SomebodysLift", name := "shift", desc := "(IIIII)I" } : Jvm.MethodName)) ∈ lw_all := lw_g (lw_at lw_m6 115 rfl) rfl
theorem q1438 : (Jvm.Cond.classLink "SomebodysLiftLaw" (10 : Nat) "SomebodysLiftModel") ∈ lw_all := lw_g (lw_at lw_m6 152 rfl) rfl
theorem q1440 : (Jvm.Cond.methodLink "SomebodysLiftLaw" (12 : Nat) ({ cls := "SomebodysLiftModel", name := "<init>", desc := "()V" } : Jvm.MethodName)) ∈ lw_all := lw_g (lw_at lw_m6 154 rfl) rfl
theorem q1658 : (Jvm.Cond.methodLink "SomebodysLiftLaw" (17 : Nat) ({ cls := "SomebodysLiftModel", name := "lift", desc := "(IIII)I" } : Jvm.MethodName)) ∈ lw_all := lw_g (lw_at lw_m7 132 rfl) rfl
theorem q1670 : (Jvm.Cond.methodLink "SomebodysLiftLaw" (26 : Nat) ({ cls := "SomebodysLiftModel", name := "pull", desc := "(II)I" } : Jvm.MethodName)) ∈ lw_all := lw_g (lw_at lw_m7 144 rfl) rfl
theorem q1678 : (Jvm.Cond.methodLink "SomebodysLiftLaw" (31 : Nat) ({ cls := "SomebodysLiftModel", name := "row", desc := "(III)I" } : Jvm.MethodName)) ∈ lw_all := lw_g (lw_at lw_m7 152 rfl) rfl
theorem q1682 : (Jvm.Cond.methodLink "SomebodysLiftLaw" (45 : Nat) ({ cls := "SomebodysLiftModel", name := "home", desc := "(I)I" } : Jvm.MethodName)) ∈ lw_all := lw_g (lw_at lw_m7 156 rfl) rfl
theorem q1686 : (Jvm.Cond.methodLink "SomebodysLiftLaw" (49 : Nat) ({ cls := "SomebodysLiftModel", name := "height", desc := "(I)I" } : Jvm.MethodName)) ∈ lw_all := lw_g (lw_at lw_m7 160 rfl) rfl
theorem q1690 : (Jvm.Cond.methodLink "SomebodysLiftLaw" (36 : Nat) ({ cls := "SomebodysLiftModel", name := "feed", desc := "(I)I" } : Jvm.MethodName)) ∈ lw_all := lw_g (lw_at lw_m7 164 rfl) rfl
theorem q1694 : (Jvm.Cond.methodLink "SomebodysLiftLaw" (41 : Nat) ({ cls := "SomebodysLiftModel", name := "air", desc := "()I" } : Jvm.MethodName)) ∈ lw_all := lw_g (lw_at lw_m7 168 rfl) rfl
theorem q1754 : (Jvm.Cond.methodLink "SomebodysLiftLaw" (22 : Nat) ({ cls := "SomebodysLiftModel", name := "of", desc := "(II)I" } : Jvm.MethodName)) ∈ lw_all := lw_g (lw_at lw_m7 228 rfl) rfl
theorem q1782 : (Jvm.Cond.methodLink "SomebodysLiftLaw" (53 : Nat) ({ cls := "SomebodysLiftModel", name := "told", desc := "(I)I" } : Jvm.MethodName)) ∈ lw_all := lw_g (lw_at lw_m8 16 rfl) rfl
theorem q1798 : (Jvm.Cond.methodLink "SomebodysLiftLaw" (57 : Nat) ({ cls := "SomebodysLiftModel", name := "enter", desc := "(I)I" } : Jvm.MethodName)) ∈ lw_all := lw_g (lw_at lw_m8 32 rfl) rfl
theorem q1802 : (Jvm.Cond.methodLink "SomebodysLiftLaw" (61 : Nat) ({ cls := "SomebodysLiftModel", name := "turn", desc := "(I)I" } : Jvm.MethodName)) ∈ lw_all := lw_g (lw_at lw_m8 36 rfl) rfl
theorem q1814 : (Jvm.Cond.methodLink "SomebodysLiftLaw" (65 : Nat) ({ cls := "SomebodysLiftModel", name := "glide", desc := "(II)I" } : Jvm.MethodName)) ∈ lw_all := lw_g (lw_at lw_m8 48 rfl) rfl
theorem q1834 : (Jvm.Cond.methodLink "SomebodysLiftLaw" (69 : Nat) ({ cls := "SomebodysLiftModel", name := "up", desc := "(II)I" } : Jvm.MethodName)) ∈ lw_all := lw_g (lw_at lw_m8 68 rfl) rfl
theorem q1850 : (Jvm.Cond.methodLink "SomebodysLiftLaw" (73 : Nat) ({ cls := "SomebodysLiftModel", name := "top", desc := "(II)I" } : Jvm.MethodName)) ∈ lw_all := lw_g (lw_at lw_m8 84 rfl) rfl
theorem q1854 : (Jvm.Cond.methodLink "SomebodysLiftLaw" (77 : Nat) ({ cls := "SomebodysLiftModel", name := "arrives", desc := "(II)I" } : Jvm.MethodName)) ∈ lw_all := lw_g (lw_at lw_m8 88 rfl) rfl
theorem q1858 : (Jvm.Cond.methodLink "SomebodysLiftLaw" (81 : Nat) ({ cls := "SomebodysLiftModel", name := "outed", desc := "(II)I" } : Jvm.MethodName)) ∈ lw_all := lw_g (lw_at lw_m8 92 rfl) rfl
theorem q1862 : (Jvm.Cond.methodLink "SomebodysLiftLaw" (85 : Nat) ({ cls := "SomebodysLiftModel", name := "reach", desc := "(I)I" } : Jvm.MethodName)) ∈ lw_all := lw_g (lw_at lw_m8 96 rfl) rfl
theorem q1870 : (Jvm.Cond.methodLink "SomebodysLiftLaw" (89 : Nat) ({ cls := "SomebodysLiftModel", name := "next", desc := "(I)I" } : Jvm.MethodName)) ∈ lw_all := lw_g (lw_at lw_m8 104 rfl) rfl
theorem q1874 : (Jvm.Cond.methodLink "SomebodysLiftLaw" (93 : Nat) ({ cls := "SomebodysLiftModel", name := "lowest", desc := "(II)I" } : Jvm.MethodName)) ∈ lw_all := lw_g (lw_at lw_m8 108 rfl) rfl
theorem q1878 : (Jvm.Cond.methodLink "SomebodysLiftLaw" (97 : Nat) ({ cls := "SomebodysLiftModel", name := "by", desc := "(III)I" } : Jvm.MethodName)) ∈ lw_all := lw_g (lw_at lw_m8 112 rfl) rfl
theorem q1890 : (Jvm.Cond.methodLink "SomebodysLiftLaw" (101 : Nat) ({ cls := "SomebodysLiftModel", name := "straight", desc := "(I)I" } : Jvm.MethodName)) ∈ lw_all := lw_g (lw_at lw_m8 124 rfl) rfl
theorem q1898 : (Jvm.Cond.methodLink "SomebodysLiftLaw" (105 : Nat) ({ cls := "SomebodysLiftModel", name := "best", desc := "(I)I" } : Jvm.MethodName)) ∈ lw_all := lw_g (lw_at lw_m8 132 rfl) rfl
theorem q1910 : (Jvm.Cond.methodLink "SomebodysLiftLaw" (109 : Nat) ({ cls := "SomebodysLiftModel", name := "two", desc := "(II)I" } : Jvm.MethodName)) ∈ lw_all := lw_g (lw_at lw_m8 144 rfl) rfl
theorem q1914 : (Jvm.Cond.methodLink "SomebodysLiftLaw" (113 : Nat) ({ cls := "SomebodysLiftModel", name := "worth", desc := "(I)I" } : Jvm.MethodName)) ∈ lw_all := lw_g (lw_at lw_m8 148 rfl) rfl
theorem q1918 : (Jvm.Cond.methodLink "SomebodysLiftLaw" (117 : Nat) ({ cls := "SomebodysLiftModel", name := "leg", desc := "(II)I" } : Jvm.MethodName)) ∈ lw_all := lw_g (lw_at lw_m8 152 rfl) rfl
theorem q1922 : (Jvm.Cond.methodLink "SomebodysLiftLaw" (121 : Nat) ({ cls := "SomebodysLiftModel", name := "flown", desc := "(II)I" } : Jvm.MethodName)) ∈ lw_all := lw_g (lw_at lw_m8 156 rfl) rfl
theorem q1926 : (Jvm.Cond.methodLink "SomebodysLiftLaw" (125 : Nat) ({ cls := "SomebodysLiftModel", name := "see", desc := "(I)I" } : Jvm.MethodName)) ∈ lw_all := lw_g (lw_at lw_m8 160 rfl) rfl
theorem q1930 : (Jvm.Cond.methodLink "SomebodysLiftLaw" (129 : Nat) ({ cls := "SomebodysLiftModel", name := "who", desc := "()I" } : Jvm.MethodName)) ∈ lw_all := lw_g (lw_at lw_m8 164 rfl) rfl
theorem q1938 : (Jvm.Cond.methodLink "SomebodysLiftLaw" (134 : Nat) ({ cls := "SomebodysLiftModel", name := "odds", desc := "(III)J" } : Jvm.MethodName)) ∈ lw_all := lw_g (lw_at lw_m8 172 rfl) rfl
theorem q1951 : (Jvm.Cond.methodLink "SomebodysLiftLaw" (139 : Nat) ({ cls := "SomebodysLiftModel", name := "mean", desc := "(II)J" } : Jvm.MethodName)) ∈ lw_all := lw_g (lw_at lw_m8 185 rfl) rfl
theorem q1955 : (Jvm.Cond.methodLink "SomebodysLiftLaw" (143 : Nat) ({ cls := "SomebodysLiftModel", name := "book", desc := "(II)I" } : Jvm.MethodName)) ∈ lw_all := lw_g (lw_at lw_m8 189 rfl) rfl
theorem q1959 : (Jvm.Cond.methodLink "SomebodysLiftLaw" (147 : Nat) ({ cls := "SomebodysLiftModel", name := "looked", desc := "()I" } : Jvm.MethodName)) ∈ lw_all := lw_g (lw_at lw_m8 193 rfl) rfl
theorem q1963 : (Jvm.Cond.methodLink "SomebodysLiftLaw" (151 : Nat) ({ cls := "SomebodysLiftModel", name := "judge", desc := "(II)I" } : Jvm.MethodName)) ∈ lw_all := lw_g (lw_at lw_m8 197 rfl) rfl
theorem q1971 : (Jvm.Cond.methodLink "SomebodysLiftLaw" (155 : Nat) ({ cls := "SomebodysLiftModel", name := "image", desc := "()I" } : Jvm.MethodName)) ∈ lw_all := lw_g (lw_at lw_m8 205 rfl) rfl
theorem q1975 : (Jvm.Cond.methodLink "SomebodysLiftLaw" (159 : Nat) ({ cls := "SomebodysLiftModel", name := "undo", desc := "()I" } : Jvm.MethodName)) ∈ lw_all := lw_g (lw_at lw_m8 209 rfl) rfl
theorem q1979 : (Jvm.Cond.methodLink "SomebodysLiftLaw" (163 : Nat) ({ cls := "SomebodysLiftModel", name := "act", desc := "(III)I" } : Jvm.MethodName)) ∈ lw_all := lw_g (lw_at lw_m8 213 rfl) rfl
theorem q2015 : (Jvm.Cond.methodLink "SomebodysLiftLaw" (167 : Nat) ({ cls := "SomebodysLiftModel", name := "trace", desc := "(I)I" } : Jvm.MethodName)) ∈ lw_all := lw_g (lw_at lw_m9 9 rfl) rfl
theorem q2019 : (Jvm.Cond.methodLink "SomebodysLiftLaw" (171 : Nat) ({ cls := "SomebodysLiftModel", name := "taken", desc := "(II)I" } : Jvm.MethodName)) ∈ lw_all := lw_g (lw_at lw_m9 13 rfl) rfl
theorem q2023 : (Jvm.Cond.methodLink "SomebodysLiftLaw" (175 : Nat) ({ cls := "SomebodysLiftModel", name := "count", desc := "(I)I" } : Jvm.MethodName)) ∈ lw_all := lw_g (lw_at lw_m9 17 rfl) rfl
theorem q2027 : (Jvm.Cond.methodLink "SomebodysLiftLaw" (179 : Nat) ({ cls := "SomebodysLiftModel", name := "tape", desc := "(III)I" } : Jvm.MethodName)) ∈ lw_all := lw_g (lw_at lw_m9 21 rfl) rfl
theorem q2031 : (Jvm.Cond.methodLink "SomebodysLiftLaw" (186 : Nat) ({ cls := "SomebodysLiftModel", name := "item", desc := "(IIJ)I" } : Jvm.MethodName)) ∈ lw_all := lw_g (lw_at lw_m9 25 rfl) rfl
theorem q2039 : (Jvm.Cond.methodLink "SomebodysLiftLaw" (190 : Nat) ({ cls := "SomebodysLiftModel", name := "read", desc := "(II)J" } : Jvm.MethodName)) ∈ lw_all := lw_g (lw_at lw_m9 33 rfl) rfl
theorem q2043 : (Jvm.Cond.methodLink "SomebodysLiftLaw" (195 : Nat) ({ cls := "SomebodysLiftModel", name := "shift", desc := "(IIIII)I" } : Jvm.MethodName)) ∈ lw_all := lw_g (lw_at lw_m9 37 rfl) rfl
theorem q2047 : (Jvm.Cond.constantLong "SomebodysLiftLaw" (180 : Nat) (4294967295 : Int64)) ∈ lw_all := lw_g (lw_at lw_m9 41 rfl) rfl

theorem q2099 : (Jvm.Cond.castable "[B" "java/lang/Object") ∈ lw_tbl := lw_at lw_m9 93 rfl
set_option maxRecDepth 100000

theorem q2098 : (Jvm.Cond.castable "[I" "java/lang/Object") ∈ lw_tbl := lw_at lw_m9 92 rfl
set_option maxRecDepth 100000

theorem q2103 : (Jvm.Cond.castable "[J" "java/lang/Object") ∈ lw_tbl := lw_at lw_m9 97 rfl
set_option maxRecDepth 100000

theorem q2097 : (Jvm.Cond.castable "[LSomebodysLift$Lift;" "java/lang/Object") ∈ lw_tbl := lw_at lw_m9 91 rfl
set_option maxRecDepth 100000

theorem q2100 : (Jvm.Cond.castable "[LSomebodysLift$Tape;" "java/lang/Object") ∈ lw_tbl := lw_at lw_m9 94 rfl
set_option maxRecDepth 100000

theorem q2094 : (Jvm.Cond.sameMethod "[Ljava/lang/Object;" "java/lang/Object" "getClass" "()Ljava/lang/Class;") ∈ lw_all := lw_g (lw_at lw_m9 88 rfl) rfl
set_option maxRecDepth 100000
theorem q2095 : (Jvm.Cond.selects "[Ljava/lang/Object;" ({ cls := "java/lang/Object", name := "getClass", desc := "()Ljava/lang/Class;" } : Jvm.MethodName) ({ cls := "java/lang/Object", name := "getClass", desc := "()Ljava/lang/Class;" } : Jvm.MethodName)) ∈ lw_all := lw_g (lw_at lw_m9 89 rfl) rfl
theorem q2101 : (Jvm.Cond.castable "[Ljava/lang/Object;" "java/lang/Object") ∈ lw_tbl := lw_at lw_m9 95 rfl

theorem q2102 : (Jvm.Cond.castable "[S" "java/lang/Object") ∈ lw_tbl := lw_at lw_m9 96 rfl
set_option maxRecDepth 100000

theorem q2104 : (Jvm.Cond.castable "[Z" "java/lang/Object") ∈ lw_tbl := lw_at lw_m9 98 rfl
set_option maxRecDepth 100000

theorem q122 : (Jvm.Cond.initialized "java/lang/System") ∈ lw_all := lw_g (lw_at lw_m1 36 rfl) rfl
set_option maxRecDepth 100000
theorem q968 : (Jvm.Cond.static ({ cls := "java/lang/System", name := "arraycopy", desc := "(Ljava/lang/Object;ILjava/lang/Object;II)V" } : Jvm.MethodName)) ∈ lw_all := lw_g (lw_at lw_m4 162 rfl) rfl
theorem q969 : (Jvm.Cond.native ({ cls := "java/lang/System", name := "arraycopy", desc := "(Ljava/lang/Object;ILjava/lang/Object;II)V" } : Jvm.MethodName)) ∈ lw_all := lw_g (lw_at lw_m4 163 rfl) rfl

theorem q138 : (Jvm.Cond.arrayOver (Jvm.ClassFile.FieldType.object "SomebodysLift$Lift")) ∈ lw_tbl := lw_at lw_m1 52 rfl
set_option maxRecDepth 100000
theorem q162 : (Jvm.Cond.arrayClass Jvm.ClassFile.FieldType.int) ∈ lw_all := lw_g (lw_at lw_m1 76 rfl) rfl
theorem q195 : (Jvm.Cond.arrayClass Jvm.ClassFile.FieldType.byte) ∈ lw_all := lw_g (lw_at lw_m1 109 rfl) rfl
theorem q259 : (Jvm.Cond.arrayOver (Jvm.ClassFile.FieldType.object "SomebodysLift$Tape")) ∈ lw_tbl := lw_at lw_m1 173 rfl
theorem q964 : (Jvm.Cond.arrayOver (Jvm.ClassFile.FieldType.object "java/lang/Object")) ∈ lw_tbl := lw_at lw_m4 158 rfl
theorem q1369 : (Jvm.Cond.arrayClass Jvm.ClassFile.FieldType.short) ∈ lw_all := lw_g (lw_at lw_m6 83 rfl) rfl
theorem q1370 : (Jvm.Cond.arrayClass Jvm.ClassFile.FieldType.long) ∈ lw_all := lw_g (lw_at lw_m6 84 rfl) rfl
theorem q1371 : (Jvm.Cond.arrayClass Jvm.ClassFile.FieldType.boolean) ∈ lw_all := lw_g (lw_at lw_m6 85 rfl) rfl

