/-! the law's own entry -/
set_option maxRecDepth 100000
abbrev cL_law : ByteArray := code
def dkwL_law_61 : List UInt8 := [3, 172, 132, 4, 6, 167, 250, 59, 4, 172]
abbrev dktL_law_61 : List UInt8 := dkwL_law_61 ++ []
def dkwL_law_60 : List UInt8 := [182, 0, 152, 44, 182, 0, 155, 159, 0, 19, 3, 172, 43, 182, 0, 156, 44, 182, 0, 160, 148, 153, 0, 5]
abbrev dktL_law_60 : List UInt8 := dkwL_law_60 ++ dktL_law_61
def dkwL_law_59 : List UInt8 := [153, 0, 5, 3, 172, 167, 0, 43, 43, 182, 0, 148, 44, 182, 0, 151, 159, 0, 32, 3, 172, 43]
abbrev dktL_law_59 : List UInt8 := dkwL_law_59 ++ dktL_law_60
def dkwL_law_58 : List UInt8 := [182, 0, 84, 21, 5, 159, 0, 5, 3, 172, 21, 5, 154, 0, 15, 45, 3, 47, 21, 6, 133, 148]
abbrev dktL_law_58 : List UInt8 := dkwL_law_58 ++ dktL_law_59
def dkwL_law_57 : List UInt8 := [184, 0, 145, 54, 5, 44, 42, 21, 4, 4, 96, 46, 42, 21, 4, 5, 96, 46, 182, 0, 147, 54, 6, 44]
abbrev dktL_law_57 : List UInt8 := dkwL_law_57 ++ dktL_law_58
def dkwL_law_56 : List UInt8 := [153, 0, 5, 3, 172, 167, 0, 111, 43, 42, 21, 4, 4, 96, 46, 42, 21, 4, 5, 96, 46, 45]
abbrev dktL_law_56 : List UInt8 := dkwL_law_56 ++ dktL_law_57
def dkwL_law_55 : List UInt8 := [182, 0, 84, 21, 5, 159, 0, 5, 3, 172, 21, 5, 154, 0, 15, 45, 3, 47, 21, 6, 133, 148]
abbrev dktL_law_55 : List UInt8 := dkwL_law_55 ++ dktL_law_56
def dkwL_law_54 : List UInt8 := [96, 46, 153, 0, 7, 4, 167, 0, 4, 3, 42, 21, 4, 7, 96, 46, 182, 0, 144, 54, 6, 44]
abbrev dktL_law_54 : List UInt8 := dkwL_law_54 ++ dktL_law_55
def dkwL_law_53 : List UInt8 := [46, 45, 184, 0, 141, 54, 5, 44, 42, 21, 4, 4, 96, 46, 42, 21, 4, 5, 96, 46, 42, 21, 4, 6]
abbrev dktL_law_53 : List UInt8 := dkwL_law_53 ++ dktL_law_54
def dkwL_law_52 : List UInt8 := [21, 4, 5, 96, 46, 42, 21, 4, 6, 96, 46, 153, 0, 7, 4, 167, 0, 4, 3, 42, 21, 4, 7, 96]
abbrev dktL_law_52 : List UInt8 := dkwL_law_52 ++ dktL_law_53
def dkwL_law_51 : List UInt8 := [153, 0, 11, 24, 7, 24, 7, 151, 154, 0, 5, 3, 172, 167, 0, 219, 43, 42, 21, 4, 4, 96, 46, 42]
abbrev dktL_law_51 : List UInt8 := dkwL_law_51 ++ dktL_law_52
def dkwL_law_50 : List UInt8 := [182, 0, 136, 57, 5, 44, 182, 0, 140, 57, 7, 24, 5, 24, 7, 151, 153, 0, 21, 24, 5, 24, 5, 151]
abbrev dktL_law_50 : List UInt8 := dkwL_law_50 ++ dktL_law_51
def dkwL_law_49 : List UInt8 := [172, 21, 5, 154, 0, 15, 45, 3, 47, 21, 6, 133, 148, 153, 0, 5, 3, 172, 167, 1, 4, 43]
abbrev dktL_law_49 : List UInt8 := dkwL_law_49 ++ dktL_law_50
def dkwL_law_48 : List UInt8 := [54, 5, 44, 42, 21, 4, 4, 96, 46, 182, 0, 135, 54, 6, 44, 182, 0, 84, 21, 5, 159, 0, 5, 3]
abbrev dktL_law_48 : List UInt8 := dkwL_law_48 ++ dktL_law_49
def dkwL_law_47 : List UInt8 := [21, 6, 133, 148, 153, 0, 5, 3, 172, 167, 1, 60, 43, 42, 21, 4, 4, 96, 46, 45, 184, 0, 133]
abbrev dktL_law_47 : List UInt8 := dkwL_law_47 ++ dktL_law_48
def dkwL_law_46 : List UInt8 := [182, 0, 132, 54, 6, 44, 182, 0, 84, 21, 5, 159, 0, 5, 3, 172, 21, 5, 154, 0, 15, 45, 3, 47]
abbrev dktL_law_46 : List UInt8 := dkwL_law_46 ++ dktL_law_47
def dkwL_law_45 : List UInt8 := [167, 1, 116, 43, 42, 21, 4, 4, 96, 46, 45, 184, 0, 130, 54, 5, 44, 42, 21, 4, 4, 96, 46]
abbrev dktL_law_45 : List UInt8 := dkwL_law_45 ++ dktL_law_46
def dkwL_law_44 : List UInt8 := [159, 0, 5, 3, 172, 21, 5, 154, 0, 15, 45, 3, 47, 21, 6, 133, 148, 153, 0, 5, 3, 172]
abbrev dktL_law_44 : List UInt8 := dkwL_law_44 ++ dktL_law_45
def dkwL_law_43 : List UInt8 := [184, 0, 127, 54, 5, 44, 42, 21, 4, 4, 96, 46, 182, 0, 129, 54, 6, 44, 182, 0, 84, 21, 5]
abbrev dktL_law_43 : List UInt8 := dkwL_law_43 ++ dktL_law_44
def dkwL_law_42 : List UInt8 := [3, 47, 21, 6, 133, 148, 153, 0, 5, 3, 172, 167, 1, 172, 43, 42, 21, 4, 4, 96, 46, 45]
abbrev dktL_law_42 : List UInt8 := dkwL_law_42 ++ dktL_law_43
def dkwL_law_41 : List UInt8 := [96, 46, 182, 0, 126, 54, 6, 44, 182, 0, 84, 21, 5, 159, 0, 5, 3, 172, 21, 5, 154, 0, 15, 45]
abbrev dktL_law_41 : List UInt8 := dkwL_law_41 ++ dktL_law_42
def dkwL_law_40 : List UInt8 := [46, 42, 21, 4, 5, 96, 46, 45, 184, 0, 124, 54, 5, 44, 42, 21, 4, 4, 96, 46, 42, 21, 4, 5]
abbrev dktL_law_40 : List UInt8 := dkwL_law_40 ++ dktL_law_41
def dkwL_law_39 : List UInt8 := [154, 0, 15, 45, 3, 47, 21, 6, 133, 148, 153, 0, 5, 3, 172, 167, 1, 240, 43, 42, 21, 4, 4, 96]
abbrev dktL_law_39 : List UInt8 := dkwL_law_39 ++ dktL_law_40
def dkwL_law_38 : List UInt8 := [21, 4, 4, 96, 46, 182, 0, 123, 54, 6, 44, 182, 0, 84, 21, 5, 159, 0, 5, 3, 172, 21, 5]
abbrev dktL_law_38 : List UInt8 := dkwL_law_38 ++ dktL_law_39
def dkwL_law_37 : List UInt8 := [153, 0, 5, 3, 172, 167, 2, 40, 43, 42, 21, 4, 4, 96, 46, 45, 184, 0, 121, 54, 5, 44, 42]
abbrev dktL_law_37 : List UInt8 := dkwL_law_37 ++ dktL_law_38
def dkwL_law_36 : List UInt8 := [182, 0, 84, 21, 5, 159, 0, 5, 3, 172, 21, 5, 154, 0, 15, 45, 3, 47, 21, 6, 133, 148]
abbrev dktL_law_36 : List UInt8 := dkwL_law_36 ++ dktL_law_37
def dkwL_law_35 : List UInt8 := [184, 0, 118, 54, 5, 44, 42, 21, 4, 4, 96, 46, 42, 21, 4, 5, 96, 46, 182, 0, 120, 54, 6, 44]
abbrev dktL_law_35 : List UInt8 := dkwL_law_35 ++ dktL_law_36
def dkwL_law_34 : List UInt8 := [153, 0, 5, 3, 172, 167, 2, 108, 43, 42, 21, 4, 4, 96, 46, 42, 21, 4, 5, 96, 46, 45]
abbrev dktL_law_34 : List UInt8 := dkwL_law_34 ++ dktL_law_35
def dkwL_law_33 : List UInt8 := [182, 0, 84, 21, 5, 159, 0, 5, 3, 172, 21, 5, 154, 0, 15, 45, 3, 47, 21, 6, 133, 148]
abbrev dktL_law_33 : List UInt8 := dkwL_law_33 ++ dktL_law_34
def dkwL_law_32 : List UInt8 := [184, 0, 115, 54, 5, 44, 42, 21, 4, 4, 96, 46, 42, 21, 4, 5, 96, 46, 182, 0, 117, 54, 6, 44]
abbrev dktL_law_32 : List UInt8 := dkwL_law_32 ++ dktL_law_33
def dkwL_law_31 : List UInt8 := [148, 153, 0, 5, 3, 172, 167, 2, 176, 43, 42, 21, 4, 4, 96, 46, 42, 21, 4, 5, 96, 46, 45]
abbrev dktL_law_31 : List UInt8 := dkwL_law_31 ++ dktL_law_32
def dkwL_law_30 : List UInt8 := [54, 6, 44, 182, 0, 84, 21, 5, 159, 0, 5, 3, 172, 21, 5, 154, 0, 15, 45, 3, 47, 21, 6, 133]
abbrev dktL_law_30 : List UInt8 := dkwL_law_30 ++ dktL_law_31
def dkwL_law_29 : List UInt8 := [46, 45, 184, 0, 112, 54, 5, 44, 42, 21, 4, 4, 96, 46, 42, 21, 4, 5, 96, 46, 182, 0, 114]
abbrev dktL_law_29 : List UInt8 := dkwL_law_29 ++ dktL_law_30
def dkwL_law_28 : List UInt8 := [21, 6, 133, 148, 153, 0, 5, 3, 172, 167, 2, 244, 43, 42, 21, 4, 4, 96, 46, 42, 21, 4, 5, 96]
abbrev dktL_law_28 : List UInt8 := dkwL_law_28 ++ dktL_law_29
def dkwL_law_27 : List UInt8 := [182, 0, 111, 54, 6, 44, 182, 0, 84, 21, 5, 159, 0, 5, 3, 172, 21, 5, 154, 0, 15, 45, 3, 47]
abbrev dktL_law_27 : List UInt8 := dkwL_law_27 ++ dktL_law_28
def dkwL_law_26 : List UInt8 := [167, 3, 44, 43, 42, 21, 4, 4, 96, 46, 45, 184, 0, 109, 54, 5, 44, 42, 21, 4, 4, 96, 46]
abbrev dktL_law_26 : List UInt8 := dkwL_law_26 ++ dktL_law_27
def dkwL_law_25 : List UInt8 := [21, 5, 159, 0, 5, 3, 172, 21, 5, 154, 0, 15, 45, 3, 47, 21, 6, 133, 148, 153, 0, 5, 3, 172]
abbrev dktL_law_25 : List UInt8 := dkwL_law_25 ++ dktL_law_26
def dkwL_law_24 : List UInt8 := [46, 45, 184, 0, 106, 54, 5, 44, 42, 21, 4, 4, 96, 46, 182, 0, 108, 54, 6, 44, 182, 0, 84]
abbrev dktL_law_24 : List UInt8 := dkwL_law_24 ++ dktL_law_25
def dkwL_law_23 : List UInt8 := [154, 0, 15, 45, 3, 47, 21, 6, 133, 148, 153, 0, 5, 3, 172, 167, 3, 100, 43, 42, 21, 4, 4, 96]
abbrev dktL_law_23 : List UInt8 := dkwL_law_23 ++ dktL_law_24
def dkwL_law_22 : List UInt8 := [42, 21, 4, 5, 96, 46, 182, 0, 105, 54, 6, 44, 182, 0, 84, 21, 5, 159, 0, 5, 3, 172, 21, 5]
abbrev dktL_law_22 : List UInt8 := dkwL_law_22 ++ dktL_law_23
def dkwL_law_21 : List UInt8 := [21, 4, 4, 96, 46, 42, 21, 4, 5, 96, 46, 45, 184, 0, 103, 54, 5, 44, 42, 21, 4, 4, 96, 46]
abbrev dktL_law_21 : List UInt8 := dkwL_law_21 ++ dktL_law_22
def dkwL_law_20 : List UInt8 := [172, 21, 5, 154, 0, 15, 45, 3, 47, 21, 6, 133, 148, 153, 0, 5, 3, 172, 167, 3, 168, 43, 42]
abbrev dktL_law_20 : List UInt8 := dkwL_law_20 ++ dktL_law_21
def dkwL_law_19 : List UInt8 := [54, 5, 44, 42, 21, 4, 4, 96, 46, 182, 0, 102, 54, 6, 44, 182, 0, 84, 21, 5, 159, 0, 5, 3]
abbrev dktL_law_19 : List UInt8 := dkwL_law_19 ++ dktL_law_20
def dkwL_law_18 : List UInt8 := [21, 6, 133, 148, 153, 0, 5, 3, 172, 167, 3, 224, 43, 42, 21, 4, 4, 96, 46, 45, 184, 0, 99]
abbrev dktL_law_18 : List UInt8 := dkwL_law_18 ++ dktL_law_19
def dkwL_law_17 : List UInt8 := [182, 0, 98, 54, 6, 44, 182, 0, 84, 21, 5, 159, 0, 5, 3, 172, 21, 5, 154, 0, 15, 45, 3, 47]
abbrev dktL_law_17 : List UInt8 := dkwL_law_17 ++ dktL_law_18
def dkwL_law_16 : List UInt8 := [184, 0, 96, 54, 5, 44, 42, 21, 4, 4, 96, 46, 42, 21, 4, 5, 96, 46, 42, 21, 4, 6, 96, 46]
abbrev dktL_law_16 : List UInt8 := dkwL_law_16 ++ dktL_law_17
def dkwL_law_15 : List UInt8 := [167, 4, 48, 43, 42, 21, 4, 4, 96, 46, 42, 21, 4, 5, 96, 46, 42, 21, 4, 6, 96, 46, 45]
abbrev dktL_law_15 : List UInt8 := dkwL_law_15 ++ dktL_law_16
def dkwL_law_14 : List UInt8 := [159, 0, 5, 3, 172, 21, 5, 154, 0, 15, 45, 3, 47, 21, 6, 133, 148, 153, 0, 5, 3, 172]
abbrev dktL_law_14 : List UInt8 := dkwL_law_14 ++ dktL_law_15
def dkwL_law_13 : List UInt8 := [21, 4, 5, 96, 46, 42, 21, 4, 6, 96, 46, 182, 0, 95, 54, 6, 44, 182, 0, 84, 21, 5]
abbrev dktL_law_13 : List UInt8 := dkwL_law_13 ++ dktL_law_14
def dkwL_law_12 : List UInt8 := [5, 96, 46, 42, 21, 4, 6, 96, 46, 45, 184, 0, 92, 54, 5, 44, 42, 21, 4, 4, 96, 46, 42]
abbrev dktL_law_12 : List UInt8 := dkwL_law_12 ++ dktL_law_13
def dkwL_law_11 : List UInt8 := [3, 47, 21, 6, 133, 148, 153, 0, 5, 3, 172, 167, 4, 128, 43, 42, 21, 4, 4, 96, 46, 42, 21, 4]
abbrev dktL_law_11 : List UInt8 := dkwL_law_11 ++ dktL_law_12
def dkwL_law_10 : List UInt8 := [96, 46, 182, 0, 91, 54, 6, 44, 182, 0, 84, 21, 5, 159, 0, 5, 3, 172, 21, 5, 154, 0, 15, 45]
abbrev dktL_law_10 : List UInt8 := dkwL_law_10 ++ dktL_law_11
def dkwL_law_9 : List UInt8 := [46, 42, 21, 4, 5, 96, 46, 45, 184, 0, 88, 54, 5, 44, 42, 21, 4, 4, 96, 46, 42, 21, 4, 5]
abbrev dktL_law_9 : List UInt8 := dkwL_law_9 ++ dktL_law_10
def dkwL_law_8 : List UInt8 := [154, 0, 15, 45, 3, 47, 21, 6, 133, 148, 153, 0, 5, 3, 172, 167, 4, 196, 43, 42, 21, 4, 4, 96]
abbrev dktL_law_8 : List UInt8 := dkwL_law_8 ++ dktL_law_9
def dkwL_law_7 : List UInt8 := [167, 0, 4, 3, 182, 0, 83, 54, 6, 44, 182, 0, 84, 21, 5, 159, 0, 5, 3, 172, 21, 5]
abbrev dktL_law_7 : List UInt8 := dkwL_law_7 ++ dktL_law_8
def dkwL_law_6 : List UInt8 := [42, 21, 4, 7, 96, 46, 153, 0, 7, 4, 167, 0, 4, 3, 42, 21, 4, 8, 96, 46, 153, 0, 7, 4]
abbrev dktL_law_6 : List UInt8 := dkwL_law_6 ++ dktL_law_7
def dkwL_law_5 : List UInt8 := [184, 0, 78, 54, 5, 44, 42, 21, 4, 4, 96, 46, 42, 21, 4, 5, 96, 46, 42, 21, 4, 6, 96, 46]
abbrev dktL_law_5 : List UInt8 := dkwL_law_5 ++ dktL_law_6
def dkwL_law_4 : List UInt8 := [46, 153, 0, 7, 4, 167, 0, 4, 3, 42, 21, 4, 8, 96, 46, 153, 0, 7, 4, 167, 0, 4, 3, 45]
abbrev dktL_law_4 : List UInt8 := dkwL_law_4 ++ dktL_law_5
def dkwL_law_3 : List UInt8 := [43, 42, 21, 4, 4, 96, 46, 42, 21, 4, 5, 96, 46, 42, 21, 4, 6, 96, 46, 42, 21, 4, 7, 96]
abbrev dktL_law_3 : List UInt8 := dkwL_law_3 ++ dktL_law_4
def dkwL_law_2 : List UInt8 := [170, 0, 0, 0, 0, 0, 5, 177, 0, 0, 0, 0, 0, 0, 0, 21, 0, 0, 0, 104, 0, 0, 0, 240, 0, 0, 1, 52, 0, 0, 1, 132, 0, 0, 1, 212, 0, 0, 2, 12, 0, 0, 2, 80, 0, 0, 2, 136, 0, 0, 2, 192, 0, 0, 3, 4, 0, 0, 3, 72, 0, 0, 3, 140, 0, 0, 3, 196, 0, 0, 4, 8, 0, 0, 4, 64, 0, 0, 4, 120, 0, 0, 4, 176, 0, 0, 4, 217, 0, 0, 5, 69, 0, 0, 5, 137, 0, 0, 5, 150, 0, 0, 5, 163]
abbrev dktL_law_2 : List UInt8 := dkwL_law_2 ++ dktL_law_3
def dkwL_law_1 : List UInt8 := [21, 4, 42, 190, 16, 6, 100, 163, 5, 193, 42, 21, 4, 46, 16, 31, 126]
abbrev dktL_law_1 : List UInt8 := dkwL_law_1 ++ dktL_law_2
def dkwL_law_0 : List UInt8 := [187, 0, 8, 89, 183, 0, 74, 76, 187, 0, 75, 89, 183, 0, 77, 77, 4, 188, 11, 78, 3, 54, 4]
abbrev dktL_law_0 : List UInt8 := dkwL_law_0 ++ dktL_law_1
theorem dksL_law_0 : cL_law.data.toList.drop 0 = dktL_law_0 := by decide +kernel
theorem dksL_law_1 : cL_law.data.toList.drop 23 = dktL_law_1 := dk_seg dksL_law_0 23 rfl rfl
theorem dksL_law_2 : cL_law.data.toList.drop 40 = dktL_law_2 := dk_seg dksL_law_1 17 rfl rfl
theorem dksL_law_3 : cL_law.data.toList.drop 144 = dktL_law_3 := dk_seg dksL_law_2 104 rfl rfl
theorem dksL_law_4 : cL_law.data.toList.drop 168 = dktL_law_4 := dk_seg dksL_law_3 24 rfl rfl
theorem dksL_law_5 : cL_law.data.toList.drop 192 = dktL_law_5 := dk_seg dksL_law_4 24 rfl rfl
theorem dksL_law_6 : cL_law.data.toList.drop 216 = dktL_law_6 := dk_seg dksL_law_5 24 rfl rfl
theorem dksL_law_7 : cL_law.data.toList.drop 240 = dktL_law_7 := dk_seg dksL_law_6 24 rfl rfl
theorem dksL_law_8 : cL_law.data.toList.drop 262 = dktL_law_8 := dk_seg dksL_law_7 22 rfl rfl
theorem dksL_law_9 : cL_law.data.toList.drop 286 = dktL_law_9 := dk_seg dksL_law_8 24 rfl rfl
theorem dksL_law_10 : cL_law.data.toList.drop 310 = dktL_law_10 := dk_seg dksL_law_9 24 rfl rfl
theorem dksL_law_11 : cL_law.data.toList.drop 334 = dktL_law_11 := dk_seg dksL_law_10 24 rfl rfl
theorem dksL_law_12 : cL_law.data.toList.drop 358 = dktL_law_12 := dk_seg dksL_law_11 24 rfl rfl
theorem dksL_law_13 : cL_law.data.toList.drop 381 = dktL_law_13 := dk_seg dksL_law_12 23 rfl rfl
theorem dksL_law_14 : cL_law.data.toList.drop 403 = dktL_law_14 := dk_seg dksL_law_13 22 rfl rfl
theorem dksL_law_15 : cL_law.data.toList.drop 425 = dktL_law_15 := dk_seg dksL_law_14 22 rfl rfl
theorem dksL_law_16 : cL_law.data.toList.drop 448 = dktL_law_16 := dk_seg dksL_law_15 23 rfl rfl
theorem dksL_law_17 : cL_law.data.toList.drop 472 = dktL_law_17 := dk_seg dksL_law_16 24 rfl rfl
theorem dksL_law_18 : cL_law.data.toList.drop 496 = dktL_law_18 := dk_seg dksL_law_17 24 rfl rfl
theorem dksL_law_19 : cL_law.data.toList.drop 519 = dktL_law_19 := dk_seg dksL_law_18 23 rfl rfl
theorem dksL_law_20 : cL_law.data.toList.drop 543 = dktL_law_20 := dk_seg dksL_law_19 24 rfl rfl
theorem dksL_law_21 : cL_law.data.toList.drop 566 = dktL_law_21 := dk_seg dksL_law_20 23 rfl rfl
theorem dksL_law_22 : cL_law.data.toList.drop 590 = dktL_law_22 := dk_seg dksL_law_21 24 rfl rfl
theorem dksL_law_23 : cL_law.data.toList.drop 614 = dktL_law_23 := dk_seg dksL_law_22 24 rfl rfl
theorem dksL_law_24 : cL_law.data.toList.drop 638 = dktL_law_24 := dk_seg dksL_law_23 24 rfl rfl
theorem dksL_law_25 : cL_law.data.toList.drop 661 = dktL_law_25 := dk_seg dksL_law_24 23 rfl rfl
theorem dksL_law_26 : cL_law.data.toList.drop 685 = dktL_law_26 := dk_seg dksL_law_25 24 rfl rfl
theorem dksL_law_27 : cL_law.data.toList.drop 708 = dktL_law_27 := dk_seg dksL_law_26 23 rfl rfl
theorem dksL_law_28 : cL_law.data.toList.drop 732 = dktL_law_28 := dk_seg dksL_law_27 24 rfl rfl
theorem dksL_law_29 : cL_law.data.toList.drop 756 = dktL_law_29 := dk_seg dksL_law_28 24 rfl rfl
theorem dksL_law_30 : cL_law.data.toList.drop 779 = dktL_law_30 := dk_seg dksL_law_29 23 rfl rfl
theorem dksL_law_31 : cL_law.data.toList.drop 803 = dktL_law_31 := dk_seg dksL_law_30 24 rfl rfl
theorem dksL_law_32 : cL_law.data.toList.drop 826 = dktL_law_32 := dk_seg dksL_law_31 23 rfl rfl
theorem dksL_law_33 : cL_law.data.toList.drop 850 = dktL_law_33 := dk_seg dksL_law_32 24 rfl rfl
theorem dksL_law_34 : cL_law.data.toList.drop 872 = dktL_law_34 := dk_seg dksL_law_33 22 rfl rfl
theorem dksL_law_35 : cL_law.data.toList.drop 894 = dktL_law_35 := dk_seg dksL_law_34 22 rfl rfl
theorem dksL_law_36 : cL_law.data.toList.drop 918 = dktL_law_36 := dk_seg dksL_law_35 24 rfl rfl
theorem dksL_law_37 : cL_law.data.toList.drop 940 = dktL_law_37 := dk_seg dksL_law_36 22 rfl rfl
theorem dksL_law_38 : cL_law.data.toList.drop 963 = dktL_law_38 := dk_seg dksL_law_37 23 rfl rfl
theorem dksL_law_39 : cL_law.data.toList.drop 986 = dktL_law_39 := dk_seg dksL_law_38 23 rfl rfl
theorem dksL_law_40 : cL_law.data.toList.drop 1010 = dktL_law_40 := dk_seg dksL_law_39 24 rfl rfl
theorem dksL_law_41 : cL_law.data.toList.drop 1034 = dktL_law_41 := dk_seg dksL_law_40 24 rfl rfl
theorem dksL_law_42 : cL_law.data.toList.drop 1058 = dktL_law_42 := dk_seg dksL_law_41 24 rfl rfl
theorem dksL_law_43 : cL_law.data.toList.drop 1080 = dktL_law_43 := dk_seg dksL_law_42 22 rfl rfl
theorem dksL_law_44 : cL_law.data.toList.drop 1103 = dktL_law_44 := dk_seg dksL_law_43 23 rfl rfl
theorem dksL_law_45 : cL_law.data.toList.drop 1125 = dktL_law_45 := dk_seg dksL_law_44 22 rfl rfl
theorem dksL_law_46 : cL_law.data.toList.drop 1148 = dktL_law_46 := dk_seg dksL_law_45 23 rfl rfl
theorem dksL_law_47 : cL_law.data.toList.drop 1172 = dktL_law_47 := dk_seg dksL_law_46 24 rfl rfl
theorem dksL_law_48 : cL_law.data.toList.drop 1195 = dktL_law_48 := dk_seg dksL_law_47 23 rfl rfl
theorem dksL_law_49 : cL_law.data.toList.drop 1219 = dktL_law_49 := dk_seg dksL_law_48 24 rfl rfl
theorem dksL_law_50 : cL_law.data.toList.drop 1241 = dktL_law_50 := dk_seg dksL_law_49 22 rfl rfl
theorem dksL_law_51 : cL_law.data.toList.drop 1265 = dktL_law_51 := dk_seg dksL_law_50 24 rfl rfl
theorem dksL_law_52 : cL_law.data.toList.drop 1289 = dktL_law_52 := dk_seg dksL_law_51 24 rfl rfl
theorem dksL_law_53 : cL_law.data.toList.drop 1313 = dktL_law_53 := dk_seg dksL_law_52 24 rfl rfl
theorem dksL_law_54 : cL_law.data.toList.drop 1337 = dktL_law_54 := dk_seg dksL_law_53 24 rfl rfl
theorem dksL_law_55 : cL_law.data.toList.drop 1359 = dktL_law_55 := dk_seg dksL_law_54 22 rfl rfl
theorem dksL_law_56 : cL_law.data.toList.drop 1381 = dktL_law_56 := dk_seg dksL_law_55 22 rfl rfl
theorem dksL_law_57 : cL_law.data.toList.drop 1403 = dktL_law_57 := dk_seg dksL_law_56 22 rfl rfl
theorem dksL_law_58 : cL_law.data.toList.drop 1427 = dktL_law_58 := dk_seg dksL_law_57 24 rfl rfl
theorem dksL_law_59 : cL_law.data.toList.drop 1449 = dktL_law_59 := dk_seg dksL_law_58 22 rfl rfl
theorem dksL_law_60 : cL_law.data.toList.drop 1471 = dktL_law_60 := dk_seg dksL_law_59 22 rfl rfl
theorem dksL_law_61 : cL_law.data.toList.drop 1495 = dktL_law_61 := dk_seg dksL_law_60 24 rfl rfl
theorem dL_law_0 : decode cL_law 0 = .ok (.new 8, 3) := dk_187 0 8 (dk_at dksL_law_0 0 rfl rfl)
theorem dL_law_3 : decode cL_law 3 = .ok (.dup, 1) := dk_89 (dk_at dksL_law_0 3 rfl rfl)
theorem dL_law_4 : decode cL_law 4 = .ok (.invokespecial 74, 3) := dk_183 0 74 (dk_at dksL_law_0 4 rfl rfl)
theorem dL_law_7 : decode cL_law 7 = .ok (.astore_n 1, 1) := dk_76 (dk_at dksL_law_0 7 rfl rfl)
theorem dL_law_8 : decode cL_law 8 = .ok (.new 75, 3) := dk_187 0 75 (dk_at dksL_law_0 8 rfl rfl)
theorem dL_law_11 : decode cL_law 11 = .ok (.dup, 1) := dk_89 (dk_at dksL_law_0 11 rfl rfl)
theorem dL_law_12 : decode cL_law 12 = .ok (.invokespecial 77, 3) := dk_183 0 77 (dk_at dksL_law_0 12 rfl rfl)
theorem dL_law_15 : decode cL_law 15 = .ok (.astore_n 2, 1) := dk_77 (dk_at dksL_law_0 15 rfl rfl)
theorem dL_law_16 : decode cL_law 16 = .ok (.iconst 1, 1) := dk_4 (dk_at dksL_law_0 16 rfl rfl)
theorem dL_law_17 : decode cL_law 17 = .ok (.newarray .long, 2) := dk_188_11 (dk_at dksL_law_0 17 rfl rfl)
theorem dL_law_19 : decode cL_law 19 = .ok (.astore_n 3, 1) := dk_78 (dk_at dksL_law_0 19 rfl rfl)
theorem dL_law_20 : decode cL_law 20 = .ok (.iconst 0, 1) := dk_3 (dk_at dksL_law_0 20 rfl rfl)
theorem dL_law_21 : decode cL_law 21 = .ok (.istore 4, 2) := dk_54 4 (dk_at dksL_law_0 21 rfl rfl)
theorem dL_law_23 : decode cL_law 23 = .ok (.iload 4, 2) := dk_21 4 (dk_at dksL_law_1 0 rfl rfl)
theorem dL_law_25 : decode cL_law 25 = .ok (.aload_n 0, 1) := dk_42 (dk_at dksL_law_1 2 rfl rfl)
theorem dL_law_26 : decode cL_law 26 = .ok (.arraylength, 1) := dk_190 (dk_at dksL_law_1 3 rfl rfl)
theorem dL_law_27 : decode cL_law 27 = .ok (.bipush 6, 2) := dk_16 6 (dk_at dksL_law_1 4 rfl rfl)
theorem dL_law_29 : decode cL_law 29 = .ok (.isub, 1) := dk_100 (dk_at dksL_law_1 6 rfl rfl)
theorem dL_law_30 : decode cL_law 30 = .ok (.if_icmp .gt 1473, 3) := dk_163 5 193 (dk_at dksL_law_1 7 rfl rfl)
theorem dL_law_33 : decode cL_law 33 = .ok (.aload_n 0, 1) := dk_42 (dk_at dksL_law_1 10 rfl rfl)
theorem dL_law_34 : decode cL_law 34 = .ok (.iload 4, 2) := dk_21 4 (dk_at dksL_law_1 11 rfl rfl)
theorem dL_law_36 : decode cL_law 36 = .ok (.iaload, 1) := dk_46 (dk_at dksL_law_1 13 rfl rfl)
theorem dL_law_37 : decode cL_law 37 = .ok (.bipush 31, 2) := dk_16 31 (dk_at dksL_law_1 14 rfl rfl)
theorem dL_law_39 : decode cL_law 39 = .ok (.iand, 1) := dk_126 (dk_at dksL_law_1 16 rfl rfl)
theorem dL_law_40 : decode cL_law 40 = .ok (.tableswitch 1457 0 21 #[104, 240, 308, 388, 468, 524, 592, 648, 704, 772, 840, 908, 964, 1032, 1088, 1144, 1200, 1241, 1349, 1417, 1430, 1443], 104) := by decide +kernel
theorem dL_law_144 : decode cL_law 144 = .ok (.aload_n 1, 1) := dk_43 (dk_at dksL_law_3 0 rfl rfl)
theorem dL_law_145 : decode cL_law 145 = .ok (.aload_n 0, 1) := dk_42 (dk_at dksL_law_3 1 rfl rfl)
theorem dL_law_146 : decode cL_law 146 = .ok (.iload 4, 2) := dk_21 4 (dk_at dksL_law_3 2 rfl rfl)
theorem dL_law_148 : decode cL_law 148 = .ok (.iconst 1, 1) := dk_4 (dk_at dksL_law_3 4 rfl rfl)
theorem dL_law_149 : decode cL_law 149 = .ok (.iadd, 1) := dk_96 (dk_at dksL_law_3 5 rfl rfl)
theorem dL_law_150 : decode cL_law 150 = .ok (.iaload, 1) := dk_46 (dk_at dksL_law_3 6 rfl rfl)
theorem dL_law_151 : decode cL_law 151 = .ok (.aload_n 0, 1) := dk_42 (dk_at dksL_law_3 7 rfl rfl)
theorem dL_law_152 : decode cL_law 152 = .ok (.iload 4, 2) := dk_21 4 (dk_at dksL_law_3 8 rfl rfl)
theorem dL_law_154 : decode cL_law 154 = .ok (.iconst 2, 1) := dk_5 (dk_at dksL_law_3 10 rfl rfl)
theorem dL_law_155 : decode cL_law 155 = .ok (.iadd, 1) := dk_96 (dk_at dksL_law_3 11 rfl rfl)
theorem dL_law_156 : decode cL_law 156 = .ok (.iaload, 1) := dk_46 (dk_at dksL_law_3 12 rfl rfl)
theorem dL_law_157 : decode cL_law 157 = .ok (.aload_n 0, 1) := dk_42 (dk_at dksL_law_3 13 rfl rfl)
theorem dL_law_158 : decode cL_law 158 = .ok (.iload 4, 2) := dk_21 4 (dk_at dksL_law_3 14 rfl rfl)
theorem dL_law_160 : decode cL_law 160 = .ok (.iconst 3, 1) := dk_6 (dk_at dksL_law_3 16 rfl rfl)
theorem dL_law_161 : decode cL_law 161 = .ok (.iadd, 1) := dk_96 (dk_at dksL_law_3 17 rfl rfl)
theorem dL_law_162 : decode cL_law 162 = .ok (.iaload, 1) := dk_46 (dk_at dksL_law_3 18 rfl rfl)
theorem dL_law_163 : decode cL_law 163 = .ok (.aload_n 0, 1) := dk_42 (dk_at dksL_law_3 19 rfl rfl)
theorem dL_law_164 : decode cL_law 164 = .ok (.iload 4, 2) := dk_21 4 (dk_at dksL_law_3 20 rfl rfl)
theorem dL_law_166 : decode cL_law 166 = .ok (.iconst 4, 1) := dk_7 (dk_at dksL_law_3 22 rfl rfl)
theorem dL_law_167 : decode cL_law 167 = .ok (.iadd, 1) := dk_96 (dk_at dksL_law_3 23 rfl rfl)
theorem dL_law_168 : decode cL_law 168 = .ok (.iaload, 1) := dk_46 (dk_at dksL_law_4 0 rfl rfl)
theorem dL_law_169 : decode cL_law 169 = .ok (.ifCond .eq 7, 3) := dk_153 0 7 (dk_at dksL_law_4 1 rfl rfl)
theorem dL_law_172 : decode cL_law 172 = .ok (.iconst 1, 1) := dk_4 (dk_at dksL_law_4 4 rfl rfl)
theorem dL_law_173 : decode cL_law 173 = .ok (.goto 4, 3) := dk_167 0 4 (dk_at dksL_law_4 5 rfl rfl)
theorem dL_law_176 : decode cL_law 176 = .ok (.iconst 0, 1) := dk_3 (dk_at dksL_law_4 8 rfl rfl)
theorem dL_law_177 : decode cL_law 177 = .ok (.aload_n 0, 1) := dk_42 (dk_at dksL_law_4 9 rfl rfl)
theorem dL_law_178 : decode cL_law 178 = .ok (.iload 4, 2) := dk_21 4 (dk_at dksL_law_4 10 rfl rfl)
theorem dL_law_180 : decode cL_law 180 = .ok (.iconst 5, 1) := dk_8 (dk_at dksL_law_4 12 rfl rfl)
theorem dL_law_181 : decode cL_law 181 = .ok (.iadd, 1) := dk_96 (dk_at dksL_law_4 13 rfl rfl)
theorem dL_law_182 : decode cL_law 182 = .ok (.iaload, 1) := dk_46 (dk_at dksL_law_4 14 rfl rfl)
theorem dL_law_183 : decode cL_law 183 = .ok (.ifCond .eq 7, 3) := dk_153 0 7 (dk_at dksL_law_4 15 rfl rfl)
theorem dL_law_186 : decode cL_law 186 = .ok (.iconst 1, 1) := dk_4 (dk_at dksL_law_4 18 rfl rfl)
theorem dL_law_187 : decode cL_law 187 = .ok (.goto 4, 3) := dk_167 0 4 (dk_at dksL_law_4 19 rfl rfl)
theorem dL_law_190 : decode cL_law 190 = .ok (.iconst 0, 1) := dk_3 (dk_at dksL_law_4 22 rfl rfl)
theorem dL_law_191 : decode cL_law 191 = .ok (.aload_n 3, 1) := dk_45 (dk_at dksL_law_4 23 rfl rfl)
theorem dL_law_192 : decode cL_law 192 = .ok (.invokestatic 78, 3) := dk_184 0 78 (dk_at dksL_law_5 0 rfl rfl)
theorem dL_law_195 : decode cL_law 195 = .ok (.istore 5, 2) := dk_54 5 (dk_at dksL_law_5 3 rfl rfl)
theorem dL_law_197 : decode cL_law 197 = .ok (.aload_n 2, 1) := dk_44 (dk_at dksL_law_5 5 rfl rfl)
theorem dL_law_198 : decode cL_law 198 = .ok (.aload_n 0, 1) := dk_42 (dk_at dksL_law_5 6 rfl rfl)
theorem dL_law_199 : decode cL_law 199 = .ok (.iload 4, 2) := dk_21 4 (dk_at dksL_law_5 7 rfl rfl)
theorem dL_law_201 : decode cL_law 201 = .ok (.iconst 1, 1) := dk_4 (dk_at dksL_law_5 9 rfl rfl)
theorem dL_law_202 : decode cL_law 202 = .ok (.iadd, 1) := dk_96 (dk_at dksL_law_5 10 rfl rfl)
theorem dL_law_203 : decode cL_law 203 = .ok (.iaload, 1) := dk_46 (dk_at dksL_law_5 11 rfl rfl)
theorem dL_law_204 : decode cL_law 204 = .ok (.aload_n 0, 1) := dk_42 (dk_at dksL_law_5 12 rfl rfl)
theorem dL_law_205 : decode cL_law 205 = .ok (.iload 4, 2) := dk_21 4 (dk_at dksL_law_5 13 rfl rfl)
theorem dL_law_207 : decode cL_law 207 = .ok (.iconst 2, 1) := dk_5 (dk_at dksL_law_5 15 rfl rfl)
theorem dL_law_208 : decode cL_law 208 = .ok (.iadd, 1) := dk_96 (dk_at dksL_law_5 16 rfl rfl)
theorem dL_law_209 : decode cL_law 209 = .ok (.iaload, 1) := dk_46 (dk_at dksL_law_5 17 rfl rfl)
theorem dL_law_210 : decode cL_law 210 = .ok (.aload_n 0, 1) := dk_42 (dk_at dksL_law_5 18 rfl rfl)
theorem dL_law_211 : decode cL_law 211 = .ok (.iload 4, 2) := dk_21 4 (dk_at dksL_law_5 19 rfl rfl)
theorem dL_law_213 : decode cL_law 213 = .ok (.iconst 3, 1) := dk_6 (dk_at dksL_law_5 21 rfl rfl)
theorem dL_law_214 : decode cL_law 214 = .ok (.iadd, 1) := dk_96 (dk_at dksL_law_5 22 rfl rfl)
theorem dL_law_215 : decode cL_law 215 = .ok (.iaload, 1) := dk_46 (dk_at dksL_law_5 23 rfl rfl)
theorem dL_law_216 : decode cL_law 216 = .ok (.aload_n 0, 1) := dk_42 (dk_at dksL_law_6 0 rfl rfl)
theorem dL_law_217 : decode cL_law 217 = .ok (.iload 4, 2) := dk_21 4 (dk_at dksL_law_6 1 rfl rfl)
theorem dL_law_219 : decode cL_law 219 = .ok (.iconst 4, 1) := dk_7 (dk_at dksL_law_6 3 rfl rfl)
theorem dL_law_220 : decode cL_law 220 = .ok (.iadd, 1) := dk_96 (dk_at dksL_law_6 4 rfl rfl)
theorem dL_law_221 : decode cL_law 221 = .ok (.iaload, 1) := dk_46 (dk_at dksL_law_6 5 rfl rfl)
theorem dL_law_222 : decode cL_law 222 = .ok (.ifCond .eq 7, 3) := dk_153 0 7 (dk_at dksL_law_6 6 rfl rfl)
theorem dL_law_225 : decode cL_law 225 = .ok (.iconst 1, 1) := dk_4 (dk_at dksL_law_6 9 rfl rfl)
theorem dL_law_226 : decode cL_law 226 = .ok (.goto 4, 3) := dk_167 0 4 (dk_at dksL_law_6 10 rfl rfl)
theorem dL_law_229 : decode cL_law 229 = .ok (.iconst 0, 1) := dk_3 (dk_at dksL_law_6 13 rfl rfl)
theorem dL_law_230 : decode cL_law 230 = .ok (.aload_n 0, 1) := dk_42 (dk_at dksL_law_6 14 rfl rfl)
theorem dL_law_231 : decode cL_law 231 = .ok (.iload 4, 2) := dk_21 4 (dk_at dksL_law_6 15 rfl rfl)
theorem dL_law_233 : decode cL_law 233 = .ok (.iconst 5, 1) := dk_8 (dk_at dksL_law_6 17 rfl rfl)
theorem dL_law_234 : decode cL_law 234 = .ok (.iadd, 1) := dk_96 (dk_at dksL_law_6 18 rfl rfl)
theorem dL_law_235 : decode cL_law 235 = .ok (.iaload, 1) := dk_46 (dk_at dksL_law_6 19 rfl rfl)
theorem dL_law_236 : decode cL_law 236 = .ok (.ifCond .eq 7, 3) := dk_153 0 7 (dk_at dksL_law_6 20 rfl rfl)
theorem dL_law_239 : decode cL_law 239 = .ok (.iconst 1, 1) := dk_4 (dk_at dksL_law_6 23 rfl rfl)
theorem dL_law_240 : decode cL_law 240 = .ok (.goto 4, 3) := dk_167 0 4 (dk_at dksL_law_7 0 rfl rfl)
theorem dL_law_243 : decode cL_law 243 = .ok (.iconst 0, 1) := dk_3 (dk_at dksL_law_7 3 rfl rfl)
theorem dL_law_244 : decode cL_law 244 = .ok (.invokevirtual 83, 3) := dk_182 0 83 (dk_at dksL_law_7 4 rfl rfl)
theorem dL_law_247 : decode cL_law 247 = .ok (.istore 6, 2) := dk_54 6 (dk_at dksL_law_7 7 rfl rfl)
theorem dL_law_249 : decode cL_law 249 = .ok (.aload_n 2, 1) := dk_44 (dk_at dksL_law_7 9 rfl rfl)
theorem dL_law_250 : decode cL_law 250 = .ok (.invokevirtual 84, 3) := dk_182 0 84 (dk_at dksL_law_7 10 rfl rfl)
theorem dL_law_253 : decode cL_law 253 = .ok (.iload 5, 2) := dk_21 5 (dk_at dksL_law_7 13 rfl rfl)
theorem dL_law_255 : decode cL_law 255 = .ok (.if_icmp .eq 5, 3) := dk_159 0 5 (dk_at dksL_law_7 15 rfl rfl)
theorem dL_law_258 : decode cL_law 258 = .ok (.iconst 0, 1) := dk_3 (dk_at dksL_law_7 18 rfl rfl)
theorem dL_law_259 : decode cL_law 259 = .ok (.ireturn, 1) := dk_172 (dk_at dksL_law_7 19 rfl rfl)
theorem dL_law_260 : decode cL_law 260 = .ok (.iload 5, 2) := dk_21 5 (dk_at dksL_law_7 20 rfl rfl)
theorem dL_law_262 : decode cL_law 262 = .ok (.ifCond .ne 15, 3) := dk_154 0 15 (dk_at dksL_law_8 0 rfl rfl)
theorem dL_law_265 : decode cL_law 265 = .ok (.aload_n 3, 1) := dk_45 (dk_at dksL_law_8 3 rfl rfl)
theorem dL_law_266 : decode cL_law 266 = .ok (.iconst 0, 1) := dk_3 (dk_at dksL_law_8 4 rfl rfl)
theorem dL_law_267 : decode cL_law 267 = .ok (.laload, 1) := dk_47 (dk_at dksL_law_8 5 rfl rfl)
theorem dL_law_268 : decode cL_law 268 = .ok (.iload 6, 2) := dk_21 6 (dk_at dksL_law_8 6 rfl rfl)
theorem dL_law_270 : decode cL_law 270 = .ok (.i2l, 1) := dk_133 (dk_at dksL_law_8 8 rfl rfl)
theorem dL_law_271 : decode cL_law 271 = .ok (.lcmp, 1) := dk_148 (dk_at dksL_law_8 9 rfl rfl)
theorem dL_law_272 : decode cL_law 272 = .ok (.ifCond .eq 5, 3) := dk_153 0 5 (dk_at dksL_law_8 10 rfl rfl)
theorem dL_law_275 : decode cL_law 275 = .ok (.iconst 0, 1) := dk_3 (dk_at dksL_law_8 13 rfl rfl)
theorem dL_law_276 : decode cL_law 276 = .ok (.ireturn, 1) := dk_172 (dk_at dksL_law_8 14 rfl rfl)
theorem dL_law_277 : decode cL_law 277 = .ok (.goto 1220, 3) := dk_167 4 196 (dk_at dksL_law_8 15 rfl rfl)
theorem dL_law_280 : decode cL_law 280 = .ok (.aload_n 1, 1) := dk_43 (dk_at dksL_law_8 18 rfl rfl)
theorem dL_law_281 : decode cL_law 281 = .ok (.aload_n 0, 1) := dk_42 (dk_at dksL_law_8 19 rfl rfl)
theorem dL_law_282 : decode cL_law 282 = .ok (.iload 4, 2) := dk_21 4 (dk_at dksL_law_8 20 rfl rfl)
theorem dL_law_284 : decode cL_law 284 = .ok (.iconst 1, 1) := dk_4 (dk_at dksL_law_8 22 rfl rfl)
theorem dL_law_285 : decode cL_law 285 = .ok (.iadd, 1) := dk_96 (dk_at dksL_law_8 23 rfl rfl)
theorem dL_law_286 : decode cL_law 286 = .ok (.iaload, 1) := dk_46 (dk_at dksL_law_9 0 rfl rfl)
theorem dL_law_287 : decode cL_law 287 = .ok (.aload_n 0, 1) := dk_42 (dk_at dksL_law_9 1 rfl rfl)
theorem dL_law_288 : decode cL_law 288 = .ok (.iload 4, 2) := dk_21 4 (dk_at dksL_law_9 2 rfl rfl)
theorem dL_law_290 : decode cL_law 290 = .ok (.iconst 2, 1) := dk_5 (dk_at dksL_law_9 4 rfl rfl)
theorem dL_law_291 : decode cL_law 291 = .ok (.iadd, 1) := dk_96 (dk_at dksL_law_9 5 rfl rfl)
theorem dL_law_292 : decode cL_law 292 = .ok (.iaload, 1) := dk_46 (dk_at dksL_law_9 6 rfl rfl)
theorem dL_law_293 : decode cL_law 293 = .ok (.aload_n 3, 1) := dk_45 (dk_at dksL_law_9 7 rfl rfl)
theorem dL_law_294 : decode cL_law 294 = .ok (.invokestatic 88, 3) := dk_184 0 88 (dk_at dksL_law_9 8 rfl rfl)
theorem dL_law_297 : decode cL_law 297 = .ok (.istore 5, 2) := dk_54 5 (dk_at dksL_law_9 11 rfl rfl)
theorem dL_law_299 : decode cL_law 299 = .ok (.aload_n 2, 1) := dk_44 (dk_at dksL_law_9 13 rfl rfl)
theorem dL_law_300 : decode cL_law 300 = .ok (.aload_n 0, 1) := dk_42 (dk_at dksL_law_9 14 rfl rfl)
theorem dL_law_301 : decode cL_law 301 = .ok (.iload 4, 2) := dk_21 4 (dk_at dksL_law_9 15 rfl rfl)
theorem dL_law_303 : decode cL_law 303 = .ok (.iconst 1, 1) := dk_4 (dk_at dksL_law_9 17 rfl rfl)
theorem dL_law_304 : decode cL_law 304 = .ok (.iadd, 1) := dk_96 (dk_at dksL_law_9 18 rfl rfl)
theorem dL_law_305 : decode cL_law 305 = .ok (.iaload, 1) := dk_46 (dk_at dksL_law_9 19 rfl rfl)
theorem dL_law_306 : decode cL_law 306 = .ok (.aload_n 0, 1) := dk_42 (dk_at dksL_law_9 20 rfl rfl)
theorem dL_law_307 : decode cL_law 307 = .ok (.iload 4, 2) := dk_21 4 (dk_at dksL_law_9 21 rfl rfl)
theorem dL_law_309 : decode cL_law 309 = .ok (.iconst 2, 1) := dk_5 (dk_at dksL_law_9 23 rfl rfl)
theorem dL_law_310 : decode cL_law 310 = .ok (.iadd, 1) := dk_96 (dk_at dksL_law_10 0 rfl rfl)
theorem dL_law_311 : decode cL_law 311 = .ok (.iaload, 1) := dk_46 (dk_at dksL_law_10 1 rfl rfl)
theorem dL_law_312 : decode cL_law 312 = .ok (.invokevirtual 91, 3) := dk_182 0 91 (dk_at dksL_law_10 2 rfl rfl)
theorem dL_law_315 : decode cL_law 315 = .ok (.istore 6, 2) := dk_54 6 (dk_at dksL_law_10 5 rfl rfl)
theorem dL_law_317 : decode cL_law 317 = .ok (.aload_n 2, 1) := dk_44 (dk_at dksL_law_10 7 rfl rfl)
theorem dL_law_318 : decode cL_law 318 = .ok (.invokevirtual 84, 3) := dk_182 0 84 (dk_at dksL_law_10 8 rfl rfl)
theorem dL_law_321 : decode cL_law 321 = .ok (.iload 5, 2) := dk_21 5 (dk_at dksL_law_10 11 rfl rfl)
theorem dL_law_323 : decode cL_law 323 = .ok (.if_icmp .eq 5, 3) := dk_159 0 5 (dk_at dksL_law_10 13 rfl rfl)
theorem dL_law_326 : decode cL_law 326 = .ok (.iconst 0, 1) := dk_3 (dk_at dksL_law_10 16 rfl rfl)
theorem dL_law_327 : decode cL_law 327 = .ok (.ireturn, 1) := dk_172 (dk_at dksL_law_10 17 rfl rfl)
theorem dL_law_328 : decode cL_law 328 = .ok (.iload 5, 2) := dk_21 5 (dk_at dksL_law_10 18 rfl rfl)
theorem dL_law_330 : decode cL_law 330 = .ok (.ifCond .ne 15, 3) := dk_154 0 15 (dk_at dksL_law_10 20 rfl rfl)
theorem dL_law_333 : decode cL_law 333 = .ok (.aload_n 3, 1) := dk_45 (dk_at dksL_law_10 23 rfl rfl)
theorem dL_law_334 : decode cL_law 334 = .ok (.iconst 0, 1) := dk_3 (dk_at dksL_law_11 0 rfl rfl)
theorem dL_law_335 : decode cL_law 335 = .ok (.laload, 1) := dk_47 (dk_at dksL_law_11 1 rfl rfl)
theorem dL_law_336 : decode cL_law 336 = .ok (.iload 6, 2) := dk_21 6 (dk_at dksL_law_11 2 rfl rfl)
theorem dL_law_338 : decode cL_law 338 = .ok (.i2l, 1) := dk_133 (dk_at dksL_law_11 4 rfl rfl)
theorem dL_law_339 : decode cL_law 339 = .ok (.lcmp, 1) := dk_148 (dk_at dksL_law_11 5 rfl rfl)
theorem dL_law_340 : decode cL_law 340 = .ok (.ifCond .eq 5, 3) := dk_153 0 5 (dk_at dksL_law_11 6 rfl rfl)
theorem dL_law_343 : decode cL_law 343 = .ok (.iconst 0, 1) := dk_3 (dk_at dksL_law_11 9 rfl rfl)
theorem dL_law_344 : decode cL_law 344 = .ok (.ireturn, 1) := dk_172 (dk_at dksL_law_11 10 rfl rfl)
theorem dL_law_345 : decode cL_law 345 = .ok (.goto 1152, 3) := dk_167 4 128 (dk_at dksL_law_11 11 rfl rfl)
theorem dL_law_348 : decode cL_law 348 = .ok (.aload_n 1, 1) := dk_43 (dk_at dksL_law_11 14 rfl rfl)
theorem dL_law_349 : decode cL_law 349 = .ok (.aload_n 0, 1) := dk_42 (dk_at dksL_law_11 15 rfl rfl)
theorem dL_law_350 : decode cL_law 350 = .ok (.iload 4, 2) := dk_21 4 (dk_at dksL_law_11 16 rfl rfl)
theorem dL_law_352 : decode cL_law 352 = .ok (.iconst 1, 1) := dk_4 (dk_at dksL_law_11 18 rfl rfl)
theorem dL_law_353 : decode cL_law 353 = .ok (.iadd, 1) := dk_96 (dk_at dksL_law_11 19 rfl rfl)
theorem dL_law_354 : decode cL_law 354 = .ok (.iaload, 1) := dk_46 (dk_at dksL_law_11 20 rfl rfl)
theorem dL_law_355 : decode cL_law 355 = .ok (.aload_n 0, 1) := dk_42 (dk_at dksL_law_11 21 rfl rfl)
theorem dL_law_356 : decode cL_law 356 = .ok (.iload 4, 2) := dk_21 4 (dk_at dksL_law_11 22 rfl rfl)
theorem dL_law_358 : decode cL_law 358 = .ok (.iconst 2, 1) := dk_5 (dk_at dksL_law_12 0 rfl rfl)
theorem dL_law_359 : decode cL_law 359 = .ok (.iadd, 1) := dk_96 (dk_at dksL_law_12 1 rfl rfl)
theorem dL_law_360 : decode cL_law 360 = .ok (.iaload, 1) := dk_46 (dk_at dksL_law_12 2 rfl rfl)
theorem dL_law_361 : decode cL_law 361 = .ok (.aload_n 0, 1) := dk_42 (dk_at dksL_law_12 3 rfl rfl)
theorem dL_law_362 : decode cL_law 362 = .ok (.iload 4, 2) := dk_21 4 (dk_at dksL_law_12 4 rfl rfl)
theorem dL_law_364 : decode cL_law 364 = .ok (.iconst 3, 1) := dk_6 (dk_at dksL_law_12 6 rfl rfl)
theorem dL_law_365 : decode cL_law 365 = .ok (.iadd, 1) := dk_96 (dk_at dksL_law_12 7 rfl rfl)
theorem dL_law_366 : decode cL_law 366 = .ok (.iaload, 1) := dk_46 (dk_at dksL_law_12 8 rfl rfl)
theorem dL_law_367 : decode cL_law 367 = .ok (.aload_n 3, 1) := dk_45 (dk_at dksL_law_12 9 rfl rfl)
theorem dL_law_368 : decode cL_law 368 = .ok (.invokestatic 92, 3) := dk_184 0 92 (dk_at dksL_law_12 10 rfl rfl)
theorem dL_law_371 : decode cL_law 371 = .ok (.istore 5, 2) := dk_54 5 (dk_at dksL_law_12 13 rfl rfl)
theorem dL_law_373 : decode cL_law 373 = .ok (.aload_n 2, 1) := dk_44 (dk_at dksL_law_12 15 rfl rfl)
theorem dL_law_374 : decode cL_law 374 = .ok (.aload_n 0, 1) := dk_42 (dk_at dksL_law_12 16 rfl rfl)
theorem dL_law_375 : decode cL_law 375 = .ok (.iload 4, 2) := dk_21 4 (dk_at dksL_law_12 17 rfl rfl)
theorem dL_law_377 : decode cL_law 377 = .ok (.iconst 1, 1) := dk_4 (dk_at dksL_law_12 19 rfl rfl)
theorem dL_law_378 : decode cL_law 378 = .ok (.iadd, 1) := dk_96 (dk_at dksL_law_12 20 rfl rfl)
theorem dL_law_379 : decode cL_law 379 = .ok (.iaload, 1) := dk_46 (dk_at dksL_law_12 21 rfl rfl)
theorem dL_law_380 : decode cL_law 380 = .ok (.aload_n 0, 1) := dk_42 (dk_at dksL_law_12 22 rfl rfl)
theorem dL_law_381 : decode cL_law 381 = .ok (.iload 4, 2) := dk_21 4 (dk_at dksL_law_13 0 rfl rfl)
theorem dL_law_383 : decode cL_law 383 = .ok (.iconst 2, 1) := dk_5 (dk_at dksL_law_13 2 rfl rfl)
theorem dL_law_384 : decode cL_law 384 = .ok (.iadd, 1) := dk_96 (dk_at dksL_law_13 3 rfl rfl)
theorem dL_law_385 : decode cL_law 385 = .ok (.iaload, 1) := dk_46 (dk_at dksL_law_13 4 rfl rfl)
theorem dL_law_386 : decode cL_law 386 = .ok (.aload_n 0, 1) := dk_42 (dk_at dksL_law_13 5 rfl rfl)
theorem dL_law_387 : decode cL_law 387 = .ok (.iload 4, 2) := dk_21 4 (dk_at dksL_law_13 6 rfl rfl)
theorem dL_law_389 : decode cL_law 389 = .ok (.iconst 3, 1) := dk_6 (dk_at dksL_law_13 8 rfl rfl)
theorem dL_law_390 : decode cL_law 390 = .ok (.iadd, 1) := dk_96 (dk_at dksL_law_13 9 rfl rfl)
theorem dL_law_391 : decode cL_law 391 = .ok (.iaload, 1) := dk_46 (dk_at dksL_law_13 10 rfl rfl)
theorem dL_law_392 : decode cL_law 392 = .ok (.invokevirtual 95, 3) := dk_182 0 95 (dk_at dksL_law_13 11 rfl rfl)
theorem dL_law_395 : decode cL_law 395 = .ok (.istore 6, 2) := dk_54 6 (dk_at dksL_law_13 14 rfl rfl)
theorem dL_law_397 : decode cL_law 397 = .ok (.aload_n 2, 1) := dk_44 (dk_at dksL_law_13 16 rfl rfl)
theorem dL_law_398 : decode cL_law 398 = .ok (.invokevirtual 84, 3) := dk_182 0 84 (dk_at dksL_law_13 17 rfl rfl)
theorem dL_law_401 : decode cL_law 401 = .ok (.iload 5, 2) := dk_21 5 (dk_at dksL_law_13 20 rfl rfl)
theorem dL_law_403 : decode cL_law 403 = .ok (.if_icmp .eq 5, 3) := dk_159 0 5 (dk_at dksL_law_14 0 rfl rfl)
theorem dL_law_406 : decode cL_law 406 = .ok (.iconst 0, 1) := dk_3 (dk_at dksL_law_14 3 rfl rfl)
theorem dL_law_407 : decode cL_law 407 = .ok (.ireturn, 1) := dk_172 (dk_at dksL_law_14 4 rfl rfl)
theorem dL_law_408 : decode cL_law 408 = .ok (.iload 5, 2) := dk_21 5 (dk_at dksL_law_14 5 rfl rfl)
theorem dL_law_410 : decode cL_law 410 = .ok (.ifCond .ne 15, 3) := dk_154 0 15 (dk_at dksL_law_14 7 rfl rfl)
theorem dL_law_413 : decode cL_law 413 = .ok (.aload_n 3, 1) := dk_45 (dk_at dksL_law_14 10 rfl rfl)
theorem dL_law_414 : decode cL_law 414 = .ok (.iconst 0, 1) := dk_3 (dk_at dksL_law_14 11 rfl rfl)
theorem dL_law_415 : decode cL_law 415 = .ok (.laload, 1) := dk_47 (dk_at dksL_law_14 12 rfl rfl)
theorem dL_law_416 : decode cL_law 416 = .ok (.iload 6, 2) := dk_21 6 (dk_at dksL_law_14 13 rfl rfl)
theorem dL_law_418 : decode cL_law 418 = .ok (.i2l, 1) := dk_133 (dk_at dksL_law_14 15 rfl rfl)
theorem dL_law_419 : decode cL_law 419 = .ok (.lcmp, 1) := dk_148 (dk_at dksL_law_14 16 rfl rfl)
theorem dL_law_420 : decode cL_law 420 = .ok (.ifCond .eq 5, 3) := dk_153 0 5 (dk_at dksL_law_14 17 rfl rfl)
theorem dL_law_423 : decode cL_law 423 = .ok (.iconst 0, 1) := dk_3 (dk_at dksL_law_14 20 rfl rfl)
theorem dL_law_424 : decode cL_law 424 = .ok (.ireturn, 1) := dk_172 (dk_at dksL_law_14 21 rfl rfl)
theorem dL_law_425 : decode cL_law 425 = .ok (.goto 1072, 3) := dk_167 4 48 (dk_at dksL_law_15 0 rfl rfl)
theorem dL_law_428 : decode cL_law 428 = .ok (.aload_n 1, 1) := dk_43 (dk_at dksL_law_15 3 rfl rfl)
theorem dL_law_429 : decode cL_law 429 = .ok (.aload_n 0, 1) := dk_42 (dk_at dksL_law_15 4 rfl rfl)
theorem dL_law_430 : decode cL_law 430 = .ok (.iload 4, 2) := dk_21 4 (dk_at dksL_law_15 5 rfl rfl)
theorem dL_law_432 : decode cL_law 432 = .ok (.iconst 1, 1) := dk_4 (dk_at dksL_law_15 7 rfl rfl)
theorem dL_law_433 : decode cL_law 433 = .ok (.iadd, 1) := dk_96 (dk_at dksL_law_15 8 rfl rfl)
theorem dL_law_434 : decode cL_law 434 = .ok (.iaload, 1) := dk_46 (dk_at dksL_law_15 9 rfl rfl)
theorem dL_law_435 : decode cL_law 435 = .ok (.aload_n 0, 1) := dk_42 (dk_at dksL_law_15 10 rfl rfl)
theorem dL_law_436 : decode cL_law 436 = .ok (.iload 4, 2) := dk_21 4 (dk_at dksL_law_15 11 rfl rfl)
theorem dL_law_438 : decode cL_law 438 = .ok (.iconst 2, 1) := dk_5 (dk_at dksL_law_15 13 rfl rfl)
theorem dL_law_439 : decode cL_law 439 = .ok (.iadd, 1) := dk_96 (dk_at dksL_law_15 14 rfl rfl)
theorem dL_law_440 : decode cL_law 440 = .ok (.iaload, 1) := dk_46 (dk_at dksL_law_15 15 rfl rfl)
theorem dL_law_441 : decode cL_law 441 = .ok (.aload_n 0, 1) := dk_42 (dk_at dksL_law_15 16 rfl rfl)
theorem dL_law_442 : decode cL_law 442 = .ok (.iload 4, 2) := dk_21 4 (dk_at dksL_law_15 17 rfl rfl)
theorem dL_law_444 : decode cL_law 444 = .ok (.iconst 3, 1) := dk_6 (dk_at dksL_law_15 19 rfl rfl)
theorem dL_law_445 : decode cL_law 445 = .ok (.iadd, 1) := dk_96 (dk_at dksL_law_15 20 rfl rfl)
theorem dL_law_446 : decode cL_law 446 = .ok (.iaload, 1) := dk_46 (dk_at dksL_law_15 21 rfl rfl)
theorem dL_law_447 : decode cL_law 447 = .ok (.aload_n 3, 1) := dk_45 (dk_at dksL_law_15 22 rfl rfl)
theorem dL_law_448 : decode cL_law 448 = .ok (.invokestatic 96, 3) := dk_184 0 96 (dk_at dksL_law_16 0 rfl rfl)
theorem dL_law_451 : decode cL_law 451 = .ok (.istore 5, 2) := dk_54 5 (dk_at dksL_law_16 3 rfl rfl)
theorem dL_law_453 : decode cL_law 453 = .ok (.aload_n 2, 1) := dk_44 (dk_at dksL_law_16 5 rfl rfl)
theorem dL_law_454 : decode cL_law 454 = .ok (.aload_n 0, 1) := dk_42 (dk_at dksL_law_16 6 rfl rfl)
theorem dL_law_455 : decode cL_law 455 = .ok (.iload 4, 2) := dk_21 4 (dk_at dksL_law_16 7 rfl rfl)
theorem dL_law_457 : decode cL_law 457 = .ok (.iconst 1, 1) := dk_4 (dk_at dksL_law_16 9 rfl rfl)
theorem dL_law_458 : decode cL_law 458 = .ok (.iadd, 1) := dk_96 (dk_at dksL_law_16 10 rfl rfl)
theorem dL_law_459 : decode cL_law 459 = .ok (.iaload, 1) := dk_46 (dk_at dksL_law_16 11 rfl rfl)
theorem dL_law_460 : decode cL_law 460 = .ok (.aload_n 0, 1) := dk_42 (dk_at dksL_law_16 12 rfl rfl)
theorem dL_law_461 : decode cL_law 461 = .ok (.iload 4, 2) := dk_21 4 (dk_at dksL_law_16 13 rfl rfl)
theorem dL_law_463 : decode cL_law 463 = .ok (.iconst 2, 1) := dk_5 (dk_at dksL_law_16 15 rfl rfl)
theorem dL_law_464 : decode cL_law 464 = .ok (.iadd, 1) := dk_96 (dk_at dksL_law_16 16 rfl rfl)
theorem dL_law_465 : decode cL_law 465 = .ok (.iaload, 1) := dk_46 (dk_at dksL_law_16 17 rfl rfl)
theorem dL_law_466 : decode cL_law 466 = .ok (.aload_n 0, 1) := dk_42 (dk_at dksL_law_16 18 rfl rfl)
theorem dL_law_467 : decode cL_law 467 = .ok (.iload 4, 2) := dk_21 4 (dk_at dksL_law_16 19 rfl rfl)
theorem dL_law_469 : decode cL_law 469 = .ok (.iconst 3, 1) := dk_6 (dk_at dksL_law_16 21 rfl rfl)
theorem dL_law_470 : decode cL_law 470 = .ok (.iadd, 1) := dk_96 (dk_at dksL_law_16 22 rfl rfl)
theorem dL_law_471 : decode cL_law 471 = .ok (.iaload, 1) := dk_46 (dk_at dksL_law_16 23 rfl rfl)
theorem dL_law_472 : decode cL_law 472 = .ok (.invokevirtual 98, 3) := dk_182 0 98 (dk_at dksL_law_17 0 rfl rfl)
theorem dL_law_475 : decode cL_law 475 = .ok (.istore 6, 2) := dk_54 6 (dk_at dksL_law_17 3 rfl rfl)
theorem dL_law_477 : decode cL_law 477 = .ok (.aload_n 2, 1) := dk_44 (dk_at dksL_law_17 5 rfl rfl)
theorem dL_law_478 : decode cL_law 478 = .ok (.invokevirtual 84, 3) := dk_182 0 84 (dk_at dksL_law_17 6 rfl rfl)
theorem dL_law_481 : decode cL_law 481 = .ok (.iload 5, 2) := dk_21 5 (dk_at dksL_law_17 9 rfl rfl)
theorem dL_law_483 : decode cL_law 483 = .ok (.if_icmp .eq 5, 3) := dk_159 0 5 (dk_at dksL_law_17 11 rfl rfl)
theorem dL_law_486 : decode cL_law 486 = .ok (.iconst 0, 1) := dk_3 (dk_at dksL_law_17 14 rfl rfl)
theorem dL_law_487 : decode cL_law 487 = .ok (.ireturn, 1) := dk_172 (dk_at dksL_law_17 15 rfl rfl)
theorem dL_law_488 : decode cL_law 488 = .ok (.iload 5, 2) := dk_21 5 (dk_at dksL_law_17 16 rfl rfl)
theorem dL_law_490 : decode cL_law 490 = .ok (.ifCond .ne 15, 3) := dk_154 0 15 (dk_at dksL_law_17 18 rfl rfl)
theorem dL_law_493 : decode cL_law 493 = .ok (.aload_n 3, 1) := dk_45 (dk_at dksL_law_17 21 rfl rfl)
theorem dL_law_494 : decode cL_law 494 = .ok (.iconst 0, 1) := dk_3 (dk_at dksL_law_17 22 rfl rfl)
theorem dL_law_495 : decode cL_law 495 = .ok (.laload, 1) := dk_47 (dk_at dksL_law_17 23 rfl rfl)
theorem dL_law_496 : decode cL_law 496 = .ok (.iload 6, 2) := dk_21 6 (dk_at dksL_law_18 0 rfl rfl)
theorem dL_law_498 : decode cL_law 498 = .ok (.i2l, 1) := dk_133 (dk_at dksL_law_18 2 rfl rfl)
theorem dL_law_499 : decode cL_law 499 = .ok (.lcmp, 1) := dk_148 (dk_at dksL_law_18 3 rfl rfl)
theorem dL_law_500 : decode cL_law 500 = .ok (.ifCond .eq 5, 3) := dk_153 0 5 (dk_at dksL_law_18 4 rfl rfl)
theorem dL_law_503 : decode cL_law 503 = .ok (.iconst 0, 1) := dk_3 (dk_at dksL_law_18 7 rfl rfl)
theorem dL_law_504 : decode cL_law 504 = .ok (.ireturn, 1) := dk_172 (dk_at dksL_law_18 8 rfl rfl)
theorem dL_law_505 : decode cL_law 505 = .ok (.goto 992, 3) := dk_167 3 224 (dk_at dksL_law_18 9 rfl rfl)
theorem dL_law_508 : decode cL_law 508 = .ok (.aload_n 1, 1) := dk_43 (dk_at dksL_law_18 12 rfl rfl)
theorem dL_law_509 : decode cL_law 509 = .ok (.aload_n 0, 1) := dk_42 (dk_at dksL_law_18 13 rfl rfl)
theorem dL_law_510 : decode cL_law 510 = .ok (.iload 4, 2) := dk_21 4 (dk_at dksL_law_18 14 rfl rfl)
theorem dL_law_512 : decode cL_law 512 = .ok (.iconst 1, 1) := dk_4 (dk_at dksL_law_18 16 rfl rfl)
theorem dL_law_513 : decode cL_law 513 = .ok (.iadd, 1) := dk_96 (dk_at dksL_law_18 17 rfl rfl)
theorem dL_law_514 : decode cL_law 514 = .ok (.iaload, 1) := dk_46 (dk_at dksL_law_18 18 rfl rfl)
theorem dL_law_515 : decode cL_law 515 = .ok (.aload_n 3, 1) := dk_45 (dk_at dksL_law_18 19 rfl rfl)
theorem dL_law_516 : decode cL_law 516 = .ok (.invokestatic 99, 3) := dk_184 0 99 (dk_at dksL_law_18 20 rfl rfl)
theorem dL_law_519 : decode cL_law 519 = .ok (.istore 5, 2) := dk_54 5 (dk_at dksL_law_19 0 rfl rfl)
theorem dL_law_521 : decode cL_law 521 = .ok (.aload_n 2, 1) := dk_44 (dk_at dksL_law_19 2 rfl rfl)
theorem dL_law_522 : decode cL_law 522 = .ok (.aload_n 0, 1) := dk_42 (dk_at dksL_law_19 3 rfl rfl)
theorem dL_law_523 : decode cL_law 523 = .ok (.iload 4, 2) := dk_21 4 (dk_at dksL_law_19 4 rfl rfl)
theorem dL_law_525 : decode cL_law 525 = .ok (.iconst 1, 1) := dk_4 (dk_at dksL_law_19 6 rfl rfl)
theorem dL_law_526 : decode cL_law 526 = .ok (.iadd, 1) := dk_96 (dk_at dksL_law_19 7 rfl rfl)
theorem dL_law_527 : decode cL_law 527 = .ok (.iaload, 1) := dk_46 (dk_at dksL_law_19 8 rfl rfl)
theorem dL_law_528 : decode cL_law 528 = .ok (.invokevirtual 102, 3) := dk_182 0 102 (dk_at dksL_law_19 9 rfl rfl)
theorem dL_law_531 : decode cL_law 531 = .ok (.istore 6, 2) := dk_54 6 (dk_at dksL_law_19 12 rfl rfl)
theorem dL_law_533 : decode cL_law 533 = .ok (.aload_n 2, 1) := dk_44 (dk_at dksL_law_19 14 rfl rfl)
theorem dL_law_534 : decode cL_law 534 = .ok (.invokevirtual 84, 3) := dk_182 0 84 (dk_at dksL_law_19 15 rfl rfl)
theorem dL_law_537 : decode cL_law 537 = .ok (.iload 5, 2) := dk_21 5 (dk_at dksL_law_19 18 rfl rfl)
theorem dL_law_539 : decode cL_law 539 = .ok (.if_icmp .eq 5, 3) := dk_159 0 5 (dk_at dksL_law_19 20 rfl rfl)
theorem dL_law_542 : decode cL_law 542 = .ok (.iconst 0, 1) := dk_3 (dk_at dksL_law_19 23 rfl rfl)
theorem dL_law_543 : decode cL_law 543 = .ok (.ireturn, 1) := dk_172 (dk_at dksL_law_20 0 rfl rfl)
theorem dL_law_544 : decode cL_law 544 = .ok (.iload 5, 2) := dk_21 5 (dk_at dksL_law_20 1 rfl rfl)
theorem dL_law_546 : decode cL_law 546 = .ok (.ifCond .ne 15, 3) := dk_154 0 15 (dk_at dksL_law_20 3 rfl rfl)
theorem dL_law_549 : decode cL_law 549 = .ok (.aload_n 3, 1) := dk_45 (dk_at dksL_law_20 6 rfl rfl)
theorem dL_law_550 : decode cL_law 550 = .ok (.iconst 0, 1) := dk_3 (dk_at dksL_law_20 7 rfl rfl)
theorem dL_law_551 : decode cL_law 551 = .ok (.laload, 1) := dk_47 (dk_at dksL_law_20 8 rfl rfl)
theorem dL_law_552 : decode cL_law 552 = .ok (.iload 6, 2) := dk_21 6 (dk_at dksL_law_20 9 rfl rfl)
theorem dL_law_554 : decode cL_law 554 = .ok (.i2l, 1) := dk_133 (dk_at dksL_law_20 11 rfl rfl)
theorem dL_law_555 : decode cL_law 555 = .ok (.lcmp, 1) := dk_148 (dk_at dksL_law_20 12 rfl rfl)
theorem dL_law_556 : decode cL_law 556 = .ok (.ifCond .eq 5, 3) := dk_153 0 5 (dk_at dksL_law_20 13 rfl rfl)
theorem dL_law_559 : decode cL_law 559 = .ok (.iconst 0, 1) := dk_3 (dk_at dksL_law_20 16 rfl rfl)
theorem dL_law_560 : decode cL_law 560 = .ok (.ireturn, 1) := dk_172 (dk_at dksL_law_20 17 rfl rfl)
theorem dL_law_561 : decode cL_law 561 = .ok (.goto 936, 3) := dk_167 3 168 (dk_at dksL_law_20 18 rfl rfl)
theorem dL_law_564 : decode cL_law 564 = .ok (.aload_n 1, 1) := dk_43 (dk_at dksL_law_20 21 rfl rfl)
theorem dL_law_565 : decode cL_law 565 = .ok (.aload_n 0, 1) := dk_42 (dk_at dksL_law_20 22 rfl rfl)
theorem dL_law_566 : decode cL_law 566 = .ok (.iload 4, 2) := dk_21 4 (dk_at dksL_law_21 0 rfl rfl)
theorem dL_law_568 : decode cL_law 568 = .ok (.iconst 1, 1) := dk_4 (dk_at dksL_law_21 2 rfl rfl)
theorem dL_law_569 : decode cL_law 569 = .ok (.iadd, 1) := dk_96 (dk_at dksL_law_21 3 rfl rfl)
theorem dL_law_570 : decode cL_law 570 = .ok (.iaload, 1) := dk_46 (dk_at dksL_law_21 4 rfl rfl)
theorem dL_law_571 : decode cL_law 571 = .ok (.aload_n 0, 1) := dk_42 (dk_at dksL_law_21 5 rfl rfl)
theorem dL_law_572 : decode cL_law 572 = .ok (.iload 4, 2) := dk_21 4 (dk_at dksL_law_21 6 rfl rfl)
theorem dL_law_574 : decode cL_law 574 = .ok (.iconst 2, 1) := dk_5 (dk_at dksL_law_21 8 rfl rfl)
theorem dL_law_575 : decode cL_law 575 = .ok (.iadd, 1) := dk_96 (dk_at dksL_law_21 9 rfl rfl)
theorem dL_law_576 : decode cL_law 576 = .ok (.iaload, 1) := dk_46 (dk_at dksL_law_21 10 rfl rfl)
theorem dL_law_577 : decode cL_law 577 = .ok (.aload_n 3, 1) := dk_45 (dk_at dksL_law_21 11 rfl rfl)
theorem dL_law_578 : decode cL_law 578 = .ok (.invokestatic 103, 3) := dk_184 0 103 (dk_at dksL_law_21 12 rfl rfl)
theorem dL_law_581 : decode cL_law 581 = .ok (.istore 5, 2) := dk_54 5 (dk_at dksL_law_21 15 rfl rfl)
theorem dL_law_583 : decode cL_law 583 = .ok (.aload_n 2, 1) := dk_44 (dk_at dksL_law_21 17 rfl rfl)
theorem dL_law_584 : decode cL_law 584 = .ok (.aload_n 0, 1) := dk_42 (dk_at dksL_law_21 18 rfl rfl)
theorem dL_law_585 : decode cL_law 585 = .ok (.iload 4, 2) := dk_21 4 (dk_at dksL_law_21 19 rfl rfl)
theorem dL_law_587 : decode cL_law 587 = .ok (.iconst 1, 1) := dk_4 (dk_at dksL_law_21 21 rfl rfl)
theorem dL_law_588 : decode cL_law 588 = .ok (.iadd, 1) := dk_96 (dk_at dksL_law_21 22 rfl rfl)
theorem dL_law_589 : decode cL_law 589 = .ok (.iaload, 1) := dk_46 (dk_at dksL_law_21 23 rfl rfl)
theorem dL_law_590 : decode cL_law 590 = .ok (.aload_n 0, 1) := dk_42 (dk_at dksL_law_22 0 rfl rfl)
theorem dL_law_591 : decode cL_law 591 = .ok (.iload 4, 2) := dk_21 4 (dk_at dksL_law_22 1 rfl rfl)
theorem dL_law_593 : decode cL_law 593 = .ok (.iconst 2, 1) := dk_5 (dk_at dksL_law_22 3 rfl rfl)
theorem dL_law_594 : decode cL_law 594 = .ok (.iadd, 1) := dk_96 (dk_at dksL_law_22 4 rfl rfl)
theorem dL_law_595 : decode cL_law 595 = .ok (.iaload, 1) := dk_46 (dk_at dksL_law_22 5 rfl rfl)
theorem dL_law_596 : decode cL_law 596 = .ok (.invokevirtual 105, 3) := dk_182 0 105 (dk_at dksL_law_22 6 rfl rfl)
theorem dL_law_599 : decode cL_law 599 = .ok (.istore 6, 2) := dk_54 6 (dk_at dksL_law_22 9 rfl rfl)
theorem dL_law_601 : decode cL_law 601 = .ok (.aload_n 2, 1) := dk_44 (dk_at dksL_law_22 11 rfl rfl)
theorem dL_law_602 : decode cL_law 602 = .ok (.invokevirtual 84, 3) := dk_182 0 84 (dk_at dksL_law_22 12 rfl rfl)
theorem dL_law_605 : decode cL_law 605 = .ok (.iload 5, 2) := dk_21 5 (dk_at dksL_law_22 15 rfl rfl)
theorem dL_law_607 : decode cL_law 607 = .ok (.if_icmp .eq 5, 3) := dk_159 0 5 (dk_at dksL_law_22 17 rfl rfl)
theorem dL_law_610 : decode cL_law 610 = .ok (.iconst 0, 1) := dk_3 (dk_at dksL_law_22 20 rfl rfl)
theorem dL_law_611 : decode cL_law 611 = .ok (.ireturn, 1) := dk_172 (dk_at dksL_law_22 21 rfl rfl)
theorem dL_law_612 : decode cL_law 612 = .ok (.iload 5, 2) := dk_21 5 (dk_at dksL_law_22 22 rfl rfl)
theorem dL_law_614 : decode cL_law 614 = .ok (.ifCond .ne 15, 3) := dk_154 0 15 (dk_at dksL_law_23 0 rfl rfl)
theorem dL_law_617 : decode cL_law 617 = .ok (.aload_n 3, 1) := dk_45 (dk_at dksL_law_23 3 rfl rfl)
theorem dL_law_618 : decode cL_law 618 = .ok (.iconst 0, 1) := dk_3 (dk_at dksL_law_23 4 rfl rfl)
theorem dL_law_619 : decode cL_law 619 = .ok (.laload, 1) := dk_47 (dk_at dksL_law_23 5 rfl rfl)
theorem dL_law_620 : decode cL_law 620 = .ok (.iload 6, 2) := dk_21 6 (dk_at dksL_law_23 6 rfl rfl)
theorem dL_law_622 : decode cL_law 622 = .ok (.i2l, 1) := dk_133 (dk_at dksL_law_23 8 rfl rfl)
theorem dL_law_623 : decode cL_law 623 = .ok (.lcmp, 1) := dk_148 (dk_at dksL_law_23 9 rfl rfl)
theorem dL_law_624 : decode cL_law 624 = .ok (.ifCond .eq 5, 3) := dk_153 0 5 (dk_at dksL_law_23 10 rfl rfl)
theorem dL_law_627 : decode cL_law 627 = .ok (.iconst 0, 1) := dk_3 (dk_at dksL_law_23 13 rfl rfl)
theorem dL_law_628 : decode cL_law 628 = .ok (.ireturn, 1) := dk_172 (dk_at dksL_law_23 14 rfl rfl)
theorem dL_law_629 : decode cL_law 629 = .ok (.goto 868, 3) := dk_167 3 100 (dk_at dksL_law_23 15 rfl rfl)
theorem dL_law_632 : decode cL_law 632 = .ok (.aload_n 1, 1) := dk_43 (dk_at dksL_law_23 18 rfl rfl)
theorem dL_law_633 : decode cL_law 633 = .ok (.aload_n 0, 1) := dk_42 (dk_at dksL_law_23 19 rfl rfl)
theorem dL_law_634 : decode cL_law 634 = .ok (.iload 4, 2) := dk_21 4 (dk_at dksL_law_23 20 rfl rfl)
theorem dL_law_636 : decode cL_law 636 = .ok (.iconst 1, 1) := dk_4 (dk_at dksL_law_23 22 rfl rfl)
theorem dL_law_637 : decode cL_law 637 = .ok (.iadd, 1) := dk_96 (dk_at dksL_law_23 23 rfl rfl)
theorem dL_law_638 : decode cL_law 638 = .ok (.iaload, 1) := dk_46 (dk_at dksL_law_24 0 rfl rfl)
theorem dL_law_639 : decode cL_law 639 = .ok (.aload_n 3, 1) := dk_45 (dk_at dksL_law_24 1 rfl rfl)
theorem dL_law_640 : decode cL_law 640 = .ok (.invokestatic 106, 3) := dk_184 0 106 (dk_at dksL_law_24 2 rfl rfl)
theorem dL_law_643 : decode cL_law 643 = .ok (.istore 5, 2) := dk_54 5 (dk_at dksL_law_24 5 rfl rfl)
theorem dL_law_645 : decode cL_law 645 = .ok (.aload_n 2, 1) := dk_44 (dk_at dksL_law_24 7 rfl rfl)
theorem dL_law_646 : decode cL_law 646 = .ok (.aload_n 0, 1) := dk_42 (dk_at dksL_law_24 8 rfl rfl)
theorem dL_law_647 : decode cL_law 647 = .ok (.iload 4, 2) := dk_21 4 (dk_at dksL_law_24 9 rfl rfl)
theorem dL_law_649 : decode cL_law 649 = .ok (.iconst 1, 1) := dk_4 (dk_at dksL_law_24 11 rfl rfl)
theorem dL_law_650 : decode cL_law 650 = .ok (.iadd, 1) := dk_96 (dk_at dksL_law_24 12 rfl rfl)
theorem dL_law_651 : decode cL_law 651 = .ok (.iaload, 1) := dk_46 (dk_at dksL_law_24 13 rfl rfl)
theorem dL_law_652 : decode cL_law 652 = .ok (.invokevirtual 108, 3) := dk_182 0 108 (dk_at dksL_law_24 14 rfl rfl)
theorem dL_law_655 : decode cL_law 655 = .ok (.istore 6, 2) := dk_54 6 (dk_at dksL_law_24 17 rfl rfl)
theorem dL_law_657 : decode cL_law 657 = .ok (.aload_n 2, 1) := dk_44 (dk_at dksL_law_24 19 rfl rfl)
theorem dL_law_658 : decode cL_law 658 = .ok (.invokevirtual 84, 3) := dk_182 0 84 (dk_at dksL_law_24 20 rfl rfl)
theorem dL_law_661 : decode cL_law 661 = .ok (.iload 5, 2) := dk_21 5 (dk_at dksL_law_25 0 rfl rfl)
theorem dL_law_663 : decode cL_law 663 = .ok (.if_icmp .eq 5, 3) := dk_159 0 5 (dk_at dksL_law_25 2 rfl rfl)
theorem dL_law_666 : decode cL_law 666 = .ok (.iconst 0, 1) := dk_3 (dk_at dksL_law_25 5 rfl rfl)
theorem dL_law_667 : decode cL_law 667 = .ok (.ireturn, 1) := dk_172 (dk_at dksL_law_25 6 rfl rfl)
theorem dL_law_668 : decode cL_law 668 = .ok (.iload 5, 2) := dk_21 5 (dk_at dksL_law_25 7 rfl rfl)
theorem dL_law_670 : decode cL_law 670 = .ok (.ifCond .ne 15, 3) := dk_154 0 15 (dk_at dksL_law_25 9 rfl rfl)
theorem dL_law_673 : decode cL_law 673 = .ok (.aload_n 3, 1) := dk_45 (dk_at dksL_law_25 12 rfl rfl)
theorem dL_law_674 : decode cL_law 674 = .ok (.iconst 0, 1) := dk_3 (dk_at dksL_law_25 13 rfl rfl)
theorem dL_law_675 : decode cL_law 675 = .ok (.laload, 1) := dk_47 (dk_at dksL_law_25 14 rfl rfl)
theorem dL_law_676 : decode cL_law 676 = .ok (.iload 6, 2) := dk_21 6 (dk_at dksL_law_25 15 rfl rfl)
theorem dL_law_678 : decode cL_law 678 = .ok (.i2l, 1) := dk_133 (dk_at dksL_law_25 17 rfl rfl)
theorem dL_law_679 : decode cL_law 679 = .ok (.lcmp, 1) := dk_148 (dk_at dksL_law_25 18 rfl rfl)
theorem dL_law_680 : decode cL_law 680 = .ok (.ifCond .eq 5, 3) := dk_153 0 5 (dk_at dksL_law_25 19 rfl rfl)
theorem dL_law_683 : decode cL_law 683 = .ok (.iconst 0, 1) := dk_3 (dk_at dksL_law_25 22 rfl rfl)
theorem dL_law_684 : decode cL_law 684 = .ok (.ireturn, 1) := dk_172 (dk_at dksL_law_25 23 rfl rfl)
theorem dL_law_685 : decode cL_law 685 = .ok (.goto 812, 3) := dk_167 3 44 (dk_at dksL_law_26 0 rfl rfl)
theorem dL_law_688 : decode cL_law 688 = .ok (.aload_n 1, 1) := dk_43 (dk_at dksL_law_26 3 rfl rfl)
theorem dL_law_689 : decode cL_law 689 = .ok (.aload_n 0, 1) := dk_42 (dk_at dksL_law_26 4 rfl rfl)
theorem dL_law_690 : decode cL_law 690 = .ok (.iload 4, 2) := dk_21 4 (dk_at dksL_law_26 5 rfl rfl)
theorem dL_law_692 : decode cL_law 692 = .ok (.iconst 1, 1) := dk_4 (dk_at dksL_law_26 7 rfl rfl)
theorem dL_law_693 : decode cL_law 693 = .ok (.iadd, 1) := dk_96 (dk_at dksL_law_26 8 rfl rfl)
theorem dL_law_694 : decode cL_law 694 = .ok (.iaload, 1) := dk_46 (dk_at dksL_law_26 9 rfl rfl)
theorem dL_law_695 : decode cL_law 695 = .ok (.aload_n 3, 1) := dk_45 (dk_at dksL_law_26 10 rfl rfl)
theorem dL_law_696 : decode cL_law 696 = .ok (.invokestatic 109, 3) := dk_184 0 109 (dk_at dksL_law_26 11 rfl rfl)
theorem dL_law_699 : decode cL_law 699 = .ok (.istore 5, 2) := dk_54 5 (dk_at dksL_law_26 14 rfl rfl)
theorem dL_law_701 : decode cL_law 701 = .ok (.aload_n 2, 1) := dk_44 (dk_at dksL_law_26 16 rfl rfl)
theorem dL_law_702 : decode cL_law 702 = .ok (.aload_n 0, 1) := dk_42 (dk_at dksL_law_26 17 rfl rfl)
theorem dL_law_703 : decode cL_law 703 = .ok (.iload 4, 2) := dk_21 4 (dk_at dksL_law_26 18 rfl rfl)
theorem dL_law_705 : decode cL_law 705 = .ok (.iconst 1, 1) := dk_4 (dk_at dksL_law_26 20 rfl rfl)
theorem dL_law_706 : decode cL_law 706 = .ok (.iadd, 1) := dk_96 (dk_at dksL_law_26 21 rfl rfl)
theorem dL_law_707 : decode cL_law 707 = .ok (.iaload, 1) := dk_46 (dk_at dksL_law_26 22 rfl rfl)
theorem dL_law_708 : decode cL_law 708 = .ok (.invokevirtual 111, 3) := dk_182 0 111 (dk_at dksL_law_27 0 rfl rfl)
theorem dL_law_711 : decode cL_law 711 = .ok (.istore 6, 2) := dk_54 6 (dk_at dksL_law_27 3 rfl rfl)
theorem dL_law_713 : decode cL_law 713 = .ok (.aload_n 2, 1) := dk_44 (dk_at dksL_law_27 5 rfl rfl)
theorem dL_law_714 : decode cL_law 714 = .ok (.invokevirtual 84, 3) := dk_182 0 84 (dk_at dksL_law_27 6 rfl rfl)
theorem dL_law_717 : decode cL_law 717 = .ok (.iload 5, 2) := dk_21 5 (dk_at dksL_law_27 9 rfl rfl)
theorem dL_law_719 : decode cL_law 719 = .ok (.if_icmp .eq 5, 3) := dk_159 0 5 (dk_at dksL_law_27 11 rfl rfl)
theorem dL_law_722 : decode cL_law 722 = .ok (.iconst 0, 1) := dk_3 (dk_at dksL_law_27 14 rfl rfl)
theorem dL_law_723 : decode cL_law 723 = .ok (.ireturn, 1) := dk_172 (dk_at dksL_law_27 15 rfl rfl)
theorem dL_law_724 : decode cL_law 724 = .ok (.iload 5, 2) := dk_21 5 (dk_at dksL_law_27 16 rfl rfl)
theorem dL_law_726 : decode cL_law 726 = .ok (.ifCond .ne 15, 3) := dk_154 0 15 (dk_at dksL_law_27 18 rfl rfl)
theorem dL_law_729 : decode cL_law 729 = .ok (.aload_n 3, 1) := dk_45 (dk_at dksL_law_27 21 rfl rfl)
theorem dL_law_730 : decode cL_law 730 = .ok (.iconst 0, 1) := dk_3 (dk_at dksL_law_27 22 rfl rfl)
theorem dL_law_731 : decode cL_law 731 = .ok (.laload, 1) := dk_47 (dk_at dksL_law_27 23 rfl rfl)
theorem dL_law_732 : decode cL_law 732 = .ok (.iload 6, 2) := dk_21 6 (dk_at dksL_law_28 0 rfl rfl)
theorem dL_law_734 : decode cL_law 734 = .ok (.i2l, 1) := dk_133 (dk_at dksL_law_28 2 rfl rfl)
theorem dL_law_735 : decode cL_law 735 = .ok (.lcmp, 1) := dk_148 (dk_at dksL_law_28 3 rfl rfl)
theorem dL_law_736 : decode cL_law 736 = .ok (.ifCond .eq 5, 3) := dk_153 0 5 (dk_at dksL_law_28 4 rfl rfl)
theorem dL_law_739 : decode cL_law 739 = .ok (.iconst 0, 1) := dk_3 (dk_at dksL_law_28 7 rfl rfl)
theorem dL_law_740 : decode cL_law 740 = .ok (.ireturn, 1) := dk_172 (dk_at dksL_law_28 8 rfl rfl)
theorem dL_law_741 : decode cL_law 741 = .ok (.goto 756, 3) := dk_167 2 244 (dk_at dksL_law_28 9 rfl rfl)
theorem dL_law_744 : decode cL_law 744 = .ok (.aload_n 1, 1) := dk_43 (dk_at dksL_law_28 12 rfl rfl)
theorem dL_law_745 : decode cL_law 745 = .ok (.aload_n 0, 1) := dk_42 (dk_at dksL_law_28 13 rfl rfl)
theorem dL_law_746 : decode cL_law 746 = .ok (.iload 4, 2) := dk_21 4 (dk_at dksL_law_28 14 rfl rfl)
theorem dL_law_748 : decode cL_law 748 = .ok (.iconst 1, 1) := dk_4 (dk_at dksL_law_28 16 rfl rfl)
theorem dL_law_749 : decode cL_law 749 = .ok (.iadd, 1) := dk_96 (dk_at dksL_law_28 17 rfl rfl)
theorem dL_law_750 : decode cL_law 750 = .ok (.iaload, 1) := dk_46 (dk_at dksL_law_28 18 rfl rfl)
theorem dL_law_751 : decode cL_law 751 = .ok (.aload_n 0, 1) := dk_42 (dk_at dksL_law_28 19 rfl rfl)
theorem dL_law_752 : decode cL_law 752 = .ok (.iload 4, 2) := dk_21 4 (dk_at dksL_law_28 20 rfl rfl)
theorem dL_law_754 : decode cL_law 754 = .ok (.iconst 2, 1) := dk_5 (dk_at dksL_law_28 22 rfl rfl)
theorem dL_law_755 : decode cL_law 755 = .ok (.iadd, 1) := dk_96 (dk_at dksL_law_28 23 rfl rfl)
theorem dL_law_756 : decode cL_law 756 = .ok (.iaload, 1) := dk_46 (dk_at dksL_law_29 0 rfl rfl)
theorem dL_law_757 : decode cL_law 757 = .ok (.aload_n 3, 1) := dk_45 (dk_at dksL_law_29 1 rfl rfl)
theorem dL_law_758 : decode cL_law 758 = .ok (.invokestatic 112, 3) := dk_184 0 112 (dk_at dksL_law_29 2 rfl rfl)
theorem dL_law_761 : decode cL_law 761 = .ok (.istore 5, 2) := dk_54 5 (dk_at dksL_law_29 5 rfl rfl)
theorem dL_law_763 : decode cL_law 763 = .ok (.aload_n 2, 1) := dk_44 (dk_at dksL_law_29 7 rfl rfl)
theorem dL_law_764 : decode cL_law 764 = .ok (.aload_n 0, 1) := dk_42 (dk_at dksL_law_29 8 rfl rfl)
theorem dL_law_765 : decode cL_law 765 = .ok (.iload 4, 2) := dk_21 4 (dk_at dksL_law_29 9 rfl rfl)
theorem dL_law_767 : decode cL_law 767 = .ok (.iconst 1, 1) := dk_4 (dk_at dksL_law_29 11 rfl rfl)
theorem dL_law_768 : decode cL_law 768 = .ok (.iadd, 1) := dk_96 (dk_at dksL_law_29 12 rfl rfl)
theorem dL_law_769 : decode cL_law 769 = .ok (.iaload, 1) := dk_46 (dk_at dksL_law_29 13 rfl rfl)
theorem dL_law_770 : decode cL_law 770 = .ok (.aload_n 0, 1) := dk_42 (dk_at dksL_law_29 14 rfl rfl)
theorem dL_law_771 : decode cL_law 771 = .ok (.iload 4, 2) := dk_21 4 (dk_at dksL_law_29 15 rfl rfl)
theorem dL_law_773 : decode cL_law 773 = .ok (.iconst 2, 1) := dk_5 (dk_at dksL_law_29 17 rfl rfl)
theorem dL_law_774 : decode cL_law 774 = .ok (.iadd, 1) := dk_96 (dk_at dksL_law_29 18 rfl rfl)
theorem dL_law_775 : decode cL_law 775 = .ok (.iaload, 1) := dk_46 (dk_at dksL_law_29 19 rfl rfl)
theorem dL_law_776 : decode cL_law 776 = .ok (.invokevirtual 114, 3) := dk_182 0 114 (dk_at dksL_law_29 20 rfl rfl)
theorem dL_law_779 : decode cL_law 779 = .ok (.istore 6, 2) := dk_54 6 (dk_at dksL_law_30 0 rfl rfl)
theorem dL_law_781 : decode cL_law 781 = .ok (.aload_n 2, 1) := dk_44 (dk_at dksL_law_30 2 rfl rfl)
theorem dL_law_782 : decode cL_law 782 = .ok (.invokevirtual 84, 3) := dk_182 0 84 (dk_at dksL_law_30 3 rfl rfl)
theorem dL_law_785 : decode cL_law 785 = .ok (.iload 5, 2) := dk_21 5 (dk_at dksL_law_30 6 rfl rfl)
theorem dL_law_787 : decode cL_law 787 = .ok (.if_icmp .eq 5, 3) := dk_159 0 5 (dk_at dksL_law_30 8 rfl rfl)
theorem dL_law_790 : decode cL_law 790 = .ok (.iconst 0, 1) := dk_3 (dk_at dksL_law_30 11 rfl rfl)
theorem dL_law_791 : decode cL_law 791 = .ok (.ireturn, 1) := dk_172 (dk_at dksL_law_30 12 rfl rfl)
theorem dL_law_792 : decode cL_law 792 = .ok (.iload 5, 2) := dk_21 5 (dk_at dksL_law_30 13 rfl rfl)
theorem dL_law_794 : decode cL_law 794 = .ok (.ifCond .ne 15, 3) := dk_154 0 15 (dk_at dksL_law_30 15 rfl rfl)
theorem dL_law_797 : decode cL_law 797 = .ok (.aload_n 3, 1) := dk_45 (dk_at dksL_law_30 18 rfl rfl)
theorem dL_law_798 : decode cL_law 798 = .ok (.iconst 0, 1) := dk_3 (dk_at dksL_law_30 19 rfl rfl)
theorem dL_law_799 : decode cL_law 799 = .ok (.laload, 1) := dk_47 (dk_at dksL_law_30 20 rfl rfl)
theorem dL_law_800 : decode cL_law 800 = .ok (.iload 6, 2) := dk_21 6 (dk_at dksL_law_30 21 rfl rfl)
theorem dL_law_802 : decode cL_law 802 = .ok (.i2l, 1) := dk_133 (dk_at dksL_law_30 23 rfl rfl)
theorem dL_law_803 : decode cL_law 803 = .ok (.lcmp, 1) := dk_148 (dk_at dksL_law_31 0 rfl rfl)
theorem dL_law_804 : decode cL_law 804 = .ok (.ifCond .eq 5, 3) := dk_153 0 5 (dk_at dksL_law_31 1 rfl rfl)
theorem dL_law_807 : decode cL_law 807 = .ok (.iconst 0, 1) := dk_3 (dk_at dksL_law_31 4 rfl rfl)
theorem dL_law_808 : decode cL_law 808 = .ok (.ireturn, 1) := dk_172 (dk_at dksL_law_31 5 rfl rfl)
theorem dL_law_809 : decode cL_law 809 = .ok (.goto 688, 3) := dk_167 2 176 (dk_at dksL_law_31 6 rfl rfl)
theorem dL_law_812 : decode cL_law 812 = .ok (.aload_n 1, 1) := dk_43 (dk_at dksL_law_31 9 rfl rfl)
theorem dL_law_813 : decode cL_law 813 = .ok (.aload_n 0, 1) := dk_42 (dk_at dksL_law_31 10 rfl rfl)
theorem dL_law_814 : decode cL_law 814 = .ok (.iload 4, 2) := dk_21 4 (dk_at dksL_law_31 11 rfl rfl)
theorem dL_law_816 : decode cL_law 816 = .ok (.iconst 1, 1) := dk_4 (dk_at dksL_law_31 13 rfl rfl)
theorem dL_law_817 : decode cL_law 817 = .ok (.iadd, 1) := dk_96 (dk_at dksL_law_31 14 rfl rfl)
theorem dL_law_818 : decode cL_law 818 = .ok (.iaload, 1) := dk_46 (dk_at dksL_law_31 15 rfl rfl)
theorem dL_law_819 : decode cL_law 819 = .ok (.aload_n 0, 1) := dk_42 (dk_at dksL_law_31 16 rfl rfl)
theorem dL_law_820 : decode cL_law 820 = .ok (.iload 4, 2) := dk_21 4 (dk_at dksL_law_31 17 rfl rfl)
theorem dL_law_822 : decode cL_law 822 = .ok (.iconst 2, 1) := dk_5 (dk_at dksL_law_31 19 rfl rfl)
theorem dL_law_823 : decode cL_law 823 = .ok (.iadd, 1) := dk_96 (dk_at dksL_law_31 20 rfl rfl)
theorem dL_law_824 : decode cL_law 824 = .ok (.iaload, 1) := dk_46 (dk_at dksL_law_31 21 rfl rfl)
theorem dL_law_825 : decode cL_law 825 = .ok (.aload_n 3, 1) := dk_45 (dk_at dksL_law_31 22 rfl rfl)
theorem dL_law_826 : decode cL_law 826 = .ok (.invokestatic 115, 3) := dk_184 0 115 (dk_at dksL_law_32 0 rfl rfl)
theorem dL_law_829 : decode cL_law 829 = .ok (.istore 5, 2) := dk_54 5 (dk_at dksL_law_32 3 rfl rfl)
theorem dL_law_831 : decode cL_law 831 = .ok (.aload_n 2, 1) := dk_44 (dk_at dksL_law_32 5 rfl rfl)
theorem dL_law_832 : decode cL_law 832 = .ok (.aload_n 0, 1) := dk_42 (dk_at dksL_law_32 6 rfl rfl)
theorem dL_law_833 : decode cL_law 833 = .ok (.iload 4, 2) := dk_21 4 (dk_at dksL_law_32 7 rfl rfl)
theorem dL_law_835 : decode cL_law 835 = .ok (.iconst 1, 1) := dk_4 (dk_at dksL_law_32 9 rfl rfl)
theorem dL_law_836 : decode cL_law 836 = .ok (.iadd, 1) := dk_96 (dk_at dksL_law_32 10 rfl rfl)
theorem dL_law_837 : decode cL_law 837 = .ok (.iaload, 1) := dk_46 (dk_at dksL_law_32 11 rfl rfl)
theorem dL_law_838 : decode cL_law 838 = .ok (.aload_n 0, 1) := dk_42 (dk_at dksL_law_32 12 rfl rfl)
theorem dL_law_839 : decode cL_law 839 = .ok (.iload 4, 2) := dk_21 4 (dk_at dksL_law_32 13 rfl rfl)
theorem dL_law_841 : decode cL_law 841 = .ok (.iconst 2, 1) := dk_5 (dk_at dksL_law_32 15 rfl rfl)
theorem dL_law_842 : decode cL_law 842 = .ok (.iadd, 1) := dk_96 (dk_at dksL_law_32 16 rfl rfl)
theorem dL_law_843 : decode cL_law 843 = .ok (.iaload, 1) := dk_46 (dk_at dksL_law_32 17 rfl rfl)
theorem dL_law_844 : decode cL_law 844 = .ok (.invokevirtual 117, 3) := dk_182 0 117 (dk_at dksL_law_32 18 rfl rfl)
theorem dL_law_847 : decode cL_law 847 = .ok (.istore 6, 2) := dk_54 6 (dk_at dksL_law_32 21 rfl rfl)
theorem dL_law_849 : decode cL_law 849 = .ok (.aload_n 2, 1) := dk_44 (dk_at dksL_law_32 23 rfl rfl)
theorem dL_law_850 : decode cL_law 850 = .ok (.invokevirtual 84, 3) := dk_182 0 84 (dk_at dksL_law_33 0 rfl rfl)
theorem dL_law_853 : decode cL_law 853 = .ok (.iload 5, 2) := dk_21 5 (dk_at dksL_law_33 3 rfl rfl)
theorem dL_law_855 : decode cL_law 855 = .ok (.if_icmp .eq 5, 3) := dk_159 0 5 (dk_at dksL_law_33 5 rfl rfl)
theorem dL_law_858 : decode cL_law 858 = .ok (.iconst 0, 1) := dk_3 (dk_at dksL_law_33 8 rfl rfl)
theorem dL_law_859 : decode cL_law 859 = .ok (.ireturn, 1) := dk_172 (dk_at dksL_law_33 9 rfl rfl)
theorem dL_law_860 : decode cL_law 860 = .ok (.iload 5, 2) := dk_21 5 (dk_at dksL_law_33 10 rfl rfl)
theorem dL_law_862 : decode cL_law 862 = .ok (.ifCond .ne 15, 3) := dk_154 0 15 (dk_at dksL_law_33 12 rfl rfl)
theorem dL_law_865 : decode cL_law 865 = .ok (.aload_n 3, 1) := dk_45 (dk_at dksL_law_33 15 rfl rfl)
theorem dL_law_866 : decode cL_law 866 = .ok (.iconst 0, 1) := dk_3 (dk_at dksL_law_33 16 rfl rfl)
theorem dL_law_867 : decode cL_law 867 = .ok (.laload, 1) := dk_47 (dk_at dksL_law_33 17 rfl rfl)
theorem dL_law_868 : decode cL_law 868 = .ok (.iload 6, 2) := dk_21 6 (dk_at dksL_law_33 18 rfl rfl)
theorem dL_law_870 : decode cL_law 870 = .ok (.i2l, 1) := dk_133 (dk_at dksL_law_33 20 rfl rfl)
theorem dL_law_871 : decode cL_law 871 = .ok (.lcmp, 1) := dk_148 (dk_at dksL_law_33 21 rfl rfl)
theorem dL_law_872 : decode cL_law 872 = .ok (.ifCond .eq 5, 3) := dk_153 0 5 (dk_at dksL_law_34 0 rfl rfl)
theorem dL_law_875 : decode cL_law 875 = .ok (.iconst 0, 1) := dk_3 (dk_at dksL_law_34 3 rfl rfl)
theorem dL_law_876 : decode cL_law 876 = .ok (.ireturn, 1) := dk_172 (dk_at dksL_law_34 4 rfl rfl)
theorem dL_law_877 : decode cL_law 877 = .ok (.goto 620, 3) := dk_167 2 108 (dk_at dksL_law_34 5 rfl rfl)
theorem dL_law_880 : decode cL_law 880 = .ok (.aload_n 1, 1) := dk_43 (dk_at dksL_law_34 8 rfl rfl)
theorem dL_law_881 : decode cL_law 881 = .ok (.aload_n 0, 1) := dk_42 (dk_at dksL_law_34 9 rfl rfl)
theorem dL_law_882 : decode cL_law 882 = .ok (.iload 4, 2) := dk_21 4 (dk_at dksL_law_34 10 rfl rfl)
theorem dL_law_884 : decode cL_law 884 = .ok (.iconst 1, 1) := dk_4 (dk_at dksL_law_34 12 rfl rfl)
theorem dL_law_885 : decode cL_law 885 = .ok (.iadd, 1) := dk_96 (dk_at dksL_law_34 13 rfl rfl)
theorem dL_law_886 : decode cL_law 886 = .ok (.iaload, 1) := dk_46 (dk_at dksL_law_34 14 rfl rfl)
theorem dL_law_887 : decode cL_law 887 = .ok (.aload_n 0, 1) := dk_42 (dk_at dksL_law_34 15 rfl rfl)
theorem dL_law_888 : decode cL_law 888 = .ok (.iload 4, 2) := dk_21 4 (dk_at dksL_law_34 16 rfl rfl)
theorem dL_law_890 : decode cL_law 890 = .ok (.iconst 2, 1) := dk_5 (dk_at dksL_law_34 18 rfl rfl)
theorem dL_law_891 : decode cL_law 891 = .ok (.iadd, 1) := dk_96 (dk_at dksL_law_34 19 rfl rfl)
theorem dL_law_892 : decode cL_law 892 = .ok (.iaload, 1) := dk_46 (dk_at dksL_law_34 20 rfl rfl)
theorem dL_law_893 : decode cL_law 893 = .ok (.aload_n 3, 1) := dk_45 (dk_at dksL_law_34 21 rfl rfl)
theorem dL_law_894 : decode cL_law 894 = .ok (.invokestatic 118, 3) := dk_184 0 118 (dk_at dksL_law_35 0 rfl rfl)
theorem dL_law_897 : decode cL_law 897 = .ok (.istore 5, 2) := dk_54 5 (dk_at dksL_law_35 3 rfl rfl)
theorem dL_law_899 : decode cL_law 899 = .ok (.aload_n 2, 1) := dk_44 (dk_at dksL_law_35 5 rfl rfl)
theorem dL_law_900 : decode cL_law 900 = .ok (.aload_n 0, 1) := dk_42 (dk_at dksL_law_35 6 rfl rfl)
theorem dL_law_901 : decode cL_law 901 = .ok (.iload 4, 2) := dk_21 4 (dk_at dksL_law_35 7 rfl rfl)
theorem dL_law_903 : decode cL_law 903 = .ok (.iconst 1, 1) := dk_4 (dk_at dksL_law_35 9 rfl rfl)
theorem dL_law_904 : decode cL_law 904 = .ok (.iadd, 1) := dk_96 (dk_at dksL_law_35 10 rfl rfl)
theorem dL_law_905 : decode cL_law 905 = .ok (.iaload, 1) := dk_46 (dk_at dksL_law_35 11 rfl rfl)
theorem dL_law_906 : decode cL_law 906 = .ok (.aload_n 0, 1) := dk_42 (dk_at dksL_law_35 12 rfl rfl)
theorem dL_law_907 : decode cL_law 907 = .ok (.iload 4, 2) := dk_21 4 (dk_at dksL_law_35 13 rfl rfl)
theorem dL_law_909 : decode cL_law 909 = .ok (.iconst 2, 1) := dk_5 (dk_at dksL_law_35 15 rfl rfl)
theorem dL_law_910 : decode cL_law 910 = .ok (.iadd, 1) := dk_96 (dk_at dksL_law_35 16 rfl rfl)
theorem dL_law_911 : decode cL_law 911 = .ok (.iaload, 1) := dk_46 (dk_at dksL_law_35 17 rfl rfl)
theorem dL_law_912 : decode cL_law 912 = .ok (.invokevirtual 120, 3) := dk_182 0 120 (dk_at dksL_law_35 18 rfl rfl)
theorem dL_law_915 : decode cL_law 915 = .ok (.istore 6, 2) := dk_54 6 (dk_at dksL_law_35 21 rfl rfl)
theorem dL_law_917 : decode cL_law 917 = .ok (.aload_n 2, 1) := dk_44 (dk_at dksL_law_35 23 rfl rfl)
theorem dL_law_918 : decode cL_law 918 = .ok (.invokevirtual 84, 3) := dk_182 0 84 (dk_at dksL_law_36 0 rfl rfl)
theorem dL_law_921 : decode cL_law 921 = .ok (.iload 5, 2) := dk_21 5 (dk_at dksL_law_36 3 rfl rfl)
theorem dL_law_923 : decode cL_law 923 = .ok (.if_icmp .eq 5, 3) := dk_159 0 5 (dk_at dksL_law_36 5 rfl rfl)
theorem dL_law_926 : decode cL_law 926 = .ok (.iconst 0, 1) := dk_3 (dk_at dksL_law_36 8 rfl rfl)
theorem dL_law_927 : decode cL_law 927 = .ok (.ireturn, 1) := dk_172 (dk_at dksL_law_36 9 rfl rfl)
theorem dL_law_928 : decode cL_law 928 = .ok (.iload 5, 2) := dk_21 5 (dk_at dksL_law_36 10 rfl rfl)
theorem dL_law_930 : decode cL_law 930 = .ok (.ifCond .ne 15, 3) := dk_154 0 15 (dk_at dksL_law_36 12 rfl rfl)
theorem dL_law_933 : decode cL_law 933 = .ok (.aload_n 3, 1) := dk_45 (dk_at dksL_law_36 15 rfl rfl)
theorem dL_law_934 : decode cL_law 934 = .ok (.iconst 0, 1) := dk_3 (dk_at dksL_law_36 16 rfl rfl)
theorem dL_law_935 : decode cL_law 935 = .ok (.laload, 1) := dk_47 (dk_at dksL_law_36 17 rfl rfl)
theorem dL_law_936 : decode cL_law 936 = .ok (.iload 6, 2) := dk_21 6 (dk_at dksL_law_36 18 rfl rfl)
theorem dL_law_938 : decode cL_law 938 = .ok (.i2l, 1) := dk_133 (dk_at dksL_law_36 20 rfl rfl)
theorem dL_law_939 : decode cL_law 939 = .ok (.lcmp, 1) := dk_148 (dk_at dksL_law_36 21 rfl rfl)
theorem dL_law_940 : decode cL_law 940 = .ok (.ifCond .eq 5, 3) := dk_153 0 5 (dk_at dksL_law_37 0 rfl rfl)
theorem dL_law_943 : decode cL_law 943 = .ok (.iconst 0, 1) := dk_3 (dk_at dksL_law_37 3 rfl rfl)
theorem dL_law_944 : decode cL_law 944 = .ok (.ireturn, 1) := dk_172 (dk_at dksL_law_37 4 rfl rfl)
theorem dL_law_945 : decode cL_law 945 = .ok (.goto 552, 3) := dk_167 2 40 (dk_at dksL_law_37 5 rfl rfl)
theorem dL_law_948 : decode cL_law 948 = .ok (.aload_n 1, 1) := dk_43 (dk_at dksL_law_37 8 rfl rfl)
theorem dL_law_949 : decode cL_law 949 = .ok (.aload_n 0, 1) := dk_42 (dk_at dksL_law_37 9 rfl rfl)
theorem dL_law_950 : decode cL_law 950 = .ok (.iload 4, 2) := dk_21 4 (dk_at dksL_law_37 10 rfl rfl)
theorem dL_law_952 : decode cL_law 952 = .ok (.iconst 1, 1) := dk_4 (dk_at dksL_law_37 12 rfl rfl)
theorem dL_law_953 : decode cL_law 953 = .ok (.iadd, 1) := dk_96 (dk_at dksL_law_37 13 rfl rfl)
theorem dL_law_954 : decode cL_law 954 = .ok (.iaload, 1) := dk_46 (dk_at dksL_law_37 14 rfl rfl)
theorem dL_law_955 : decode cL_law 955 = .ok (.aload_n 3, 1) := dk_45 (dk_at dksL_law_37 15 rfl rfl)
theorem dL_law_956 : decode cL_law 956 = .ok (.invokestatic 121, 3) := dk_184 0 121 (dk_at dksL_law_37 16 rfl rfl)
theorem dL_law_959 : decode cL_law 959 = .ok (.istore 5, 2) := dk_54 5 (dk_at dksL_law_37 19 rfl rfl)
theorem dL_law_961 : decode cL_law 961 = .ok (.aload_n 2, 1) := dk_44 (dk_at dksL_law_37 21 rfl rfl)
theorem dL_law_962 : decode cL_law 962 = .ok (.aload_n 0, 1) := dk_42 (dk_at dksL_law_37 22 rfl rfl)
theorem dL_law_963 : decode cL_law 963 = .ok (.iload 4, 2) := dk_21 4 (dk_at dksL_law_38 0 rfl rfl)
theorem dL_law_965 : decode cL_law 965 = .ok (.iconst 1, 1) := dk_4 (dk_at dksL_law_38 2 rfl rfl)
theorem dL_law_966 : decode cL_law 966 = .ok (.iadd, 1) := dk_96 (dk_at dksL_law_38 3 rfl rfl)
theorem dL_law_967 : decode cL_law 967 = .ok (.iaload, 1) := dk_46 (dk_at dksL_law_38 4 rfl rfl)
theorem dL_law_968 : decode cL_law 968 = .ok (.invokevirtual 123, 3) := dk_182 0 123 (dk_at dksL_law_38 5 rfl rfl)
theorem dL_law_971 : decode cL_law 971 = .ok (.istore 6, 2) := dk_54 6 (dk_at dksL_law_38 8 rfl rfl)
theorem dL_law_973 : decode cL_law 973 = .ok (.aload_n 2, 1) := dk_44 (dk_at dksL_law_38 10 rfl rfl)
theorem dL_law_974 : decode cL_law 974 = .ok (.invokevirtual 84, 3) := dk_182 0 84 (dk_at dksL_law_38 11 rfl rfl)
theorem dL_law_977 : decode cL_law 977 = .ok (.iload 5, 2) := dk_21 5 (dk_at dksL_law_38 14 rfl rfl)
theorem dL_law_979 : decode cL_law 979 = .ok (.if_icmp .eq 5, 3) := dk_159 0 5 (dk_at dksL_law_38 16 rfl rfl)
theorem dL_law_982 : decode cL_law 982 = .ok (.iconst 0, 1) := dk_3 (dk_at dksL_law_38 19 rfl rfl)
theorem dL_law_983 : decode cL_law 983 = .ok (.ireturn, 1) := dk_172 (dk_at dksL_law_38 20 rfl rfl)
theorem dL_law_984 : decode cL_law 984 = .ok (.iload 5, 2) := dk_21 5 (dk_at dksL_law_38 21 rfl rfl)
theorem dL_law_986 : decode cL_law 986 = .ok (.ifCond .ne 15, 3) := dk_154 0 15 (dk_at dksL_law_39 0 rfl rfl)
theorem dL_law_989 : decode cL_law 989 = .ok (.aload_n 3, 1) := dk_45 (dk_at dksL_law_39 3 rfl rfl)
theorem dL_law_990 : decode cL_law 990 = .ok (.iconst 0, 1) := dk_3 (dk_at dksL_law_39 4 rfl rfl)
theorem dL_law_991 : decode cL_law 991 = .ok (.laload, 1) := dk_47 (dk_at dksL_law_39 5 rfl rfl)
theorem dL_law_992 : decode cL_law 992 = .ok (.iload 6, 2) := dk_21 6 (dk_at dksL_law_39 6 rfl rfl)
theorem dL_law_994 : decode cL_law 994 = .ok (.i2l, 1) := dk_133 (dk_at dksL_law_39 8 rfl rfl)
theorem dL_law_995 : decode cL_law 995 = .ok (.lcmp, 1) := dk_148 (dk_at dksL_law_39 9 rfl rfl)
theorem dL_law_996 : decode cL_law 996 = .ok (.ifCond .eq 5, 3) := dk_153 0 5 (dk_at dksL_law_39 10 rfl rfl)
theorem dL_law_999 : decode cL_law 999 = .ok (.iconst 0, 1) := dk_3 (dk_at dksL_law_39 13 rfl rfl)
theorem dL_law_1000 : decode cL_law 1000 = .ok (.ireturn, 1) := dk_172 (dk_at dksL_law_39 14 rfl rfl)
theorem dL_law_1001 : decode cL_law 1001 = .ok (.goto 496, 3) := dk_167 1 240 (dk_at dksL_law_39 15 rfl rfl)
theorem dL_law_1004 : decode cL_law 1004 = .ok (.aload_n 1, 1) := dk_43 (dk_at dksL_law_39 18 rfl rfl)
theorem dL_law_1005 : decode cL_law 1005 = .ok (.aload_n 0, 1) := dk_42 (dk_at dksL_law_39 19 rfl rfl)
theorem dL_law_1006 : decode cL_law 1006 = .ok (.iload 4, 2) := dk_21 4 (dk_at dksL_law_39 20 rfl rfl)
theorem dL_law_1008 : decode cL_law 1008 = .ok (.iconst 1, 1) := dk_4 (dk_at dksL_law_39 22 rfl rfl)
theorem dL_law_1009 : decode cL_law 1009 = .ok (.iadd, 1) := dk_96 (dk_at dksL_law_39 23 rfl rfl)
theorem dL_law_1010 : decode cL_law 1010 = .ok (.iaload, 1) := dk_46 (dk_at dksL_law_40 0 rfl rfl)
theorem dL_law_1011 : decode cL_law 1011 = .ok (.aload_n 0, 1) := dk_42 (dk_at dksL_law_40 1 rfl rfl)
theorem dL_law_1012 : decode cL_law 1012 = .ok (.iload 4, 2) := dk_21 4 (dk_at dksL_law_40 2 rfl rfl)
theorem dL_law_1014 : decode cL_law 1014 = .ok (.iconst 2, 1) := dk_5 (dk_at dksL_law_40 4 rfl rfl)
theorem dL_law_1015 : decode cL_law 1015 = .ok (.iadd, 1) := dk_96 (dk_at dksL_law_40 5 rfl rfl)
theorem dL_law_1016 : decode cL_law 1016 = .ok (.iaload, 1) := dk_46 (dk_at dksL_law_40 6 rfl rfl)
theorem dL_law_1017 : decode cL_law 1017 = .ok (.aload_n 3, 1) := dk_45 (dk_at dksL_law_40 7 rfl rfl)
theorem dL_law_1018 : decode cL_law 1018 = .ok (.invokestatic 124, 3) := dk_184 0 124 (dk_at dksL_law_40 8 rfl rfl)
theorem dL_law_1021 : decode cL_law 1021 = .ok (.istore 5, 2) := dk_54 5 (dk_at dksL_law_40 11 rfl rfl)
theorem dL_law_1023 : decode cL_law 1023 = .ok (.aload_n 2, 1) := dk_44 (dk_at dksL_law_40 13 rfl rfl)
theorem dL_law_1024 : decode cL_law 1024 = .ok (.aload_n 0, 1) := dk_42 (dk_at dksL_law_40 14 rfl rfl)
theorem dL_law_1025 : decode cL_law 1025 = .ok (.iload 4, 2) := dk_21 4 (dk_at dksL_law_40 15 rfl rfl)
theorem dL_law_1027 : decode cL_law 1027 = .ok (.iconst 1, 1) := dk_4 (dk_at dksL_law_40 17 rfl rfl)
theorem dL_law_1028 : decode cL_law 1028 = .ok (.iadd, 1) := dk_96 (dk_at dksL_law_40 18 rfl rfl)
theorem dL_law_1029 : decode cL_law 1029 = .ok (.iaload, 1) := dk_46 (dk_at dksL_law_40 19 rfl rfl)
theorem dL_law_1030 : decode cL_law 1030 = .ok (.aload_n 0, 1) := dk_42 (dk_at dksL_law_40 20 rfl rfl)
theorem dL_law_1031 : decode cL_law 1031 = .ok (.iload 4, 2) := dk_21 4 (dk_at dksL_law_40 21 rfl rfl)
theorem dL_law_1033 : decode cL_law 1033 = .ok (.iconst 2, 1) := dk_5 (dk_at dksL_law_40 23 rfl rfl)
theorem dL_law_1034 : decode cL_law 1034 = .ok (.iadd, 1) := dk_96 (dk_at dksL_law_41 0 rfl rfl)
theorem dL_law_1035 : decode cL_law 1035 = .ok (.iaload, 1) := dk_46 (dk_at dksL_law_41 1 rfl rfl)
theorem dL_law_1036 : decode cL_law 1036 = .ok (.invokevirtual 126, 3) := dk_182 0 126 (dk_at dksL_law_41 2 rfl rfl)
theorem dL_law_1039 : decode cL_law 1039 = .ok (.istore 6, 2) := dk_54 6 (dk_at dksL_law_41 5 rfl rfl)
theorem dL_law_1041 : decode cL_law 1041 = .ok (.aload_n 2, 1) := dk_44 (dk_at dksL_law_41 7 rfl rfl)
theorem dL_law_1042 : decode cL_law 1042 = .ok (.invokevirtual 84, 3) := dk_182 0 84 (dk_at dksL_law_41 8 rfl rfl)
theorem dL_law_1045 : decode cL_law 1045 = .ok (.iload 5, 2) := dk_21 5 (dk_at dksL_law_41 11 rfl rfl)
theorem dL_law_1047 : decode cL_law 1047 = .ok (.if_icmp .eq 5, 3) := dk_159 0 5 (dk_at dksL_law_41 13 rfl rfl)
theorem dL_law_1050 : decode cL_law 1050 = .ok (.iconst 0, 1) := dk_3 (dk_at dksL_law_41 16 rfl rfl)
theorem dL_law_1051 : decode cL_law 1051 = .ok (.ireturn, 1) := dk_172 (dk_at dksL_law_41 17 rfl rfl)
theorem dL_law_1052 : decode cL_law 1052 = .ok (.iload 5, 2) := dk_21 5 (dk_at dksL_law_41 18 rfl rfl)
theorem dL_law_1054 : decode cL_law 1054 = .ok (.ifCond .ne 15, 3) := dk_154 0 15 (dk_at dksL_law_41 20 rfl rfl)
theorem dL_law_1057 : decode cL_law 1057 = .ok (.aload_n 3, 1) := dk_45 (dk_at dksL_law_41 23 rfl rfl)
theorem dL_law_1058 : decode cL_law 1058 = .ok (.iconst 0, 1) := dk_3 (dk_at dksL_law_42 0 rfl rfl)
theorem dL_law_1059 : decode cL_law 1059 = .ok (.laload, 1) := dk_47 (dk_at dksL_law_42 1 rfl rfl)
theorem dL_law_1060 : decode cL_law 1060 = .ok (.iload 6, 2) := dk_21 6 (dk_at dksL_law_42 2 rfl rfl)
theorem dL_law_1062 : decode cL_law 1062 = .ok (.i2l, 1) := dk_133 (dk_at dksL_law_42 4 rfl rfl)
theorem dL_law_1063 : decode cL_law 1063 = .ok (.lcmp, 1) := dk_148 (dk_at dksL_law_42 5 rfl rfl)
theorem dL_law_1064 : decode cL_law 1064 = .ok (.ifCond .eq 5, 3) := dk_153 0 5 (dk_at dksL_law_42 6 rfl rfl)
theorem dL_law_1067 : decode cL_law 1067 = .ok (.iconst 0, 1) := dk_3 (dk_at dksL_law_42 9 rfl rfl)
theorem dL_law_1068 : decode cL_law 1068 = .ok (.ireturn, 1) := dk_172 (dk_at dksL_law_42 10 rfl rfl)
theorem dL_law_1069 : decode cL_law 1069 = .ok (.goto 428, 3) := dk_167 1 172 (dk_at dksL_law_42 11 rfl rfl)
theorem dL_law_1072 : decode cL_law 1072 = .ok (.aload_n 1, 1) := dk_43 (dk_at dksL_law_42 14 rfl rfl)
theorem dL_law_1073 : decode cL_law 1073 = .ok (.aload_n 0, 1) := dk_42 (dk_at dksL_law_42 15 rfl rfl)
theorem dL_law_1074 : decode cL_law 1074 = .ok (.iload 4, 2) := dk_21 4 (dk_at dksL_law_42 16 rfl rfl)
theorem dL_law_1076 : decode cL_law 1076 = .ok (.iconst 1, 1) := dk_4 (dk_at dksL_law_42 18 rfl rfl)
theorem dL_law_1077 : decode cL_law 1077 = .ok (.iadd, 1) := dk_96 (dk_at dksL_law_42 19 rfl rfl)
theorem dL_law_1078 : decode cL_law 1078 = .ok (.iaload, 1) := dk_46 (dk_at dksL_law_42 20 rfl rfl)
theorem dL_law_1079 : decode cL_law 1079 = .ok (.aload_n 3, 1) := dk_45 (dk_at dksL_law_42 21 rfl rfl)
theorem dL_law_1080 : decode cL_law 1080 = .ok (.invokestatic 127, 3) := dk_184 0 127 (dk_at dksL_law_43 0 rfl rfl)
theorem dL_law_1083 : decode cL_law 1083 = .ok (.istore 5, 2) := dk_54 5 (dk_at dksL_law_43 3 rfl rfl)
theorem dL_law_1085 : decode cL_law 1085 = .ok (.aload_n 2, 1) := dk_44 (dk_at dksL_law_43 5 rfl rfl)
theorem dL_law_1086 : decode cL_law 1086 = .ok (.aload_n 0, 1) := dk_42 (dk_at dksL_law_43 6 rfl rfl)
theorem dL_law_1087 : decode cL_law 1087 = .ok (.iload 4, 2) := dk_21 4 (dk_at dksL_law_43 7 rfl rfl)
theorem dL_law_1089 : decode cL_law 1089 = .ok (.iconst 1, 1) := dk_4 (dk_at dksL_law_43 9 rfl rfl)
theorem dL_law_1090 : decode cL_law 1090 = .ok (.iadd, 1) := dk_96 (dk_at dksL_law_43 10 rfl rfl)
theorem dL_law_1091 : decode cL_law 1091 = .ok (.iaload, 1) := dk_46 (dk_at dksL_law_43 11 rfl rfl)
theorem dL_law_1092 : decode cL_law 1092 = .ok (.invokevirtual 129, 3) := dk_182 0 129 (dk_at dksL_law_43 12 rfl rfl)
theorem dL_law_1095 : decode cL_law 1095 = .ok (.istore 6, 2) := dk_54 6 (dk_at dksL_law_43 15 rfl rfl)
theorem dL_law_1097 : decode cL_law 1097 = .ok (.aload_n 2, 1) := dk_44 (dk_at dksL_law_43 17 rfl rfl)
theorem dL_law_1098 : decode cL_law 1098 = .ok (.invokevirtual 84, 3) := dk_182 0 84 (dk_at dksL_law_43 18 rfl rfl)
theorem dL_law_1101 : decode cL_law 1101 = .ok (.iload 5, 2) := dk_21 5 (dk_at dksL_law_43 21 rfl rfl)
theorem dL_law_1103 : decode cL_law 1103 = .ok (.if_icmp .eq 5, 3) := dk_159 0 5 (dk_at dksL_law_44 0 rfl rfl)
theorem dL_law_1106 : decode cL_law 1106 = .ok (.iconst 0, 1) := dk_3 (dk_at dksL_law_44 3 rfl rfl)
theorem dL_law_1107 : decode cL_law 1107 = .ok (.ireturn, 1) := dk_172 (dk_at dksL_law_44 4 rfl rfl)
theorem dL_law_1108 : decode cL_law 1108 = .ok (.iload 5, 2) := dk_21 5 (dk_at dksL_law_44 5 rfl rfl)
theorem dL_law_1110 : decode cL_law 1110 = .ok (.ifCond .ne 15, 3) := dk_154 0 15 (dk_at dksL_law_44 7 rfl rfl)
theorem dL_law_1113 : decode cL_law 1113 = .ok (.aload_n 3, 1) := dk_45 (dk_at dksL_law_44 10 rfl rfl)
theorem dL_law_1114 : decode cL_law 1114 = .ok (.iconst 0, 1) := dk_3 (dk_at dksL_law_44 11 rfl rfl)
theorem dL_law_1115 : decode cL_law 1115 = .ok (.laload, 1) := dk_47 (dk_at dksL_law_44 12 rfl rfl)
theorem dL_law_1116 : decode cL_law 1116 = .ok (.iload 6, 2) := dk_21 6 (dk_at dksL_law_44 13 rfl rfl)
theorem dL_law_1118 : decode cL_law 1118 = .ok (.i2l, 1) := dk_133 (dk_at dksL_law_44 15 rfl rfl)
theorem dL_law_1119 : decode cL_law 1119 = .ok (.lcmp, 1) := dk_148 (dk_at dksL_law_44 16 rfl rfl)
theorem dL_law_1120 : decode cL_law 1120 = .ok (.ifCond .eq 5, 3) := dk_153 0 5 (dk_at dksL_law_44 17 rfl rfl)
theorem dL_law_1123 : decode cL_law 1123 = .ok (.iconst 0, 1) := dk_3 (dk_at dksL_law_44 20 rfl rfl)
theorem dL_law_1124 : decode cL_law 1124 = .ok (.ireturn, 1) := dk_172 (dk_at dksL_law_44 21 rfl rfl)
theorem dL_law_1125 : decode cL_law 1125 = .ok (.goto 372, 3) := dk_167 1 116 (dk_at dksL_law_45 0 rfl rfl)
theorem dL_law_1128 : decode cL_law 1128 = .ok (.aload_n 1, 1) := dk_43 (dk_at dksL_law_45 3 rfl rfl)
theorem dL_law_1129 : decode cL_law 1129 = .ok (.aload_n 0, 1) := dk_42 (dk_at dksL_law_45 4 rfl rfl)
theorem dL_law_1130 : decode cL_law 1130 = .ok (.iload 4, 2) := dk_21 4 (dk_at dksL_law_45 5 rfl rfl)
theorem dL_law_1132 : decode cL_law 1132 = .ok (.iconst 1, 1) := dk_4 (dk_at dksL_law_45 7 rfl rfl)
theorem dL_law_1133 : decode cL_law 1133 = .ok (.iadd, 1) := dk_96 (dk_at dksL_law_45 8 rfl rfl)
theorem dL_law_1134 : decode cL_law 1134 = .ok (.iaload, 1) := dk_46 (dk_at dksL_law_45 9 rfl rfl)
theorem dL_law_1135 : decode cL_law 1135 = .ok (.aload_n 3, 1) := dk_45 (dk_at dksL_law_45 10 rfl rfl)
theorem dL_law_1136 : decode cL_law 1136 = .ok (.invokestatic 130, 3) := dk_184 0 130 (dk_at dksL_law_45 11 rfl rfl)
theorem dL_law_1139 : decode cL_law 1139 = .ok (.istore 5, 2) := dk_54 5 (dk_at dksL_law_45 14 rfl rfl)
theorem dL_law_1141 : decode cL_law 1141 = .ok (.aload_n 2, 1) := dk_44 (dk_at dksL_law_45 16 rfl rfl)
theorem dL_law_1142 : decode cL_law 1142 = .ok (.aload_n 0, 1) := dk_42 (dk_at dksL_law_45 17 rfl rfl)
theorem dL_law_1143 : decode cL_law 1143 = .ok (.iload 4, 2) := dk_21 4 (dk_at dksL_law_45 18 rfl rfl)
theorem dL_law_1145 : decode cL_law 1145 = .ok (.iconst 1, 1) := dk_4 (dk_at dksL_law_45 20 rfl rfl)
theorem dL_law_1146 : decode cL_law 1146 = .ok (.iadd, 1) := dk_96 (dk_at dksL_law_45 21 rfl rfl)
theorem dL_law_1147 : decode cL_law 1147 = .ok (.iaload, 1) := dk_46 (dk_at dksL_law_45 22 rfl rfl)
theorem dL_law_1148 : decode cL_law 1148 = .ok (.invokevirtual 132, 3) := dk_182 0 132 (dk_at dksL_law_46 0 rfl rfl)
theorem dL_law_1151 : decode cL_law 1151 = .ok (.istore 6, 2) := dk_54 6 (dk_at dksL_law_46 3 rfl rfl)
theorem dL_law_1153 : decode cL_law 1153 = .ok (.aload_n 2, 1) := dk_44 (dk_at dksL_law_46 5 rfl rfl)
theorem dL_law_1154 : decode cL_law 1154 = .ok (.invokevirtual 84, 3) := dk_182 0 84 (dk_at dksL_law_46 6 rfl rfl)
theorem dL_law_1157 : decode cL_law 1157 = .ok (.iload 5, 2) := dk_21 5 (dk_at dksL_law_46 9 rfl rfl)
theorem dL_law_1159 : decode cL_law 1159 = .ok (.if_icmp .eq 5, 3) := dk_159 0 5 (dk_at dksL_law_46 11 rfl rfl)
theorem dL_law_1162 : decode cL_law 1162 = .ok (.iconst 0, 1) := dk_3 (dk_at dksL_law_46 14 rfl rfl)
theorem dL_law_1163 : decode cL_law 1163 = .ok (.ireturn, 1) := dk_172 (dk_at dksL_law_46 15 rfl rfl)
theorem dL_law_1164 : decode cL_law 1164 = .ok (.iload 5, 2) := dk_21 5 (dk_at dksL_law_46 16 rfl rfl)
theorem dL_law_1166 : decode cL_law 1166 = .ok (.ifCond .ne 15, 3) := dk_154 0 15 (dk_at dksL_law_46 18 rfl rfl)
theorem dL_law_1169 : decode cL_law 1169 = .ok (.aload_n 3, 1) := dk_45 (dk_at dksL_law_46 21 rfl rfl)
theorem dL_law_1170 : decode cL_law 1170 = .ok (.iconst 0, 1) := dk_3 (dk_at dksL_law_46 22 rfl rfl)
theorem dL_law_1171 : decode cL_law 1171 = .ok (.laload, 1) := dk_47 (dk_at dksL_law_46 23 rfl rfl)
theorem dL_law_1172 : decode cL_law 1172 = .ok (.iload 6, 2) := dk_21 6 (dk_at dksL_law_47 0 rfl rfl)
theorem dL_law_1174 : decode cL_law 1174 = .ok (.i2l, 1) := dk_133 (dk_at dksL_law_47 2 rfl rfl)
theorem dL_law_1175 : decode cL_law 1175 = .ok (.lcmp, 1) := dk_148 (dk_at dksL_law_47 3 rfl rfl)
theorem dL_law_1176 : decode cL_law 1176 = .ok (.ifCond .eq 5, 3) := dk_153 0 5 (dk_at dksL_law_47 4 rfl rfl)
theorem dL_law_1179 : decode cL_law 1179 = .ok (.iconst 0, 1) := dk_3 (dk_at dksL_law_47 7 rfl rfl)
theorem dL_law_1180 : decode cL_law 1180 = .ok (.ireturn, 1) := dk_172 (dk_at dksL_law_47 8 rfl rfl)
theorem dL_law_1181 : decode cL_law 1181 = .ok (.goto 316, 3) := dk_167 1 60 (dk_at dksL_law_47 9 rfl rfl)
theorem dL_law_1184 : decode cL_law 1184 = .ok (.aload_n 1, 1) := dk_43 (dk_at dksL_law_47 12 rfl rfl)
theorem dL_law_1185 : decode cL_law 1185 = .ok (.aload_n 0, 1) := dk_42 (dk_at dksL_law_47 13 rfl rfl)
theorem dL_law_1186 : decode cL_law 1186 = .ok (.iload 4, 2) := dk_21 4 (dk_at dksL_law_47 14 rfl rfl)
theorem dL_law_1188 : decode cL_law 1188 = .ok (.iconst 1, 1) := dk_4 (dk_at dksL_law_47 16 rfl rfl)
theorem dL_law_1189 : decode cL_law 1189 = .ok (.iadd, 1) := dk_96 (dk_at dksL_law_47 17 rfl rfl)
theorem dL_law_1190 : decode cL_law 1190 = .ok (.iaload, 1) := dk_46 (dk_at dksL_law_47 18 rfl rfl)
theorem dL_law_1191 : decode cL_law 1191 = .ok (.aload_n 3, 1) := dk_45 (dk_at dksL_law_47 19 rfl rfl)
theorem dL_law_1192 : decode cL_law 1192 = .ok (.invokestatic 133, 3) := dk_184 0 133 (dk_at dksL_law_47 20 rfl rfl)
theorem dL_law_1195 : decode cL_law 1195 = .ok (.istore 5, 2) := dk_54 5 (dk_at dksL_law_48 0 rfl rfl)
theorem dL_law_1197 : decode cL_law 1197 = .ok (.aload_n 2, 1) := dk_44 (dk_at dksL_law_48 2 rfl rfl)
theorem dL_law_1198 : decode cL_law 1198 = .ok (.aload_n 0, 1) := dk_42 (dk_at dksL_law_48 3 rfl rfl)
theorem dL_law_1199 : decode cL_law 1199 = .ok (.iload 4, 2) := dk_21 4 (dk_at dksL_law_48 4 rfl rfl)
theorem dL_law_1201 : decode cL_law 1201 = .ok (.iconst 1, 1) := dk_4 (dk_at dksL_law_48 6 rfl rfl)
theorem dL_law_1202 : decode cL_law 1202 = .ok (.iadd, 1) := dk_96 (dk_at dksL_law_48 7 rfl rfl)
theorem dL_law_1203 : decode cL_law 1203 = .ok (.iaload, 1) := dk_46 (dk_at dksL_law_48 8 rfl rfl)
theorem dL_law_1204 : decode cL_law 1204 = .ok (.invokevirtual 135, 3) := dk_182 0 135 (dk_at dksL_law_48 9 rfl rfl)
theorem dL_law_1207 : decode cL_law 1207 = .ok (.istore 6, 2) := dk_54 6 (dk_at dksL_law_48 12 rfl rfl)
theorem dL_law_1209 : decode cL_law 1209 = .ok (.aload_n 2, 1) := dk_44 (dk_at dksL_law_48 14 rfl rfl)
theorem dL_law_1210 : decode cL_law 1210 = .ok (.invokevirtual 84, 3) := dk_182 0 84 (dk_at dksL_law_48 15 rfl rfl)
theorem dL_law_1213 : decode cL_law 1213 = .ok (.iload 5, 2) := dk_21 5 (dk_at dksL_law_48 18 rfl rfl)
theorem dL_law_1215 : decode cL_law 1215 = .ok (.if_icmp .eq 5, 3) := dk_159 0 5 (dk_at dksL_law_48 20 rfl rfl)
theorem dL_law_1218 : decode cL_law 1218 = .ok (.iconst 0, 1) := dk_3 (dk_at dksL_law_48 23 rfl rfl)
theorem dL_law_1219 : decode cL_law 1219 = .ok (.ireturn, 1) := dk_172 (dk_at dksL_law_49 0 rfl rfl)
theorem dL_law_1220 : decode cL_law 1220 = .ok (.iload 5, 2) := dk_21 5 (dk_at dksL_law_49 1 rfl rfl)
theorem dL_law_1222 : decode cL_law 1222 = .ok (.ifCond .ne 15, 3) := dk_154 0 15 (dk_at dksL_law_49 3 rfl rfl)
theorem dL_law_1225 : decode cL_law 1225 = .ok (.aload_n 3, 1) := dk_45 (dk_at dksL_law_49 6 rfl rfl)
theorem dL_law_1226 : decode cL_law 1226 = .ok (.iconst 0, 1) := dk_3 (dk_at dksL_law_49 7 rfl rfl)
theorem dL_law_1227 : decode cL_law 1227 = .ok (.laload, 1) := dk_47 (dk_at dksL_law_49 8 rfl rfl)
theorem dL_law_1228 : decode cL_law 1228 = .ok (.iload 6, 2) := dk_21 6 (dk_at dksL_law_49 9 rfl rfl)
theorem dL_law_1230 : decode cL_law 1230 = .ok (.i2l, 1) := dk_133 (dk_at dksL_law_49 11 rfl rfl)
theorem dL_law_1231 : decode cL_law 1231 = .ok (.lcmp, 1) := dk_148 (dk_at dksL_law_49 12 rfl rfl)
theorem dL_law_1232 : decode cL_law 1232 = .ok (.ifCond .eq 5, 3) := dk_153 0 5 (dk_at dksL_law_49 13 rfl rfl)
theorem dL_law_1235 : decode cL_law 1235 = .ok (.iconst 0, 1) := dk_3 (dk_at dksL_law_49 16 rfl rfl)
theorem dL_law_1236 : decode cL_law 1236 = .ok (.ireturn, 1) := dk_172 (dk_at dksL_law_49 17 rfl rfl)
theorem dL_law_1237 : decode cL_law 1237 = .ok (.goto 260, 3) := dk_167 1 4 (dk_at dksL_law_49 18 rfl rfl)
theorem dL_law_1240 : decode cL_law 1240 = .ok (.aload_n 1, 1) := dk_43 (dk_at dksL_law_49 21 rfl rfl)
theorem dL_law_1241 : decode cL_law 1241 = .ok (.invokevirtual 136, 3) := dk_182 0 136 (dk_at dksL_law_50 0 rfl rfl)
theorem dL_law_1244 : decode cL_law 1244 = .ok (.dstore 5, 2) := dk_57 5 (dk_at dksL_law_50 3 rfl rfl)
theorem dL_law_1246 : decode cL_law 1246 = .ok (.aload_n 2, 1) := dk_44 (dk_at dksL_law_50 5 rfl rfl)
theorem dL_law_1247 : decode cL_law 1247 = .ok (.invokevirtual 140, 3) := dk_182 0 140 (dk_at dksL_law_50 6 rfl rfl)
theorem dL_law_1250 : decode cL_law 1250 = .ok (.dstore 7, 2) := dk_57 7 (dk_at dksL_law_50 9 rfl rfl)
theorem dL_law_1252 : decode cL_law 1252 = .ok (.dload 5, 2) := dk_24 5 (dk_at dksL_law_50 11 rfl rfl)
theorem dL_law_1254 : decode cL_law 1254 = .ok (.dload 7, 2) := dk_24 7 (dk_at dksL_law_50 13 rfl rfl)
theorem dL_law_1256 : decode cL_law 1256 = .ok (.dcmp .l, 1) := dk_151 (dk_at dksL_law_50 15 rfl rfl)
theorem dL_law_1257 : decode cL_law 1257 = .ok (.ifCond .eq 21, 3) := dk_153 0 21 (dk_at dksL_law_50 16 rfl rfl)
theorem dL_law_1260 : decode cL_law 1260 = .ok (.dload 5, 2) := dk_24 5 (dk_at dksL_law_50 19 rfl rfl)
theorem dL_law_1262 : decode cL_law 1262 = .ok (.dload 5, 2) := dk_24 5 (dk_at dksL_law_50 21 rfl rfl)
theorem dL_law_1264 : decode cL_law 1264 = .ok (.dcmp .l, 1) := dk_151 (dk_at dksL_law_50 23 rfl rfl)
theorem dL_law_1265 : decode cL_law 1265 = .ok (.ifCond .eq 11, 3) := dk_153 0 11 (dk_at dksL_law_51 0 rfl rfl)
theorem dL_law_1268 : decode cL_law 1268 = .ok (.dload 7, 2) := dk_24 7 (dk_at dksL_law_51 3 rfl rfl)
theorem dL_law_1270 : decode cL_law 1270 = .ok (.dload 7, 2) := dk_24 7 (dk_at dksL_law_51 5 rfl rfl)
theorem dL_law_1272 : decode cL_law 1272 = .ok (.dcmp .l, 1) := dk_151 (dk_at dksL_law_51 7 rfl rfl)
theorem dL_law_1273 : decode cL_law 1273 = .ok (.ifCond .ne 5, 3) := dk_154 0 5 (dk_at dksL_law_51 8 rfl rfl)
theorem dL_law_1276 : decode cL_law 1276 = .ok (.iconst 0, 1) := dk_3 (dk_at dksL_law_51 11 rfl rfl)
theorem dL_law_1277 : decode cL_law 1277 = .ok (.ireturn, 1) := dk_172 (dk_at dksL_law_51 12 rfl rfl)
theorem dL_law_1278 : decode cL_law 1278 = .ok (.goto 219, 3) := dk_167 0 219 (dk_at dksL_law_51 13 rfl rfl)
theorem dL_law_1281 : decode cL_law 1281 = .ok (.aload_n 1, 1) := dk_43 (dk_at dksL_law_51 16 rfl rfl)
theorem dL_law_1282 : decode cL_law 1282 = .ok (.aload_n 0, 1) := dk_42 (dk_at dksL_law_51 17 rfl rfl)
theorem dL_law_1283 : decode cL_law 1283 = .ok (.iload 4, 2) := dk_21 4 (dk_at dksL_law_51 18 rfl rfl)
theorem dL_law_1285 : decode cL_law 1285 = .ok (.iconst 1, 1) := dk_4 (dk_at dksL_law_51 20 rfl rfl)
theorem dL_law_1286 : decode cL_law 1286 = .ok (.iadd, 1) := dk_96 (dk_at dksL_law_51 21 rfl rfl)
theorem dL_law_1287 : decode cL_law 1287 = .ok (.iaload, 1) := dk_46 (dk_at dksL_law_51 22 rfl rfl)
theorem dL_law_1288 : decode cL_law 1288 = .ok (.aload_n 0, 1) := dk_42 (dk_at dksL_law_51 23 rfl rfl)
theorem dL_law_1289 : decode cL_law 1289 = .ok (.iload 4, 2) := dk_21 4 (dk_at dksL_law_52 0 rfl rfl)
theorem dL_law_1291 : decode cL_law 1291 = .ok (.iconst 2, 1) := dk_5 (dk_at dksL_law_52 2 rfl rfl)
theorem dL_law_1292 : decode cL_law 1292 = .ok (.iadd, 1) := dk_96 (dk_at dksL_law_52 3 rfl rfl)
theorem dL_law_1293 : decode cL_law 1293 = .ok (.iaload, 1) := dk_46 (dk_at dksL_law_52 4 rfl rfl)
theorem dL_law_1294 : decode cL_law 1294 = .ok (.aload_n 0, 1) := dk_42 (dk_at dksL_law_52 5 rfl rfl)
theorem dL_law_1295 : decode cL_law 1295 = .ok (.iload 4, 2) := dk_21 4 (dk_at dksL_law_52 6 rfl rfl)
theorem dL_law_1297 : decode cL_law 1297 = .ok (.iconst 3, 1) := dk_6 (dk_at dksL_law_52 8 rfl rfl)
theorem dL_law_1298 : decode cL_law 1298 = .ok (.iadd, 1) := dk_96 (dk_at dksL_law_52 9 rfl rfl)
theorem dL_law_1299 : decode cL_law 1299 = .ok (.iaload, 1) := dk_46 (dk_at dksL_law_52 10 rfl rfl)
theorem dL_law_1300 : decode cL_law 1300 = .ok (.ifCond .eq 7, 3) := dk_153 0 7 (dk_at dksL_law_52 11 rfl rfl)
theorem dL_law_1303 : decode cL_law 1303 = .ok (.iconst 1, 1) := dk_4 (dk_at dksL_law_52 14 rfl rfl)
theorem dL_law_1304 : decode cL_law 1304 = .ok (.goto 4, 3) := dk_167 0 4 (dk_at dksL_law_52 15 rfl rfl)
theorem dL_law_1307 : decode cL_law 1307 = .ok (.iconst 0, 1) := dk_3 (dk_at dksL_law_52 18 rfl rfl)
theorem dL_law_1308 : decode cL_law 1308 = .ok (.aload_n 0, 1) := dk_42 (dk_at dksL_law_52 19 rfl rfl)
theorem dL_law_1309 : decode cL_law 1309 = .ok (.iload 4, 2) := dk_21 4 (dk_at dksL_law_52 20 rfl rfl)
theorem dL_law_1311 : decode cL_law 1311 = .ok (.iconst 4, 1) := dk_7 (dk_at dksL_law_52 22 rfl rfl)
theorem dL_law_1312 : decode cL_law 1312 = .ok (.iadd, 1) := dk_96 (dk_at dksL_law_52 23 rfl rfl)
theorem dL_law_1313 : decode cL_law 1313 = .ok (.iaload, 1) := dk_46 (dk_at dksL_law_53 0 rfl rfl)
theorem dL_law_1314 : decode cL_law 1314 = .ok (.aload_n 3, 1) := dk_45 (dk_at dksL_law_53 1 rfl rfl)
theorem dL_law_1315 : decode cL_law 1315 = .ok (.invokestatic 141, 3) := dk_184 0 141 (dk_at dksL_law_53 2 rfl rfl)
theorem dL_law_1318 : decode cL_law 1318 = .ok (.istore 5, 2) := dk_54 5 (dk_at dksL_law_53 5 rfl rfl)
theorem dL_law_1320 : decode cL_law 1320 = .ok (.aload_n 2, 1) := dk_44 (dk_at dksL_law_53 7 rfl rfl)
theorem dL_law_1321 : decode cL_law 1321 = .ok (.aload_n 0, 1) := dk_42 (dk_at dksL_law_53 8 rfl rfl)
theorem dL_law_1322 : decode cL_law 1322 = .ok (.iload 4, 2) := dk_21 4 (dk_at dksL_law_53 9 rfl rfl)
theorem dL_law_1324 : decode cL_law 1324 = .ok (.iconst 1, 1) := dk_4 (dk_at dksL_law_53 11 rfl rfl)
theorem dL_law_1325 : decode cL_law 1325 = .ok (.iadd, 1) := dk_96 (dk_at dksL_law_53 12 rfl rfl)
theorem dL_law_1326 : decode cL_law 1326 = .ok (.iaload, 1) := dk_46 (dk_at dksL_law_53 13 rfl rfl)
theorem dL_law_1327 : decode cL_law 1327 = .ok (.aload_n 0, 1) := dk_42 (dk_at dksL_law_53 14 rfl rfl)
theorem dL_law_1328 : decode cL_law 1328 = .ok (.iload 4, 2) := dk_21 4 (dk_at dksL_law_53 15 rfl rfl)
theorem dL_law_1330 : decode cL_law 1330 = .ok (.iconst 2, 1) := dk_5 (dk_at dksL_law_53 17 rfl rfl)
theorem dL_law_1331 : decode cL_law 1331 = .ok (.iadd, 1) := dk_96 (dk_at dksL_law_53 18 rfl rfl)
theorem dL_law_1332 : decode cL_law 1332 = .ok (.iaload, 1) := dk_46 (dk_at dksL_law_53 19 rfl rfl)
theorem dL_law_1333 : decode cL_law 1333 = .ok (.aload_n 0, 1) := dk_42 (dk_at dksL_law_53 20 rfl rfl)
theorem dL_law_1334 : decode cL_law 1334 = .ok (.iload 4, 2) := dk_21 4 (dk_at dksL_law_53 21 rfl rfl)
theorem dL_law_1336 : decode cL_law 1336 = .ok (.iconst 3, 1) := dk_6 (dk_at dksL_law_53 23 rfl rfl)
theorem dL_law_1337 : decode cL_law 1337 = .ok (.iadd, 1) := dk_96 (dk_at dksL_law_54 0 rfl rfl)
theorem dL_law_1338 : decode cL_law 1338 = .ok (.iaload, 1) := dk_46 (dk_at dksL_law_54 1 rfl rfl)
theorem dL_law_1339 : decode cL_law 1339 = .ok (.ifCond .eq 7, 3) := dk_153 0 7 (dk_at dksL_law_54 2 rfl rfl)
theorem dL_law_1342 : decode cL_law 1342 = .ok (.iconst 1, 1) := dk_4 (dk_at dksL_law_54 5 rfl rfl)
theorem dL_law_1343 : decode cL_law 1343 = .ok (.goto 4, 3) := dk_167 0 4 (dk_at dksL_law_54 6 rfl rfl)
theorem dL_law_1346 : decode cL_law 1346 = .ok (.iconst 0, 1) := dk_3 (dk_at dksL_law_54 9 rfl rfl)
theorem dL_law_1347 : decode cL_law 1347 = .ok (.aload_n 0, 1) := dk_42 (dk_at dksL_law_54 10 rfl rfl)
theorem dL_law_1348 : decode cL_law 1348 = .ok (.iload 4, 2) := dk_21 4 (dk_at dksL_law_54 11 rfl rfl)
theorem dL_law_1350 : decode cL_law 1350 = .ok (.iconst 4, 1) := dk_7 (dk_at dksL_law_54 13 rfl rfl)
theorem dL_law_1351 : decode cL_law 1351 = .ok (.iadd, 1) := dk_96 (dk_at dksL_law_54 14 rfl rfl)
theorem dL_law_1352 : decode cL_law 1352 = .ok (.iaload, 1) := dk_46 (dk_at dksL_law_54 15 rfl rfl)
theorem dL_law_1353 : decode cL_law 1353 = .ok (.invokevirtual 144, 3) := dk_182 0 144 (dk_at dksL_law_54 16 rfl rfl)
theorem dL_law_1356 : decode cL_law 1356 = .ok (.istore 6, 2) := dk_54 6 (dk_at dksL_law_54 19 rfl rfl)
theorem dL_law_1358 : decode cL_law 1358 = .ok (.aload_n 2, 1) := dk_44 (dk_at dksL_law_54 21 rfl rfl)
theorem dL_law_1359 : decode cL_law 1359 = .ok (.invokevirtual 84, 3) := dk_182 0 84 (dk_at dksL_law_55 0 rfl rfl)
theorem dL_law_1362 : decode cL_law 1362 = .ok (.iload 5, 2) := dk_21 5 (dk_at dksL_law_55 3 rfl rfl)
theorem dL_law_1364 : decode cL_law 1364 = .ok (.if_icmp .eq 5, 3) := dk_159 0 5 (dk_at dksL_law_55 5 rfl rfl)
theorem dL_law_1367 : decode cL_law 1367 = .ok (.iconst 0, 1) := dk_3 (dk_at dksL_law_55 8 rfl rfl)
theorem dL_law_1368 : decode cL_law 1368 = .ok (.ireturn, 1) := dk_172 (dk_at dksL_law_55 9 rfl rfl)
theorem dL_law_1369 : decode cL_law 1369 = .ok (.iload 5, 2) := dk_21 5 (dk_at dksL_law_55 10 rfl rfl)
theorem dL_law_1371 : decode cL_law 1371 = .ok (.ifCond .ne 15, 3) := dk_154 0 15 (dk_at dksL_law_55 12 rfl rfl)
theorem dL_law_1374 : decode cL_law 1374 = .ok (.aload_n 3, 1) := dk_45 (dk_at dksL_law_55 15 rfl rfl)
theorem dL_law_1375 : decode cL_law 1375 = .ok (.iconst 0, 1) := dk_3 (dk_at dksL_law_55 16 rfl rfl)
theorem dL_law_1376 : decode cL_law 1376 = .ok (.laload, 1) := dk_47 (dk_at dksL_law_55 17 rfl rfl)
theorem dL_law_1377 : decode cL_law 1377 = .ok (.iload 6, 2) := dk_21 6 (dk_at dksL_law_55 18 rfl rfl)
theorem dL_law_1379 : decode cL_law 1379 = .ok (.i2l, 1) := dk_133 (dk_at dksL_law_55 20 rfl rfl)
theorem dL_law_1380 : decode cL_law 1380 = .ok (.lcmp, 1) := dk_148 (dk_at dksL_law_55 21 rfl rfl)
theorem dL_law_1381 : decode cL_law 1381 = .ok (.ifCond .eq 5, 3) := dk_153 0 5 (dk_at dksL_law_56 0 rfl rfl)
theorem dL_law_1384 : decode cL_law 1384 = .ok (.iconst 0, 1) := dk_3 (dk_at dksL_law_56 3 rfl rfl)
theorem dL_law_1385 : decode cL_law 1385 = .ok (.ireturn, 1) := dk_172 (dk_at dksL_law_56 4 rfl rfl)
theorem dL_law_1386 : decode cL_law 1386 = .ok (.goto 111, 3) := dk_167 0 111 (dk_at dksL_law_56 5 rfl rfl)
theorem dL_law_1389 : decode cL_law 1389 = .ok (.aload_n 1, 1) := dk_43 (dk_at dksL_law_56 8 rfl rfl)
theorem dL_law_1390 : decode cL_law 1390 = .ok (.aload_n 0, 1) := dk_42 (dk_at dksL_law_56 9 rfl rfl)
theorem dL_law_1391 : decode cL_law 1391 = .ok (.iload 4, 2) := dk_21 4 (dk_at dksL_law_56 10 rfl rfl)
theorem dL_law_1393 : decode cL_law 1393 = .ok (.iconst 1, 1) := dk_4 (dk_at dksL_law_56 12 rfl rfl)
theorem dL_law_1394 : decode cL_law 1394 = .ok (.iadd, 1) := dk_96 (dk_at dksL_law_56 13 rfl rfl)
theorem dL_law_1395 : decode cL_law 1395 = .ok (.iaload, 1) := dk_46 (dk_at dksL_law_56 14 rfl rfl)
theorem dL_law_1396 : decode cL_law 1396 = .ok (.aload_n 0, 1) := dk_42 (dk_at dksL_law_56 15 rfl rfl)
theorem dL_law_1397 : decode cL_law 1397 = .ok (.iload 4, 2) := dk_21 4 (dk_at dksL_law_56 16 rfl rfl)
theorem dL_law_1399 : decode cL_law 1399 = .ok (.iconst 2, 1) := dk_5 (dk_at dksL_law_56 18 rfl rfl)
theorem dL_law_1400 : decode cL_law 1400 = .ok (.iadd, 1) := dk_96 (dk_at dksL_law_56 19 rfl rfl)
theorem dL_law_1401 : decode cL_law 1401 = .ok (.iaload, 1) := dk_46 (dk_at dksL_law_56 20 rfl rfl)
theorem dL_law_1402 : decode cL_law 1402 = .ok (.aload_n 3, 1) := dk_45 (dk_at dksL_law_56 21 rfl rfl)
theorem dL_law_1403 : decode cL_law 1403 = .ok (.invokestatic 145, 3) := dk_184 0 145 (dk_at dksL_law_57 0 rfl rfl)
theorem dL_law_1406 : decode cL_law 1406 = .ok (.istore 5, 2) := dk_54 5 (dk_at dksL_law_57 3 rfl rfl)
theorem dL_law_1408 : decode cL_law 1408 = .ok (.aload_n 2, 1) := dk_44 (dk_at dksL_law_57 5 rfl rfl)
theorem dL_law_1409 : decode cL_law 1409 = .ok (.aload_n 0, 1) := dk_42 (dk_at dksL_law_57 6 rfl rfl)
theorem dL_law_1410 : decode cL_law 1410 = .ok (.iload 4, 2) := dk_21 4 (dk_at dksL_law_57 7 rfl rfl)
theorem dL_law_1412 : decode cL_law 1412 = .ok (.iconst 1, 1) := dk_4 (dk_at dksL_law_57 9 rfl rfl)
theorem dL_law_1413 : decode cL_law 1413 = .ok (.iadd, 1) := dk_96 (dk_at dksL_law_57 10 rfl rfl)
theorem dL_law_1414 : decode cL_law 1414 = .ok (.iaload, 1) := dk_46 (dk_at dksL_law_57 11 rfl rfl)
theorem dL_law_1415 : decode cL_law 1415 = .ok (.aload_n 0, 1) := dk_42 (dk_at dksL_law_57 12 rfl rfl)
theorem dL_law_1416 : decode cL_law 1416 = .ok (.iload 4, 2) := dk_21 4 (dk_at dksL_law_57 13 rfl rfl)
theorem dL_law_1418 : decode cL_law 1418 = .ok (.iconst 2, 1) := dk_5 (dk_at dksL_law_57 15 rfl rfl)
theorem dL_law_1419 : decode cL_law 1419 = .ok (.iadd, 1) := dk_96 (dk_at dksL_law_57 16 rfl rfl)
theorem dL_law_1420 : decode cL_law 1420 = .ok (.iaload, 1) := dk_46 (dk_at dksL_law_57 17 rfl rfl)
theorem dL_law_1421 : decode cL_law 1421 = .ok (.invokevirtual 147, 3) := dk_182 0 147 (dk_at dksL_law_57 18 rfl rfl)
theorem dL_law_1424 : decode cL_law 1424 = .ok (.istore 6, 2) := dk_54 6 (dk_at dksL_law_57 21 rfl rfl)
theorem dL_law_1426 : decode cL_law 1426 = .ok (.aload_n 2, 1) := dk_44 (dk_at dksL_law_57 23 rfl rfl)
theorem dL_law_1427 : decode cL_law 1427 = .ok (.invokevirtual 84, 3) := dk_182 0 84 (dk_at dksL_law_58 0 rfl rfl)
theorem dL_law_1430 : decode cL_law 1430 = .ok (.iload 5, 2) := dk_21 5 (dk_at dksL_law_58 3 rfl rfl)
theorem dL_law_1432 : decode cL_law 1432 = .ok (.if_icmp .eq 5, 3) := dk_159 0 5 (dk_at dksL_law_58 5 rfl rfl)
theorem dL_law_1435 : decode cL_law 1435 = .ok (.iconst 0, 1) := dk_3 (dk_at dksL_law_58 8 rfl rfl)
theorem dL_law_1436 : decode cL_law 1436 = .ok (.ireturn, 1) := dk_172 (dk_at dksL_law_58 9 rfl rfl)
theorem dL_law_1437 : decode cL_law 1437 = .ok (.iload 5, 2) := dk_21 5 (dk_at dksL_law_58 10 rfl rfl)
theorem dL_law_1439 : decode cL_law 1439 = .ok (.ifCond .ne 15, 3) := dk_154 0 15 (dk_at dksL_law_58 12 rfl rfl)
theorem dL_law_1442 : decode cL_law 1442 = .ok (.aload_n 3, 1) := dk_45 (dk_at dksL_law_58 15 rfl rfl)
theorem dL_law_1443 : decode cL_law 1443 = .ok (.iconst 0, 1) := dk_3 (dk_at dksL_law_58 16 rfl rfl)
theorem dL_law_1444 : decode cL_law 1444 = .ok (.laload, 1) := dk_47 (dk_at dksL_law_58 17 rfl rfl)
theorem dL_law_1445 : decode cL_law 1445 = .ok (.iload 6, 2) := dk_21 6 (dk_at dksL_law_58 18 rfl rfl)
theorem dL_law_1447 : decode cL_law 1447 = .ok (.i2l, 1) := dk_133 (dk_at dksL_law_58 20 rfl rfl)
theorem dL_law_1448 : decode cL_law 1448 = .ok (.lcmp, 1) := dk_148 (dk_at dksL_law_58 21 rfl rfl)
theorem dL_law_1449 : decode cL_law 1449 = .ok (.ifCond .eq 5, 3) := dk_153 0 5 (dk_at dksL_law_59 0 rfl rfl)
theorem dL_law_1452 : decode cL_law 1452 = .ok (.iconst 0, 1) := dk_3 (dk_at dksL_law_59 3 rfl rfl)
theorem dL_law_1453 : decode cL_law 1453 = .ok (.ireturn, 1) := dk_172 (dk_at dksL_law_59 4 rfl rfl)
theorem dL_law_1454 : decode cL_law 1454 = .ok (.goto 43, 3) := dk_167 0 43 (dk_at dksL_law_59 5 rfl rfl)
theorem dL_law_1457 : decode cL_law 1457 = .ok (.aload_n 1, 1) := dk_43 (dk_at dksL_law_59 8 rfl rfl)
theorem dL_law_1458 : decode cL_law 1458 = .ok (.invokevirtual 148, 3) := dk_182 0 148 (dk_at dksL_law_59 9 rfl rfl)
theorem dL_law_1461 : decode cL_law 1461 = .ok (.aload_n 2, 1) := dk_44 (dk_at dksL_law_59 12 rfl rfl)
theorem dL_law_1462 : decode cL_law 1462 = .ok (.invokevirtual 151, 3) := dk_182 0 151 (dk_at dksL_law_59 13 rfl rfl)
theorem dL_law_1465 : decode cL_law 1465 = .ok (.if_icmp .eq 32, 3) := dk_159 0 32 (dk_at dksL_law_59 16 rfl rfl)
theorem dL_law_1468 : decode cL_law 1468 = .ok (.iconst 0, 1) := dk_3 (dk_at dksL_law_59 19 rfl rfl)
theorem dL_law_1469 : decode cL_law 1469 = .ok (.ireturn, 1) := dk_172 (dk_at dksL_law_59 20 rfl rfl)
theorem dL_law_1470 : decode cL_law 1470 = .ok (.aload_n 1, 1) := dk_43 (dk_at dksL_law_59 21 rfl rfl)
theorem dL_law_1471 : decode cL_law 1471 = .ok (.invokevirtual 152, 3) := dk_182 0 152 (dk_at dksL_law_60 0 rfl rfl)
theorem dL_law_1474 : decode cL_law 1474 = .ok (.aload_n 2, 1) := dk_44 (dk_at dksL_law_60 3 rfl rfl)
theorem dL_law_1475 : decode cL_law 1475 = .ok (.invokevirtual 155, 3) := dk_182 0 155 (dk_at dksL_law_60 4 rfl rfl)
theorem dL_law_1478 : decode cL_law 1478 = .ok (.if_icmp .eq 19, 3) := dk_159 0 19 (dk_at dksL_law_60 7 rfl rfl)
theorem dL_law_1481 : decode cL_law 1481 = .ok (.iconst 0, 1) := dk_3 (dk_at dksL_law_60 10 rfl rfl)
theorem dL_law_1482 : decode cL_law 1482 = .ok (.ireturn, 1) := dk_172 (dk_at dksL_law_60 11 rfl rfl)
theorem dL_law_1483 : decode cL_law 1483 = .ok (.aload_n 1, 1) := dk_43 (dk_at dksL_law_60 12 rfl rfl)
theorem dL_law_1484 : decode cL_law 1484 = .ok (.invokevirtual 156, 3) := dk_182 0 156 (dk_at dksL_law_60 13 rfl rfl)
theorem dL_law_1487 : decode cL_law 1487 = .ok (.aload_n 2, 1) := dk_44 (dk_at dksL_law_60 16 rfl rfl)
theorem dL_law_1488 : decode cL_law 1488 = .ok (.invokevirtual 160, 3) := dk_182 0 160 (dk_at dksL_law_60 17 rfl rfl)
theorem dL_law_1491 : decode cL_law 1491 = .ok (.lcmp, 1) := dk_148 (dk_at dksL_law_60 20 rfl rfl)
theorem dL_law_1492 : decode cL_law 1492 = .ok (.ifCond .eq 5, 3) := dk_153 0 5 (dk_at dksL_law_60 21 rfl rfl)
theorem dL_law_1495 : decode cL_law 1495 = .ok (.iconst 0, 1) := dk_3 (dk_at dksL_law_61 0 rfl rfl)
theorem dL_law_1496 : decode cL_law 1496 = .ok (.ireturn, 1) := dk_172 (dk_at dksL_law_61 1 rfl rfl)
theorem dL_law_1497 : decode cL_law 1497 = .ok (.iinc 4 6, 3) := dk_132 4 6 (dk_at dksL_law_61 2 rfl rfl)
theorem dL_law_1500 : decode cL_law 1500 = .ok (.goto (-1477), 3) := dk_167 250 59 (dk_at dksL_law_61 5 rfl rfl)
theorem dL_law_1503 : decode cL_law 1503 = .ok (.iconst 1, 1) := dk_4 (dk_at dksL_law_61 8 rfl rfl)
theorem dL_law_1504 : decode cL_law 1504 = .ok (.ireturn, 1) := dk_172 (dk_at dksL_law_61 9 rfl rfl)
/-! SpillslotWorksLaw -/
def RX0 : String := "SpillslotWorksLaw"
abbrev cX0_machine : ByteArray := method_3_code
def yX0_machine : MethodName := ⟨RX0, "machine", "(LSpillslotWorks;IIIZZ[J)I"⟩
def dkwX0_machine_1 : List UInt8 := [172]
abbrev dktX0_machine_1 : List UInt8 := dkwX0_machine_1 ++ []
def dkwX0_machine_0 : List UInt8 := [25, 6, 3, 42, 27, 28, 29, 21, 4, 21, 5, 182, 0, 7, 133, 80, 167, 0, 7, 58, 7, 4, 172, 3]
abbrev dktX0_machine_0 : List UInt8 := dkwX0_machine_0 ++ dktX0_machine_1
theorem dksX0_machine_0 : cX0_machine.data.toList.drop 0 = dktX0_machine_0 := by decide +kernel
theorem dksX0_machine_1 : cX0_machine.data.toList.drop 24 = dktX0_machine_1 := dk_seg dksX0_machine_0 24 rfl rfl
theorem dX0_machine_0 : decode cX0_machine 0 = .ok (.aload 6, 2) := dk_25 6 (dk_at dksX0_machine_0 0 rfl rfl)
theorem dX0_machine_2 : decode cX0_machine 2 = .ok (.iconst 0, 1) := dk_3 (dk_at dksX0_machine_0 2 rfl rfl)
theorem dX0_machine_3 : decode cX0_machine 3 = .ok (.aload_n 0, 1) := dk_42 (dk_at dksX0_machine_0 3 rfl rfl)
theorem dX0_machine_4 : decode cX0_machine 4 = .ok (.iload_n 1, 1) := dk_27 (dk_at dksX0_machine_0 4 rfl rfl)
theorem dX0_machine_5 : decode cX0_machine 5 = .ok (.iload_n 2, 1) := dk_28 (dk_at dksX0_machine_0 5 rfl rfl)
theorem dX0_machine_6 : decode cX0_machine 6 = .ok (.iload_n 3, 1) := dk_29 (dk_at dksX0_machine_0 6 rfl rfl)
theorem dX0_machine_7 : decode cX0_machine 7 = .ok (.iload 4, 2) := dk_21 4 (dk_at dksX0_machine_0 7 rfl rfl)
theorem dX0_machine_9 : decode cX0_machine 9 = .ok (.iload 5, 2) := dk_21 5 (dk_at dksX0_machine_0 9 rfl rfl)
theorem dX0_machine_11 : decode cX0_machine 11 = .ok (.invokevirtual 7, 3) := dk_182 0 7 (dk_at dksX0_machine_0 11 rfl rfl)
theorem dX0_machine_14 : decode cX0_machine 14 = .ok (.i2l, 1) := dk_133 (dk_at dksX0_machine_0 14 rfl rfl)
theorem dX0_machine_15 : decode cX0_machine 15 = .ok (.lastore, 1) := dk_80 (dk_at dksX0_machine_0 15 rfl rfl)
theorem dX0_machine_16 : decode cX0_machine 16 = .ok (.goto 7, 3) := dk_167 0 7 (dk_at dksX0_machine_0 16 rfl rfl)
theorem dX0_machine_19 : decode cX0_machine 19 = .ok (.astore 7, 2) := dk_58 7 (dk_at dksX0_machine_0 19 rfl rfl)
theorem dX0_machine_21 : decode cX0_machine 21 = .ok (.iconst 1, 1) := dk_4 (dk_at dksX0_machine_0 21 rfl rfl)
theorem dX0_machine_22 : decode cX0_machine 22 = .ok (.ireturn, 1) := dk_172 (dk_at dksX0_machine_0 22 rfl rfl)
theorem dX0_machine_23 : decode cX0_machine 23 = .ok (.iconst 0, 1) := dk_3 (dk_at dksX0_machine_0 23 rfl rfl)
theorem dX0_machine_24 : decode cX0_machine 24 = .ok (.ireturn, 1) := dk_172 (dk_at dksX0_machine_1 0 rfl rfl)
abbrev cX0_latency : ByteArray := method_4_code
def yX0_latency : MethodName := ⟨RX0, "latency", "(LSpillslotWorks;II[J)I"⟩
def dkwX0_latency_0 : List UInt8 := [45, 3, 42, 27, 28, 182, 0, 15, 133, 80, 167, 0, 11, 58, 4, 4, 172, 58, 4, 5, 172, 3, 172]
abbrev dktX0_latency_0 : List UInt8 := dkwX0_latency_0 ++ []
theorem dksX0_latency_0 : cX0_latency.data.toList.drop 0 = dktX0_latency_0 := by decide +kernel
theorem dX0_latency_0 : decode cX0_latency 0 = .ok (.aload_n 3, 1) := dk_45 (dk_at dksX0_latency_0 0 rfl rfl)
theorem dX0_latency_1 : decode cX0_latency 1 = .ok (.iconst 0, 1) := dk_3 (dk_at dksX0_latency_0 1 rfl rfl)
theorem dX0_latency_2 : decode cX0_latency 2 = .ok (.aload_n 0, 1) := dk_42 (dk_at dksX0_latency_0 2 rfl rfl)
theorem dX0_latency_3 : decode cX0_latency 3 = .ok (.iload_n 1, 1) := dk_27 (dk_at dksX0_latency_0 3 rfl rfl)
theorem dX0_latency_4 : decode cX0_latency 4 = .ok (.iload_n 2, 1) := dk_28 (dk_at dksX0_latency_0 4 rfl rfl)
theorem dX0_latency_5 : decode cX0_latency 5 = .ok (.invokevirtual 15, 3) := dk_182 0 15 (dk_at dksX0_latency_0 5 rfl rfl)
theorem dX0_latency_8 : decode cX0_latency 8 = .ok (.i2l, 1) := dk_133 (dk_at dksX0_latency_0 8 rfl rfl)
theorem dX0_latency_9 : decode cX0_latency 9 = .ok (.lastore, 1) := dk_80 (dk_at dksX0_latency_0 9 rfl rfl)
theorem dX0_latency_10 : decode cX0_latency 10 = .ok (.goto 11, 3) := dk_167 0 11 (dk_at dksX0_latency_0 10 rfl rfl)
theorem dX0_latency_13 : decode cX0_latency 13 = .ok (.astore 4, 2) := dk_58 4 (dk_at dksX0_latency_0 13 rfl rfl)
theorem dX0_latency_15 : decode cX0_latency 15 = .ok (.iconst 1, 1) := dk_4 (dk_at dksX0_latency_0 15 rfl rfl)
theorem dX0_latency_16 : decode cX0_latency 16 = .ok (.ireturn, 1) := dk_172 (dk_at dksX0_latency_0 16 rfl rfl)
theorem dX0_latency_17 : decode cX0_latency 17 = .ok (.astore 4, 2) := dk_58 4 (dk_at dksX0_latency_0 17 rfl rfl)
theorem dX0_latency_19 : decode cX0_latency 19 = .ok (.iconst 2, 1) := dk_5 (dk_at dksX0_latency_0 19 rfl rfl)
theorem dX0_latency_20 : decode cX0_latency 20 = .ok (.ireturn, 1) := dk_172 (dk_at dksX0_latency_0 20 rfl rfl)
theorem dX0_latency_21 : decode cX0_latency 21 = .ok (.iconst 0, 1) := dk_3 (dk_at dksX0_latency_0 21 rfl rfl)
theorem dX0_latency_22 : decode cX0_latency 22 = .ok (.ireturn, 1) := dk_172 (dk_at dksX0_latency_0 22 rfl rfl)
abbrev cX0_node : ByteArray := method_5_code
def yX0_node : MethodName := ⟨RX0, "node", "(LSpillslotWorks;III[J)I"⟩
def dkwX0_node_1 : List UInt8 := [172]
abbrev dktX0_node_1 : List UInt8 := dkwX0_node_1 ++ []
def dkwX0_node_0 : List UInt8 := [25, 4, 3, 42, 27, 28, 29, 182, 0, 21, 133, 80, 167, 0, 11, 58, 5, 4, 172, 58, 5, 5, 172, 3]
abbrev dktX0_node_0 : List UInt8 := dkwX0_node_0 ++ dktX0_node_1
theorem dksX0_node_0 : cX0_node.data.toList.drop 0 = dktX0_node_0 := by decide +kernel
theorem dksX0_node_1 : cX0_node.data.toList.drop 24 = dktX0_node_1 := dk_seg dksX0_node_0 24 rfl rfl
theorem dX0_node_0 : decode cX0_node 0 = .ok (.aload 4, 2) := dk_25 4 (dk_at dksX0_node_0 0 rfl rfl)
theorem dX0_node_2 : decode cX0_node 2 = .ok (.iconst 0, 1) := dk_3 (dk_at dksX0_node_0 2 rfl rfl)
theorem dX0_node_3 : decode cX0_node 3 = .ok (.aload_n 0, 1) := dk_42 (dk_at dksX0_node_0 3 rfl rfl)
theorem dX0_node_4 : decode cX0_node 4 = .ok (.iload_n 1, 1) := dk_27 (dk_at dksX0_node_0 4 rfl rfl)
theorem dX0_node_5 : decode cX0_node 5 = .ok (.iload_n 2, 1) := dk_28 (dk_at dksX0_node_0 5 rfl rfl)
theorem dX0_node_6 : decode cX0_node 6 = .ok (.iload_n 3, 1) := dk_29 (dk_at dksX0_node_0 6 rfl rfl)
theorem dX0_node_7 : decode cX0_node 7 = .ok (.invokevirtual 21, 3) := dk_182 0 21 (dk_at dksX0_node_0 7 rfl rfl)
theorem dX0_node_10 : decode cX0_node 10 = .ok (.i2l, 1) := dk_133 (dk_at dksX0_node_0 10 rfl rfl)
theorem dX0_node_11 : decode cX0_node 11 = .ok (.lastore, 1) := dk_80 (dk_at dksX0_node_0 11 rfl rfl)
theorem dX0_node_12 : decode cX0_node 12 = .ok (.goto 11, 3) := dk_167 0 11 (dk_at dksX0_node_0 12 rfl rfl)
theorem dX0_node_15 : decode cX0_node 15 = .ok (.astore 5, 2) := dk_58 5 (dk_at dksX0_node_0 15 rfl rfl)
theorem dX0_node_17 : decode cX0_node 17 = .ok (.iconst 1, 1) := dk_4 (dk_at dksX0_node_0 17 rfl rfl)
theorem dX0_node_18 : decode cX0_node 18 = .ok (.ireturn, 1) := dk_172 (dk_at dksX0_node_0 18 rfl rfl)
theorem dX0_node_19 : decode cX0_node 19 = .ok (.astore 5, 2) := dk_58 5 (dk_at dksX0_node_0 19 rfl rfl)
theorem dX0_node_21 : decode cX0_node 21 = .ok (.iconst 2, 1) := dk_5 (dk_at dksX0_node_0 21 rfl rfl)
theorem dX0_node_22 : decode cX0_node 22 = .ok (.ireturn, 1) := dk_172 (dk_at dksX0_node_0 22 rfl rfl)
theorem dX0_node_23 : decode cX0_node 23 = .ok (.iconst 0, 1) := dk_3 (dk_at dksX0_node_0 23 rfl rfl)
theorem dX0_node_24 : decode cX0_node 24 = .ok (.ireturn, 1) := dk_172 (dk_at dksX0_node_1 0 rfl rfl)
abbrev cX0_statement : ByteArray := method_6_code
def yX0_statement : MethodName := ⟨RX0, "statement", "(LSpillslotWorks;III[J)I"⟩
def dkwX0_statement_1 : List UInt8 := [58, 5, 6, 172, 3, 172]
abbrev dktX0_statement_1 : List UInt8 := dkwX0_statement_1 ++ []
def dkwX0_statement_0 : List UInt8 := [25, 4, 3, 42, 27, 28, 29, 182, 0, 27, 133, 80, 167, 0, 15, 58, 5, 4, 172, 58, 5, 5, 172]
abbrev dktX0_statement_0 : List UInt8 := dkwX0_statement_0 ++ dktX0_statement_1
theorem dksX0_statement_0 : cX0_statement.data.toList.drop 0 = dktX0_statement_0 := by decide +kernel
theorem dksX0_statement_1 : cX0_statement.data.toList.drop 23 = dktX0_statement_1 := dk_seg dksX0_statement_0 23 rfl rfl
theorem dX0_statement_0 : decode cX0_statement 0 = .ok (.aload 4, 2) := dk_25 4 (dk_at dksX0_statement_0 0 rfl rfl)
theorem dX0_statement_2 : decode cX0_statement 2 = .ok (.iconst 0, 1) := dk_3 (dk_at dksX0_statement_0 2 rfl rfl)
theorem dX0_statement_3 : decode cX0_statement 3 = .ok (.aload_n 0, 1) := dk_42 (dk_at dksX0_statement_0 3 rfl rfl)
theorem dX0_statement_4 : decode cX0_statement 4 = .ok (.iload_n 1, 1) := dk_27 (dk_at dksX0_statement_0 4 rfl rfl)
theorem dX0_statement_5 : decode cX0_statement 5 = .ok (.iload_n 2, 1) := dk_28 (dk_at dksX0_statement_0 5 rfl rfl)
theorem dX0_statement_6 : decode cX0_statement 6 = .ok (.iload_n 3, 1) := dk_29 (dk_at dksX0_statement_0 6 rfl rfl)
theorem dX0_statement_7 : decode cX0_statement 7 = .ok (.invokevirtual 27, 3) := dk_182 0 27 (dk_at dksX0_statement_0 7 rfl rfl)
theorem dX0_statement_10 : decode cX0_statement 10 = .ok (.i2l, 1) := dk_133 (dk_at dksX0_statement_0 10 rfl rfl)
theorem dX0_statement_11 : decode cX0_statement 11 = .ok (.lastore, 1) := dk_80 (dk_at dksX0_statement_0 11 rfl rfl)
theorem dX0_statement_12 : decode cX0_statement 12 = .ok (.goto 15, 3) := dk_167 0 15 (dk_at dksX0_statement_0 12 rfl rfl)
theorem dX0_statement_15 : decode cX0_statement 15 = .ok (.astore 5, 2) := dk_58 5 (dk_at dksX0_statement_0 15 rfl rfl)
theorem dX0_statement_17 : decode cX0_statement 17 = .ok (.iconst 1, 1) := dk_4 (dk_at dksX0_statement_0 17 rfl rfl)
theorem dX0_statement_18 : decode cX0_statement 18 = .ok (.ireturn, 1) := dk_172 (dk_at dksX0_statement_0 18 rfl rfl)
theorem dX0_statement_19 : decode cX0_statement 19 = .ok (.astore 5, 2) := dk_58 5 (dk_at dksX0_statement_0 19 rfl rfl)
theorem dX0_statement_21 : decode cX0_statement 21 = .ok (.iconst 2, 1) := dk_5 (dk_at dksX0_statement_0 21 rfl rfl)
theorem dX0_statement_22 : decode cX0_statement 22 = .ok (.ireturn, 1) := dk_172 (dk_at dksX0_statement_0 22 rfl rfl)
theorem dX0_statement_23 : decode cX0_statement 23 = .ok (.astore 5, 2) := dk_58 5 (dk_at dksX0_statement_1 0 rfl rfl)
theorem dX0_statement_25 : decode cX0_statement 25 = .ok (.iconst 3, 1) := dk_6 (dk_at dksX0_statement_1 2 rfl rfl)
theorem dX0_statement_26 : decode cX0_statement 26 = .ok (.ireturn, 1) := dk_172 (dk_at dksX0_statement_1 3 rfl rfl)
theorem dX0_statement_27 : decode cX0_statement 27 = .ok (.iconst 0, 1) := dk_3 (dk_at dksX0_statement_1 4 rfl rfl)
theorem dX0_statement_28 : decode cX0_statement 28 = .ok (.ireturn, 1) := dk_172 (dk_at dksX0_statement_1 5 rfl rfl)
abbrev cX0_take : ByteArray := method_7_code
def yX0_take : MethodName := ⟨RX0, "take", "(LSpillslotWorks;I[J)I"⟩
def dkwX0_take_0 : List UInt8 := [44, 3, 42, 27, 182, 0, 30, 133, 80, 167, 0, 9, 78, 4, 172, 78, 5, 172, 3, 172]
abbrev dktX0_take_0 : List UInt8 := dkwX0_take_0 ++ []
theorem dksX0_take_0 : cX0_take.data.toList.drop 0 = dktX0_take_0 := by decide +kernel
theorem dX0_take_0 : decode cX0_take 0 = .ok (.aload_n 2, 1) := dk_44 (dk_at dksX0_take_0 0 rfl rfl)
theorem dX0_take_1 : decode cX0_take 1 = .ok (.iconst 0, 1) := dk_3 (dk_at dksX0_take_0 1 rfl rfl)
theorem dX0_take_2 : decode cX0_take 2 = .ok (.aload_n 0, 1) := dk_42 (dk_at dksX0_take_0 2 rfl rfl)
theorem dX0_take_3 : decode cX0_take 3 = .ok (.iload_n 1, 1) := dk_27 (dk_at dksX0_take_0 3 rfl rfl)
theorem dX0_take_4 : decode cX0_take 4 = .ok (.invokevirtual 30, 3) := dk_182 0 30 (dk_at dksX0_take_0 4 rfl rfl)
theorem dX0_take_7 : decode cX0_take 7 = .ok (.i2l, 1) := dk_133 (dk_at dksX0_take_0 7 rfl rfl)
theorem dX0_take_8 : decode cX0_take 8 = .ok (.lastore, 1) := dk_80 (dk_at dksX0_take_0 8 rfl rfl)
theorem dX0_take_9 : decode cX0_take 9 = .ok (.goto 9, 3) := dk_167 0 9 (dk_at dksX0_take_0 9 rfl rfl)
theorem dX0_take_12 : decode cX0_take 12 = .ok (.astore_n 3, 1) := dk_78 (dk_at dksX0_take_0 12 rfl rfl)
theorem dX0_take_13 : decode cX0_take 13 = .ok (.iconst 1, 1) := dk_4 (dk_at dksX0_take_0 13 rfl rfl)
theorem dX0_take_14 : decode cX0_take 14 = .ok (.ireturn, 1) := dk_172 (dk_at dksX0_take_0 14 rfl rfl)
theorem dX0_take_15 : decode cX0_take 15 = .ok (.astore_n 3, 1) := dk_78 (dk_at dksX0_take_0 15 rfl rfl)
theorem dX0_take_16 : decode cX0_take 16 = .ok (.iconst 2, 1) := dk_5 (dk_at dksX0_take_0 16 rfl rfl)
theorem dX0_take_17 : decode cX0_take 17 = .ok (.ireturn, 1) := dk_172 (dk_at dksX0_take_0 17 rfl rfl)
theorem dX0_take_18 : decode cX0_take 18 = .ok (.iconst 0, 1) := dk_3 (dk_at dksX0_take_0 18 rfl rfl)
theorem dX0_take_19 : decode cX0_take 19 = .ok (.ireturn, 1) := dk_172 (dk_at dksX0_take_0 19 rfl rfl)
abbrev cX0_times : ByteArray := method_8_code
def yX0_times : MethodName := ⟨RX0, "times", "(LSpillslotWorks;II[J)I"⟩
def dkwX0_times_0 : List UInt8 := [45, 3, 42, 27, 28, 182, 0, 34, 133, 80, 167, 0, 11, 58, 4, 4, 172, 58, 4, 5, 172, 3, 172]
abbrev dktX0_times_0 : List UInt8 := dkwX0_times_0 ++ []
theorem dksX0_times_0 : cX0_times.data.toList.drop 0 = dktX0_times_0 := by decide +kernel
theorem dX0_times_0 : decode cX0_times 0 = .ok (.aload_n 3, 1) := dk_45 (dk_at dksX0_times_0 0 rfl rfl)
theorem dX0_times_1 : decode cX0_times 1 = .ok (.iconst 0, 1) := dk_3 (dk_at dksX0_times_0 1 rfl rfl)
theorem dX0_times_2 : decode cX0_times 2 = .ok (.aload_n 0, 1) := dk_42 (dk_at dksX0_times_0 2 rfl rfl)
theorem dX0_times_3 : decode cX0_times 3 = .ok (.iload_n 1, 1) := dk_27 (dk_at dksX0_times_0 3 rfl rfl)
theorem dX0_times_4 : decode cX0_times 4 = .ok (.iload_n 2, 1) := dk_28 (dk_at dksX0_times_0 4 rfl rfl)
theorem dX0_times_5 : decode cX0_times 5 = .ok (.invokevirtual 34, 3) := dk_182 0 34 (dk_at dksX0_times_0 5 rfl rfl)
theorem dX0_times_8 : decode cX0_times 8 = .ok (.i2l, 1) := dk_133 (dk_at dksX0_times_0 8 rfl rfl)
theorem dX0_times_9 : decode cX0_times 9 = .ok (.lastore, 1) := dk_80 (dk_at dksX0_times_0 9 rfl rfl)
theorem dX0_times_10 : decode cX0_times 10 = .ok (.goto 11, 3) := dk_167 0 11 (dk_at dksX0_times_0 10 rfl rfl)
theorem dX0_times_13 : decode cX0_times 13 = .ok (.astore 4, 2) := dk_58 4 (dk_at dksX0_times_0 13 rfl rfl)
theorem dX0_times_15 : decode cX0_times 15 = .ok (.iconst 1, 1) := dk_4 (dk_at dksX0_times_0 15 rfl rfl)
theorem dX0_times_16 : decode cX0_times 16 = .ok (.ireturn, 1) := dk_172 (dk_at dksX0_times_0 16 rfl rfl)
theorem dX0_times_17 : decode cX0_times 17 = .ok (.astore 4, 2) := dk_58 4 (dk_at dksX0_times_0 17 rfl rfl)
theorem dX0_times_19 : decode cX0_times 19 = .ok (.iconst 2, 1) := dk_5 (dk_at dksX0_times_0 19 rfl rfl)
theorem dX0_times_20 : decode cX0_times 20 = .ok (.ireturn, 1) := dk_172 (dk_at dksX0_times_0 20 rfl rfl)
theorem dX0_times_21 : decode cX0_times 21 = .ok (.iconst 0, 1) := dk_3 (dk_at dksX0_times_0 21 rfl rfl)
theorem dX0_times_22 : decode cX0_times 22 = .ok (.ireturn, 1) := dk_172 (dk_at dksX0_times_0 22 rfl rfl)
abbrev cX0_out : ByteArray := method_9_code
def yX0_out : MethodName := ⟨RX0, "out", "(LSpillslotWorks;I[J)I"⟩
def dkwX0_out_0 : List UInt8 := [44, 3, 42, 27, 182, 0, 37, 133, 80, 167, 0, 6, 78, 4, 172, 3, 172]
abbrev dktX0_out_0 : List UInt8 := dkwX0_out_0 ++ []
theorem dksX0_out_0 : cX0_out.data.toList.drop 0 = dktX0_out_0 := by decide +kernel
theorem dX0_out_0 : decode cX0_out 0 = .ok (.aload_n 2, 1) := dk_44 (dk_at dksX0_out_0 0 rfl rfl)
theorem dX0_out_1 : decode cX0_out 1 = .ok (.iconst 0, 1) := dk_3 (dk_at dksX0_out_0 1 rfl rfl)
theorem dX0_out_2 : decode cX0_out 2 = .ok (.aload_n 0, 1) := dk_42 (dk_at dksX0_out_0 2 rfl rfl)
theorem dX0_out_3 : decode cX0_out 3 = .ok (.iload_n 1, 1) := dk_27 (dk_at dksX0_out_0 3 rfl rfl)
theorem dX0_out_4 : decode cX0_out 4 = .ok (.invokevirtual 37, 3) := dk_182 0 37 (dk_at dksX0_out_0 4 rfl rfl)
theorem dX0_out_7 : decode cX0_out 7 = .ok (.i2l, 1) := dk_133 (dk_at dksX0_out_0 7 rfl rfl)
theorem dX0_out_8 : decode cX0_out 8 = .ok (.lastore, 1) := dk_80 (dk_at dksX0_out_0 8 rfl rfl)
theorem dX0_out_9 : decode cX0_out 9 = .ok (.goto 6, 3) := dk_167 0 6 (dk_at dksX0_out_0 9 rfl rfl)
theorem dX0_out_12 : decode cX0_out 12 = .ok (.astore_n 3, 1) := dk_78 (dk_at dksX0_out_0 12 rfl rfl)
theorem dX0_out_13 : decode cX0_out 13 = .ok (.iconst 1, 1) := dk_4 (dk_at dksX0_out_0 13 rfl rfl)
theorem dX0_out_14 : decode cX0_out 14 = .ok (.ireturn, 1) := dk_172 (dk_at dksX0_out_0 14 rfl rfl)
theorem dX0_out_15 : decode cX0_out 15 = .ok (.iconst 0, 1) := dk_3 (dk_at dksX0_out_0 15 rfl rfl)
theorem dX0_out_16 : decode cX0_out 16 = .ok (.ireturn, 1) := dk_172 (dk_at dksX0_out_0 16 rfl rfl)
abbrev cX0_meant : ByteArray := method_10_code
def yX0_meant : MethodName := ⟨RX0, "meant", "(LSpillslotWorks;I[J)I"⟩
def dkwX0_meant_0 : List UInt8 := [44, 3, 42, 27, 182, 0, 40, 133, 80, 167, 0, 6, 78, 4, 172, 3, 172]
abbrev dktX0_meant_0 : List UInt8 := dkwX0_meant_0 ++ []
theorem dksX0_meant_0 : cX0_meant.data.toList.drop 0 = dktX0_meant_0 := by decide +kernel
theorem dX0_meant_0 : decode cX0_meant 0 = .ok (.aload_n 2, 1) := dk_44 (dk_at dksX0_meant_0 0 rfl rfl)
theorem dX0_meant_1 : decode cX0_meant 1 = .ok (.iconst 0, 1) := dk_3 (dk_at dksX0_meant_0 1 rfl rfl)
theorem dX0_meant_2 : decode cX0_meant 2 = .ok (.aload_n 0, 1) := dk_42 (dk_at dksX0_meant_0 2 rfl rfl)
theorem dX0_meant_3 : decode cX0_meant 3 = .ok (.iload_n 1, 1) := dk_27 (dk_at dksX0_meant_0 3 rfl rfl)
theorem dX0_meant_4 : decode cX0_meant 4 = .ok (.invokevirtual 40, 3) := dk_182 0 40 (dk_at dksX0_meant_0 4 rfl rfl)
theorem dX0_meant_7 : decode cX0_meant 7 = .ok (.i2l, 1) := dk_133 (dk_at dksX0_meant_0 7 rfl rfl)
theorem dX0_meant_8 : decode cX0_meant 8 = .ok (.lastore, 1) := dk_80 (dk_at dksX0_meant_0 8 rfl rfl)
theorem dX0_meant_9 : decode cX0_meant 9 = .ok (.goto 6, 3) := dk_167 0 6 (dk_at dksX0_meant_0 9 rfl rfl)
theorem dX0_meant_12 : decode cX0_meant 12 = .ok (.astore_n 3, 1) := dk_78 (dk_at dksX0_meant_0 12 rfl rfl)
theorem dX0_meant_13 : decode cX0_meant 13 = .ok (.iconst 1, 1) := dk_4 (dk_at dksX0_meant_0 13 rfl rfl)
theorem dX0_meant_14 : decode cX0_meant 14 = .ok (.ireturn, 1) := dk_172 (dk_at dksX0_meant_0 14 rfl rfl)
theorem dX0_meant_15 : decode cX0_meant 15 = .ok (.iconst 0, 1) := dk_3 (dk_at dksX0_meant_0 15 rfl rfl)
theorem dX0_meant_16 : decode cX0_meant 16 = .ok (.ireturn, 1) := dk_172 (dk_at dksX0_meant_0 16 rfl rfl)
abbrev cX0_chosen : ByteArray := method_11_code
def yX0_chosen : MethodName := ⟨RX0, "chosen", "(LSpillslotWorks;II[J)I"⟩
def dkwX0_chosen_0 : List UInt8 := [45, 3, 42, 27, 28, 182, 0, 43, 133, 80, 167, 0, 11, 58, 4, 4, 172, 58, 4, 5, 172, 3, 172]
abbrev dktX0_chosen_0 : List UInt8 := dkwX0_chosen_0 ++ []
theorem dksX0_chosen_0 : cX0_chosen.data.toList.drop 0 = dktX0_chosen_0 := by decide +kernel
theorem dX0_chosen_0 : decode cX0_chosen 0 = .ok (.aload_n 3, 1) := dk_45 (dk_at dksX0_chosen_0 0 rfl rfl)
theorem dX0_chosen_1 : decode cX0_chosen 1 = .ok (.iconst 0, 1) := dk_3 (dk_at dksX0_chosen_0 1 rfl rfl)
theorem dX0_chosen_2 : decode cX0_chosen 2 = .ok (.aload_n 0, 1) := dk_42 (dk_at dksX0_chosen_0 2 rfl rfl)
theorem dX0_chosen_3 : decode cX0_chosen 3 = .ok (.iload_n 1, 1) := dk_27 (dk_at dksX0_chosen_0 3 rfl rfl)
theorem dX0_chosen_4 : decode cX0_chosen 4 = .ok (.iload_n 2, 1) := dk_28 (dk_at dksX0_chosen_0 4 rfl rfl)
theorem dX0_chosen_5 : decode cX0_chosen 5 = .ok (.invokevirtual 43, 3) := dk_182 0 43 (dk_at dksX0_chosen_0 5 rfl rfl)
theorem dX0_chosen_8 : decode cX0_chosen 8 = .ok (.i2l, 1) := dk_133 (dk_at dksX0_chosen_0 8 rfl rfl)
theorem dX0_chosen_9 : decode cX0_chosen 9 = .ok (.lastore, 1) := dk_80 (dk_at dksX0_chosen_0 9 rfl rfl)
theorem dX0_chosen_10 : decode cX0_chosen 10 = .ok (.goto 11, 3) := dk_167 0 11 (dk_at dksX0_chosen_0 10 rfl rfl)
theorem dX0_chosen_13 : decode cX0_chosen 13 = .ok (.astore 4, 2) := dk_58 4 (dk_at dksX0_chosen_0 13 rfl rfl)
theorem dX0_chosen_15 : decode cX0_chosen 15 = .ok (.iconst 1, 1) := dk_4 (dk_at dksX0_chosen_0 15 rfl rfl)
theorem dX0_chosen_16 : decode cX0_chosen 16 = .ok (.ireturn, 1) := dk_172 (dk_at dksX0_chosen_0 16 rfl rfl)
theorem dX0_chosen_17 : decode cX0_chosen 17 = .ok (.astore 4, 2) := dk_58 4 (dk_at dksX0_chosen_0 17 rfl rfl)
theorem dX0_chosen_19 : decode cX0_chosen 19 = .ok (.iconst 2, 1) := dk_5 (dk_at dksX0_chosen_0 19 rfl rfl)
theorem dX0_chosen_20 : decode cX0_chosen 20 = .ok (.ireturn, 1) := dk_172 (dk_at dksX0_chosen_0 20 rfl rfl)
theorem dX0_chosen_21 : decode cX0_chosen 21 = .ok (.iconst 0, 1) := dk_3 (dk_at dksX0_chosen_0 21 rfl rfl)
theorem dX0_chosen_22 : decode cX0_chosen 22 = .ok (.ireturn, 1) := dk_172 (dk_at dksX0_chosen_0 22 rfl rfl)
abbrev cX0_ofValue : ByteArray := method_12_code
def yX0_ofValue : MethodName := ⟨RX0, "ofValue", "(LSpillslotWorks;II[J)I"⟩
def dkwX0_ofValue_0 : List UInt8 := [45, 3, 42, 27, 28, 182, 0, 46, 133, 80, 167, 0, 11, 58, 4, 4, 172, 58, 4, 5, 172, 3, 172]
abbrev dktX0_ofValue_0 : List UInt8 := dkwX0_ofValue_0 ++ []
theorem dksX0_ofValue_0 : cX0_ofValue.data.toList.drop 0 = dktX0_ofValue_0 := by decide +kernel
theorem dX0_ofValue_0 : decode cX0_ofValue 0 = .ok (.aload_n 3, 1) := dk_45 (dk_at dksX0_ofValue_0 0 rfl rfl)
theorem dX0_ofValue_1 : decode cX0_ofValue 1 = .ok (.iconst 0, 1) := dk_3 (dk_at dksX0_ofValue_0 1 rfl rfl)
theorem dX0_ofValue_2 : decode cX0_ofValue 2 = .ok (.aload_n 0, 1) := dk_42 (dk_at dksX0_ofValue_0 2 rfl rfl)
theorem dX0_ofValue_3 : decode cX0_ofValue 3 = .ok (.iload_n 1, 1) := dk_27 (dk_at dksX0_ofValue_0 3 rfl rfl)
theorem dX0_ofValue_4 : decode cX0_ofValue 4 = .ok (.iload_n 2, 1) := dk_28 (dk_at dksX0_ofValue_0 4 rfl rfl)
theorem dX0_ofValue_5 : decode cX0_ofValue 5 = .ok (.invokevirtual 46, 3) := dk_182 0 46 (dk_at dksX0_ofValue_0 5 rfl rfl)
theorem dX0_ofValue_8 : decode cX0_ofValue 8 = .ok (.i2l, 1) := dk_133 (dk_at dksX0_ofValue_0 8 rfl rfl)
theorem dX0_ofValue_9 : decode cX0_ofValue 9 = .ok (.lastore, 1) := dk_80 (dk_at dksX0_ofValue_0 9 rfl rfl)
theorem dX0_ofValue_10 : decode cX0_ofValue 10 = .ok (.goto 11, 3) := dk_167 0 11 (dk_at dksX0_ofValue_0 10 rfl rfl)
theorem dX0_ofValue_13 : decode cX0_ofValue 13 = .ok (.astore 4, 2) := dk_58 4 (dk_at dksX0_ofValue_0 13 rfl rfl)
theorem dX0_ofValue_15 : decode cX0_ofValue 15 = .ok (.iconst 1, 1) := dk_4 (dk_at dksX0_ofValue_0 15 rfl rfl)
theorem dX0_ofValue_16 : decode cX0_ofValue 16 = .ok (.ireturn, 1) := dk_172 (dk_at dksX0_ofValue_0 16 rfl rfl)
theorem dX0_ofValue_17 : decode cX0_ofValue 17 = .ok (.astore 4, 2) := dk_58 4 (dk_at dksX0_ofValue_0 17 rfl rfl)
theorem dX0_ofValue_19 : decode cX0_ofValue 19 = .ok (.iconst 2, 1) := dk_5 (dk_at dksX0_ofValue_0 19 rfl rfl)
theorem dX0_ofValue_20 : decode cX0_ofValue 20 = .ok (.ireturn, 1) := dk_172 (dk_at dksX0_ofValue_0 20 rfl rfl)
theorem dX0_ofValue_21 : decode cX0_ofValue 21 = .ok (.iconst 0, 1) := dk_3 (dk_at dksX0_ofValue_0 21 rfl rfl)
theorem dX0_ofValue_22 : decode cX0_ofValue 22 = .ok (.ireturn, 1) := dk_172 (dk_at dksX0_ofValue_0 22 rfl rfl)
abbrev cX0_mapAt : ByteArray := method_13_code
def yX0_mapAt : MethodName := ⟨RX0, "mapAt", "(LSpillslotWorks;II[J)I"⟩
def dkwX0_mapAt_0 : List UInt8 := [45, 3, 42, 27, 28, 182, 0, 49, 133, 80, 167, 0, 11, 58, 4, 4, 172, 58, 4, 5, 172, 3, 172]
abbrev dktX0_mapAt_0 : List UInt8 := dkwX0_mapAt_0 ++ []
theorem dksX0_mapAt_0 : cX0_mapAt.data.toList.drop 0 = dktX0_mapAt_0 := by decide +kernel
theorem dX0_mapAt_0 : decode cX0_mapAt 0 = .ok (.aload_n 3, 1) := dk_45 (dk_at dksX0_mapAt_0 0 rfl rfl)
theorem dX0_mapAt_1 : decode cX0_mapAt 1 = .ok (.iconst 0, 1) := dk_3 (dk_at dksX0_mapAt_0 1 rfl rfl)
theorem dX0_mapAt_2 : decode cX0_mapAt 2 = .ok (.aload_n 0, 1) := dk_42 (dk_at dksX0_mapAt_0 2 rfl rfl)
theorem dX0_mapAt_3 : decode cX0_mapAt 3 = .ok (.iload_n 1, 1) := dk_27 (dk_at dksX0_mapAt_0 3 rfl rfl)
theorem dX0_mapAt_4 : decode cX0_mapAt 4 = .ok (.iload_n 2, 1) := dk_28 (dk_at dksX0_mapAt_0 4 rfl rfl)
theorem dX0_mapAt_5 : decode cX0_mapAt 5 = .ok (.invokevirtual 49, 3) := dk_182 0 49 (dk_at dksX0_mapAt_0 5 rfl rfl)
theorem dX0_mapAt_8 : decode cX0_mapAt 8 = .ok (.i2l, 1) := dk_133 (dk_at dksX0_mapAt_0 8 rfl rfl)
theorem dX0_mapAt_9 : decode cX0_mapAt 9 = .ok (.lastore, 1) := dk_80 (dk_at dksX0_mapAt_0 9 rfl rfl)
theorem dX0_mapAt_10 : decode cX0_mapAt 10 = .ok (.goto 11, 3) := dk_167 0 11 (dk_at dksX0_mapAt_0 10 rfl rfl)
theorem dX0_mapAt_13 : decode cX0_mapAt 13 = .ok (.astore 4, 2) := dk_58 4 (dk_at dksX0_mapAt_0 13 rfl rfl)
theorem dX0_mapAt_15 : decode cX0_mapAt 15 = .ok (.iconst 1, 1) := dk_4 (dk_at dksX0_mapAt_0 15 rfl rfl)
theorem dX0_mapAt_16 : decode cX0_mapAt 16 = .ok (.ireturn, 1) := dk_172 (dk_at dksX0_mapAt_0 16 rfl rfl)
theorem dX0_mapAt_17 : decode cX0_mapAt 17 = .ok (.astore 4, 2) := dk_58 4 (dk_at dksX0_mapAt_0 17 rfl rfl)
theorem dX0_mapAt_19 : decode cX0_mapAt 19 = .ok (.iconst 2, 1) := dk_5 (dk_at dksX0_mapAt_0 19 rfl rfl)
theorem dX0_mapAt_20 : decode cX0_mapAt 20 = .ok (.ireturn, 1) := dk_172 (dk_at dksX0_mapAt_0 20 rfl rfl)
theorem dX0_mapAt_21 : decode cX0_mapAt 21 = .ok (.iconst 0, 1) := dk_3 (dk_at dksX0_mapAt_0 21 rfl rfl)
theorem dX0_mapAt_22 : decode cX0_mapAt 22 = .ok (.ireturn, 1) := dk_172 (dk_at dksX0_mapAt_0 22 rfl rfl)
abbrev cX0_cost : ByteArray := method_14_code
def yX0_cost : MethodName := ⟨RX0, "cost", "(LSpillslotWorks;I[J)I"⟩
def dkwX0_cost_0 : List UInt8 := [44, 3, 42, 27, 182, 0, 52, 133, 80, 167, 0, 6, 78, 4, 172, 3, 172]
abbrev dktX0_cost_0 : List UInt8 := dkwX0_cost_0 ++ []
theorem dksX0_cost_0 : cX0_cost.data.toList.drop 0 = dktX0_cost_0 := by decide +kernel
theorem dX0_cost_0 : decode cX0_cost 0 = .ok (.aload_n 2, 1) := dk_44 (dk_at dksX0_cost_0 0 rfl rfl)
theorem dX0_cost_1 : decode cX0_cost 1 = .ok (.iconst 0, 1) := dk_3 (dk_at dksX0_cost_0 1 rfl rfl)
theorem dX0_cost_2 : decode cX0_cost 2 = .ok (.aload_n 0, 1) := dk_42 (dk_at dksX0_cost_0 2 rfl rfl)
theorem dX0_cost_3 : decode cX0_cost 3 = .ok (.iload_n 1, 1) := dk_27 (dk_at dksX0_cost_0 3 rfl rfl)
theorem dX0_cost_4 : decode cX0_cost 4 = .ok (.invokevirtual 52, 3) := dk_182 0 52 (dk_at dksX0_cost_0 4 rfl rfl)
theorem dX0_cost_7 : decode cX0_cost 7 = .ok (.i2l, 1) := dk_133 (dk_at dksX0_cost_0 7 rfl rfl)
theorem dX0_cost_8 : decode cX0_cost 8 = .ok (.lastore, 1) := dk_80 (dk_at dksX0_cost_0 8 rfl rfl)
theorem dX0_cost_9 : decode cX0_cost 9 = .ok (.goto 6, 3) := dk_167 0 6 (dk_at dksX0_cost_0 9 rfl rfl)
theorem dX0_cost_12 : decode cX0_cost 12 = .ok (.astore_n 3, 1) := dk_78 (dk_at dksX0_cost_0 12 rfl rfl)
theorem dX0_cost_13 : decode cX0_cost 13 = .ok (.iconst 1, 1) := dk_4 (dk_at dksX0_cost_0 13 rfl rfl)
theorem dX0_cost_14 : decode cX0_cost 14 = .ok (.ireturn, 1) := dk_172 (dk_at dksX0_cost_0 14 rfl rfl)
theorem dX0_cost_15 : decode cX0_cost 15 = .ok (.iconst 0, 1) := dk_3 (dk_at dksX0_cost_0 15 rfl rfl)
theorem dX0_cost_16 : decode cX0_cost 16 = .ok (.ireturn, 1) := dk_172 (dk_at dksX0_cost_0 16 rfl rfl)
abbrev cX0_code : ByteArray := method_15_code
def yX0_code : MethodName := ⟨RX0, "code", "(LSpillslotWorks;II[J)I"⟩
def dkwX0_code_0 : List UInt8 := [45, 3, 42, 27, 28, 182, 0, 55, 133, 80, 167, 0, 11, 58, 4, 4, 172, 58, 4, 5, 172, 3, 172]
abbrev dktX0_code_0 : List UInt8 := dkwX0_code_0 ++ []
theorem dksX0_code_0 : cX0_code.data.toList.drop 0 = dktX0_code_0 := by decide +kernel
theorem dX0_code_0 : decode cX0_code 0 = .ok (.aload_n 3, 1) := dk_45 (dk_at dksX0_code_0 0 rfl rfl)
theorem dX0_code_1 : decode cX0_code 1 = .ok (.iconst 0, 1) := dk_3 (dk_at dksX0_code_0 1 rfl rfl)
theorem dX0_code_2 : decode cX0_code 2 = .ok (.aload_n 0, 1) := dk_42 (dk_at dksX0_code_0 2 rfl rfl)
theorem dX0_code_3 : decode cX0_code 3 = .ok (.iload_n 1, 1) := dk_27 (dk_at dksX0_code_0 3 rfl rfl)
theorem dX0_code_4 : decode cX0_code 4 = .ok (.iload_n 2, 1) := dk_28 (dk_at dksX0_code_0 4 rfl rfl)
theorem dX0_code_5 : decode cX0_code 5 = .ok (.invokevirtual 55, 3) := dk_182 0 55 (dk_at dksX0_code_0 5 rfl rfl)
theorem dX0_code_8 : decode cX0_code 8 = .ok (.i2l, 1) := dk_133 (dk_at dksX0_code_0 8 rfl rfl)
theorem dX0_code_9 : decode cX0_code 9 = .ok (.lastore, 1) := dk_80 (dk_at dksX0_code_0 9 rfl rfl)
theorem dX0_code_10 : decode cX0_code 10 = .ok (.goto 11, 3) := dk_167 0 11 (dk_at dksX0_code_0 10 rfl rfl)
theorem dX0_code_13 : decode cX0_code 13 = .ok (.astore 4, 2) := dk_58 4 (dk_at dksX0_code_0 13 rfl rfl)
theorem dX0_code_15 : decode cX0_code 15 = .ok (.iconst 1, 1) := dk_4 (dk_at dksX0_code_0 15 rfl rfl)
theorem dX0_code_16 : decode cX0_code 16 = .ok (.ireturn, 1) := dk_172 (dk_at dksX0_code_0 16 rfl rfl)
theorem dX0_code_17 : decode cX0_code 17 = .ok (.astore 4, 2) := dk_58 4 (dk_at dksX0_code_0 17 rfl rfl)
theorem dX0_code_19 : decode cX0_code 19 = .ok (.iconst 2, 1) := dk_5 (dk_at dksX0_code_0 19 rfl rfl)
theorem dX0_code_20 : decode cX0_code 20 = .ok (.ireturn, 1) := dk_172 (dk_at dksX0_code_0 20 rfl rfl)
theorem dX0_code_21 : decode cX0_code 21 = .ok (.iconst 0, 1) := dk_3 (dk_at dksX0_code_0 21 rfl rfl)
theorem dX0_code_22 : decode cX0_code 22 = .ok (.ireturn, 1) := dk_172 (dk_at dksX0_code_0 22 rfl rfl)
abbrev cX0_begins : ByteArray := method_16_code
def yX0_begins : MethodName := ⟨RX0, "begins", "(LSpillslotWorks;I[J)I"⟩
def dkwX0_begins_0 : List UInt8 := [44, 3, 42, 27, 182, 0, 58, 133, 80, 167, 0, 6, 78, 4, 172, 3, 172]
abbrev dktX0_begins_0 : List UInt8 := dkwX0_begins_0 ++ []
theorem dksX0_begins_0 : cX0_begins.data.toList.drop 0 = dktX0_begins_0 := by decide +kernel
theorem dX0_begins_0 : decode cX0_begins 0 = .ok (.aload_n 2, 1) := dk_44 (dk_at dksX0_begins_0 0 rfl rfl)
theorem dX0_begins_1 : decode cX0_begins 1 = .ok (.iconst 0, 1) := dk_3 (dk_at dksX0_begins_0 1 rfl rfl)
theorem dX0_begins_2 : decode cX0_begins 2 = .ok (.aload_n 0, 1) := dk_42 (dk_at dksX0_begins_0 2 rfl rfl)
theorem dX0_begins_3 : decode cX0_begins 3 = .ok (.iload_n 1, 1) := dk_27 (dk_at dksX0_begins_0 3 rfl rfl)
theorem dX0_begins_4 : decode cX0_begins 4 = .ok (.invokevirtual 58, 3) := dk_182 0 58 (dk_at dksX0_begins_0 4 rfl rfl)
theorem dX0_begins_7 : decode cX0_begins 7 = .ok (.i2l, 1) := dk_133 (dk_at dksX0_begins_0 7 rfl rfl)
theorem dX0_begins_8 : decode cX0_begins 8 = .ok (.lastore, 1) := dk_80 (dk_at dksX0_begins_0 8 rfl rfl)
theorem dX0_begins_9 : decode cX0_begins 9 = .ok (.goto 6, 3) := dk_167 0 6 (dk_at dksX0_begins_0 9 rfl rfl)
theorem dX0_begins_12 : decode cX0_begins 12 = .ok (.astore_n 3, 1) := dk_78 (dk_at dksX0_begins_0 12 rfl rfl)
theorem dX0_begins_13 : decode cX0_begins 13 = .ok (.iconst 1, 1) := dk_4 (dk_at dksX0_begins_0 13 rfl rfl)
theorem dX0_begins_14 : decode cX0_begins 14 = .ok (.ireturn, 1) := dk_172 (dk_at dksX0_begins_0 14 rfl rfl)
theorem dX0_begins_15 : decode cX0_begins 15 = .ok (.iconst 0, 1) := dk_3 (dk_at dksX0_begins_0 15 rfl rfl)
theorem dX0_begins_16 : decode cX0_begins 16 = .ok (.ireturn, 1) := dk_172 (dk_at dksX0_begins_0 16 rfl rfl)
abbrev cX0_answer : ByteArray := method_17_code
def yX0_answer : MethodName := ⟨RX0, "answer", "(LSpillslotWorks;I[J)I"⟩
def dkwX0_answer_0 : List UInt8 := [44, 3, 42, 27, 182, 0, 61, 133, 80, 167, 0, 6, 78, 4, 172, 3, 172]
abbrev dktX0_answer_0 : List UInt8 := dkwX0_answer_0 ++ []
theorem dksX0_answer_0 : cX0_answer.data.toList.drop 0 = dktX0_answer_0 := by decide +kernel
theorem dX0_answer_0 : decode cX0_answer 0 = .ok (.aload_n 2, 1) := dk_44 (dk_at dksX0_answer_0 0 rfl rfl)
theorem dX0_answer_1 : decode cX0_answer 1 = .ok (.iconst 0, 1) := dk_3 (dk_at dksX0_answer_0 1 rfl rfl)
theorem dX0_answer_2 : decode cX0_answer 2 = .ok (.aload_n 0, 1) := dk_42 (dk_at dksX0_answer_0 2 rfl rfl)
theorem dX0_answer_3 : decode cX0_answer 3 = .ok (.iload_n 1, 1) := dk_27 (dk_at dksX0_answer_0 3 rfl rfl)
theorem dX0_answer_4 : decode cX0_answer 4 = .ok (.invokevirtual 61, 3) := dk_182 0 61 (dk_at dksX0_answer_0 4 rfl rfl)
theorem dX0_answer_7 : decode cX0_answer 7 = .ok (.i2l, 1) := dk_133 (dk_at dksX0_answer_0 7 rfl rfl)
theorem dX0_answer_8 : decode cX0_answer 8 = .ok (.lastore, 1) := dk_80 (dk_at dksX0_answer_0 8 rfl rfl)
theorem dX0_answer_9 : decode cX0_answer 9 = .ok (.goto 6, 3) := dk_167 0 6 (dk_at dksX0_answer_0 9 rfl rfl)
theorem dX0_answer_12 : decode cX0_answer 12 = .ok (.astore_n 3, 1) := dk_78 (dk_at dksX0_answer_0 12 rfl rfl)
theorem dX0_answer_13 : decode cX0_answer 13 = .ok (.iconst 1, 1) := dk_4 (dk_at dksX0_answer_0 13 rfl rfl)
theorem dX0_answer_14 : decode cX0_answer 14 = .ok (.ireturn, 1) := dk_172 (dk_at dksX0_answer_0 14 rfl rfl)
theorem dX0_answer_15 : decode cX0_answer 15 = .ok (.iconst 0, 1) := dk_3 (dk_at dksX0_answer_0 15 rfl rfl)
theorem dX0_answer_16 : decode cX0_answer 16 = .ok (.ireturn, 1) := dk_172 (dk_at dksX0_answer_0 16 rfl rfl)
abbrev cX0_many : ByteArray := method_18_code
def yX0_many : MethodName := ⟨RX0, "many", "(LSpillslotWorks;I[J)I"⟩
def dkwX0_many_0 : List UInt8 := [44, 3, 42, 27, 182, 0, 64, 133, 80, 167, 0, 6, 78, 4, 172, 3, 172]
abbrev dktX0_many_0 : List UInt8 := dkwX0_many_0 ++ []
theorem dksX0_many_0 : cX0_many.data.toList.drop 0 = dktX0_many_0 := by decide +kernel
theorem dX0_many_0 : decode cX0_many 0 = .ok (.aload_n 2, 1) := dk_44 (dk_at dksX0_many_0 0 rfl rfl)
theorem dX0_many_1 : decode cX0_many 1 = .ok (.iconst 0, 1) := dk_3 (dk_at dksX0_many_0 1 rfl rfl)
theorem dX0_many_2 : decode cX0_many 2 = .ok (.aload_n 0, 1) := dk_42 (dk_at dksX0_many_0 2 rfl rfl)
theorem dX0_many_3 : decode cX0_many 3 = .ok (.iload_n 1, 1) := dk_27 (dk_at dksX0_many_0 3 rfl rfl)
theorem dX0_many_4 : decode cX0_many 4 = .ok (.invokevirtual 64, 3) := dk_182 0 64 (dk_at dksX0_many_0 4 rfl rfl)
theorem dX0_many_7 : decode cX0_many 7 = .ok (.i2l, 1) := dk_133 (dk_at dksX0_many_0 7 rfl rfl)
theorem dX0_many_8 : decode cX0_many 8 = .ok (.lastore, 1) := dk_80 (dk_at dksX0_many_0 8 rfl rfl)
theorem dX0_many_9 : decode cX0_many 9 = .ok (.goto 6, 3) := dk_167 0 6 (dk_at dksX0_many_0 9 rfl rfl)
theorem dX0_many_12 : decode cX0_many 12 = .ok (.astore_n 3, 1) := dk_78 (dk_at dksX0_many_0 12 rfl rfl)
theorem dX0_many_13 : decode cX0_many 13 = .ok (.iconst 1, 1) := dk_4 (dk_at dksX0_many_0 13 rfl rfl)
theorem dX0_many_14 : decode cX0_many 14 = .ok (.ireturn, 1) := dk_172 (dk_at dksX0_many_0 14 rfl rfl)
theorem dX0_many_15 : decode cX0_many 15 = .ok (.iconst 0, 1) := dk_3 (dk_at dksX0_many_0 15 rfl rfl)
theorem dX0_many_16 : decode cX0_many 16 = .ok (.ireturn, 1) := dk_172 (dk_at dksX0_many_0 16 rfl rfl)
abbrev cX0_with : ByteArray := method_19_code
def yX0_with : MethodName := ⟨RX0, "with", "(LSpillslotWorks;IIZI[J)I"⟩
def dkwX0_with_0 : List UInt8 := [25, 5, 3, 42, 27, 28, 29, 21, 4, 182, 0, 67, 133, 80, 167, 0, 7, 58, 6, 4, 172, 3, 172]
abbrev dktX0_with_0 : List UInt8 := dkwX0_with_0 ++ []
theorem dksX0_with_0 : cX0_with.data.toList.drop 0 = dktX0_with_0 := by decide +kernel
theorem dX0_with_0 : decode cX0_with 0 = .ok (.aload 5, 2) := dk_25 5 (dk_at dksX0_with_0 0 rfl rfl)
theorem dX0_with_2 : decode cX0_with 2 = .ok (.iconst 0, 1) := dk_3 (dk_at dksX0_with_0 2 rfl rfl)
theorem dX0_with_3 : decode cX0_with 3 = .ok (.aload_n 0, 1) := dk_42 (dk_at dksX0_with_0 3 rfl rfl)
theorem dX0_with_4 : decode cX0_with 4 = .ok (.iload_n 1, 1) := dk_27 (dk_at dksX0_with_0 4 rfl rfl)
theorem dX0_with_5 : decode cX0_with 5 = .ok (.iload_n 2, 1) := dk_28 (dk_at dksX0_with_0 5 rfl rfl)
theorem dX0_with_6 : decode cX0_with 6 = .ok (.iload_n 3, 1) := dk_29 (dk_at dksX0_with_0 6 rfl rfl)
theorem dX0_with_7 : decode cX0_with 7 = .ok (.iload 4, 2) := dk_21 4 (dk_at dksX0_with_0 7 rfl rfl)
theorem dX0_with_9 : decode cX0_with 9 = .ok (.invokevirtual 67, 3) := dk_182 0 67 (dk_at dksX0_with_0 9 rfl rfl)
theorem dX0_with_12 : decode cX0_with 12 = .ok (.i2l, 1) := dk_133 (dk_at dksX0_with_0 12 rfl rfl)
theorem dX0_with_13 : decode cX0_with 13 = .ok (.lastore, 1) := dk_80 (dk_at dksX0_with_0 13 rfl rfl)
theorem dX0_with_14 : decode cX0_with 14 = .ok (.goto 7, 3) := dk_167 0 7 (dk_at dksX0_with_0 14 rfl rfl)
theorem dX0_with_17 : decode cX0_with 17 = .ok (.astore 6, 2) := dk_58 6 (dk_at dksX0_with_0 17 rfl rfl)
theorem dX0_with_19 : decode cX0_with 19 = .ok (.iconst 1, 1) := dk_4 (dk_at dksX0_with_0 19 rfl rfl)
theorem dX0_with_20 : decode cX0_with 20 = .ok (.ireturn, 1) := dk_172 (dk_at dksX0_with_0 20 rfl rfl)
theorem dX0_with_21 : decode cX0_with 21 = .ok (.iconst 0, 1) := dk_3 (dk_at dksX0_with_0 21 rfl rfl)
theorem dX0_with_22 : decode cX0_with 22 = .ok (.ireturn, 1) := dk_172 (dk_at dksX0_with_0 22 rfl rfl)
abbrev cX0_cyclesWith : ByteArray := method_20_code
def yX0_cyclesWith : MethodName := ⟨RX0, "cyclesWith", "(LSpillslotWorks;II[J)I"⟩
def dkwX0_cyclesWith_0 : List UInt8 := [45, 3, 42, 27, 28, 182, 0, 71, 133, 80, 167, 0, 11, 58, 4, 4, 172, 58, 4, 5, 172, 3, 172]
abbrev dktX0_cyclesWith_0 : List UInt8 := dkwX0_cyclesWith_0 ++ []
theorem dksX0_cyclesWith_0 : cX0_cyclesWith.data.toList.drop 0 = dktX0_cyclesWith_0 := by decide +kernel
theorem dX0_cyclesWith_0 : decode cX0_cyclesWith 0 = .ok (.aload_n 3, 1) := dk_45 (dk_at dksX0_cyclesWith_0 0 rfl rfl)
theorem dX0_cyclesWith_1 : decode cX0_cyclesWith 1 = .ok (.iconst 0, 1) := dk_3 (dk_at dksX0_cyclesWith_0 1 rfl rfl)
theorem dX0_cyclesWith_2 : decode cX0_cyclesWith 2 = .ok (.aload_n 0, 1) := dk_42 (dk_at dksX0_cyclesWith_0 2 rfl rfl)
theorem dX0_cyclesWith_3 : decode cX0_cyclesWith 3 = .ok (.iload_n 1, 1) := dk_27 (dk_at dksX0_cyclesWith_0 3 rfl rfl)
theorem dX0_cyclesWith_4 : decode cX0_cyclesWith 4 = .ok (.iload_n 2, 1) := dk_28 (dk_at dksX0_cyclesWith_0 4 rfl rfl)
theorem dX0_cyclesWith_5 : decode cX0_cyclesWith 5 = .ok (.invokevirtual 71, 3) := dk_182 0 71 (dk_at dksX0_cyclesWith_0 5 rfl rfl)
theorem dX0_cyclesWith_8 : decode cX0_cyclesWith 8 = .ok (.i2l, 1) := dk_133 (dk_at dksX0_cyclesWith_0 8 rfl rfl)
theorem dX0_cyclesWith_9 : decode cX0_cyclesWith 9 = .ok (.lastore, 1) := dk_80 (dk_at dksX0_cyclesWith_0 9 rfl rfl)
theorem dX0_cyclesWith_10 : decode cX0_cyclesWith 10 = .ok (.goto 11, 3) := dk_167 0 11 (dk_at dksX0_cyclesWith_0 10 rfl rfl)
theorem dX0_cyclesWith_13 : decode cX0_cyclesWith 13 = .ok (.astore 4, 2) := dk_58 4 (dk_at dksX0_cyclesWith_0 13 rfl rfl)
theorem dX0_cyclesWith_15 : decode cX0_cyclesWith 15 = .ok (.iconst 1, 1) := dk_4 (dk_at dksX0_cyclesWith_0 15 rfl rfl)
theorem dX0_cyclesWith_16 : decode cX0_cyclesWith 16 = .ok (.ireturn, 1) := dk_172 (dk_at dksX0_cyclesWith_0 16 rfl rfl)
theorem dX0_cyclesWith_17 : decode cX0_cyclesWith 17 = .ok (.astore 4, 2) := dk_58 4 (dk_at dksX0_cyclesWith_0 17 rfl rfl)
theorem dX0_cyclesWith_19 : decode cX0_cyclesWith 19 = .ok (.iconst 2, 1) := dk_5 (dk_at dksX0_cyclesWith_0 19 rfl rfl)
theorem dX0_cyclesWith_20 : decode cX0_cyclesWith 20 = .ok (.ireturn, 1) := dk_172 (dk_at dksX0_cyclesWith_0 20 rfl rfl)
theorem dX0_cyclesWith_21 : decode cX0_cyclesWith 21 = .ok (.iconst 0, 1) := dk_3 (dk_at dksX0_cyclesWith_0 21 rfl rfl)
theorem dX0_cyclesWith_22 : decode cX0_cyclesWith 22 = .ok (.ireturn, 1) := dk_172 (dk_at dksX0_cyclesWith_0 22 rfl rfl)
theorem q119 : (Jvm.Cond.initialized "SpillslotWorksLaw") ∈ lw_all := lw_g (lw_at lw_m1 0 rfl) rfl
theorem q171 : (Jvm.Cond.classLink "SpillslotWorksLaw" (8 : Nat) "SpillslotWorks") ∈ lw_all := lw_g (lw_at lw_m1 52 rfl) rfl
theorem q173 : (Jvm.Cond.methodLink "SpillslotWorksLaw" (74 : Nat) ({ cls := "SpillslotWorks", name := "<init>", desc := "()V" } : Jvm.MethodName)) ∈ lw_all := lw_g (lw_at lw_m1 54 rfl) rfl
theorem q1407 : (Jvm.Cond.methodLink "SpillslotWorksLaw" (136 : Nat) ({ cls := "SpillslotWorks", name := "meanStall", desc := "()D" } : Jvm.MethodName)) ∈ lw_all := lw_g (lw_at lw_m6 88 rfl) rfl
theorem q1411 : (Jvm.Cond.methodLink "SpillslotWorksLaw" (148 : Nat) ({ cls := "SpillslotWorks", name := "enough", desc := "()I" } : Jvm.MethodName)) ∈ lw_all := lw_g (lw_at lw_m6 92 rfl) rfl
theorem q1458 : (Jvm.Cond.methodLink "SpillslotWorksLaw" (152 : Nat) ({ cls := "SpillslotWorks", name := "unordered", desc := "()I" } : Jvm.MethodName)) ∈ lw_all := lw_g (lw_at lw_m6 139 rfl) rfl
theorem q1466 : (Jvm.Cond.methodLink "SpillslotWorksLaw" (156 : Nat) ({ cls := "SpillslotWorks", name := "digest", desc := "()J" } : Jvm.MethodName)) ∈ lw_all := lw_g (lw_at lw_m6 147 rfl) rfl
theorem q1557 : (Jvm.Cond.methodLink "SpillslotWorksLaw" (78 : Nat) ({ cls := "SpillslotWorksLaw", name := "machine", desc := "(LSpillslotWorks;IIIZZ[J)I" } : Jvm.MethodName)) ∈ lw_all := lw_g (lw_at lw_m6 238 rfl) rfl
theorem q1558 : (Jvm.Cond.static ({ cls := "SpillslotWorksLaw", name := "machine", desc := "(LSpillslotWorks;IIIZZ[J)I" } : Jvm.MethodName)) ∈ lw_all := lw_g (lw_at lw_m6 239 rfl) rfl
theorem q1559 : (Jvm.Cond.codeWith ({ cls := "SpillslotWorksLaw", name := "machine", desc := "(LSpillslotWorks;IIIZZ[J)I" } : Jvm.MethodName) method_3_code (8 : Nat) (Option.some Jvm.ClassFile.FieldType.int) [((0 : Nat), (16 : Nat), (19 : Nat), (13 : Nat))]) ∈ lw_all := lw_g (lw_at lw_m7 0 rfl) rfl
theorem q1560 : (Jvm.Cond.classLink "SpillslotWorksLaw" (13 : Nat) "java/lang/IllegalArgumentException") ∈ lw_all := lw_g (lw_at lw_m7 1 rfl) rfl
theorem q1561 : (Jvm.Cond.methodLink "SpillslotWorksLaw" (7 : Nat) ({ cls := "SpillslotWorks", name := "machine", desc := "(IIIZZ)I" } : Jvm.MethodName)) ∈ lw_all := lw_g (lw_at lw_m7 2 rfl) rfl
theorem q1589 : (Jvm.Cond.methodLink "SpillslotWorksLaw" (88 : Nat) ({ cls := "SpillslotWorksLaw", name := "latency", desc := "(LSpillslotWorks;II[J)I" } : Jvm.MethodName)) ∈ lw_all := lw_g (lw_at lw_m7 30 rfl) rfl
theorem q1590 : (Jvm.Cond.static ({ cls := "SpillslotWorksLaw", name := "latency", desc := "(LSpillslotWorks;II[J)I" } : Jvm.MethodName)) ∈ lw_all := lw_g (lw_at lw_m7 31 rfl) rfl
theorem q1591 : (Jvm.Cond.codeWith ({ cls := "SpillslotWorksLaw", name := "latency", desc := "(LSpillslotWorks;II[J)I" } : Jvm.MethodName) method_4_code (5 : Nat) (Option.some Jvm.ClassFile.FieldType.int) [((0 : Nat), (10 : Nat), (13 : Nat), (19 : Nat)), ((0 : Nat), (10 : Nat), (17 : Nat), (13 : Nat))]) ∈ lw_all := lw_g (lw_at lw_m7 32 rfl) rfl
theorem q1592 : (Jvm.Cond.classLink "SpillslotWorksLaw" (19 : Nat) "java/lang/IndexOutOfBoundsException") ∈ lw_all := lw_g (lw_at lw_m7 33 rfl) rfl
theorem q1608 : (Jvm.Cond.methodLink "SpillslotWorksLaw" (15 : Nat) ({ cls := "SpillslotWorks", name := "latency", desc := "(II)I" } : Jvm.MethodName)) ∈ lw_all := lw_g (lw_at lw_m7 49 rfl) rfl
theorem q1625 : (Jvm.Cond.methodLink "SpillslotWorksLaw" (92 : Nat) ({ cls := "SpillslotWorksLaw", name := "node", desc := "(LSpillslotWorks;III[J)I" } : Jvm.MethodName)) ∈ lw_all := lw_g (lw_at lw_m7 66 rfl) rfl
theorem q1626 : (Jvm.Cond.static ({ cls := "SpillslotWorksLaw", name := "node", desc := "(LSpillslotWorks;III[J)I" } : Jvm.MethodName)) ∈ lw_all := lw_g (lw_at lw_m7 67 rfl) rfl
theorem q1627 : (Jvm.Cond.codeWith ({ cls := "SpillslotWorksLaw", name := "node", desc := "(LSpillslotWorks;III[J)I" } : Jvm.MethodName) method_5_code (6 : Nat) (Option.some Jvm.ClassFile.FieldType.int) [((0 : Nat), (12 : Nat), (15 : Nat), (13 : Nat)), ((0 : Nat), (12 : Nat), (19 : Nat), (25 : Nat))]) ∈ lw_all := lw_g (lw_at lw_m7 68 rfl) rfl
theorem q1628 : (Jvm.Cond.classLink "SpillslotWorksLaw" (25 : Nat) "java/lang/IllegalStateException") ∈ lw_all := lw_g (lw_at lw_m7 69 rfl) rfl
theorem q1629 : (Jvm.Cond.methodLink "SpillslotWorksLaw" (21 : Nat) ({ cls := "SpillslotWorks", name := "node", desc := "(III)I" } : Jvm.MethodName)) ∈ lw_all := lw_g (lw_at lw_m7 70 rfl) rfl
theorem q1692 : (Jvm.Cond.methodLink "SpillslotWorksLaw" (96 : Nat) ({ cls := "SpillslotWorksLaw", name := "statement", desc := "(LSpillslotWorks;III[J)I" } : Jvm.MethodName)) ∈ lw_all := lw_g (lw_at lw_m7 133 rfl) rfl
theorem q1693 : (Jvm.Cond.static ({ cls := "SpillslotWorksLaw", name := "statement", desc := "(LSpillslotWorks;III[J)I" } : Jvm.MethodName)) ∈ lw_all := lw_g (lw_at lw_m7 134 rfl) rfl
theorem q1694 : (Jvm.Cond.codeWith ({ cls := "SpillslotWorksLaw", name := "statement", desc := "(LSpillslotWorks;III[J)I" } : Jvm.MethodName) method_6_code (6 : Nat) (Option.some Jvm.ClassFile.FieldType.int) [((0 : Nat), (12 : Nat), (15 : Nat), (19 : Nat)), ((0 : Nat), (12 : Nat), (19 : Nat), (13 : Nat)), ((0 : Nat), (12 : Nat), (23 : Nat), (25 : Nat))]) ∈ lw_all := lw_g (lw_at lw_m7 135 rfl) rfl
theorem q1695 : (Jvm.Cond.methodLink "SpillslotWorksLaw" (27 : Nat) ({ cls := "SpillslotWorks", name := "statement", desc := "(III)I" } : Jvm.MethodName)) ∈ lw_all := lw_g (lw_at lw_m7 136 rfl) rfl
theorem q1721 : (Jvm.Cond.methodLink "SpillslotWorksLaw" (99 : Nat) ({ cls := "SpillslotWorksLaw", name := "take", desc := "(LSpillslotWorks;I[J)I" } : Jvm.MethodName)) ∈ lw_all := lw_g (lw_at lw_m7 162 rfl) rfl
theorem q1722 : (Jvm.Cond.static ({ cls := "SpillslotWorksLaw", name := "take", desc := "(LSpillslotWorks;I[J)I" } : Jvm.MethodName)) ∈ lw_all := lw_g (lw_at lw_m7 163 rfl) rfl
theorem q1723 : (Jvm.Cond.codeWith ({ cls := "SpillslotWorksLaw", name := "take", desc := "(LSpillslotWorks;I[J)I" } : Jvm.MethodName) method_7_code (4 : Nat) (Option.some Jvm.ClassFile.FieldType.int) [((0 : Nat), (9 : Nat), (12 : Nat), (19 : Nat)), ((0 : Nat), (9 : Nat), (15 : Nat), (25 : Nat))]) ∈ lw_all := lw_g (lw_at lw_m7 164 rfl) rfl
theorem q1724 : (Jvm.Cond.methodLink "SpillslotWorksLaw" (30 : Nat) ({ cls := "SpillslotWorks", name := "take", desc := "(I)I" } : Jvm.MethodName)) ∈ lw_all := lw_g (lw_at lw_m7 165 rfl) rfl
theorem q1750 : (Jvm.Cond.methodLink "SpillslotWorksLaw" (103 : Nat) ({ cls := "SpillslotWorksLaw", name := "times", desc := "(LSpillslotWorks;II[J)I" } : Jvm.MethodName)) ∈ lw_all := lw_g (lw_at lw_m7 191 rfl) rfl
theorem q1751 : (Jvm.Cond.static ({ cls := "SpillslotWorksLaw", name := "times", desc := "(LSpillslotWorks;II[J)I" } : Jvm.MethodName)) ∈ lw_all := lw_g (lw_at lw_m7 192 rfl) rfl
theorem q1752 : (Jvm.Cond.codeWith ({ cls := "SpillslotWorksLaw", name := "times", desc := "(LSpillslotWorks;II[J)I" } : Jvm.MethodName) method_8_code (5 : Nat) (Option.some Jvm.ClassFile.FieldType.int) [((0 : Nat), (10 : Nat), (13 : Nat), (19 : Nat)), ((0 : Nat), (10 : Nat), (17 : Nat), (13 : Nat))]) ∈ lw_all := lw_g (lw_at lw_m7 193 rfl) rfl
theorem q1753 : (Jvm.Cond.methodLink "SpillslotWorksLaw" (34 : Nat) ({ cls := "SpillslotWorks", name := "times", desc := "(II)I" } : Jvm.MethodName)) ∈ lw_all := lw_g (lw_at lw_m7 194 rfl) rfl
theorem q1757 : (Jvm.Cond.methodLink "SpillslotWorksLaw" (106 : Nat) ({ cls := "SpillslotWorksLaw", name := "out", desc := "(LSpillslotWorks;I[J)I" } : Jvm.MethodName)) ∈ lw_all := lw_g (lw_at lw_m7 198 rfl) rfl
theorem q1758 : (Jvm.Cond.static ({ cls := "SpillslotWorksLaw", name := "out", desc := "(LSpillslotWorks;I[J)I" } : Jvm.MethodName)) ∈ lw_all := lw_g (lw_at lw_m7 199 rfl) rfl
theorem q1759 : (Jvm.Cond.codeWith ({ cls := "SpillslotWorksLaw", name := "out", desc := "(LSpillslotWorks;I[J)I" } : Jvm.MethodName) method_9_code (4 : Nat) (Option.some Jvm.ClassFile.FieldType.int) [((0 : Nat), (9 : Nat), (12 : Nat), (13 : Nat))]) ∈ lw_all := lw_g (lw_at lw_m7 200 rfl) rfl
theorem q1760 : (Jvm.Cond.methodLink "SpillslotWorksLaw" (37 : Nat) ({ cls := "SpillslotWorks", name := "out", desc := "(I)I" } : Jvm.MethodName)) ∈ lw_all := lw_g (lw_at lw_m7 201 rfl) rfl
theorem q1764 : (Jvm.Cond.methodLink "SpillslotWorksLaw" (109 : Nat) ({ cls := "SpillslotWorksLaw", name := "meant", desc := "(LSpillslotWorks;I[J)I" } : Jvm.MethodName)) ∈ lw_all := lw_g (lw_at lw_m7 205 rfl) rfl
theorem q1765 : (Jvm.Cond.static ({ cls := "SpillslotWorksLaw", name := "meant", desc := "(LSpillslotWorks;I[J)I" } : Jvm.MethodName)) ∈ lw_all := lw_g (lw_at lw_m7 206 rfl) rfl
theorem q1766 : (Jvm.Cond.codeWith ({ cls := "SpillslotWorksLaw", name := "meant", desc := "(LSpillslotWorks;I[J)I" } : Jvm.MethodName) method_10_code (4 : Nat) (Option.some Jvm.ClassFile.FieldType.int) [((0 : Nat), (9 : Nat), (12 : Nat), (19 : Nat))]) ∈ lw_all := lw_g (lw_at lw_m7 207 rfl) rfl
theorem q1767 : (Jvm.Cond.methodLink "SpillslotWorksLaw" (40 : Nat) ({ cls := "SpillslotWorks", name := "meant", desc := "(I)I" } : Jvm.MethodName)) ∈ lw_all := lw_g (lw_at lw_m7 208 rfl) rfl
theorem q1771 : (Jvm.Cond.methodLink "SpillslotWorksLaw" (112 : Nat) ({ cls := "SpillslotWorksLaw", name := "chosen", desc := "(LSpillslotWorks;II[J)I" } : Jvm.MethodName)) ∈ lw_all := lw_g (lw_at lw_m7 212 rfl) rfl
theorem q1772 : (Jvm.Cond.static ({ cls := "SpillslotWorksLaw", name := "chosen", desc := "(LSpillslotWorks;II[J)I" } : Jvm.MethodName)) ∈ lw_all := lw_g (lw_at lw_m7 213 rfl) rfl
theorem q1773 : (Jvm.Cond.codeWith ({ cls := "SpillslotWorksLaw", name := "chosen", desc := "(LSpillslotWorks;II[J)I" } : Jvm.MethodName) method_11_code (5 : Nat) (Option.some Jvm.ClassFile.FieldType.int) [((0 : Nat), (10 : Nat), (13 : Nat), (19 : Nat)), ((0 : Nat), (10 : Nat), (17 : Nat), (13 : Nat))]) ∈ lw_all := lw_g (lw_at lw_m7 214 rfl) rfl
theorem q1774 : (Jvm.Cond.methodLink "SpillslotWorksLaw" (43 : Nat) ({ cls := "SpillslotWorks", name := "chosen", desc := "(II)I" } : Jvm.MethodName)) ∈ lw_all := lw_g (lw_at lw_m7 215 rfl) rfl
theorem q1778 : (Jvm.Cond.methodLink "SpillslotWorksLaw" (115 : Nat) ({ cls := "SpillslotWorksLaw", name := "ofValue", desc := "(LSpillslotWorks;II[J)I" } : Jvm.MethodName)) ∈ lw_all := lw_g (lw_at lw_m7 219 rfl) rfl
theorem q1779 : (Jvm.Cond.static ({ cls := "SpillslotWorksLaw", name := "ofValue", desc := "(LSpillslotWorks;II[J)I" } : Jvm.MethodName)) ∈ lw_all := lw_g (lw_at lw_m7 220 rfl) rfl
theorem q1780 : (Jvm.Cond.codeWith ({ cls := "SpillslotWorksLaw", name := "ofValue", desc := "(LSpillslotWorks;II[J)I" } : Jvm.MethodName) method_12_code (5 : Nat) (Option.some Jvm.ClassFile.FieldType.int) [((0 : Nat), (10 : Nat), (13 : Nat), (19 : Nat)), ((0 : Nat), (10 : Nat), (17 : Nat), (13 : Nat))]) ∈ lw_all := lw_g (lw_at lw_m7 221 rfl) rfl
theorem q1781 : (Jvm.Cond.methodLink "SpillslotWorksLaw" (46 : Nat) ({ cls := "SpillslotWorks", name := "ofValue", desc := "(II)I" } : Jvm.MethodName)) ∈ lw_all := lw_g (lw_at lw_m7 222 rfl) rfl
theorem q1785 : (Jvm.Cond.methodLink "SpillslotWorksLaw" (118 : Nat) ({ cls := "SpillslotWorksLaw", name := "mapAt", desc := "(LSpillslotWorks;II[J)I" } : Jvm.MethodName)) ∈ lw_all := lw_g (lw_at lw_m7 226 rfl) rfl
theorem q1786 : (Jvm.Cond.static ({ cls := "SpillslotWorksLaw", name := "mapAt", desc := "(LSpillslotWorks;II[J)I" } : Jvm.MethodName)) ∈ lw_all := lw_g (lw_at lw_m7 227 rfl) rfl
theorem q1787 : (Jvm.Cond.codeWith ({ cls := "SpillslotWorksLaw", name := "mapAt", desc := "(LSpillslotWorks;II[J)I" } : Jvm.MethodName) method_13_code (5 : Nat) (Option.some Jvm.ClassFile.FieldType.int) [((0 : Nat), (10 : Nat), (13 : Nat), (19 : Nat)), ((0 : Nat), (10 : Nat), (17 : Nat), (13 : Nat))]) ∈ lw_all := lw_g (lw_at lw_m7 228 rfl) rfl
theorem q1788 : (Jvm.Cond.methodLink "SpillslotWorksLaw" (49 : Nat) ({ cls := "SpillslotWorks", name := "mapAt", desc := "(II)I" } : Jvm.MethodName)) ∈ lw_all := lw_g (lw_at lw_m7 229 rfl) rfl
theorem q1796 : (Jvm.Cond.methodLink "SpillslotWorksLaw" (121 : Nat) ({ cls := "SpillslotWorksLaw", name := "cost", desc := "(LSpillslotWorks;I[J)I" } : Jvm.MethodName)) ∈ lw_all := lw_g (lw_at lw_m7 237 rfl) rfl
theorem q1797 : (Jvm.Cond.static ({ cls := "SpillslotWorksLaw", name := "cost", desc := "(LSpillslotWorks;I[J)I" } : Jvm.MethodName)) ∈ lw_all := lw_g (lw_at lw_m7 238 rfl) rfl
theorem q1798 : (Jvm.Cond.codeWith ({ cls := "SpillslotWorksLaw", name := "cost", desc := "(LSpillslotWorks;I[J)I" } : Jvm.MethodName) method_14_code (4 : Nat) (Option.some Jvm.ClassFile.FieldType.int) [((0 : Nat), (9 : Nat), (12 : Nat), (19 : Nat))]) ∈ lw_all := lw_g (lw_at lw_m7 239 rfl) rfl
theorem q1799 : (Jvm.Cond.methodLink "SpillslotWorksLaw" (52 : Nat) ({ cls := "SpillslotWorks", name := "cost", desc := "(I)I" } : Jvm.MethodName)) ∈ lw_all := lw_g (lw_at lw_m8 0 rfl) rfl
theorem q1803 : (Jvm.Cond.methodLink "SpillslotWorksLaw" (124 : Nat) ({ cls := "SpillslotWorksLaw", name := "code", desc := "(LSpillslotWorks;II[J)I" } : Jvm.MethodName)) ∈ lw_all := lw_g (lw_at lw_m8 4 rfl) rfl
theorem q1804 : (Jvm.Cond.static ({ cls := "SpillslotWorksLaw", name := "code", desc := "(LSpillslotWorks;II[J)I" } : Jvm.MethodName)) ∈ lw_all := lw_g (lw_at lw_m8 5 rfl) rfl
theorem q1805 : (Jvm.Cond.codeWith ({ cls := "SpillslotWorksLaw", name := "code", desc := "(LSpillslotWorks;II[J)I" } : Jvm.MethodName) method_15_code (5 : Nat) (Option.some Jvm.ClassFile.FieldType.int) [((0 : Nat), (10 : Nat), (13 : Nat), (19 : Nat)), ((0 : Nat), (10 : Nat), (17 : Nat), (13 : Nat))]) ∈ lw_all := lw_g (lw_at lw_m8 6 rfl) rfl
theorem q1806 : (Jvm.Cond.methodLink "SpillslotWorksLaw" (55 : Nat) ({ cls := "SpillslotWorks", name := "code", desc := "(II)I" } : Jvm.MethodName)) ∈ lw_all := lw_g (lw_at lw_m8 7 rfl) rfl
theorem q1810 : (Jvm.Cond.methodLink "SpillslotWorksLaw" (127 : Nat) ({ cls := "SpillslotWorksLaw", name := "begins", desc := "(LSpillslotWorks;I[J)I" } : Jvm.MethodName)) ∈ lw_all := lw_g (lw_at lw_m8 11 rfl) rfl
theorem q1811 : (Jvm.Cond.static ({ cls := "SpillslotWorksLaw", name := "begins", desc := "(LSpillslotWorks;I[J)I" } : Jvm.MethodName)) ∈ lw_all := lw_g (lw_at lw_m8 12 rfl) rfl
theorem q1812 : (Jvm.Cond.codeWith ({ cls := "SpillslotWorksLaw", name := "begins", desc := "(LSpillslotWorks;I[J)I" } : Jvm.MethodName) method_16_code (4 : Nat) (Option.some Jvm.ClassFile.FieldType.int) [((0 : Nat), (9 : Nat), (12 : Nat), (19 : Nat))]) ∈ lw_all := lw_g (lw_at lw_m8 13 rfl) rfl
theorem q1813 : (Jvm.Cond.methodLink "SpillslotWorksLaw" (58 : Nat) ({ cls := "SpillslotWorks", name := "begins", desc := "(I)I" } : Jvm.MethodName)) ∈ lw_all := lw_g (lw_at lw_m8 14 rfl) rfl
theorem q1817 : (Jvm.Cond.methodLink "SpillslotWorksLaw" (130 : Nat) ({ cls := "SpillslotWorksLaw", name := "answer", desc := "(LSpillslotWorks;I[J)I" } : Jvm.MethodName)) ∈ lw_all := lw_g (lw_at lw_m8 18 rfl) rfl
theorem q1818 : (Jvm.Cond.static ({ cls := "SpillslotWorksLaw", name := "answer", desc := "(LSpillslotWorks;I[J)I" } : Jvm.MethodName)) ∈ lw_all := lw_g (lw_at lw_m8 19 rfl) rfl
theorem q1819 : (Jvm.Cond.codeWith ({ cls := "SpillslotWorksLaw", name := "answer", desc := "(LSpillslotWorks;I[J)I" } : Jvm.MethodName) method_17_code (4 : Nat) (Option.some Jvm.ClassFile.FieldType.int) [((0 : Nat), (9 : Nat), (12 : Nat), (19 : Nat))]) ∈ lw_all := lw_g (lw_at lw_m8 20 rfl) rfl
theorem q1820 : (Jvm.Cond.methodLink "SpillslotWorksLaw" (61 : Nat) ({ cls := "SpillslotWorks", name := "answer", desc := "(I)I" } : Jvm.MethodName)) ∈ lw_all := lw_g (lw_at lw_m8 21 rfl) rfl
theorem q1824 : (Jvm.Cond.methodLink "SpillslotWorksLaw" (133 : Nat) ({ cls := "SpillslotWorksLaw", name := "many", desc := "(LSpillslotWorks;I[J)I" } : Jvm.MethodName)) ∈ lw_all := lw_g (lw_at lw_m8 25 rfl) rfl
theorem q1825 : (Jvm.Cond.static ({ cls := "SpillslotWorksLaw", name := "many", desc := "(LSpillslotWorks;I[J)I" } : Jvm.MethodName)) ∈ lw_all := lw_g (lw_at lw_m8 26 rfl) rfl
theorem q1826 : (Jvm.Cond.codeWith ({ cls := "SpillslotWorksLaw", name := "many", desc := "(LSpillslotWorks;I[J)I" } : Jvm.MethodName) method_18_code (4 : Nat) (Option.some Jvm.ClassFile.FieldType.int) [((0 : Nat), (9 : Nat), (12 : Nat), (13 : Nat))]) ∈ lw_all := lw_g (lw_at lw_m8 27 rfl) rfl
theorem q1827 : (Jvm.Cond.methodLink "SpillslotWorksLaw" (64 : Nat) ({ cls := "SpillslotWorks", name := "many", desc := "(I)I" } : Jvm.MethodName)) ∈ lw_all := lw_g (lw_at lw_m8 28 rfl) rfl
theorem q1831 : (Jvm.Cond.methodLink "SpillslotWorksLaw" (141 : Nat) ({ cls := "SpillslotWorksLaw", name := "with", desc := "(LSpillslotWorks;IIZI[J)I" } : Jvm.MethodName)) ∈ lw_all := lw_g (lw_at lw_m8 32 rfl) rfl
theorem q1832 : (Jvm.Cond.static ({ cls := "SpillslotWorksLaw", name := "with", desc := "(LSpillslotWorks;IIZI[J)I" } : Jvm.MethodName)) ∈ lw_all := lw_g (lw_at lw_m8 33 rfl) rfl
theorem q1833 : (Jvm.Cond.codeWith ({ cls := "SpillslotWorksLaw", name := "with", desc := "(LSpillslotWorks;IIZI[J)I" } : Jvm.MethodName) method_19_code (7 : Nat) (Option.some Jvm.ClassFile.FieldType.int) [((0 : Nat), (14 : Nat), (17 : Nat), (13 : Nat))]) ∈ lw_all := lw_g (lw_at lw_m8 34 rfl) rfl
theorem q1834 : (Jvm.Cond.methodLink "SpillslotWorksLaw" (67 : Nat) ({ cls := "SpillslotWorks", name := "with", desc := "(IIZI)I" } : Jvm.MethodName)) ∈ lw_all := lw_g (lw_at lw_m8 35 rfl) rfl
theorem q1838 : (Jvm.Cond.methodLink "SpillslotWorksLaw" (145 : Nat) ({ cls := "SpillslotWorksLaw", name := "cyclesWith", desc := "(LSpillslotWorks;II[J)I" } : Jvm.MethodName)) ∈ lw_all := lw_g (lw_at lw_m8 39 rfl) rfl
theorem q1839 : (Jvm.Cond.static ({ cls := "SpillslotWorksLaw", name := "cyclesWith", desc := "(LSpillslotWorks;II[J)I" } : Jvm.MethodName)) ∈ lw_all := lw_g (lw_at lw_m8 40 rfl) rfl
theorem q1840 : (Jvm.Cond.codeWith ({ cls := "SpillslotWorksLaw", name := "cyclesWith", desc := "(LSpillslotWorks;II[J)I" } : Jvm.MethodName) method_20_code (5 : Nat) (Option.some Jvm.ClassFile.FieldType.int) [((0 : Nat), (10 : Nat), (13 : Nat), (19 : Nat)), ((0 : Nat), (10 : Nat), (17 : Nat), (13 : Nat))]) ∈ lw_all := lw_g (lw_at lw_m8 41 rfl) rfl
theorem q1841 : (Jvm.Cond.methodLink "SpillslotWorksLaw" (71 : Nat) ({ cls := "SpillslotWorks", name := "cyclesWith", desc := "(II)I" } : Jvm.MethodName)) ∈ lw_all := lw_g (lw_at lw_m8 42 rfl) rfl
theorem q1845 : (Jvm.Cond.classLink "SpillslotWorksLaw" (75 : Nat) "SpillslotWorksModel") ∈ lw_all := lw_g (lw_at lw_m8 46 rfl) rfl
theorem q1847 : (Jvm.Cond.methodLink "SpillslotWorksLaw" (77 : Nat) ({ cls := "SpillslotWorksModel", name := "<init>", desc := "()V" } : Jvm.MethodName)) ∈ lw_all := lw_g (lw_at lw_m8 48 rfl) rfl
theorem q1928 : (Jvm.Cond.methodLink "SpillslotWorksLaw" (84 : Nat) ({ cls := "SpillslotWorksModel", name := "thrown", desc := "()I" } : Jvm.MethodName)) ∈ lw_all := lw_g (lw_at lw_m8 129 rfl) rfl
theorem q1932 : (Jvm.Cond.methodLink "SpillslotWorksLaw" (83 : Nat) ({ cls := "SpillslotWorksModel", name := "machine", desc := "(IIIZZ)I" } : Jvm.MethodName)) ∈ lw_all := lw_g (lw_at lw_m8 133 rfl) rfl
theorem q1950 : (Jvm.Cond.methodLink "SpillslotWorksLaw" (91 : Nat) ({ cls := "SpillslotWorksModel", name := "latency", desc := "(II)I" } : Jvm.MethodName)) ∈ lw_all := lw_g (lw_at lw_m8 151 rfl) rfl
theorem q1960 : (Jvm.Cond.methodLink "SpillslotWorksLaw" (95 : Nat) ({ cls := "SpillslotWorksModel", name := "node", desc := "(III)I" } : Jvm.MethodName)) ∈ lw_all := lw_g (lw_at lw_m8 161 rfl) rfl
theorem q2009 : (Jvm.Cond.methodLink "SpillslotWorksLaw" (98 : Nat) ({ cls := "SpillslotWorksModel", name := "statement", desc := "(III)I" } : Jvm.MethodName)) ∈ lw_all := lw_g (lw_at lw_m8 210 rfl) rfl
theorem q2075 : (Jvm.Cond.methodLink "SpillslotWorksLaw" (102 : Nat) ({ cls := "SpillslotWorksModel", name := "take", desc := "(I)I" } : Jvm.MethodName)) ∈ lw_all := lw_g (lw_at lw_m9 36 rfl) rfl
theorem q2082 : (Jvm.Cond.methodLink "SpillslotWorksLaw" (105 : Nat) ({ cls := "SpillslotWorksModel", name := "times", desc := "(II)I" } : Jvm.MethodName)) ∈ lw_all := lw_g (lw_at lw_m9 43 rfl) rfl
theorem q2086 : (Jvm.Cond.methodLink "SpillslotWorksLaw" (108 : Nat) ({ cls := "SpillslotWorksModel", name := "out", desc := "(I)I" } : Jvm.MethodName)) ∈ lw_all := lw_g (lw_at lw_m9 47 rfl) rfl
theorem q2090 : (Jvm.Cond.methodLink "SpillslotWorksLaw" (111 : Nat) ({ cls := "SpillslotWorksModel", name := "meant", desc := "(I)I" } : Jvm.MethodName)) ∈ lw_all := lw_g (lw_at lw_m9 51 rfl) rfl
theorem q2109 : (Jvm.Cond.methodLink "SpillslotWorksLaw" (114 : Nat) ({ cls := "SpillslotWorksModel", name := "chosen", desc := "(II)I" } : Jvm.MethodName)) ∈ lw_all := lw_g (lw_at lw_m9 70 rfl) rfl
theorem q2717 : (Jvm.Cond.methodLink "SpillslotWorksLaw" (117 : Nat) ({ cls := "SpillslotWorksModel", name := "ofValue", desc := "(II)I" } : Jvm.MethodName)) ∈ lw_all := lw_g (lw_at lw_m11 198 rfl) rfl
theorem q2726 : (Jvm.Cond.methodLink "SpillslotWorksLaw" (120 : Nat) ({ cls := "SpillslotWorksModel", name := "mapAt", desc := "(II)I" } : Jvm.MethodName)) ∈ lw_all := lw_g (lw_at lw_m11 207 rfl) rfl
theorem q2737 : (Jvm.Cond.methodLink "SpillslotWorksLaw" (123 : Nat) ({ cls := "SpillslotWorksModel", name := "cost", desc := "(I)I" } : Jvm.MethodName)) ∈ lw_all := lw_g (lw_at lw_m11 218 rfl) rfl
theorem q2744 : (Jvm.Cond.methodLink "SpillslotWorksLaw" (126 : Nat) ({ cls := "SpillslotWorksModel", name := "code", desc := "(II)I" } : Jvm.MethodName)) ∈ lw_all := lw_g (lw_at lw_m11 225 rfl) rfl
theorem q2748 : (Jvm.Cond.methodLink "SpillslotWorksLaw" (129 : Nat) ({ cls := "SpillslotWorksModel", name := "begins", desc := "(I)I" } : Jvm.MethodName)) ∈ lw_all := lw_g (lw_at lw_m11 229 rfl) rfl
theorem q2752 : (Jvm.Cond.methodLink "SpillslotWorksLaw" (132 : Nat) ({ cls := "SpillslotWorksModel", name := "answer", desc := "(I)I" } : Jvm.MethodName)) ∈ lw_all := lw_g (lw_at lw_m11 233 rfl) rfl
theorem q2761 : (Jvm.Cond.methodLink "SpillslotWorksLaw" (135 : Nat) ({ cls := "SpillslotWorksModel", name := "many", desc := "(I)I" } : Jvm.MethodName)) ∈ lw_all := lw_g (lw_at lw_m12 2 rfl) rfl
theorem q2796 : (Jvm.Cond.methodLink "SpillslotWorksLaw" (140 : Nat) ({ cls := "SpillslotWorksModel", name := "meanStall", desc := "()D" } : Jvm.MethodName)) ∈ lw_all := lw_g (lw_at lw_m12 37 rfl) rfl
theorem q2800 : (Jvm.Cond.methodLink "SpillslotWorksLaw" (144 : Nat) ({ cls := "SpillslotWorksModel", name := "with", desc := "(IIZI)I" } : Jvm.MethodName)) ∈ lw_all := lw_g (lw_at lw_m12 41 rfl) rfl
theorem q2808 : (Jvm.Cond.methodLink "SpillslotWorksLaw" (147 : Nat) ({ cls := "SpillslotWorksModel", name := "cyclesWith", desc := "(II)I" } : Jvm.MethodName)) ∈ lw_all := lw_g (lw_at lw_m12 49 rfl) rfl
theorem q2812 : (Jvm.Cond.methodLink "SpillslotWorksLaw" (151 : Nat) ({ cls := "SpillslotWorksModel", name := "enough", desc := "()I" } : Jvm.MethodName)) ∈ lw_all := lw_g (lw_at lw_m12 53 rfl) rfl
theorem q2820 : (Jvm.Cond.methodLink "SpillslotWorksLaw" (155 : Nat) ({ cls := "SpillslotWorksModel", name := "unordered", desc := "()I" } : Jvm.MethodName)) ∈ lw_all := lw_g (lw_at lw_m12 61 rfl) rfl
theorem q2828 : (Jvm.Cond.methodLink "SpillslotWorksLaw" (160 : Nat) ({ cls := "SpillslotWorksModel", name := "digest", desc := "()J" } : Jvm.MethodName)) ∈ lw_all := lw_g (lw_at lw_m12 69 rfl) rfl
