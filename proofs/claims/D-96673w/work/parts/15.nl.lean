/-! the law's own entry -/
set_option maxRecDepth 100000
abbrev cL_law : ByteArray := code
def dkwL_law_65 : List UInt8 := [4, 96, 46, 182, 0, 227, 159, 0, 5, 3, 172, 132, 3, 6, 167, 249, 95, 4, 172]
abbrev dktL_law_65 : List UInt8 := dkwL_law_65 ++ []
def dkwL_law_64 : List UInt8 := [182, 0, 220, 44, 182, 0, 223, 159, 0, 28, 3, 172, 43, 42, 29, 4, 96, 46, 182, 0, 224, 44, 42, 29]
abbrev dktL_law_64 : List UInt8 := dkwL_law_64 ++ dktL_law_65
def dkwL_law_63 : List UInt8 := [182, 0, 215, 159, 0, 54, 3, 172, 43, 182, 0, 216, 44, 182, 0, 219, 159, 0, 41, 3, 172, 43]
abbrev dktL_law_63 : List UInt8 := dkwL_law_63 ++ dktL_law_64
def dkwL_law_62 : List UInt8 := [182, 0, 211, 159, 0, 77, 3, 172, 43, 42, 29, 4, 96, 46, 182, 0, 212, 44, 42, 29, 4, 96, 46]
abbrev dktL_law_62 : List UInt8 := dkwL_law_62 ++ dktL_law_63
def dkwL_law_61 : List UInt8 := [182, 0, 207, 159, 0, 100, 3, 172, 43, 42, 29, 4, 96, 46, 182, 0, 208, 44, 42, 29, 4, 96, 46]
abbrev dktL_law_61 : List UInt8 := dkwL_law_61 ++ dktL_law_62
def dkwL_law_60 : List UInt8 := [182, 0, 200, 44, 42, 29, 4, 96, 46, 182, 0, 203, 159, 0, 113, 3, 172, 43, 182, 0, 204, 44]
abbrev dktL_law_60 : List UInt8 := dkwL_law_60 ++ dktL_law_61
def dkwL_law_59 : List UInt8 := [29, 4, 96, 46, 42, 29, 5, 96, 46, 182, 0, 199, 159, 0, 136, 3, 172, 43, 42, 29, 4, 96, 46]
abbrev dktL_law_59 : List UInt8 := dkwL_law_59 ++ dktL_law_60
def dkwL_law_58 : List UInt8 := [182, 0, 195, 159, 0, 169, 3, 172, 43, 42, 29, 4, 96, 46, 42, 29, 5, 96, 46, 182, 0, 196, 44, 42]
abbrev dktL_law_58 : List UInt8 := dkwL_law_58 ++ dktL_law_59
def dkwL_law_57 : List UInt8 := [182, 0, 188, 44, 42, 29, 4, 96, 46, 182, 0, 191, 159, 0, 182, 3, 172, 43, 182, 0, 192, 44]
abbrev dktL_law_57 : List UInt8 := dkwL_law_57 ++ dktL_law_58
def dkwL_law_56 : List UInt8 := [182, 0, 184, 44, 42, 29, 4, 96, 46, 182, 0, 187, 159, 0, 205, 3, 172, 43, 42, 29, 4, 96, 46]
abbrev dktL_law_56 : List UInt8 := dkwL_law_56 ++ dktL_law_57
def dkwL_law_55 : List UInt8 := [29, 4, 96, 46, 42, 29, 5, 96, 46, 182, 0, 183, 159, 0, 228, 3, 172, 43, 42, 29, 4, 96, 46]
abbrev dktL_law_55 : List UInt8 := dkwL_law_55 ++ dktL_law_56
def dkwL_law_54 : List UInt8 := [182, 0, 179, 159, 1, 5, 3, 172, 43, 42, 29, 4, 96, 46, 42, 29, 5, 96, 46, 182, 0, 180, 44, 42]
abbrev dktL_law_54 : List UInt8 := dkwL_law_54 ++ dktL_law_55
def dkwL_law_53 : List UInt8 := [182, 0, 175, 159, 1, 28, 3, 172, 43, 42, 29, 4, 96, 46, 182, 0, 176, 44, 42, 29, 4, 96, 46]
abbrev dktL_law_53 : List UInt8 := dkwL_law_53 ++ dktL_law_54
def dkwL_law_52 : List UInt8 := [29, 4, 96, 46, 42, 29, 5, 96, 46, 182, 0, 171, 159, 1, 41, 3, 172, 43, 182, 0, 172, 44]
abbrev dktL_law_52 : List UInt8 := dkwL_law_52 ++ dktL_law_53
def dkwL_law_51 : List UInt8 := [182, 0, 167, 159, 1, 74, 3, 172, 43, 42, 29, 4, 96, 46, 42, 29, 5, 96, 46, 182, 0, 168, 44, 42]
abbrev dktL_law_51 : List UInt8 := dkwL_law_51 ++ dktL_law_52
def dkwL_law_50 : List UInt8 := [182, 0, 163, 159, 1, 97, 3, 172, 43, 42, 29, 4, 96, 46, 182, 0, 164, 44, 42, 29, 4, 96, 46]
abbrev dktL_law_50 : List UInt8 := dkwL_law_50 ++ dktL_law_51
def dkwL_law_49 : List UInt8 := [182, 0, 159, 159, 1, 120, 3, 172, 43, 42, 29, 4, 96, 46, 182, 0, 160, 44, 42, 29, 4, 96, 46]
abbrev dktL_law_49 : List UInt8 := dkwL_law_49 ++ dktL_law_50
def dkwL_law_48 : List UInt8 := [182, 0, 155, 159, 1, 143, 3, 172, 43, 42, 29, 4, 96, 46, 182, 0, 156, 44, 42, 29, 4, 96, 46]
abbrev dktL_law_48 : List UInt8 := dkwL_law_48 ++ dktL_law_49
def dkwL_law_47 : List UInt8 := [182, 0, 148, 44, 42, 29, 4, 96, 46, 182, 0, 151, 159, 1, 156, 3, 172, 43, 182, 0, 152, 44]
abbrev dktL_law_47 : List UInt8 := dkwL_law_47 ++ dktL_law_48
def dkwL_law_46 : List UInt8 := [182, 0, 144, 44, 42, 29, 4, 96, 46, 182, 0, 147, 159, 1, 179, 3, 172, 43, 42, 29, 4, 96, 46]
abbrev dktL_law_46 : List UInt8 := dkwL_law_46 ++ dktL_law_47
def dkwL_law_45 : List UInt8 := [29, 4, 96, 46, 42, 29, 5, 96, 46, 182, 0, 143, 159, 1, 202, 3, 172, 43, 42, 29, 4, 96, 46]
abbrev dktL_law_45 : List UInt8 := dkwL_law_45 ++ dktL_law_46
def dkwL_law_44 : List UInt8 := [182, 0, 139, 159, 1, 235, 3, 172, 43, 42, 29, 4, 96, 46, 42, 29, 5, 96, 46, 182, 0, 140, 44, 42]
abbrev dktL_law_44 : List UInt8 := dkwL_law_44 ++ dktL_law_45
def dkwL_law_43 : List UInt8 := [182, 0, 132, 44, 42, 29, 4, 96, 46, 182, 0, 135, 159, 1, 248, 3, 172, 43, 182, 0, 136, 44]
abbrev dktL_law_43 : List UInt8 := dkwL_law_43 ++ dktL_law_44
def dkwL_law_42 : List UInt8 := [182, 0, 128, 44, 42, 29, 4, 96, 46, 182, 0, 131, 159, 2, 15, 3, 172, 43, 42, 29, 4, 96, 46]
abbrev dktL_law_42 : List UInt8 := dkwL_law_42 ++ dktL_law_43
def dkwL_law_41 : List UInt8 := [182, 0, 124, 44, 42, 29, 4, 96, 46, 182, 0, 127, 159, 2, 38, 3, 172, 43, 42, 29, 4, 96, 46]
abbrev dktL_law_41 : List UInt8 := dkwL_law_41 ++ dktL_law_42
def dkwL_law_40 : List UInt8 := [6, 96, 46, 42, 29, 7, 96, 46, 182, 0, 123, 159, 2, 61, 3, 172, 43, 42, 29, 4, 96, 46]
abbrev dktL_law_40 : List UInt8 := dkwL_law_40 ++ dktL_law_41
def dkwL_law_39 : List UInt8 := [6, 96, 46, 42, 29, 7, 96, 46, 182, 0, 119, 44, 42, 29, 4, 96, 46, 42, 29, 5, 96, 46, 42, 29]
abbrev dktL_law_39 : List UInt8 := dkwL_law_39 ++ dktL_law_40
def dkwL_law_38 : List UInt8 := [5, 96, 46, 182, 0, 118, 159, 2, 114, 3, 172, 43, 42, 29, 4, 96, 46, 42, 29, 5, 96, 46, 42, 29]
abbrev dktL_law_38 : List UInt8 := dkwL_law_38 ++ dktL_law_39
def dkwL_law_37 : List UInt8 := [3, 172, 43, 42, 29, 4, 96, 46, 42, 29, 5, 96, 46, 182, 0, 115, 44, 42, 29, 4, 96, 46, 42, 29]
abbrev dktL_law_37 : List UInt8 := dkwL_law_37 ++ dktL_law_38
def dkwL_law_36 : List UInt8 := [29, 5, 96, 46, 182, 0, 111, 44, 42, 29, 4, 96, 46, 42, 29, 5, 96, 46, 182, 0, 114, 159, 2, 147]
abbrev dktL_law_36 : List UInt8 := dkwL_law_36 ++ dktL_law_37
def dkwL_law_35 : List UInt8 := [29, 4, 96, 46, 42, 29, 5, 96, 46, 182, 0, 110, 159, 2, 180, 3, 172, 43, 42, 29, 4, 96, 46, 42]
abbrev dktL_law_35 : List UInt8 := dkwL_law_35 ++ dktL_law_36
def dkwL_law_34 : List UInt8 := [182, 0, 106, 159, 2, 213, 3, 172, 43, 42, 29, 4, 96, 46, 42, 29, 5, 96, 46, 182, 0, 107, 44, 42]
abbrev dktL_law_34 : List UInt8 := dkwL_law_34 ++ dktL_law_35
def dkwL_law_33 : List UInt8 := [29, 4, 96, 46, 42, 29, 5, 96, 46, 182, 0, 103, 44, 42, 29, 4, 96, 46, 42, 29, 5, 96, 46]
abbrev dktL_law_33 : List UInt8 := dkwL_law_33 ++ dktL_law_34
def dkwL_law_32 : List UInt8 := [182, 0, 99, 44, 42, 29, 4, 96, 46, 42, 29, 5, 96, 46, 182, 0, 102, 159, 2, 246, 3, 172, 43, 42]
abbrev dktL_law_32 : List UInt8 := dkwL_law_32 ++ dktL_law_33
def dkwL_law_31 : List UInt8 := [5, 96, 46, 182, 0, 98, 159, 3, 23, 3, 172, 43, 42, 29, 4, 96, 46, 42, 29, 5, 96, 46]
abbrev dktL_law_31 : List UInt8 := dkwL_law_31 ++ dktL_law_32
def dkwL_law_30 : List UInt8 := [3, 172, 43, 42, 29, 4, 96, 46, 42, 29, 5, 96, 46, 182, 0, 95, 44, 42, 29, 4, 96, 46, 42, 29]
abbrev dktL_law_30 : List UInt8 := dkwL_law_30 ++ dktL_law_31
def dkwL_law_29 : List UInt8 := [29, 5, 96, 46, 182, 0, 91, 44, 42, 29, 4, 96, 46, 42, 29, 5, 96, 46, 182, 0, 94, 159, 3, 56]
abbrev dktL_law_29 : List UInt8 := dkwL_law_29 ++ dktL_law_30
def dkwL_law_28 : List UInt8 := [182, 0, 87, 44, 42, 29, 4, 96, 46, 182, 0, 90, 159, 3, 89, 3, 172, 43, 42, 29, 4, 96, 46, 42]
abbrev dktL_law_28 : List UInt8 := dkwL_law_28 ++ dktL_law_29
def dkwL_law_27 : List UInt8 := [29, 4, 96, 46, 42, 29, 5, 96, 46, 182, 0, 86, 159, 3, 112, 3, 172, 43, 42, 29, 4, 96, 46]
abbrev dktL_law_27 : List UInt8 := dkwL_law_27 ++ dktL_law_28
def dkwL_law_26 : List UInt8 := [182, 0, 82, 159, 3, 145, 3, 172, 43, 42, 29, 4, 96, 46, 42, 29, 5, 96, 46, 182, 0, 83, 44, 42]
abbrev dktL_law_26 : List UInt8 := dkwL_law_26 ++ dktL_law_27
def dkwL_law_25 : List UInt8 := [182, 0, 78, 159, 3, 168, 3, 172, 43, 42, 29, 4, 96, 46, 182, 0, 79, 44, 42, 29, 4, 96, 46]
abbrev dktL_law_25 : List UInt8 := dkwL_law_25 ++ dktL_law_26
def dkwL_law_24 : List UInt8 := [159, 3, 194, 3, 172, 43, 182, 0, 70, 44, 182, 0, 74, 159, 3, 181, 3, 172, 43, 182, 0, 75, 44]
abbrev dktL_law_24 : List UInt8 := dkwL_law_24 ++ dktL_law_25
def dkwL_law_23 : List UInt8 := [159, 3, 217, 3, 172, 43, 42, 29, 4, 96, 46, 182, 0, 66, 44, 42, 29, 4, 96, 46, 182, 0, 69]
abbrev dktL_law_23 : List UInt8 := dkwL_law_23 ++ dktL_law_24
def dkwL_law_22 : List UInt8 := [182, 0, 62, 44, 42, 29, 4, 96, 46, 42, 29, 5, 96, 46, 42, 29, 6, 96, 46, 182, 0, 65]
abbrev dktL_law_22 : List UInt8 := dkwL_law_22 ++ dktL_law_23
def dkwL_law_21 : List UInt8 := [182, 0, 61, 159, 4, 4, 3, 172, 43, 42, 29, 4, 96, 46, 42, 29, 5, 96, 46, 42, 29, 6, 96, 46]
abbrev dktL_law_21 : List UInt8 := dkwL_law_21 ++ dktL_law_22
def dkwL_law_20 : List UInt8 := [44, 42, 29, 4, 96, 46, 42, 29, 5, 96, 46, 42, 29, 6, 96, 46, 153, 0, 7, 4, 167, 0, 4, 3]
abbrev dktL_law_20 : List UInt8 := dkwL_law_20 ++ dktL_law_21
def dkwL_law_19 : List UInt8 := [4, 96, 46, 42, 29, 5, 96, 46, 42, 29, 6, 96, 46, 153, 0, 7, 4, 167, 0, 4, 3, 182, 0, 57]
abbrev dktL_law_19 : List UInt8 := dkwL_law_19 ++ dktL_law_20
def dkwL_law_18 : List UInt8 := [4, 96, 46, 42, 29, 5, 96, 46, 42, 29, 6, 96, 46, 182, 0, 56, 159, 4, 63, 3, 172, 43, 42, 29]
abbrev dktL_law_18 : List UInt8 := dkwL_law_18 ++ dktL_law_19
def dkwL_law_17 : List UInt8 := [3, 172, 43, 42, 29, 4, 96, 46, 42, 29, 5, 96, 46, 42, 29, 6, 96, 46, 182, 0, 53, 44, 42, 29]
abbrev dktL_law_17 : List UInt8 := dkwL_law_17 ++ dktL_law_18
def dkwL_law_16 : List UInt8 := [29, 5, 96, 46, 182, 0, 49, 44, 42, 29, 4, 96, 46, 42, 29, 5, 96, 46, 182, 0, 52, 159, 4, 106]
abbrev dktL_law_16 : List UInt8 := dkwL_law_16 ++ dktL_law_17
def dkwL_law_15 : List UInt8 := [29, 4, 96, 46, 42, 29, 5, 96, 46, 182, 0, 48, 159, 4, 139, 3, 172, 43, 42, 29, 4, 96, 46, 42]
abbrev dktL_law_15 : List UInt8 := dkwL_law_15 ++ dktL_law_16
def dkwL_law_14 : List UInt8 := [182, 0, 44, 159, 4, 172, 3, 172, 43, 42, 29, 4, 96, 46, 42, 29, 5, 96, 46, 182, 0, 45, 44, 42]
abbrev dktL_law_14 : List UInt8 := dkwL_law_14 ++ dktL_law_15
def dkwL_law_13 : List UInt8 := [29, 4, 96, 46, 42, 29, 5, 96, 46, 182, 0, 40, 44, 42, 29, 4, 96, 46, 42, 29, 5, 96, 46]
abbrev dktL_law_13 : List UInt8 := dkwL_law_13 ++ dktL_law_14
def dkwL_law_12 : List UInt8 := [42, 29, 4, 96, 46, 182, 0, 35, 44, 42, 29, 4, 96, 46, 182, 0, 39, 159, 4, 205, 3, 172, 43, 42]
abbrev dktL_law_12 : List UInt8 := dkwL_law_12 ++ dktL_law_13
def dkwL_law_11 : List UInt8 := [182, 0, 30, 44, 42, 29, 4, 96, 46, 42, 29, 5, 96, 46, 182, 0, 34, 148, 153, 4, 228, 3, 172, 43]
abbrev dktL_law_11 : List UInt8 := dkwL_law_11 ++ dktL_law_12
def dkwL_law_10 : List UInt8 := [42, 29, 8, 96, 46, 182, 0, 29, 159, 5, 6, 3, 172, 43, 42, 29, 4, 96, 46, 42, 29, 5, 96, 46]
abbrev dktL_law_10 : List UInt8 := dkwL_law_10 ++ dktL_law_11
def dkwL_law_9 : List UInt8 := [182, 0, 25, 44, 42, 29, 4, 96, 46, 42, 29, 5, 96, 46, 42, 29, 6, 96, 46, 42, 29, 7, 96, 46]
abbrev dktL_law_9 : List UInt8 := dkwL_law_9 ++ dktL_law_10
def dkwL_law_8 : List UInt8 := [96, 46, 42, 29, 5, 96, 46, 42, 29, 6, 96, 46, 42, 29, 7, 96, 46, 42, 29, 8, 96, 46]
abbrev dktL_law_8 : List UInt8 := dkwL_law_8 ++ dktL_law_9
def dkwL_law_7 : List UInt8 := [121, 42, 29, 7, 96, 46, 133, 20, 0, 18, 127, 129, 182, 0, 24, 159, 5, 69, 3, 172, 43, 42, 29, 4]
abbrev dktL_law_7 : List UInt8 := dkwL_law_7 ++ dktL_law_8
def dkwL_law_6 : List UInt8 := [127, 129, 182, 0, 20, 44, 42, 29, 4, 96, 46, 42, 29, 5, 96, 46, 42, 29, 6, 96, 46, 133, 16, 32]
abbrev dktL_law_6 : List UInt8 := dkwL_law_6 ++ dktL_law_7
def dkwL_law_5 : List UInt8 := [46, 42, 29, 5, 96, 46, 42, 29, 6, 96, 46, 133, 16, 32, 121, 42, 29, 7, 96, 46, 133, 20, 0, 18]
abbrev dktL_law_5 : List UInt8 := dkwL_law_5 ++ dktL_law_6
def dkwL_law_4 : List UInt8 := [46, 42, 29, 5, 96, 46, 42, 29, 6, 96, 46, 182, 0, 17, 159, 5, 142, 3, 172, 43, 42, 29, 4, 96]
abbrev dktL_law_4 : List UInt8 := dkwL_law_4 ++ dktL_law_5
def dkwL_law_3 : List UInt8 := [43, 42, 29, 4, 96, 46, 42, 29, 5, 96, 46, 42, 29, 6, 96, 46, 182, 0, 13, 44, 42, 29, 4, 96]
abbrev dktL_law_3 : List UInt8 := dkwL_law_3 ++ dktL_law_4
def dkwL_law_2 : List UInt8 := [170, 0, 0, 0, 0, 6, 143, 0, 0, 0, 0, 0, 0, 0, 50, 0, 0, 0, 219, 0, 0, 1, 6, 0, 0, 1, 79, 0, 0, 1, 142, 0, 0, 1, 176, 0, 0, 1, 199, 0, 0, 1, 232, 0, 0, 2, 9, 0, 0, 2, 42, 0, 0, 2, 85, 0, 0, 2, 144, 0, 0, 2, 187, 0, 0, 2, 210, 0, 0, 2, 223, 0, 0, 2, 236, 0, 0, 3, 3, 0, 0, 3, 36, 0, 0, 3, 59, 0, 0, 3, 92, 0, 0, 3, 125, 0, 0, 3, 158, 0, 0, 3, 191, 0, 0, 3, 224, 0, 0, 4, 1, 0, 0, 4, 34, 0, 0, 4, 87, 0, 0, 4, 110, 0, 0, 4, 133, 0, 0, 4, 156, 0, 0, 4, 169, 0, 0, 4, 202, 0, 0, 4, 225, 0, 0, 4, 248, 0, 0, 5, 5, 0, 0, 5, 28, 0, 0, 5, 51, 0, 0, 5, 74, 0, 0, 5, 107, 0, 0, 5, 120, 0, 0, 5, 143, 0, 0, 5, 176, 0, 0, 5, 199, 0, 0, 5, 222, 0, 0, 5, 235, 0, 0, 6, 12, 0, 0, 6, 35, 0, 0, 6, 48, 0, 0, 6, 71, 0, 0, 6, 94, 0, 0, 6, 107, 0, 0, 6, 120]
abbrev dktL_law_2 : List UInt8 := dkwL_law_2 ++ dktL_law_3
def dkwL_law_1 : List UInt8 := [163, 6, 158, 42, 29, 46, 16, 63, 126]
abbrev dktL_law_1 : List UInt8 := dkwL_law_1 ++ dktL_law_2
def dkwL_law_0 : List UInt8 := [187, 0, 7, 89, 183, 0, 9, 76, 187, 0, 10, 89, 183, 0, 12, 77, 3, 62, 29, 42, 190, 16, 6, 100]
abbrev dktL_law_0 : List UInt8 := dkwL_law_0 ++ dktL_law_1
theorem dksL_law_0 : cL_law.data.toList.drop 0 = dktL_law_0 := by decide +kernel
theorem dksL_law_1 : cL_law.data.toList.drop 24 = dktL_law_1 := dk_seg dksL_law_0 24 rfl rfl
theorem dksL_law_2 : cL_law.data.toList.drop 33 = dktL_law_2 := dk_seg dksL_law_1 9 rfl rfl
theorem dksL_law_3 : cL_law.data.toList.drop 252 = dktL_law_3 := dk_seg dksL_law_2 219 rfl rfl
theorem dksL_law_4 : cL_law.data.toList.drop 276 = dktL_law_4 := dk_seg dksL_law_3 24 rfl rfl
theorem dksL_law_5 : cL_law.data.toList.drop 300 = dktL_law_5 := dk_seg dksL_law_4 24 rfl rfl
theorem dksL_law_6 : cL_law.data.toList.drop 324 = dktL_law_6 := dk_seg dksL_law_5 24 rfl rfl
theorem dksL_law_7 : cL_law.data.toList.drop 348 = dktL_law_7 := dk_seg dksL_law_6 24 rfl rfl
theorem dksL_law_8 : cL_law.data.toList.drop 372 = dktL_law_8 := dk_seg dksL_law_7 24 rfl rfl
theorem dksL_law_9 : cL_law.data.toList.drop 394 = dktL_law_9 := dk_seg dksL_law_8 22 rfl rfl
theorem dksL_law_10 : cL_law.data.toList.drop 418 = dktL_law_10 := dk_seg dksL_law_9 24 rfl rfl
theorem dksL_law_11 : cL_law.data.toList.drop 442 = dktL_law_11 := dk_seg dksL_law_10 24 rfl rfl
theorem dksL_law_12 : cL_law.data.toList.drop 466 = dktL_law_12 := dk_seg dksL_law_11 24 rfl rfl
theorem dksL_law_13 : cL_law.data.toList.drop 490 = dktL_law_13 := dk_seg dksL_law_12 24 rfl rfl
theorem dksL_law_14 : cL_law.data.toList.drop 513 = dktL_law_14 := dk_seg dksL_law_13 23 rfl rfl
theorem dksL_law_15 : cL_law.data.toList.drop 537 = dktL_law_15 := dk_seg dksL_law_14 24 rfl rfl
theorem dksL_law_16 : cL_law.data.toList.drop 561 = dktL_law_16 := dk_seg dksL_law_15 24 rfl rfl
theorem dksL_law_17 : cL_law.data.toList.drop 585 = dktL_law_17 := dk_seg dksL_law_16 24 rfl rfl
theorem dksL_law_18 : cL_law.data.toList.drop 609 = dktL_law_18 := dk_seg dksL_law_17 24 rfl rfl
theorem dksL_law_19 : cL_law.data.toList.drop 633 = dktL_law_19 := dk_seg dksL_law_18 24 rfl rfl
theorem dksL_law_20 : cL_law.data.toList.drop 657 = dktL_law_20 := dk_seg dksL_law_19 24 rfl rfl
theorem dksL_law_21 : cL_law.data.toList.drop 681 = dktL_law_21 := dk_seg dksL_law_20 24 rfl rfl
theorem dksL_law_22 : cL_law.data.toList.drop 705 = dktL_law_22 := dk_seg dksL_law_21 24 rfl rfl
theorem dksL_law_23 : cL_law.data.toList.drop 727 = dktL_law_23 := dk_seg dksL_law_22 22 rfl rfl
theorem dksL_law_24 : cL_law.data.toList.drop 750 = dktL_law_24 := dk_seg dksL_law_23 23 rfl rfl
theorem dksL_law_25 : cL_law.data.toList.drop 773 = dktL_law_25 := dk_seg dksL_law_24 23 rfl rfl
theorem dksL_law_26 : cL_law.data.toList.drop 796 = dktL_law_26 := dk_seg dksL_law_25 23 rfl rfl
theorem dksL_law_27 : cL_law.data.toList.drop 820 = dktL_law_27 := dk_seg dksL_law_26 24 rfl rfl
theorem dksL_law_28 : cL_law.data.toList.drop 843 = dktL_law_28 := dk_seg dksL_law_27 23 rfl rfl
theorem dksL_law_29 : cL_law.data.toList.drop 867 = dktL_law_29 := dk_seg dksL_law_28 24 rfl rfl
theorem dksL_law_30 : cL_law.data.toList.drop 891 = dktL_law_30 := dk_seg dksL_law_29 24 rfl rfl
theorem dksL_law_31 : cL_law.data.toList.drop 915 = dktL_law_31 := dk_seg dksL_law_30 24 rfl rfl
theorem dksL_law_32 : cL_law.data.toList.drop 937 = dktL_law_32 := dk_seg dksL_law_31 22 rfl rfl
theorem dksL_law_33 : cL_law.data.toList.drop 961 = dktL_law_33 := dk_seg dksL_law_32 24 rfl rfl
theorem dksL_law_34 : cL_law.data.toList.drop 984 = dktL_law_34 := dk_seg dksL_law_33 23 rfl rfl
theorem dksL_law_35 : cL_law.data.toList.drop 1008 = dktL_law_35 := dk_seg dksL_law_34 24 rfl rfl
theorem dksL_law_36 : cL_law.data.toList.drop 1032 = dktL_law_36 := dk_seg dksL_law_35 24 rfl rfl
theorem dksL_law_37 : cL_law.data.toList.drop 1056 = dktL_law_37 := dk_seg dksL_law_36 24 rfl rfl
theorem dksL_law_38 : cL_law.data.toList.drop 1080 = dktL_law_38 := dk_seg dksL_law_37 24 rfl rfl
theorem dksL_law_39 : cL_law.data.toList.drop 1104 = dktL_law_39 := dk_seg dksL_law_38 24 rfl rfl
theorem dksL_law_40 : cL_law.data.toList.drop 1128 = dktL_law_40 := dk_seg dksL_law_39 24 rfl rfl
theorem dksL_law_41 : cL_law.data.toList.drop 1150 = dktL_law_41 := dk_seg dksL_law_40 22 rfl rfl
theorem dksL_law_42 : cL_law.data.toList.drop 1173 = dktL_law_42 := dk_seg dksL_law_41 23 rfl rfl
theorem dksL_law_43 : cL_law.data.toList.drop 1196 = dktL_law_43 := dk_seg dksL_law_42 23 rfl rfl
theorem dksL_law_44 : cL_law.data.toList.drop 1218 = dktL_law_44 := dk_seg dksL_law_43 22 rfl rfl
theorem dksL_law_45 : cL_law.data.toList.drop 1242 = dktL_law_45 := dk_seg dksL_law_44 24 rfl rfl
theorem dksL_law_46 : cL_law.data.toList.drop 1265 = dktL_law_46 := dk_seg dksL_law_45 23 rfl rfl
theorem dksL_law_47 : cL_law.data.toList.drop 1288 = dktL_law_47 := dk_seg dksL_law_46 23 rfl rfl
theorem dksL_law_48 : cL_law.data.toList.drop 1310 = dktL_law_48 := dk_seg dksL_law_47 22 rfl rfl
theorem dksL_law_49 : cL_law.data.toList.drop 1333 = dktL_law_49 := dk_seg dksL_law_48 23 rfl rfl
theorem dksL_law_50 : cL_law.data.toList.drop 1356 = dktL_law_50 := dk_seg dksL_law_49 23 rfl rfl
theorem dksL_law_51 : cL_law.data.toList.drop 1379 = dktL_law_51 := dk_seg dksL_law_50 23 rfl rfl
theorem dksL_law_52 : cL_law.data.toList.drop 1403 = dktL_law_52 := dk_seg dksL_law_51 24 rfl rfl
theorem dksL_law_53 : cL_law.data.toList.drop 1425 = dktL_law_53 := dk_seg dksL_law_52 22 rfl rfl
theorem dksL_law_54 : cL_law.data.toList.drop 1448 = dktL_law_54 := dk_seg dksL_law_53 23 rfl rfl
theorem dksL_law_55 : cL_law.data.toList.drop 1472 = dktL_law_55 := dk_seg dksL_law_54 24 rfl rfl
theorem dksL_law_56 : cL_law.data.toList.drop 1495 = dktL_law_56 := dk_seg dksL_law_55 23 rfl rfl
theorem dksL_law_57 : cL_law.data.toList.drop 1518 = dktL_law_57 := dk_seg dksL_law_56 23 rfl rfl
theorem dksL_law_58 : cL_law.data.toList.drop 1540 = dktL_law_58 := dk_seg dksL_law_57 22 rfl rfl
theorem dksL_law_59 : cL_law.data.toList.drop 1564 = dktL_law_59 := dk_seg dksL_law_58 24 rfl rfl
theorem dksL_law_60 : cL_law.data.toList.drop 1587 = dktL_law_60 := dk_seg dksL_law_59 23 rfl rfl
theorem dksL_law_61 : cL_law.data.toList.drop 1609 = dktL_law_61 := dk_seg dksL_law_60 22 rfl rfl
theorem dksL_law_62 : cL_law.data.toList.drop 1632 = dktL_law_62 := dk_seg dksL_law_61 23 rfl rfl
theorem dksL_law_63 : cL_law.data.toList.drop 1655 = dktL_law_63 := dk_seg dksL_law_62 23 rfl rfl
theorem dksL_law_64 : cL_law.data.toList.drop 1677 = dktL_law_64 := dk_seg dksL_law_63 22 rfl rfl
theorem dksL_law_65 : cL_law.data.toList.drop 1701 = dktL_law_65 := dk_seg dksL_law_64 24 rfl rfl
theorem dL_law_0 : decode cL_law 0 = .ok (.new 7, 3) := dk_187 0 7 (dk_at dksL_law_0 0 rfl rfl)
theorem dL_law_3 : decode cL_law 3 = .ok (.dup, 1) := dk_89 (dk_at dksL_law_0 3 rfl rfl)
theorem dL_law_4 : decode cL_law 4 = .ok (.invokespecial 9, 3) := dk_183 0 9 (dk_at dksL_law_0 4 rfl rfl)
theorem dL_law_7 : decode cL_law 7 = .ok (.astore_n 1, 1) := dk_76 (dk_at dksL_law_0 7 rfl rfl)
theorem dL_law_8 : decode cL_law 8 = .ok (.new 10, 3) := dk_187 0 10 (dk_at dksL_law_0 8 rfl rfl)
theorem dL_law_11 : decode cL_law 11 = .ok (.dup, 1) := dk_89 (dk_at dksL_law_0 11 rfl rfl)
theorem dL_law_12 : decode cL_law 12 = .ok (.invokespecial 12, 3) := dk_183 0 12 (dk_at dksL_law_0 12 rfl rfl)
theorem dL_law_15 : decode cL_law 15 = .ok (.astore_n 2, 1) := dk_77 (dk_at dksL_law_0 15 rfl rfl)
theorem dL_law_16 : decode cL_law 16 = .ok (.iconst 0, 1) := dk_3 (dk_at dksL_law_0 16 rfl rfl)
theorem dL_law_17 : decode cL_law 17 = .ok (.istore_n 3, 1) := dk_62 (dk_at dksL_law_0 17 rfl rfl)
theorem dL_law_18 : decode cL_law 18 = .ok (.iload_n 3, 1) := dk_29 (dk_at dksL_law_0 18 rfl rfl)
theorem dL_law_19 : decode cL_law 19 = .ok (.aload_n 0, 1) := dk_42 (dk_at dksL_law_0 19 rfl rfl)
theorem dL_law_20 : decode cL_law 20 = .ok (.arraylength, 1) := dk_190 (dk_at dksL_law_0 20 rfl rfl)
theorem dL_law_21 : decode cL_law 21 = .ok (.bipush 6, 2) := dk_16 6 (dk_at dksL_law_0 21 rfl rfl)
theorem dL_law_23 : decode cL_law 23 = .ok (.isub, 1) := dk_100 (dk_at dksL_law_0 23 rfl rfl)
theorem dL_law_24 : decode cL_law 24 = .ok (.if_icmp .gt 1694, 3) := dk_163 6 158 (dk_at dksL_law_1 0 rfl rfl)
theorem dL_law_27 : decode cL_law 27 = .ok (.aload_n 0, 1) := dk_42 (dk_at dksL_law_1 3 rfl rfl)
theorem dL_law_28 : decode cL_law 28 = .ok (.iload_n 3, 1) := dk_29 (dk_at dksL_law_1 4 rfl rfl)
theorem dL_law_29 : decode cL_law 29 = .ok (.iaload, 1) := dk_46 (dk_at dksL_law_1 5 rfl rfl)
theorem dL_law_30 : decode cL_law 30 = .ok (.bipush 63, 2) := dk_16 63 (dk_at dksL_law_1 6 rfl rfl)
theorem dL_law_32 : decode cL_law 32 = .ok (.iand, 1) := dk_126 (dk_at dksL_law_1 8 rfl rfl)
theorem dL_law_33 : decode cL_law 33 = .ok (.tableswitch 1679 0 50 #[219, 262, 335, 398, 432, 455, 488, 521, 554, 597, 656, 699, 722, 735, 748, 771, 804, 827, 860, 893, 926, 959, 992, 1025, 1058, 1111, 1134, 1157, 1180, 1193, 1226, 1249, 1272, 1285, 1308, 1331, 1354, 1387, 1400, 1423, 1456, 1479, 1502, 1515, 1548, 1571, 1584, 1607, 1630, 1643, 1656], 219) := by decide +kernel
theorem dL_law_252 : decode cL_law 252 = .ok (.aload_n 1, 1) := dk_43 (dk_at dksL_law_3 0 rfl rfl)
theorem dL_law_253 : decode cL_law 253 = .ok (.aload_n 0, 1) := dk_42 (dk_at dksL_law_3 1 rfl rfl)
theorem dL_law_254 : decode cL_law 254 = .ok (.iload_n 3, 1) := dk_29 (dk_at dksL_law_3 2 rfl rfl)
theorem dL_law_255 : decode cL_law 255 = .ok (.iconst 1, 1) := dk_4 (dk_at dksL_law_3 3 rfl rfl)
theorem dL_law_256 : decode cL_law 256 = .ok (.iadd, 1) := dk_96 (dk_at dksL_law_3 4 rfl rfl)
theorem dL_law_257 : decode cL_law 257 = .ok (.iaload, 1) := dk_46 (dk_at dksL_law_3 5 rfl rfl)
theorem dL_law_258 : decode cL_law 258 = .ok (.aload_n 0, 1) := dk_42 (dk_at dksL_law_3 6 rfl rfl)
theorem dL_law_259 : decode cL_law 259 = .ok (.iload_n 3, 1) := dk_29 (dk_at dksL_law_3 7 rfl rfl)
theorem dL_law_260 : decode cL_law 260 = .ok (.iconst 2, 1) := dk_5 (dk_at dksL_law_3 8 rfl rfl)
theorem dL_law_261 : decode cL_law 261 = .ok (.iadd, 1) := dk_96 (dk_at dksL_law_3 9 rfl rfl)
theorem dL_law_262 : decode cL_law 262 = .ok (.iaload, 1) := dk_46 (dk_at dksL_law_3 10 rfl rfl)
theorem dL_law_263 : decode cL_law 263 = .ok (.aload_n 0, 1) := dk_42 (dk_at dksL_law_3 11 rfl rfl)
theorem dL_law_264 : decode cL_law 264 = .ok (.iload_n 3, 1) := dk_29 (dk_at dksL_law_3 12 rfl rfl)
theorem dL_law_265 : decode cL_law 265 = .ok (.iconst 3, 1) := dk_6 (dk_at dksL_law_3 13 rfl rfl)
theorem dL_law_266 : decode cL_law 266 = .ok (.iadd, 1) := dk_96 (dk_at dksL_law_3 14 rfl rfl)
theorem dL_law_267 : decode cL_law 267 = .ok (.iaload, 1) := dk_46 (dk_at dksL_law_3 15 rfl rfl)
theorem dL_law_268 : decode cL_law 268 = .ok (.invokevirtual 13, 3) := dk_182 0 13 (dk_at dksL_law_3 16 rfl rfl)
theorem dL_law_271 : decode cL_law 271 = .ok (.aload_n 2, 1) := dk_44 (dk_at dksL_law_3 19 rfl rfl)
theorem dL_law_272 : decode cL_law 272 = .ok (.aload_n 0, 1) := dk_42 (dk_at dksL_law_3 20 rfl rfl)
theorem dL_law_273 : decode cL_law 273 = .ok (.iload_n 3, 1) := dk_29 (dk_at dksL_law_3 21 rfl rfl)
theorem dL_law_274 : decode cL_law 274 = .ok (.iconst 1, 1) := dk_4 (dk_at dksL_law_3 22 rfl rfl)
theorem dL_law_275 : decode cL_law 275 = .ok (.iadd, 1) := dk_96 (dk_at dksL_law_3 23 rfl rfl)
theorem dL_law_276 : decode cL_law 276 = .ok (.iaload, 1) := dk_46 (dk_at dksL_law_4 0 rfl rfl)
theorem dL_law_277 : decode cL_law 277 = .ok (.aload_n 0, 1) := dk_42 (dk_at dksL_law_4 1 rfl rfl)
theorem dL_law_278 : decode cL_law 278 = .ok (.iload_n 3, 1) := dk_29 (dk_at dksL_law_4 2 rfl rfl)
theorem dL_law_279 : decode cL_law 279 = .ok (.iconst 2, 1) := dk_5 (dk_at dksL_law_4 3 rfl rfl)
theorem dL_law_280 : decode cL_law 280 = .ok (.iadd, 1) := dk_96 (dk_at dksL_law_4 4 rfl rfl)
theorem dL_law_281 : decode cL_law 281 = .ok (.iaload, 1) := dk_46 (dk_at dksL_law_4 5 rfl rfl)
theorem dL_law_282 : decode cL_law 282 = .ok (.aload_n 0, 1) := dk_42 (dk_at dksL_law_4 6 rfl rfl)
theorem dL_law_283 : decode cL_law 283 = .ok (.iload_n 3, 1) := dk_29 (dk_at dksL_law_4 7 rfl rfl)
theorem dL_law_284 : decode cL_law 284 = .ok (.iconst 3, 1) := dk_6 (dk_at dksL_law_4 8 rfl rfl)
theorem dL_law_285 : decode cL_law 285 = .ok (.iadd, 1) := dk_96 (dk_at dksL_law_4 9 rfl rfl)
theorem dL_law_286 : decode cL_law 286 = .ok (.iaload, 1) := dk_46 (dk_at dksL_law_4 10 rfl rfl)
theorem dL_law_287 : decode cL_law 287 = .ok (.invokevirtual 17, 3) := dk_182 0 17 (dk_at dksL_law_4 11 rfl rfl)
theorem dL_law_290 : decode cL_law 290 = .ok (.if_icmp .eq 1422, 3) := dk_159 5 142 (dk_at dksL_law_4 14 rfl rfl)
theorem dL_law_293 : decode cL_law 293 = .ok (.iconst 0, 1) := dk_3 (dk_at dksL_law_4 17 rfl rfl)
theorem dL_law_294 : decode cL_law 294 = .ok (.ireturn, 1) := dk_172 (dk_at dksL_law_4 18 rfl rfl)
theorem dL_law_295 : decode cL_law 295 = .ok (.aload_n 1, 1) := dk_43 (dk_at dksL_law_4 19 rfl rfl)
theorem dL_law_296 : decode cL_law 296 = .ok (.aload_n 0, 1) := dk_42 (dk_at dksL_law_4 20 rfl rfl)
theorem dL_law_297 : decode cL_law 297 = .ok (.iload_n 3, 1) := dk_29 (dk_at dksL_law_4 21 rfl rfl)
theorem dL_law_298 : decode cL_law 298 = .ok (.iconst 1, 1) := dk_4 (dk_at dksL_law_4 22 rfl rfl)
theorem dL_law_299 : decode cL_law 299 = .ok (.iadd, 1) := dk_96 (dk_at dksL_law_4 23 rfl rfl)
theorem dL_law_300 : decode cL_law 300 = .ok (.iaload, 1) := dk_46 (dk_at dksL_law_5 0 rfl rfl)
theorem dL_law_301 : decode cL_law 301 = .ok (.aload_n 0, 1) := dk_42 (dk_at dksL_law_5 1 rfl rfl)
theorem dL_law_302 : decode cL_law 302 = .ok (.iload_n 3, 1) := dk_29 (dk_at dksL_law_5 2 rfl rfl)
theorem dL_law_303 : decode cL_law 303 = .ok (.iconst 2, 1) := dk_5 (dk_at dksL_law_5 3 rfl rfl)
theorem dL_law_304 : decode cL_law 304 = .ok (.iadd, 1) := dk_96 (dk_at dksL_law_5 4 rfl rfl)
theorem dL_law_305 : decode cL_law 305 = .ok (.iaload, 1) := dk_46 (dk_at dksL_law_5 5 rfl rfl)
theorem dL_law_306 : decode cL_law 306 = .ok (.aload_n 0, 1) := dk_42 (dk_at dksL_law_5 6 rfl rfl)
theorem dL_law_307 : decode cL_law 307 = .ok (.iload_n 3, 1) := dk_29 (dk_at dksL_law_5 7 rfl rfl)
theorem dL_law_308 : decode cL_law 308 = .ok (.iconst 3, 1) := dk_6 (dk_at dksL_law_5 8 rfl rfl)
theorem dL_law_309 : decode cL_law 309 = .ok (.iadd, 1) := dk_96 (dk_at dksL_law_5 9 rfl rfl)
theorem dL_law_310 : decode cL_law 310 = .ok (.iaload, 1) := dk_46 (dk_at dksL_law_5 10 rfl rfl)
theorem dL_law_311 : decode cL_law 311 = .ok (.i2l, 1) := dk_133 (dk_at dksL_law_5 11 rfl rfl)
theorem dL_law_312 : decode cL_law 312 = .ok (.bipush 32, 2) := dk_16 32 (dk_at dksL_law_5 12 rfl rfl)
theorem dL_law_314 : decode cL_law 314 = .ok (.lshl, 1) := dk_121 (dk_at dksL_law_5 14 rfl rfl)
theorem dL_law_315 : decode cL_law 315 = .ok (.aload_n 0, 1) := dk_42 (dk_at dksL_law_5 15 rfl rfl)
theorem dL_law_316 : decode cL_law 316 = .ok (.iload_n 3, 1) := dk_29 (dk_at dksL_law_5 16 rfl rfl)
theorem dL_law_317 : decode cL_law 317 = .ok (.iconst 4, 1) := dk_7 (dk_at dksL_law_5 17 rfl rfl)
theorem dL_law_318 : decode cL_law 318 = .ok (.iadd, 1) := dk_96 (dk_at dksL_law_5 18 rfl rfl)
theorem dL_law_319 : decode cL_law 319 = .ok (.iaload, 1) := dk_46 (dk_at dksL_law_5 19 rfl rfl)
theorem dL_law_320 : decode cL_law 320 = .ok (.i2l, 1) := dk_133 (dk_at dksL_law_5 20 rfl rfl)
theorem dL_law_321 : decode cL_law 321 = .ok (.ldc2_w 18, 3) := dk_20 0 18 (dk_at dksL_law_5 21 rfl rfl)
theorem dL_law_324 : decode cL_law 324 = .ok (.land, 1) := dk_127 (dk_at dksL_law_6 0 rfl rfl)
theorem dL_law_325 : decode cL_law 325 = .ok (.lor, 1) := dk_129 (dk_at dksL_law_6 1 rfl rfl)
theorem dL_law_326 : decode cL_law 326 = .ok (.invokevirtual 20, 3) := dk_182 0 20 (dk_at dksL_law_6 2 rfl rfl)
theorem dL_law_329 : decode cL_law 329 = .ok (.aload_n 2, 1) := dk_44 (dk_at dksL_law_6 5 rfl rfl)
theorem dL_law_330 : decode cL_law 330 = .ok (.aload_n 0, 1) := dk_42 (dk_at dksL_law_6 6 rfl rfl)
theorem dL_law_331 : decode cL_law 331 = .ok (.iload_n 3, 1) := dk_29 (dk_at dksL_law_6 7 rfl rfl)
theorem dL_law_332 : decode cL_law 332 = .ok (.iconst 1, 1) := dk_4 (dk_at dksL_law_6 8 rfl rfl)
theorem dL_law_333 : decode cL_law 333 = .ok (.iadd, 1) := dk_96 (dk_at dksL_law_6 9 rfl rfl)
theorem dL_law_334 : decode cL_law 334 = .ok (.iaload, 1) := dk_46 (dk_at dksL_law_6 10 rfl rfl)
theorem dL_law_335 : decode cL_law 335 = .ok (.aload_n 0, 1) := dk_42 (dk_at dksL_law_6 11 rfl rfl)
theorem dL_law_336 : decode cL_law 336 = .ok (.iload_n 3, 1) := dk_29 (dk_at dksL_law_6 12 rfl rfl)
theorem dL_law_337 : decode cL_law 337 = .ok (.iconst 2, 1) := dk_5 (dk_at dksL_law_6 13 rfl rfl)
theorem dL_law_338 : decode cL_law 338 = .ok (.iadd, 1) := dk_96 (dk_at dksL_law_6 14 rfl rfl)
theorem dL_law_339 : decode cL_law 339 = .ok (.iaload, 1) := dk_46 (dk_at dksL_law_6 15 rfl rfl)
theorem dL_law_340 : decode cL_law 340 = .ok (.aload_n 0, 1) := dk_42 (dk_at dksL_law_6 16 rfl rfl)
theorem dL_law_341 : decode cL_law 341 = .ok (.iload_n 3, 1) := dk_29 (dk_at dksL_law_6 17 rfl rfl)
theorem dL_law_342 : decode cL_law 342 = .ok (.iconst 3, 1) := dk_6 (dk_at dksL_law_6 18 rfl rfl)
theorem dL_law_343 : decode cL_law 343 = .ok (.iadd, 1) := dk_96 (dk_at dksL_law_6 19 rfl rfl)
theorem dL_law_344 : decode cL_law 344 = .ok (.iaload, 1) := dk_46 (dk_at dksL_law_6 20 rfl rfl)
theorem dL_law_345 : decode cL_law 345 = .ok (.i2l, 1) := dk_133 (dk_at dksL_law_6 21 rfl rfl)
theorem dL_law_346 : decode cL_law 346 = .ok (.bipush 32, 2) := dk_16 32 (dk_at dksL_law_6 22 rfl rfl)
theorem dL_law_348 : decode cL_law 348 = .ok (.lshl, 1) := dk_121 (dk_at dksL_law_7 0 rfl rfl)
theorem dL_law_349 : decode cL_law 349 = .ok (.aload_n 0, 1) := dk_42 (dk_at dksL_law_7 1 rfl rfl)
theorem dL_law_350 : decode cL_law 350 = .ok (.iload_n 3, 1) := dk_29 (dk_at dksL_law_7 2 rfl rfl)
theorem dL_law_351 : decode cL_law 351 = .ok (.iconst 4, 1) := dk_7 (dk_at dksL_law_7 3 rfl rfl)
theorem dL_law_352 : decode cL_law 352 = .ok (.iadd, 1) := dk_96 (dk_at dksL_law_7 4 rfl rfl)
theorem dL_law_353 : decode cL_law 353 = .ok (.iaload, 1) := dk_46 (dk_at dksL_law_7 5 rfl rfl)
theorem dL_law_354 : decode cL_law 354 = .ok (.i2l, 1) := dk_133 (dk_at dksL_law_7 6 rfl rfl)
theorem dL_law_355 : decode cL_law 355 = .ok (.ldc2_w 18, 3) := dk_20 0 18 (dk_at dksL_law_7 7 rfl rfl)
theorem dL_law_358 : decode cL_law 358 = .ok (.land, 1) := dk_127 (dk_at dksL_law_7 10 rfl rfl)
theorem dL_law_359 : decode cL_law 359 = .ok (.lor, 1) := dk_129 (dk_at dksL_law_7 11 rfl rfl)
theorem dL_law_360 : decode cL_law 360 = .ok (.invokevirtual 24, 3) := dk_182 0 24 (dk_at dksL_law_7 12 rfl rfl)
theorem dL_law_363 : decode cL_law 363 = .ok (.if_icmp .eq 1349, 3) := dk_159 5 69 (dk_at dksL_law_7 15 rfl rfl)
theorem dL_law_366 : decode cL_law 366 = .ok (.iconst 0, 1) := dk_3 (dk_at dksL_law_7 18 rfl rfl)
theorem dL_law_367 : decode cL_law 367 = .ok (.ireturn, 1) := dk_172 (dk_at dksL_law_7 19 rfl rfl)
theorem dL_law_368 : decode cL_law 368 = .ok (.aload_n 1, 1) := dk_43 (dk_at dksL_law_7 20 rfl rfl)
theorem dL_law_369 : decode cL_law 369 = .ok (.aload_n 0, 1) := dk_42 (dk_at dksL_law_7 21 rfl rfl)
theorem dL_law_370 : decode cL_law 370 = .ok (.iload_n 3, 1) := dk_29 (dk_at dksL_law_7 22 rfl rfl)
theorem dL_law_371 : decode cL_law 371 = .ok (.iconst 1, 1) := dk_4 (dk_at dksL_law_7 23 rfl rfl)
theorem dL_law_372 : decode cL_law 372 = .ok (.iadd, 1) := dk_96 (dk_at dksL_law_8 0 rfl rfl)
theorem dL_law_373 : decode cL_law 373 = .ok (.iaload, 1) := dk_46 (dk_at dksL_law_8 1 rfl rfl)
theorem dL_law_374 : decode cL_law 374 = .ok (.aload_n 0, 1) := dk_42 (dk_at dksL_law_8 2 rfl rfl)
theorem dL_law_375 : decode cL_law 375 = .ok (.iload_n 3, 1) := dk_29 (dk_at dksL_law_8 3 rfl rfl)
theorem dL_law_376 : decode cL_law 376 = .ok (.iconst 2, 1) := dk_5 (dk_at dksL_law_8 4 rfl rfl)
theorem dL_law_377 : decode cL_law 377 = .ok (.iadd, 1) := dk_96 (dk_at dksL_law_8 5 rfl rfl)
theorem dL_law_378 : decode cL_law 378 = .ok (.iaload, 1) := dk_46 (dk_at dksL_law_8 6 rfl rfl)
theorem dL_law_379 : decode cL_law 379 = .ok (.aload_n 0, 1) := dk_42 (dk_at dksL_law_8 7 rfl rfl)
theorem dL_law_380 : decode cL_law 380 = .ok (.iload_n 3, 1) := dk_29 (dk_at dksL_law_8 8 rfl rfl)
theorem dL_law_381 : decode cL_law 381 = .ok (.iconst 3, 1) := dk_6 (dk_at dksL_law_8 9 rfl rfl)
theorem dL_law_382 : decode cL_law 382 = .ok (.iadd, 1) := dk_96 (dk_at dksL_law_8 10 rfl rfl)
theorem dL_law_383 : decode cL_law 383 = .ok (.iaload, 1) := dk_46 (dk_at dksL_law_8 11 rfl rfl)
theorem dL_law_384 : decode cL_law 384 = .ok (.aload_n 0, 1) := dk_42 (dk_at dksL_law_8 12 rfl rfl)
theorem dL_law_385 : decode cL_law 385 = .ok (.iload_n 3, 1) := dk_29 (dk_at dksL_law_8 13 rfl rfl)
theorem dL_law_386 : decode cL_law 386 = .ok (.iconst 4, 1) := dk_7 (dk_at dksL_law_8 14 rfl rfl)
theorem dL_law_387 : decode cL_law 387 = .ok (.iadd, 1) := dk_96 (dk_at dksL_law_8 15 rfl rfl)
theorem dL_law_388 : decode cL_law 388 = .ok (.iaload, 1) := dk_46 (dk_at dksL_law_8 16 rfl rfl)
theorem dL_law_389 : decode cL_law 389 = .ok (.aload_n 0, 1) := dk_42 (dk_at dksL_law_8 17 rfl rfl)
theorem dL_law_390 : decode cL_law 390 = .ok (.iload_n 3, 1) := dk_29 (dk_at dksL_law_8 18 rfl rfl)
theorem dL_law_391 : decode cL_law 391 = .ok (.iconst 5, 1) := dk_8 (dk_at dksL_law_8 19 rfl rfl)
theorem dL_law_392 : decode cL_law 392 = .ok (.iadd, 1) := dk_96 (dk_at dksL_law_8 20 rfl rfl)
theorem dL_law_393 : decode cL_law 393 = .ok (.iaload, 1) := dk_46 (dk_at dksL_law_8 21 rfl rfl)
theorem dL_law_394 : decode cL_law 394 = .ok (.invokevirtual 25, 3) := dk_182 0 25 (dk_at dksL_law_9 0 rfl rfl)
theorem dL_law_397 : decode cL_law 397 = .ok (.aload_n 2, 1) := dk_44 (dk_at dksL_law_9 3 rfl rfl)
theorem dL_law_398 : decode cL_law 398 = .ok (.aload_n 0, 1) := dk_42 (dk_at dksL_law_9 4 rfl rfl)
theorem dL_law_399 : decode cL_law 399 = .ok (.iload_n 3, 1) := dk_29 (dk_at dksL_law_9 5 rfl rfl)
theorem dL_law_400 : decode cL_law 400 = .ok (.iconst 1, 1) := dk_4 (dk_at dksL_law_9 6 rfl rfl)
theorem dL_law_401 : decode cL_law 401 = .ok (.iadd, 1) := dk_96 (dk_at dksL_law_9 7 rfl rfl)
theorem dL_law_402 : decode cL_law 402 = .ok (.iaload, 1) := dk_46 (dk_at dksL_law_9 8 rfl rfl)
theorem dL_law_403 : decode cL_law 403 = .ok (.aload_n 0, 1) := dk_42 (dk_at dksL_law_9 9 rfl rfl)
theorem dL_law_404 : decode cL_law 404 = .ok (.iload_n 3, 1) := dk_29 (dk_at dksL_law_9 10 rfl rfl)
theorem dL_law_405 : decode cL_law 405 = .ok (.iconst 2, 1) := dk_5 (dk_at dksL_law_9 11 rfl rfl)
theorem dL_law_406 : decode cL_law 406 = .ok (.iadd, 1) := dk_96 (dk_at dksL_law_9 12 rfl rfl)
theorem dL_law_407 : decode cL_law 407 = .ok (.iaload, 1) := dk_46 (dk_at dksL_law_9 13 rfl rfl)
theorem dL_law_408 : decode cL_law 408 = .ok (.aload_n 0, 1) := dk_42 (dk_at dksL_law_9 14 rfl rfl)
theorem dL_law_409 : decode cL_law 409 = .ok (.iload_n 3, 1) := dk_29 (dk_at dksL_law_9 15 rfl rfl)
theorem dL_law_410 : decode cL_law 410 = .ok (.iconst 3, 1) := dk_6 (dk_at dksL_law_9 16 rfl rfl)
theorem dL_law_411 : decode cL_law 411 = .ok (.iadd, 1) := dk_96 (dk_at dksL_law_9 17 rfl rfl)
theorem dL_law_412 : decode cL_law 412 = .ok (.iaload, 1) := dk_46 (dk_at dksL_law_9 18 rfl rfl)
theorem dL_law_413 : decode cL_law 413 = .ok (.aload_n 0, 1) := dk_42 (dk_at dksL_law_9 19 rfl rfl)
theorem dL_law_414 : decode cL_law 414 = .ok (.iload_n 3, 1) := dk_29 (dk_at dksL_law_9 20 rfl rfl)
theorem dL_law_415 : decode cL_law 415 = .ok (.iconst 4, 1) := dk_7 (dk_at dksL_law_9 21 rfl rfl)
theorem dL_law_416 : decode cL_law 416 = .ok (.iadd, 1) := dk_96 (dk_at dksL_law_9 22 rfl rfl)
theorem dL_law_417 : decode cL_law 417 = .ok (.iaload, 1) := dk_46 (dk_at dksL_law_9 23 rfl rfl)
theorem dL_law_418 : decode cL_law 418 = .ok (.aload_n 0, 1) := dk_42 (dk_at dksL_law_10 0 rfl rfl)
theorem dL_law_419 : decode cL_law 419 = .ok (.iload_n 3, 1) := dk_29 (dk_at dksL_law_10 1 rfl rfl)
theorem dL_law_420 : decode cL_law 420 = .ok (.iconst 5, 1) := dk_8 (dk_at dksL_law_10 2 rfl rfl)
theorem dL_law_421 : decode cL_law 421 = .ok (.iadd, 1) := dk_96 (dk_at dksL_law_10 3 rfl rfl)
theorem dL_law_422 : decode cL_law 422 = .ok (.iaload, 1) := dk_46 (dk_at dksL_law_10 4 rfl rfl)
theorem dL_law_423 : decode cL_law 423 = .ok (.invokevirtual 29, 3) := dk_182 0 29 (dk_at dksL_law_10 5 rfl rfl)
theorem dL_law_426 : decode cL_law 426 = .ok (.if_icmp .eq 1286, 3) := dk_159 5 6 (dk_at dksL_law_10 8 rfl rfl)
theorem dL_law_429 : decode cL_law 429 = .ok (.iconst 0, 1) := dk_3 (dk_at dksL_law_10 11 rfl rfl)
theorem dL_law_430 : decode cL_law 430 = .ok (.ireturn, 1) := dk_172 (dk_at dksL_law_10 12 rfl rfl)
theorem dL_law_431 : decode cL_law 431 = .ok (.aload_n 1, 1) := dk_43 (dk_at dksL_law_10 13 rfl rfl)
theorem dL_law_432 : decode cL_law 432 = .ok (.aload_n 0, 1) := dk_42 (dk_at dksL_law_10 14 rfl rfl)
theorem dL_law_433 : decode cL_law 433 = .ok (.iload_n 3, 1) := dk_29 (dk_at dksL_law_10 15 rfl rfl)
theorem dL_law_434 : decode cL_law 434 = .ok (.iconst 1, 1) := dk_4 (dk_at dksL_law_10 16 rfl rfl)
theorem dL_law_435 : decode cL_law 435 = .ok (.iadd, 1) := dk_96 (dk_at dksL_law_10 17 rfl rfl)
theorem dL_law_436 : decode cL_law 436 = .ok (.iaload, 1) := dk_46 (dk_at dksL_law_10 18 rfl rfl)
theorem dL_law_437 : decode cL_law 437 = .ok (.aload_n 0, 1) := dk_42 (dk_at dksL_law_10 19 rfl rfl)
theorem dL_law_438 : decode cL_law 438 = .ok (.iload_n 3, 1) := dk_29 (dk_at dksL_law_10 20 rfl rfl)
theorem dL_law_439 : decode cL_law 439 = .ok (.iconst 2, 1) := dk_5 (dk_at dksL_law_10 21 rfl rfl)
theorem dL_law_440 : decode cL_law 440 = .ok (.iadd, 1) := dk_96 (dk_at dksL_law_10 22 rfl rfl)
theorem dL_law_441 : decode cL_law 441 = .ok (.iaload, 1) := dk_46 (dk_at dksL_law_10 23 rfl rfl)
theorem dL_law_442 : decode cL_law 442 = .ok (.invokevirtual 30, 3) := dk_182 0 30 (dk_at dksL_law_11 0 rfl rfl)
theorem dL_law_445 : decode cL_law 445 = .ok (.aload_n 2, 1) := dk_44 (dk_at dksL_law_11 3 rfl rfl)
theorem dL_law_446 : decode cL_law 446 = .ok (.aload_n 0, 1) := dk_42 (dk_at dksL_law_11 4 rfl rfl)
theorem dL_law_447 : decode cL_law 447 = .ok (.iload_n 3, 1) := dk_29 (dk_at dksL_law_11 5 rfl rfl)
theorem dL_law_448 : decode cL_law 448 = .ok (.iconst 1, 1) := dk_4 (dk_at dksL_law_11 6 rfl rfl)
theorem dL_law_449 : decode cL_law 449 = .ok (.iadd, 1) := dk_96 (dk_at dksL_law_11 7 rfl rfl)
theorem dL_law_450 : decode cL_law 450 = .ok (.iaload, 1) := dk_46 (dk_at dksL_law_11 8 rfl rfl)
theorem dL_law_451 : decode cL_law 451 = .ok (.aload_n 0, 1) := dk_42 (dk_at dksL_law_11 9 rfl rfl)
theorem dL_law_452 : decode cL_law 452 = .ok (.iload_n 3, 1) := dk_29 (dk_at dksL_law_11 10 rfl rfl)
theorem dL_law_453 : decode cL_law 453 = .ok (.iconst 2, 1) := dk_5 (dk_at dksL_law_11 11 rfl rfl)
theorem dL_law_454 : decode cL_law 454 = .ok (.iadd, 1) := dk_96 (dk_at dksL_law_11 12 rfl rfl)
theorem dL_law_455 : decode cL_law 455 = .ok (.iaload, 1) := dk_46 (dk_at dksL_law_11 13 rfl rfl)
theorem dL_law_456 : decode cL_law 456 = .ok (.invokevirtual 34, 3) := dk_182 0 34 (dk_at dksL_law_11 14 rfl rfl)
theorem dL_law_459 : decode cL_law 459 = .ok (.lcmp, 1) := dk_148 (dk_at dksL_law_11 17 rfl rfl)
theorem dL_law_460 : decode cL_law 460 = .ok (.ifCond .eq 1252, 3) := dk_153 4 228 (dk_at dksL_law_11 18 rfl rfl)
theorem dL_law_463 : decode cL_law 463 = .ok (.iconst 0, 1) := dk_3 (dk_at dksL_law_11 21 rfl rfl)
theorem dL_law_464 : decode cL_law 464 = .ok (.ireturn, 1) := dk_172 (dk_at dksL_law_11 22 rfl rfl)
theorem dL_law_465 : decode cL_law 465 = .ok (.aload_n 1, 1) := dk_43 (dk_at dksL_law_11 23 rfl rfl)
theorem dL_law_466 : decode cL_law 466 = .ok (.aload_n 0, 1) := dk_42 (dk_at dksL_law_12 0 rfl rfl)
theorem dL_law_467 : decode cL_law 467 = .ok (.iload_n 3, 1) := dk_29 (dk_at dksL_law_12 1 rfl rfl)
theorem dL_law_468 : decode cL_law 468 = .ok (.iconst 1, 1) := dk_4 (dk_at dksL_law_12 2 rfl rfl)
theorem dL_law_469 : decode cL_law 469 = .ok (.iadd, 1) := dk_96 (dk_at dksL_law_12 3 rfl rfl)
theorem dL_law_470 : decode cL_law 470 = .ok (.iaload, 1) := dk_46 (dk_at dksL_law_12 4 rfl rfl)
theorem dL_law_471 : decode cL_law 471 = .ok (.invokevirtual 35, 3) := dk_182 0 35 (dk_at dksL_law_12 5 rfl rfl)
theorem dL_law_474 : decode cL_law 474 = .ok (.aload_n 2, 1) := dk_44 (dk_at dksL_law_12 8 rfl rfl)
theorem dL_law_475 : decode cL_law 475 = .ok (.aload_n 0, 1) := dk_42 (dk_at dksL_law_12 9 rfl rfl)
theorem dL_law_476 : decode cL_law 476 = .ok (.iload_n 3, 1) := dk_29 (dk_at dksL_law_12 10 rfl rfl)
theorem dL_law_477 : decode cL_law 477 = .ok (.iconst 1, 1) := dk_4 (dk_at dksL_law_12 11 rfl rfl)
theorem dL_law_478 : decode cL_law 478 = .ok (.iadd, 1) := dk_96 (dk_at dksL_law_12 12 rfl rfl)
theorem dL_law_479 : decode cL_law 479 = .ok (.iaload, 1) := dk_46 (dk_at dksL_law_12 13 rfl rfl)
theorem dL_law_480 : decode cL_law 480 = .ok (.invokevirtual 39, 3) := dk_182 0 39 (dk_at dksL_law_12 14 rfl rfl)
theorem dL_law_483 : decode cL_law 483 = .ok (.if_icmp .eq 1229, 3) := dk_159 4 205 (dk_at dksL_law_12 17 rfl rfl)
theorem dL_law_486 : decode cL_law 486 = .ok (.iconst 0, 1) := dk_3 (dk_at dksL_law_12 20 rfl rfl)
theorem dL_law_487 : decode cL_law 487 = .ok (.ireturn, 1) := dk_172 (dk_at dksL_law_12 21 rfl rfl)
theorem dL_law_488 : decode cL_law 488 = .ok (.aload_n 1, 1) := dk_43 (dk_at dksL_law_12 22 rfl rfl)
theorem dL_law_489 : decode cL_law 489 = .ok (.aload_n 0, 1) := dk_42 (dk_at dksL_law_12 23 rfl rfl)
theorem dL_law_490 : decode cL_law 490 = .ok (.iload_n 3, 1) := dk_29 (dk_at dksL_law_13 0 rfl rfl)
theorem dL_law_491 : decode cL_law 491 = .ok (.iconst 1, 1) := dk_4 (dk_at dksL_law_13 1 rfl rfl)
theorem dL_law_492 : decode cL_law 492 = .ok (.iadd, 1) := dk_96 (dk_at dksL_law_13 2 rfl rfl)
theorem dL_law_493 : decode cL_law 493 = .ok (.iaload, 1) := dk_46 (dk_at dksL_law_13 3 rfl rfl)
theorem dL_law_494 : decode cL_law 494 = .ok (.aload_n 0, 1) := dk_42 (dk_at dksL_law_13 4 rfl rfl)
theorem dL_law_495 : decode cL_law 495 = .ok (.iload_n 3, 1) := dk_29 (dk_at dksL_law_13 5 rfl rfl)
theorem dL_law_496 : decode cL_law 496 = .ok (.iconst 2, 1) := dk_5 (dk_at dksL_law_13 6 rfl rfl)
theorem dL_law_497 : decode cL_law 497 = .ok (.iadd, 1) := dk_96 (dk_at dksL_law_13 7 rfl rfl)
theorem dL_law_498 : decode cL_law 498 = .ok (.iaload, 1) := dk_46 (dk_at dksL_law_13 8 rfl rfl)
theorem dL_law_499 : decode cL_law 499 = .ok (.invokevirtual 40, 3) := dk_182 0 40 (dk_at dksL_law_13 9 rfl rfl)
theorem dL_law_502 : decode cL_law 502 = .ok (.aload_n 2, 1) := dk_44 (dk_at dksL_law_13 12 rfl rfl)
theorem dL_law_503 : decode cL_law 503 = .ok (.aload_n 0, 1) := dk_42 (dk_at dksL_law_13 13 rfl rfl)
theorem dL_law_504 : decode cL_law 504 = .ok (.iload_n 3, 1) := dk_29 (dk_at dksL_law_13 14 rfl rfl)
theorem dL_law_505 : decode cL_law 505 = .ok (.iconst 1, 1) := dk_4 (dk_at dksL_law_13 15 rfl rfl)
theorem dL_law_506 : decode cL_law 506 = .ok (.iadd, 1) := dk_96 (dk_at dksL_law_13 16 rfl rfl)
theorem dL_law_507 : decode cL_law 507 = .ok (.iaload, 1) := dk_46 (dk_at dksL_law_13 17 rfl rfl)
theorem dL_law_508 : decode cL_law 508 = .ok (.aload_n 0, 1) := dk_42 (dk_at dksL_law_13 18 rfl rfl)
theorem dL_law_509 : decode cL_law 509 = .ok (.iload_n 3, 1) := dk_29 (dk_at dksL_law_13 19 rfl rfl)
theorem dL_law_510 : decode cL_law 510 = .ok (.iconst 2, 1) := dk_5 (dk_at dksL_law_13 20 rfl rfl)
theorem dL_law_511 : decode cL_law 511 = .ok (.iadd, 1) := dk_96 (dk_at dksL_law_13 21 rfl rfl)
theorem dL_law_512 : decode cL_law 512 = .ok (.iaload, 1) := dk_46 (dk_at dksL_law_13 22 rfl rfl)
theorem dL_law_513 : decode cL_law 513 = .ok (.invokevirtual 44, 3) := dk_182 0 44 (dk_at dksL_law_14 0 rfl rfl)
theorem dL_law_516 : decode cL_law 516 = .ok (.if_icmp .eq 1196, 3) := dk_159 4 172 (dk_at dksL_law_14 3 rfl rfl)
theorem dL_law_519 : decode cL_law 519 = .ok (.iconst 0, 1) := dk_3 (dk_at dksL_law_14 6 rfl rfl)
theorem dL_law_520 : decode cL_law 520 = .ok (.ireturn, 1) := dk_172 (dk_at dksL_law_14 7 rfl rfl)
theorem dL_law_521 : decode cL_law 521 = .ok (.aload_n 1, 1) := dk_43 (dk_at dksL_law_14 8 rfl rfl)
theorem dL_law_522 : decode cL_law 522 = .ok (.aload_n 0, 1) := dk_42 (dk_at dksL_law_14 9 rfl rfl)
theorem dL_law_523 : decode cL_law 523 = .ok (.iload_n 3, 1) := dk_29 (dk_at dksL_law_14 10 rfl rfl)
theorem dL_law_524 : decode cL_law 524 = .ok (.iconst 1, 1) := dk_4 (dk_at dksL_law_14 11 rfl rfl)
theorem dL_law_525 : decode cL_law 525 = .ok (.iadd, 1) := dk_96 (dk_at dksL_law_14 12 rfl rfl)
theorem dL_law_526 : decode cL_law 526 = .ok (.iaload, 1) := dk_46 (dk_at dksL_law_14 13 rfl rfl)
theorem dL_law_527 : decode cL_law 527 = .ok (.aload_n 0, 1) := dk_42 (dk_at dksL_law_14 14 rfl rfl)
theorem dL_law_528 : decode cL_law 528 = .ok (.iload_n 3, 1) := dk_29 (dk_at dksL_law_14 15 rfl rfl)
theorem dL_law_529 : decode cL_law 529 = .ok (.iconst 2, 1) := dk_5 (dk_at dksL_law_14 16 rfl rfl)
theorem dL_law_530 : decode cL_law 530 = .ok (.iadd, 1) := dk_96 (dk_at dksL_law_14 17 rfl rfl)
theorem dL_law_531 : decode cL_law 531 = .ok (.iaload, 1) := dk_46 (dk_at dksL_law_14 18 rfl rfl)
theorem dL_law_532 : decode cL_law 532 = .ok (.invokevirtual 45, 3) := dk_182 0 45 (dk_at dksL_law_14 19 rfl rfl)
theorem dL_law_535 : decode cL_law 535 = .ok (.aload_n 2, 1) := dk_44 (dk_at dksL_law_14 22 rfl rfl)
theorem dL_law_536 : decode cL_law 536 = .ok (.aload_n 0, 1) := dk_42 (dk_at dksL_law_14 23 rfl rfl)
theorem dL_law_537 : decode cL_law 537 = .ok (.iload_n 3, 1) := dk_29 (dk_at dksL_law_15 0 rfl rfl)
theorem dL_law_538 : decode cL_law 538 = .ok (.iconst 1, 1) := dk_4 (dk_at dksL_law_15 1 rfl rfl)
theorem dL_law_539 : decode cL_law 539 = .ok (.iadd, 1) := dk_96 (dk_at dksL_law_15 2 rfl rfl)
theorem dL_law_540 : decode cL_law 540 = .ok (.iaload, 1) := dk_46 (dk_at dksL_law_15 3 rfl rfl)
theorem dL_law_541 : decode cL_law 541 = .ok (.aload_n 0, 1) := dk_42 (dk_at dksL_law_15 4 rfl rfl)
theorem dL_law_542 : decode cL_law 542 = .ok (.iload_n 3, 1) := dk_29 (dk_at dksL_law_15 5 rfl rfl)
theorem dL_law_543 : decode cL_law 543 = .ok (.iconst 2, 1) := dk_5 (dk_at dksL_law_15 6 rfl rfl)
theorem dL_law_544 : decode cL_law 544 = .ok (.iadd, 1) := dk_96 (dk_at dksL_law_15 7 rfl rfl)
theorem dL_law_545 : decode cL_law 545 = .ok (.iaload, 1) := dk_46 (dk_at dksL_law_15 8 rfl rfl)
theorem dL_law_546 : decode cL_law 546 = .ok (.invokevirtual 48, 3) := dk_182 0 48 (dk_at dksL_law_15 9 rfl rfl)
theorem dL_law_549 : decode cL_law 549 = .ok (.if_icmp .eq 1163, 3) := dk_159 4 139 (dk_at dksL_law_15 12 rfl rfl)
theorem dL_law_552 : decode cL_law 552 = .ok (.iconst 0, 1) := dk_3 (dk_at dksL_law_15 15 rfl rfl)
theorem dL_law_553 : decode cL_law 553 = .ok (.ireturn, 1) := dk_172 (dk_at dksL_law_15 16 rfl rfl)
theorem dL_law_554 : decode cL_law 554 = .ok (.aload_n 1, 1) := dk_43 (dk_at dksL_law_15 17 rfl rfl)
theorem dL_law_555 : decode cL_law 555 = .ok (.aload_n 0, 1) := dk_42 (dk_at dksL_law_15 18 rfl rfl)
theorem dL_law_556 : decode cL_law 556 = .ok (.iload_n 3, 1) := dk_29 (dk_at dksL_law_15 19 rfl rfl)
theorem dL_law_557 : decode cL_law 557 = .ok (.iconst 1, 1) := dk_4 (dk_at dksL_law_15 20 rfl rfl)
theorem dL_law_558 : decode cL_law 558 = .ok (.iadd, 1) := dk_96 (dk_at dksL_law_15 21 rfl rfl)
theorem dL_law_559 : decode cL_law 559 = .ok (.iaload, 1) := dk_46 (dk_at dksL_law_15 22 rfl rfl)
theorem dL_law_560 : decode cL_law 560 = .ok (.aload_n 0, 1) := dk_42 (dk_at dksL_law_15 23 rfl rfl)
theorem dL_law_561 : decode cL_law 561 = .ok (.iload_n 3, 1) := dk_29 (dk_at dksL_law_16 0 rfl rfl)
theorem dL_law_562 : decode cL_law 562 = .ok (.iconst 2, 1) := dk_5 (dk_at dksL_law_16 1 rfl rfl)
theorem dL_law_563 : decode cL_law 563 = .ok (.iadd, 1) := dk_96 (dk_at dksL_law_16 2 rfl rfl)
theorem dL_law_564 : decode cL_law 564 = .ok (.iaload, 1) := dk_46 (dk_at dksL_law_16 3 rfl rfl)
theorem dL_law_565 : decode cL_law 565 = .ok (.invokevirtual 49, 3) := dk_182 0 49 (dk_at dksL_law_16 4 rfl rfl)
theorem dL_law_568 : decode cL_law 568 = .ok (.aload_n 2, 1) := dk_44 (dk_at dksL_law_16 7 rfl rfl)
theorem dL_law_569 : decode cL_law 569 = .ok (.aload_n 0, 1) := dk_42 (dk_at dksL_law_16 8 rfl rfl)
theorem dL_law_570 : decode cL_law 570 = .ok (.iload_n 3, 1) := dk_29 (dk_at dksL_law_16 9 rfl rfl)
theorem dL_law_571 : decode cL_law 571 = .ok (.iconst 1, 1) := dk_4 (dk_at dksL_law_16 10 rfl rfl)
theorem dL_law_572 : decode cL_law 572 = .ok (.iadd, 1) := dk_96 (dk_at dksL_law_16 11 rfl rfl)
theorem dL_law_573 : decode cL_law 573 = .ok (.iaload, 1) := dk_46 (dk_at dksL_law_16 12 rfl rfl)
theorem dL_law_574 : decode cL_law 574 = .ok (.aload_n 0, 1) := dk_42 (dk_at dksL_law_16 13 rfl rfl)
theorem dL_law_575 : decode cL_law 575 = .ok (.iload_n 3, 1) := dk_29 (dk_at dksL_law_16 14 rfl rfl)
theorem dL_law_576 : decode cL_law 576 = .ok (.iconst 2, 1) := dk_5 (dk_at dksL_law_16 15 rfl rfl)
theorem dL_law_577 : decode cL_law 577 = .ok (.iadd, 1) := dk_96 (dk_at dksL_law_16 16 rfl rfl)
theorem dL_law_578 : decode cL_law 578 = .ok (.iaload, 1) := dk_46 (dk_at dksL_law_16 17 rfl rfl)
theorem dL_law_579 : decode cL_law 579 = .ok (.invokevirtual 52, 3) := dk_182 0 52 (dk_at dksL_law_16 18 rfl rfl)
theorem dL_law_582 : decode cL_law 582 = .ok (.if_icmp .eq 1130, 3) := dk_159 4 106 (dk_at dksL_law_16 21 rfl rfl)
theorem dL_law_585 : decode cL_law 585 = .ok (.iconst 0, 1) := dk_3 (dk_at dksL_law_17 0 rfl rfl)
theorem dL_law_586 : decode cL_law 586 = .ok (.ireturn, 1) := dk_172 (dk_at dksL_law_17 1 rfl rfl)
theorem dL_law_587 : decode cL_law 587 = .ok (.aload_n 1, 1) := dk_43 (dk_at dksL_law_17 2 rfl rfl)
theorem dL_law_588 : decode cL_law 588 = .ok (.aload_n 0, 1) := dk_42 (dk_at dksL_law_17 3 rfl rfl)
theorem dL_law_589 : decode cL_law 589 = .ok (.iload_n 3, 1) := dk_29 (dk_at dksL_law_17 4 rfl rfl)
theorem dL_law_590 : decode cL_law 590 = .ok (.iconst 1, 1) := dk_4 (dk_at dksL_law_17 5 rfl rfl)
theorem dL_law_591 : decode cL_law 591 = .ok (.iadd, 1) := dk_96 (dk_at dksL_law_17 6 rfl rfl)
theorem dL_law_592 : decode cL_law 592 = .ok (.iaload, 1) := dk_46 (dk_at dksL_law_17 7 rfl rfl)
theorem dL_law_593 : decode cL_law 593 = .ok (.aload_n 0, 1) := dk_42 (dk_at dksL_law_17 8 rfl rfl)
theorem dL_law_594 : decode cL_law 594 = .ok (.iload_n 3, 1) := dk_29 (dk_at dksL_law_17 9 rfl rfl)
theorem dL_law_595 : decode cL_law 595 = .ok (.iconst 2, 1) := dk_5 (dk_at dksL_law_17 10 rfl rfl)
theorem dL_law_596 : decode cL_law 596 = .ok (.iadd, 1) := dk_96 (dk_at dksL_law_17 11 rfl rfl)
theorem dL_law_597 : decode cL_law 597 = .ok (.iaload, 1) := dk_46 (dk_at dksL_law_17 12 rfl rfl)
theorem dL_law_598 : decode cL_law 598 = .ok (.aload_n 0, 1) := dk_42 (dk_at dksL_law_17 13 rfl rfl)
theorem dL_law_599 : decode cL_law 599 = .ok (.iload_n 3, 1) := dk_29 (dk_at dksL_law_17 14 rfl rfl)
theorem dL_law_600 : decode cL_law 600 = .ok (.iconst 3, 1) := dk_6 (dk_at dksL_law_17 15 rfl rfl)
theorem dL_law_601 : decode cL_law 601 = .ok (.iadd, 1) := dk_96 (dk_at dksL_law_17 16 rfl rfl)
theorem dL_law_602 : decode cL_law 602 = .ok (.iaload, 1) := dk_46 (dk_at dksL_law_17 17 rfl rfl)
theorem dL_law_603 : decode cL_law 603 = .ok (.invokevirtual 53, 3) := dk_182 0 53 (dk_at dksL_law_17 18 rfl rfl)
theorem dL_law_606 : decode cL_law 606 = .ok (.aload_n 2, 1) := dk_44 (dk_at dksL_law_17 21 rfl rfl)
theorem dL_law_607 : decode cL_law 607 = .ok (.aload_n 0, 1) := dk_42 (dk_at dksL_law_17 22 rfl rfl)
theorem dL_law_608 : decode cL_law 608 = .ok (.iload_n 3, 1) := dk_29 (dk_at dksL_law_17 23 rfl rfl)
theorem dL_law_609 : decode cL_law 609 = .ok (.iconst 1, 1) := dk_4 (dk_at dksL_law_18 0 rfl rfl)
theorem dL_law_610 : decode cL_law 610 = .ok (.iadd, 1) := dk_96 (dk_at dksL_law_18 1 rfl rfl)
theorem dL_law_611 : decode cL_law 611 = .ok (.iaload, 1) := dk_46 (dk_at dksL_law_18 2 rfl rfl)
theorem dL_law_612 : decode cL_law 612 = .ok (.aload_n 0, 1) := dk_42 (dk_at dksL_law_18 3 rfl rfl)
theorem dL_law_613 : decode cL_law 613 = .ok (.iload_n 3, 1) := dk_29 (dk_at dksL_law_18 4 rfl rfl)
theorem dL_law_614 : decode cL_law 614 = .ok (.iconst 2, 1) := dk_5 (dk_at dksL_law_18 5 rfl rfl)
theorem dL_law_615 : decode cL_law 615 = .ok (.iadd, 1) := dk_96 (dk_at dksL_law_18 6 rfl rfl)
theorem dL_law_616 : decode cL_law 616 = .ok (.iaload, 1) := dk_46 (dk_at dksL_law_18 7 rfl rfl)
theorem dL_law_617 : decode cL_law 617 = .ok (.aload_n 0, 1) := dk_42 (dk_at dksL_law_18 8 rfl rfl)
theorem dL_law_618 : decode cL_law 618 = .ok (.iload_n 3, 1) := dk_29 (dk_at dksL_law_18 9 rfl rfl)
theorem dL_law_619 : decode cL_law 619 = .ok (.iconst 3, 1) := dk_6 (dk_at dksL_law_18 10 rfl rfl)
theorem dL_law_620 : decode cL_law 620 = .ok (.iadd, 1) := dk_96 (dk_at dksL_law_18 11 rfl rfl)
theorem dL_law_621 : decode cL_law 621 = .ok (.iaload, 1) := dk_46 (dk_at dksL_law_18 12 rfl rfl)
theorem dL_law_622 : decode cL_law 622 = .ok (.invokevirtual 56, 3) := dk_182 0 56 (dk_at dksL_law_18 13 rfl rfl)
theorem dL_law_625 : decode cL_law 625 = .ok (.if_icmp .eq 1087, 3) := dk_159 4 63 (dk_at dksL_law_18 16 rfl rfl)
theorem dL_law_628 : decode cL_law 628 = .ok (.iconst 0, 1) := dk_3 (dk_at dksL_law_18 19 rfl rfl)
theorem dL_law_629 : decode cL_law 629 = .ok (.ireturn, 1) := dk_172 (dk_at dksL_law_18 20 rfl rfl)
theorem dL_law_630 : decode cL_law 630 = .ok (.aload_n 1, 1) := dk_43 (dk_at dksL_law_18 21 rfl rfl)
theorem dL_law_631 : decode cL_law 631 = .ok (.aload_n 0, 1) := dk_42 (dk_at dksL_law_18 22 rfl rfl)
theorem dL_law_632 : decode cL_law 632 = .ok (.iload_n 3, 1) := dk_29 (dk_at dksL_law_18 23 rfl rfl)
theorem dL_law_633 : decode cL_law 633 = .ok (.iconst 1, 1) := dk_4 (dk_at dksL_law_19 0 rfl rfl)
theorem dL_law_634 : decode cL_law 634 = .ok (.iadd, 1) := dk_96 (dk_at dksL_law_19 1 rfl rfl)
theorem dL_law_635 : decode cL_law 635 = .ok (.iaload, 1) := dk_46 (dk_at dksL_law_19 2 rfl rfl)
theorem dL_law_636 : decode cL_law 636 = .ok (.aload_n 0, 1) := dk_42 (dk_at dksL_law_19 3 rfl rfl)
theorem dL_law_637 : decode cL_law 637 = .ok (.iload_n 3, 1) := dk_29 (dk_at dksL_law_19 4 rfl rfl)
theorem dL_law_638 : decode cL_law 638 = .ok (.iconst 2, 1) := dk_5 (dk_at dksL_law_19 5 rfl rfl)
theorem dL_law_639 : decode cL_law 639 = .ok (.iadd, 1) := dk_96 (dk_at dksL_law_19 6 rfl rfl)
theorem dL_law_640 : decode cL_law 640 = .ok (.iaload, 1) := dk_46 (dk_at dksL_law_19 7 rfl rfl)
theorem dL_law_641 : decode cL_law 641 = .ok (.aload_n 0, 1) := dk_42 (dk_at dksL_law_19 8 rfl rfl)
theorem dL_law_642 : decode cL_law 642 = .ok (.iload_n 3, 1) := dk_29 (dk_at dksL_law_19 9 rfl rfl)
theorem dL_law_643 : decode cL_law 643 = .ok (.iconst 3, 1) := dk_6 (dk_at dksL_law_19 10 rfl rfl)
theorem dL_law_644 : decode cL_law 644 = .ok (.iadd, 1) := dk_96 (dk_at dksL_law_19 11 rfl rfl)
theorem dL_law_645 : decode cL_law 645 = .ok (.iaload, 1) := dk_46 (dk_at dksL_law_19 12 rfl rfl)
theorem dL_law_646 : decode cL_law 646 = .ok (.ifCond .eq 7, 3) := dk_153 0 7 (dk_at dksL_law_19 13 rfl rfl)
theorem dL_law_649 : decode cL_law 649 = .ok (.iconst 1, 1) := dk_4 (dk_at dksL_law_19 16 rfl rfl)
theorem dL_law_650 : decode cL_law 650 = .ok (.goto 4, 3) := dk_167 0 4 (dk_at dksL_law_19 17 rfl rfl)
theorem dL_law_653 : decode cL_law 653 = .ok (.iconst 0, 1) := dk_3 (dk_at dksL_law_19 20 rfl rfl)
theorem dL_law_654 : decode cL_law 654 = .ok (.invokevirtual 57, 3) := dk_182 0 57 (dk_at dksL_law_19 21 rfl rfl)
theorem dL_law_657 : decode cL_law 657 = .ok (.aload_n 2, 1) := dk_44 (dk_at dksL_law_20 0 rfl rfl)
theorem dL_law_658 : decode cL_law 658 = .ok (.aload_n 0, 1) := dk_42 (dk_at dksL_law_20 1 rfl rfl)
theorem dL_law_659 : decode cL_law 659 = .ok (.iload_n 3, 1) := dk_29 (dk_at dksL_law_20 2 rfl rfl)
theorem dL_law_660 : decode cL_law 660 = .ok (.iconst 1, 1) := dk_4 (dk_at dksL_law_20 3 rfl rfl)
theorem dL_law_661 : decode cL_law 661 = .ok (.iadd, 1) := dk_96 (dk_at dksL_law_20 4 rfl rfl)
theorem dL_law_662 : decode cL_law 662 = .ok (.iaload, 1) := dk_46 (dk_at dksL_law_20 5 rfl rfl)
theorem dL_law_663 : decode cL_law 663 = .ok (.aload_n 0, 1) := dk_42 (dk_at dksL_law_20 6 rfl rfl)
theorem dL_law_664 : decode cL_law 664 = .ok (.iload_n 3, 1) := dk_29 (dk_at dksL_law_20 7 rfl rfl)
theorem dL_law_665 : decode cL_law 665 = .ok (.iconst 2, 1) := dk_5 (dk_at dksL_law_20 8 rfl rfl)
theorem dL_law_666 : decode cL_law 666 = .ok (.iadd, 1) := dk_96 (dk_at dksL_law_20 9 rfl rfl)
theorem dL_law_667 : decode cL_law 667 = .ok (.iaload, 1) := dk_46 (dk_at dksL_law_20 10 rfl rfl)
theorem dL_law_668 : decode cL_law 668 = .ok (.aload_n 0, 1) := dk_42 (dk_at dksL_law_20 11 rfl rfl)
theorem dL_law_669 : decode cL_law 669 = .ok (.iload_n 3, 1) := dk_29 (dk_at dksL_law_20 12 rfl rfl)
theorem dL_law_670 : decode cL_law 670 = .ok (.iconst 3, 1) := dk_6 (dk_at dksL_law_20 13 rfl rfl)
theorem dL_law_671 : decode cL_law 671 = .ok (.iadd, 1) := dk_96 (dk_at dksL_law_20 14 rfl rfl)
theorem dL_law_672 : decode cL_law 672 = .ok (.iaload, 1) := dk_46 (dk_at dksL_law_20 15 rfl rfl)
theorem dL_law_673 : decode cL_law 673 = .ok (.ifCond .eq 7, 3) := dk_153 0 7 (dk_at dksL_law_20 16 rfl rfl)
theorem dL_law_676 : decode cL_law 676 = .ok (.iconst 1, 1) := dk_4 (dk_at dksL_law_20 19 rfl rfl)
theorem dL_law_677 : decode cL_law 677 = .ok (.goto 4, 3) := dk_167 0 4 (dk_at dksL_law_20 20 rfl rfl)
theorem dL_law_680 : decode cL_law 680 = .ok (.iconst 0, 1) := dk_3 (dk_at dksL_law_20 23 rfl rfl)
theorem dL_law_681 : decode cL_law 681 = .ok (.invokevirtual 61, 3) := dk_182 0 61 (dk_at dksL_law_21 0 rfl rfl)
theorem dL_law_684 : decode cL_law 684 = .ok (.if_icmp .eq 1028, 3) := dk_159 4 4 (dk_at dksL_law_21 3 rfl rfl)
theorem dL_law_687 : decode cL_law 687 = .ok (.iconst 0, 1) := dk_3 (dk_at dksL_law_21 6 rfl rfl)
theorem dL_law_688 : decode cL_law 688 = .ok (.ireturn, 1) := dk_172 (dk_at dksL_law_21 7 rfl rfl)
theorem dL_law_689 : decode cL_law 689 = .ok (.aload_n 1, 1) := dk_43 (dk_at dksL_law_21 8 rfl rfl)
theorem dL_law_690 : decode cL_law 690 = .ok (.aload_n 0, 1) := dk_42 (dk_at dksL_law_21 9 rfl rfl)
theorem dL_law_691 : decode cL_law 691 = .ok (.iload_n 3, 1) := dk_29 (dk_at dksL_law_21 10 rfl rfl)
theorem dL_law_692 : decode cL_law 692 = .ok (.iconst 1, 1) := dk_4 (dk_at dksL_law_21 11 rfl rfl)
theorem dL_law_693 : decode cL_law 693 = .ok (.iadd, 1) := dk_96 (dk_at dksL_law_21 12 rfl rfl)
theorem dL_law_694 : decode cL_law 694 = .ok (.iaload, 1) := dk_46 (dk_at dksL_law_21 13 rfl rfl)
theorem dL_law_695 : decode cL_law 695 = .ok (.aload_n 0, 1) := dk_42 (dk_at dksL_law_21 14 rfl rfl)
theorem dL_law_696 : decode cL_law 696 = .ok (.iload_n 3, 1) := dk_29 (dk_at dksL_law_21 15 rfl rfl)
theorem dL_law_697 : decode cL_law 697 = .ok (.iconst 2, 1) := dk_5 (dk_at dksL_law_21 16 rfl rfl)
theorem dL_law_698 : decode cL_law 698 = .ok (.iadd, 1) := dk_96 (dk_at dksL_law_21 17 rfl rfl)
theorem dL_law_699 : decode cL_law 699 = .ok (.iaload, 1) := dk_46 (dk_at dksL_law_21 18 rfl rfl)
theorem dL_law_700 : decode cL_law 700 = .ok (.aload_n 0, 1) := dk_42 (dk_at dksL_law_21 19 rfl rfl)
theorem dL_law_701 : decode cL_law 701 = .ok (.iload_n 3, 1) := dk_29 (dk_at dksL_law_21 20 rfl rfl)
theorem dL_law_702 : decode cL_law 702 = .ok (.iconst 3, 1) := dk_6 (dk_at dksL_law_21 21 rfl rfl)
theorem dL_law_703 : decode cL_law 703 = .ok (.iadd, 1) := dk_96 (dk_at dksL_law_21 22 rfl rfl)
theorem dL_law_704 : decode cL_law 704 = .ok (.iaload, 1) := dk_46 (dk_at dksL_law_21 23 rfl rfl)
theorem dL_law_705 : decode cL_law 705 = .ok (.invokevirtual 62, 3) := dk_182 0 62 (dk_at dksL_law_22 0 rfl rfl)
theorem dL_law_708 : decode cL_law 708 = .ok (.aload_n 2, 1) := dk_44 (dk_at dksL_law_22 3 rfl rfl)
theorem dL_law_709 : decode cL_law 709 = .ok (.aload_n 0, 1) := dk_42 (dk_at dksL_law_22 4 rfl rfl)
theorem dL_law_710 : decode cL_law 710 = .ok (.iload_n 3, 1) := dk_29 (dk_at dksL_law_22 5 rfl rfl)
theorem dL_law_711 : decode cL_law 711 = .ok (.iconst 1, 1) := dk_4 (dk_at dksL_law_22 6 rfl rfl)
theorem dL_law_712 : decode cL_law 712 = .ok (.iadd, 1) := dk_96 (dk_at dksL_law_22 7 rfl rfl)
theorem dL_law_713 : decode cL_law 713 = .ok (.iaload, 1) := dk_46 (dk_at dksL_law_22 8 rfl rfl)
theorem dL_law_714 : decode cL_law 714 = .ok (.aload_n 0, 1) := dk_42 (dk_at dksL_law_22 9 rfl rfl)
theorem dL_law_715 : decode cL_law 715 = .ok (.iload_n 3, 1) := dk_29 (dk_at dksL_law_22 10 rfl rfl)
theorem dL_law_716 : decode cL_law 716 = .ok (.iconst 2, 1) := dk_5 (dk_at dksL_law_22 11 rfl rfl)
theorem dL_law_717 : decode cL_law 717 = .ok (.iadd, 1) := dk_96 (dk_at dksL_law_22 12 rfl rfl)
theorem dL_law_718 : decode cL_law 718 = .ok (.iaload, 1) := dk_46 (dk_at dksL_law_22 13 rfl rfl)
theorem dL_law_719 : decode cL_law 719 = .ok (.aload_n 0, 1) := dk_42 (dk_at dksL_law_22 14 rfl rfl)
theorem dL_law_720 : decode cL_law 720 = .ok (.iload_n 3, 1) := dk_29 (dk_at dksL_law_22 15 rfl rfl)
theorem dL_law_721 : decode cL_law 721 = .ok (.iconst 3, 1) := dk_6 (dk_at dksL_law_22 16 rfl rfl)
theorem dL_law_722 : decode cL_law 722 = .ok (.iadd, 1) := dk_96 (dk_at dksL_law_22 17 rfl rfl)
theorem dL_law_723 : decode cL_law 723 = .ok (.iaload, 1) := dk_46 (dk_at dksL_law_22 18 rfl rfl)
theorem dL_law_724 : decode cL_law 724 = .ok (.invokevirtual 65, 3) := dk_182 0 65 (dk_at dksL_law_22 19 rfl rfl)
theorem dL_law_727 : decode cL_law 727 = .ok (.if_icmp .eq 985, 3) := dk_159 3 217 (dk_at dksL_law_23 0 rfl rfl)
theorem dL_law_730 : decode cL_law 730 = .ok (.iconst 0, 1) := dk_3 (dk_at dksL_law_23 3 rfl rfl)
theorem dL_law_731 : decode cL_law 731 = .ok (.ireturn, 1) := dk_172 (dk_at dksL_law_23 4 rfl rfl)
theorem dL_law_732 : decode cL_law 732 = .ok (.aload_n 1, 1) := dk_43 (dk_at dksL_law_23 5 rfl rfl)
theorem dL_law_733 : decode cL_law 733 = .ok (.aload_n 0, 1) := dk_42 (dk_at dksL_law_23 6 rfl rfl)
theorem dL_law_734 : decode cL_law 734 = .ok (.iload_n 3, 1) := dk_29 (dk_at dksL_law_23 7 rfl rfl)
theorem dL_law_735 : decode cL_law 735 = .ok (.iconst 1, 1) := dk_4 (dk_at dksL_law_23 8 rfl rfl)
theorem dL_law_736 : decode cL_law 736 = .ok (.iadd, 1) := dk_96 (dk_at dksL_law_23 9 rfl rfl)
theorem dL_law_737 : decode cL_law 737 = .ok (.iaload, 1) := dk_46 (dk_at dksL_law_23 10 rfl rfl)
theorem dL_law_738 : decode cL_law 738 = .ok (.invokevirtual 66, 3) := dk_182 0 66 (dk_at dksL_law_23 11 rfl rfl)
theorem dL_law_741 : decode cL_law 741 = .ok (.aload_n 2, 1) := dk_44 (dk_at dksL_law_23 14 rfl rfl)
theorem dL_law_742 : decode cL_law 742 = .ok (.aload_n 0, 1) := dk_42 (dk_at dksL_law_23 15 rfl rfl)
theorem dL_law_743 : decode cL_law 743 = .ok (.iload_n 3, 1) := dk_29 (dk_at dksL_law_23 16 rfl rfl)
theorem dL_law_744 : decode cL_law 744 = .ok (.iconst 1, 1) := dk_4 (dk_at dksL_law_23 17 rfl rfl)
theorem dL_law_745 : decode cL_law 745 = .ok (.iadd, 1) := dk_96 (dk_at dksL_law_23 18 rfl rfl)
theorem dL_law_746 : decode cL_law 746 = .ok (.iaload, 1) := dk_46 (dk_at dksL_law_23 19 rfl rfl)
theorem dL_law_747 : decode cL_law 747 = .ok (.invokevirtual 69, 3) := dk_182 0 69 (dk_at dksL_law_23 20 rfl rfl)
theorem dL_law_750 : decode cL_law 750 = .ok (.if_icmp .eq 962, 3) := dk_159 3 194 (dk_at dksL_law_24 0 rfl rfl)
theorem dL_law_753 : decode cL_law 753 = .ok (.iconst 0, 1) := dk_3 (dk_at dksL_law_24 3 rfl rfl)
theorem dL_law_754 : decode cL_law 754 = .ok (.ireturn, 1) := dk_172 (dk_at dksL_law_24 4 rfl rfl)
theorem dL_law_755 : decode cL_law 755 = .ok (.aload_n 1, 1) := dk_43 (dk_at dksL_law_24 5 rfl rfl)
theorem dL_law_756 : decode cL_law 756 = .ok (.invokevirtual 70, 3) := dk_182 0 70 (dk_at dksL_law_24 6 rfl rfl)
theorem dL_law_759 : decode cL_law 759 = .ok (.aload_n 2, 1) := dk_44 (dk_at dksL_law_24 9 rfl rfl)
theorem dL_law_760 : decode cL_law 760 = .ok (.invokevirtual 74, 3) := dk_182 0 74 (dk_at dksL_law_24 10 rfl rfl)
theorem dL_law_763 : decode cL_law 763 = .ok (.if_icmp .eq 949, 3) := dk_159 3 181 (dk_at dksL_law_24 13 rfl rfl)
theorem dL_law_766 : decode cL_law 766 = .ok (.iconst 0, 1) := dk_3 (dk_at dksL_law_24 16 rfl rfl)
theorem dL_law_767 : decode cL_law 767 = .ok (.ireturn, 1) := dk_172 (dk_at dksL_law_24 17 rfl rfl)
theorem dL_law_768 : decode cL_law 768 = .ok (.aload_n 1, 1) := dk_43 (dk_at dksL_law_24 18 rfl rfl)
theorem dL_law_769 : decode cL_law 769 = .ok (.invokevirtual 75, 3) := dk_182 0 75 (dk_at dksL_law_24 19 rfl rfl)
theorem dL_law_772 : decode cL_law 772 = .ok (.aload_n 2, 1) := dk_44 (dk_at dksL_law_24 22 rfl rfl)
theorem dL_law_773 : decode cL_law 773 = .ok (.invokevirtual 78, 3) := dk_182 0 78 (dk_at dksL_law_25 0 rfl rfl)
theorem dL_law_776 : decode cL_law 776 = .ok (.if_icmp .eq 936, 3) := dk_159 3 168 (dk_at dksL_law_25 3 rfl rfl)
theorem dL_law_779 : decode cL_law 779 = .ok (.iconst 0, 1) := dk_3 (dk_at dksL_law_25 6 rfl rfl)
theorem dL_law_780 : decode cL_law 780 = .ok (.ireturn, 1) := dk_172 (dk_at dksL_law_25 7 rfl rfl)
theorem dL_law_781 : decode cL_law 781 = .ok (.aload_n 1, 1) := dk_43 (dk_at dksL_law_25 8 rfl rfl)
theorem dL_law_782 : decode cL_law 782 = .ok (.aload_n 0, 1) := dk_42 (dk_at dksL_law_25 9 rfl rfl)
theorem dL_law_783 : decode cL_law 783 = .ok (.iload_n 3, 1) := dk_29 (dk_at dksL_law_25 10 rfl rfl)
theorem dL_law_784 : decode cL_law 784 = .ok (.iconst 1, 1) := dk_4 (dk_at dksL_law_25 11 rfl rfl)
theorem dL_law_785 : decode cL_law 785 = .ok (.iadd, 1) := dk_96 (dk_at dksL_law_25 12 rfl rfl)
theorem dL_law_786 : decode cL_law 786 = .ok (.iaload, 1) := dk_46 (dk_at dksL_law_25 13 rfl rfl)
theorem dL_law_787 : decode cL_law 787 = .ok (.invokevirtual 79, 3) := dk_182 0 79 (dk_at dksL_law_25 14 rfl rfl)
theorem dL_law_790 : decode cL_law 790 = .ok (.aload_n 2, 1) := dk_44 (dk_at dksL_law_25 17 rfl rfl)
theorem dL_law_791 : decode cL_law 791 = .ok (.aload_n 0, 1) := dk_42 (dk_at dksL_law_25 18 rfl rfl)
theorem dL_law_792 : decode cL_law 792 = .ok (.iload_n 3, 1) := dk_29 (dk_at dksL_law_25 19 rfl rfl)
theorem dL_law_793 : decode cL_law 793 = .ok (.iconst 1, 1) := dk_4 (dk_at dksL_law_25 20 rfl rfl)
theorem dL_law_794 : decode cL_law 794 = .ok (.iadd, 1) := dk_96 (dk_at dksL_law_25 21 rfl rfl)
theorem dL_law_795 : decode cL_law 795 = .ok (.iaload, 1) := dk_46 (dk_at dksL_law_25 22 rfl rfl)
theorem dL_law_796 : decode cL_law 796 = .ok (.invokevirtual 82, 3) := dk_182 0 82 (dk_at dksL_law_26 0 rfl rfl)
theorem dL_law_799 : decode cL_law 799 = .ok (.if_icmp .eq 913, 3) := dk_159 3 145 (dk_at dksL_law_26 3 rfl rfl)
theorem dL_law_802 : decode cL_law 802 = .ok (.iconst 0, 1) := dk_3 (dk_at dksL_law_26 6 rfl rfl)
theorem dL_law_803 : decode cL_law 803 = .ok (.ireturn, 1) := dk_172 (dk_at dksL_law_26 7 rfl rfl)
theorem dL_law_804 : decode cL_law 804 = .ok (.aload_n 1, 1) := dk_43 (dk_at dksL_law_26 8 rfl rfl)
theorem dL_law_805 : decode cL_law 805 = .ok (.aload_n 0, 1) := dk_42 (dk_at dksL_law_26 9 rfl rfl)
theorem dL_law_806 : decode cL_law 806 = .ok (.iload_n 3, 1) := dk_29 (dk_at dksL_law_26 10 rfl rfl)
theorem dL_law_807 : decode cL_law 807 = .ok (.iconst 1, 1) := dk_4 (dk_at dksL_law_26 11 rfl rfl)
theorem dL_law_808 : decode cL_law 808 = .ok (.iadd, 1) := dk_96 (dk_at dksL_law_26 12 rfl rfl)
theorem dL_law_809 : decode cL_law 809 = .ok (.iaload, 1) := dk_46 (dk_at dksL_law_26 13 rfl rfl)
theorem dL_law_810 : decode cL_law 810 = .ok (.aload_n 0, 1) := dk_42 (dk_at dksL_law_26 14 rfl rfl)
theorem dL_law_811 : decode cL_law 811 = .ok (.iload_n 3, 1) := dk_29 (dk_at dksL_law_26 15 rfl rfl)
theorem dL_law_812 : decode cL_law 812 = .ok (.iconst 2, 1) := dk_5 (dk_at dksL_law_26 16 rfl rfl)
theorem dL_law_813 : decode cL_law 813 = .ok (.iadd, 1) := dk_96 (dk_at dksL_law_26 17 rfl rfl)
theorem dL_law_814 : decode cL_law 814 = .ok (.iaload, 1) := dk_46 (dk_at dksL_law_26 18 rfl rfl)
theorem dL_law_815 : decode cL_law 815 = .ok (.invokevirtual 83, 3) := dk_182 0 83 (dk_at dksL_law_26 19 rfl rfl)
theorem dL_law_818 : decode cL_law 818 = .ok (.aload_n 2, 1) := dk_44 (dk_at dksL_law_26 22 rfl rfl)
theorem dL_law_819 : decode cL_law 819 = .ok (.aload_n 0, 1) := dk_42 (dk_at dksL_law_26 23 rfl rfl)
theorem dL_law_820 : decode cL_law 820 = .ok (.iload_n 3, 1) := dk_29 (dk_at dksL_law_27 0 rfl rfl)
theorem dL_law_821 : decode cL_law 821 = .ok (.iconst 1, 1) := dk_4 (dk_at dksL_law_27 1 rfl rfl)
theorem dL_law_822 : decode cL_law 822 = .ok (.iadd, 1) := dk_96 (dk_at dksL_law_27 2 rfl rfl)
theorem dL_law_823 : decode cL_law 823 = .ok (.iaload, 1) := dk_46 (dk_at dksL_law_27 3 rfl rfl)
theorem dL_law_824 : decode cL_law 824 = .ok (.aload_n 0, 1) := dk_42 (dk_at dksL_law_27 4 rfl rfl)
theorem dL_law_825 : decode cL_law 825 = .ok (.iload_n 3, 1) := dk_29 (dk_at dksL_law_27 5 rfl rfl)
theorem dL_law_826 : decode cL_law 826 = .ok (.iconst 2, 1) := dk_5 (dk_at dksL_law_27 6 rfl rfl)
theorem dL_law_827 : decode cL_law 827 = .ok (.iadd, 1) := dk_96 (dk_at dksL_law_27 7 rfl rfl)
theorem dL_law_828 : decode cL_law 828 = .ok (.iaload, 1) := dk_46 (dk_at dksL_law_27 8 rfl rfl)
theorem dL_law_829 : decode cL_law 829 = .ok (.invokevirtual 86, 3) := dk_182 0 86 (dk_at dksL_law_27 9 rfl rfl)
theorem dL_law_832 : decode cL_law 832 = .ok (.if_icmp .eq 880, 3) := dk_159 3 112 (dk_at dksL_law_27 12 rfl rfl)
theorem dL_law_835 : decode cL_law 835 = .ok (.iconst 0, 1) := dk_3 (dk_at dksL_law_27 15 rfl rfl)
theorem dL_law_836 : decode cL_law 836 = .ok (.ireturn, 1) := dk_172 (dk_at dksL_law_27 16 rfl rfl)
theorem dL_law_837 : decode cL_law 837 = .ok (.aload_n 1, 1) := dk_43 (dk_at dksL_law_27 17 rfl rfl)
theorem dL_law_838 : decode cL_law 838 = .ok (.aload_n 0, 1) := dk_42 (dk_at dksL_law_27 18 rfl rfl)
theorem dL_law_839 : decode cL_law 839 = .ok (.iload_n 3, 1) := dk_29 (dk_at dksL_law_27 19 rfl rfl)
theorem dL_law_840 : decode cL_law 840 = .ok (.iconst 1, 1) := dk_4 (dk_at dksL_law_27 20 rfl rfl)
theorem dL_law_841 : decode cL_law 841 = .ok (.iadd, 1) := dk_96 (dk_at dksL_law_27 21 rfl rfl)
theorem dL_law_842 : decode cL_law 842 = .ok (.iaload, 1) := dk_46 (dk_at dksL_law_27 22 rfl rfl)
theorem dL_law_843 : decode cL_law 843 = .ok (.invokevirtual 87, 3) := dk_182 0 87 (dk_at dksL_law_28 0 rfl rfl)
theorem dL_law_846 : decode cL_law 846 = .ok (.aload_n 2, 1) := dk_44 (dk_at dksL_law_28 3 rfl rfl)
theorem dL_law_847 : decode cL_law 847 = .ok (.aload_n 0, 1) := dk_42 (dk_at dksL_law_28 4 rfl rfl)
theorem dL_law_848 : decode cL_law 848 = .ok (.iload_n 3, 1) := dk_29 (dk_at dksL_law_28 5 rfl rfl)
theorem dL_law_849 : decode cL_law 849 = .ok (.iconst 1, 1) := dk_4 (dk_at dksL_law_28 6 rfl rfl)
theorem dL_law_850 : decode cL_law 850 = .ok (.iadd, 1) := dk_96 (dk_at dksL_law_28 7 rfl rfl)
theorem dL_law_851 : decode cL_law 851 = .ok (.iaload, 1) := dk_46 (dk_at dksL_law_28 8 rfl rfl)
theorem dL_law_852 : decode cL_law 852 = .ok (.invokevirtual 90, 3) := dk_182 0 90 (dk_at dksL_law_28 9 rfl rfl)
theorem dL_law_855 : decode cL_law 855 = .ok (.if_icmp .eq 857, 3) := dk_159 3 89 (dk_at dksL_law_28 12 rfl rfl)
theorem dL_law_858 : decode cL_law 858 = .ok (.iconst 0, 1) := dk_3 (dk_at dksL_law_28 15 rfl rfl)
theorem dL_law_859 : decode cL_law 859 = .ok (.ireturn, 1) := dk_172 (dk_at dksL_law_28 16 rfl rfl)
theorem dL_law_860 : decode cL_law 860 = .ok (.aload_n 1, 1) := dk_43 (dk_at dksL_law_28 17 rfl rfl)
theorem dL_law_861 : decode cL_law 861 = .ok (.aload_n 0, 1) := dk_42 (dk_at dksL_law_28 18 rfl rfl)
theorem dL_law_862 : decode cL_law 862 = .ok (.iload_n 3, 1) := dk_29 (dk_at dksL_law_28 19 rfl rfl)
theorem dL_law_863 : decode cL_law 863 = .ok (.iconst 1, 1) := dk_4 (dk_at dksL_law_28 20 rfl rfl)
theorem dL_law_864 : decode cL_law 864 = .ok (.iadd, 1) := dk_96 (dk_at dksL_law_28 21 rfl rfl)
theorem dL_law_865 : decode cL_law 865 = .ok (.iaload, 1) := dk_46 (dk_at dksL_law_28 22 rfl rfl)
theorem dL_law_866 : decode cL_law 866 = .ok (.aload_n 0, 1) := dk_42 (dk_at dksL_law_28 23 rfl rfl)
theorem dL_law_867 : decode cL_law 867 = .ok (.iload_n 3, 1) := dk_29 (dk_at dksL_law_29 0 rfl rfl)
theorem dL_law_868 : decode cL_law 868 = .ok (.iconst 2, 1) := dk_5 (dk_at dksL_law_29 1 rfl rfl)
theorem dL_law_869 : decode cL_law 869 = .ok (.iadd, 1) := dk_96 (dk_at dksL_law_29 2 rfl rfl)
theorem dL_law_870 : decode cL_law 870 = .ok (.iaload, 1) := dk_46 (dk_at dksL_law_29 3 rfl rfl)
theorem dL_law_871 : decode cL_law 871 = .ok (.invokevirtual 91, 3) := dk_182 0 91 (dk_at dksL_law_29 4 rfl rfl)
theorem dL_law_874 : decode cL_law 874 = .ok (.aload_n 2, 1) := dk_44 (dk_at dksL_law_29 7 rfl rfl)
theorem dL_law_875 : decode cL_law 875 = .ok (.aload_n 0, 1) := dk_42 (dk_at dksL_law_29 8 rfl rfl)
theorem dL_law_876 : decode cL_law 876 = .ok (.iload_n 3, 1) := dk_29 (dk_at dksL_law_29 9 rfl rfl)
theorem dL_law_877 : decode cL_law 877 = .ok (.iconst 1, 1) := dk_4 (dk_at dksL_law_29 10 rfl rfl)
theorem dL_law_878 : decode cL_law 878 = .ok (.iadd, 1) := dk_96 (dk_at dksL_law_29 11 rfl rfl)
theorem dL_law_879 : decode cL_law 879 = .ok (.iaload, 1) := dk_46 (dk_at dksL_law_29 12 rfl rfl)
theorem dL_law_880 : decode cL_law 880 = .ok (.aload_n 0, 1) := dk_42 (dk_at dksL_law_29 13 rfl rfl)
theorem dL_law_881 : decode cL_law 881 = .ok (.iload_n 3, 1) := dk_29 (dk_at dksL_law_29 14 rfl rfl)
theorem dL_law_882 : decode cL_law 882 = .ok (.iconst 2, 1) := dk_5 (dk_at dksL_law_29 15 rfl rfl)
theorem dL_law_883 : decode cL_law 883 = .ok (.iadd, 1) := dk_96 (dk_at dksL_law_29 16 rfl rfl)
theorem dL_law_884 : decode cL_law 884 = .ok (.iaload, 1) := dk_46 (dk_at dksL_law_29 17 rfl rfl)
theorem dL_law_885 : decode cL_law 885 = .ok (.invokevirtual 94, 3) := dk_182 0 94 (dk_at dksL_law_29 18 rfl rfl)
theorem dL_law_888 : decode cL_law 888 = .ok (.if_icmp .eq 824, 3) := dk_159 3 56 (dk_at dksL_law_29 21 rfl rfl)
theorem dL_law_891 : decode cL_law 891 = .ok (.iconst 0, 1) := dk_3 (dk_at dksL_law_30 0 rfl rfl)
theorem dL_law_892 : decode cL_law 892 = .ok (.ireturn, 1) := dk_172 (dk_at dksL_law_30 1 rfl rfl)
theorem dL_law_893 : decode cL_law 893 = .ok (.aload_n 1, 1) := dk_43 (dk_at dksL_law_30 2 rfl rfl)
theorem dL_law_894 : decode cL_law 894 = .ok (.aload_n 0, 1) := dk_42 (dk_at dksL_law_30 3 rfl rfl)
theorem dL_law_895 : decode cL_law 895 = .ok (.iload_n 3, 1) := dk_29 (dk_at dksL_law_30 4 rfl rfl)
theorem dL_law_896 : decode cL_law 896 = .ok (.iconst 1, 1) := dk_4 (dk_at dksL_law_30 5 rfl rfl)
theorem dL_law_897 : decode cL_law 897 = .ok (.iadd, 1) := dk_96 (dk_at dksL_law_30 6 rfl rfl)
theorem dL_law_898 : decode cL_law 898 = .ok (.iaload, 1) := dk_46 (dk_at dksL_law_30 7 rfl rfl)
theorem dL_law_899 : decode cL_law 899 = .ok (.aload_n 0, 1) := dk_42 (dk_at dksL_law_30 8 rfl rfl)
theorem dL_law_900 : decode cL_law 900 = .ok (.iload_n 3, 1) := dk_29 (dk_at dksL_law_30 9 rfl rfl)
theorem dL_law_901 : decode cL_law 901 = .ok (.iconst 2, 1) := dk_5 (dk_at dksL_law_30 10 rfl rfl)
theorem dL_law_902 : decode cL_law 902 = .ok (.iadd, 1) := dk_96 (dk_at dksL_law_30 11 rfl rfl)
theorem dL_law_903 : decode cL_law 903 = .ok (.iaload, 1) := dk_46 (dk_at dksL_law_30 12 rfl rfl)
theorem dL_law_904 : decode cL_law 904 = .ok (.invokevirtual 95, 3) := dk_182 0 95 (dk_at dksL_law_30 13 rfl rfl)
theorem dL_law_907 : decode cL_law 907 = .ok (.aload_n 2, 1) := dk_44 (dk_at dksL_law_30 16 rfl rfl)
theorem dL_law_908 : decode cL_law 908 = .ok (.aload_n 0, 1) := dk_42 (dk_at dksL_law_30 17 rfl rfl)
theorem dL_law_909 : decode cL_law 909 = .ok (.iload_n 3, 1) := dk_29 (dk_at dksL_law_30 18 rfl rfl)
theorem dL_law_910 : decode cL_law 910 = .ok (.iconst 1, 1) := dk_4 (dk_at dksL_law_30 19 rfl rfl)
theorem dL_law_911 : decode cL_law 911 = .ok (.iadd, 1) := dk_96 (dk_at dksL_law_30 20 rfl rfl)
theorem dL_law_912 : decode cL_law 912 = .ok (.iaload, 1) := dk_46 (dk_at dksL_law_30 21 rfl rfl)
theorem dL_law_913 : decode cL_law 913 = .ok (.aload_n 0, 1) := dk_42 (dk_at dksL_law_30 22 rfl rfl)
theorem dL_law_914 : decode cL_law 914 = .ok (.iload_n 3, 1) := dk_29 (dk_at dksL_law_30 23 rfl rfl)
theorem dL_law_915 : decode cL_law 915 = .ok (.iconst 2, 1) := dk_5 (dk_at dksL_law_31 0 rfl rfl)
theorem dL_law_916 : decode cL_law 916 = .ok (.iadd, 1) := dk_96 (dk_at dksL_law_31 1 rfl rfl)
theorem dL_law_917 : decode cL_law 917 = .ok (.iaload, 1) := dk_46 (dk_at dksL_law_31 2 rfl rfl)
theorem dL_law_918 : decode cL_law 918 = .ok (.invokevirtual 98, 3) := dk_182 0 98 (dk_at dksL_law_31 3 rfl rfl)
theorem dL_law_921 : decode cL_law 921 = .ok (.if_icmp .eq 791, 3) := dk_159 3 23 (dk_at dksL_law_31 6 rfl rfl)
theorem dL_law_924 : decode cL_law 924 = .ok (.iconst 0, 1) := dk_3 (dk_at dksL_law_31 9 rfl rfl)
theorem dL_law_925 : decode cL_law 925 = .ok (.ireturn, 1) := dk_172 (dk_at dksL_law_31 10 rfl rfl)
theorem dL_law_926 : decode cL_law 926 = .ok (.aload_n 1, 1) := dk_43 (dk_at dksL_law_31 11 rfl rfl)
theorem dL_law_927 : decode cL_law 927 = .ok (.aload_n 0, 1) := dk_42 (dk_at dksL_law_31 12 rfl rfl)
theorem dL_law_928 : decode cL_law 928 = .ok (.iload_n 3, 1) := dk_29 (dk_at dksL_law_31 13 rfl rfl)
theorem dL_law_929 : decode cL_law 929 = .ok (.iconst 1, 1) := dk_4 (dk_at dksL_law_31 14 rfl rfl)
theorem dL_law_930 : decode cL_law 930 = .ok (.iadd, 1) := dk_96 (dk_at dksL_law_31 15 rfl rfl)
theorem dL_law_931 : decode cL_law 931 = .ok (.iaload, 1) := dk_46 (dk_at dksL_law_31 16 rfl rfl)
theorem dL_law_932 : decode cL_law 932 = .ok (.aload_n 0, 1) := dk_42 (dk_at dksL_law_31 17 rfl rfl)
theorem dL_law_933 : decode cL_law 933 = .ok (.iload_n 3, 1) := dk_29 (dk_at dksL_law_31 18 rfl rfl)
theorem dL_law_934 : decode cL_law 934 = .ok (.iconst 2, 1) := dk_5 (dk_at dksL_law_31 19 rfl rfl)
theorem dL_law_935 : decode cL_law 935 = .ok (.iadd, 1) := dk_96 (dk_at dksL_law_31 20 rfl rfl)
theorem dL_law_936 : decode cL_law 936 = .ok (.iaload, 1) := dk_46 (dk_at dksL_law_31 21 rfl rfl)
theorem dL_law_937 : decode cL_law 937 = .ok (.invokevirtual 99, 3) := dk_182 0 99 (dk_at dksL_law_32 0 rfl rfl)
theorem dL_law_940 : decode cL_law 940 = .ok (.aload_n 2, 1) := dk_44 (dk_at dksL_law_32 3 rfl rfl)
theorem dL_law_941 : decode cL_law 941 = .ok (.aload_n 0, 1) := dk_42 (dk_at dksL_law_32 4 rfl rfl)
theorem dL_law_942 : decode cL_law 942 = .ok (.iload_n 3, 1) := dk_29 (dk_at dksL_law_32 5 rfl rfl)
theorem dL_law_943 : decode cL_law 943 = .ok (.iconst 1, 1) := dk_4 (dk_at dksL_law_32 6 rfl rfl)
theorem dL_law_944 : decode cL_law 944 = .ok (.iadd, 1) := dk_96 (dk_at dksL_law_32 7 rfl rfl)
theorem dL_law_945 : decode cL_law 945 = .ok (.iaload, 1) := dk_46 (dk_at dksL_law_32 8 rfl rfl)
theorem dL_law_946 : decode cL_law 946 = .ok (.aload_n 0, 1) := dk_42 (dk_at dksL_law_32 9 rfl rfl)
theorem dL_law_947 : decode cL_law 947 = .ok (.iload_n 3, 1) := dk_29 (dk_at dksL_law_32 10 rfl rfl)
theorem dL_law_948 : decode cL_law 948 = .ok (.iconst 2, 1) := dk_5 (dk_at dksL_law_32 11 rfl rfl)
theorem dL_law_949 : decode cL_law 949 = .ok (.iadd, 1) := dk_96 (dk_at dksL_law_32 12 rfl rfl)
theorem dL_law_950 : decode cL_law 950 = .ok (.iaload, 1) := dk_46 (dk_at dksL_law_32 13 rfl rfl)
theorem dL_law_951 : decode cL_law 951 = .ok (.invokevirtual 102, 3) := dk_182 0 102 (dk_at dksL_law_32 14 rfl rfl)
theorem dL_law_954 : decode cL_law 954 = .ok (.if_icmp .eq 758, 3) := dk_159 2 246 (dk_at dksL_law_32 17 rfl rfl)
theorem dL_law_957 : decode cL_law 957 = .ok (.iconst 0, 1) := dk_3 (dk_at dksL_law_32 20 rfl rfl)
theorem dL_law_958 : decode cL_law 958 = .ok (.ireturn, 1) := dk_172 (dk_at dksL_law_32 21 rfl rfl)
theorem dL_law_959 : decode cL_law 959 = .ok (.aload_n 1, 1) := dk_43 (dk_at dksL_law_32 22 rfl rfl)
theorem dL_law_960 : decode cL_law 960 = .ok (.aload_n 0, 1) := dk_42 (dk_at dksL_law_32 23 rfl rfl)
theorem dL_law_961 : decode cL_law 961 = .ok (.iload_n 3, 1) := dk_29 (dk_at dksL_law_33 0 rfl rfl)
theorem dL_law_962 : decode cL_law 962 = .ok (.iconst 1, 1) := dk_4 (dk_at dksL_law_33 1 rfl rfl)
theorem dL_law_963 : decode cL_law 963 = .ok (.iadd, 1) := dk_96 (dk_at dksL_law_33 2 rfl rfl)
theorem dL_law_964 : decode cL_law 964 = .ok (.iaload, 1) := dk_46 (dk_at dksL_law_33 3 rfl rfl)
theorem dL_law_965 : decode cL_law 965 = .ok (.aload_n 0, 1) := dk_42 (dk_at dksL_law_33 4 rfl rfl)
theorem dL_law_966 : decode cL_law 966 = .ok (.iload_n 3, 1) := dk_29 (dk_at dksL_law_33 5 rfl rfl)
theorem dL_law_967 : decode cL_law 967 = .ok (.iconst 2, 1) := dk_5 (dk_at dksL_law_33 6 rfl rfl)
theorem dL_law_968 : decode cL_law 968 = .ok (.iadd, 1) := dk_96 (dk_at dksL_law_33 7 rfl rfl)
theorem dL_law_969 : decode cL_law 969 = .ok (.iaload, 1) := dk_46 (dk_at dksL_law_33 8 rfl rfl)
theorem dL_law_970 : decode cL_law 970 = .ok (.invokevirtual 103, 3) := dk_182 0 103 (dk_at dksL_law_33 9 rfl rfl)
theorem dL_law_973 : decode cL_law 973 = .ok (.aload_n 2, 1) := dk_44 (dk_at dksL_law_33 12 rfl rfl)
theorem dL_law_974 : decode cL_law 974 = .ok (.aload_n 0, 1) := dk_42 (dk_at dksL_law_33 13 rfl rfl)
theorem dL_law_975 : decode cL_law 975 = .ok (.iload_n 3, 1) := dk_29 (dk_at dksL_law_33 14 rfl rfl)
theorem dL_law_976 : decode cL_law 976 = .ok (.iconst 1, 1) := dk_4 (dk_at dksL_law_33 15 rfl rfl)
theorem dL_law_977 : decode cL_law 977 = .ok (.iadd, 1) := dk_96 (dk_at dksL_law_33 16 rfl rfl)
theorem dL_law_978 : decode cL_law 978 = .ok (.iaload, 1) := dk_46 (dk_at dksL_law_33 17 rfl rfl)
theorem dL_law_979 : decode cL_law 979 = .ok (.aload_n 0, 1) := dk_42 (dk_at dksL_law_33 18 rfl rfl)
theorem dL_law_980 : decode cL_law 980 = .ok (.iload_n 3, 1) := dk_29 (dk_at dksL_law_33 19 rfl rfl)
theorem dL_law_981 : decode cL_law 981 = .ok (.iconst 2, 1) := dk_5 (dk_at dksL_law_33 20 rfl rfl)
theorem dL_law_982 : decode cL_law 982 = .ok (.iadd, 1) := dk_96 (dk_at dksL_law_33 21 rfl rfl)
theorem dL_law_983 : decode cL_law 983 = .ok (.iaload, 1) := dk_46 (dk_at dksL_law_33 22 rfl rfl)
theorem dL_law_984 : decode cL_law 984 = .ok (.invokevirtual 106, 3) := dk_182 0 106 (dk_at dksL_law_34 0 rfl rfl)
theorem dL_law_987 : decode cL_law 987 = .ok (.if_icmp .eq 725, 3) := dk_159 2 213 (dk_at dksL_law_34 3 rfl rfl)
theorem dL_law_990 : decode cL_law 990 = .ok (.iconst 0, 1) := dk_3 (dk_at dksL_law_34 6 rfl rfl)
theorem dL_law_991 : decode cL_law 991 = .ok (.ireturn, 1) := dk_172 (dk_at dksL_law_34 7 rfl rfl)
theorem dL_law_992 : decode cL_law 992 = .ok (.aload_n 1, 1) := dk_43 (dk_at dksL_law_34 8 rfl rfl)
theorem dL_law_993 : decode cL_law 993 = .ok (.aload_n 0, 1) := dk_42 (dk_at dksL_law_34 9 rfl rfl)
theorem dL_law_994 : decode cL_law 994 = .ok (.iload_n 3, 1) := dk_29 (dk_at dksL_law_34 10 rfl rfl)
theorem dL_law_995 : decode cL_law 995 = .ok (.iconst 1, 1) := dk_4 (dk_at dksL_law_34 11 rfl rfl)
theorem dL_law_996 : decode cL_law 996 = .ok (.iadd, 1) := dk_96 (dk_at dksL_law_34 12 rfl rfl)
theorem dL_law_997 : decode cL_law 997 = .ok (.iaload, 1) := dk_46 (dk_at dksL_law_34 13 rfl rfl)
theorem dL_law_998 : decode cL_law 998 = .ok (.aload_n 0, 1) := dk_42 (dk_at dksL_law_34 14 rfl rfl)
theorem dL_law_999 : decode cL_law 999 = .ok (.iload_n 3, 1) := dk_29 (dk_at dksL_law_34 15 rfl rfl)
theorem dL_law_1000 : decode cL_law 1000 = .ok (.iconst 2, 1) := dk_5 (dk_at dksL_law_34 16 rfl rfl)
theorem dL_law_1001 : decode cL_law 1001 = .ok (.iadd, 1) := dk_96 (dk_at dksL_law_34 17 rfl rfl)
theorem dL_law_1002 : decode cL_law 1002 = .ok (.iaload, 1) := dk_46 (dk_at dksL_law_34 18 rfl rfl)
theorem dL_law_1003 : decode cL_law 1003 = .ok (.invokevirtual 107, 3) := dk_182 0 107 (dk_at dksL_law_34 19 rfl rfl)
theorem dL_law_1006 : decode cL_law 1006 = .ok (.aload_n 2, 1) := dk_44 (dk_at dksL_law_34 22 rfl rfl)
theorem dL_law_1007 : decode cL_law 1007 = .ok (.aload_n 0, 1) := dk_42 (dk_at dksL_law_34 23 rfl rfl)
theorem dL_law_1008 : decode cL_law 1008 = .ok (.iload_n 3, 1) := dk_29 (dk_at dksL_law_35 0 rfl rfl)
theorem dL_law_1009 : decode cL_law 1009 = .ok (.iconst 1, 1) := dk_4 (dk_at dksL_law_35 1 rfl rfl)
theorem dL_law_1010 : decode cL_law 1010 = .ok (.iadd, 1) := dk_96 (dk_at dksL_law_35 2 rfl rfl)
theorem dL_law_1011 : decode cL_law 1011 = .ok (.iaload, 1) := dk_46 (dk_at dksL_law_35 3 rfl rfl)
theorem dL_law_1012 : decode cL_law 1012 = .ok (.aload_n 0, 1) := dk_42 (dk_at dksL_law_35 4 rfl rfl)
theorem dL_law_1013 : decode cL_law 1013 = .ok (.iload_n 3, 1) := dk_29 (dk_at dksL_law_35 5 rfl rfl)
theorem dL_law_1014 : decode cL_law 1014 = .ok (.iconst 2, 1) := dk_5 (dk_at dksL_law_35 6 rfl rfl)
theorem dL_law_1015 : decode cL_law 1015 = .ok (.iadd, 1) := dk_96 (dk_at dksL_law_35 7 rfl rfl)
theorem dL_law_1016 : decode cL_law 1016 = .ok (.iaload, 1) := dk_46 (dk_at dksL_law_35 8 rfl rfl)
theorem dL_law_1017 : decode cL_law 1017 = .ok (.invokevirtual 110, 3) := dk_182 0 110 (dk_at dksL_law_35 9 rfl rfl)
theorem dL_law_1020 : decode cL_law 1020 = .ok (.if_icmp .eq 692, 3) := dk_159 2 180 (dk_at dksL_law_35 12 rfl rfl)
theorem dL_law_1023 : decode cL_law 1023 = .ok (.iconst 0, 1) := dk_3 (dk_at dksL_law_35 15 rfl rfl)
theorem dL_law_1024 : decode cL_law 1024 = .ok (.ireturn, 1) := dk_172 (dk_at dksL_law_35 16 rfl rfl)
theorem dL_law_1025 : decode cL_law 1025 = .ok (.aload_n 1, 1) := dk_43 (dk_at dksL_law_35 17 rfl rfl)
theorem dL_law_1026 : decode cL_law 1026 = .ok (.aload_n 0, 1) := dk_42 (dk_at dksL_law_35 18 rfl rfl)
theorem dL_law_1027 : decode cL_law 1027 = .ok (.iload_n 3, 1) := dk_29 (dk_at dksL_law_35 19 rfl rfl)
theorem dL_law_1028 : decode cL_law 1028 = .ok (.iconst 1, 1) := dk_4 (dk_at dksL_law_35 20 rfl rfl)
theorem dL_law_1029 : decode cL_law 1029 = .ok (.iadd, 1) := dk_96 (dk_at dksL_law_35 21 rfl rfl)
theorem dL_law_1030 : decode cL_law 1030 = .ok (.iaload, 1) := dk_46 (dk_at dksL_law_35 22 rfl rfl)
theorem dL_law_1031 : decode cL_law 1031 = .ok (.aload_n 0, 1) := dk_42 (dk_at dksL_law_35 23 rfl rfl)
theorem dL_law_1032 : decode cL_law 1032 = .ok (.iload_n 3, 1) := dk_29 (dk_at dksL_law_36 0 rfl rfl)
theorem dL_law_1033 : decode cL_law 1033 = .ok (.iconst 2, 1) := dk_5 (dk_at dksL_law_36 1 rfl rfl)
theorem dL_law_1034 : decode cL_law 1034 = .ok (.iadd, 1) := dk_96 (dk_at dksL_law_36 2 rfl rfl)
theorem dL_law_1035 : decode cL_law 1035 = .ok (.iaload, 1) := dk_46 (dk_at dksL_law_36 3 rfl rfl)
theorem dL_law_1036 : decode cL_law 1036 = .ok (.invokevirtual 111, 3) := dk_182 0 111 (dk_at dksL_law_36 4 rfl rfl)
theorem dL_law_1039 : decode cL_law 1039 = .ok (.aload_n 2, 1) := dk_44 (dk_at dksL_law_36 7 rfl rfl)
theorem dL_law_1040 : decode cL_law 1040 = .ok (.aload_n 0, 1) := dk_42 (dk_at dksL_law_36 8 rfl rfl)
theorem dL_law_1041 : decode cL_law 1041 = .ok (.iload_n 3, 1) := dk_29 (dk_at dksL_law_36 9 rfl rfl)
theorem dL_law_1042 : decode cL_law 1042 = .ok (.iconst 1, 1) := dk_4 (dk_at dksL_law_36 10 rfl rfl)
theorem dL_law_1043 : decode cL_law 1043 = .ok (.iadd, 1) := dk_96 (dk_at dksL_law_36 11 rfl rfl)
theorem dL_law_1044 : decode cL_law 1044 = .ok (.iaload, 1) := dk_46 (dk_at dksL_law_36 12 rfl rfl)
theorem dL_law_1045 : decode cL_law 1045 = .ok (.aload_n 0, 1) := dk_42 (dk_at dksL_law_36 13 rfl rfl)
theorem dL_law_1046 : decode cL_law 1046 = .ok (.iload_n 3, 1) := dk_29 (dk_at dksL_law_36 14 rfl rfl)
theorem dL_law_1047 : decode cL_law 1047 = .ok (.iconst 2, 1) := dk_5 (dk_at dksL_law_36 15 rfl rfl)
theorem dL_law_1048 : decode cL_law 1048 = .ok (.iadd, 1) := dk_96 (dk_at dksL_law_36 16 rfl rfl)
theorem dL_law_1049 : decode cL_law 1049 = .ok (.iaload, 1) := dk_46 (dk_at dksL_law_36 17 rfl rfl)
theorem dL_law_1050 : decode cL_law 1050 = .ok (.invokevirtual 114, 3) := dk_182 0 114 (dk_at dksL_law_36 18 rfl rfl)
theorem dL_law_1053 : decode cL_law 1053 = .ok (.if_icmp .eq 659, 3) := dk_159 2 147 (dk_at dksL_law_36 21 rfl rfl)
theorem dL_law_1056 : decode cL_law 1056 = .ok (.iconst 0, 1) := dk_3 (dk_at dksL_law_37 0 rfl rfl)
theorem dL_law_1057 : decode cL_law 1057 = .ok (.ireturn, 1) := dk_172 (dk_at dksL_law_37 1 rfl rfl)
theorem dL_law_1058 : decode cL_law 1058 = .ok (.aload_n 1, 1) := dk_43 (dk_at dksL_law_37 2 rfl rfl)
theorem dL_law_1059 : decode cL_law 1059 = .ok (.aload_n 0, 1) := dk_42 (dk_at dksL_law_37 3 rfl rfl)
theorem dL_law_1060 : decode cL_law 1060 = .ok (.iload_n 3, 1) := dk_29 (dk_at dksL_law_37 4 rfl rfl)
theorem dL_law_1061 : decode cL_law 1061 = .ok (.iconst 1, 1) := dk_4 (dk_at dksL_law_37 5 rfl rfl)
theorem dL_law_1062 : decode cL_law 1062 = .ok (.iadd, 1) := dk_96 (dk_at dksL_law_37 6 rfl rfl)
theorem dL_law_1063 : decode cL_law 1063 = .ok (.iaload, 1) := dk_46 (dk_at dksL_law_37 7 rfl rfl)
theorem dL_law_1064 : decode cL_law 1064 = .ok (.aload_n 0, 1) := dk_42 (dk_at dksL_law_37 8 rfl rfl)
theorem dL_law_1065 : decode cL_law 1065 = .ok (.iload_n 3, 1) := dk_29 (dk_at dksL_law_37 9 rfl rfl)
theorem dL_law_1066 : decode cL_law 1066 = .ok (.iconst 2, 1) := dk_5 (dk_at dksL_law_37 10 rfl rfl)
theorem dL_law_1067 : decode cL_law 1067 = .ok (.iadd, 1) := dk_96 (dk_at dksL_law_37 11 rfl rfl)
theorem dL_law_1068 : decode cL_law 1068 = .ok (.iaload, 1) := dk_46 (dk_at dksL_law_37 12 rfl rfl)
theorem dL_law_1069 : decode cL_law 1069 = .ok (.invokevirtual 115, 3) := dk_182 0 115 (dk_at dksL_law_37 13 rfl rfl)
theorem dL_law_1072 : decode cL_law 1072 = .ok (.aload_n 2, 1) := dk_44 (dk_at dksL_law_37 16 rfl rfl)
theorem dL_law_1073 : decode cL_law 1073 = .ok (.aload_n 0, 1) := dk_42 (dk_at dksL_law_37 17 rfl rfl)
theorem dL_law_1074 : decode cL_law 1074 = .ok (.iload_n 3, 1) := dk_29 (dk_at dksL_law_37 18 rfl rfl)
theorem dL_law_1075 : decode cL_law 1075 = .ok (.iconst 1, 1) := dk_4 (dk_at dksL_law_37 19 rfl rfl)
theorem dL_law_1076 : decode cL_law 1076 = .ok (.iadd, 1) := dk_96 (dk_at dksL_law_37 20 rfl rfl)
theorem dL_law_1077 : decode cL_law 1077 = .ok (.iaload, 1) := dk_46 (dk_at dksL_law_37 21 rfl rfl)
theorem dL_law_1078 : decode cL_law 1078 = .ok (.aload_n 0, 1) := dk_42 (dk_at dksL_law_37 22 rfl rfl)
theorem dL_law_1079 : decode cL_law 1079 = .ok (.iload_n 3, 1) := dk_29 (dk_at dksL_law_37 23 rfl rfl)
theorem dL_law_1080 : decode cL_law 1080 = .ok (.iconst 2, 1) := dk_5 (dk_at dksL_law_38 0 rfl rfl)
theorem dL_law_1081 : decode cL_law 1081 = .ok (.iadd, 1) := dk_96 (dk_at dksL_law_38 1 rfl rfl)
theorem dL_law_1082 : decode cL_law 1082 = .ok (.iaload, 1) := dk_46 (dk_at dksL_law_38 2 rfl rfl)
theorem dL_law_1083 : decode cL_law 1083 = .ok (.invokevirtual 118, 3) := dk_182 0 118 (dk_at dksL_law_38 3 rfl rfl)
theorem dL_law_1086 : decode cL_law 1086 = .ok (.if_icmp .eq 626, 3) := dk_159 2 114 (dk_at dksL_law_38 6 rfl rfl)
theorem dL_law_1089 : decode cL_law 1089 = .ok (.iconst 0, 1) := dk_3 (dk_at dksL_law_38 9 rfl rfl)
theorem dL_law_1090 : decode cL_law 1090 = .ok (.ireturn, 1) := dk_172 (dk_at dksL_law_38 10 rfl rfl)
theorem dL_law_1091 : decode cL_law 1091 = .ok (.aload_n 1, 1) := dk_43 (dk_at dksL_law_38 11 rfl rfl)
theorem dL_law_1092 : decode cL_law 1092 = .ok (.aload_n 0, 1) := dk_42 (dk_at dksL_law_38 12 rfl rfl)
theorem dL_law_1093 : decode cL_law 1093 = .ok (.iload_n 3, 1) := dk_29 (dk_at dksL_law_38 13 rfl rfl)
theorem dL_law_1094 : decode cL_law 1094 = .ok (.iconst 1, 1) := dk_4 (dk_at dksL_law_38 14 rfl rfl)
theorem dL_law_1095 : decode cL_law 1095 = .ok (.iadd, 1) := dk_96 (dk_at dksL_law_38 15 rfl rfl)
theorem dL_law_1096 : decode cL_law 1096 = .ok (.iaload, 1) := dk_46 (dk_at dksL_law_38 16 rfl rfl)
theorem dL_law_1097 : decode cL_law 1097 = .ok (.aload_n 0, 1) := dk_42 (dk_at dksL_law_38 17 rfl rfl)
theorem dL_law_1098 : decode cL_law 1098 = .ok (.iload_n 3, 1) := dk_29 (dk_at dksL_law_38 18 rfl rfl)
theorem dL_law_1099 : decode cL_law 1099 = .ok (.iconst 2, 1) := dk_5 (dk_at dksL_law_38 19 rfl rfl)
theorem dL_law_1100 : decode cL_law 1100 = .ok (.iadd, 1) := dk_96 (dk_at dksL_law_38 20 rfl rfl)
theorem dL_law_1101 : decode cL_law 1101 = .ok (.iaload, 1) := dk_46 (dk_at dksL_law_38 21 rfl rfl)
theorem dL_law_1102 : decode cL_law 1102 = .ok (.aload_n 0, 1) := dk_42 (dk_at dksL_law_38 22 rfl rfl)
theorem dL_law_1103 : decode cL_law 1103 = .ok (.iload_n 3, 1) := dk_29 (dk_at dksL_law_38 23 rfl rfl)
theorem dL_law_1104 : decode cL_law 1104 = .ok (.iconst 3, 1) := dk_6 (dk_at dksL_law_39 0 rfl rfl)
theorem dL_law_1105 : decode cL_law 1105 = .ok (.iadd, 1) := dk_96 (dk_at dksL_law_39 1 rfl rfl)
theorem dL_law_1106 : decode cL_law 1106 = .ok (.iaload, 1) := dk_46 (dk_at dksL_law_39 2 rfl rfl)
theorem dL_law_1107 : decode cL_law 1107 = .ok (.aload_n 0, 1) := dk_42 (dk_at dksL_law_39 3 rfl rfl)
theorem dL_law_1108 : decode cL_law 1108 = .ok (.iload_n 3, 1) := dk_29 (dk_at dksL_law_39 4 rfl rfl)
theorem dL_law_1109 : decode cL_law 1109 = .ok (.iconst 4, 1) := dk_7 (dk_at dksL_law_39 5 rfl rfl)
theorem dL_law_1110 : decode cL_law 1110 = .ok (.iadd, 1) := dk_96 (dk_at dksL_law_39 6 rfl rfl)
theorem dL_law_1111 : decode cL_law 1111 = .ok (.iaload, 1) := dk_46 (dk_at dksL_law_39 7 rfl rfl)
theorem dL_law_1112 : decode cL_law 1112 = .ok (.invokevirtual 119, 3) := dk_182 0 119 (dk_at dksL_law_39 8 rfl rfl)
theorem dL_law_1115 : decode cL_law 1115 = .ok (.aload_n 2, 1) := dk_44 (dk_at dksL_law_39 11 rfl rfl)
theorem dL_law_1116 : decode cL_law 1116 = .ok (.aload_n 0, 1) := dk_42 (dk_at dksL_law_39 12 rfl rfl)
theorem dL_law_1117 : decode cL_law 1117 = .ok (.iload_n 3, 1) := dk_29 (dk_at dksL_law_39 13 rfl rfl)
theorem dL_law_1118 : decode cL_law 1118 = .ok (.iconst 1, 1) := dk_4 (dk_at dksL_law_39 14 rfl rfl)
theorem dL_law_1119 : decode cL_law 1119 = .ok (.iadd, 1) := dk_96 (dk_at dksL_law_39 15 rfl rfl)
theorem dL_law_1120 : decode cL_law 1120 = .ok (.iaload, 1) := dk_46 (dk_at dksL_law_39 16 rfl rfl)
theorem dL_law_1121 : decode cL_law 1121 = .ok (.aload_n 0, 1) := dk_42 (dk_at dksL_law_39 17 rfl rfl)
theorem dL_law_1122 : decode cL_law 1122 = .ok (.iload_n 3, 1) := dk_29 (dk_at dksL_law_39 18 rfl rfl)
theorem dL_law_1123 : decode cL_law 1123 = .ok (.iconst 2, 1) := dk_5 (dk_at dksL_law_39 19 rfl rfl)
theorem dL_law_1124 : decode cL_law 1124 = .ok (.iadd, 1) := dk_96 (dk_at dksL_law_39 20 rfl rfl)
theorem dL_law_1125 : decode cL_law 1125 = .ok (.iaload, 1) := dk_46 (dk_at dksL_law_39 21 rfl rfl)
theorem dL_law_1126 : decode cL_law 1126 = .ok (.aload_n 0, 1) := dk_42 (dk_at dksL_law_39 22 rfl rfl)
theorem dL_law_1127 : decode cL_law 1127 = .ok (.iload_n 3, 1) := dk_29 (dk_at dksL_law_39 23 rfl rfl)
theorem dL_law_1128 : decode cL_law 1128 = .ok (.iconst 3, 1) := dk_6 (dk_at dksL_law_40 0 rfl rfl)
theorem dL_law_1129 : decode cL_law 1129 = .ok (.iadd, 1) := dk_96 (dk_at dksL_law_40 1 rfl rfl)
theorem dL_law_1130 : decode cL_law 1130 = .ok (.iaload, 1) := dk_46 (dk_at dksL_law_40 2 rfl rfl)
theorem dL_law_1131 : decode cL_law 1131 = .ok (.aload_n 0, 1) := dk_42 (dk_at dksL_law_40 3 rfl rfl)
theorem dL_law_1132 : decode cL_law 1132 = .ok (.iload_n 3, 1) := dk_29 (dk_at dksL_law_40 4 rfl rfl)
theorem dL_law_1133 : decode cL_law 1133 = .ok (.iconst 4, 1) := dk_7 (dk_at dksL_law_40 5 rfl rfl)
theorem dL_law_1134 : decode cL_law 1134 = .ok (.iadd, 1) := dk_96 (dk_at dksL_law_40 6 rfl rfl)
theorem dL_law_1135 : decode cL_law 1135 = .ok (.iaload, 1) := dk_46 (dk_at dksL_law_40 7 rfl rfl)
theorem dL_law_1136 : decode cL_law 1136 = .ok (.invokevirtual 123, 3) := dk_182 0 123 (dk_at dksL_law_40 8 rfl rfl)
theorem dL_law_1139 : decode cL_law 1139 = .ok (.if_icmp .eq 573, 3) := dk_159 2 61 (dk_at dksL_law_40 11 rfl rfl)
theorem dL_law_1142 : decode cL_law 1142 = .ok (.iconst 0, 1) := dk_3 (dk_at dksL_law_40 14 rfl rfl)
theorem dL_law_1143 : decode cL_law 1143 = .ok (.ireturn, 1) := dk_172 (dk_at dksL_law_40 15 rfl rfl)
theorem dL_law_1144 : decode cL_law 1144 = .ok (.aload_n 1, 1) := dk_43 (dk_at dksL_law_40 16 rfl rfl)
theorem dL_law_1145 : decode cL_law 1145 = .ok (.aload_n 0, 1) := dk_42 (dk_at dksL_law_40 17 rfl rfl)
theorem dL_law_1146 : decode cL_law 1146 = .ok (.iload_n 3, 1) := dk_29 (dk_at dksL_law_40 18 rfl rfl)
theorem dL_law_1147 : decode cL_law 1147 = .ok (.iconst 1, 1) := dk_4 (dk_at dksL_law_40 19 rfl rfl)
theorem dL_law_1148 : decode cL_law 1148 = .ok (.iadd, 1) := dk_96 (dk_at dksL_law_40 20 rfl rfl)
theorem dL_law_1149 : decode cL_law 1149 = .ok (.iaload, 1) := dk_46 (dk_at dksL_law_40 21 rfl rfl)
theorem dL_law_1150 : decode cL_law 1150 = .ok (.invokevirtual 124, 3) := dk_182 0 124 (dk_at dksL_law_41 0 rfl rfl)
theorem dL_law_1153 : decode cL_law 1153 = .ok (.aload_n 2, 1) := dk_44 (dk_at dksL_law_41 3 rfl rfl)
theorem dL_law_1154 : decode cL_law 1154 = .ok (.aload_n 0, 1) := dk_42 (dk_at dksL_law_41 4 rfl rfl)
theorem dL_law_1155 : decode cL_law 1155 = .ok (.iload_n 3, 1) := dk_29 (dk_at dksL_law_41 5 rfl rfl)
theorem dL_law_1156 : decode cL_law 1156 = .ok (.iconst 1, 1) := dk_4 (dk_at dksL_law_41 6 rfl rfl)
theorem dL_law_1157 : decode cL_law 1157 = .ok (.iadd, 1) := dk_96 (dk_at dksL_law_41 7 rfl rfl)
theorem dL_law_1158 : decode cL_law 1158 = .ok (.iaload, 1) := dk_46 (dk_at dksL_law_41 8 rfl rfl)
theorem dL_law_1159 : decode cL_law 1159 = .ok (.invokevirtual 127, 3) := dk_182 0 127 (dk_at dksL_law_41 9 rfl rfl)
theorem dL_law_1162 : decode cL_law 1162 = .ok (.if_icmp .eq 550, 3) := dk_159 2 38 (dk_at dksL_law_41 12 rfl rfl)
theorem dL_law_1165 : decode cL_law 1165 = .ok (.iconst 0, 1) := dk_3 (dk_at dksL_law_41 15 rfl rfl)
theorem dL_law_1166 : decode cL_law 1166 = .ok (.ireturn, 1) := dk_172 (dk_at dksL_law_41 16 rfl rfl)
theorem dL_law_1167 : decode cL_law 1167 = .ok (.aload_n 1, 1) := dk_43 (dk_at dksL_law_41 17 rfl rfl)
theorem dL_law_1168 : decode cL_law 1168 = .ok (.aload_n 0, 1) := dk_42 (dk_at dksL_law_41 18 rfl rfl)
theorem dL_law_1169 : decode cL_law 1169 = .ok (.iload_n 3, 1) := dk_29 (dk_at dksL_law_41 19 rfl rfl)
theorem dL_law_1170 : decode cL_law 1170 = .ok (.iconst 1, 1) := dk_4 (dk_at dksL_law_41 20 rfl rfl)
theorem dL_law_1171 : decode cL_law 1171 = .ok (.iadd, 1) := dk_96 (dk_at dksL_law_41 21 rfl rfl)
theorem dL_law_1172 : decode cL_law 1172 = .ok (.iaload, 1) := dk_46 (dk_at dksL_law_41 22 rfl rfl)
theorem dL_law_1173 : decode cL_law 1173 = .ok (.invokevirtual 128, 3) := dk_182 0 128 (dk_at dksL_law_42 0 rfl rfl)
theorem dL_law_1176 : decode cL_law 1176 = .ok (.aload_n 2, 1) := dk_44 (dk_at dksL_law_42 3 rfl rfl)
theorem dL_law_1177 : decode cL_law 1177 = .ok (.aload_n 0, 1) := dk_42 (dk_at dksL_law_42 4 rfl rfl)
theorem dL_law_1178 : decode cL_law 1178 = .ok (.iload_n 3, 1) := dk_29 (dk_at dksL_law_42 5 rfl rfl)
theorem dL_law_1179 : decode cL_law 1179 = .ok (.iconst 1, 1) := dk_4 (dk_at dksL_law_42 6 rfl rfl)
theorem dL_law_1180 : decode cL_law 1180 = .ok (.iadd, 1) := dk_96 (dk_at dksL_law_42 7 rfl rfl)
theorem dL_law_1181 : decode cL_law 1181 = .ok (.iaload, 1) := dk_46 (dk_at dksL_law_42 8 rfl rfl)
theorem dL_law_1182 : decode cL_law 1182 = .ok (.invokevirtual 131, 3) := dk_182 0 131 (dk_at dksL_law_42 9 rfl rfl)
theorem dL_law_1185 : decode cL_law 1185 = .ok (.if_icmp .eq 527, 3) := dk_159 2 15 (dk_at dksL_law_42 12 rfl rfl)
theorem dL_law_1188 : decode cL_law 1188 = .ok (.iconst 0, 1) := dk_3 (dk_at dksL_law_42 15 rfl rfl)
theorem dL_law_1189 : decode cL_law 1189 = .ok (.ireturn, 1) := dk_172 (dk_at dksL_law_42 16 rfl rfl)
theorem dL_law_1190 : decode cL_law 1190 = .ok (.aload_n 1, 1) := dk_43 (dk_at dksL_law_42 17 rfl rfl)
theorem dL_law_1191 : decode cL_law 1191 = .ok (.aload_n 0, 1) := dk_42 (dk_at dksL_law_42 18 rfl rfl)
theorem dL_law_1192 : decode cL_law 1192 = .ok (.iload_n 3, 1) := dk_29 (dk_at dksL_law_42 19 rfl rfl)
theorem dL_law_1193 : decode cL_law 1193 = .ok (.iconst 1, 1) := dk_4 (dk_at dksL_law_42 20 rfl rfl)
theorem dL_law_1194 : decode cL_law 1194 = .ok (.iadd, 1) := dk_96 (dk_at dksL_law_42 21 rfl rfl)
theorem dL_law_1195 : decode cL_law 1195 = .ok (.iaload, 1) := dk_46 (dk_at dksL_law_42 22 rfl rfl)
theorem dL_law_1196 : decode cL_law 1196 = .ok (.invokevirtual 132, 3) := dk_182 0 132 (dk_at dksL_law_43 0 rfl rfl)
theorem dL_law_1199 : decode cL_law 1199 = .ok (.aload_n 2, 1) := dk_44 (dk_at dksL_law_43 3 rfl rfl)
theorem dL_law_1200 : decode cL_law 1200 = .ok (.aload_n 0, 1) := dk_42 (dk_at dksL_law_43 4 rfl rfl)
theorem dL_law_1201 : decode cL_law 1201 = .ok (.iload_n 3, 1) := dk_29 (dk_at dksL_law_43 5 rfl rfl)
theorem dL_law_1202 : decode cL_law 1202 = .ok (.iconst 1, 1) := dk_4 (dk_at dksL_law_43 6 rfl rfl)
theorem dL_law_1203 : decode cL_law 1203 = .ok (.iadd, 1) := dk_96 (dk_at dksL_law_43 7 rfl rfl)
theorem dL_law_1204 : decode cL_law 1204 = .ok (.iaload, 1) := dk_46 (dk_at dksL_law_43 8 rfl rfl)
theorem dL_law_1205 : decode cL_law 1205 = .ok (.invokevirtual 135, 3) := dk_182 0 135 (dk_at dksL_law_43 9 rfl rfl)
theorem dL_law_1208 : decode cL_law 1208 = .ok (.if_icmp .eq 504, 3) := dk_159 1 248 (dk_at dksL_law_43 12 rfl rfl)
theorem dL_law_1211 : decode cL_law 1211 = .ok (.iconst 0, 1) := dk_3 (dk_at dksL_law_43 15 rfl rfl)
theorem dL_law_1212 : decode cL_law 1212 = .ok (.ireturn, 1) := dk_172 (dk_at dksL_law_43 16 rfl rfl)
theorem dL_law_1213 : decode cL_law 1213 = .ok (.aload_n 1, 1) := dk_43 (dk_at dksL_law_43 17 rfl rfl)
theorem dL_law_1214 : decode cL_law 1214 = .ok (.invokevirtual 136, 3) := dk_182 0 136 (dk_at dksL_law_43 18 rfl rfl)
theorem dL_law_1217 : decode cL_law 1217 = .ok (.aload_n 2, 1) := dk_44 (dk_at dksL_law_43 21 rfl rfl)
theorem dL_law_1218 : decode cL_law 1218 = .ok (.invokevirtual 139, 3) := dk_182 0 139 (dk_at dksL_law_44 0 rfl rfl)
theorem dL_law_1221 : decode cL_law 1221 = .ok (.if_icmp .eq 491, 3) := dk_159 1 235 (dk_at dksL_law_44 3 rfl rfl)
theorem dL_law_1224 : decode cL_law 1224 = .ok (.iconst 0, 1) := dk_3 (dk_at dksL_law_44 6 rfl rfl)
theorem dL_law_1225 : decode cL_law 1225 = .ok (.ireturn, 1) := dk_172 (dk_at dksL_law_44 7 rfl rfl)
theorem dL_law_1226 : decode cL_law 1226 = .ok (.aload_n 1, 1) := dk_43 (dk_at dksL_law_44 8 rfl rfl)
theorem dL_law_1227 : decode cL_law 1227 = .ok (.aload_n 0, 1) := dk_42 (dk_at dksL_law_44 9 rfl rfl)
theorem dL_law_1228 : decode cL_law 1228 = .ok (.iload_n 3, 1) := dk_29 (dk_at dksL_law_44 10 rfl rfl)
theorem dL_law_1229 : decode cL_law 1229 = .ok (.iconst 1, 1) := dk_4 (dk_at dksL_law_44 11 rfl rfl)
theorem dL_law_1230 : decode cL_law 1230 = .ok (.iadd, 1) := dk_96 (dk_at dksL_law_44 12 rfl rfl)
theorem dL_law_1231 : decode cL_law 1231 = .ok (.iaload, 1) := dk_46 (dk_at dksL_law_44 13 rfl rfl)
theorem dL_law_1232 : decode cL_law 1232 = .ok (.aload_n 0, 1) := dk_42 (dk_at dksL_law_44 14 rfl rfl)
theorem dL_law_1233 : decode cL_law 1233 = .ok (.iload_n 3, 1) := dk_29 (dk_at dksL_law_44 15 rfl rfl)
theorem dL_law_1234 : decode cL_law 1234 = .ok (.iconst 2, 1) := dk_5 (dk_at dksL_law_44 16 rfl rfl)
theorem dL_law_1235 : decode cL_law 1235 = .ok (.iadd, 1) := dk_96 (dk_at dksL_law_44 17 rfl rfl)
theorem dL_law_1236 : decode cL_law 1236 = .ok (.iaload, 1) := dk_46 (dk_at dksL_law_44 18 rfl rfl)
theorem dL_law_1237 : decode cL_law 1237 = .ok (.invokevirtual 140, 3) := dk_182 0 140 (dk_at dksL_law_44 19 rfl rfl)
theorem dL_law_1240 : decode cL_law 1240 = .ok (.aload_n 2, 1) := dk_44 (dk_at dksL_law_44 22 rfl rfl)
theorem dL_law_1241 : decode cL_law 1241 = .ok (.aload_n 0, 1) := dk_42 (dk_at dksL_law_44 23 rfl rfl)
theorem dL_law_1242 : decode cL_law 1242 = .ok (.iload_n 3, 1) := dk_29 (dk_at dksL_law_45 0 rfl rfl)
theorem dL_law_1243 : decode cL_law 1243 = .ok (.iconst 1, 1) := dk_4 (dk_at dksL_law_45 1 rfl rfl)
theorem dL_law_1244 : decode cL_law 1244 = .ok (.iadd, 1) := dk_96 (dk_at dksL_law_45 2 rfl rfl)
theorem dL_law_1245 : decode cL_law 1245 = .ok (.iaload, 1) := dk_46 (dk_at dksL_law_45 3 rfl rfl)
theorem dL_law_1246 : decode cL_law 1246 = .ok (.aload_n 0, 1) := dk_42 (dk_at dksL_law_45 4 rfl rfl)
theorem dL_law_1247 : decode cL_law 1247 = .ok (.iload_n 3, 1) := dk_29 (dk_at dksL_law_45 5 rfl rfl)
theorem dL_law_1248 : decode cL_law 1248 = .ok (.iconst 2, 1) := dk_5 (dk_at dksL_law_45 6 rfl rfl)
theorem dL_law_1249 : decode cL_law 1249 = .ok (.iadd, 1) := dk_96 (dk_at dksL_law_45 7 rfl rfl)
theorem dL_law_1250 : decode cL_law 1250 = .ok (.iaload, 1) := dk_46 (dk_at dksL_law_45 8 rfl rfl)
theorem dL_law_1251 : decode cL_law 1251 = .ok (.invokevirtual 143, 3) := dk_182 0 143 (dk_at dksL_law_45 9 rfl rfl)
theorem dL_law_1254 : decode cL_law 1254 = .ok (.if_icmp .eq 458, 3) := dk_159 1 202 (dk_at dksL_law_45 12 rfl rfl)
theorem dL_law_1257 : decode cL_law 1257 = .ok (.iconst 0, 1) := dk_3 (dk_at dksL_law_45 15 rfl rfl)
theorem dL_law_1258 : decode cL_law 1258 = .ok (.ireturn, 1) := dk_172 (dk_at dksL_law_45 16 rfl rfl)
theorem dL_law_1259 : decode cL_law 1259 = .ok (.aload_n 1, 1) := dk_43 (dk_at dksL_law_45 17 rfl rfl)
theorem dL_law_1260 : decode cL_law 1260 = .ok (.aload_n 0, 1) := dk_42 (dk_at dksL_law_45 18 rfl rfl)
theorem dL_law_1261 : decode cL_law 1261 = .ok (.iload_n 3, 1) := dk_29 (dk_at dksL_law_45 19 rfl rfl)
theorem dL_law_1262 : decode cL_law 1262 = .ok (.iconst 1, 1) := dk_4 (dk_at dksL_law_45 20 rfl rfl)
theorem dL_law_1263 : decode cL_law 1263 = .ok (.iadd, 1) := dk_96 (dk_at dksL_law_45 21 rfl rfl)
theorem dL_law_1264 : decode cL_law 1264 = .ok (.iaload, 1) := dk_46 (dk_at dksL_law_45 22 rfl rfl)
theorem dL_law_1265 : decode cL_law 1265 = .ok (.invokevirtual 144, 3) := dk_182 0 144 (dk_at dksL_law_46 0 rfl rfl)
theorem dL_law_1268 : decode cL_law 1268 = .ok (.aload_n 2, 1) := dk_44 (dk_at dksL_law_46 3 rfl rfl)
theorem dL_law_1269 : decode cL_law 1269 = .ok (.aload_n 0, 1) := dk_42 (dk_at dksL_law_46 4 rfl rfl)
theorem dL_law_1270 : decode cL_law 1270 = .ok (.iload_n 3, 1) := dk_29 (dk_at dksL_law_46 5 rfl rfl)
theorem dL_law_1271 : decode cL_law 1271 = .ok (.iconst 1, 1) := dk_4 (dk_at dksL_law_46 6 rfl rfl)
theorem dL_law_1272 : decode cL_law 1272 = .ok (.iadd, 1) := dk_96 (dk_at dksL_law_46 7 rfl rfl)
theorem dL_law_1273 : decode cL_law 1273 = .ok (.iaload, 1) := dk_46 (dk_at dksL_law_46 8 rfl rfl)
theorem dL_law_1274 : decode cL_law 1274 = .ok (.invokevirtual 147, 3) := dk_182 0 147 (dk_at dksL_law_46 9 rfl rfl)
theorem dL_law_1277 : decode cL_law 1277 = .ok (.if_icmp .eq 435, 3) := dk_159 1 179 (dk_at dksL_law_46 12 rfl rfl)
theorem dL_law_1280 : decode cL_law 1280 = .ok (.iconst 0, 1) := dk_3 (dk_at dksL_law_46 15 rfl rfl)
theorem dL_law_1281 : decode cL_law 1281 = .ok (.ireturn, 1) := dk_172 (dk_at dksL_law_46 16 rfl rfl)
theorem dL_law_1282 : decode cL_law 1282 = .ok (.aload_n 1, 1) := dk_43 (dk_at dksL_law_46 17 rfl rfl)
theorem dL_law_1283 : decode cL_law 1283 = .ok (.aload_n 0, 1) := dk_42 (dk_at dksL_law_46 18 rfl rfl)
theorem dL_law_1284 : decode cL_law 1284 = .ok (.iload_n 3, 1) := dk_29 (dk_at dksL_law_46 19 rfl rfl)
theorem dL_law_1285 : decode cL_law 1285 = .ok (.iconst 1, 1) := dk_4 (dk_at dksL_law_46 20 rfl rfl)
theorem dL_law_1286 : decode cL_law 1286 = .ok (.iadd, 1) := dk_96 (dk_at dksL_law_46 21 rfl rfl)
theorem dL_law_1287 : decode cL_law 1287 = .ok (.iaload, 1) := dk_46 (dk_at dksL_law_46 22 rfl rfl)
theorem dL_law_1288 : decode cL_law 1288 = .ok (.invokevirtual 148, 3) := dk_182 0 148 (dk_at dksL_law_47 0 rfl rfl)
theorem dL_law_1291 : decode cL_law 1291 = .ok (.aload_n 2, 1) := dk_44 (dk_at dksL_law_47 3 rfl rfl)
theorem dL_law_1292 : decode cL_law 1292 = .ok (.aload_n 0, 1) := dk_42 (dk_at dksL_law_47 4 rfl rfl)
theorem dL_law_1293 : decode cL_law 1293 = .ok (.iload_n 3, 1) := dk_29 (dk_at dksL_law_47 5 rfl rfl)
theorem dL_law_1294 : decode cL_law 1294 = .ok (.iconst 1, 1) := dk_4 (dk_at dksL_law_47 6 rfl rfl)
theorem dL_law_1295 : decode cL_law 1295 = .ok (.iadd, 1) := dk_96 (dk_at dksL_law_47 7 rfl rfl)
theorem dL_law_1296 : decode cL_law 1296 = .ok (.iaload, 1) := dk_46 (dk_at dksL_law_47 8 rfl rfl)
theorem dL_law_1297 : decode cL_law 1297 = .ok (.invokevirtual 151, 3) := dk_182 0 151 (dk_at dksL_law_47 9 rfl rfl)
theorem dL_law_1300 : decode cL_law 1300 = .ok (.if_icmp .eq 412, 3) := dk_159 1 156 (dk_at dksL_law_47 12 rfl rfl)
theorem dL_law_1303 : decode cL_law 1303 = .ok (.iconst 0, 1) := dk_3 (dk_at dksL_law_47 15 rfl rfl)
theorem dL_law_1304 : decode cL_law 1304 = .ok (.ireturn, 1) := dk_172 (dk_at dksL_law_47 16 rfl rfl)
theorem dL_law_1305 : decode cL_law 1305 = .ok (.aload_n 1, 1) := dk_43 (dk_at dksL_law_47 17 rfl rfl)
theorem dL_law_1306 : decode cL_law 1306 = .ok (.invokevirtual 152, 3) := dk_182 0 152 (dk_at dksL_law_47 18 rfl rfl)
theorem dL_law_1309 : decode cL_law 1309 = .ok (.aload_n 2, 1) := dk_44 (dk_at dksL_law_47 21 rfl rfl)
theorem dL_law_1310 : decode cL_law 1310 = .ok (.invokevirtual 155, 3) := dk_182 0 155 (dk_at dksL_law_48 0 rfl rfl)
theorem dL_law_1313 : decode cL_law 1313 = .ok (.if_icmp .eq 399, 3) := dk_159 1 143 (dk_at dksL_law_48 3 rfl rfl)
theorem dL_law_1316 : decode cL_law 1316 = .ok (.iconst 0, 1) := dk_3 (dk_at dksL_law_48 6 rfl rfl)
theorem dL_law_1317 : decode cL_law 1317 = .ok (.ireturn, 1) := dk_172 (dk_at dksL_law_48 7 rfl rfl)
theorem dL_law_1318 : decode cL_law 1318 = .ok (.aload_n 1, 1) := dk_43 (dk_at dksL_law_48 8 rfl rfl)
theorem dL_law_1319 : decode cL_law 1319 = .ok (.aload_n 0, 1) := dk_42 (dk_at dksL_law_48 9 rfl rfl)
theorem dL_law_1320 : decode cL_law 1320 = .ok (.iload_n 3, 1) := dk_29 (dk_at dksL_law_48 10 rfl rfl)
theorem dL_law_1321 : decode cL_law 1321 = .ok (.iconst 1, 1) := dk_4 (dk_at dksL_law_48 11 rfl rfl)
theorem dL_law_1322 : decode cL_law 1322 = .ok (.iadd, 1) := dk_96 (dk_at dksL_law_48 12 rfl rfl)
theorem dL_law_1323 : decode cL_law 1323 = .ok (.iaload, 1) := dk_46 (dk_at dksL_law_48 13 rfl rfl)
theorem dL_law_1324 : decode cL_law 1324 = .ok (.invokevirtual 156, 3) := dk_182 0 156 (dk_at dksL_law_48 14 rfl rfl)
theorem dL_law_1327 : decode cL_law 1327 = .ok (.aload_n 2, 1) := dk_44 (dk_at dksL_law_48 17 rfl rfl)
theorem dL_law_1328 : decode cL_law 1328 = .ok (.aload_n 0, 1) := dk_42 (dk_at dksL_law_48 18 rfl rfl)
theorem dL_law_1329 : decode cL_law 1329 = .ok (.iload_n 3, 1) := dk_29 (dk_at dksL_law_48 19 rfl rfl)
theorem dL_law_1330 : decode cL_law 1330 = .ok (.iconst 1, 1) := dk_4 (dk_at dksL_law_48 20 rfl rfl)
theorem dL_law_1331 : decode cL_law 1331 = .ok (.iadd, 1) := dk_96 (dk_at dksL_law_48 21 rfl rfl)
theorem dL_law_1332 : decode cL_law 1332 = .ok (.iaload, 1) := dk_46 (dk_at dksL_law_48 22 rfl rfl)
theorem dL_law_1333 : decode cL_law 1333 = .ok (.invokevirtual 159, 3) := dk_182 0 159 (dk_at dksL_law_49 0 rfl rfl)
theorem dL_law_1336 : decode cL_law 1336 = .ok (.if_icmp .eq 376, 3) := dk_159 1 120 (dk_at dksL_law_49 3 rfl rfl)
theorem dL_law_1339 : decode cL_law 1339 = .ok (.iconst 0, 1) := dk_3 (dk_at dksL_law_49 6 rfl rfl)
theorem dL_law_1340 : decode cL_law 1340 = .ok (.ireturn, 1) := dk_172 (dk_at dksL_law_49 7 rfl rfl)
theorem dL_law_1341 : decode cL_law 1341 = .ok (.aload_n 1, 1) := dk_43 (dk_at dksL_law_49 8 rfl rfl)
theorem dL_law_1342 : decode cL_law 1342 = .ok (.aload_n 0, 1) := dk_42 (dk_at dksL_law_49 9 rfl rfl)
theorem dL_law_1343 : decode cL_law 1343 = .ok (.iload_n 3, 1) := dk_29 (dk_at dksL_law_49 10 rfl rfl)
theorem dL_law_1344 : decode cL_law 1344 = .ok (.iconst 1, 1) := dk_4 (dk_at dksL_law_49 11 rfl rfl)
theorem dL_law_1345 : decode cL_law 1345 = .ok (.iadd, 1) := dk_96 (dk_at dksL_law_49 12 rfl rfl)
theorem dL_law_1346 : decode cL_law 1346 = .ok (.iaload, 1) := dk_46 (dk_at dksL_law_49 13 rfl rfl)
theorem dL_law_1347 : decode cL_law 1347 = .ok (.invokevirtual 160, 3) := dk_182 0 160 (dk_at dksL_law_49 14 rfl rfl)
theorem dL_law_1350 : decode cL_law 1350 = .ok (.aload_n 2, 1) := dk_44 (dk_at dksL_law_49 17 rfl rfl)
theorem dL_law_1351 : decode cL_law 1351 = .ok (.aload_n 0, 1) := dk_42 (dk_at dksL_law_49 18 rfl rfl)
theorem dL_law_1352 : decode cL_law 1352 = .ok (.iload_n 3, 1) := dk_29 (dk_at dksL_law_49 19 rfl rfl)
theorem dL_law_1353 : decode cL_law 1353 = .ok (.iconst 1, 1) := dk_4 (dk_at dksL_law_49 20 rfl rfl)
theorem dL_law_1354 : decode cL_law 1354 = .ok (.iadd, 1) := dk_96 (dk_at dksL_law_49 21 rfl rfl)
theorem dL_law_1355 : decode cL_law 1355 = .ok (.iaload, 1) := dk_46 (dk_at dksL_law_49 22 rfl rfl)
theorem dL_law_1356 : decode cL_law 1356 = .ok (.invokevirtual 163, 3) := dk_182 0 163 (dk_at dksL_law_50 0 rfl rfl)
theorem dL_law_1359 : decode cL_law 1359 = .ok (.if_icmp .eq 353, 3) := dk_159 1 97 (dk_at dksL_law_50 3 rfl rfl)
theorem dL_law_1362 : decode cL_law 1362 = .ok (.iconst 0, 1) := dk_3 (dk_at dksL_law_50 6 rfl rfl)
theorem dL_law_1363 : decode cL_law 1363 = .ok (.ireturn, 1) := dk_172 (dk_at dksL_law_50 7 rfl rfl)
theorem dL_law_1364 : decode cL_law 1364 = .ok (.aload_n 1, 1) := dk_43 (dk_at dksL_law_50 8 rfl rfl)
theorem dL_law_1365 : decode cL_law 1365 = .ok (.aload_n 0, 1) := dk_42 (dk_at dksL_law_50 9 rfl rfl)
theorem dL_law_1366 : decode cL_law 1366 = .ok (.iload_n 3, 1) := dk_29 (dk_at dksL_law_50 10 rfl rfl)
theorem dL_law_1367 : decode cL_law 1367 = .ok (.iconst 1, 1) := dk_4 (dk_at dksL_law_50 11 rfl rfl)
theorem dL_law_1368 : decode cL_law 1368 = .ok (.iadd, 1) := dk_96 (dk_at dksL_law_50 12 rfl rfl)
theorem dL_law_1369 : decode cL_law 1369 = .ok (.iaload, 1) := dk_46 (dk_at dksL_law_50 13 rfl rfl)
theorem dL_law_1370 : decode cL_law 1370 = .ok (.invokevirtual 164, 3) := dk_182 0 164 (dk_at dksL_law_50 14 rfl rfl)
theorem dL_law_1373 : decode cL_law 1373 = .ok (.aload_n 2, 1) := dk_44 (dk_at dksL_law_50 17 rfl rfl)
theorem dL_law_1374 : decode cL_law 1374 = .ok (.aload_n 0, 1) := dk_42 (dk_at dksL_law_50 18 rfl rfl)
theorem dL_law_1375 : decode cL_law 1375 = .ok (.iload_n 3, 1) := dk_29 (dk_at dksL_law_50 19 rfl rfl)
theorem dL_law_1376 : decode cL_law 1376 = .ok (.iconst 1, 1) := dk_4 (dk_at dksL_law_50 20 rfl rfl)
theorem dL_law_1377 : decode cL_law 1377 = .ok (.iadd, 1) := dk_96 (dk_at dksL_law_50 21 rfl rfl)
theorem dL_law_1378 : decode cL_law 1378 = .ok (.iaload, 1) := dk_46 (dk_at dksL_law_50 22 rfl rfl)
theorem dL_law_1379 : decode cL_law 1379 = .ok (.invokevirtual 167, 3) := dk_182 0 167 (dk_at dksL_law_51 0 rfl rfl)
theorem dL_law_1382 : decode cL_law 1382 = .ok (.if_icmp .eq 330, 3) := dk_159 1 74 (dk_at dksL_law_51 3 rfl rfl)
theorem dL_law_1385 : decode cL_law 1385 = .ok (.iconst 0, 1) := dk_3 (dk_at dksL_law_51 6 rfl rfl)
theorem dL_law_1386 : decode cL_law 1386 = .ok (.ireturn, 1) := dk_172 (dk_at dksL_law_51 7 rfl rfl)
theorem dL_law_1387 : decode cL_law 1387 = .ok (.aload_n 1, 1) := dk_43 (dk_at dksL_law_51 8 rfl rfl)
theorem dL_law_1388 : decode cL_law 1388 = .ok (.aload_n 0, 1) := dk_42 (dk_at dksL_law_51 9 rfl rfl)
theorem dL_law_1389 : decode cL_law 1389 = .ok (.iload_n 3, 1) := dk_29 (dk_at dksL_law_51 10 rfl rfl)
theorem dL_law_1390 : decode cL_law 1390 = .ok (.iconst 1, 1) := dk_4 (dk_at dksL_law_51 11 rfl rfl)
theorem dL_law_1391 : decode cL_law 1391 = .ok (.iadd, 1) := dk_96 (dk_at dksL_law_51 12 rfl rfl)
theorem dL_law_1392 : decode cL_law 1392 = .ok (.iaload, 1) := dk_46 (dk_at dksL_law_51 13 rfl rfl)
theorem dL_law_1393 : decode cL_law 1393 = .ok (.aload_n 0, 1) := dk_42 (dk_at dksL_law_51 14 rfl rfl)
theorem dL_law_1394 : decode cL_law 1394 = .ok (.iload_n 3, 1) := dk_29 (dk_at dksL_law_51 15 rfl rfl)
theorem dL_law_1395 : decode cL_law 1395 = .ok (.iconst 2, 1) := dk_5 (dk_at dksL_law_51 16 rfl rfl)
theorem dL_law_1396 : decode cL_law 1396 = .ok (.iadd, 1) := dk_96 (dk_at dksL_law_51 17 rfl rfl)
theorem dL_law_1397 : decode cL_law 1397 = .ok (.iaload, 1) := dk_46 (dk_at dksL_law_51 18 rfl rfl)
theorem dL_law_1398 : decode cL_law 1398 = .ok (.invokevirtual 168, 3) := dk_182 0 168 (dk_at dksL_law_51 19 rfl rfl)
theorem dL_law_1401 : decode cL_law 1401 = .ok (.aload_n 2, 1) := dk_44 (dk_at dksL_law_51 22 rfl rfl)
theorem dL_law_1402 : decode cL_law 1402 = .ok (.aload_n 0, 1) := dk_42 (dk_at dksL_law_51 23 rfl rfl)
theorem dL_law_1403 : decode cL_law 1403 = .ok (.iload_n 3, 1) := dk_29 (dk_at dksL_law_52 0 rfl rfl)
theorem dL_law_1404 : decode cL_law 1404 = .ok (.iconst 1, 1) := dk_4 (dk_at dksL_law_52 1 rfl rfl)
theorem dL_law_1405 : decode cL_law 1405 = .ok (.iadd, 1) := dk_96 (dk_at dksL_law_52 2 rfl rfl)
theorem dL_law_1406 : decode cL_law 1406 = .ok (.iaload, 1) := dk_46 (dk_at dksL_law_52 3 rfl rfl)
theorem dL_law_1407 : decode cL_law 1407 = .ok (.aload_n 0, 1) := dk_42 (dk_at dksL_law_52 4 rfl rfl)
theorem dL_law_1408 : decode cL_law 1408 = .ok (.iload_n 3, 1) := dk_29 (dk_at dksL_law_52 5 rfl rfl)
theorem dL_law_1409 : decode cL_law 1409 = .ok (.iconst 2, 1) := dk_5 (dk_at dksL_law_52 6 rfl rfl)
theorem dL_law_1410 : decode cL_law 1410 = .ok (.iadd, 1) := dk_96 (dk_at dksL_law_52 7 rfl rfl)
theorem dL_law_1411 : decode cL_law 1411 = .ok (.iaload, 1) := dk_46 (dk_at dksL_law_52 8 rfl rfl)
theorem dL_law_1412 : decode cL_law 1412 = .ok (.invokevirtual 171, 3) := dk_182 0 171 (dk_at dksL_law_52 9 rfl rfl)
theorem dL_law_1415 : decode cL_law 1415 = .ok (.if_icmp .eq 297, 3) := dk_159 1 41 (dk_at dksL_law_52 12 rfl rfl)
theorem dL_law_1418 : decode cL_law 1418 = .ok (.iconst 0, 1) := dk_3 (dk_at dksL_law_52 15 rfl rfl)
theorem dL_law_1419 : decode cL_law 1419 = .ok (.ireturn, 1) := dk_172 (dk_at dksL_law_52 16 rfl rfl)
theorem dL_law_1420 : decode cL_law 1420 = .ok (.aload_n 1, 1) := dk_43 (dk_at dksL_law_52 17 rfl rfl)
theorem dL_law_1421 : decode cL_law 1421 = .ok (.invokevirtual 172, 3) := dk_182 0 172 (dk_at dksL_law_52 18 rfl rfl)
theorem dL_law_1424 : decode cL_law 1424 = .ok (.aload_n 2, 1) := dk_44 (dk_at dksL_law_52 21 rfl rfl)
theorem dL_law_1425 : decode cL_law 1425 = .ok (.invokevirtual 175, 3) := dk_182 0 175 (dk_at dksL_law_53 0 rfl rfl)
theorem dL_law_1428 : decode cL_law 1428 = .ok (.if_icmp .eq 284, 3) := dk_159 1 28 (dk_at dksL_law_53 3 rfl rfl)
theorem dL_law_1431 : decode cL_law 1431 = .ok (.iconst 0, 1) := dk_3 (dk_at dksL_law_53 6 rfl rfl)
theorem dL_law_1432 : decode cL_law 1432 = .ok (.ireturn, 1) := dk_172 (dk_at dksL_law_53 7 rfl rfl)
theorem dL_law_1433 : decode cL_law 1433 = .ok (.aload_n 1, 1) := dk_43 (dk_at dksL_law_53 8 rfl rfl)
theorem dL_law_1434 : decode cL_law 1434 = .ok (.aload_n 0, 1) := dk_42 (dk_at dksL_law_53 9 rfl rfl)
theorem dL_law_1435 : decode cL_law 1435 = .ok (.iload_n 3, 1) := dk_29 (dk_at dksL_law_53 10 rfl rfl)
theorem dL_law_1436 : decode cL_law 1436 = .ok (.iconst 1, 1) := dk_4 (dk_at dksL_law_53 11 rfl rfl)
theorem dL_law_1437 : decode cL_law 1437 = .ok (.iadd, 1) := dk_96 (dk_at dksL_law_53 12 rfl rfl)
theorem dL_law_1438 : decode cL_law 1438 = .ok (.iaload, 1) := dk_46 (dk_at dksL_law_53 13 rfl rfl)
theorem dL_law_1439 : decode cL_law 1439 = .ok (.invokevirtual 176, 3) := dk_182 0 176 (dk_at dksL_law_53 14 rfl rfl)
theorem dL_law_1442 : decode cL_law 1442 = .ok (.aload_n 2, 1) := dk_44 (dk_at dksL_law_53 17 rfl rfl)
theorem dL_law_1443 : decode cL_law 1443 = .ok (.aload_n 0, 1) := dk_42 (dk_at dksL_law_53 18 rfl rfl)
theorem dL_law_1444 : decode cL_law 1444 = .ok (.iload_n 3, 1) := dk_29 (dk_at dksL_law_53 19 rfl rfl)
theorem dL_law_1445 : decode cL_law 1445 = .ok (.iconst 1, 1) := dk_4 (dk_at dksL_law_53 20 rfl rfl)
theorem dL_law_1446 : decode cL_law 1446 = .ok (.iadd, 1) := dk_96 (dk_at dksL_law_53 21 rfl rfl)
theorem dL_law_1447 : decode cL_law 1447 = .ok (.iaload, 1) := dk_46 (dk_at dksL_law_53 22 rfl rfl)
theorem dL_law_1448 : decode cL_law 1448 = .ok (.invokevirtual 179, 3) := dk_182 0 179 (dk_at dksL_law_54 0 rfl rfl)
theorem dL_law_1451 : decode cL_law 1451 = .ok (.if_icmp .eq 261, 3) := dk_159 1 5 (dk_at dksL_law_54 3 rfl rfl)
theorem dL_law_1454 : decode cL_law 1454 = .ok (.iconst 0, 1) := dk_3 (dk_at dksL_law_54 6 rfl rfl)
theorem dL_law_1455 : decode cL_law 1455 = .ok (.ireturn, 1) := dk_172 (dk_at dksL_law_54 7 rfl rfl)
theorem dL_law_1456 : decode cL_law 1456 = .ok (.aload_n 1, 1) := dk_43 (dk_at dksL_law_54 8 rfl rfl)
theorem dL_law_1457 : decode cL_law 1457 = .ok (.aload_n 0, 1) := dk_42 (dk_at dksL_law_54 9 rfl rfl)
theorem dL_law_1458 : decode cL_law 1458 = .ok (.iload_n 3, 1) := dk_29 (dk_at dksL_law_54 10 rfl rfl)
theorem dL_law_1459 : decode cL_law 1459 = .ok (.iconst 1, 1) := dk_4 (dk_at dksL_law_54 11 rfl rfl)
theorem dL_law_1460 : decode cL_law 1460 = .ok (.iadd, 1) := dk_96 (dk_at dksL_law_54 12 rfl rfl)
theorem dL_law_1461 : decode cL_law 1461 = .ok (.iaload, 1) := dk_46 (dk_at dksL_law_54 13 rfl rfl)
theorem dL_law_1462 : decode cL_law 1462 = .ok (.aload_n 0, 1) := dk_42 (dk_at dksL_law_54 14 rfl rfl)
theorem dL_law_1463 : decode cL_law 1463 = .ok (.iload_n 3, 1) := dk_29 (dk_at dksL_law_54 15 rfl rfl)
theorem dL_law_1464 : decode cL_law 1464 = .ok (.iconst 2, 1) := dk_5 (dk_at dksL_law_54 16 rfl rfl)
theorem dL_law_1465 : decode cL_law 1465 = .ok (.iadd, 1) := dk_96 (dk_at dksL_law_54 17 rfl rfl)
theorem dL_law_1466 : decode cL_law 1466 = .ok (.iaload, 1) := dk_46 (dk_at dksL_law_54 18 rfl rfl)
theorem dL_law_1467 : decode cL_law 1467 = .ok (.invokevirtual 180, 3) := dk_182 0 180 (dk_at dksL_law_54 19 rfl rfl)
theorem dL_law_1470 : decode cL_law 1470 = .ok (.aload_n 2, 1) := dk_44 (dk_at dksL_law_54 22 rfl rfl)
theorem dL_law_1471 : decode cL_law 1471 = .ok (.aload_n 0, 1) := dk_42 (dk_at dksL_law_54 23 rfl rfl)
theorem dL_law_1472 : decode cL_law 1472 = .ok (.iload_n 3, 1) := dk_29 (dk_at dksL_law_55 0 rfl rfl)
theorem dL_law_1473 : decode cL_law 1473 = .ok (.iconst 1, 1) := dk_4 (dk_at dksL_law_55 1 rfl rfl)
theorem dL_law_1474 : decode cL_law 1474 = .ok (.iadd, 1) := dk_96 (dk_at dksL_law_55 2 rfl rfl)
theorem dL_law_1475 : decode cL_law 1475 = .ok (.iaload, 1) := dk_46 (dk_at dksL_law_55 3 rfl rfl)
theorem dL_law_1476 : decode cL_law 1476 = .ok (.aload_n 0, 1) := dk_42 (dk_at dksL_law_55 4 rfl rfl)
theorem dL_law_1477 : decode cL_law 1477 = .ok (.iload_n 3, 1) := dk_29 (dk_at dksL_law_55 5 rfl rfl)
theorem dL_law_1478 : decode cL_law 1478 = .ok (.iconst 2, 1) := dk_5 (dk_at dksL_law_55 6 rfl rfl)
theorem dL_law_1479 : decode cL_law 1479 = .ok (.iadd, 1) := dk_96 (dk_at dksL_law_55 7 rfl rfl)
theorem dL_law_1480 : decode cL_law 1480 = .ok (.iaload, 1) := dk_46 (dk_at dksL_law_55 8 rfl rfl)
theorem dL_law_1481 : decode cL_law 1481 = .ok (.invokevirtual 183, 3) := dk_182 0 183 (dk_at dksL_law_55 9 rfl rfl)
theorem dL_law_1484 : decode cL_law 1484 = .ok (.if_icmp .eq 228, 3) := dk_159 0 228 (dk_at dksL_law_55 12 rfl rfl)
theorem dL_law_1487 : decode cL_law 1487 = .ok (.iconst 0, 1) := dk_3 (dk_at dksL_law_55 15 rfl rfl)
theorem dL_law_1488 : decode cL_law 1488 = .ok (.ireturn, 1) := dk_172 (dk_at dksL_law_55 16 rfl rfl)
theorem dL_law_1489 : decode cL_law 1489 = .ok (.aload_n 1, 1) := dk_43 (dk_at dksL_law_55 17 rfl rfl)
theorem dL_law_1490 : decode cL_law 1490 = .ok (.aload_n 0, 1) := dk_42 (dk_at dksL_law_55 18 rfl rfl)
theorem dL_law_1491 : decode cL_law 1491 = .ok (.iload_n 3, 1) := dk_29 (dk_at dksL_law_55 19 rfl rfl)
theorem dL_law_1492 : decode cL_law 1492 = .ok (.iconst 1, 1) := dk_4 (dk_at dksL_law_55 20 rfl rfl)
theorem dL_law_1493 : decode cL_law 1493 = .ok (.iadd, 1) := dk_96 (dk_at dksL_law_55 21 rfl rfl)
theorem dL_law_1494 : decode cL_law 1494 = .ok (.iaload, 1) := dk_46 (dk_at dksL_law_55 22 rfl rfl)
theorem dL_law_1495 : decode cL_law 1495 = .ok (.invokevirtual 184, 3) := dk_182 0 184 (dk_at dksL_law_56 0 rfl rfl)
theorem dL_law_1498 : decode cL_law 1498 = .ok (.aload_n 2, 1) := dk_44 (dk_at dksL_law_56 3 rfl rfl)
theorem dL_law_1499 : decode cL_law 1499 = .ok (.aload_n 0, 1) := dk_42 (dk_at dksL_law_56 4 rfl rfl)
theorem dL_law_1500 : decode cL_law 1500 = .ok (.iload_n 3, 1) := dk_29 (dk_at dksL_law_56 5 rfl rfl)
theorem dL_law_1501 : decode cL_law 1501 = .ok (.iconst 1, 1) := dk_4 (dk_at dksL_law_56 6 rfl rfl)
theorem dL_law_1502 : decode cL_law 1502 = .ok (.iadd, 1) := dk_96 (dk_at dksL_law_56 7 rfl rfl)
theorem dL_law_1503 : decode cL_law 1503 = .ok (.iaload, 1) := dk_46 (dk_at dksL_law_56 8 rfl rfl)
theorem dL_law_1504 : decode cL_law 1504 = .ok (.invokevirtual 187, 3) := dk_182 0 187 (dk_at dksL_law_56 9 rfl rfl)
theorem dL_law_1507 : decode cL_law 1507 = .ok (.if_icmp .eq 205, 3) := dk_159 0 205 (dk_at dksL_law_56 12 rfl rfl)
theorem dL_law_1510 : decode cL_law 1510 = .ok (.iconst 0, 1) := dk_3 (dk_at dksL_law_56 15 rfl rfl)
theorem dL_law_1511 : decode cL_law 1511 = .ok (.ireturn, 1) := dk_172 (dk_at dksL_law_56 16 rfl rfl)
theorem dL_law_1512 : decode cL_law 1512 = .ok (.aload_n 1, 1) := dk_43 (dk_at dksL_law_56 17 rfl rfl)
theorem dL_law_1513 : decode cL_law 1513 = .ok (.aload_n 0, 1) := dk_42 (dk_at dksL_law_56 18 rfl rfl)
theorem dL_law_1514 : decode cL_law 1514 = .ok (.iload_n 3, 1) := dk_29 (dk_at dksL_law_56 19 rfl rfl)
theorem dL_law_1515 : decode cL_law 1515 = .ok (.iconst 1, 1) := dk_4 (dk_at dksL_law_56 20 rfl rfl)
theorem dL_law_1516 : decode cL_law 1516 = .ok (.iadd, 1) := dk_96 (dk_at dksL_law_56 21 rfl rfl)
theorem dL_law_1517 : decode cL_law 1517 = .ok (.iaload, 1) := dk_46 (dk_at dksL_law_56 22 rfl rfl)
theorem dL_law_1518 : decode cL_law 1518 = .ok (.invokevirtual 188, 3) := dk_182 0 188 (dk_at dksL_law_57 0 rfl rfl)
theorem dL_law_1521 : decode cL_law 1521 = .ok (.aload_n 2, 1) := dk_44 (dk_at dksL_law_57 3 rfl rfl)
theorem dL_law_1522 : decode cL_law 1522 = .ok (.aload_n 0, 1) := dk_42 (dk_at dksL_law_57 4 rfl rfl)
theorem dL_law_1523 : decode cL_law 1523 = .ok (.iload_n 3, 1) := dk_29 (dk_at dksL_law_57 5 rfl rfl)
theorem dL_law_1524 : decode cL_law 1524 = .ok (.iconst 1, 1) := dk_4 (dk_at dksL_law_57 6 rfl rfl)
theorem dL_law_1525 : decode cL_law 1525 = .ok (.iadd, 1) := dk_96 (dk_at dksL_law_57 7 rfl rfl)
theorem dL_law_1526 : decode cL_law 1526 = .ok (.iaload, 1) := dk_46 (dk_at dksL_law_57 8 rfl rfl)
theorem dL_law_1527 : decode cL_law 1527 = .ok (.invokevirtual 191, 3) := dk_182 0 191 (dk_at dksL_law_57 9 rfl rfl)
theorem dL_law_1530 : decode cL_law 1530 = .ok (.if_icmp .eq 182, 3) := dk_159 0 182 (dk_at dksL_law_57 12 rfl rfl)
theorem dL_law_1533 : decode cL_law 1533 = .ok (.iconst 0, 1) := dk_3 (dk_at dksL_law_57 15 rfl rfl)
theorem dL_law_1534 : decode cL_law 1534 = .ok (.ireturn, 1) := dk_172 (dk_at dksL_law_57 16 rfl rfl)
theorem dL_law_1535 : decode cL_law 1535 = .ok (.aload_n 1, 1) := dk_43 (dk_at dksL_law_57 17 rfl rfl)
theorem dL_law_1536 : decode cL_law 1536 = .ok (.invokevirtual 192, 3) := dk_182 0 192 (dk_at dksL_law_57 18 rfl rfl)
theorem dL_law_1539 : decode cL_law 1539 = .ok (.aload_n 2, 1) := dk_44 (dk_at dksL_law_57 21 rfl rfl)
theorem dL_law_1540 : decode cL_law 1540 = .ok (.invokevirtual 195, 3) := dk_182 0 195 (dk_at dksL_law_58 0 rfl rfl)
theorem dL_law_1543 : decode cL_law 1543 = .ok (.if_icmp .eq 169, 3) := dk_159 0 169 (dk_at dksL_law_58 3 rfl rfl)
theorem dL_law_1546 : decode cL_law 1546 = .ok (.iconst 0, 1) := dk_3 (dk_at dksL_law_58 6 rfl rfl)
theorem dL_law_1547 : decode cL_law 1547 = .ok (.ireturn, 1) := dk_172 (dk_at dksL_law_58 7 rfl rfl)
theorem dL_law_1548 : decode cL_law 1548 = .ok (.aload_n 1, 1) := dk_43 (dk_at dksL_law_58 8 rfl rfl)
theorem dL_law_1549 : decode cL_law 1549 = .ok (.aload_n 0, 1) := dk_42 (dk_at dksL_law_58 9 rfl rfl)
theorem dL_law_1550 : decode cL_law 1550 = .ok (.iload_n 3, 1) := dk_29 (dk_at dksL_law_58 10 rfl rfl)
theorem dL_law_1551 : decode cL_law 1551 = .ok (.iconst 1, 1) := dk_4 (dk_at dksL_law_58 11 rfl rfl)
theorem dL_law_1552 : decode cL_law 1552 = .ok (.iadd, 1) := dk_96 (dk_at dksL_law_58 12 rfl rfl)
theorem dL_law_1553 : decode cL_law 1553 = .ok (.iaload, 1) := dk_46 (dk_at dksL_law_58 13 rfl rfl)
theorem dL_law_1554 : decode cL_law 1554 = .ok (.aload_n 0, 1) := dk_42 (dk_at dksL_law_58 14 rfl rfl)
theorem dL_law_1555 : decode cL_law 1555 = .ok (.iload_n 3, 1) := dk_29 (dk_at dksL_law_58 15 rfl rfl)
theorem dL_law_1556 : decode cL_law 1556 = .ok (.iconst 2, 1) := dk_5 (dk_at dksL_law_58 16 rfl rfl)
theorem dL_law_1557 : decode cL_law 1557 = .ok (.iadd, 1) := dk_96 (dk_at dksL_law_58 17 rfl rfl)
theorem dL_law_1558 : decode cL_law 1558 = .ok (.iaload, 1) := dk_46 (dk_at dksL_law_58 18 rfl rfl)
theorem dL_law_1559 : decode cL_law 1559 = .ok (.invokevirtual 196, 3) := dk_182 0 196 (dk_at dksL_law_58 19 rfl rfl)
theorem dL_law_1562 : decode cL_law 1562 = .ok (.aload_n 2, 1) := dk_44 (dk_at dksL_law_58 22 rfl rfl)
theorem dL_law_1563 : decode cL_law 1563 = .ok (.aload_n 0, 1) := dk_42 (dk_at dksL_law_58 23 rfl rfl)
theorem dL_law_1564 : decode cL_law 1564 = .ok (.iload_n 3, 1) := dk_29 (dk_at dksL_law_59 0 rfl rfl)
theorem dL_law_1565 : decode cL_law 1565 = .ok (.iconst 1, 1) := dk_4 (dk_at dksL_law_59 1 rfl rfl)
theorem dL_law_1566 : decode cL_law 1566 = .ok (.iadd, 1) := dk_96 (dk_at dksL_law_59 2 rfl rfl)
theorem dL_law_1567 : decode cL_law 1567 = .ok (.iaload, 1) := dk_46 (dk_at dksL_law_59 3 rfl rfl)
theorem dL_law_1568 : decode cL_law 1568 = .ok (.aload_n 0, 1) := dk_42 (dk_at dksL_law_59 4 rfl rfl)
theorem dL_law_1569 : decode cL_law 1569 = .ok (.iload_n 3, 1) := dk_29 (dk_at dksL_law_59 5 rfl rfl)
theorem dL_law_1570 : decode cL_law 1570 = .ok (.iconst 2, 1) := dk_5 (dk_at dksL_law_59 6 rfl rfl)
theorem dL_law_1571 : decode cL_law 1571 = .ok (.iadd, 1) := dk_96 (dk_at dksL_law_59 7 rfl rfl)
theorem dL_law_1572 : decode cL_law 1572 = .ok (.iaload, 1) := dk_46 (dk_at dksL_law_59 8 rfl rfl)
theorem dL_law_1573 : decode cL_law 1573 = .ok (.invokevirtual 199, 3) := dk_182 0 199 (dk_at dksL_law_59 9 rfl rfl)
theorem dL_law_1576 : decode cL_law 1576 = .ok (.if_icmp .eq 136, 3) := dk_159 0 136 (dk_at dksL_law_59 12 rfl rfl)
theorem dL_law_1579 : decode cL_law 1579 = .ok (.iconst 0, 1) := dk_3 (dk_at dksL_law_59 15 rfl rfl)
theorem dL_law_1580 : decode cL_law 1580 = .ok (.ireturn, 1) := dk_172 (dk_at dksL_law_59 16 rfl rfl)
theorem dL_law_1581 : decode cL_law 1581 = .ok (.aload_n 1, 1) := dk_43 (dk_at dksL_law_59 17 rfl rfl)
theorem dL_law_1582 : decode cL_law 1582 = .ok (.aload_n 0, 1) := dk_42 (dk_at dksL_law_59 18 rfl rfl)
theorem dL_law_1583 : decode cL_law 1583 = .ok (.iload_n 3, 1) := dk_29 (dk_at dksL_law_59 19 rfl rfl)
theorem dL_law_1584 : decode cL_law 1584 = .ok (.iconst 1, 1) := dk_4 (dk_at dksL_law_59 20 rfl rfl)
theorem dL_law_1585 : decode cL_law 1585 = .ok (.iadd, 1) := dk_96 (dk_at dksL_law_59 21 rfl rfl)
theorem dL_law_1586 : decode cL_law 1586 = .ok (.iaload, 1) := dk_46 (dk_at dksL_law_59 22 rfl rfl)
theorem dL_law_1587 : decode cL_law 1587 = .ok (.invokevirtual 200, 3) := dk_182 0 200 (dk_at dksL_law_60 0 rfl rfl)
theorem dL_law_1590 : decode cL_law 1590 = .ok (.aload_n 2, 1) := dk_44 (dk_at dksL_law_60 3 rfl rfl)
theorem dL_law_1591 : decode cL_law 1591 = .ok (.aload_n 0, 1) := dk_42 (dk_at dksL_law_60 4 rfl rfl)
theorem dL_law_1592 : decode cL_law 1592 = .ok (.iload_n 3, 1) := dk_29 (dk_at dksL_law_60 5 rfl rfl)
theorem dL_law_1593 : decode cL_law 1593 = .ok (.iconst 1, 1) := dk_4 (dk_at dksL_law_60 6 rfl rfl)
theorem dL_law_1594 : decode cL_law 1594 = .ok (.iadd, 1) := dk_96 (dk_at dksL_law_60 7 rfl rfl)
theorem dL_law_1595 : decode cL_law 1595 = .ok (.iaload, 1) := dk_46 (dk_at dksL_law_60 8 rfl rfl)
theorem dL_law_1596 : decode cL_law 1596 = .ok (.invokevirtual 203, 3) := dk_182 0 203 (dk_at dksL_law_60 9 rfl rfl)
theorem dL_law_1599 : decode cL_law 1599 = .ok (.if_icmp .eq 113, 3) := dk_159 0 113 (dk_at dksL_law_60 12 rfl rfl)
theorem dL_law_1602 : decode cL_law 1602 = .ok (.iconst 0, 1) := dk_3 (dk_at dksL_law_60 15 rfl rfl)
theorem dL_law_1603 : decode cL_law 1603 = .ok (.ireturn, 1) := dk_172 (dk_at dksL_law_60 16 rfl rfl)
theorem dL_law_1604 : decode cL_law 1604 = .ok (.aload_n 1, 1) := dk_43 (dk_at dksL_law_60 17 rfl rfl)
theorem dL_law_1605 : decode cL_law 1605 = .ok (.invokevirtual 204, 3) := dk_182 0 204 (dk_at dksL_law_60 18 rfl rfl)
theorem dL_law_1608 : decode cL_law 1608 = .ok (.aload_n 2, 1) := dk_44 (dk_at dksL_law_60 21 rfl rfl)
theorem dL_law_1609 : decode cL_law 1609 = .ok (.invokevirtual 207, 3) := dk_182 0 207 (dk_at dksL_law_61 0 rfl rfl)
theorem dL_law_1612 : decode cL_law 1612 = .ok (.if_icmp .eq 100, 3) := dk_159 0 100 (dk_at dksL_law_61 3 rfl rfl)
theorem dL_law_1615 : decode cL_law 1615 = .ok (.iconst 0, 1) := dk_3 (dk_at dksL_law_61 6 rfl rfl)
theorem dL_law_1616 : decode cL_law 1616 = .ok (.ireturn, 1) := dk_172 (dk_at dksL_law_61 7 rfl rfl)
theorem dL_law_1617 : decode cL_law 1617 = .ok (.aload_n 1, 1) := dk_43 (dk_at dksL_law_61 8 rfl rfl)
theorem dL_law_1618 : decode cL_law 1618 = .ok (.aload_n 0, 1) := dk_42 (dk_at dksL_law_61 9 rfl rfl)
theorem dL_law_1619 : decode cL_law 1619 = .ok (.iload_n 3, 1) := dk_29 (dk_at dksL_law_61 10 rfl rfl)
theorem dL_law_1620 : decode cL_law 1620 = .ok (.iconst 1, 1) := dk_4 (dk_at dksL_law_61 11 rfl rfl)
theorem dL_law_1621 : decode cL_law 1621 = .ok (.iadd, 1) := dk_96 (dk_at dksL_law_61 12 rfl rfl)
theorem dL_law_1622 : decode cL_law 1622 = .ok (.iaload, 1) := dk_46 (dk_at dksL_law_61 13 rfl rfl)
theorem dL_law_1623 : decode cL_law 1623 = .ok (.invokevirtual 208, 3) := dk_182 0 208 (dk_at dksL_law_61 14 rfl rfl)
theorem dL_law_1626 : decode cL_law 1626 = .ok (.aload_n 2, 1) := dk_44 (dk_at dksL_law_61 17 rfl rfl)
theorem dL_law_1627 : decode cL_law 1627 = .ok (.aload_n 0, 1) := dk_42 (dk_at dksL_law_61 18 rfl rfl)
theorem dL_law_1628 : decode cL_law 1628 = .ok (.iload_n 3, 1) := dk_29 (dk_at dksL_law_61 19 rfl rfl)
theorem dL_law_1629 : decode cL_law 1629 = .ok (.iconst 1, 1) := dk_4 (dk_at dksL_law_61 20 rfl rfl)
theorem dL_law_1630 : decode cL_law 1630 = .ok (.iadd, 1) := dk_96 (dk_at dksL_law_61 21 rfl rfl)
theorem dL_law_1631 : decode cL_law 1631 = .ok (.iaload, 1) := dk_46 (dk_at dksL_law_61 22 rfl rfl)
theorem dL_law_1632 : decode cL_law 1632 = .ok (.invokevirtual 211, 3) := dk_182 0 211 (dk_at dksL_law_62 0 rfl rfl)
theorem dL_law_1635 : decode cL_law 1635 = .ok (.if_icmp .eq 77, 3) := dk_159 0 77 (dk_at dksL_law_62 3 rfl rfl)
theorem dL_law_1638 : decode cL_law 1638 = .ok (.iconst 0, 1) := dk_3 (dk_at dksL_law_62 6 rfl rfl)
theorem dL_law_1639 : decode cL_law 1639 = .ok (.ireturn, 1) := dk_172 (dk_at dksL_law_62 7 rfl rfl)
theorem dL_law_1640 : decode cL_law 1640 = .ok (.aload_n 1, 1) := dk_43 (dk_at dksL_law_62 8 rfl rfl)
theorem dL_law_1641 : decode cL_law 1641 = .ok (.aload_n 0, 1) := dk_42 (dk_at dksL_law_62 9 rfl rfl)
theorem dL_law_1642 : decode cL_law 1642 = .ok (.iload_n 3, 1) := dk_29 (dk_at dksL_law_62 10 rfl rfl)
theorem dL_law_1643 : decode cL_law 1643 = .ok (.iconst 1, 1) := dk_4 (dk_at dksL_law_62 11 rfl rfl)
theorem dL_law_1644 : decode cL_law 1644 = .ok (.iadd, 1) := dk_96 (dk_at dksL_law_62 12 rfl rfl)
theorem dL_law_1645 : decode cL_law 1645 = .ok (.iaload, 1) := dk_46 (dk_at dksL_law_62 13 rfl rfl)
theorem dL_law_1646 : decode cL_law 1646 = .ok (.invokevirtual 212, 3) := dk_182 0 212 (dk_at dksL_law_62 14 rfl rfl)
theorem dL_law_1649 : decode cL_law 1649 = .ok (.aload_n 2, 1) := dk_44 (dk_at dksL_law_62 17 rfl rfl)
theorem dL_law_1650 : decode cL_law 1650 = .ok (.aload_n 0, 1) := dk_42 (dk_at dksL_law_62 18 rfl rfl)
theorem dL_law_1651 : decode cL_law 1651 = .ok (.iload_n 3, 1) := dk_29 (dk_at dksL_law_62 19 rfl rfl)
theorem dL_law_1652 : decode cL_law 1652 = .ok (.iconst 1, 1) := dk_4 (dk_at dksL_law_62 20 rfl rfl)
theorem dL_law_1653 : decode cL_law 1653 = .ok (.iadd, 1) := dk_96 (dk_at dksL_law_62 21 rfl rfl)
theorem dL_law_1654 : decode cL_law 1654 = .ok (.iaload, 1) := dk_46 (dk_at dksL_law_62 22 rfl rfl)
theorem dL_law_1655 : decode cL_law 1655 = .ok (.invokevirtual 215, 3) := dk_182 0 215 (dk_at dksL_law_63 0 rfl rfl)
theorem dL_law_1658 : decode cL_law 1658 = .ok (.if_icmp .eq 54, 3) := dk_159 0 54 (dk_at dksL_law_63 3 rfl rfl)
theorem dL_law_1661 : decode cL_law 1661 = .ok (.iconst 0, 1) := dk_3 (dk_at dksL_law_63 6 rfl rfl)
theorem dL_law_1662 : decode cL_law 1662 = .ok (.ireturn, 1) := dk_172 (dk_at dksL_law_63 7 rfl rfl)
theorem dL_law_1663 : decode cL_law 1663 = .ok (.aload_n 1, 1) := dk_43 (dk_at dksL_law_63 8 rfl rfl)
theorem dL_law_1664 : decode cL_law 1664 = .ok (.invokevirtual 216, 3) := dk_182 0 216 (dk_at dksL_law_63 9 rfl rfl)
theorem dL_law_1667 : decode cL_law 1667 = .ok (.aload_n 2, 1) := dk_44 (dk_at dksL_law_63 12 rfl rfl)
theorem dL_law_1668 : decode cL_law 1668 = .ok (.invokevirtual 219, 3) := dk_182 0 219 (dk_at dksL_law_63 13 rfl rfl)
theorem dL_law_1671 : decode cL_law 1671 = .ok (.if_icmp .eq 41, 3) := dk_159 0 41 (dk_at dksL_law_63 16 rfl rfl)
theorem dL_law_1674 : decode cL_law 1674 = .ok (.iconst 0, 1) := dk_3 (dk_at dksL_law_63 19 rfl rfl)
theorem dL_law_1675 : decode cL_law 1675 = .ok (.ireturn, 1) := dk_172 (dk_at dksL_law_63 20 rfl rfl)
theorem dL_law_1676 : decode cL_law 1676 = .ok (.aload_n 1, 1) := dk_43 (dk_at dksL_law_63 21 rfl rfl)
theorem dL_law_1677 : decode cL_law 1677 = .ok (.invokevirtual 220, 3) := dk_182 0 220 (dk_at dksL_law_64 0 rfl rfl)
theorem dL_law_1680 : decode cL_law 1680 = .ok (.aload_n 2, 1) := dk_44 (dk_at dksL_law_64 3 rfl rfl)
theorem dL_law_1681 : decode cL_law 1681 = .ok (.invokevirtual 223, 3) := dk_182 0 223 (dk_at dksL_law_64 4 rfl rfl)
theorem dL_law_1684 : decode cL_law 1684 = .ok (.if_icmp .eq 28, 3) := dk_159 0 28 (dk_at dksL_law_64 7 rfl rfl)
theorem dL_law_1687 : decode cL_law 1687 = .ok (.iconst 0, 1) := dk_3 (dk_at dksL_law_64 10 rfl rfl)
theorem dL_law_1688 : decode cL_law 1688 = .ok (.ireturn, 1) := dk_172 (dk_at dksL_law_64 11 rfl rfl)
theorem dL_law_1689 : decode cL_law 1689 = .ok (.aload_n 1, 1) := dk_43 (dk_at dksL_law_64 12 rfl rfl)
theorem dL_law_1690 : decode cL_law 1690 = .ok (.aload_n 0, 1) := dk_42 (dk_at dksL_law_64 13 rfl rfl)
theorem dL_law_1691 : decode cL_law 1691 = .ok (.iload_n 3, 1) := dk_29 (dk_at dksL_law_64 14 rfl rfl)
theorem dL_law_1692 : decode cL_law 1692 = .ok (.iconst 1, 1) := dk_4 (dk_at dksL_law_64 15 rfl rfl)
theorem dL_law_1693 : decode cL_law 1693 = .ok (.iadd, 1) := dk_96 (dk_at dksL_law_64 16 rfl rfl)
theorem dL_law_1694 : decode cL_law 1694 = .ok (.iaload, 1) := dk_46 (dk_at dksL_law_64 17 rfl rfl)
theorem dL_law_1695 : decode cL_law 1695 = .ok (.invokevirtual 224, 3) := dk_182 0 224 (dk_at dksL_law_64 18 rfl rfl)
theorem dL_law_1698 : decode cL_law 1698 = .ok (.aload_n 2, 1) := dk_44 (dk_at dksL_law_64 21 rfl rfl)
theorem dL_law_1699 : decode cL_law 1699 = .ok (.aload_n 0, 1) := dk_42 (dk_at dksL_law_64 22 rfl rfl)
theorem dL_law_1700 : decode cL_law 1700 = .ok (.iload_n 3, 1) := dk_29 (dk_at dksL_law_64 23 rfl rfl)
theorem dL_law_1701 : decode cL_law 1701 = .ok (.iconst 1, 1) := dk_4 (dk_at dksL_law_65 0 rfl rfl)
theorem dL_law_1702 : decode cL_law 1702 = .ok (.iadd, 1) := dk_96 (dk_at dksL_law_65 1 rfl rfl)
theorem dL_law_1703 : decode cL_law 1703 = .ok (.iaload, 1) := dk_46 (dk_at dksL_law_65 2 rfl rfl)
theorem dL_law_1704 : decode cL_law 1704 = .ok (.invokevirtual 227, 3) := dk_182 0 227 (dk_at dksL_law_65 3 rfl rfl)
theorem dL_law_1707 : decode cL_law 1707 = .ok (.if_icmp .eq 5, 3) := dk_159 0 5 (dk_at dksL_law_65 6 rfl rfl)
theorem dL_law_1710 : decode cL_law 1710 = .ok (.iconst 0, 1) := dk_3 (dk_at dksL_law_65 9 rfl rfl)
theorem dL_law_1711 : decode cL_law 1711 = .ok (.ireturn, 1) := dk_172 (dk_at dksL_law_65 10 rfl rfl)
theorem dL_law_1712 : decode cL_law 1712 = .ok (.iinc 3 6, 3) := dk_132 3 6 (dk_at dksL_law_65 11 rfl rfl)
theorem dL_law_1715 : decode cL_law 1715 = .ok (.goto (-1697), 3) := dk_167 249 95 (dk_at dksL_law_65 14 rfl rfl)
theorem dL_law_1718 : decode cL_law 1718 = .ok (.iconst 1, 1) := dk_4 (dk_at dksL_law_65 17 rfl rfl)
theorem dL_law_1719 : decode cL_law 1719 = .ok (.ireturn, 1) := dk_172 (dk_at dksL_law_65 18 rfl rfl)

theorem q82 : (Jvm.Cond.initialized "SeenInOrderOfAgeLaw") ∈ lw_all := lw_g (lw_at lw_m1 0 rfl) rfl
set_option maxRecDepth 100000
theorem q119 : (Jvm.Cond.classLink "SeenInOrderOfAgeLaw" (7 : Nat) "SeenInOrderOfAge") ∈ lw_all := lw_g (lw_at lw_m1 37 rfl) rfl
theorem q121 : (Jvm.Cond.methodLink "SeenInOrderOfAgeLaw" (9 : Nat) ({ cls := "SeenInOrderOfAge", name := "<init>", desc := "()V" } : Jvm.MethodName)) ∈ lw_all := lw_g (lw_at lw_m1 39 rfl) rfl
theorem q283 : (Jvm.Cond.methodLink "SeenInOrderOfAgeLaw" (13 : Nat) ({ cls := "SeenInOrderOfAge", name := "row", desc := "(III)I" } : Jvm.MethodName)) ∈ lw_all := lw_g (lw_at lw_m1 201 rfl) rfl
theorem q391 : (Jvm.Cond.methodLink "SeenInOrderOfAgeLaw" (20 : Nat) ({ cls := "SeenInOrderOfAge", name := "set", desc := "(IIJ)I" } : Jvm.MethodName)) ∈ lw_all := lw_g (lw_at lw_m2 69 rfl) rfl
theorem q457 : (Jvm.Cond.methodLink "SeenInOrderOfAgeLaw" (25 : Nat) ({ cls := "SeenInOrderOfAge", name := "copy", desc := "(IIIII)I" } : Jvm.MethodName)) ∈ lw_all := lw_g (lw_at lw_m2 135 rfl) rfl
theorem q504 : (Jvm.Cond.methodLink "SeenInOrderOfAgeLaw" (30 : Nat) ({ cls := "SeenInOrderOfAge", name := "element", desc := "(II)J" } : Jvm.MethodName)) ∈ lw_all := lw_g (lw_at lw_m2 182 rfl) rfl
theorem q511 : (Jvm.Cond.methodLink "SeenInOrderOfAgeLaw" (35 : Nat) ({ cls := "SeenInOrderOfAge", name := "holds", desc := "(I)I" } : Jvm.MethodName)) ∈ lw_all := lw_g (lw_at lw_m2 189 rfl) rfl
theorem q515 : (Jvm.Cond.methodLink "SeenInOrderOfAgeLaw" (40 : Nat) ({ cls := "SeenInOrderOfAge", name := "show", desc := "(II)I" } : Jvm.MethodName)) ∈ lw_all := lw_g (lw_at lw_m2 193 rfl) rfl
theorem q524 : (Jvm.Cond.methodLink "SeenInOrderOfAgeLaw" (45 : Nat) ({ cls := "SeenInOrderOfAge", name := "says", desc := "(II)I" } : Jvm.MethodName)) ∈ lw_all := lw_g (lw_at lw_m2 202 rfl) rfl
theorem q647 : (Jvm.Cond.methodLink "SeenInOrderOfAgeLaw" (49 : Nat) ({ cls := "SeenInOrderOfAge", name := "place", desc := "(II)I" } : Jvm.MethodName)) ∈ lw_all := lw_g (lw_at lw_m3 85 rfl) rfl
theorem q657 : (Jvm.Cond.methodLink "SeenInOrderOfAgeLaw" (53 : Nat) ({ cls := "SeenInOrderOfAge", name := "looker", desc := "(III)I" } : Jvm.MethodName)) ∈ lw_all := lw_g (lw_at lw_m3 95 rfl) rfl
theorem q970 : (Jvm.Cond.methodLink "SeenInOrderOfAgeLaw" (57 : Nat) ({ cls := "SeenInOrderOfAge", name := "likes", desc := "(IIZ)I" } : Jvm.MethodName)) ∈ lw_all := lw_g (lw_at lw_m4 168 rfl) rfl
theorem q975 : (Jvm.Cond.methodLink "SeenInOrderOfAgeLaw" (62 : Nat) ({ cls := "SeenInOrderOfAge", name := "tell", desc := "(III)I" } : Jvm.MethodName)) ∈ lw_all := lw_g (lw_at lw_m4 173 rfl) rfl
theorem q979 : (Jvm.Cond.methodLink "SeenInOrderOfAgeLaw" (66 : Nat) ({ cls := "SeenInOrderOfAge", name := "feed", desc := "(I)I" } : Jvm.MethodName)) ∈ lw_all := lw_g (lw_at lw_m4 177 rfl) rfl
theorem q983 : (Jvm.Cond.methodLink "SeenInOrderOfAgeLaw" (70 : Nat) ({ cls := "SeenInOrderOfAge", name := "wipe", desc := "()I" } : Jvm.MethodName)) ∈ lw_all := lw_g (lw_at lw_m4 181 rfl) rfl
theorem q987 : (Jvm.Cond.methodLink "SeenInOrderOfAgeLaw" (75 : Nat) ({ cls := "SeenInOrderOfAge", name := "window", desc := "()I" } : Jvm.MethodName)) ∈ lw_all := lw_g (lw_at lw_m4 185 rfl) rfl
theorem q1187 : (Jvm.Cond.methodLink "SeenInOrderOfAgeLaw" (79 : Nat) ({ cls := "SeenInOrderOfAge", name := "sortAt", desc := "(I)I" } : Jvm.MethodName)) ∈ lw_all := lw_g (lw_at lw_m5 145 rfl) rfl
theorem q1191 : (Jvm.Cond.methodLink "SeenInOrderOfAgeLaw" (83 : Nat) ({ cls := "SeenInOrderOfAge", name := "lookerOf", desc := "(II)I" } : Jvm.MethodName)) ∈ lw_all := lw_g (lw_at lw_m5 149 rfl) rfl
theorem q1215 : (Jvm.Cond.methodLink "SeenInOrderOfAgeLaw" (87 : Nat) ({ cls := "SeenInOrderOfAge", name := "left", desc := "(I)I" } : Jvm.MethodName)) ∈ lw_all := lw_g (lw_at lw_m5 173 rfl) rfl
theorem q1235 : (Jvm.Cond.methodLink "SeenInOrderOfAgeLaw" (91 : Nat) ({ cls := "SeenInOrderOfAge", name := "taken", desc := "(II)I" } : Jvm.MethodName)) ∈ lw_all := lw_g (lw_at lw_m5 193 rfl) rfl
theorem q1239 : (Jvm.Cond.methodLink "SeenInOrderOfAgeLaw" (95 : Nat) ({ cls := "SeenInOrderOfAge", name := "glad", desc := "(II)I" } : Jvm.MethodName)) ∈ lw_all := lw_g (lw_at lw_m5 197 rfl) rfl
theorem q1258 : (Jvm.Cond.methodLink "SeenInOrderOfAgeLaw" (152 : Nat) ({ cls := "SeenInOrderOfAge", name := "places", desc := "()I" } : Jvm.MethodName)) ∈ lw_all := lw_g (lw_at lw_m5 216 rfl) rfl
theorem q1263 : (Jvm.Cond.methodLink "SeenInOrderOfAgeLaw" (156 : Nat) ({ cls := "SeenInOrderOfAge", name := "gladOnes", desc := "(I)I" } : Jvm.MethodName)) ∈ lw_all := lw_g (lw_at lw_m5 221 rfl) rfl
theorem q1267 : (Jvm.Cond.methodLink "SeenInOrderOfAgeLaw" (160 : Nat) ({ cls := "SeenInOrderOfAge", name := "empty", desc := "(I)I" } : Jvm.MethodName)) ∈ lw_all := lw_g (lw_at lw_m5 225 rfl) rfl
theorem q1271 : (Jvm.Cond.methodLink "SeenInOrderOfAgeLaw" (99 : Nat) ({ cls := "SeenInOrderOfAge", name := "order", desc := "(II)I" } : Jvm.MethodName)) ∈ lw_all := lw_g (lw_at lw_m5 229 rfl) rfl
theorem q1280 : (Jvm.Cond.methodLink "SeenInOrderOfAgeLaw" (103 : Nat) ({ cls := "SeenInOrderOfAge", name := "away", desc := "(II)I" } : Jvm.MethodName)) ∈ lw_all := lw_g (lw_at lw_m5 238 rfl) rfl
theorem q1288 : (Jvm.Cond.methodLink "SeenInOrderOfAgeLaw" (107 : Nat) ({ cls := "SeenInOrderOfAge", name := "crowd", desc := "(II)I" } : Jvm.MethodName)) ∈ lw_all := lw_g (lw_at lw_m6 6 rfl) rfl
theorem q1293 : (Jvm.Cond.methodLink "SeenInOrderOfAgeLaw" (164 : Nat) ({ cls := "SeenInOrderOfAge", name := "without", desc := "(I)I" } : Jvm.MethodName)) ∈ lw_all := lw_g (lw_at lw_m6 11 rfl) rfl
theorem q1297 : (Jvm.Cond.methodLink "SeenInOrderOfAgeLaw" (168 : Nat) ({ cls := "SeenInOrderOfAge", name := "exchanged", desc := "(II)I" } : Jvm.MethodName)) ∈ lw_all := lw_g (lw_at lw_m6 15 rfl) rfl
theorem q1310 : (Jvm.Cond.methodLink "SeenInOrderOfAgeLaw" (172 : Nat) ({ cls := "SeenInOrderOfAge", name := "bestPair", desc := "()I" } : Jvm.MethodName)) ∈ lw_all := lw_g (lw_at lw_m6 28 rfl) rfl
theorem q1314 : (Jvm.Cond.methodLink "SeenInOrderOfAgeLaw" (176 : Nat) ({ cls := "SeenInOrderOfAge", name := "oldest", desc := "(I)I" } : Jvm.MethodName)) ∈ lw_all := lw_g (lw_at lw_m6 32 rfl) rfl
theorem q1318 : (Jvm.Cond.methodLink "SeenInOrderOfAgeLaw" (180 : Nat) ({ cls := "SeenInOrderOfAge", name := "twice", desc := "(II)I" } : Jvm.MethodName)) ∈ lw_all := lw_g (lw_at lw_m6 36 rfl) rfl
theorem q1324 : (Jvm.Cond.methodLink "SeenInOrderOfAgeLaw" (184 : Nat) ({ cls := "SeenInOrderOfAge", name := "unlike", desc := "(I)I" } : Jvm.MethodName)) ∈ lw_all := lw_g (lw_at lw_m6 42 rfl) rfl
theorem q1329 : (Jvm.Cond.methodLink "SeenInOrderOfAgeLaw" (111 : Nat) ({ cls := "SeenInOrderOfAge", name := "setOut", desc := "(II)I" } : Jvm.MethodName)) ∈ lw_all := lw_g (lw_at lw_m6 47 rfl) rfl
theorem q1349 : (Jvm.Cond.methodLink "SeenInOrderOfAgeLaw" (115 : Nat) ({ cls := "SeenInOrderOfAge", name := "who", desc := "(II)I" } : Jvm.MethodName)) ∈ lw_all := lw_g (lw_at lw_m6 67 rfl) rfl
theorem q1353 : (Jvm.Cond.methodLink "SeenInOrderOfAgeLaw" (119 : Nat) ({ cls := "SeenInOrderOfAge", name := "kinds", desc := "(IIII)I" } : Jvm.MethodName)) ∈ lw_all := lw_g (lw_at lw_m6 71 rfl) rfl
theorem q1362 : (Jvm.Cond.methodLink "SeenInOrderOfAgeLaw" (124 : Nat) ({ cls := "SeenInOrderOfAge", name := "odds", desc := "(I)I" } : Jvm.MethodName)) ∈ lw_all := lw_g (lw_at lw_m6 80 rfl) rfl
theorem q1379 : (Jvm.Cond.methodLink "SeenInOrderOfAgeLaw" (128 : Nat) ({ cls := "SeenInOrderOfAge", name := "likely", desc := "(I)I" } : Jvm.MethodName)) ∈ lw_all := lw_g (lw_at lw_m6 97 rfl) rfl
theorem q1383 : (Jvm.Cond.methodLink "SeenInOrderOfAgeLaw" (132 : Nat) ({ cls := "SeenInOrderOfAge", name := "gladOdds", desc := "(I)I" } : Jvm.MethodName)) ∈ lw_all := lw_g (lw_at lw_m6 101 rfl) rfl
theorem q1387 : (Jvm.Cond.methodLink "SeenInOrderOfAgeLaw" (136 : Nat) ({ cls := "SeenInOrderOfAge", name := "meanLeft", desc := "()I" } : Jvm.MethodName)) ∈ lw_all := lw_g (lw_at lw_m6 105 rfl) rfl
theorem q1392 : (Jvm.Cond.methodLink "SeenInOrderOfAgeLaw" (140 : Nat) ({ cls := "SeenInOrderOfAge", name := "sorts", desc := "(II)I" } : Jvm.MethodName)) ∈ lw_all := lw_g (lw_at lw_m6 110 rfl) rfl
theorem q1397 : (Jvm.Cond.methodLink "SeenInOrderOfAgeLaw" (144 : Nat) ({ cls := "SeenInOrderOfAge", name := "rare", desc := "(I)I" } : Jvm.MethodName)) ∈ lw_all := lw_g (lw_at lw_m6 115 rfl) rfl
theorem q1401 : (Jvm.Cond.methodLink "SeenInOrderOfAgeLaw" (148 : Nat) ({ cls := "SeenInOrderOfAge", name := "first", desc := "(I)I" } : Jvm.MethodName)) ∈ lw_all := lw_g (lw_at lw_m6 119 rfl) rfl
theorem q1413 : (Jvm.Cond.methodLink "SeenInOrderOfAgeLaw" (188 : Nat) ({ cls := "SeenInOrderOfAge", name := "next", desc := "(I)I" } : Jvm.MethodName)) ∈ lw_all := lw_g (lw_at lw_m6 131 rfl) rfl
theorem q1433 : (Jvm.Cond.methodLink "SeenInOrderOfAgeLaw" (192 : Nat) ({ cls := "SeenInOrderOfAge", name := "swapped", desc := "()I" } : Jvm.MethodName)) ∈ lw_all := lw_g (lw_at lw_m6 151 rfl) rfl
theorem q1441 : (Jvm.Cond.methodLink "SeenInOrderOfAgeLaw" (196 : Nat) ({ cls := "SeenInOrderOfAge", name := "judge", desc := "(II)I" } : Jvm.MethodName)) ∈ lw_all := lw_g (lw_at lw_m6 159 rfl) rfl
theorem q1458 : (Jvm.Cond.methodLink "SeenInOrderOfAgeLaw" (200 : Nat) ({ cls := "SeenInOrderOfAge", name := "evening", desc := "(I)I" } : Jvm.MethodName)) ∈ lw_all := lw_g (lw_at lw_m6 176 rfl) rfl
theorem q1472 : (Jvm.Cond.methodLink "SeenInOrderOfAgeLaw" (204 : Nat) ({ cls := "SeenInOrderOfAge", name := "swap", desc := "()I" } : Jvm.MethodName)) ∈ lw_all := lw_g (lw_at lw_m6 190 rfl) rfl
theorem q1476 : (Jvm.Cond.methodLink "SeenInOrderOfAgeLaw" (208 : Nat) ({ cls := "SeenInOrderOfAge", name := "christmases", desc := "(I)I" } : Jvm.MethodName)) ∈ lw_all := lw_g (lw_at lw_m6 194 rfl) rfl
theorem q1489 : (Jvm.Cond.methodLink "SeenInOrderOfAgeLaw" (212 : Nat) ({ cls := "SeenInOrderOfAge", name := "seed", desc := "(I)I" } : Jvm.MethodName)) ∈ lw_all := lw_g (lw_at lw_m6 207 rfl) rfl
theorem q1493 : (Jvm.Cond.methodLink "SeenInOrderOfAgeLaw" (216 : Nat) ({ cls := "SeenInOrderOfAge", name := "image", desc := "()I" } : Jvm.MethodName)) ∈ lw_all := lw_g (lw_at lw_m6 211 rfl) rfl
theorem q1497 : (Jvm.Cond.methodLink "SeenInOrderOfAgeLaw" (220 : Nat) ({ cls := "SeenInOrderOfAge", name := "back", desc := "()I" } : Jvm.MethodName)) ∈ lw_all := lw_g (lw_at lw_m6 215 rfl) rfl
theorem q1501 : (Jvm.Cond.methodLink "SeenInOrderOfAgeLaw" (224 : Nat) ({ cls := "SeenInOrderOfAge", name := "status", desc := "(I)I" } : Jvm.MethodName)) ∈ lw_all := lw_g (lw_at lw_m6 219 rfl) rfl
theorem q1517 : (Jvm.Cond.classLink "SeenInOrderOfAgeLaw" (10 : Nat) "SeenInOrderOfAgeModel") ∈ lw_all := lw_g (lw_at lw_m6 235 rfl) rfl
theorem q1519 : (Jvm.Cond.methodLink "SeenInOrderOfAgeLaw" (12 : Nat) ({ cls := "SeenInOrderOfAgeModel", name := "<init>", desc := "()V" } : Jvm.MethodName)) ∈ lw_all := lw_g (lw_at lw_m6 237 rfl) rfl
theorem q1623 : (Jvm.Cond.methodLink "SeenInOrderOfAgeLaw" (17 : Nat) ({ cls := "SeenInOrderOfAgeModel", name := "row", desc := "(III)I" } : Jvm.MethodName)) ∈ lw_all := lw_g (lw_at lw_m7 101 rfl) rfl
theorem q1637 : (Jvm.Cond.methodLink "SeenInOrderOfAgeLaw" (24 : Nat) ({ cls := "SeenInOrderOfAgeModel", name := "set", desc := "(IIJ)I" } : Jvm.MethodName)) ∈ lw_all := lw_g (lw_at lw_m7 115 rfl) rfl
theorem q1652 : (Jvm.Cond.methodLink "SeenInOrderOfAgeLaw" (29 : Nat) ({ cls := "SeenInOrderOfAgeModel", name := "copy", desc := "(IIIII)I" } : Jvm.MethodName)) ∈ lw_all := lw_g (lw_at lw_m7 130 rfl) rfl
theorem q1656 : (Jvm.Cond.methodLink "SeenInOrderOfAgeLaw" (34 : Nat) ({ cls := "SeenInOrderOfAgeModel", name := "element", desc := "(II)J" } : Jvm.MethodName)) ∈ lw_all := lw_g (lw_at lw_m7 134 rfl) rfl
theorem q1660 : (Jvm.Cond.methodLink "SeenInOrderOfAgeLaw" (39 : Nat) ({ cls := "SeenInOrderOfAgeModel", name := "holds", desc := "(I)I" } : Jvm.MethodName)) ∈ lw_all := lw_g (lw_at lw_m7 138 rfl) rfl
theorem q1664 : (Jvm.Cond.methodLink "SeenInOrderOfAgeLaw" (44 : Nat) ({ cls := "SeenInOrderOfAgeModel", name := "show", desc := "(II)I" } : Jvm.MethodName)) ∈ lw_all := lw_g (lw_at lw_m7 142 rfl) rfl
theorem q1672 : (Jvm.Cond.methodLink "SeenInOrderOfAgeLaw" (48 : Nat) ({ cls := "SeenInOrderOfAgeModel", name := "says", desc := "(II)I" } : Jvm.MethodName)) ∈ lw_all := lw_g (lw_at lw_m7 150 rfl) rfl
theorem q1726 : (Jvm.Cond.methodLink "SeenInOrderOfAgeLaw" (52 : Nat) ({ cls := "SeenInOrderOfAgeModel", name := "place", desc := "(II)I" } : Jvm.MethodName)) ∈ lw_all := lw_g (lw_at lw_m7 204 rfl) rfl
theorem q1733 : (Jvm.Cond.methodLink "SeenInOrderOfAgeLaw" (56 : Nat) ({ cls := "SeenInOrderOfAgeModel", name := "looker", desc := "(III)I" } : Jvm.MethodName)) ∈ lw_all := lw_g (lw_at lw_m7 211 rfl) rfl
theorem q1744 : (Jvm.Cond.methodLink "SeenInOrderOfAgeLaw" (61 : Nat) ({ cls := "SeenInOrderOfAgeModel", name := "likes", desc := "(IIZ)I" } : Jvm.MethodName)) ∈ lw_all := lw_g (lw_at lw_m7 222 rfl) rfl
theorem q1748 : (Jvm.Cond.methodLink "SeenInOrderOfAgeLaw" (65 : Nat) ({ cls := "SeenInOrderOfAgeModel", name := "tell", desc := "(III)I" } : Jvm.MethodName)) ∈ lw_all := lw_g (lw_at lw_m7 226 rfl) rfl
theorem q1752 : (Jvm.Cond.methodLink "SeenInOrderOfAgeLaw" (69 : Nat) ({ cls := "SeenInOrderOfAgeModel", name := "feed", desc := "(I)I" } : Jvm.MethodName)) ∈ lw_all := lw_g (lw_at lw_m7 230 rfl) rfl
theorem q1756 : (Jvm.Cond.methodLink "SeenInOrderOfAgeLaw" (74 : Nat) ({ cls := "SeenInOrderOfAgeModel", name := "wipe", desc := "()I" } : Jvm.MethodName)) ∈ lw_all := lw_g (lw_at lw_m7 234 rfl) rfl
theorem q1760 : (Jvm.Cond.methodLink "SeenInOrderOfAgeLaw" (78 : Nat) ({ cls := "SeenInOrderOfAgeModel", name := "window", desc := "()I" } : Jvm.MethodName)) ∈ lw_all := lw_g (lw_at lw_m7 238 rfl) rfl
theorem q1812 : (Jvm.Cond.methodLink "SeenInOrderOfAgeLaw" (82 : Nat) ({ cls := "SeenInOrderOfAgeModel", name := "sortAt", desc := "(I)I" } : Jvm.MethodName)) ∈ lw_all := lw_g (lw_at lw_m8 50 rfl) rfl
theorem q1816 : (Jvm.Cond.methodLink "SeenInOrderOfAgeLaw" (86 : Nat) ({ cls := "SeenInOrderOfAgeModel", name := "lookerOf", desc := "(II)I" } : Jvm.MethodName)) ∈ lw_all := lw_g (lw_at lw_m8 54 rfl) rfl
theorem q1820 : (Jvm.Cond.methodLink "SeenInOrderOfAgeLaw" (90 : Nat) ({ cls := "SeenInOrderOfAgeModel", name := "left", desc := "(I)I" } : Jvm.MethodName)) ∈ lw_all := lw_g (lw_at lw_m8 58 rfl) rfl
theorem q1832 : (Jvm.Cond.methodLink "SeenInOrderOfAgeLaw" (94 : Nat) ({ cls := "SeenInOrderOfAgeModel", name := "taken", desc := "(II)I" } : Jvm.MethodName)) ∈ lw_all := lw_g (lw_at lw_m8 70 rfl) rfl
theorem q1836 : (Jvm.Cond.methodLink "SeenInOrderOfAgeLaw" (98 : Nat) ({ cls := "SeenInOrderOfAgeModel", name := "glad", desc := "(II)I" } : Jvm.MethodName)) ∈ lw_all := lw_g (lw_at lw_m8 74 rfl) rfl
theorem q1848 : (Jvm.Cond.methodLink "SeenInOrderOfAgeLaw" (102 : Nat) ({ cls := "SeenInOrderOfAgeModel", name := "order", desc := "(II)I" } : Jvm.MethodName)) ∈ lw_all := lw_g (lw_at lw_m8 86 rfl) rfl
theorem q1853 : (Jvm.Cond.methodLink "SeenInOrderOfAgeLaw" (106 : Nat) ({ cls := "SeenInOrderOfAgeModel", name := "away", desc := "(II)I" } : Jvm.MethodName)) ∈ lw_all := lw_g (lw_at lw_m8 91 rfl) rfl
theorem q1857 : (Jvm.Cond.methodLink "SeenInOrderOfAgeLaw" (110 : Nat) ({ cls := "SeenInOrderOfAgeModel", name := "crowd", desc := "(II)I" } : Jvm.MethodName)) ∈ lw_all := lw_g (lw_at lw_m8 95 rfl) rfl
theorem q1861 : (Jvm.Cond.methodLink "SeenInOrderOfAgeLaw" (114 : Nat) ({ cls := "SeenInOrderOfAgeModel", name := "setOut", desc := "(II)I" } : Jvm.MethodName)) ∈ lw_all := lw_g (lw_at lw_m8 99 rfl) rfl
theorem q1869 : (Jvm.Cond.methodLink "SeenInOrderOfAgeLaw" (118 : Nat) ({ cls := "SeenInOrderOfAgeModel", name := "who", desc := "(II)I" } : Jvm.MethodName)) ∈ lw_all := lw_g (lw_at lw_m8 107 rfl) rfl
theorem q1876 : (Jvm.Cond.methodLink "SeenInOrderOfAgeLaw" (123 : Nat) ({ cls := "SeenInOrderOfAgeModel", name := "kinds", desc := "(IIII)I" } : Jvm.MethodName)) ∈ lw_all := lw_g (lw_at lw_m8 114 rfl) rfl
theorem q1880 : (Jvm.Cond.methodLink "SeenInOrderOfAgeLaw" (127 : Nat) ({ cls := "SeenInOrderOfAgeModel", name := "odds", desc := "(I)I" } : Jvm.MethodName)) ∈ lw_all := lw_g (lw_at lw_m8 118 rfl) rfl
theorem q1894 : (Jvm.Cond.methodLink "SeenInOrderOfAgeLaw" (131 : Nat) ({ cls := "SeenInOrderOfAgeModel", name := "likely", desc := "(I)I" } : Jvm.MethodName)) ∈ lw_all := lw_g (lw_at lw_m8 132 rfl) rfl
theorem q1898 : (Jvm.Cond.methodLink "SeenInOrderOfAgeLaw" (135 : Nat) ({ cls := "SeenInOrderOfAgeModel", name := "gladOdds", desc := "(I)I" } : Jvm.MethodName)) ∈ lw_all := lw_g (lw_at lw_m8 136 rfl) rfl
theorem q1902 : (Jvm.Cond.methodLink "SeenInOrderOfAgeLaw" (139 : Nat) ({ cls := "SeenInOrderOfAgeModel", name := "meanLeft", desc := "()I" } : Jvm.MethodName)) ∈ lw_all := lw_g (lw_at lw_m8 140 rfl) rfl
theorem q1907 : (Jvm.Cond.methodLink "SeenInOrderOfAgeLaw" (163 : Nat) ({ cls := "SeenInOrderOfAgeModel", name := "empty", desc := "(I)I" } : Jvm.MethodName)) ∈ lw_all := lw_g (lw_at lw_m8 145 rfl) rfl
theorem q1911 : (Jvm.Cond.methodLink "SeenInOrderOfAgeLaw" (167 : Nat) ({ cls := "SeenInOrderOfAgeModel", name := "without", desc := "(I)I" } : Jvm.MethodName)) ∈ lw_all := lw_g (lw_at lw_m8 149 rfl) rfl
theorem q1915 : (Jvm.Cond.methodLink "SeenInOrderOfAgeLaw" (171 : Nat) ({ cls := "SeenInOrderOfAgeModel", name := "exchanged", desc := "(II)I" } : Jvm.MethodName)) ∈ lw_all := lw_g (lw_at lw_m8 153 rfl) rfl
theorem q1923 : (Jvm.Cond.methodLink "SeenInOrderOfAgeLaw" (175 : Nat) ({ cls := "SeenInOrderOfAgeModel", name := "bestPair", desc := "()I" } : Jvm.MethodName)) ∈ lw_all := lw_g (lw_at lw_m8 161 rfl) rfl
theorem q1927 : (Jvm.Cond.methodLink "SeenInOrderOfAgeLaw" (159 : Nat) ({ cls := "SeenInOrderOfAgeModel", name := "gladOnes", desc := "(I)I" } : Jvm.MethodName)) ∈ lw_all := lw_g (lw_at lw_m8 165 rfl) rfl
theorem q1931 : (Jvm.Cond.methodLink "SeenInOrderOfAgeLaw" (179 : Nat) ({ cls := "SeenInOrderOfAgeModel", name := "oldest", desc := "(I)I" } : Jvm.MethodName)) ∈ lw_all := lw_g (lw_at lw_m8 169 rfl) rfl
theorem q1935 : (Jvm.Cond.methodLink "SeenInOrderOfAgeLaw" (183 : Nat) ({ cls := "SeenInOrderOfAgeModel", name := "twice", desc := "(II)I" } : Jvm.MethodName)) ∈ lw_all := lw_g (lw_at lw_m8 173 rfl) rfl
theorem q1939 : (Jvm.Cond.methodLink "SeenInOrderOfAgeLaw" (187 : Nat) ({ cls := "SeenInOrderOfAgeModel", name := "unlike", desc := "(I)I" } : Jvm.MethodName)) ∈ lw_all := lw_g (lw_at lw_m8 177 rfl) rfl
theorem q1943 : (Jvm.Cond.methodLink "SeenInOrderOfAgeLaw" (155 : Nat) ({ cls := "SeenInOrderOfAgeModel", name := "places", desc := "()I" } : Jvm.MethodName)) ∈ lw_all := lw_g (lw_at lw_m8 181 rfl) rfl
theorem q1947 : (Jvm.Cond.methodLink "SeenInOrderOfAgeLaw" (143 : Nat) ({ cls := "SeenInOrderOfAgeModel", name := "sorts", desc := "(II)I" } : Jvm.MethodName)) ∈ lw_all := lw_g (lw_at lw_m8 185 rfl) rfl
theorem q1955 : (Jvm.Cond.methodLink "SeenInOrderOfAgeLaw" (147 : Nat) ({ cls := "SeenInOrderOfAgeModel", name := "rare", desc := "(I)I" } : Jvm.MethodName)) ∈ lw_all := lw_g (lw_at lw_m8 193 rfl) rfl
theorem q1959 : (Jvm.Cond.methodLink "SeenInOrderOfAgeLaw" (151 : Nat) ({ cls := "SeenInOrderOfAgeModel", name := "first", desc := "(I)I" } : Jvm.MethodName)) ∈ lw_all := lw_g (lw_at lw_m8 197 rfl) rfl
theorem q1967 : (Jvm.Cond.methodLink "SeenInOrderOfAgeLaw" (191 : Nat) ({ cls := "SeenInOrderOfAgeModel", name := "next", desc := "(I)I" } : Jvm.MethodName)) ∈ lw_all := lw_g (lw_at lw_m8 205 rfl) rfl
theorem q1987 : (Jvm.Cond.methodLink "SeenInOrderOfAgeLaw" (195 : Nat) ({ cls := "SeenInOrderOfAgeModel", name := "swapped", desc := "()I" } : Jvm.MethodName)) ∈ lw_all := lw_g (lw_at lw_m8 225 rfl) rfl
theorem q1995 : (Jvm.Cond.methodLink "SeenInOrderOfAgeLaw" (199 : Nat) ({ cls := "SeenInOrderOfAgeModel", name := "judge", desc := "(II)I" } : Jvm.MethodName)) ∈ lw_all := lw_g (lw_at lw_m8 233 rfl) rfl
theorem q2007 : (Jvm.Cond.methodLink "SeenInOrderOfAgeLaw" (203 : Nat) ({ cls := "SeenInOrderOfAgeModel", name := "evening", desc := "(I)I" } : Jvm.MethodName)) ∈ lw_all := lw_g (lw_at lw_m9 5 rfl) rfl
theorem q2016 : (Jvm.Cond.methodLink "SeenInOrderOfAgeLaw" (207 : Nat) ({ cls := "SeenInOrderOfAgeModel", name := "swap", desc := "()I" } : Jvm.MethodName)) ∈ lw_all := lw_g (lw_at lw_m9 14 rfl) rfl
theorem q2021 : (Jvm.Cond.methodLink "SeenInOrderOfAgeLaw" (211 : Nat) ({ cls := "SeenInOrderOfAgeModel", name := "christmases", desc := "(I)I" } : Jvm.MethodName)) ∈ lw_all := lw_g (lw_at lw_m9 19 rfl) rfl
theorem q2030 : (Jvm.Cond.methodLink "SeenInOrderOfAgeLaw" (215 : Nat) ({ cls := "SeenInOrderOfAgeModel", name := "seed", desc := "(I)I" } : Jvm.MethodName)) ∈ lw_all := lw_g (lw_at lw_m9 28 rfl) rfl
theorem q2034 : (Jvm.Cond.methodLink "SeenInOrderOfAgeLaw" (219 : Nat) ({ cls := "SeenInOrderOfAgeModel", name := "image", desc := "()I" } : Jvm.MethodName)) ∈ lw_all := lw_g (lw_at lw_m9 32 rfl) rfl
theorem q2038 : (Jvm.Cond.methodLink "SeenInOrderOfAgeLaw" (223 : Nat) ({ cls := "SeenInOrderOfAgeModel", name := "back", desc := "()I" } : Jvm.MethodName)) ∈ lw_all := lw_g (lw_at lw_m9 36 rfl) rfl
theorem q2042 : (Jvm.Cond.methodLink "SeenInOrderOfAgeLaw" (227 : Nat) ({ cls := "SeenInOrderOfAgeModel", name := "status", desc := "(I)I" } : Jvm.MethodName)) ∈ lw_all := lw_g (lw_at lw_m9 40 rfl) rfl
theorem q2046 : (Jvm.Cond.constantLong "SeenInOrderOfAgeLaw" (18 : Nat) (4294967295 : Int64)) ∈ lw_all := lw_g (lw_at lw_m9 44 rfl) rfl

