/-! the law's own entry -/
set_option maxRecDepth 100000
abbrev cL_law : ByteArray := code
def dkwL_law_75 : List UInt8 := [182, 0, 221, 159, 0, 5, 3, 172, 132, 4, 4, 167, 248, 194, 4, 172]
abbrev dktL_law_75 : List UInt8 := dkwL_law_75 ++ []
def dkwL_law_74 : List UInt8 := [24, 5, 151, 153, 0, 11, 24, 7, 24, 7, 151, 154, 0, 5, 3, 172, 167, 0, 16, 43, 182, 0, 218, 44]
abbrev dktL_law_74 : List UInt8 := dkwL_law_74 ++ dktL_law_75
def dkwL_law_73 : List UInt8 := [182, 0, 213, 141, 57, 5, 44, 182, 0, 217, 141, 57, 7, 24, 5, 24, 7, 151, 153, 0, 21, 24, 5]
abbrev dktL_law_73 : List UInt8 := dkwL_law_73 ++ dktL_law_74
def dkwL_law_72 : List UInt8 := [24, 5, 24, 5, 151, 153, 0, 11, 24, 7, 24, 7, 151, 154, 0, 5, 3, 172, 167, 0, 59, 43]
abbrev dktL_law_72 : List UInt8 := dkwL_law_72 ++ dktL_law_73
def dkwL_law_71 : List UInt8 := [167, 0, 100, 43, 182, 0, 208, 57, 5, 44, 182, 0, 212, 57, 7, 24, 5, 24, 7, 151, 153, 0, 21]
abbrev dktL_law_71 : List UInt8 := dkwL_law_71 ++ dktL_law_72
def dkwL_law_70 : List UInt8 := [21, 5, 159, 0, 5, 3, 172, 21, 5, 154, 0, 15, 45, 3, 47, 21, 6, 133, 148, 153, 0, 5, 3, 172]
abbrev dktL_law_70 : List UInt8 := dkwL_law_70 ++ dktL_law_71
def dkwL_law_69 : List UInt8 := [96, 46, 45, 184, 0, 205, 54, 5, 44, 42, 21, 4, 4, 96, 46, 182, 0, 207, 54, 6, 44, 182, 0, 112]
abbrev dktL_law_69 : List UInt8 := dkwL_law_69 ++ dktL_law_70
def dkwL_law_68 : List UInt8 := [21, 6, 153, 0, 7, 10, 167, 0, 4, 9, 148, 153, 0, 5, 3, 172, 167, 0, 156, 43, 42, 21, 4, 4]
abbrev dktL_law_68 : List UInt8 := dkwL_law_68 ++ dktL_law_69
def dkwL_law_67 : List UInt8 := [182, 0, 204, 54, 6, 44, 182, 0, 112, 21, 5, 159, 0, 5, 3, 172, 21, 5, 154, 0, 22, 45, 3, 47]
abbrev dktL_law_67 : List UInt8 := dkwL_law_67 ++ dktL_law_68
def dkwL_law_66 : List UInt8 := [167, 0, 219, 43, 42, 21, 4, 4, 96, 46, 45, 184, 0, 202, 54, 5, 44, 42, 21, 4, 4, 96, 46]
abbrev dktL_law_66 : List UInt8 := dkwL_law_66 ++ dktL_law_67
def dkwL_law_65 : List UInt8 := [21, 5, 159, 0, 5, 3, 172, 21, 5, 154, 0, 15, 45, 3, 47, 21, 6, 133, 148, 153, 0, 5, 3, 172]
abbrev dktL_law_65 : List UInt8 := dkwL_law_65 ++ dktL_law_66
def dkwL_law_64 : List UInt8 := [46, 45, 184, 0, 199, 54, 5, 44, 42, 21, 4, 4, 96, 46, 182, 0, 201, 54, 6, 44, 182, 0, 112]
abbrev dktL_law_64 : List UInt8 := dkwL_law_64 ++ dktL_law_65
def dkwL_law_63 : List UInt8 := [154, 0, 15, 45, 3, 47, 21, 6, 133, 148, 153, 0, 5, 3, 172, 167, 1, 19, 43, 42, 21, 4, 4, 96]
abbrev dktL_law_63 : List UInt8 := dkwL_law_63 ++ dktL_law_64
def dkwL_law_62 : List UInt8 := [21, 4, 4, 96, 46, 182, 0, 198, 54, 6, 44, 182, 0, 112, 21, 5, 159, 0, 5, 3, 172, 21, 5]
abbrev dktL_law_62 : List UInt8 := dkwL_law_62 ++ dktL_law_63
def dkwL_law_61 : List UInt8 := [148, 153, 0, 5, 3, 172, 167, 1, 75, 43, 42, 21, 4, 4, 96, 46, 45, 184, 0, 196, 54, 5, 44, 42]
abbrev dktL_law_61 : List UInt8 := dkwL_law_61 ++ dktL_law_62
def dkwL_law_60 : List UInt8 := [54, 6, 44, 182, 0, 112, 21, 5, 159, 0, 5, 3, 172, 21, 5, 154, 0, 15, 45, 3, 47, 21, 6, 133]
abbrev dktL_law_60 : List UInt8 := dkwL_law_60 ++ dktL_law_61
def dkwL_law_59 : List UInt8 := [21, 6, 133, 148, 153, 0, 5, 3, 172, 167, 1, 119, 43, 45, 184, 0, 193, 54, 5, 44, 182, 0, 195]
abbrev dktL_law_59 : List UInt8 := dkwL_law_59 ++ dktL_law_60
def dkwL_law_58 : List UInt8 := [182, 0, 192, 54, 6, 44, 182, 0, 112, 21, 5, 159, 0, 5, 3, 172, 21, 5, 154, 0, 15, 45, 3, 47]
abbrev dktL_law_58 : List UInt8 := dkwL_law_58 ++ dktL_law_59
def dkwL_law_57 : List UInt8 := [167, 1, 175, 43, 42, 21, 4, 4, 96, 46, 45, 184, 0, 190, 54, 5, 44, 42, 21, 4, 4, 96, 46]
abbrev dktL_law_57 : List UInt8 := dkwL_law_57 ++ dktL_law_58
def dkwL_law_56 : List UInt8 := [21, 5, 159, 0, 5, 3, 172, 21, 5, 154, 0, 15, 45, 3, 47, 21, 6, 133, 148, 153, 0, 5, 3, 172]
abbrev dktL_law_56 : List UInt8 := dkwL_law_56 ++ dktL_law_57
def dkwL_law_55 : List UInt8 := [46, 45, 184, 0, 187, 54, 5, 44, 42, 21, 4, 4, 96, 46, 182, 0, 189, 54, 6, 44, 182, 0, 112]
abbrev dktL_law_55 : List UInt8 := dkwL_law_55 ++ dktL_law_56
def dkwL_law_54 : List UInt8 := [154, 0, 15, 45, 3, 47, 21, 6, 133, 148, 153, 0, 5, 3, 172, 167, 1, 231, 43, 42, 21, 4, 4, 96]
abbrev dktL_law_54 : List UInt8 := dkwL_law_54 ++ dktL_law_55
def dkwL_law_53 : List UInt8 := [184, 0, 184, 54, 5, 44, 182, 0, 186, 54, 6, 44, 182, 0, 112, 21, 5, 159, 0, 5, 3, 172, 21, 5]
abbrev dktL_law_53 : List UInt8 := dkwL_law_53 ++ dktL_law_54
def dkwL_law_52 : List UInt8 := [172, 21, 5, 154, 0, 15, 45, 3, 47, 21, 6, 133, 148, 153, 0, 5, 3, 172, 167, 2, 19, 43, 45]
abbrev dktL_law_52 : List UInt8 := dkwL_law_52 ++ dktL_law_53
def dkwL_law_51 : List UInt8 := [54, 5, 44, 42, 21, 4, 4, 96, 46, 182, 0, 183, 54, 6, 44, 182, 0, 112, 21, 5, 159, 0, 5, 3]
abbrev dktL_law_51 : List UInt8 := dkwL_law_51 ++ dktL_law_52
def dkwL_law_50 : List UInt8 := [21, 6, 133, 148, 153, 0, 5, 3, 172, 167, 2, 75, 43, 42, 21, 4, 4, 96, 46, 45, 184, 0, 181]
abbrev dktL_law_50 : List UInt8 := dkwL_law_50 ++ dktL_law_51
def dkwL_law_49 : List UInt8 := [182, 0, 180, 54, 6, 44, 182, 0, 112, 21, 5, 159, 0, 5, 3, 172, 21, 5, 154, 0, 15, 45, 3, 47]
abbrev dktL_law_49 : List UInt8 := dkwL_law_49 ++ dktL_law_50
def dkwL_law_48 : List UInt8 := [167, 2, 131, 43, 42, 21, 4, 4, 96, 46, 45, 184, 0, 178, 54, 5, 44, 42, 21, 4, 4, 96, 46]
abbrev dktL_law_48 : List UInt8 := dkwL_law_48 ++ dktL_law_49
def dkwL_law_47 : List UInt8 := [21, 5, 159, 0, 5, 3, 172, 21, 5, 154, 0, 15, 45, 3, 47, 21, 6, 133, 148, 153, 0, 5, 3, 172]
abbrev dktL_law_47 : List UInt8 := dkwL_law_47 ++ dktL_law_48
def dkwL_law_46 : List UInt8 := [96, 46, 45, 184, 0, 175, 54, 5, 44, 42, 21, 4, 4, 96, 46, 182, 0, 177, 54, 6, 44, 182, 0, 112]
abbrev dktL_law_46 : List UInt8 := dkwL_law_46 ++ dktL_law_47
def dkwL_law_45 : List UInt8 := [21, 6, 153, 0, 7, 10, 167, 0, 4, 9, 148, 153, 0, 5, 3, 172, 167, 2, 187, 43, 42, 21, 4, 4]
abbrev dktL_law_45 : List UInt8 := dkwL_law_45 ++ dktL_law_46
def dkwL_law_44 : List UInt8 := [182, 0, 174, 54, 6, 44, 182, 0, 112, 21, 5, 159, 0, 5, 3, 172, 21, 5, 154, 0, 22, 45, 3, 47]
abbrev dktL_law_44 : List UInt8 := dkwL_law_44 ++ dktL_law_45
def dkwL_law_43 : List UInt8 := [3, 172, 43, 182, 0, 167, 44, 182, 0, 170, 159, 2, 240, 3, 172, 43, 45, 184, 0, 171, 54, 5, 44]
abbrev dktL_law_43 : List UInt8 := dkwL_law_43 ++ dktL_law_44
def dkwL_law_42 : List UInt8 := [21, 6, 133, 148, 153, 0, 5, 3, 172, 167, 3, 9, 43, 182, 0, 163, 44, 182, 0, 166, 148, 153, 2, 253]
abbrev dktL_law_42 : List UInt8 := dkwL_law_42 ++ dktL_law_43
def dkwL_law_41 : List UInt8 := [182, 0, 162, 54, 6, 44, 182, 0, 112, 21, 5, 159, 0, 5, 3, 172, 21, 5, 154, 0, 15, 45, 3, 47]
abbrev dktL_law_41 : List UInt8 := dkwL_law_41 ++ dktL_law_42
def dkwL_law_40 : List UInt8 := [167, 3, 65, 43, 42, 21, 4, 4, 96, 46, 45, 184, 0, 160, 54, 5, 44, 42, 21, 4, 4, 96, 46]
abbrev dktL_law_40 : List UInt8 := dkwL_law_40 ++ dktL_law_41
def dkwL_law_39 : List UInt8 := [159, 0, 5, 3, 172, 21, 5, 154, 0, 15, 45, 3, 47, 21, 6, 133, 148, 153, 0, 5, 3, 172]
abbrev dktL_law_39 : List UInt8 := dkwL_law_39 ++ dktL_law_40
def dkwL_law_38 : List UInt8 := [45, 184, 0, 157, 54, 5, 44, 42, 21, 4, 4, 96, 46, 182, 0, 159, 54, 6, 44, 182, 0, 112, 21, 5]
abbrev dktL_law_38 : List UInt8 := dkwL_law_38 ++ dktL_law_39
def dkwL_law_37 : List UInt8 := [154, 0, 14, 45, 3, 47, 22, 6, 148, 153, 0, 5, 3, 172, 167, 3, 121, 43, 42, 21, 4, 4, 96, 46]
abbrev dktL_law_37 : List UInt8 := dkwL_law_37 ++ dktL_law_38
def dkwL_law_36 : List UInt8 := [21, 4, 4, 96, 46, 182, 0, 156, 55, 6, 44, 182, 0, 112, 21, 5, 159, 0, 5, 3, 172, 21, 5]
abbrev dktL_law_36 : List UInt8 := dkwL_law_36 ++ dktL_law_37
def dkwL_law_35 : List UInt8 := [153, 0, 5, 3, 172, 167, 3, 176, 43, 42, 21, 4, 4, 96, 46, 45, 184, 0, 154, 54, 5, 44, 42]
abbrev dktL_law_35 : List UInt8 := dkwL_law_35 ++ dktL_law_36
def dkwL_law_34 : List UInt8 := [182, 0, 112, 21, 5, 159, 0, 5, 3, 172, 21, 5, 154, 0, 15, 45, 3, 47, 21, 6, 133, 148]
abbrev dktL_law_34 : List UInt8 := dkwL_law_34 ++ dktL_law_35
def dkwL_law_33 : List UInt8 := [184, 0, 151, 54, 5, 44, 42, 21, 4, 4, 96, 46, 42, 21, 4, 5, 96, 46, 182, 0, 153, 54, 6, 44]
abbrev dktL_law_33 : List UInt8 := dkwL_law_33 ++ dktL_law_34
def dkwL_law_32 : List UInt8 := [153, 0, 5, 3, 172, 167, 3, 244, 43, 42, 21, 4, 4, 96, 46, 42, 21, 4, 5, 96, 46, 45]
abbrev dktL_law_32 : List UInt8 := dkwL_law_32 ++ dktL_law_33
def dkwL_law_31 : List UInt8 := [44, 182, 0, 112, 21, 5, 159, 0, 5, 3, 172, 21, 5, 154, 0, 15, 45, 3, 47, 21, 6, 133, 148]
abbrev dktL_law_31 : List UInt8 := dkwL_law_31 ++ dktL_law_32
def dkwL_law_30 : List UInt8 := [5, 96, 46, 133, 16, 32, 121, 42, 21, 4, 6, 96, 46, 133, 20, 0, 115, 127, 129, 182, 0, 150, 54, 6]
abbrev dktL_law_30 : List UInt8 := dkwL_law_30 ++ dktL_law_31
def dkwL_law_29 : List UInt8 := [96, 46, 133, 20, 0, 115, 127, 129, 45, 184, 0, 147, 54, 5, 44, 42, 21, 4, 4, 96, 46, 42, 21, 4]
abbrev dktL_law_29 : List UInt8 := dkwL_law_29 ++ dktL_law_30
def dkwL_law_28 : List UInt8 := [167, 4, 88, 43, 42, 21, 4, 4, 96, 46, 42, 21, 4, 5, 96, 46, 133, 16, 32, 121, 42, 21, 4, 6]
abbrev dktL_law_28 : List UInt8 := dkwL_law_28 ++ dktL_law_29
def dkwL_law_27 : List UInt8 := [159, 0, 5, 3, 172, 21, 5, 154, 0, 15, 45, 3, 47, 21, 6, 133, 148, 153, 0, 5, 3, 172]
abbrev dktL_law_27 : List UInt8 := dkwL_law_27 ++ dktL_law_28
def dkwL_law_26 : List UInt8 := [184, 0, 144, 54, 5, 44, 42, 21, 4, 4, 96, 46, 182, 0, 146, 54, 6, 44, 182, 0, 112, 21, 5]
abbrev dktL_law_26 : List UInt8 := dkwL_law_26 ++ dktL_law_27
def dkwL_law_25 : List UInt8 := [3, 47, 21, 6, 133, 148, 153, 0, 5, 3, 172, 167, 4, 144, 43, 42, 21, 4, 4, 96, 46, 45]
abbrev dktL_law_25 : List UInt8 := dkwL_law_25 ++ dktL_law_26
def dkwL_law_24 : List UInt8 := [96, 46, 182, 0, 143, 54, 6, 44, 182, 0, 112, 21, 5, 159, 0, 5, 3, 172, 21, 5, 154, 0, 15, 45]
abbrev dktL_law_24 : List UInt8 := dkwL_law_24 ++ dktL_law_25
def dkwL_law_23 : List UInt8 := [46, 42, 21, 4, 5, 96, 46, 45, 184, 0, 141, 54, 5, 44, 42, 21, 4, 4, 96, 46, 42, 21, 4, 5]
abbrev dktL_law_23 : List UInt8 := dkwL_law_23 ++ dktL_law_24
def dkwL_law_22 : List UInt8 := [154, 0, 15, 45, 3, 47, 21, 6, 133, 148, 153, 0, 5, 3, 172, 167, 4, 212, 43, 42, 21, 4, 4, 96]
abbrev dktL_law_22 : List UInt8 := dkwL_law_22 ++ dktL_law_23
def dkwL_law_21 : List UInt8 := [21, 4, 4, 96, 46, 182, 0, 140, 54, 6, 44, 182, 0, 112, 21, 5, 159, 0, 5, 3, 172, 21, 5]
abbrev dktL_law_21 : List UInt8 := dkwL_law_21 ++ dktL_law_22
def dkwL_law_20 : List UInt8 := [148, 153, 0, 5, 3, 172, 167, 5, 12, 43, 42, 21, 4, 4, 96, 46, 45, 184, 0, 137, 54, 5, 44, 42]
abbrev dktL_law_20 : List UInt8 := dkwL_law_20 ++ dktL_law_21
def dkwL_law_19 : List UInt8 := [54, 6, 44, 182, 0, 112, 21, 5, 159, 0, 5, 3, 172, 21, 5, 154, 0, 15, 45, 3, 47, 21, 6, 133]
abbrev dktL_law_19 : List UInt8 := dkwL_law_19 ++ dktL_law_20
def dkwL_law_18 : List UInt8 := [96, 46, 45, 184, 0, 134, 54, 5, 44, 42, 21, 4, 4, 96, 46, 42, 21, 4, 5, 96, 46, 182, 0, 136]
abbrev dktL_law_18 : List UInt8 := dkwL_law_18 ++ dktL_law_19
def dkwL_law_17 : List UInt8 := [167, 0, 4, 9, 148, 153, 0, 5, 3, 172, 167, 5, 80, 43, 42, 21, 4, 4, 96, 46, 42, 21, 4, 5]
abbrev dktL_law_17 : List UInt8 := dkwL_law_17 ++ dktL_law_18
def dkwL_law_16 : List UInt8 := [182, 0, 112, 21, 5, 159, 0, 5, 3, 172, 21, 5, 154, 0, 22, 45, 3, 47, 21, 6, 153, 0, 7, 10]
abbrev dktL_law_16 : List UInt8 := dkwL_law_16 ++ dktL_law_17
def dkwL_law_15 : List UInt8 := [4, 96, 46, 42, 21, 4, 5, 96, 46, 153, 0, 7, 4, 167, 0, 4, 3, 182, 0, 133, 54, 6, 44]
abbrev dktL_law_15 : List UInt8 := dkwL_law_15 ++ dktL_law_16
def dkwL_law_14 : List UInt8 := [42, 21, 4, 5, 96, 46, 153, 0, 7, 4, 167, 0, 4, 3, 45, 184, 0, 130, 54, 5, 44, 42, 21, 4]
abbrev dktL_law_14 : List UInt8 := dkwL_law_14 ++ dktL_law_15
def dkwL_law_13 : List UInt8 := [167, 5, 185, 43, 182, 0, 125, 44, 182, 0, 129, 148, 153, 5, 173, 3, 172, 43, 42, 21, 4, 4, 96, 46]
abbrev dktL_law_13 : List UInt8 := dkwL_law_13 ++ dktL_law_14
def dkwL_law_12 : List UInt8 := [159, 0, 5, 3, 172, 21, 5, 154, 0, 15, 45, 3, 47, 21, 6, 133, 148, 153, 0, 5, 3, 172]
abbrev dktL_law_12 : List UInt8 := dkwL_law_12 ++ dktL_law_13
def dkwL_law_11 : List UInt8 := [21, 4, 4, 96, 46, 42, 21, 4, 5, 96, 46, 182, 0, 124, 54, 6, 44, 182, 0, 112, 21, 5]
abbrev dktL_law_11 : List UInt8 := dkwL_law_11 ++ dktL_law_12
def dkwL_law_10 : List UInt8 := [167, 5, 253, 43, 42, 21, 4, 4, 96, 46, 42, 21, 4, 5, 96, 46, 45, 184, 0, 121, 54, 5, 44, 42]
abbrev dktL_law_10 : List UInt8 := dkwL_law_10 ++ dktL_law_11
def dkwL_law_9 : List UInt8 := [159, 0, 5, 3, 172, 21, 5, 154, 0, 15, 45, 3, 47, 21, 6, 133, 148, 153, 0, 5, 3, 172]
abbrev dktL_law_9 : List UInt8 := dkwL_law_9 ++ dktL_law_10
def dkwL_law_8 : List UInt8 := [121, 42, 21, 4, 5, 96, 46, 133, 20, 0, 115, 127, 129, 182, 0, 120, 54, 6, 44, 182, 0, 112, 21, 5]
abbrev dktL_law_8 : List UInt8 := dkwL_law_8 ++ dktL_law_9
def dkwL_law_7 : List UInt8 := [96, 46, 133, 20, 0, 115, 127, 129, 45, 184, 0, 117, 54, 5, 44, 42, 21, 4, 4, 96, 46, 133, 16, 32]
abbrev dktL_law_7 : List UInt8 := dkwL_law_7 ++ dktL_law_8
def dkwL_law_6 : List UInt8 := [148, 153, 0, 5, 3, 172, 167, 6, 85, 43, 42, 21, 4, 4, 96, 46, 133, 16, 32, 121, 42, 21, 4, 5]
abbrev dktL_law_6 : List UInt8 := dkwL_law_6 ++ dktL_law_7
def dkwL_law_5 : List UInt8 := [54, 6, 44, 182, 0, 112, 21, 5, 159, 0, 5, 3, 172, 21, 5, 154, 0, 15, 45, 3, 47, 21, 6, 133]
abbrev dktL_law_5 : List UInt8 := dkwL_law_5 ++ dktL_law_6
def dkwL_law_4 : List UInt8 := [54, 5, 44, 42, 21, 4, 4, 96, 46, 42, 21, 4, 5, 96, 46, 42, 21, 4, 6, 96, 46, 182, 0, 111]
abbrev dktL_law_4 : List UInt8 := dkwL_law_4 ++ dktL_law_5
def dkwL_law_3 : List UInt8 := [43, 42, 21, 4, 4, 96, 46, 42, 21, 4, 5, 96, 46, 42, 21, 4, 6, 96, 46, 45, 184, 0, 106]
abbrev dktL_law_3 : List UInt8 := dkwL_law_3 ++ dktL_law_4
def dkwL_law_2 : List UInt8 := [170, 0, 0, 7, 43, 0, 0, 0, 0, 0, 0, 0, 30, 0, 0, 0, 137, 0, 0, 0, 217, 0, 0, 1, 49, 0, 0, 1, 117, 0, 0, 1, 131, 0, 0, 1, 222, 0, 0, 2, 34, 0, 0, 2, 90, 0, 0, 2, 158, 0, 0, 2, 214, 0, 0, 3, 58, 0, 0, 3, 126, 0, 0, 3, 181, 0, 0, 3, 237, 0, 0, 4, 37, 0, 0, 4, 51, 0, 0, 4, 64, 0, 0, 4, 115, 0, 0, 4, 171, 0, 0, 4, 227, 0, 0, 5, 27, 0, 0, 5, 71, 0, 0, 5, 127, 0, 0, 5, 183, 0, 0, 5, 227, 0, 0, 6, 27, 0, 0, 6, 83, 0, 0, 6, 146, 0, 0, 6, 202, 0, 0, 6, 243, 0, 0, 7, 30]
abbrev dktL_law_2 : List UInt8 := dkwL_law_2 ++ dktL_law_3
def dkwL_law_1 : List UInt8 := [21, 4, 42, 190, 7, 100, 163, 7, 59, 42, 21, 4, 46, 16, 31, 126]
abbrev dktL_law_1 : List UInt8 := dkwL_law_1 ++ dktL_law_2
def dkwL_law_0 : List UInt8 := [187, 0, 8, 89, 183, 0, 102, 76, 187, 0, 103, 89, 183, 0, 105, 77, 4, 188, 11, 78, 3, 54, 4]
abbrev dktL_law_0 : List UInt8 := dkwL_law_0 ++ dktL_law_1
theorem dksL_law_0 : cL_law.data.toList.drop 0 = dktL_law_0 := by decide +kernel
theorem dksL_law_1 : cL_law.data.toList.drop 23 = dktL_law_1 := dk_seg dksL_law_0 23 rfl rfl
theorem dksL_law_2 : cL_law.data.toList.drop 39 = dktL_law_2 := dk_seg dksL_law_1 16 rfl rfl
theorem dksL_law_3 : cL_law.data.toList.drop 176 = dktL_law_3 := dk_seg dksL_law_2 137 rfl rfl
theorem dksL_law_4 : cL_law.data.toList.drop 199 = dktL_law_4 := dk_seg dksL_law_3 23 rfl rfl
theorem dksL_law_5 : cL_law.data.toList.drop 223 = dktL_law_5 := dk_seg dksL_law_4 24 rfl rfl
theorem dksL_law_6 : cL_law.data.toList.drop 247 = dktL_law_6 := dk_seg dksL_law_5 24 rfl rfl
theorem dksL_law_7 : cL_law.data.toList.drop 271 = dktL_law_7 := dk_seg dksL_law_6 24 rfl rfl
theorem dksL_law_8 : cL_law.data.toList.drop 295 = dktL_law_8 := dk_seg dksL_law_7 24 rfl rfl
theorem dksL_law_9 : cL_law.data.toList.drop 319 = dktL_law_9 := dk_seg dksL_law_8 24 rfl rfl
theorem dksL_law_10 : cL_law.data.toList.drop 341 = dktL_law_10 := dk_seg dksL_law_9 22 rfl rfl
theorem dksL_law_11 : cL_law.data.toList.drop 365 = dktL_law_11 := dk_seg dksL_law_10 24 rfl rfl
theorem dksL_law_12 : cL_law.data.toList.drop 387 = dktL_law_12 := dk_seg dksL_law_11 22 rfl rfl
theorem dksL_law_13 : cL_law.data.toList.drop 409 = dktL_law_13 := dk_seg dksL_law_12 22 rfl rfl
theorem dksL_law_14 : cL_law.data.toList.drop 433 = dktL_law_14 := dk_seg dksL_law_13 24 rfl rfl
theorem dksL_law_15 : cL_law.data.toList.drop 457 = dktL_law_15 := dk_seg dksL_law_14 24 rfl rfl
theorem dksL_law_16 : cL_law.data.toList.drop 480 = dktL_law_16 := dk_seg dksL_law_15 23 rfl rfl
theorem dksL_law_17 : cL_law.data.toList.drop 504 = dktL_law_17 := dk_seg dksL_law_16 24 rfl rfl
theorem dksL_law_18 : cL_law.data.toList.drop 528 = dktL_law_18 := dk_seg dksL_law_17 24 rfl rfl
theorem dksL_law_19 : cL_law.data.toList.drop 552 = dktL_law_19 := dk_seg dksL_law_18 24 rfl rfl
theorem dksL_law_20 : cL_law.data.toList.drop 576 = dktL_law_20 := dk_seg dksL_law_19 24 rfl rfl
theorem dksL_law_21 : cL_law.data.toList.drop 600 = dktL_law_21 := dk_seg dksL_law_20 24 rfl rfl
theorem dksL_law_22 : cL_law.data.toList.drop 623 = dktL_law_22 := dk_seg dksL_law_21 23 rfl rfl
theorem dksL_law_23 : cL_law.data.toList.drop 647 = dktL_law_23 := dk_seg dksL_law_22 24 rfl rfl
theorem dksL_law_24 : cL_law.data.toList.drop 671 = dktL_law_24 := dk_seg dksL_law_23 24 rfl rfl
theorem dksL_law_25 : cL_law.data.toList.drop 695 = dktL_law_25 := dk_seg dksL_law_24 24 rfl rfl
theorem dksL_law_26 : cL_law.data.toList.drop 717 = dktL_law_26 := dk_seg dksL_law_25 22 rfl rfl
theorem dksL_law_27 : cL_law.data.toList.drop 740 = dktL_law_27 := dk_seg dksL_law_26 23 rfl rfl
theorem dksL_law_28 : cL_law.data.toList.drop 762 = dktL_law_28 := dk_seg dksL_law_27 22 rfl rfl
theorem dksL_law_29 : cL_law.data.toList.drop 786 = dktL_law_29 := dk_seg dksL_law_28 24 rfl rfl
theorem dksL_law_30 : cL_law.data.toList.drop 810 = dktL_law_30 := dk_seg dksL_law_29 24 rfl rfl
theorem dksL_law_31 : cL_law.data.toList.drop 834 = dktL_law_31 := dk_seg dksL_law_30 24 rfl rfl
theorem dksL_law_32 : cL_law.data.toList.drop 857 = dktL_law_32 := dk_seg dksL_law_31 23 rfl rfl
theorem dksL_law_33 : cL_law.data.toList.drop 879 = dktL_law_33 := dk_seg dksL_law_32 22 rfl rfl
theorem dksL_law_34 : cL_law.data.toList.drop 903 = dktL_law_34 := dk_seg dksL_law_33 24 rfl rfl
theorem dksL_law_35 : cL_law.data.toList.drop 925 = dktL_law_35 := dk_seg dksL_law_34 22 rfl rfl
theorem dksL_law_36 : cL_law.data.toList.drop 948 = dktL_law_36 := dk_seg dksL_law_35 23 rfl rfl
theorem dksL_law_37 : cL_law.data.toList.drop 971 = dktL_law_37 := dk_seg dksL_law_36 23 rfl rfl
theorem dksL_law_38 : cL_law.data.toList.drop 995 = dktL_law_38 := dk_seg dksL_law_37 24 rfl rfl
theorem dksL_law_39 : cL_law.data.toList.drop 1019 = dktL_law_39 := dk_seg dksL_law_38 24 rfl rfl
theorem dksL_law_40 : cL_law.data.toList.drop 1041 = dktL_law_40 := dk_seg dksL_law_39 22 rfl rfl
theorem dksL_law_41 : cL_law.data.toList.drop 1064 = dktL_law_41 := dk_seg dksL_law_40 23 rfl rfl
theorem dksL_law_42 : cL_law.data.toList.drop 1088 = dktL_law_42 := dk_seg dksL_law_41 24 rfl rfl
theorem dksL_law_43 : cL_law.data.toList.drop 1112 = dktL_law_43 := dk_seg dksL_law_42 24 rfl rfl
theorem dksL_law_44 : cL_law.data.toList.drop 1135 = dktL_law_44 := dk_seg dksL_law_43 23 rfl rfl
theorem dksL_law_45 : cL_law.data.toList.drop 1159 = dktL_law_45 := dk_seg dksL_law_44 24 rfl rfl
theorem dksL_law_46 : cL_law.data.toList.drop 1183 = dktL_law_46 := dk_seg dksL_law_45 24 rfl rfl
theorem dksL_law_47 : cL_law.data.toList.drop 1207 = dktL_law_47 := dk_seg dksL_law_46 24 rfl rfl
theorem dksL_law_48 : cL_law.data.toList.drop 1231 = dktL_law_48 := dk_seg dksL_law_47 24 rfl rfl
theorem dksL_law_49 : cL_law.data.toList.drop 1254 = dktL_law_49 := dk_seg dksL_law_48 23 rfl rfl
theorem dksL_law_50 : cL_law.data.toList.drop 1278 = dktL_law_50 := dk_seg dksL_law_49 24 rfl rfl
theorem dksL_law_51 : cL_law.data.toList.drop 1301 = dktL_law_51 := dk_seg dksL_law_50 23 rfl rfl
theorem dksL_law_52 : cL_law.data.toList.drop 1325 = dktL_law_52 := dk_seg dksL_law_51 24 rfl rfl
theorem dksL_law_53 : cL_law.data.toList.drop 1348 = dktL_law_53 := dk_seg dksL_law_52 23 rfl rfl
theorem dksL_law_54 : cL_law.data.toList.drop 1372 = dktL_law_54 := dk_seg dksL_law_53 24 rfl rfl
theorem dksL_law_55 : cL_law.data.toList.drop 1396 = dktL_law_55 := dk_seg dksL_law_54 24 rfl rfl
theorem dksL_law_56 : cL_law.data.toList.drop 1419 = dktL_law_56 := dk_seg dksL_law_55 23 rfl rfl
theorem dksL_law_57 : cL_law.data.toList.drop 1443 = dktL_law_57 := dk_seg dksL_law_56 24 rfl rfl
theorem dksL_law_58 : cL_law.data.toList.drop 1466 = dktL_law_58 := dk_seg dksL_law_57 23 rfl rfl
theorem dksL_law_59 : cL_law.data.toList.drop 1490 = dktL_law_59 := dk_seg dksL_law_58 24 rfl rfl
theorem dksL_law_60 : cL_law.data.toList.drop 1513 = dktL_law_60 := dk_seg dksL_law_59 23 rfl rfl
theorem dksL_law_61 : cL_law.data.toList.drop 1537 = dktL_law_61 := dk_seg dksL_law_60 24 rfl rfl
theorem dksL_law_62 : cL_law.data.toList.drop 1561 = dktL_law_62 := dk_seg dksL_law_61 24 rfl rfl
theorem dksL_law_63 : cL_law.data.toList.drop 1584 = dktL_law_63 := dk_seg dksL_law_62 23 rfl rfl
theorem dksL_law_64 : cL_law.data.toList.drop 1608 = dktL_law_64 := dk_seg dksL_law_63 24 rfl rfl
theorem dksL_law_65 : cL_law.data.toList.drop 1631 = dktL_law_65 := dk_seg dksL_law_64 23 rfl rfl
theorem dksL_law_66 : cL_law.data.toList.drop 1655 = dktL_law_66 := dk_seg dksL_law_65 24 rfl rfl
theorem dksL_law_67 : cL_law.data.toList.drop 1678 = dktL_law_67 := dk_seg dksL_law_66 23 rfl rfl
theorem dksL_law_68 : cL_law.data.toList.drop 1702 = dktL_law_68 := dk_seg dksL_law_67 24 rfl rfl
theorem dksL_law_69 : cL_law.data.toList.drop 1726 = dktL_law_69 := dk_seg dksL_law_68 24 rfl rfl
theorem dksL_law_70 : cL_law.data.toList.drop 1750 = dktL_law_70 := dk_seg dksL_law_69 24 rfl rfl
theorem dksL_law_71 : cL_law.data.toList.drop 1774 = dktL_law_71 := dk_seg dksL_law_70 24 rfl rfl
theorem dksL_law_72 : cL_law.data.toList.drop 1797 = dktL_law_72 := dk_seg dksL_law_71 23 rfl rfl
theorem dksL_law_73 : cL_law.data.toList.drop 1819 = dktL_law_73 := dk_seg dksL_law_72 22 rfl rfl
theorem dksL_law_74 : cL_law.data.toList.drop 1842 = dktL_law_74 := dk_seg dksL_law_73 23 rfl rfl
theorem dksL_law_75 : cL_law.data.toList.drop 1866 = dktL_law_75 := dk_seg dksL_law_74 24 rfl rfl
theorem dL_law_0 : decode cL_law 0 = .ok (.new 8, 3) := dk_187 0 8 (dk_at dksL_law_0 0 rfl rfl)
theorem dL_law_3 : decode cL_law 3 = .ok (.dup, 1) := dk_89 (dk_at dksL_law_0 3 rfl rfl)
theorem dL_law_4 : decode cL_law 4 = .ok (.invokespecial 102, 3) := dk_183 0 102 (dk_at dksL_law_0 4 rfl rfl)
theorem dL_law_7 : decode cL_law 7 = .ok (.astore_n 1, 1) := dk_76 (dk_at dksL_law_0 7 rfl rfl)
theorem dL_law_8 : decode cL_law 8 = .ok (.new 103, 3) := dk_187 0 103 (dk_at dksL_law_0 8 rfl rfl)
theorem dL_law_11 : decode cL_law 11 = .ok (.dup, 1) := dk_89 (dk_at dksL_law_0 11 rfl rfl)
theorem dL_law_12 : decode cL_law 12 = .ok (.invokespecial 105, 3) := dk_183 0 105 (dk_at dksL_law_0 12 rfl rfl)
theorem dL_law_15 : decode cL_law 15 = .ok (.astore_n 2, 1) := dk_77 (dk_at dksL_law_0 15 rfl rfl)
theorem dL_law_16 : decode cL_law 16 = .ok (.iconst 1, 1) := dk_4 (dk_at dksL_law_0 16 rfl rfl)
theorem dL_law_17 : decode cL_law 17 = .ok (.newarray .long, 2) := dk_188_11 (dk_at dksL_law_0 17 rfl rfl)
theorem dL_law_19 : decode cL_law 19 = .ok (.astore_n 3, 1) := dk_78 (dk_at dksL_law_0 19 rfl rfl)
theorem dL_law_20 : decode cL_law 20 = .ok (.iconst 0, 1) := dk_3 (dk_at dksL_law_0 20 rfl rfl)
theorem dL_law_21 : decode cL_law 21 = .ok (.istore 4, 2) := dk_54 4 (dk_at dksL_law_0 21 rfl rfl)
theorem dL_law_23 : decode cL_law 23 = .ok (.iload 4, 2) := dk_21 4 (dk_at dksL_law_1 0 rfl rfl)
theorem dL_law_25 : decode cL_law 25 = .ok (.aload_n 0, 1) := dk_42 (dk_at dksL_law_1 2 rfl rfl)
theorem dL_law_26 : decode cL_law 26 = .ok (.arraylength, 1) := dk_190 (dk_at dksL_law_1 3 rfl rfl)
theorem dL_law_27 : decode cL_law 27 = .ok (.iconst 4, 1) := dk_7 (dk_at dksL_law_1 4 rfl rfl)
theorem dL_law_28 : decode cL_law 28 = .ok (.isub, 1) := dk_100 (dk_at dksL_law_1 5 rfl rfl)
theorem dL_law_29 : decode cL_law 29 = .ok (.if_icmp .gt 1851, 3) := dk_163 7 59 (dk_at dksL_law_1 6 rfl rfl)
theorem dL_law_32 : decode cL_law 32 = .ok (.aload_n 0, 1) := dk_42 (dk_at dksL_law_1 9 rfl rfl)
theorem dL_law_33 : decode cL_law 33 = .ok (.iload 4, 2) := dk_21 4 (dk_at dksL_law_1 10 rfl rfl)
theorem dL_law_35 : decode cL_law 35 = .ok (.iaload, 1) := dk_46 (dk_at dksL_law_1 12 rfl rfl)
theorem dL_law_36 : decode cL_law 36 = .ok (.bipush 31, 2) := dk_16 31 (dk_at dksL_law_1 13 rfl rfl)
theorem dL_law_38 : decode cL_law 38 = .ok (.iand, 1) := dk_126 (dk_at dksL_law_1 15 rfl rfl)
theorem dL_law_39 : decode cL_law 39 = .ok (.tableswitch 1835 0 30 #[137, 217, 305, 373, 387, 478, 546, 602, 670, 726, 826, 894, 949, 1005, 1061, 1075, 1088, 1139, 1195, 1251, 1307, 1351, 1407, 1463, 1507, 1563, 1619, 1682, 1738, 1779, 1822], 137) := by decide +kernel
theorem dL_law_176 : decode cL_law 176 = .ok (.aload_n 1, 1) := dk_43 (dk_at dksL_law_3 0 rfl rfl)
theorem dL_law_177 : decode cL_law 177 = .ok (.aload_n 0, 1) := dk_42 (dk_at dksL_law_3 1 rfl rfl)
theorem dL_law_178 : decode cL_law 178 = .ok (.iload 4, 2) := dk_21 4 (dk_at dksL_law_3 2 rfl rfl)
theorem dL_law_180 : decode cL_law 180 = .ok (.iconst 1, 1) := dk_4 (dk_at dksL_law_3 4 rfl rfl)
theorem dL_law_181 : decode cL_law 181 = .ok (.iadd, 1) := dk_96 (dk_at dksL_law_3 5 rfl rfl)
theorem dL_law_182 : decode cL_law 182 = .ok (.iaload, 1) := dk_46 (dk_at dksL_law_3 6 rfl rfl)
theorem dL_law_183 : decode cL_law 183 = .ok (.aload_n 0, 1) := dk_42 (dk_at dksL_law_3 7 rfl rfl)
theorem dL_law_184 : decode cL_law 184 = .ok (.iload 4, 2) := dk_21 4 (dk_at dksL_law_3 8 rfl rfl)
theorem dL_law_186 : decode cL_law 186 = .ok (.iconst 2, 1) := dk_5 (dk_at dksL_law_3 10 rfl rfl)
theorem dL_law_187 : decode cL_law 187 = .ok (.iadd, 1) := dk_96 (dk_at dksL_law_3 11 rfl rfl)
theorem dL_law_188 : decode cL_law 188 = .ok (.iaload, 1) := dk_46 (dk_at dksL_law_3 12 rfl rfl)
theorem dL_law_189 : decode cL_law 189 = .ok (.aload_n 0, 1) := dk_42 (dk_at dksL_law_3 13 rfl rfl)
theorem dL_law_190 : decode cL_law 190 = .ok (.iload 4, 2) := dk_21 4 (dk_at dksL_law_3 14 rfl rfl)
theorem dL_law_192 : decode cL_law 192 = .ok (.iconst 3, 1) := dk_6 (dk_at dksL_law_3 16 rfl rfl)
theorem dL_law_193 : decode cL_law 193 = .ok (.iadd, 1) := dk_96 (dk_at dksL_law_3 17 rfl rfl)
theorem dL_law_194 : decode cL_law 194 = .ok (.iaload, 1) := dk_46 (dk_at dksL_law_3 18 rfl rfl)
theorem dL_law_195 : decode cL_law 195 = .ok (.aload_n 3, 1) := dk_45 (dk_at dksL_law_3 19 rfl rfl)
theorem dL_law_196 : decode cL_law 196 = .ok (.invokestatic 106, 3) := dk_184 0 106 (dk_at dksL_law_3 20 rfl rfl)
theorem dL_law_199 : decode cL_law 199 = .ok (.istore 5, 2) := dk_54 5 (dk_at dksL_law_4 0 rfl rfl)
theorem dL_law_201 : decode cL_law 201 = .ok (.aload_n 2, 1) := dk_44 (dk_at dksL_law_4 2 rfl rfl)
theorem dL_law_202 : decode cL_law 202 = .ok (.aload_n 0, 1) := dk_42 (dk_at dksL_law_4 3 rfl rfl)
theorem dL_law_203 : decode cL_law 203 = .ok (.iload 4, 2) := dk_21 4 (dk_at dksL_law_4 4 rfl rfl)
theorem dL_law_205 : decode cL_law 205 = .ok (.iconst 1, 1) := dk_4 (dk_at dksL_law_4 6 rfl rfl)
theorem dL_law_206 : decode cL_law 206 = .ok (.iadd, 1) := dk_96 (dk_at dksL_law_4 7 rfl rfl)
theorem dL_law_207 : decode cL_law 207 = .ok (.iaload, 1) := dk_46 (dk_at dksL_law_4 8 rfl rfl)
theorem dL_law_208 : decode cL_law 208 = .ok (.aload_n 0, 1) := dk_42 (dk_at dksL_law_4 9 rfl rfl)
theorem dL_law_209 : decode cL_law 209 = .ok (.iload 4, 2) := dk_21 4 (dk_at dksL_law_4 10 rfl rfl)
theorem dL_law_211 : decode cL_law 211 = .ok (.iconst 2, 1) := dk_5 (dk_at dksL_law_4 12 rfl rfl)
theorem dL_law_212 : decode cL_law 212 = .ok (.iadd, 1) := dk_96 (dk_at dksL_law_4 13 rfl rfl)
theorem dL_law_213 : decode cL_law 213 = .ok (.iaload, 1) := dk_46 (dk_at dksL_law_4 14 rfl rfl)
theorem dL_law_214 : decode cL_law 214 = .ok (.aload_n 0, 1) := dk_42 (dk_at dksL_law_4 15 rfl rfl)
theorem dL_law_215 : decode cL_law 215 = .ok (.iload 4, 2) := dk_21 4 (dk_at dksL_law_4 16 rfl rfl)
theorem dL_law_217 : decode cL_law 217 = .ok (.iconst 3, 1) := dk_6 (dk_at dksL_law_4 18 rfl rfl)
theorem dL_law_218 : decode cL_law 218 = .ok (.iadd, 1) := dk_96 (dk_at dksL_law_4 19 rfl rfl)
theorem dL_law_219 : decode cL_law 219 = .ok (.iaload, 1) := dk_46 (dk_at dksL_law_4 20 rfl rfl)
theorem dL_law_220 : decode cL_law 220 = .ok (.invokevirtual 111, 3) := dk_182 0 111 (dk_at dksL_law_4 21 rfl rfl)
theorem dL_law_223 : decode cL_law 223 = .ok (.istore 6, 2) := dk_54 6 (dk_at dksL_law_5 0 rfl rfl)
theorem dL_law_225 : decode cL_law 225 = .ok (.aload_n 2, 1) := dk_44 (dk_at dksL_law_5 2 rfl rfl)
theorem dL_law_226 : decode cL_law 226 = .ok (.invokevirtual 112, 3) := dk_182 0 112 (dk_at dksL_law_5 3 rfl rfl)
theorem dL_law_229 : decode cL_law 229 = .ok (.iload 5, 2) := dk_21 5 (dk_at dksL_law_5 6 rfl rfl)
theorem dL_law_231 : decode cL_law 231 = .ok (.if_icmp .eq 5, 3) := dk_159 0 5 (dk_at dksL_law_5 8 rfl rfl)
theorem dL_law_234 : decode cL_law 234 = .ok (.iconst 0, 1) := dk_3 (dk_at dksL_law_5 11 rfl rfl)
theorem dL_law_235 : decode cL_law 235 = .ok (.ireturn, 1) := dk_172 (dk_at dksL_law_5 12 rfl rfl)
theorem dL_law_236 : decode cL_law 236 = .ok (.iload 5, 2) := dk_21 5 (dk_at dksL_law_5 13 rfl rfl)
theorem dL_law_238 : decode cL_law 238 = .ok (.ifCond .ne 15, 3) := dk_154 0 15 (dk_at dksL_law_5 15 rfl rfl)
theorem dL_law_241 : decode cL_law 241 = .ok (.aload_n 3, 1) := dk_45 (dk_at dksL_law_5 18 rfl rfl)
theorem dL_law_242 : decode cL_law 242 = .ok (.iconst 0, 1) := dk_3 (dk_at dksL_law_5 19 rfl rfl)
theorem dL_law_243 : decode cL_law 243 = .ok (.laload, 1) := dk_47 (dk_at dksL_law_5 20 rfl rfl)
theorem dL_law_244 : decode cL_law 244 = .ok (.iload 6, 2) := dk_21 6 (dk_at dksL_law_5 21 rfl rfl)
theorem dL_law_246 : decode cL_law 246 = .ok (.i2l, 1) := dk_133 (dk_at dksL_law_5 23 rfl rfl)
theorem dL_law_247 : decode cL_law 247 = .ok (.lcmp, 1) := dk_148 (dk_at dksL_law_6 0 rfl rfl)
theorem dL_law_248 : decode cL_law 248 = .ok (.ifCond .eq 5, 3) := dk_153 0 5 (dk_at dksL_law_6 1 rfl rfl)
theorem dL_law_251 : decode cL_law 251 = .ok (.iconst 0, 1) := dk_3 (dk_at dksL_law_6 4 rfl rfl)
theorem dL_law_252 : decode cL_law 252 = .ok (.ireturn, 1) := dk_172 (dk_at dksL_law_6 5 rfl rfl)
theorem dL_law_253 : decode cL_law 253 = .ok (.goto 1621, 3) := dk_167 6 85 (dk_at dksL_law_6 6 rfl rfl)
theorem dL_law_256 : decode cL_law 256 = .ok (.aload_n 1, 1) := dk_43 (dk_at dksL_law_6 9 rfl rfl)
theorem dL_law_257 : decode cL_law 257 = .ok (.aload_n 0, 1) := dk_42 (dk_at dksL_law_6 10 rfl rfl)
theorem dL_law_258 : decode cL_law 258 = .ok (.iload 4, 2) := dk_21 4 (dk_at dksL_law_6 11 rfl rfl)
theorem dL_law_260 : decode cL_law 260 = .ok (.iconst 1, 1) := dk_4 (dk_at dksL_law_6 13 rfl rfl)
theorem dL_law_261 : decode cL_law 261 = .ok (.iadd, 1) := dk_96 (dk_at dksL_law_6 14 rfl rfl)
theorem dL_law_262 : decode cL_law 262 = .ok (.iaload, 1) := dk_46 (dk_at dksL_law_6 15 rfl rfl)
theorem dL_law_263 : decode cL_law 263 = .ok (.i2l, 1) := dk_133 (dk_at dksL_law_6 16 rfl rfl)
theorem dL_law_264 : decode cL_law 264 = .ok (.bipush 32, 2) := dk_16 32 (dk_at dksL_law_6 17 rfl rfl)
theorem dL_law_266 : decode cL_law 266 = .ok (.lshl, 1) := dk_121 (dk_at dksL_law_6 19 rfl rfl)
theorem dL_law_267 : decode cL_law 267 = .ok (.aload_n 0, 1) := dk_42 (dk_at dksL_law_6 20 rfl rfl)
theorem dL_law_268 : decode cL_law 268 = .ok (.iload 4, 2) := dk_21 4 (dk_at dksL_law_6 21 rfl rfl)
theorem dL_law_270 : decode cL_law 270 = .ok (.iconst 2, 1) := dk_5 (dk_at dksL_law_6 23 rfl rfl)
theorem dL_law_271 : decode cL_law 271 = .ok (.iadd, 1) := dk_96 (dk_at dksL_law_7 0 rfl rfl)
theorem dL_law_272 : decode cL_law 272 = .ok (.iaload, 1) := dk_46 (dk_at dksL_law_7 1 rfl rfl)
theorem dL_law_273 : decode cL_law 273 = .ok (.i2l, 1) := dk_133 (dk_at dksL_law_7 2 rfl rfl)
theorem dL_law_274 : decode cL_law 274 = .ok (.ldc2_w 115, 3) := dk_20 0 115 (dk_at dksL_law_7 3 rfl rfl)
theorem dL_law_277 : decode cL_law 277 = .ok (.land, 1) := dk_127 (dk_at dksL_law_7 6 rfl rfl)
theorem dL_law_278 : decode cL_law 278 = .ok (.lor, 1) := dk_129 (dk_at dksL_law_7 7 rfl rfl)
theorem dL_law_279 : decode cL_law 279 = .ok (.aload_n 3, 1) := dk_45 (dk_at dksL_law_7 8 rfl rfl)
theorem dL_law_280 : decode cL_law 280 = .ok (.invokestatic 117, 3) := dk_184 0 117 (dk_at dksL_law_7 9 rfl rfl)
theorem dL_law_283 : decode cL_law 283 = .ok (.istore 5, 2) := dk_54 5 (dk_at dksL_law_7 12 rfl rfl)
theorem dL_law_285 : decode cL_law 285 = .ok (.aload_n 2, 1) := dk_44 (dk_at dksL_law_7 14 rfl rfl)
theorem dL_law_286 : decode cL_law 286 = .ok (.aload_n 0, 1) := dk_42 (dk_at dksL_law_7 15 rfl rfl)
theorem dL_law_287 : decode cL_law 287 = .ok (.iload 4, 2) := dk_21 4 (dk_at dksL_law_7 16 rfl rfl)
theorem dL_law_289 : decode cL_law 289 = .ok (.iconst 1, 1) := dk_4 (dk_at dksL_law_7 18 rfl rfl)
theorem dL_law_290 : decode cL_law 290 = .ok (.iadd, 1) := dk_96 (dk_at dksL_law_7 19 rfl rfl)
theorem dL_law_291 : decode cL_law 291 = .ok (.iaload, 1) := dk_46 (dk_at dksL_law_7 20 rfl rfl)
theorem dL_law_292 : decode cL_law 292 = .ok (.i2l, 1) := dk_133 (dk_at dksL_law_7 21 rfl rfl)
theorem dL_law_293 : decode cL_law 293 = .ok (.bipush 32, 2) := dk_16 32 (dk_at dksL_law_7 22 rfl rfl)
theorem dL_law_295 : decode cL_law 295 = .ok (.lshl, 1) := dk_121 (dk_at dksL_law_8 0 rfl rfl)
theorem dL_law_296 : decode cL_law 296 = .ok (.aload_n 0, 1) := dk_42 (dk_at dksL_law_8 1 rfl rfl)
theorem dL_law_297 : decode cL_law 297 = .ok (.iload 4, 2) := dk_21 4 (dk_at dksL_law_8 2 rfl rfl)
theorem dL_law_299 : decode cL_law 299 = .ok (.iconst 2, 1) := dk_5 (dk_at dksL_law_8 4 rfl rfl)
theorem dL_law_300 : decode cL_law 300 = .ok (.iadd, 1) := dk_96 (dk_at dksL_law_8 5 rfl rfl)
theorem dL_law_301 : decode cL_law 301 = .ok (.iaload, 1) := dk_46 (dk_at dksL_law_8 6 rfl rfl)
theorem dL_law_302 : decode cL_law 302 = .ok (.i2l, 1) := dk_133 (dk_at dksL_law_8 7 rfl rfl)
theorem dL_law_303 : decode cL_law 303 = .ok (.ldc2_w 115, 3) := dk_20 0 115 (dk_at dksL_law_8 8 rfl rfl)
theorem dL_law_306 : decode cL_law 306 = .ok (.land, 1) := dk_127 (dk_at dksL_law_8 11 rfl rfl)
theorem dL_law_307 : decode cL_law 307 = .ok (.lor, 1) := dk_129 (dk_at dksL_law_8 12 rfl rfl)
theorem dL_law_308 : decode cL_law 308 = .ok (.invokevirtual 120, 3) := dk_182 0 120 (dk_at dksL_law_8 13 rfl rfl)
theorem dL_law_311 : decode cL_law 311 = .ok (.istore 6, 2) := dk_54 6 (dk_at dksL_law_8 16 rfl rfl)
theorem dL_law_313 : decode cL_law 313 = .ok (.aload_n 2, 1) := dk_44 (dk_at dksL_law_8 18 rfl rfl)
theorem dL_law_314 : decode cL_law 314 = .ok (.invokevirtual 112, 3) := dk_182 0 112 (dk_at dksL_law_8 19 rfl rfl)
theorem dL_law_317 : decode cL_law 317 = .ok (.iload 5, 2) := dk_21 5 (dk_at dksL_law_8 22 rfl rfl)
theorem dL_law_319 : decode cL_law 319 = .ok (.if_icmp .eq 5, 3) := dk_159 0 5 (dk_at dksL_law_9 0 rfl rfl)
theorem dL_law_322 : decode cL_law 322 = .ok (.iconst 0, 1) := dk_3 (dk_at dksL_law_9 3 rfl rfl)
theorem dL_law_323 : decode cL_law 323 = .ok (.ireturn, 1) := dk_172 (dk_at dksL_law_9 4 rfl rfl)
theorem dL_law_324 : decode cL_law 324 = .ok (.iload 5, 2) := dk_21 5 (dk_at dksL_law_9 5 rfl rfl)
theorem dL_law_326 : decode cL_law 326 = .ok (.ifCond .ne 15, 3) := dk_154 0 15 (dk_at dksL_law_9 7 rfl rfl)
theorem dL_law_329 : decode cL_law 329 = .ok (.aload_n 3, 1) := dk_45 (dk_at dksL_law_9 10 rfl rfl)
theorem dL_law_330 : decode cL_law 330 = .ok (.iconst 0, 1) := dk_3 (dk_at dksL_law_9 11 rfl rfl)
theorem dL_law_331 : decode cL_law 331 = .ok (.laload, 1) := dk_47 (dk_at dksL_law_9 12 rfl rfl)
theorem dL_law_332 : decode cL_law 332 = .ok (.iload 6, 2) := dk_21 6 (dk_at dksL_law_9 13 rfl rfl)
theorem dL_law_334 : decode cL_law 334 = .ok (.i2l, 1) := dk_133 (dk_at dksL_law_9 15 rfl rfl)
theorem dL_law_335 : decode cL_law 335 = .ok (.lcmp, 1) := dk_148 (dk_at dksL_law_9 16 rfl rfl)
theorem dL_law_336 : decode cL_law 336 = .ok (.ifCond .eq 5, 3) := dk_153 0 5 (dk_at dksL_law_9 17 rfl rfl)
theorem dL_law_339 : decode cL_law 339 = .ok (.iconst 0, 1) := dk_3 (dk_at dksL_law_9 20 rfl rfl)
theorem dL_law_340 : decode cL_law 340 = .ok (.ireturn, 1) := dk_172 (dk_at dksL_law_9 21 rfl rfl)
theorem dL_law_341 : decode cL_law 341 = .ok (.goto 1533, 3) := dk_167 5 253 (dk_at dksL_law_10 0 rfl rfl)
theorem dL_law_344 : decode cL_law 344 = .ok (.aload_n 1, 1) := dk_43 (dk_at dksL_law_10 3 rfl rfl)
theorem dL_law_345 : decode cL_law 345 = .ok (.aload_n 0, 1) := dk_42 (dk_at dksL_law_10 4 rfl rfl)
theorem dL_law_346 : decode cL_law 346 = .ok (.iload 4, 2) := dk_21 4 (dk_at dksL_law_10 5 rfl rfl)
theorem dL_law_348 : decode cL_law 348 = .ok (.iconst 1, 1) := dk_4 (dk_at dksL_law_10 7 rfl rfl)
theorem dL_law_349 : decode cL_law 349 = .ok (.iadd, 1) := dk_96 (dk_at dksL_law_10 8 rfl rfl)
theorem dL_law_350 : decode cL_law 350 = .ok (.iaload, 1) := dk_46 (dk_at dksL_law_10 9 rfl rfl)
theorem dL_law_351 : decode cL_law 351 = .ok (.aload_n 0, 1) := dk_42 (dk_at dksL_law_10 10 rfl rfl)
theorem dL_law_352 : decode cL_law 352 = .ok (.iload 4, 2) := dk_21 4 (dk_at dksL_law_10 11 rfl rfl)
theorem dL_law_354 : decode cL_law 354 = .ok (.iconst 2, 1) := dk_5 (dk_at dksL_law_10 13 rfl rfl)
theorem dL_law_355 : decode cL_law 355 = .ok (.iadd, 1) := dk_96 (dk_at dksL_law_10 14 rfl rfl)
theorem dL_law_356 : decode cL_law 356 = .ok (.iaload, 1) := dk_46 (dk_at dksL_law_10 15 rfl rfl)
theorem dL_law_357 : decode cL_law 357 = .ok (.aload_n 3, 1) := dk_45 (dk_at dksL_law_10 16 rfl rfl)
theorem dL_law_358 : decode cL_law 358 = .ok (.invokestatic 121, 3) := dk_184 0 121 (dk_at dksL_law_10 17 rfl rfl)
theorem dL_law_361 : decode cL_law 361 = .ok (.istore 5, 2) := dk_54 5 (dk_at dksL_law_10 20 rfl rfl)
theorem dL_law_363 : decode cL_law 363 = .ok (.aload_n 2, 1) := dk_44 (dk_at dksL_law_10 22 rfl rfl)
theorem dL_law_364 : decode cL_law 364 = .ok (.aload_n 0, 1) := dk_42 (dk_at dksL_law_10 23 rfl rfl)
theorem dL_law_365 : decode cL_law 365 = .ok (.iload 4, 2) := dk_21 4 (dk_at dksL_law_11 0 rfl rfl)
theorem dL_law_367 : decode cL_law 367 = .ok (.iconst 1, 1) := dk_4 (dk_at dksL_law_11 2 rfl rfl)
theorem dL_law_368 : decode cL_law 368 = .ok (.iadd, 1) := dk_96 (dk_at dksL_law_11 3 rfl rfl)
theorem dL_law_369 : decode cL_law 369 = .ok (.iaload, 1) := dk_46 (dk_at dksL_law_11 4 rfl rfl)
theorem dL_law_370 : decode cL_law 370 = .ok (.aload_n 0, 1) := dk_42 (dk_at dksL_law_11 5 rfl rfl)
theorem dL_law_371 : decode cL_law 371 = .ok (.iload 4, 2) := dk_21 4 (dk_at dksL_law_11 6 rfl rfl)
theorem dL_law_373 : decode cL_law 373 = .ok (.iconst 2, 1) := dk_5 (dk_at dksL_law_11 8 rfl rfl)
theorem dL_law_374 : decode cL_law 374 = .ok (.iadd, 1) := dk_96 (dk_at dksL_law_11 9 rfl rfl)
theorem dL_law_375 : decode cL_law 375 = .ok (.iaload, 1) := dk_46 (dk_at dksL_law_11 10 rfl rfl)
theorem dL_law_376 : decode cL_law 376 = .ok (.invokevirtual 124, 3) := dk_182 0 124 (dk_at dksL_law_11 11 rfl rfl)
theorem dL_law_379 : decode cL_law 379 = .ok (.istore 6, 2) := dk_54 6 (dk_at dksL_law_11 14 rfl rfl)
theorem dL_law_381 : decode cL_law 381 = .ok (.aload_n 2, 1) := dk_44 (dk_at dksL_law_11 16 rfl rfl)
theorem dL_law_382 : decode cL_law 382 = .ok (.invokevirtual 112, 3) := dk_182 0 112 (dk_at dksL_law_11 17 rfl rfl)
theorem dL_law_385 : decode cL_law 385 = .ok (.iload 5, 2) := dk_21 5 (dk_at dksL_law_11 20 rfl rfl)
theorem dL_law_387 : decode cL_law 387 = .ok (.if_icmp .eq 5, 3) := dk_159 0 5 (dk_at dksL_law_12 0 rfl rfl)
theorem dL_law_390 : decode cL_law 390 = .ok (.iconst 0, 1) := dk_3 (dk_at dksL_law_12 3 rfl rfl)
theorem dL_law_391 : decode cL_law 391 = .ok (.ireturn, 1) := dk_172 (dk_at dksL_law_12 4 rfl rfl)
theorem dL_law_392 : decode cL_law 392 = .ok (.iload 5, 2) := dk_21 5 (dk_at dksL_law_12 5 rfl rfl)
theorem dL_law_394 : decode cL_law 394 = .ok (.ifCond .ne 15, 3) := dk_154 0 15 (dk_at dksL_law_12 7 rfl rfl)
theorem dL_law_397 : decode cL_law 397 = .ok (.aload_n 3, 1) := dk_45 (dk_at dksL_law_12 10 rfl rfl)
theorem dL_law_398 : decode cL_law 398 = .ok (.iconst 0, 1) := dk_3 (dk_at dksL_law_12 11 rfl rfl)
theorem dL_law_399 : decode cL_law 399 = .ok (.laload, 1) := dk_47 (dk_at dksL_law_12 12 rfl rfl)
theorem dL_law_400 : decode cL_law 400 = .ok (.iload 6, 2) := dk_21 6 (dk_at dksL_law_12 13 rfl rfl)
theorem dL_law_402 : decode cL_law 402 = .ok (.i2l, 1) := dk_133 (dk_at dksL_law_12 15 rfl rfl)
theorem dL_law_403 : decode cL_law 403 = .ok (.lcmp, 1) := dk_148 (dk_at dksL_law_12 16 rfl rfl)
theorem dL_law_404 : decode cL_law 404 = .ok (.ifCond .eq 5, 3) := dk_153 0 5 (dk_at dksL_law_12 17 rfl rfl)
theorem dL_law_407 : decode cL_law 407 = .ok (.iconst 0, 1) := dk_3 (dk_at dksL_law_12 20 rfl rfl)
theorem dL_law_408 : decode cL_law 408 = .ok (.ireturn, 1) := dk_172 (dk_at dksL_law_12 21 rfl rfl)
theorem dL_law_409 : decode cL_law 409 = .ok (.goto 1465, 3) := dk_167 5 185 (dk_at dksL_law_13 0 rfl rfl)
theorem dL_law_412 : decode cL_law 412 = .ok (.aload_n 1, 1) := dk_43 (dk_at dksL_law_13 3 rfl rfl)
theorem dL_law_413 : decode cL_law 413 = .ok (.invokevirtual 125, 3) := dk_182 0 125 (dk_at dksL_law_13 4 rfl rfl)
theorem dL_law_416 : decode cL_law 416 = .ok (.aload_n 2, 1) := dk_44 (dk_at dksL_law_13 7 rfl rfl)
theorem dL_law_417 : decode cL_law 417 = .ok (.invokevirtual 129, 3) := dk_182 0 129 (dk_at dksL_law_13 8 rfl rfl)
theorem dL_law_420 : decode cL_law 420 = .ok (.lcmp, 1) := dk_148 (dk_at dksL_law_13 11 rfl rfl)
theorem dL_law_421 : decode cL_law 421 = .ok (.ifCond .eq 1453, 3) := dk_153 5 173 (dk_at dksL_law_13 12 rfl rfl)
theorem dL_law_424 : decode cL_law 424 = .ok (.iconst 0, 1) := dk_3 (dk_at dksL_law_13 15 rfl rfl)
theorem dL_law_425 : decode cL_law 425 = .ok (.ireturn, 1) := dk_172 (dk_at dksL_law_13 16 rfl rfl)
theorem dL_law_426 : decode cL_law 426 = .ok (.aload_n 1, 1) := dk_43 (dk_at dksL_law_13 17 rfl rfl)
theorem dL_law_427 : decode cL_law 427 = .ok (.aload_n 0, 1) := dk_42 (dk_at dksL_law_13 18 rfl rfl)
theorem dL_law_428 : decode cL_law 428 = .ok (.iload 4, 2) := dk_21 4 (dk_at dksL_law_13 19 rfl rfl)
theorem dL_law_430 : decode cL_law 430 = .ok (.iconst 1, 1) := dk_4 (dk_at dksL_law_13 21 rfl rfl)
theorem dL_law_431 : decode cL_law 431 = .ok (.iadd, 1) := dk_96 (dk_at dksL_law_13 22 rfl rfl)
theorem dL_law_432 : decode cL_law 432 = .ok (.iaload, 1) := dk_46 (dk_at dksL_law_13 23 rfl rfl)
theorem dL_law_433 : decode cL_law 433 = .ok (.aload_n 0, 1) := dk_42 (dk_at dksL_law_14 0 rfl rfl)
theorem dL_law_434 : decode cL_law 434 = .ok (.iload 4, 2) := dk_21 4 (dk_at dksL_law_14 1 rfl rfl)
theorem dL_law_436 : decode cL_law 436 = .ok (.iconst 2, 1) := dk_5 (dk_at dksL_law_14 3 rfl rfl)
theorem dL_law_437 : decode cL_law 437 = .ok (.iadd, 1) := dk_96 (dk_at dksL_law_14 4 rfl rfl)
theorem dL_law_438 : decode cL_law 438 = .ok (.iaload, 1) := dk_46 (dk_at dksL_law_14 5 rfl rfl)
theorem dL_law_439 : decode cL_law 439 = .ok (.ifCond .eq 7, 3) := dk_153 0 7 (dk_at dksL_law_14 6 rfl rfl)
theorem dL_law_442 : decode cL_law 442 = .ok (.iconst 1, 1) := dk_4 (dk_at dksL_law_14 9 rfl rfl)
theorem dL_law_443 : decode cL_law 443 = .ok (.goto 4, 3) := dk_167 0 4 (dk_at dksL_law_14 10 rfl rfl)
theorem dL_law_446 : decode cL_law 446 = .ok (.iconst 0, 1) := dk_3 (dk_at dksL_law_14 13 rfl rfl)
theorem dL_law_447 : decode cL_law 447 = .ok (.aload_n 3, 1) := dk_45 (dk_at dksL_law_14 14 rfl rfl)
theorem dL_law_448 : decode cL_law 448 = .ok (.invokestatic 130, 3) := dk_184 0 130 (dk_at dksL_law_14 15 rfl rfl)
theorem dL_law_451 : decode cL_law 451 = .ok (.istore 5, 2) := dk_54 5 (dk_at dksL_law_14 18 rfl rfl)
theorem dL_law_453 : decode cL_law 453 = .ok (.aload_n 2, 1) := dk_44 (dk_at dksL_law_14 20 rfl rfl)
theorem dL_law_454 : decode cL_law 454 = .ok (.aload_n 0, 1) := dk_42 (dk_at dksL_law_14 21 rfl rfl)
theorem dL_law_455 : decode cL_law 455 = .ok (.iload 4, 2) := dk_21 4 (dk_at dksL_law_14 22 rfl rfl)
theorem dL_law_457 : decode cL_law 457 = .ok (.iconst 1, 1) := dk_4 (dk_at dksL_law_15 0 rfl rfl)
theorem dL_law_458 : decode cL_law 458 = .ok (.iadd, 1) := dk_96 (dk_at dksL_law_15 1 rfl rfl)
theorem dL_law_459 : decode cL_law 459 = .ok (.iaload, 1) := dk_46 (dk_at dksL_law_15 2 rfl rfl)
theorem dL_law_460 : decode cL_law 460 = .ok (.aload_n 0, 1) := dk_42 (dk_at dksL_law_15 3 rfl rfl)
theorem dL_law_461 : decode cL_law 461 = .ok (.iload 4, 2) := dk_21 4 (dk_at dksL_law_15 4 rfl rfl)
theorem dL_law_463 : decode cL_law 463 = .ok (.iconst 2, 1) := dk_5 (dk_at dksL_law_15 6 rfl rfl)
theorem dL_law_464 : decode cL_law 464 = .ok (.iadd, 1) := dk_96 (dk_at dksL_law_15 7 rfl rfl)
theorem dL_law_465 : decode cL_law 465 = .ok (.iaload, 1) := dk_46 (dk_at dksL_law_15 8 rfl rfl)
theorem dL_law_466 : decode cL_law 466 = .ok (.ifCond .eq 7, 3) := dk_153 0 7 (dk_at dksL_law_15 9 rfl rfl)
theorem dL_law_469 : decode cL_law 469 = .ok (.iconst 1, 1) := dk_4 (dk_at dksL_law_15 12 rfl rfl)
theorem dL_law_470 : decode cL_law 470 = .ok (.goto 4, 3) := dk_167 0 4 (dk_at dksL_law_15 13 rfl rfl)
theorem dL_law_473 : decode cL_law 473 = .ok (.iconst 0, 1) := dk_3 (dk_at dksL_law_15 16 rfl rfl)
theorem dL_law_474 : decode cL_law 474 = .ok (.invokevirtual 133, 3) := dk_182 0 133 (dk_at dksL_law_15 17 rfl rfl)
theorem dL_law_477 : decode cL_law 477 = .ok (.istore 6, 2) := dk_54 6 (dk_at dksL_law_15 20 rfl rfl)
theorem dL_law_479 : decode cL_law 479 = .ok (.aload_n 2, 1) := dk_44 (dk_at dksL_law_15 22 rfl rfl)
theorem dL_law_480 : decode cL_law 480 = .ok (.invokevirtual 112, 3) := dk_182 0 112 (dk_at dksL_law_16 0 rfl rfl)
theorem dL_law_483 : decode cL_law 483 = .ok (.iload 5, 2) := dk_21 5 (dk_at dksL_law_16 3 rfl rfl)
theorem dL_law_485 : decode cL_law 485 = .ok (.if_icmp .eq 5, 3) := dk_159 0 5 (dk_at dksL_law_16 5 rfl rfl)
theorem dL_law_488 : decode cL_law 488 = .ok (.iconst 0, 1) := dk_3 (dk_at dksL_law_16 8 rfl rfl)
theorem dL_law_489 : decode cL_law 489 = .ok (.ireturn, 1) := dk_172 (dk_at dksL_law_16 9 rfl rfl)
theorem dL_law_490 : decode cL_law 490 = .ok (.iload 5, 2) := dk_21 5 (dk_at dksL_law_16 10 rfl rfl)
theorem dL_law_492 : decode cL_law 492 = .ok (.ifCond .ne 22, 3) := dk_154 0 22 (dk_at dksL_law_16 12 rfl rfl)
theorem dL_law_495 : decode cL_law 495 = .ok (.aload_n 3, 1) := dk_45 (dk_at dksL_law_16 15 rfl rfl)
theorem dL_law_496 : decode cL_law 496 = .ok (.iconst 0, 1) := dk_3 (dk_at dksL_law_16 16 rfl rfl)
theorem dL_law_497 : decode cL_law 497 = .ok (.laload, 1) := dk_47 (dk_at dksL_law_16 17 rfl rfl)
theorem dL_law_498 : decode cL_law 498 = .ok (.iload 6, 2) := dk_21 6 (dk_at dksL_law_16 18 rfl rfl)
theorem dL_law_500 : decode cL_law 500 = .ok (.ifCond .eq 7, 3) := dk_153 0 7 (dk_at dksL_law_16 20 rfl rfl)
theorem dL_law_503 : decode cL_law 503 = .ok (.lconst 1, 1) := dk_10 (dk_at dksL_law_16 23 rfl rfl)
theorem dL_law_504 : decode cL_law 504 = .ok (.goto 4, 3) := dk_167 0 4 (dk_at dksL_law_17 0 rfl rfl)
theorem dL_law_507 : decode cL_law 507 = .ok (.lconst 0, 1) := dk_9 (dk_at dksL_law_17 3 rfl rfl)
theorem dL_law_508 : decode cL_law 508 = .ok (.lcmp, 1) := dk_148 (dk_at dksL_law_17 4 rfl rfl)
theorem dL_law_509 : decode cL_law 509 = .ok (.ifCond .eq 5, 3) := dk_153 0 5 (dk_at dksL_law_17 5 rfl rfl)
theorem dL_law_512 : decode cL_law 512 = .ok (.iconst 0, 1) := dk_3 (dk_at dksL_law_17 8 rfl rfl)
theorem dL_law_513 : decode cL_law 513 = .ok (.ireturn, 1) := dk_172 (dk_at dksL_law_17 9 rfl rfl)
theorem dL_law_514 : decode cL_law 514 = .ok (.goto 1360, 3) := dk_167 5 80 (dk_at dksL_law_17 10 rfl rfl)
theorem dL_law_517 : decode cL_law 517 = .ok (.aload_n 1, 1) := dk_43 (dk_at dksL_law_17 13 rfl rfl)
theorem dL_law_518 : decode cL_law 518 = .ok (.aload_n 0, 1) := dk_42 (dk_at dksL_law_17 14 rfl rfl)
theorem dL_law_519 : decode cL_law 519 = .ok (.iload 4, 2) := dk_21 4 (dk_at dksL_law_17 15 rfl rfl)
theorem dL_law_521 : decode cL_law 521 = .ok (.iconst 1, 1) := dk_4 (dk_at dksL_law_17 17 rfl rfl)
theorem dL_law_522 : decode cL_law 522 = .ok (.iadd, 1) := dk_96 (dk_at dksL_law_17 18 rfl rfl)
theorem dL_law_523 : decode cL_law 523 = .ok (.iaload, 1) := dk_46 (dk_at dksL_law_17 19 rfl rfl)
theorem dL_law_524 : decode cL_law 524 = .ok (.aload_n 0, 1) := dk_42 (dk_at dksL_law_17 20 rfl rfl)
theorem dL_law_525 : decode cL_law 525 = .ok (.iload 4, 2) := dk_21 4 (dk_at dksL_law_17 21 rfl rfl)
theorem dL_law_527 : decode cL_law 527 = .ok (.iconst 2, 1) := dk_5 (dk_at dksL_law_17 23 rfl rfl)
theorem dL_law_528 : decode cL_law 528 = .ok (.iadd, 1) := dk_96 (dk_at dksL_law_18 0 rfl rfl)
theorem dL_law_529 : decode cL_law 529 = .ok (.iaload, 1) := dk_46 (dk_at dksL_law_18 1 rfl rfl)
theorem dL_law_530 : decode cL_law 530 = .ok (.aload_n 3, 1) := dk_45 (dk_at dksL_law_18 2 rfl rfl)
theorem dL_law_531 : decode cL_law 531 = .ok (.invokestatic 134, 3) := dk_184 0 134 (dk_at dksL_law_18 3 rfl rfl)
theorem dL_law_534 : decode cL_law 534 = .ok (.istore 5, 2) := dk_54 5 (dk_at dksL_law_18 6 rfl rfl)
theorem dL_law_536 : decode cL_law 536 = .ok (.aload_n 2, 1) := dk_44 (dk_at dksL_law_18 8 rfl rfl)
theorem dL_law_537 : decode cL_law 537 = .ok (.aload_n 0, 1) := dk_42 (dk_at dksL_law_18 9 rfl rfl)
theorem dL_law_538 : decode cL_law 538 = .ok (.iload 4, 2) := dk_21 4 (dk_at dksL_law_18 10 rfl rfl)
theorem dL_law_540 : decode cL_law 540 = .ok (.iconst 1, 1) := dk_4 (dk_at dksL_law_18 12 rfl rfl)
theorem dL_law_541 : decode cL_law 541 = .ok (.iadd, 1) := dk_96 (dk_at dksL_law_18 13 rfl rfl)
theorem dL_law_542 : decode cL_law 542 = .ok (.iaload, 1) := dk_46 (dk_at dksL_law_18 14 rfl rfl)
theorem dL_law_543 : decode cL_law 543 = .ok (.aload_n 0, 1) := dk_42 (dk_at dksL_law_18 15 rfl rfl)
theorem dL_law_544 : decode cL_law 544 = .ok (.iload 4, 2) := dk_21 4 (dk_at dksL_law_18 16 rfl rfl)
theorem dL_law_546 : decode cL_law 546 = .ok (.iconst 2, 1) := dk_5 (dk_at dksL_law_18 18 rfl rfl)
theorem dL_law_547 : decode cL_law 547 = .ok (.iadd, 1) := dk_96 (dk_at dksL_law_18 19 rfl rfl)
theorem dL_law_548 : decode cL_law 548 = .ok (.iaload, 1) := dk_46 (dk_at dksL_law_18 20 rfl rfl)
theorem dL_law_549 : decode cL_law 549 = .ok (.invokevirtual 136, 3) := dk_182 0 136 (dk_at dksL_law_18 21 rfl rfl)
theorem dL_law_552 : decode cL_law 552 = .ok (.istore 6, 2) := dk_54 6 (dk_at dksL_law_19 0 rfl rfl)
theorem dL_law_554 : decode cL_law 554 = .ok (.aload_n 2, 1) := dk_44 (dk_at dksL_law_19 2 rfl rfl)
theorem dL_law_555 : decode cL_law 555 = .ok (.invokevirtual 112, 3) := dk_182 0 112 (dk_at dksL_law_19 3 rfl rfl)
theorem dL_law_558 : decode cL_law 558 = .ok (.iload 5, 2) := dk_21 5 (dk_at dksL_law_19 6 rfl rfl)
theorem dL_law_560 : decode cL_law 560 = .ok (.if_icmp .eq 5, 3) := dk_159 0 5 (dk_at dksL_law_19 8 rfl rfl)
theorem dL_law_563 : decode cL_law 563 = .ok (.iconst 0, 1) := dk_3 (dk_at dksL_law_19 11 rfl rfl)
theorem dL_law_564 : decode cL_law 564 = .ok (.ireturn, 1) := dk_172 (dk_at dksL_law_19 12 rfl rfl)
theorem dL_law_565 : decode cL_law 565 = .ok (.iload 5, 2) := dk_21 5 (dk_at dksL_law_19 13 rfl rfl)
theorem dL_law_567 : decode cL_law 567 = .ok (.ifCond .ne 15, 3) := dk_154 0 15 (dk_at dksL_law_19 15 rfl rfl)
theorem dL_law_570 : decode cL_law 570 = .ok (.aload_n 3, 1) := dk_45 (dk_at dksL_law_19 18 rfl rfl)
theorem dL_law_571 : decode cL_law 571 = .ok (.iconst 0, 1) := dk_3 (dk_at dksL_law_19 19 rfl rfl)
theorem dL_law_572 : decode cL_law 572 = .ok (.laload, 1) := dk_47 (dk_at dksL_law_19 20 rfl rfl)
theorem dL_law_573 : decode cL_law 573 = .ok (.iload 6, 2) := dk_21 6 (dk_at dksL_law_19 21 rfl rfl)
theorem dL_law_575 : decode cL_law 575 = .ok (.i2l, 1) := dk_133 (dk_at dksL_law_19 23 rfl rfl)
theorem dL_law_576 : decode cL_law 576 = .ok (.lcmp, 1) := dk_148 (dk_at dksL_law_20 0 rfl rfl)
theorem dL_law_577 : decode cL_law 577 = .ok (.ifCond .eq 5, 3) := dk_153 0 5 (dk_at dksL_law_20 1 rfl rfl)
theorem dL_law_580 : decode cL_law 580 = .ok (.iconst 0, 1) := dk_3 (dk_at dksL_law_20 4 rfl rfl)
theorem dL_law_581 : decode cL_law 581 = .ok (.ireturn, 1) := dk_172 (dk_at dksL_law_20 5 rfl rfl)
theorem dL_law_582 : decode cL_law 582 = .ok (.goto 1292, 3) := dk_167 5 12 (dk_at dksL_law_20 6 rfl rfl)
theorem dL_law_585 : decode cL_law 585 = .ok (.aload_n 1, 1) := dk_43 (dk_at dksL_law_20 9 rfl rfl)
theorem dL_law_586 : decode cL_law 586 = .ok (.aload_n 0, 1) := dk_42 (dk_at dksL_law_20 10 rfl rfl)
theorem dL_law_587 : decode cL_law 587 = .ok (.iload 4, 2) := dk_21 4 (dk_at dksL_law_20 11 rfl rfl)
theorem dL_law_589 : decode cL_law 589 = .ok (.iconst 1, 1) := dk_4 (dk_at dksL_law_20 13 rfl rfl)
theorem dL_law_590 : decode cL_law 590 = .ok (.iadd, 1) := dk_96 (dk_at dksL_law_20 14 rfl rfl)
theorem dL_law_591 : decode cL_law 591 = .ok (.iaload, 1) := dk_46 (dk_at dksL_law_20 15 rfl rfl)
theorem dL_law_592 : decode cL_law 592 = .ok (.aload_n 3, 1) := dk_45 (dk_at dksL_law_20 16 rfl rfl)
theorem dL_law_593 : decode cL_law 593 = .ok (.invokestatic 137, 3) := dk_184 0 137 (dk_at dksL_law_20 17 rfl rfl)
theorem dL_law_596 : decode cL_law 596 = .ok (.istore 5, 2) := dk_54 5 (dk_at dksL_law_20 20 rfl rfl)
theorem dL_law_598 : decode cL_law 598 = .ok (.aload_n 2, 1) := dk_44 (dk_at dksL_law_20 22 rfl rfl)
theorem dL_law_599 : decode cL_law 599 = .ok (.aload_n 0, 1) := dk_42 (dk_at dksL_law_20 23 rfl rfl)
theorem dL_law_600 : decode cL_law 600 = .ok (.iload 4, 2) := dk_21 4 (dk_at dksL_law_21 0 rfl rfl)
theorem dL_law_602 : decode cL_law 602 = .ok (.iconst 1, 1) := dk_4 (dk_at dksL_law_21 2 rfl rfl)
theorem dL_law_603 : decode cL_law 603 = .ok (.iadd, 1) := dk_96 (dk_at dksL_law_21 3 rfl rfl)
theorem dL_law_604 : decode cL_law 604 = .ok (.iaload, 1) := dk_46 (dk_at dksL_law_21 4 rfl rfl)
theorem dL_law_605 : decode cL_law 605 = .ok (.invokevirtual 140, 3) := dk_182 0 140 (dk_at dksL_law_21 5 rfl rfl)
theorem dL_law_608 : decode cL_law 608 = .ok (.istore 6, 2) := dk_54 6 (dk_at dksL_law_21 8 rfl rfl)
theorem dL_law_610 : decode cL_law 610 = .ok (.aload_n 2, 1) := dk_44 (dk_at dksL_law_21 10 rfl rfl)
theorem dL_law_611 : decode cL_law 611 = .ok (.invokevirtual 112, 3) := dk_182 0 112 (dk_at dksL_law_21 11 rfl rfl)
theorem dL_law_614 : decode cL_law 614 = .ok (.iload 5, 2) := dk_21 5 (dk_at dksL_law_21 14 rfl rfl)
theorem dL_law_616 : decode cL_law 616 = .ok (.if_icmp .eq 5, 3) := dk_159 0 5 (dk_at dksL_law_21 16 rfl rfl)
theorem dL_law_619 : decode cL_law 619 = .ok (.iconst 0, 1) := dk_3 (dk_at dksL_law_21 19 rfl rfl)
theorem dL_law_620 : decode cL_law 620 = .ok (.ireturn, 1) := dk_172 (dk_at dksL_law_21 20 rfl rfl)
theorem dL_law_621 : decode cL_law 621 = .ok (.iload 5, 2) := dk_21 5 (dk_at dksL_law_21 21 rfl rfl)
theorem dL_law_623 : decode cL_law 623 = .ok (.ifCond .ne 15, 3) := dk_154 0 15 (dk_at dksL_law_22 0 rfl rfl)
theorem dL_law_626 : decode cL_law 626 = .ok (.aload_n 3, 1) := dk_45 (dk_at dksL_law_22 3 rfl rfl)
theorem dL_law_627 : decode cL_law 627 = .ok (.iconst 0, 1) := dk_3 (dk_at dksL_law_22 4 rfl rfl)
theorem dL_law_628 : decode cL_law 628 = .ok (.laload, 1) := dk_47 (dk_at dksL_law_22 5 rfl rfl)
theorem dL_law_629 : decode cL_law 629 = .ok (.iload 6, 2) := dk_21 6 (dk_at dksL_law_22 6 rfl rfl)
theorem dL_law_631 : decode cL_law 631 = .ok (.i2l, 1) := dk_133 (dk_at dksL_law_22 8 rfl rfl)
theorem dL_law_632 : decode cL_law 632 = .ok (.lcmp, 1) := dk_148 (dk_at dksL_law_22 9 rfl rfl)
theorem dL_law_633 : decode cL_law 633 = .ok (.ifCond .eq 5, 3) := dk_153 0 5 (dk_at dksL_law_22 10 rfl rfl)
theorem dL_law_636 : decode cL_law 636 = .ok (.iconst 0, 1) := dk_3 (dk_at dksL_law_22 13 rfl rfl)
theorem dL_law_637 : decode cL_law 637 = .ok (.ireturn, 1) := dk_172 (dk_at dksL_law_22 14 rfl rfl)
theorem dL_law_638 : decode cL_law 638 = .ok (.goto 1236, 3) := dk_167 4 212 (dk_at dksL_law_22 15 rfl rfl)
theorem dL_law_641 : decode cL_law 641 = .ok (.aload_n 1, 1) := dk_43 (dk_at dksL_law_22 18 rfl rfl)
theorem dL_law_642 : decode cL_law 642 = .ok (.aload_n 0, 1) := dk_42 (dk_at dksL_law_22 19 rfl rfl)
theorem dL_law_643 : decode cL_law 643 = .ok (.iload 4, 2) := dk_21 4 (dk_at dksL_law_22 20 rfl rfl)
theorem dL_law_645 : decode cL_law 645 = .ok (.iconst 1, 1) := dk_4 (dk_at dksL_law_22 22 rfl rfl)
theorem dL_law_646 : decode cL_law 646 = .ok (.iadd, 1) := dk_96 (dk_at dksL_law_22 23 rfl rfl)
theorem dL_law_647 : decode cL_law 647 = .ok (.iaload, 1) := dk_46 (dk_at dksL_law_23 0 rfl rfl)
theorem dL_law_648 : decode cL_law 648 = .ok (.aload_n 0, 1) := dk_42 (dk_at dksL_law_23 1 rfl rfl)
theorem dL_law_649 : decode cL_law 649 = .ok (.iload 4, 2) := dk_21 4 (dk_at dksL_law_23 2 rfl rfl)
theorem dL_law_651 : decode cL_law 651 = .ok (.iconst 2, 1) := dk_5 (dk_at dksL_law_23 4 rfl rfl)
theorem dL_law_652 : decode cL_law 652 = .ok (.iadd, 1) := dk_96 (dk_at dksL_law_23 5 rfl rfl)
theorem dL_law_653 : decode cL_law 653 = .ok (.iaload, 1) := dk_46 (dk_at dksL_law_23 6 rfl rfl)
theorem dL_law_654 : decode cL_law 654 = .ok (.aload_n 3, 1) := dk_45 (dk_at dksL_law_23 7 rfl rfl)
theorem dL_law_655 : decode cL_law 655 = .ok (.invokestatic 141, 3) := dk_184 0 141 (dk_at dksL_law_23 8 rfl rfl)
theorem dL_law_658 : decode cL_law 658 = .ok (.istore 5, 2) := dk_54 5 (dk_at dksL_law_23 11 rfl rfl)
theorem dL_law_660 : decode cL_law 660 = .ok (.aload_n 2, 1) := dk_44 (dk_at dksL_law_23 13 rfl rfl)
theorem dL_law_661 : decode cL_law 661 = .ok (.aload_n 0, 1) := dk_42 (dk_at dksL_law_23 14 rfl rfl)
theorem dL_law_662 : decode cL_law 662 = .ok (.iload 4, 2) := dk_21 4 (dk_at dksL_law_23 15 rfl rfl)
theorem dL_law_664 : decode cL_law 664 = .ok (.iconst 1, 1) := dk_4 (dk_at dksL_law_23 17 rfl rfl)
theorem dL_law_665 : decode cL_law 665 = .ok (.iadd, 1) := dk_96 (dk_at dksL_law_23 18 rfl rfl)
theorem dL_law_666 : decode cL_law 666 = .ok (.iaload, 1) := dk_46 (dk_at dksL_law_23 19 rfl rfl)
theorem dL_law_667 : decode cL_law 667 = .ok (.aload_n 0, 1) := dk_42 (dk_at dksL_law_23 20 rfl rfl)
theorem dL_law_668 : decode cL_law 668 = .ok (.iload 4, 2) := dk_21 4 (dk_at dksL_law_23 21 rfl rfl)
theorem dL_law_670 : decode cL_law 670 = .ok (.iconst 2, 1) := dk_5 (dk_at dksL_law_23 23 rfl rfl)
theorem dL_law_671 : decode cL_law 671 = .ok (.iadd, 1) := dk_96 (dk_at dksL_law_24 0 rfl rfl)
theorem dL_law_672 : decode cL_law 672 = .ok (.iaload, 1) := dk_46 (dk_at dksL_law_24 1 rfl rfl)
theorem dL_law_673 : decode cL_law 673 = .ok (.invokevirtual 143, 3) := dk_182 0 143 (dk_at dksL_law_24 2 rfl rfl)
theorem dL_law_676 : decode cL_law 676 = .ok (.istore 6, 2) := dk_54 6 (dk_at dksL_law_24 5 rfl rfl)
theorem dL_law_678 : decode cL_law 678 = .ok (.aload_n 2, 1) := dk_44 (dk_at dksL_law_24 7 rfl rfl)
theorem dL_law_679 : decode cL_law 679 = .ok (.invokevirtual 112, 3) := dk_182 0 112 (dk_at dksL_law_24 8 rfl rfl)
theorem dL_law_682 : decode cL_law 682 = .ok (.iload 5, 2) := dk_21 5 (dk_at dksL_law_24 11 rfl rfl)
theorem dL_law_684 : decode cL_law 684 = .ok (.if_icmp .eq 5, 3) := dk_159 0 5 (dk_at dksL_law_24 13 rfl rfl)
theorem dL_law_687 : decode cL_law 687 = .ok (.iconst 0, 1) := dk_3 (dk_at dksL_law_24 16 rfl rfl)
theorem dL_law_688 : decode cL_law 688 = .ok (.ireturn, 1) := dk_172 (dk_at dksL_law_24 17 rfl rfl)
theorem dL_law_689 : decode cL_law 689 = .ok (.iload 5, 2) := dk_21 5 (dk_at dksL_law_24 18 rfl rfl)
theorem dL_law_691 : decode cL_law 691 = .ok (.ifCond .ne 15, 3) := dk_154 0 15 (dk_at dksL_law_24 20 rfl rfl)
theorem dL_law_694 : decode cL_law 694 = .ok (.aload_n 3, 1) := dk_45 (dk_at dksL_law_24 23 rfl rfl)
theorem dL_law_695 : decode cL_law 695 = .ok (.iconst 0, 1) := dk_3 (dk_at dksL_law_25 0 rfl rfl)
theorem dL_law_696 : decode cL_law 696 = .ok (.laload, 1) := dk_47 (dk_at dksL_law_25 1 rfl rfl)
theorem dL_law_697 : decode cL_law 697 = .ok (.iload 6, 2) := dk_21 6 (dk_at dksL_law_25 2 rfl rfl)
theorem dL_law_699 : decode cL_law 699 = .ok (.i2l, 1) := dk_133 (dk_at dksL_law_25 4 rfl rfl)
theorem dL_law_700 : decode cL_law 700 = .ok (.lcmp, 1) := dk_148 (dk_at dksL_law_25 5 rfl rfl)
theorem dL_law_701 : decode cL_law 701 = .ok (.ifCond .eq 5, 3) := dk_153 0 5 (dk_at dksL_law_25 6 rfl rfl)
theorem dL_law_704 : decode cL_law 704 = .ok (.iconst 0, 1) := dk_3 (dk_at dksL_law_25 9 rfl rfl)
theorem dL_law_705 : decode cL_law 705 = .ok (.ireturn, 1) := dk_172 (dk_at dksL_law_25 10 rfl rfl)
theorem dL_law_706 : decode cL_law 706 = .ok (.goto 1168, 3) := dk_167 4 144 (dk_at dksL_law_25 11 rfl rfl)
theorem dL_law_709 : decode cL_law 709 = .ok (.aload_n 1, 1) := dk_43 (dk_at dksL_law_25 14 rfl rfl)
theorem dL_law_710 : decode cL_law 710 = .ok (.aload_n 0, 1) := dk_42 (dk_at dksL_law_25 15 rfl rfl)
theorem dL_law_711 : decode cL_law 711 = .ok (.iload 4, 2) := dk_21 4 (dk_at dksL_law_25 16 rfl rfl)
theorem dL_law_713 : decode cL_law 713 = .ok (.iconst 1, 1) := dk_4 (dk_at dksL_law_25 18 rfl rfl)
theorem dL_law_714 : decode cL_law 714 = .ok (.iadd, 1) := dk_96 (dk_at dksL_law_25 19 rfl rfl)
theorem dL_law_715 : decode cL_law 715 = .ok (.iaload, 1) := dk_46 (dk_at dksL_law_25 20 rfl rfl)
theorem dL_law_716 : decode cL_law 716 = .ok (.aload_n 3, 1) := dk_45 (dk_at dksL_law_25 21 rfl rfl)
theorem dL_law_717 : decode cL_law 717 = .ok (.invokestatic 144, 3) := dk_184 0 144 (dk_at dksL_law_26 0 rfl rfl)
theorem dL_law_720 : decode cL_law 720 = .ok (.istore 5, 2) := dk_54 5 (dk_at dksL_law_26 3 rfl rfl)
theorem dL_law_722 : decode cL_law 722 = .ok (.aload_n 2, 1) := dk_44 (dk_at dksL_law_26 5 rfl rfl)
theorem dL_law_723 : decode cL_law 723 = .ok (.aload_n 0, 1) := dk_42 (dk_at dksL_law_26 6 rfl rfl)
theorem dL_law_724 : decode cL_law 724 = .ok (.iload 4, 2) := dk_21 4 (dk_at dksL_law_26 7 rfl rfl)
theorem dL_law_726 : decode cL_law 726 = .ok (.iconst 1, 1) := dk_4 (dk_at dksL_law_26 9 rfl rfl)
theorem dL_law_727 : decode cL_law 727 = .ok (.iadd, 1) := dk_96 (dk_at dksL_law_26 10 rfl rfl)
theorem dL_law_728 : decode cL_law 728 = .ok (.iaload, 1) := dk_46 (dk_at dksL_law_26 11 rfl rfl)
theorem dL_law_729 : decode cL_law 729 = .ok (.invokevirtual 146, 3) := dk_182 0 146 (dk_at dksL_law_26 12 rfl rfl)
theorem dL_law_732 : decode cL_law 732 = .ok (.istore 6, 2) := dk_54 6 (dk_at dksL_law_26 15 rfl rfl)
theorem dL_law_734 : decode cL_law 734 = .ok (.aload_n 2, 1) := dk_44 (dk_at dksL_law_26 17 rfl rfl)
theorem dL_law_735 : decode cL_law 735 = .ok (.invokevirtual 112, 3) := dk_182 0 112 (dk_at dksL_law_26 18 rfl rfl)
theorem dL_law_738 : decode cL_law 738 = .ok (.iload 5, 2) := dk_21 5 (dk_at dksL_law_26 21 rfl rfl)
theorem dL_law_740 : decode cL_law 740 = .ok (.if_icmp .eq 5, 3) := dk_159 0 5 (dk_at dksL_law_27 0 rfl rfl)
theorem dL_law_743 : decode cL_law 743 = .ok (.iconst 0, 1) := dk_3 (dk_at dksL_law_27 3 rfl rfl)
theorem dL_law_744 : decode cL_law 744 = .ok (.ireturn, 1) := dk_172 (dk_at dksL_law_27 4 rfl rfl)
theorem dL_law_745 : decode cL_law 745 = .ok (.iload 5, 2) := dk_21 5 (dk_at dksL_law_27 5 rfl rfl)
theorem dL_law_747 : decode cL_law 747 = .ok (.ifCond .ne 15, 3) := dk_154 0 15 (dk_at dksL_law_27 7 rfl rfl)
theorem dL_law_750 : decode cL_law 750 = .ok (.aload_n 3, 1) := dk_45 (dk_at dksL_law_27 10 rfl rfl)
theorem dL_law_751 : decode cL_law 751 = .ok (.iconst 0, 1) := dk_3 (dk_at dksL_law_27 11 rfl rfl)
theorem dL_law_752 : decode cL_law 752 = .ok (.laload, 1) := dk_47 (dk_at dksL_law_27 12 rfl rfl)
theorem dL_law_753 : decode cL_law 753 = .ok (.iload 6, 2) := dk_21 6 (dk_at dksL_law_27 13 rfl rfl)
theorem dL_law_755 : decode cL_law 755 = .ok (.i2l, 1) := dk_133 (dk_at dksL_law_27 15 rfl rfl)
theorem dL_law_756 : decode cL_law 756 = .ok (.lcmp, 1) := dk_148 (dk_at dksL_law_27 16 rfl rfl)
theorem dL_law_757 : decode cL_law 757 = .ok (.ifCond .eq 5, 3) := dk_153 0 5 (dk_at dksL_law_27 17 rfl rfl)
theorem dL_law_760 : decode cL_law 760 = .ok (.iconst 0, 1) := dk_3 (dk_at dksL_law_27 20 rfl rfl)
theorem dL_law_761 : decode cL_law 761 = .ok (.ireturn, 1) := dk_172 (dk_at dksL_law_27 21 rfl rfl)
theorem dL_law_762 : decode cL_law 762 = .ok (.goto 1112, 3) := dk_167 4 88 (dk_at dksL_law_28 0 rfl rfl)
theorem dL_law_765 : decode cL_law 765 = .ok (.aload_n 1, 1) := dk_43 (dk_at dksL_law_28 3 rfl rfl)
theorem dL_law_766 : decode cL_law 766 = .ok (.aload_n 0, 1) := dk_42 (dk_at dksL_law_28 4 rfl rfl)
theorem dL_law_767 : decode cL_law 767 = .ok (.iload 4, 2) := dk_21 4 (dk_at dksL_law_28 5 rfl rfl)
theorem dL_law_769 : decode cL_law 769 = .ok (.iconst 1, 1) := dk_4 (dk_at dksL_law_28 7 rfl rfl)
theorem dL_law_770 : decode cL_law 770 = .ok (.iadd, 1) := dk_96 (dk_at dksL_law_28 8 rfl rfl)
theorem dL_law_771 : decode cL_law 771 = .ok (.iaload, 1) := dk_46 (dk_at dksL_law_28 9 rfl rfl)
theorem dL_law_772 : decode cL_law 772 = .ok (.aload_n 0, 1) := dk_42 (dk_at dksL_law_28 10 rfl rfl)
theorem dL_law_773 : decode cL_law 773 = .ok (.iload 4, 2) := dk_21 4 (dk_at dksL_law_28 11 rfl rfl)
theorem dL_law_775 : decode cL_law 775 = .ok (.iconst 2, 1) := dk_5 (dk_at dksL_law_28 13 rfl rfl)
theorem dL_law_776 : decode cL_law 776 = .ok (.iadd, 1) := dk_96 (dk_at dksL_law_28 14 rfl rfl)
theorem dL_law_777 : decode cL_law 777 = .ok (.iaload, 1) := dk_46 (dk_at dksL_law_28 15 rfl rfl)
theorem dL_law_778 : decode cL_law 778 = .ok (.i2l, 1) := dk_133 (dk_at dksL_law_28 16 rfl rfl)
theorem dL_law_779 : decode cL_law 779 = .ok (.bipush 32, 2) := dk_16 32 (dk_at dksL_law_28 17 rfl rfl)
theorem dL_law_781 : decode cL_law 781 = .ok (.lshl, 1) := dk_121 (dk_at dksL_law_28 19 rfl rfl)
theorem dL_law_782 : decode cL_law 782 = .ok (.aload_n 0, 1) := dk_42 (dk_at dksL_law_28 20 rfl rfl)
theorem dL_law_783 : decode cL_law 783 = .ok (.iload 4, 2) := dk_21 4 (dk_at dksL_law_28 21 rfl rfl)
theorem dL_law_785 : decode cL_law 785 = .ok (.iconst 3, 1) := dk_6 (dk_at dksL_law_28 23 rfl rfl)
theorem dL_law_786 : decode cL_law 786 = .ok (.iadd, 1) := dk_96 (dk_at dksL_law_29 0 rfl rfl)
theorem dL_law_787 : decode cL_law 787 = .ok (.iaload, 1) := dk_46 (dk_at dksL_law_29 1 rfl rfl)
theorem dL_law_788 : decode cL_law 788 = .ok (.i2l, 1) := dk_133 (dk_at dksL_law_29 2 rfl rfl)
theorem dL_law_789 : decode cL_law 789 = .ok (.ldc2_w 115, 3) := dk_20 0 115 (dk_at dksL_law_29 3 rfl rfl)
theorem dL_law_792 : decode cL_law 792 = .ok (.land, 1) := dk_127 (dk_at dksL_law_29 6 rfl rfl)
theorem dL_law_793 : decode cL_law 793 = .ok (.lor, 1) := dk_129 (dk_at dksL_law_29 7 rfl rfl)
theorem dL_law_794 : decode cL_law 794 = .ok (.aload_n 3, 1) := dk_45 (dk_at dksL_law_29 8 rfl rfl)
theorem dL_law_795 : decode cL_law 795 = .ok (.invokestatic 147, 3) := dk_184 0 147 (dk_at dksL_law_29 9 rfl rfl)
theorem dL_law_798 : decode cL_law 798 = .ok (.istore 5, 2) := dk_54 5 (dk_at dksL_law_29 12 rfl rfl)
theorem dL_law_800 : decode cL_law 800 = .ok (.aload_n 2, 1) := dk_44 (dk_at dksL_law_29 14 rfl rfl)
theorem dL_law_801 : decode cL_law 801 = .ok (.aload_n 0, 1) := dk_42 (dk_at dksL_law_29 15 rfl rfl)
theorem dL_law_802 : decode cL_law 802 = .ok (.iload 4, 2) := dk_21 4 (dk_at dksL_law_29 16 rfl rfl)
theorem dL_law_804 : decode cL_law 804 = .ok (.iconst 1, 1) := dk_4 (dk_at dksL_law_29 18 rfl rfl)
theorem dL_law_805 : decode cL_law 805 = .ok (.iadd, 1) := dk_96 (dk_at dksL_law_29 19 rfl rfl)
theorem dL_law_806 : decode cL_law 806 = .ok (.iaload, 1) := dk_46 (dk_at dksL_law_29 20 rfl rfl)
theorem dL_law_807 : decode cL_law 807 = .ok (.aload_n 0, 1) := dk_42 (dk_at dksL_law_29 21 rfl rfl)
theorem dL_law_808 : decode cL_law 808 = .ok (.iload 4, 2) := dk_21 4 (dk_at dksL_law_29 22 rfl rfl)
theorem dL_law_810 : decode cL_law 810 = .ok (.iconst 2, 1) := dk_5 (dk_at dksL_law_30 0 rfl rfl)
theorem dL_law_811 : decode cL_law 811 = .ok (.iadd, 1) := dk_96 (dk_at dksL_law_30 1 rfl rfl)
theorem dL_law_812 : decode cL_law 812 = .ok (.iaload, 1) := dk_46 (dk_at dksL_law_30 2 rfl rfl)
theorem dL_law_813 : decode cL_law 813 = .ok (.i2l, 1) := dk_133 (dk_at dksL_law_30 3 rfl rfl)
theorem dL_law_814 : decode cL_law 814 = .ok (.bipush 32, 2) := dk_16 32 (dk_at dksL_law_30 4 rfl rfl)
theorem dL_law_816 : decode cL_law 816 = .ok (.lshl, 1) := dk_121 (dk_at dksL_law_30 6 rfl rfl)
theorem dL_law_817 : decode cL_law 817 = .ok (.aload_n 0, 1) := dk_42 (dk_at dksL_law_30 7 rfl rfl)
theorem dL_law_818 : decode cL_law 818 = .ok (.iload 4, 2) := dk_21 4 (dk_at dksL_law_30 8 rfl rfl)
theorem dL_law_820 : decode cL_law 820 = .ok (.iconst 3, 1) := dk_6 (dk_at dksL_law_30 10 rfl rfl)
theorem dL_law_821 : decode cL_law 821 = .ok (.iadd, 1) := dk_96 (dk_at dksL_law_30 11 rfl rfl)
theorem dL_law_822 : decode cL_law 822 = .ok (.iaload, 1) := dk_46 (dk_at dksL_law_30 12 rfl rfl)
theorem dL_law_823 : decode cL_law 823 = .ok (.i2l, 1) := dk_133 (dk_at dksL_law_30 13 rfl rfl)
theorem dL_law_824 : decode cL_law 824 = .ok (.ldc2_w 115, 3) := dk_20 0 115 (dk_at dksL_law_30 14 rfl rfl)
theorem dL_law_827 : decode cL_law 827 = .ok (.land, 1) := dk_127 (dk_at dksL_law_30 17 rfl rfl)
theorem dL_law_828 : decode cL_law 828 = .ok (.lor, 1) := dk_129 (dk_at dksL_law_30 18 rfl rfl)
theorem dL_law_829 : decode cL_law 829 = .ok (.invokevirtual 150, 3) := dk_182 0 150 (dk_at dksL_law_30 19 rfl rfl)
theorem dL_law_832 : decode cL_law 832 = .ok (.istore 6, 2) := dk_54 6 (dk_at dksL_law_30 22 rfl rfl)
theorem dL_law_834 : decode cL_law 834 = .ok (.aload_n 2, 1) := dk_44 (dk_at dksL_law_31 0 rfl rfl)
theorem dL_law_835 : decode cL_law 835 = .ok (.invokevirtual 112, 3) := dk_182 0 112 (dk_at dksL_law_31 1 rfl rfl)
theorem dL_law_838 : decode cL_law 838 = .ok (.iload 5, 2) := dk_21 5 (dk_at dksL_law_31 4 rfl rfl)
theorem dL_law_840 : decode cL_law 840 = .ok (.if_icmp .eq 5, 3) := dk_159 0 5 (dk_at dksL_law_31 6 rfl rfl)
theorem dL_law_843 : decode cL_law 843 = .ok (.iconst 0, 1) := dk_3 (dk_at dksL_law_31 9 rfl rfl)
theorem dL_law_844 : decode cL_law 844 = .ok (.ireturn, 1) := dk_172 (dk_at dksL_law_31 10 rfl rfl)
theorem dL_law_845 : decode cL_law 845 = .ok (.iload 5, 2) := dk_21 5 (dk_at dksL_law_31 11 rfl rfl)
theorem dL_law_847 : decode cL_law 847 = .ok (.ifCond .ne 15, 3) := dk_154 0 15 (dk_at dksL_law_31 13 rfl rfl)
theorem dL_law_850 : decode cL_law 850 = .ok (.aload_n 3, 1) := dk_45 (dk_at dksL_law_31 16 rfl rfl)
theorem dL_law_851 : decode cL_law 851 = .ok (.iconst 0, 1) := dk_3 (dk_at dksL_law_31 17 rfl rfl)
theorem dL_law_852 : decode cL_law 852 = .ok (.laload, 1) := dk_47 (dk_at dksL_law_31 18 rfl rfl)
theorem dL_law_853 : decode cL_law 853 = .ok (.iload 6, 2) := dk_21 6 (dk_at dksL_law_31 19 rfl rfl)
theorem dL_law_855 : decode cL_law 855 = .ok (.i2l, 1) := dk_133 (dk_at dksL_law_31 21 rfl rfl)
theorem dL_law_856 : decode cL_law 856 = .ok (.lcmp, 1) := dk_148 (dk_at dksL_law_31 22 rfl rfl)
theorem dL_law_857 : decode cL_law 857 = .ok (.ifCond .eq 5, 3) := dk_153 0 5 (dk_at dksL_law_32 0 rfl rfl)
theorem dL_law_860 : decode cL_law 860 = .ok (.iconst 0, 1) := dk_3 (dk_at dksL_law_32 3 rfl rfl)
theorem dL_law_861 : decode cL_law 861 = .ok (.ireturn, 1) := dk_172 (dk_at dksL_law_32 4 rfl rfl)
theorem dL_law_862 : decode cL_law 862 = .ok (.goto 1012, 3) := dk_167 3 244 (dk_at dksL_law_32 5 rfl rfl)
theorem dL_law_865 : decode cL_law 865 = .ok (.aload_n 1, 1) := dk_43 (dk_at dksL_law_32 8 rfl rfl)
theorem dL_law_866 : decode cL_law 866 = .ok (.aload_n 0, 1) := dk_42 (dk_at dksL_law_32 9 rfl rfl)
theorem dL_law_867 : decode cL_law 867 = .ok (.iload 4, 2) := dk_21 4 (dk_at dksL_law_32 10 rfl rfl)
theorem dL_law_869 : decode cL_law 869 = .ok (.iconst 1, 1) := dk_4 (dk_at dksL_law_32 12 rfl rfl)
theorem dL_law_870 : decode cL_law 870 = .ok (.iadd, 1) := dk_96 (dk_at dksL_law_32 13 rfl rfl)
theorem dL_law_871 : decode cL_law 871 = .ok (.iaload, 1) := dk_46 (dk_at dksL_law_32 14 rfl rfl)
theorem dL_law_872 : decode cL_law 872 = .ok (.aload_n 0, 1) := dk_42 (dk_at dksL_law_32 15 rfl rfl)
theorem dL_law_873 : decode cL_law 873 = .ok (.iload 4, 2) := dk_21 4 (dk_at dksL_law_32 16 rfl rfl)
theorem dL_law_875 : decode cL_law 875 = .ok (.iconst 2, 1) := dk_5 (dk_at dksL_law_32 18 rfl rfl)
theorem dL_law_876 : decode cL_law 876 = .ok (.iadd, 1) := dk_96 (dk_at dksL_law_32 19 rfl rfl)
theorem dL_law_877 : decode cL_law 877 = .ok (.iaload, 1) := dk_46 (dk_at dksL_law_32 20 rfl rfl)
theorem dL_law_878 : decode cL_law 878 = .ok (.aload_n 3, 1) := dk_45 (dk_at dksL_law_32 21 rfl rfl)
theorem dL_law_879 : decode cL_law 879 = .ok (.invokestatic 151, 3) := dk_184 0 151 (dk_at dksL_law_33 0 rfl rfl)
theorem dL_law_882 : decode cL_law 882 = .ok (.istore 5, 2) := dk_54 5 (dk_at dksL_law_33 3 rfl rfl)
theorem dL_law_884 : decode cL_law 884 = .ok (.aload_n 2, 1) := dk_44 (dk_at dksL_law_33 5 rfl rfl)
theorem dL_law_885 : decode cL_law 885 = .ok (.aload_n 0, 1) := dk_42 (dk_at dksL_law_33 6 rfl rfl)
theorem dL_law_886 : decode cL_law 886 = .ok (.iload 4, 2) := dk_21 4 (dk_at dksL_law_33 7 rfl rfl)
theorem dL_law_888 : decode cL_law 888 = .ok (.iconst 1, 1) := dk_4 (dk_at dksL_law_33 9 rfl rfl)
theorem dL_law_889 : decode cL_law 889 = .ok (.iadd, 1) := dk_96 (dk_at dksL_law_33 10 rfl rfl)
theorem dL_law_890 : decode cL_law 890 = .ok (.iaload, 1) := dk_46 (dk_at dksL_law_33 11 rfl rfl)
theorem dL_law_891 : decode cL_law 891 = .ok (.aload_n 0, 1) := dk_42 (dk_at dksL_law_33 12 rfl rfl)
theorem dL_law_892 : decode cL_law 892 = .ok (.iload 4, 2) := dk_21 4 (dk_at dksL_law_33 13 rfl rfl)
theorem dL_law_894 : decode cL_law 894 = .ok (.iconst 2, 1) := dk_5 (dk_at dksL_law_33 15 rfl rfl)
theorem dL_law_895 : decode cL_law 895 = .ok (.iadd, 1) := dk_96 (dk_at dksL_law_33 16 rfl rfl)
theorem dL_law_896 : decode cL_law 896 = .ok (.iaload, 1) := dk_46 (dk_at dksL_law_33 17 rfl rfl)
theorem dL_law_897 : decode cL_law 897 = .ok (.invokevirtual 153, 3) := dk_182 0 153 (dk_at dksL_law_33 18 rfl rfl)
theorem dL_law_900 : decode cL_law 900 = .ok (.istore 6, 2) := dk_54 6 (dk_at dksL_law_33 21 rfl rfl)
theorem dL_law_902 : decode cL_law 902 = .ok (.aload_n 2, 1) := dk_44 (dk_at dksL_law_33 23 rfl rfl)
theorem dL_law_903 : decode cL_law 903 = .ok (.invokevirtual 112, 3) := dk_182 0 112 (dk_at dksL_law_34 0 rfl rfl)
theorem dL_law_906 : decode cL_law 906 = .ok (.iload 5, 2) := dk_21 5 (dk_at dksL_law_34 3 rfl rfl)
theorem dL_law_908 : decode cL_law 908 = .ok (.if_icmp .eq 5, 3) := dk_159 0 5 (dk_at dksL_law_34 5 rfl rfl)
theorem dL_law_911 : decode cL_law 911 = .ok (.iconst 0, 1) := dk_3 (dk_at dksL_law_34 8 rfl rfl)
theorem dL_law_912 : decode cL_law 912 = .ok (.ireturn, 1) := dk_172 (dk_at dksL_law_34 9 rfl rfl)
theorem dL_law_913 : decode cL_law 913 = .ok (.iload 5, 2) := dk_21 5 (dk_at dksL_law_34 10 rfl rfl)
theorem dL_law_915 : decode cL_law 915 = .ok (.ifCond .ne 15, 3) := dk_154 0 15 (dk_at dksL_law_34 12 rfl rfl)
theorem dL_law_918 : decode cL_law 918 = .ok (.aload_n 3, 1) := dk_45 (dk_at dksL_law_34 15 rfl rfl)
theorem dL_law_919 : decode cL_law 919 = .ok (.iconst 0, 1) := dk_3 (dk_at dksL_law_34 16 rfl rfl)
theorem dL_law_920 : decode cL_law 920 = .ok (.laload, 1) := dk_47 (dk_at dksL_law_34 17 rfl rfl)
theorem dL_law_921 : decode cL_law 921 = .ok (.iload 6, 2) := dk_21 6 (dk_at dksL_law_34 18 rfl rfl)
theorem dL_law_923 : decode cL_law 923 = .ok (.i2l, 1) := dk_133 (dk_at dksL_law_34 20 rfl rfl)
theorem dL_law_924 : decode cL_law 924 = .ok (.lcmp, 1) := dk_148 (dk_at dksL_law_34 21 rfl rfl)
theorem dL_law_925 : decode cL_law 925 = .ok (.ifCond .eq 5, 3) := dk_153 0 5 (dk_at dksL_law_35 0 rfl rfl)
theorem dL_law_928 : decode cL_law 928 = .ok (.iconst 0, 1) := dk_3 (dk_at dksL_law_35 3 rfl rfl)
theorem dL_law_929 : decode cL_law 929 = .ok (.ireturn, 1) := dk_172 (dk_at dksL_law_35 4 rfl rfl)
theorem dL_law_930 : decode cL_law 930 = .ok (.goto 944, 3) := dk_167 3 176 (dk_at dksL_law_35 5 rfl rfl)
theorem dL_law_933 : decode cL_law 933 = .ok (.aload_n 1, 1) := dk_43 (dk_at dksL_law_35 8 rfl rfl)
theorem dL_law_934 : decode cL_law 934 = .ok (.aload_n 0, 1) := dk_42 (dk_at dksL_law_35 9 rfl rfl)
theorem dL_law_935 : decode cL_law 935 = .ok (.iload 4, 2) := dk_21 4 (dk_at dksL_law_35 10 rfl rfl)
theorem dL_law_937 : decode cL_law 937 = .ok (.iconst 1, 1) := dk_4 (dk_at dksL_law_35 12 rfl rfl)
theorem dL_law_938 : decode cL_law 938 = .ok (.iadd, 1) := dk_96 (dk_at dksL_law_35 13 rfl rfl)
theorem dL_law_939 : decode cL_law 939 = .ok (.iaload, 1) := dk_46 (dk_at dksL_law_35 14 rfl rfl)
theorem dL_law_940 : decode cL_law 940 = .ok (.aload_n 3, 1) := dk_45 (dk_at dksL_law_35 15 rfl rfl)
theorem dL_law_941 : decode cL_law 941 = .ok (.invokestatic 154, 3) := dk_184 0 154 (dk_at dksL_law_35 16 rfl rfl)
theorem dL_law_944 : decode cL_law 944 = .ok (.istore 5, 2) := dk_54 5 (dk_at dksL_law_35 19 rfl rfl)
theorem dL_law_946 : decode cL_law 946 = .ok (.aload_n 2, 1) := dk_44 (dk_at dksL_law_35 21 rfl rfl)
theorem dL_law_947 : decode cL_law 947 = .ok (.aload_n 0, 1) := dk_42 (dk_at dksL_law_35 22 rfl rfl)
theorem dL_law_948 : decode cL_law 948 = .ok (.iload 4, 2) := dk_21 4 (dk_at dksL_law_36 0 rfl rfl)
theorem dL_law_950 : decode cL_law 950 = .ok (.iconst 1, 1) := dk_4 (dk_at dksL_law_36 2 rfl rfl)
theorem dL_law_951 : decode cL_law 951 = .ok (.iadd, 1) := dk_96 (dk_at dksL_law_36 3 rfl rfl)
theorem dL_law_952 : decode cL_law 952 = .ok (.iaload, 1) := dk_46 (dk_at dksL_law_36 4 rfl rfl)
theorem dL_law_953 : decode cL_law 953 = .ok (.invokevirtual 156, 3) := dk_182 0 156 (dk_at dksL_law_36 5 rfl rfl)
theorem dL_law_956 : decode cL_law 956 = .ok (.lstore 6, 2) := dk_55 6 (dk_at dksL_law_36 8 rfl rfl)
theorem dL_law_958 : decode cL_law 958 = .ok (.aload_n 2, 1) := dk_44 (dk_at dksL_law_36 10 rfl rfl)
theorem dL_law_959 : decode cL_law 959 = .ok (.invokevirtual 112, 3) := dk_182 0 112 (dk_at dksL_law_36 11 rfl rfl)
theorem dL_law_962 : decode cL_law 962 = .ok (.iload 5, 2) := dk_21 5 (dk_at dksL_law_36 14 rfl rfl)
theorem dL_law_964 : decode cL_law 964 = .ok (.if_icmp .eq 5, 3) := dk_159 0 5 (dk_at dksL_law_36 16 rfl rfl)
theorem dL_law_967 : decode cL_law 967 = .ok (.iconst 0, 1) := dk_3 (dk_at dksL_law_36 19 rfl rfl)
theorem dL_law_968 : decode cL_law 968 = .ok (.ireturn, 1) := dk_172 (dk_at dksL_law_36 20 rfl rfl)
theorem dL_law_969 : decode cL_law 969 = .ok (.iload 5, 2) := dk_21 5 (dk_at dksL_law_36 21 rfl rfl)
theorem dL_law_971 : decode cL_law 971 = .ok (.ifCond .ne 14, 3) := dk_154 0 14 (dk_at dksL_law_37 0 rfl rfl)
theorem dL_law_974 : decode cL_law 974 = .ok (.aload_n 3, 1) := dk_45 (dk_at dksL_law_37 3 rfl rfl)
theorem dL_law_975 : decode cL_law 975 = .ok (.iconst 0, 1) := dk_3 (dk_at dksL_law_37 4 rfl rfl)
theorem dL_law_976 : decode cL_law 976 = .ok (.laload, 1) := dk_47 (dk_at dksL_law_37 5 rfl rfl)
theorem dL_law_977 : decode cL_law 977 = .ok (.lload 6, 2) := dk_22 6 (dk_at dksL_law_37 6 rfl rfl)
theorem dL_law_979 : decode cL_law 979 = .ok (.lcmp, 1) := dk_148 (dk_at dksL_law_37 8 rfl rfl)
theorem dL_law_980 : decode cL_law 980 = .ok (.ifCond .eq 5, 3) := dk_153 0 5 (dk_at dksL_law_37 9 rfl rfl)
theorem dL_law_983 : decode cL_law 983 = .ok (.iconst 0, 1) := dk_3 (dk_at dksL_law_37 12 rfl rfl)
theorem dL_law_984 : decode cL_law 984 = .ok (.ireturn, 1) := dk_172 (dk_at dksL_law_37 13 rfl rfl)
theorem dL_law_985 : decode cL_law 985 = .ok (.goto 889, 3) := dk_167 3 121 (dk_at dksL_law_37 14 rfl rfl)
theorem dL_law_988 : decode cL_law 988 = .ok (.aload_n 1, 1) := dk_43 (dk_at dksL_law_37 17 rfl rfl)
theorem dL_law_989 : decode cL_law 989 = .ok (.aload_n 0, 1) := dk_42 (dk_at dksL_law_37 18 rfl rfl)
theorem dL_law_990 : decode cL_law 990 = .ok (.iload 4, 2) := dk_21 4 (dk_at dksL_law_37 19 rfl rfl)
theorem dL_law_992 : decode cL_law 992 = .ok (.iconst 1, 1) := dk_4 (dk_at dksL_law_37 21 rfl rfl)
theorem dL_law_993 : decode cL_law 993 = .ok (.iadd, 1) := dk_96 (dk_at dksL_law_37 22 rfl rfl)
theorem dL_law_994 : decode cL_law 994 = .ok (.iaload, 1) := dk_46 (dk_at dksL_law_37 23 rfl rfl)
theorem dL_law_995 : decode cL_law 995 = .ok (.aload_n 3, 1) := dk_45 (dk_at dksL_law_38 0 rfl rfl)
theorem dL_law_996 : decode cL_law 996 = .ok (.invokestatic 157, 3) := dk_184 0 157 (dk_at dksL_law_38 1 rfl rfl)
theorem dL_law_999 : decode cL_law 999 = .ok (.istore 5, 2) := dk_54 5 (dk_at dksL_law_38 4 rfl rfl)
theorem dL_law_1001 : decode cL_law 1001 = .ok (.aload_n 2, 1) := dk_44 (dk_at dksL_law_38 6 rfl rfl)
theorem dL_law_1002 : decode cL_law 1002 = .ok (.aload_n 0, 1) := dk_42 (dk_at dksL_law_38 7 rfl rfl)
theorem dL_law_1003 : decode cL_law 1003 = .ok (.iload 4, 2) := dk_21 4 (dk_at dksL_law_38 8 rfl rfl)
theorem dL_law_1005 : decode cL_law 1005 = .ok (.iconst 1, 1) := dk_4 (dk_at dksL_law_38 10 rfl rfl)
theorem dL_law_1006 : decode cL_law 1006 = .ok (.iadd, 1) := dk_96 (dk_at dksL_law_38 11 rfl rfl)
theorem dL_law_1007 : decode cL_law 1007 = .ok (.iaload, 1) := dk_46 (dk_at dksL_law_38 12 rfl rfl)
theorem dL_law_1008 : decode cL_law 1008 = .ok (.invokevirtual 159, 3) := dk_182 0 159 (dk_at dksL_law_38 13 rfl rfl)
theorem dL_law_1011 : decode cL_law 1011 = .ok (.istore 6, 2) := dk_54 6 (dk_at dksL_law_38 16 rfl rfl)
theorem dL_law_1013 : decode cL_law 1013 = .ok (.aload_n 2, 1) := dk_44 (dk_at dksL_law_38 18 rfl rfl)
theorem dL_law_1014 : decode cL_law 1014 = .ok (.invokevirtual 112, 3) := dk_182 0 112 (dk_at dksL_law_38 19 rfl rfl)
theorem dL_law_1017 : decode cL_law 1017 = .ok (.iload 5, 2) := dk_21 5 (dk_at dksL_law_38 22 rfl rfl)
theorem dL_law_1019 : decode cL_law 1019 = .ok (.if_icmp .eq 5, 3) := dk_159 0 5 (dk_at dksL_law_39 0 rfl rfl)
theorem dL_law_1022 : decode cL_law 1022 = .ok (.iconst 0, 1) := dk_3 (dk_at dksL_law_39 3 rfl rfl)
theorem dL_law_1023 : decode cL_law 1023 = .ok (.ireturn, 1) := dk_172 (dk_at dksL_law_39 4 rfl rfl)
theorem dL_law_1024 : decode cL_law 1024 = .ok (.iload 5, 2) := dk_21 5 (dk_at dksL_law_39 5 rfl rfl)
theorem dL_law_1026 : decode cL_law 1026 = .ok (.ifCond .ne 15, 3) := dk_154 0 15 (dk_at dksL_law_39 7 rfl rfl)
theorem dL_law_1029 : decode cL_law 1029 = .ok (.aload_n 3, 1) := dk_45 (dk_at dksL_law_39 10 rfl rfl)
theorem dL_law_1030 : decode cL_law 1030 = .ok (.iconst 0, 1) := dk_3 (dk_at dksL_law_39 11 rfl rfl)
theorem dL_law_1031 : decode cL_law 1031 = .ok (.laload, 1) := dk_47 (dk_at dksL_law_39 12 rfl rfl)
theorem dL_law_1032 : decode cL_law 1032 = .ok (.iload 6, 2) := dk_21 6 (dk_at dksL_law_39 13 rfl rfl)
theorem dL_law_1034 : decode cL_law 1034 = .ok (.i2l, 1) := dk_133 (dk_at dksL_law_39 15 rfl rfl)
theorem dL_law_1035 : decode cL_law 1035 = .ok (.lcmp, 1) := dk_148 (dk_at dksL_law_39 16 rfl rfl)
theorem dL_law_1036 : decode cL_law 1036 = .ok (.ifCond .eq 5, 3) := dk_153 0 5 (dk_at dksL_law_39 17 rfl rfl)
theorem dL_law_1039 : decode cL_law 1039 = .ok (.iconst 0, 1) := dk_3 (dk_at dksL_law_39 20 rfl rfl)
theorem dL_law_1040 : decode cL_law 1040 = .ok (.ireturn, 1) := dk_172 (dk_at dksL_law_39 21 rfl rfl)
theorem dL_law_1041 : decode cL_law 1041 = .ok (.goto 833, 3) := dk_167 3 65 (dk_at dksL_law_40 0 rfl rfl)
theorem dL_law_1044 : decode cL_law 1044 = .ok (.aload_n 1, 1) := dk_43 (dk_at dksL_law_40 3 rfl rfl)
theorem dL_law_1045 : decode cL_law 1045 = .ok (.aload_n 0, 1) := dk_42 (dk_at dksL_law_40 4 rfl rfl)
theorem dL_law_1046 : decode cL_law 1046 = .ok (.iload 4, 2) := dk_21 4 (dk_at dksL_law_40 5 rfl rfl)
theorem dL_law_1048 : decode cL_law 1048 = .ok (.iconst 1, 1) := dk_4 (dk_at dksL_law_40 7 rfl rfl)
theorem dL_law_1049 : decode cL_law 1049 = .ok (.iadd, 1) := dk_96 (dk_at dksL_law_40 8 rfl rfl)
theorem dL_law_1050 : decode cL_law 1050 = .ok (.iaload, 1) := dk_46 (dk_at dksL_law_40 9 rfl rfl)
theorem dL_law_1051 : decode cL_law 1051 = .ok (.aload_n 3, 1) := dk_45 (dk_at dksL_law_40 10 rfl rfl)
theorem dL_law_1052 : decode cL_law 1052 = .ok (.invokestatic 160, 3) := dk_184 0 160 (dk_at dksL_law_40 11 rfl rfl)
theorem dL_law_1055 : decode cL_law 1055 = .ok (.istore 5, 2) := dk_54 5 (dk_at dksL_law_40 14 rfl rfl)
theorem dL_law_1057 : decode cL_law 1057 = .ok (.aload_n 2, 1) := dk_44 (dk_at dksL_law_40 16 rfl rfl)
theorem dL_law_1058 : decode cL_law 1058 = .ok (.aload_n 0, 1) := dk_42 (dk_at dksL_law_40 17 rfl rfl)
theorem dL_law_1059 : decode cL_law 1059 = .ok (.iload 4, 2) := dk_21 4 (dk_at dksL_law_40 18 rfl rfl)
theorem dL_law_1061 : decode cL_law 1061 = .ok (.iconst 1, 1) := dk_4 (dk_at dksL_law_40 20 rfl rfl)
theorem dL_law_1062 : decode cL_law 1062 = .ok (.iadd, 1) := dk_96 (dk_at dksL_law_40 21 rfl rfl)
theorem dL_law_1063 : decode cL_law 1063 = .ok (.iaload, 1) := dk_46 (dk_at dksL_law_40 22 rfl rfl)
theorem dL_law_1064 : decode cL_law 1064 = .ok (.invokevirtual 162, 3) := dk_182 0 162 (dk_at dksL_law_41 0 rfl rfl)
theorem dL_law_1067 : decode cL_law 1067 = .ok (.istore 6, 2) := dk_54 6 (dk_at dksL_law_41 3 rfl rfl)
theorem dL_law_1069 : decode cL_law 1069 = .ok (.aload_n 2, 1) := dk_44 (dk_at dksL_law_41 5 rfl rfl)
theorem dL_law_1070 : decode cL_law 1070 = .ok (.invokevirtual 112, 3) := dk_182 0 112 (dk_at dksL_law_41 6 rfl rfl)
theorem dL_law_1073 : decode cL_law 1073 = .ok (.iload 5, 2) := dk_21 5 (dk_at dksL_law_41 9 rfl rfl)
theorem dL_law_1075 : decode cL_law 1075 = .ok (.if_icmp .eq 5, 3) := dk_159 0 5 (dk_at dksL_law_41 11 rfl rfl)
theorem dL_law_1078 : decode cL_law 1078 = .ok (.iconst 0, 1) := dk_3 (dk_at dksL_law_41 14 rfl rfl)
theorem dL_law_1079 : decode cL_law 1079 = .ok (.ireturn, 1) := dk_172 (dk_at dksL_law_41 15 rfl rfl)
theorem dL_law_1080 : decode cL_law 1080 = .ok (.iload 5, 2) := dk_21 5 (dk_at dksL_law_41 16 rfl rfl)
theorem dL_law_1082 : decode cL_law 1082 = .ok (.ifCond .ne 15, 3) := dk_154 0 15 (dk_at dksL_law_41 18 rfl rfl)
theorem dL_law_1085 : decode cL_law 1085 = .ok (.aload_n 3, 1) := dk_45 (dk_at dksL_law_41 21 rfl rfl)
theorem dL_law_1086 : decode cL_law 1086 = .ok (.iconst 0, 1) := dk_3 (dk_at dksL_law_41 22 rfl rfl)
theorem dL_law_1087 : decode cL_law 1087 = .ok (.laload, 1) := dk_47 (dk_at dksL_law_41 23 rfl rfl)
theorem dL_law_1088 : decode cL_law 1088 = .ok (.iload 6, 2) := dk_21 6 (dk_at dksL_law_42 0 rfl rfl)
theorem dL_law_1090 : decode cL_law 1090 = .ok (.i2l, 1) := dk_133 (dk_at dksL_law_42 2 rfl rfl)
theorem dL_law_1091 : decode cL_law 1091 = .ok (.lcmp, 1) := dk_148 (dk_at dksL_law_42 3 rfl rfl)
theorem dL_law_1092 : decode cL_law 1092 = .ok (.ifCond .eq 5, 3) := dk_153 0 5 (dk_at dksL_law_42 4 rfl rfl)
theorem dL_law_1095 : decode cL_law 1095 = .ok (.iconst 0, 1) := dk_3 (dk_at dksL_law_42 7 rfl rfl)
theorem dL_law_1096 : decode cL_law 1096 = .ok (.ireturn, 1) := dk_172 (dk_at dksL_law_42 8 rfl rfl)
theorem dL_law_1097 : decode cL_law 1097 = .ok (.goto 777, 3) := dk_167 3 9 (dk_at dksL_law_42 9 rfl rfl)
theorem dL_law_1100 : decode cL_law 1100 = .ok (.aload_n 1, 1) := dk_43 (dk_at dksL_law_42 12 rfl rfl)
theorem dL_law_1101 : decode cL_law 1101 = .ok (.invokevirtual 163, 3) := dk_182 0 163 (dk_at dksL_law_42 13 rfl rfl)
theorem dL_law_1104 : decode cL_law 1104 = .ok (.aload_n 2, 1) := dk_44 (dk_at dksL_law_42 16 rfl rfl)
theorem dL_law_1105 : decode cL_law 1105 = .ok (.invokevirtual 166, 3) := dk_182 0 166 (dk_at dksL_law_42 17 rfl rfl)
theorem dL_law_1108 : decode cL_law 1108 = .ok (.lcmp, 1) := dk_148 (dk_at dksL_law_42 20 rfl rfl)
theorem dL_law_1109 : decode cL_law 1109 = .ok (.ifCond .eq 765, 3) := dk_153 2 253 (dk_at dksL_law_42 21 rfl rfl)
theorem dL_law_1112 : decode cL_law 1112 = .ok (.iconst 0, 1) := dk_3 (dk_at dksL_law_43 0 rfl rfl)
theorem dL_law_1113 : decode cL_law 1113 = .ok (.ireturn, 1) := dk_172 (dk_at dksL_law_43 1 rfl rfl)
theorem dL_law_1114 : decode cL_law 1114 = .ok (.aload_n 1, 1) := dk_43 (dk_at dksL_law_43 2 rfl rfl)
theorem dL_law_1115 : decode cL_law 1115 = .ok (.invokevirtual 167, 3) := dk_182 0 167 (dk_at dksL_law_43 3 rfl rfl)
theorem dL_law_1118 : decode cL_law 1118 = .ok (.aload_n 2, 1) := dk_44 (dk_at dksL_law_43 6 rfl rfl)
theorem dL_law_1119 : decode cL_law 1119 = .ok (.invokevirtual 170, 3) := dk_182 0 170 (dk_at dksL_law_43 7 rfl rfl)
theorem dL_law_1122 : decode cL_law 1122 = .ok (.if_icmp .eq 752, 3) := dk_159 2 240 (dk_at dksL_law_43 10 rfl rfl)
theorem dL_law_1125 : decode cL_law 1125 = .ok (.iconst 0, 1) := dk_3 (dk_at dksL_law_43 13 rfl rfl)
theorem dL_law_1126 : decode cL_law 1126 = .ok (.ireturn, 1) := dk_172 (dk_at dksL_law_43 14 rfl rfl)
theorem dL_law_1127 : decode cL_law 1127 = .ok (.aload_n 1, 1) := dk_43 (dk_at dksL_law_43 15 rfl rfl)
theorem dL_law_1128 : decode cL_law 1128 = .ok (.aload_n 3, 1) := dk_45 (dk_at dksL_law_43 16 rfl rfl)
theorem dL_law_1129 : decode cL_law 1129 = .ok (.invokestatic 171, 3) := dk_184 0 171 (dk_at dksL_law_43 17 rfl rfl)
theorem dL_law_1132 : decode cL_law 1132 = .ok (.istore 5, 2) := dk_54 5 (dk_at dksL_law_43 20 rfl rfl)
theorem dL_law_1134 : decode cL_law 1134 = .ok (.aload_n 2, 1) := dk_44 (dk_at dksL_law_43 22 rfl rfl)
theorem dL_law_1135 : decode cL_law 1135 = .ok (.invokevirtual 174, 3) := dk_182 0 174 (dk_at dksL_law_44 0 rfl rfl)
theorem dL_law_1138 : decode cL_law 1138 = .ok (.istore 6, 2) := dk_54 6 (dk_at dksL_law_44 3 rfl rfl)
theorem dL_law_1140 : decode cL_law 1140 = .ok (.aload_n 2, 1) := dk_44 (dk_at dksL_law_44 5 rfl rfl)
theorem dL_law_1141 : decode cL_law 1141 = .ok (.invokevirtual 112, 3) := dk_182 0 112 (dk_at dksL_law_44 6 rfl rfl)
theorem dL_law_1144 : decode cL_law 1144 = .ok (.iload 5, 2) := dk_21 5 (dk_at dksL_law_44 9 rfl rfl)
theorem dL_law_1146 : decode cL_law 1146 = .ok (.if_icmp .eq 5, 3) := dk_159 0 5 (dk_at dksL_law_44 11 rfl rfl)
theorem dL_law_1149 : decode cL_law 1149 = .ok (.iconst 0, 1) := dk_3 (dk_at dksL_law_44 14 rfl rfl)
theorem dL_law_1150 : decode cL_law 1150 = .ok (.ireturn, 1) := dk_172 (dk_at dksL_law_44 15 rfl rfl)
theorem dL_law_1151 : decode cL_law 1151 = .ok (.iload 5, 2) := dk_21 5 (dk_at dksL_law_44 16 rfl rfl)
theorem dL_law_1153 : decode cL_law 1153 = .ok (.ifCond .ne 22, 3) := dk_154 0 22 (dk_at dksL_law_44 18 rfl rfl)
theorem dL_law_1156 : decode cL_law 1156 = .ok (.aload_n 3, 1) := dk_45 (dk_at dksL_law_44 21 rfl rfl)
theorem dL_law_1157 : decode cL_law 1157 = .ok (.iconst 0, 1) := dk_3 (dk_at dksL_law_44 22 rfl rfl)
theorem dL_law_1158 : decode cL_law 1158 = .ok (.laload, 1) := dk_47 (dk_at dksL_law_44 23 rfl rfl)
theorem dL_law_1159 : decode cL_law 1159 = .ok (.iload 6, 2) := dk_21 6 (dk_at dksL_law_45 0 rfl rfl)
theorem dL_law_1161 : decode cL_law 1161 = .ok (.ifCond .eq 7, 3) := dk_153 0 7 (dk_at dksL_law_45 2 rfl rfl)
theorem dL_law_1164 : decode cL_law 1164 = .ok (.lconst 1, 1) := dk_10 (dk_at dksL_law_45 5 rfl rfl)
theorem dL_law_1165 : decode cL_law 1165 = .ok (.goto 4, 3) := dk_167 0 4 (dk_at dksL_law_45 6 rfl rfl)
theorem dL_law_1168 : decode cL_law 1168 = .ok (.lconst 0, 1) := dk_9 (dk_at dksL_law_45 9 rfl rfl)
theorem dL_law_1169 : decode cL_law 1169 = .ok (.lcmp, 1) := dk_148 (dk_at dksL_law_45 10 rfl rfl)
theorem dL_law_1170 : decode cL_law 1170 = .ok (.ifCond .eq 5, 3) := dk_153 0 5 (dk_at dksL_law_45 11 rfl rfl)
theorem dL_law_1173 : decode cL_law 1173 = .ok (.iconst 0, 1) := dk_3 (dk_at dksL_law_45 14 rfl rfl)
theorem dL_law_1174 : decode cL_law 1174 = .ok (.ireturn, 1) := dk_172 (dk_at dksL_law_45 15 rfl rfl)
theorem dL_law_1175 : decode cL_law 1175 = .ok (.goto 699, 3) := dk_167 2 187 (dk_at dksL_law_45 16 rfl rfl)
theorem dL_law_1178 : decode cL_law 1178 = .ok (.aload_n 1, 1) := dk_43 (dk_at dksL_law_45 19 rfl rfl)
theorem dL_law_1179 : decode cL_law 1179 = .ok (.aload_n 0, 1) := dk_42 (dk_at dksL_law_45 20 rfl rfl)
theorem dL_law_1180 : decode cL_law 1180 = .ok (.iload 4, 2) := dk_21 4 (dk_at dksL_law_45 21 rfl rfl)
theorem dL_law_1182 : decode cL_law 1182 = .ok (.iconst 1, 1) := dk_4 (dk_at dksL_law_45 23 rfl rfl)
theorem dL_law_1183 : decode cL_law 1183 = .ok (.iadd, 1) := dk_96 (dk_at dksL_law_46 0 rfl rfl)
theorem dL_law_1184 : decode cL_law 1184 = .ok (.iaload, 1) := dk_46 (dk_at dksL_law_46 1 rfl rfl)
theorem dL_law_1185 : decode cL_law 1185 = .ok (.aload_n 3, 1) := dk_45 (dk_at dksL_law_46 2 rfl rfl)
theorem dL_law_1186 : decode cL_law 1186 = .ok (.invokestatic 175, 3) := dk_184 0 175 (dk_at dksL_law_46 3 rfl rfl)
theorem dL_law_1189 : decode cL_law 1189 = .ok (.istore 5, 2) := dk_54 5 (dk_at dksL_law_46 6 rfl rfl)
theorem dL_law_1191 : decode cL_law 1191 = .ok (.aload_n 2, 1) := dk_44 (dk_at dksL_law_46 8 rfl rfl)
theorem dL_law_1192 : decode cL_law 1192 = .ok (.aload_n 0, 1) := dk_42 (dk_at dksL_law_46 9 rfl rfl)
theorem dL_law_1193 : decode cL_law 1193 = .ok (.iload 4, 2) := dk_21 4 (dk_at dksL_law_46 10 rfl rfl)
theorem dL_law_1195 : decode cL_law 1195 = .ok (.iconst 1, 1) := dk_4 (dk_at dksL_law_46 12 rfl rfl)
theorem dL_law_1196 : decode cL_law 1196 = .ok (.iadd, 1) := dk_96 (dk_at dksL_law_46 13 rfl rfl)
theorem dL_law_1197 : decode cL_law 1197 = .ok (.iaload, 1) := dk_46 (dk_at dksL_law_46 14 rfl rfl)
theorem dL_law_1198 : decode cL_law 1198 = .ok (.invokevirtual 177, 3) := dk_182 0 177 (dk_at dksL_law_46 15 rfl rfl)
theorem dL_law_1201 : decode cL_law 1201 = .ok (.istore 6, 2) := dk_54 6 (dk_at dksL_law_46 18 rfl rfl)
theorem dL_law_1203 : decode cL_law 1203 = .ok (.aload_n 2, 1) := dk_44 (dk_at dksL_law_46 20 rfl rfl)
theorem dL_law_1204 : decode cL_law 1204 = .ok (.invokevirtual 112, 3) := dk_182 0 112 (dk_at dksL_law_46 21 rfl rfl)
theorem dL_law_1207 : decode cL_law 1207 = .ok (.iload 5, 2) := dk_21 5 (dk_at dksL_law_47 0 rfl rfl)
theorem dL_law_1209 : decode cL_law 1209 = .ok (.if_icmp .eq 5, 3) := dk_159 0 5 (dk_at dksL_law_47 2 rfl rfl)
theorem dL_law_1212 : decode cL_law 1212 = .ok (.iconst 0, 1) := dk_3 (dk_at dksL_law_47 5 rfl rfl)
theorem dL_law_1213 : decode cL_law 1213 = .ok (.ireturn, 1) := dk_172 (dk_at dksL_law_47 6 rfl rfl)
theorem dL_law_1214 : decode cL_law 1214 = .ok (.iload 5, 2) := dk_21 5 (dk_at dksL_law_47 7 rfl rfl)
theorem dL_law_1216 : decode cL_law 1216 = .ok (.ifCond .ne 15, 3) := dk_154 0 15 (dk_at dksL_law_47 9 rfl rfl)
theorem dL_law_1219 : decode cL_law 1219 = .ok (.aload_n 3, 1) := dk_45 (dk_at dksL_law_47 12 rfl rfl)
theorem dL_law_1220 : decode cL_law 1220 = .ok (.iconst 0, 1) := dk_3 (dk_at dksL_law_47 13 rfl rfl)
theorem dL_law_1221 : decode cL_law 1221 = .ok (.laload, 1) := dk_47 (dk_at dksL_law_47 14 rfl rfl)
theorem dL_law_1222 : decode cL_law 1222 = .ok (.iload 6, 2) := dk_21 6 (dk_at dksL_law_47 15 rfl rfl)
theorem dL_law_1224 : decode cL_law 1224 = .ok (.i2l, 1) := dk_133 (dk_at dksL_law_47 17 rfl rfl)
theorem dL_law_1225 : decode cL_law 1225 = .ok (.lcmp, 1) := dk_148 (dk_at dksL_law_47 18 rfl rfl)
theorem dL_law_1226 : decode cL_law 1226 = .ok (.ifCond .eq 5, 3) := dk_153 0 5 (dk_at dksL_law_47 19 rfl rfl)
theorem dL_law_1229 : decode cL_law 1229 = .ok (.iconst 0, 1) := dk_3 (dk_at dksL_law_47 22 rfl rfl)
theorem dL_law_1230 : decode cL_law 1230 = .ok (.ireturn, 1) := dk_172 (dk_at dksL_law_47 23 rfl rfl)
theorem dL_law_1231 : decode cL_law 1231 = .ok (.goto 643, 3) := dk_167 2 131 (dk_at dksL_law_48 0 rfl rfl)
theorem dL_law_1234 : decode cL_law 1234 = .ok (.aload_n 1, 1) := dk_43 (dk_at dksL_law_48 3 rfl rfl)
theorem dL_law_1235 : decode cL_law 1235 = .ok (.aload_n 0, 1) := dk_42 (dk_at dksL_law_48 4 rfl rfl)
theorem dL_law_1236 : decode cL_law 1236 = .ok (.iload 4, 2) := dk_21 4 (dk_at dksL_law_48 5 rfl rfl)
theorem dL_law_1238 : decode cL_law 1238 = .ok (.iconst 1, 1) := dk_4 (dk_at dksL_law_48 7 rfl rfl)
theorem dL_law_1239 : decode cL_law 1239 = .ok (.iadd, 1) := dk_96 (dk_at dksL_law_48 8 rfl rfl)
theorem dL_law_1240 : decode cL_law 1240 = .ok (.iaload, 1) := dk_46 (dk_at dksL_law_48 9 rfl rfl)
theorem dL_law_1241 : decode cL_law 1241 = .ok (.aload_n 3, 1) := dk_45 (dk_at dksL_law_48 10 rfl rfl)
theorem dL_law_1242 : decode cL_law 1242 = .ok (.invokestatic 178, 3) := dk_184 0 178 (dk_at dksL_law_48 11 rfl rfl)
theorem dL_law_1245 : decode cL_law 1245 = .ok (.istore 5, 2) := dk_54 5 (dk_at dksL_law_48 14 rfl rfl)
theorem dL_law_1247 : decode cL_law 1247 = .ok (.aload_n 2, 1) := dk_44 (dk_at dksL_law_48 16 rfl rfl)
theorem dL_law_1248 : decode cL_law 1248 = .ok (.aload_n 0, 1) := dk_42 (dk_at dksL_law_48 17 rfl rfl)
theorem dL_law_1249 : decode cL_law 1249 = .ok (.iload 4, 2) := dk_21 4 (dk_at dksL_law_48 18 rfl rfl)
theorem dL_law_1251 : decode cL_law 1251 = .ok (.iconst 1, 1) := dk_4 (dk_at dksL_law_48 20 rfl rfl)
theorem dL_law_1252 : decode cL_law 1252 = .ok (.iadd, 1) := dk_96 (dk_at dksL_law_48 21 rfl rfl)
theorem dL_law_1253 : decode cL_law 1253 = .ok (.iaload, 1) := dk_46 (dk_at dksL_law_48 22 rfl rfl)
theorem dL_law_1254 : decode cL_law 1254 = .ok (.invokevirtual 180, 3) := dk_182 0 180 (dk_at dksL_law_49 0 rfl rfl)
theorem dL_law_1257 : decode cL_law 1257 = .ok (.istore 6, 2) := dk_54 6 (dk_at dksL_law_49 3 rfl rfl)
theorem dL_law_1259 : decode cL_law 1259 = .ok (.aload_n 2, 1) := dk_44 (dk_at dksL_law_49 5 rfl rfl)
theorem dL_law_1260 : decode cL_law 1260 = .ok (.invokevirtual 112, 3) := dk_182 0 112 (dk_at dksL_law_49 6 rfl rfl)
theorem dL_law_1263 : decode cL_law 1263 = .ok (.iload 5, 2) := dk_21 5 (dk_at dksL_law_49 9 rfl rfl)
theorem dL_law_1265 : decode cL_law 1265 = .ok (.if_icmp .eq 5, 3) := dk_159 0 5 (dk_at dksL_law_49 11 rfl rfl)
theorem dL_law_1268 : decode cL_law 1268 = .ok (.iconst 0, 1) := dk_3 (dk_at dksL_law_49 14 rfl rfl)
theorem dL_law_1269 : decode cL_law 1269 = .ok (.ireturn, 1) := dk_172 (dk_at dksL_law_49 15 rfl rfl)
theorem dL_law_1270 : decode cL_law 1270 = .ok (.iload 5, 2) := dk_21 5 (dk_at dksL_law_49 16 rfl rfl)
theorem dL_law_1272 : decode cL_law 1272 = .ok (.ifCond .ne 15, 3) := dk_154 0 15 (dk_at dksL_law_49 18 rfl rfl)
theorem dL_law_1275 : decode cL_law 1275 = .ok (.aload_n 3, 1) := dk_45 (dk_at dksL_law_49 21 rfl rfl)
theorem dL_law_1276 : decode cL_law 1276 = .ok (.iconst 0, 1) := dk_3 (dk_at dksL_law_49 22 rfl rfl)
theorem dL_law_1277 : decode cL_law 1277 = .ok (.laload, 1) := dk_47 (dk_at dksL_law_49 23 rfl rfl)
theorem dL_law_1278 : decode cL_law 1278 = .ok (.iload 6, 2) := dk_21 6 (dk_at dksL_law_50 0 rfl rfl)
theorem dL_law_1280 : decode cL_law 1280 = .ok (.i2l, 1) := dk_133 (dk_at dksL_law_50 2 rfl rfl)
theorem dL_law_1281 : decode cL_law 1281 = .ok (.lcmp, 1) := dk_148 (dk_at dksL_law_50 3 rfl rfl)
theorem dL_law_1282 : decode cL_law 1282 = .ok (.ifCond .eq 5, 3) := dk_153 0 5 (dk_at dksL_law_50 4 rfl rfl)
theorem dL_law_1285 : decode cL_law 1285 = .ok (.iconst 0, 1) := dk_3 (dk_at dksL_law_50 7 rfl rfl)
theorem dL_law_1286 : decode cL_law 1286 = .ok (.ireturn, 1) := dk_172 (dk_at dksL_law_50 8 rfl rfl)
theorem dL_law_1287 : decode cL_law 1287 = .ok (.goto 587, 3) := dk_167 2 75 (dk_at dksL_law_50 9 rfl rfl)
theorem dL_law_1290 : decode cL_law 1290 = .ok (.aload_n 1, 1) := dk_43 (dk_at dksL_law_50 12 rfl rfl)
theorem dL_law_1291 : decode cL_law 1291 = .ok (.aload_n 0, 1) := dk_42 (dk_at dksL_law_50 13 rfl rfl)
theorem dL_law_1292 : decode cL_law 1292 = .ok (.iload 4, 2) := dk_21 4 (dk_at dksL_law_50 14 rfl rfl)
theorem dL_law_1294 : decode cL_law 1294 = .ok (.iconst 1, 1) := dk_4 (dk_at dksL_law_50 16 rfl rfl)
theorem dL_law_1295 : decode cL_law 1295 = .ok (.iadd, 1) := dk_96 (dk_at dksL_law_50 17 rfl rfl)
theorem dL_law_1296 : decode cL_law 1296 = .ok (.iaload, 1) := dk_46 (dk_at dksL_law_50 18 rfl rfl)
theorem dL_law_1297 : decode cL_law 1297 = .ok (.aload_n 3, 1) := dk_45 (dk_at dksL_law_50 19 rfl rfl)
theorem dL_law_1298 : decode cL_law 1298 = .ok (.invokestatic 181, 3) := dk_184 0 181 (dk_at dksL_law_50 20 rfl rfl)
theorem dL_law_1301 : decode cL_law 1301 = .ok (.istore 5, 2) := dk_54 5 (dk_at dksL_law_51 0 rfl rfl)
theorem dL_law_1303 : decode cL_law 1303 = .ok (.aload_n 2, 1) := dk_44 (dk_at dksL_law_51 2 rfl rfl)
theorem dL_law_1304 : decode cL_law 1304 = .ok (.aload_n 0, 1) := dk_42 (dk_at dksL_law_51 3 rfl rfl)
theorem dL_law_1305 : decode cL_law 1305 = .ok (.iload 4, 2) := dk_21 4 (dk_at dksL_law_51 4 rfl rfl)
theorem dL_law_1307 : decode cL_law 1307 = .ok (.iconst 1, 1) := dk_4 (dk_at dksL_law_51 6 rfl rfl)
theorem dL_law_1308 : decode cL_law 1308 = .ok (.iadd, 1) := dk_96 (dk_at dksL_law_51 7 rfl rfl)
theorem dL_law_1309 : decode cL_law 1309 = .ok (.iaload, 1) := dk_46 (dk_at dksL_law_51 8 rfl rfl)
theorem dL_law_1310 : decode cL_law 1310 = .ok (.invokevirtual 183, 3) := dk_182 0 183 (dk_at dksL_law_51 9 rfl rfl)
theorem dL_law_1313 : decode cL_law 1313 = .ok (.istore 6, 2) := dk_54 6 (dk_at dksL_law_51 12 rfl rfl)
theorem dL_law_1315 : decode cL_law 1315 = .ok (.aload_n 2, 1) := dk_44 (dk_at dksL_law_51 14 rfl rfl)
theorem dL_law_1316 : decode cL_law 1316 = .ok (.invokevirtual 112, 3) := dk_182 0 112 (dk_at dksL_law_51 15 rfl rfl)
theorem dL_law_1319 : decode cL_law 1319 = .ok (.iload 5, 2) := dk_21 5 (dk_at dksL_law_51 18 rfl rfl)
theorem dL_law_1321 : decode cL_law 1321 = .ok (.if_icmp .eq 5, 3) := dk_159 0 5 (dk_at dksL_law_51 20 rfl rfl)
theorem dL_law_1324 : decode cL_law 1324 = .ok (.iconst 0, 1) := dk_3 (dk_at dksL_law_51 23 rfl rfl)
theorem dL_law_1325 : decode cL_law 1325 = .ok (.ireturn, 1) := dk_172 (dk_at dksL_law_52 0 rfl rfl)
theorem dL_law_1326 : decode cL_law 1326 = .ok (.iload 5, 2) := dk_21 5 (dk_at dksL_law_52 1 rfl rfl)
theorem dL_law_1328 : decode cL_law 1328 = .ok (.ifCond .ne 15, 3) := dk_154 0 15 (dk_at dksL_law_52 3 rfl rfl)
theorem dL_law_1331 : decode cL_law 1331 = .ok (.aload_n 3, 1) := dk_45 (dk_at dksL_law_52 6 rfl rfl)
theorem dL_law_1332 : decode cL_law 1332 = .ok (.iconst 0, 1) := dk_3 (dk_at dksL_law_52 7 rfl rfl)
theorem dL_law_1333 : decode cL_law 1333 = .ok (.laload, 1) := dk_47 (dk_at dksL_law_52 8 rfl rfl)
theorem dL_law_1334 : decode cL_law 1334 = .ok (.iload 6, 2) := dk_21 6 (dk_at dksL_law_52 9 rfl rfl)
theorem dL_law_1336 : decode cL_law 1336 = .ok (.i2l, 1) := dk_133 (dk_at dksL_law_52 11 rfl rfl)
theorem dL_law_1337 : decode cL_law 1337 = .ok (.lcmp, 1) := dk_148 (dk_at dksL_law_52 12 rfl rfl)
theorem dL_law_1338 : decode cL_law 1338 = .ok (.ifCond .eq 5, 3) := dk_153 0 5 (dk_at dksL_law_52 13 rfl rfl)
theorem dL_law_1341 : decode cL_law 1341 = .ok (.iconst 0, 1) := dk_3 (dk_at dksL_law_52 16 rfl rfl)
theorem dL_law_1342 : decode cL_law 1342 = .ok (.ireturn, 1) := dk_172 (dk_at dksL_law_52 17 rfl rfl)
theorem dL_law_1343 : decode cL_law 1343 = .ok (.goto 531, 3) := dk_167 2 19 (dk_at dksL_law_52 18 rfl rfl)
theorem dL_law_1346 : decode cL_law 1346 = .ok (.aload_n 1, 1) := dk_43 (dk_at dksL_law_52 21 rfl rfl)
theorem dL_law_1347 : decode cL_law 1347 = .ok (.aload_n 3, 1) := dk_45 (dk_at dksL_law_52 22 rfl rfl)
theorem dL_law_1348 : decode cL_law 1348 = .ok (.invokestatic 184, 3) := dk_184 0 184 (dk_at dksL_law_53 0 rfl rfl)
theorem dL_law_1351 : decode cL_law 1351 = .ok (.istore 5, 2) := dk_54 5 (dk_at dksL_law_53 3 rfl rfl)
theorem dL_law_1353 : decode cL_law 1353 = .ok (.aload_n 2, 1) := dk_44 (dk_at dksL_law_53 5 rfl rfl)
theorem dL_law_1354 : decode cL_law 1354 = .ok (.invokevirtual 186, 3) := dk_182 0 186 (dk_at dksL_law_53 6 rfl rfl)
theorem dL_law_1357 : decode cL_law 1357 = .ok (.istore 6, 2) := dk_54 6 (dk_at dksL_law_53 9 rfl rfl)
theorem dL_law_1359 : decode cL_law 1359 = .ok (.aload_n 2, 1) := dk_44 (dk_at dksL_law_53 11 rfl rfl)
theorem dL_law_1360 : decode cL_law 1360 = .ok (.invokevirtual 112, 3) := dk_182 0 112 (dk_at dksL_law_53 12 rfl rfl)
theorem dL_law_1363 : decode cL_law 1363 = .ok (.iload 5, 2) := dk_21 5 (dk_at dksL_law_53 15 rfl rfl)
theorem dL_law_1365 : decode cL_law 1365 = .ok (.if_icmp .eq 5, 3) := dk_159 0 5 (dk_at dksL_law_53 17 rfl rfl)
theorem dL_law_1368 : decode cL_law 1368 = .ok (.iconst 0, 1) := dk_3 (dk_at dksL_law_53 20 rfl rfl)
theorem dL_law_1369 : decode cL_law 1369 = .ok (.ireturn, 1) := dk_172 (dk_at dksL_law_53 21 rfl rfl)
theorem dL_law_1370 : decode cL_law 1370 = .ok (.iload 5, 2) := dk_21 5 (dk_at dksL_law_53 22 rfl rfl)
theorem dL_law_1372 : decode cL_law 1372 = .ok (.ifCond .ne 15, 3) := dk_154 0 15 (dk_at dksL_law_54 0 rfl rfl)
theorem dL_law_1375 : decode cL_law 1375 = .ok (.aload_n 3, 1) := dk_45 (dk_at dksL_law_54 3 rfl rfl)
theorem dL_law_1376 : decode cL_law 1376 = .ok (.iconst 0, 1) := dk_3 (dk_at dksL_law_54 4 rfl rfl)
theorem dL_law_1377 : decode cL_law 1377 = .ok (.laload, 1) := dk_47 (dk_at dksL_law_54 5 rfl rfl)
theorem dL_law_1378 : decode cL_law 1378 = .ok (.iload 6, 2) := dk_21 6 (dk_at dksL_law_54 6 rfl rfl)
theorem dL_law_1380 : decode cL_law 1380 = .ok (.i2l, 1) := dk_133 (dk_at dksL_law_54 8 rfl rfl)
theorem dL_law_1381 : decode cL_law 1381 = .ok (.lcmp, 1) := dk_148 (dk_at dksL_law_54 9 rfl rfl)
theorem dL_law_1382 : decode cL_law 1382 = .ok (.ifCond .eq 5, 3) := dk_153 0 5 (dk_at dksL_law_54 10 rfl rfl)
theorem dL_law_1385 : decode cL_law 1385 = .ok (.iconst 0, 1) := dk_3 (dk_at dksL_law_54 13 rfl rfl)
theorem dL_law_1386 : decode cL_law 1386 = .ok (.ireturn, 1) := dk_172 (dk_at dksL_law_54 14 rfl rfl)
theorem dL_law_1387 : decode cL_law 1387 = .ok (.goto 487, 3) := dk_167 1 231 (dk_at dksL_law_54 15 rfl rfl)
theorem dL_law_1390 : decode cL_law 1390 = .ok (.aload_n 1, 1) := dk_43 (dk_at dksL_law_54 18 rfl rfl)
theorem dL_law_1391 : decode cL_law 1391 = .ok (.aload_n 0, 1) := dk_42 (dk_at dksL_law_54 19 rfl rfl)
theorem dL_law_1392 : decode cL_law 1392 = .ok (.iload 4, 2) := dk_21 4 (dk_at dksL_law_54 20 rfl rfl)
theorem dL_law_1394 : decode cL_law 1394 = .ok (.iconst 1, 1) := dk_4 (dk_at dksL_law_54 22 rfl rfl)
theorem dL_law_1395 : decode cL_law 1395 = .ok (.iadd, 1) := dk_96 (dk_at dksL_law_54 23 rfl rfl)
theorem dL_law_1396 : decode cL_law 1396 = .ok (.iaload, 1) := dk_46 (dk_at dksL_law_55 0 rfl rfl)
theorem dL_law_1397 : decode cL_law 1397 = .ok (.aload_n 3, 1) := dk_45 (dk_at dksL_law_55 1 rfl rfl)
theorem dL_law_1398 : decode cL_law 1398 = .ok (.invokestatic 187, 3) := dk_184 0 187 (dk_at dksL_law_55 2 rfl rfl)
theorem dL_law_1401 : decode cL_law 1401 = .ok (.istore 5, 2) := dk_54 5 (dk_at dksL_law_55 5 rfl rfl)
theorem dL_law_1403 : decode cL_law 1403 = .ok (.aload_n 2, 1) := dk_44 (dk_at dksL_law_55 7 rfl rfl)
theorem dL_law_1404 : decode cL_law 1404 = .ok (.aload_n 0, 1) := dk_42 (dk_at dksL_law_55 8 rfl rfl)
theorem dL_law_1405 : decode cL_law 1405 = .ok (.iload 4, 2) := dk_21 4 (dk_at dksL_law_55 9 rfl rfl)
theorem dL_law_1407 : decode cL_law 1407 = .ok (.iconst 1, 1) := dk_4 (dk_at dksL_law_55 11 rfl rfl)
theorem dL_law_1408 : decode cL_law 1408 = .ok (.iadd, 1) := dk_96 (dk_at dksL_law_55 12 rfl rfl)
theorem dL_law_1409 : decode cL_law 1409 = .ok (.iaload, 1) := dk_46 (dk_at dksL_law_55 13 rfl rfl)
theorem dL_law_1410 : decode cL_law 1410 = .ok (.invokevirtual 189, 3) := dk_182 0 189 (dk_at dksL_law_55 14 rfl rfl)
theorem dL_law_1413 : decode cL_law 1413 = .ok (.istore 6, 2) := dk_54 6 (dk_at dksL_law_55 17 rfl rfl)
theorem dL_law_1415 : decode cL_law 1415 = .ok (.aload_n 2, 1) := dk_44 (dk_at dksL_law_55 19 rfl rfl)
theorem dL_law_1416 : decode cL_law 1416 = .ok (.invokevirtual 112, 3) := dk_182 0 112 (dk_at dksL_law_55 20 rfl rfl)
theorem dL_law_1419 : decode cL_law 1419 = .ok (.iload 5, 2) := dk_21 5 (dk_at dksL_law_56 0 rfl rfl)
theorem dL_law_1421 : decode cL_law 1421 = .ok (.if_icmp .eq 5, 3) := dk_159 0 5 (dk_at dksL_law_56 2 rfl rfl)
theorem dL_law_1424 : decode cL_law 1424 = .ok (.iconst 0, 1) := dk_3 (dk_at dksL_law_56 5 rfl rfl)
theorem dL_law_1425 : decode cL_law 1425 = .ok (.ireturn, 1) := dk_172 (dk_at dksL_law_56 6 rfl rfl)
theorem dL_law_1426 : decode cL_law 1426 = .ok (.iload 5, 2) := dk_21 5 (dk_at dksL_law_56 7 rfl rfl)
theorem dL_law_1428 : decode cL_law 1428 = .ok (.ifCond .ne 15, 3) := dk_154 0 15 (dk_at dksL_law_56 9 rfl rfl)
theorem dL_law_1431 : decode cL_law 1431 = .ok (.aload_n 3, 1) := dk_45 (dk_at dksL_law_56 12 rfl rfl)
theorem dL_law_1432 : decode cL_law 1432 = .ok (.iconst 0, 1) := dk_3 (dk_at dksL_law_56 13 rfl rfl)
theorem dL_law_1433 : decode cL_law 1433 = .ok (.laload, 1) := dk_47 (dk_at dksL_law_56 14 rfl rfl)
theorem dL_law_1434 : decode cL_law 1434 = .ok (.iload 6, 2) := dk_21 6 (dk_at dksL_law_56 15 rfl rfl)
theorem dL_law_1436 : decode cL_law 1436 = .ok (.i2l, 1) := dk_133 (dk_at dksL_law_56 17 rfl rfl)
theorem dL_law_1437 : decode cL_law 1437 = .ok (.lcmp, 1) := dk_148 (dk_at dksL_law_56 18 rfl rfl)
theorem dL_law_1438 : decode cL_law 1438 = .ok (.ifCond .eq 5, 3) := dk_153 0 5 (dk_at dksL_law_56 19 rfl rfl)
theorem dL_law_1441 : decode cL_law 1441 = .ok (.iconst 0, 1) := dk_3 (dk_at dksL_law_56 22 rfl rfl)
theorem dL_law_1442 : decode cL_law 1442 = .ok (.ireturn, 1) := dk_172 (dk_at dksL_law_56 23 rfl rfl)
theorem dL_law_1443 : decode cL_law 1443 = .ok (.goto 431, 3) := dk_167 1 175 (dk_at dksL_law_57 0 rfl rfl)
theorem dL_law_1446 : decode cL_law 1446 = .ok (.aload_n 1, 1) := dk_43 (dk_at dksL_law_57 3 rfl rfl)
theorem dL_law_1447 : decode cL_law 1447 = .ok (.aload_n 0, 1) := dk_42 (dk_at dksL_law_57 4 rfl rfl)
theorem dL_law_1448 : decode cL_law 1448 = .ok (.iload 4, 2) := dk_21 4 (dk_at dksL_law_57 5 rfl rfl)
theorem dL_law_1450 : decode cL_law 1450 = .ok (.iconst 1, 1) := dk_4 (dk_at dksL_law_57 7 rfl rfl)
theorem dL_law_1451 : decode cL_law 1451 = .ok (.iadd, 1) := dk_96 (dk_at dksL_law_57 8 rfl rfl)
theorem dL_law_1452 : decode cL_law 1452 = .ok (.iaload, 1) := dk_46 (dk_at dksL_law_57 9 rfl rfl)
theorem dL_law_1453 : decode cL_law 1453 = .ok (.aload_n 3, 1) := dk_45 (dk_at dksL_law_57 10 rfl rfl)
theorem dL_law_1454 : decode cL_law 1454 = .ok (.invokestatic 190, 3) := dk_184 0 190 (dk_at dksL_law_57 11 rfl rfl)
theorem dL_law_1457 : decode cL_law 1457 = .ok (.istore 5, 2) := dk_54 5 (dk_at dksL_law_57 14 rfl rfl)
theorem dL_law_1459 : decode cL_law 1459 = .ok (.aload_n 2, 1) := dk_44 (dk_at dksL_law_57 16 rfl rfl)
theorem dL_law_1460 : decode cL_law 1460 = .ok (.aload_n 0, 1) := dk_42 (dk_at dksL_law_57 17 rfl rfl)
theorem dL_law_1461 : decode cL_law 1461 = .ok (.iload 4, 2) := dk_21 4 (dk_at dksL_law_57 18 rfl rfl)
theorem dL_law_1463 : decode cL_law 1463 = .ok (.iconst 1, 1) := dk_4 (dk_at dksL_law_57 20 rfl rfl)
theorem dL_law_1464 : decode cL_law 1464 = .ok (.iadd, 1) := dk_96 (dk_at dksL_law_57 21 rfl rfl)
theorem dL_law_1465 : decode cL_law 1465 = .ok (.iaload, 1) := dk_46 (dk_at dksL_law_57 22 rfl rfl)
theorem dL_law_1466 : decode cL_law 1466 = .ok (.invokevirtual 192, 3) := dk_182 0 192 (dk_at dksL_law_58 0 rfl rfl)
theorem dL_law_1469 : decode cL_law 1469 = .ok (.istore 6, 2) := dk_54 6 (dk_at dksL_law_58 3 rfl rfl)
theorem dL_law_1471 : decode cL_law 1471 = .ok (.aload_n 2, 1) := dk_44 (dk_at dksL_law_58 5 rfl rfl)
theorem dL_law_1472 : decode cL_law 1472 = .ok (.invokevirtual 112, 3) := dk_182 0 112 (dk_at dksL_law_58 6 rfl rfl)
theorem dL_law_1475 : decode cL_law 1475 = .ok (.iload 5, 2) := dk_21 5 (dk_at dksL_law_58 9 rfl rfl)
theorem dL_law_1477 : decode cL_law 1477 = .ok (.if_icmp .eq 5, 3) := dk_159 0 5 (dk_at dksL_law_58 11 rfl rfl)
theorem dL_law_1480 : decode cL_law 1480 = .ok (.iconst 0, 1) := dk_3 (dk_at dksL_law_58 14 rfl rfl)
theorem dL_law_1481 : decode cL_law 1481 = .ok (.ireturn, 1) := dk_172 (dk_at dksL_law_58 15 rfl rfl)
theorem dL_law_1482 : decode cL_law 1482 = .ok (.iload 5, 2) := dk_21 5 (dk_at dksL_law_58 16 rfl rfl)
theorem dL_law_1484 : decode cL_law 1484 = .ok (.ifCond .ne 15, 3) := dk_154 0 15 (dk_at dksL_law_58 18 rfl rfl)
theorem dL_law_1487 : decode cL_law 1487 = .ok (.aload_n 3, 1) := dk_45 (dk_at dksL_law_58 21 rfl rfl)
theorem dL_law_1488 : decode cL_law 1488 = .ok (.iconst 0, 1) := dk_3 (dk_at dksL_law_58 22 rfl rfl)
theorem dL_law_1489 : decode cL_law 1489 = .ok (.laload, 1) := dk_47 (dk_at dksL_law_58 23 rfl rfl)
theorem dL_law_1490 : decode cL_law 1490 = .ok (.iload 6, 2) := dk_21 6 (dk_at dksL_law_59 0 rfl rfl)
theorem dL_law_1492 : decode cL_law 1492 = .ok (.i2l, 1) := dk_133 (dk_at dksL_law_59 2 rfl rfl)
theorem dL_law_1493 : decode cL_law 1493 = .ok (.lcmp, 1) := dk_148 (dk_at dksL_law_59 3 rfl rfl)
theorem dL_law_1494 : decode cL_law 1494 = .ok (.ifCond .eq 5, 3) := dk_153 0 5 (dk_at dksL_law_59 4 rfl rfl)
theorem dL_law_1497 : decode cL_law 1497 = .ok (.iconst 0, 1) := dk_3 (dk_at dksL_law_59 7 rfl rfl)
theorem dL_law_1498 : decode cL_law 1498 = .ok (.ireturn, 1) := dk_172 (dk_at dksL_law_59 8 rfl rfl)
theorem dL_law_1499 : decode cL_law 1499 = .ok (.goto 375, 3) := dk_167 1 119 (dk_at dksL_law_59 9 rfl rfl)
theorem dL_law_1502 : decode cL_law 1502 = .ok (.aload_n 1, 1) := dk_43 (dk_at dksL_law_59 12 rfl rfl)
theorem dL_law_1503 : decode cL_law 1503 = .ok (.aload_n 3, 1) := dk_45 (dk_at dksL_law_59 13 rfl rfl)
theorem dL_law_1504 : decode cL_law 1504 = .ok (.invokestatic 193, 3) := dk_184 0 193 (dk_at dksL_law_59 14 rfl rfl)
theorem dL_law_1507 : decode cL_law 1507 = .ok (.istore 5, 2) := dk_54 5 (dk_at dksL_law_59 17 rfl rfl)
theorem dL_law_1509 : decode cL_law 1509 = .ok (.aload_n 2, 1) := dk_44 (dk_at dksL_law_59 19 rfl rfl)
theorem dL_law_1510 : decode cL_law 1510 = .ok (.invokevirtual 195, 3) := dk_182 0 195 (dk_at dksL_law_59 20 rfl rfl)
theorem dL_law_1513 : decode cL_law 1513 = .ok (.istore 6, 2) := dk_54 6 (dk_at dksL_law_60 0 rfl rfl)
theorem dL_law_1515 : decode cL_law 1515 = .ok (.aload_n 2, 1) := dk_44 (dk_at dksL_law_60 2 rfl rfl)
theorem dL_law_1516 : decode cL_law 1516 = .ok (.invokevirtual 112, 3) := dk_182 0 112 (dk_at dksL_law_60 3 rfl rfl)
theorem dL_law_1519 : decode cL_law 1519 = .ok (.iload 5, 2) := dk_21 5 (dk_at dksL_law_60 6 rfl rfl)
theorem dL_law_1521 : decode cL_law 1521 = .ok (.if_icmp .eq 5, 3) := dk_159 0 5 (dk_at dksL_law_60 8 rfl rfl)
theorem dL_law_1524 : decode cL_law 1524 = .ok (.iconst 0, 1) := dk_3 (dk_at dksL_law_60 11 rfl rfl)
theorem dL_law_1525 : decode cL_law 1525 = .ok (.ireturn, 1) := dk_172 (dk_at dksL_law_60 12 rfl rfl)
theorem dL_law_1526 : decode cL_law 1526 = .ok (.iload 5, 2) := dk_21 5 (dk_at dksL_law_60 13 rfl rfl)
theorem dL_law_1528 : decode cL_law 1528 = .ok (.ifCond .ne 15, 3) := dk_154 0 15 (dk_at dksL_law_60 15 rfl rfl)
theorem dL_law_1531 : decode cL_law 1531 = .ok (.aload_n 3, 1) := dk_45 (dk_at dksL_law_60 18 rfl rfl)
theorem dL_law_1532 : decode cL_law 1532 = .ok (.iconst 0, 1) := dk_3 (dk_at dksL_law_60 19 rfl rfl)
theorem dL_law_1533 : decode cL_law 1533 = .ok (.laload, 1) := dk_47 (dk_at dksL_law_60 20 rfl rfl)
theorem dL_law_1534 : decode cL_law 1534 = .ok (.iload 6, 2) := dk_21 6 (dk_at dksL_law_60 21 rfl rfl)
theorem dL_law_1536 : decode cL_law 1536 = .ok (.i2l, 1) := dk_133 (dk_at dksL_law_60 23 rfl rfl)
theorem dL_law_1537 : decode cL_law 1537 = .ok (.lcmp, 1) := dk_148 (dk_at dksL_law_61 0 rfl rfl)
theorem dL_law_1538 : decode cL_law 1538 = .ok (.ifCond .eq 5, 3) := dk_153 0 5 (dk_at dksL_law_61 1 rfl rfl)
theorem dL_law_1541 : decode cL_law 1541 = .ok (.iconst 0, 1) := dk_3 (dk_at dksL_law_61 4 rfl rfl)
theorem dL_law_1542 : decode cL_law 1542 = .ok (.ireturn, 1) := dk_172 (dk_at dksL_law_61 5 rfl rfl)
theorem dL_law_1543 : decode cL_law 1543 = .ok (.goto 331, 3) := dk_167 1 75 (dk_at dksL_law_61 6 rfl rfl)
theorem dL_law_1546 : decode cL_law 1546 = .ok (.aload_n 1, 1) := dk_43 (dk_at dksL_law_61 9 rfl rfl)
theorem dL_law_1547 : decode cL_law 1547 = .ok (.aload_n 0, 1) := dk_42 (dk_at dksL_law_61 10 rfl rfl)
theorem dL_law_1548 : decode cL_law 1548 = .ok (.iload 4, 2) := dk_21 4 (dk_at dksL_law_61 11 rfl rfl)
theorem dL_law_1550 : decode cL_law 1550 = .ok (.iconst 1, 1) := dk_4 (dk_at dksL_law_61 13 rfl rfl)
theorem dL_law_1551 : decode cL_law 1551 = .ok (.iadd, 1) := dk_96 (dk_at dksL_law_61 14 rfl rfl)
theorem dL_law_1552 : decode cL_law 1552 = .ok (.iaload, 1) := dk_46 (dk_at dksL_law_61 15 rfl rfl)
theorem dL_law_1553 : decode cL_law 1553 = .ok (.aload_n 3, 1) := dk_45 (dk_at dksL_law_61 16 rfl rfl)
theorem dL_law_1554 : decode cL_law 1554 = .ok (.invokestatic 196, 3) := dk_184 0 196 (dk_at dksL_law_61 17 rfl rfl)
theorem dL_law_1557 : decode cL_law 1557 = .ok (.istore 5, 2) := dk_54 5 (dk_at dksL_law_61 20 rfl rfl)
theorem dL_law_1559 : decode cL_law 1559 = .ok (.aload_n 2, 1) := dk_44 (dk_at dksL_law_61 22 rfl rfl)
theorem dL_law_1560 : decode cL_law 1560 = .ok (.aload_n 0, 1) := dk_42 (dk_at dksL_law_61 23 rfl rfl)
theorem dL_law_1561 : decode cL_law 1561 = .ok (.iload 4, 2) := dk_21 4 (dk_at dksL_law_62 0 rfl rfl)
theorem dL_law_1563 : decode cL_law 1563 = .ok (.iconst 1, 1) := dk_4 (dk_at dksL_law_62 2 rfl rfl)
theorem dL_law_1564 : decode cL_law 1564 = .ok (.iadd, 1) := dk_96 (dk_at dksL_law_62 3 rfl rfl)
theorem dL_law_1565 : decode cL_law 1565 = .ok (.iaload, 1) := dk_46 (dk_at dksL_law_62 4 rfl rfl)
theorem dL_law_1566 : decode cL_law 1566 = .ok (.invokevirtual 198, 3) := dk_182 0 198 (dk_at dksL_law_62 5 rfl rfl)
theorem dL_law_1569 : decode cL_law 1569 = .ok (.istore 6, 2) := dk_54 6 (dk_at dksL_law_62 8 rfl rfl)
theorem dL_law_1571 : decode cL_law 1571 = .ok (.aload_n 2, 1) := dk_44 (dk_at dksL_law_62 10 rfl rfl)
theorem dL_law_1572 : decode cL_law 1572 = .ok (.invokevirtual 112, 3) := dk_182 0 112 (dk_at dksL_law_62 11 rfl rfl)
theorem dL_law_1575 : decode cL_law 1575 = .ok (.iload 5, 2) := dk_21 5 (dk_at dksL_law_62 14 rfl rfl)
theorem dL_law_1577 : decode cL_law 1577 = .ok (.if_icmp .eq 5, 3) := dk_159 0 5 (dk_at dksL_law_62 16 rfl rfl)
theorem dL_law_1580 : decode cL_law 1580 = .ok (.iconst 0, 1) := dk_3 (dk_at dksL_law_62 19 rfl rfl)
theorem dL_law_1581 : decode cL_law 1581 = .ok (.ireturn, 1) := dk_172 (dk_at dksL_law_62 20 rfl rfl)
theorem dL_law_1582 : decode cL_law 1582 = .ok (.iload 5, 2) := dk_21 5 (dk_at dksL_law_62 21 rfl rfl)
theorem dL_law_1584 : decode cL_law 1584 = .ok (.ifCond .ne 15, 3) := dk_154 0 15 (dk_at dksL_law_63 0 rfl rfl)
theorem dL_law_1587 : decode cL_law 1587 = .ok (.aload_n 3, 1) := dk_45 (dk_at dksL_law_63 3 rfl rfl)
theorem dL_law_1588 : decode cL_law 1588 = .ok (.iconst 0, 1) := dk_3 (dk_at dksL_law_63 4 rfl rfl)
theorem dL_law_1589 : decode cL_law 1589 = .ok (.laload, 1) := dk_47 (dk_at dksL_law_63 5 rfl rfl)
theorem dL_law_1590 : decode cL_law 1590 = .ok (.iload 6, 2) := dk_21 6 (dk_at dksL_law_63 6 rfl rfl)
theorem dL_law_1592 : decode cL_law 1592 = .ok (.i2l, 1) := dk_133 (dk_at dksL_law_63 8 rfl rfl)
theorem dL_law_1593 : decode cL_law 1593 = .ok (.lcmp, 1) := dk_148 (dk_at dksL_law_63 9 rfl rfl)
theorem dL_law_1594 : decode cL_law 1594 = .ok (.ifCond .eq 5, 3) := dk_153 0 5 (dk_at dksL_law_63 10 rfl rfl)
theorem dL_law_1597 : decode cL_law 1597 = .ok (.iconst 0, 1) := dk_3 (dk_at dksL_law_63 13 rfl rfl)
theorem dL_law_1598 : decode cL_law 1598 = .ok (.ireturn, 1) := dk_172 (dk_at dksL_law_63 14 rfl rfl)
theorem dL_law_1599 : decode cL_law 1599 = .ok (.goto 275, 3) := dk_167 1 19 (dk_at dksL_law_63 15 rfl rfl)
theorem dL_law_1602 : decode cL_law 1602 = .ok (.aload_n 1, 1) := dk_43 (dk_at dksL_law_63 18 rfl rfl)
theorem dL_law_1603 : decode cL_law 1603 = .ok (.aload_n 0, 1) := dk_42 (dk_at dksL_law_63 19 rfl rfl)
theorem dL_law_1604 : decode cL_law 1604 = .ok (.iload 4, 2) := dk_21 4 (dk_at dksL_law_63 20 rfl rfl)
theorem dL_law_1606 : decode cL_law 1606 = .ok (.iconst 1, 1) := dk_4 (dk_at dksL_law_63 22 rfl rfl)
theorem dL_law_1607 : decode cL_law 1607 = .ok (.iadd, 1) := dk_96 (dk_at dksL_law_63 23 rfl rfl)
theorem dL_law_1608 : decode cL_law 1608 = .ok (.iaload, 1) := dk_46 (dk_at dksL_law_64 0 rfl rfl)
theorem dL_law_1609 : decode cL_law 1609 = .ok (.aload_n 3, 1) := dk_45 (dk_at dksL_law_64 1 rfl rfl)
theorem dL_law_1610 : decode cL_law 1610 = .ok (.invokestatic 199, 3) := dk_184 0 199 (dk_at dksL_law_64 2 rfl rfl)
theorem dL_law_1613 : decode cL_law 1613 = .ok (.istore 5, 2) := dk_54 5 (dk_at dksL_law_64 5 rfl rfl)
theorem dL_law_1615 : decode cL_law 1615 = .ok (.aload_n 2, 1) := dk_44 (dk_at dksL_law_64 7 rfl rfl)
theorem dL_law_1616 : decode cL_law 1616 = .ok (.aload_n 0, 1) := dk_42 (dk_at dksL_law_64 8 rfl rfl)
theorem dL_law_1617 : decode cL_law 1617 = .ok (.iload 4, 2) := dk_21 4 (dk_at dksL_law_64 9 rfl rfl)
theorem dL_law_1619 : decode cL_law 1619 = .ok (.iconst 1, 1) := dk_4 (dk_at dksL_law_64 11 rfl rfl)
theorem dL_law_1620 : decode cL_law 1620 = .ok (.iadd, 1) := dk_96 (dk_at dksL_law_64 12 rfl rfl)
theorem dL_law_1621 : decode cL_law 1621 = .ok (.iaload, 1) := dk_46 (dk_at dksL_law_64 13 rfl rfl)
theorem dL_law_1622 : decode cL_law 1622 = .ok (.invokevirtual 201, 3) := dk_182 0 201 (dk_at dksL_law_64 14 rfl rfl)
theorem dL_law_1625 : decode cL_law 1625 = .ok (.istore 6, 2) := dk_54 6 (dk_at dksL_law_64 17 rfl rfl)
theorem dL_law_1627 : decode cL_law 1627 = .ok (.aload_n 2, 1) := dk_44 (dk_at dksL_law_64 19 rfl rfl)
theorem dL_law_1628 : decode cL_law 1628 = .ok (.invokevirtual 112, 3) := dk_182 0 112 (dk_at dksL_law_64 20 rfl rfl)
theorem dL_law_1631 : decode cL_law 1631 = .ok (.iload 5, 2) := dk_21 5 (dk_at dksL_law_65 0 rfl rfl)
theorem dL_law_1633 : decode cL_law 1633 = .ok (.if_icmp .eq 5, 3) := dk_159 0 5 (dk_at dksL_law_65 2 rfl rfl)
theorem dL_law_1636 : decode cL_law 1636 = .ok (.iconst 0, 1) := dk_3 (dk_at dksL_law_65 5 rfl rfl)
theorem dL_law_1637 : decode cL_law 1637 = .ok (.ireturn, 1) := dk_172 (dk_at dksL_law_65 6 rfl rfl)
theorem dL_law_1638 : decode cL_law 1638 = .ok (.iload 5, 2) := dk_21 5 (dk_at dksL_law_65 7 rfl rfl)
theorem dL_law_1640 : decode cL_law 1640 = .ok (.ifCond .ne 15, 3) := dk_154 0 15 (dk_at dksL_law_65 9 rfl rfl)
theorem dL_law_1643 : decode cL_law 1643 = .ok (.aload_n 3, 1) := dk_45 (dk_at dksL_law_65 12 rfl rfl)
theorem dL_law_1644 : decode cL_law 1644 = .ok (.iconst 0, 1) := dk_3 (dk_at dksL_law_65 13 rfl rfl)
theorem dL_law_1645 : decode cL_law 1645 = .ok (.laload, 1) := dk_47 (dk_at dksL_law_65 14 rfl rfl)
theorem dL_law_1646 : decode cL_law 1646 = .ok (.iload 6, 2) := dk_21 6 (dk_at dksL_law_65 15 rfl rfl)
theorem dL_law_1648 : decode cL_law 1648 = .ok (.i2l, 1) := dk_133 (dk_at dksL_law_65 17 rfl rfl)
theorem dL_law_1649 : decode cL_law 1649 = .ok (.lcmp, 1) := dk_148 (dk_at dksL_law_65 18 rfl rfl)
theorem dL_law_1650 : decode cL_law 1650 = .ok (.ifCond .eq 5, 3) := dk_153 0 5 (dk_at dksL_law_65 19 rfl rfl)
theorem dL_law_1653 : decode cL_law 1653 = .ok (.iconst 0, 1) := dk_3 (dk_at dksL_law_65 22 rfl rfl)
theorem dL_law_1654 : decode cL_law 1654 = .ok (.ireturn, 1) := dk_172 (dk_at dksL_law_65 23 rfl rfl)
theorem dL_law_1655 : decode cL_law 1655 = .ok (.goto 219, 3) := dk_167 0 219 (dk_at dksL_law_66 0 rfl rfl)
theorem dL_law_1658 : decode cL_law 1658 = .ok (.aload_n 1, 1) := dk_43 (dk_at dksL_law_66 3 rfl rfl)
theorem dL_law_1659 : decode cL_law 1659 = .ok (.aload_n 0, 1) := dk_42 (dk_at dksL_law_66 4 rfl rfl)
theorem dL_law_1660 : decode cL_law 1660 = .ok (.iload 4, 2) := dk_21 4 (dk_at dksL_law_66 5 rfl rfl)
theorem dL_law_1662 : decode cL_law 1662 = .ok (.iconst 1, 1) := dk_4 (dk_at dksL_law_66 7 rfl rfl)
theorem dL_law_1663 : decode cL_law 1663 = .ok (.iadd, 1) := dk_96 (dk_at dksL_law_66 8 rfl rfl)
theorem dL_law_1664 : decode cL_law 1664 = .ok (.iaload, 1) := dk_46 (dk_at dksL_law_66 9 rfl rfl)
theorem dL_law_1665 : decode cL_law 1665 = .ok (.aload_n 3, 1) := dk_45 (dk_at dksL_law_66 10 rfl rfl)
theorem dL_law_1666 : decode cL_law 1666 = .ok (.invokestatic 202, 3) := dk_184 0 202 (dk_at dksL_law_66 11 rfl rfl)
theorem dL_law_1669 : decode cL_law 1669 = .ok (.istore 5, 2) := dk_54 5 (dk_at dksL_law_66 14 rfl rfl)
theorem dL_law_1671 : decode cL_law 1671 = .ok (.aload_n 2, 1) := dk_44 (dk_at dksL_law_66 16 rfl rfl)
theorem dL_law_1672 : decode cL_law 1672 = .ok (.aload_n 0, 1) := dk_42 (dk_at dksL_law_66 17 rfl rfl)
theorem dL_law_1673 : decode cL_law 1673 = .ok (.iload 4, 2) := dk_21 4 (dk_at dksL_law_66 18 rfl rfl)
theorem dL_law_1675 : decode cL_law 1675 = .ok (.iconst 1, 1) := dk_4 (dk_at dksL_law_66 20 rfl rfl)
theorem dL_law_1676 : decode cL_law 1676 = .ok (.iadd, 1) := dk_96 (dk_at dksL_law_66 21 rfl rfl)
theorem dL_law_1677 : decode cL_law 1677 = .ok (.iaload, 1) := dk_46 (dk_at dksL_law_66 22 rfl rfl)
theorem dL_law_1678 : decode cL_law 1678 = .ok (.invokevirtual 204, 3) := dk_182 0 204 (dk_at dksL_law_67 0 rfl rfl)
theorem dL_law_1681 : decode cL_law 1681 = .ok (.istore 6, 2) := dk_54 6 (dk_at dksL_law_67 3 rfl rfl)
theorem dL_law_1683 : decode cL_law 1683 = .ok (.aload_n 2, 1) := dk_44 (dk_at dksL_law_67 5 rfl rfl)
theorem dL_law_1684 : decode cL_law 1684 = .ok (.invokevirtual 112, 3) := dk_182 0 112 (dk_at dksL_law_67 6 rfl rfl)
theorem dL_law_1687 : decode cL_law 1687 = .ok (.iload 5, 2) := dk_21 5 (dk_at dksL_law_67 9 rfl rfl)
theorem dL_law_1689 : decode cL_law 1689 = .ok (.if_icmp .eq 5, 3) := dk_159 0 5 (dk_at dksL_law_67 11 rfl rfl)
theorem dL_law_1692 : decode cL_law 1692 = .ok (.iconst 0, 1) := dk_3 (dk_at dksL_law_67 14 rfl rfl)
theorem dL_law_1693 : decode cL_law 1693 = .ok (.ireturn, 1) := dk_172 (dk_at dksL_law_67 15 rfl rfl)
theorem dL_law_1694 : decode cL_law 1694 = .ok (.iload 5, 2) := dk_21 5 (dk_at dksL_law_67 16 rfl rfl)
theorem dL_law_1696 : decode cL_law 1696 = .ok (.ifCond .ne 22, 3) := dk_154 0 22 (dk_at dksL_law_67 18 rfl rfl)
theorem dL_law_1699 : decode cL_law 1699 = .ok (.aload_n 3, 1) := dk_45 (dk_at dksL_law_67 21 rfl rfl)
theorem dL_law_1700 : decode cL_law 1700 = .ok (.iconst 0, 1) := dk_3 (dk_at dksL_law_67 22 rfl rfl)
theorem dL_law_1701 : decode cL_law 1701 = .ok (.laload, 1) := dk_47 (dk_at dksL_law_67 23 rfl rfl)
theorem dL_law_1702 : decode cL_law 1702 = .ok (.iload 6, 2) := dk_21 6 (dk_at dksL_law_68 0 rfl rfl)
theorem dL_law_1704 : decode cL_law 1704 = .ok (.ifCond .eq 7, 3) := dk_153 0 7 (dk_at dksL_law_68 2 rfl rfl)
theorem dL_law_1707 : decode cL_law 1707 = .ok (.lconst 1, 1) := dk_10 (dk_at dksL_law_68 5 rfl rfl)
theorem dL_law_1708 : decode cL_law 1708 = .ok (.goto 4, 3) := dk_167 0 4 (dk_at dksL_law_68 6 rfl rfl)
theorem dL_law_1711 : decode cL_law 1711 = .ok (.lconst 0, 1) := dk_9 (dk_at dksL_law_68 9 rfl rfl)
theorem dL_law_1712 : decode cL_law 1712 = .ok (.lcmp, 1) := dk_148 (dk_at dksL_law_68 10 rfl rfl)
theorem dL_law_1713 : decode cL_law 1713 = .ok (.ifCond .eq 5, 3) := dk_153 0 5 (dk_at dksL_law_68 11 rfl rfl)
theorem dL_law_1716 : decode cL_law 1716 = .ok (.iconst 0, 1) := dk_3 (dk_at dksL_law_68 14 rfl rfl)
theorem dL_law_1717 : decode cL_law 1717 = .ok (.ireturn, 1) := dk_172 (dk_at dksL_law_68 15 rfl rfl)
theorem dL_law_1718 : decode cL_law 1718 = .ok (.goto 156, 3) := dk_167 0 156 (dk_at dksL_law_68 16 rfl rfl)
theorem dL_law_1721 : decode cL_law 1721 = .ok (.aload_n 1, 1) := dk_43 (dk_at dksL_law_68 19 rfl rfl)
theorem dL_law_1722 : decode cL_law 1722 = .ok (.aload_n 0, 1) := dk_42 (dk_at dksL_law_68 20 rfl rfl)
theorem dL_law_1723 : decode cL_law 1723 = .ok (.iload 4, 2) := dk_21 4 (dk_at dksL_law_68 21 rfl rfl)
theorem dL_law_1725 : decode cL_law 1725 = .ok (.iconst 1, 1) := dk_4 (dk_at dksL_law_68 23 rfl rfl)
theorem dL_law_1726 : decode cL_law 1726 = .ok (.iadd, 1) := dk_96 (dk_at dksL_law_69 0 rfl rfl)
theorem dL_law_1727 : decode cL_law 1727 = .ok (.iaload, 1) := dk_46 (dk_at dksL_law_69 1 rfl rfl)
theorem dL_law_1728 : decode cL_law 1728 = .ok (.aload_n 3, 1) := dk_45 (dk_at dksL_law_69 2 rfl rfl)
theorem dL_law_1729 : decode cL_law 1729 = .ok (.invokestatic 205, 3) := dk_184 0 205 (dk_at dksL_law_69 3 rfl rfl)
theorem dL_law_1732 : decode cL_law 1732 = .ok (.istore 5, 2) := dk_54 5 (dk_at dksL_law_69 6 rfl rfl)
theorem dL_law_1734 : decode cL_law 1734 = .ok (.aload_n 2, 1) := dk_44 (dk_at dksL_law_69 8 rfl rfl)
theorem dL_law_1735 : decode cL_law 1735 = .ok (.aload_n 0, 1) := dk_42 (dk_at dksL_law_69 9 rfl rfl)
theorem dL_law_1736 : decode cL_law 1736 = .ok (.iload 4, 2) := dk_21 4 (dk_at dksL_law_69 10 rfl rfl)
theorem dL_law_1738 : decode cL_law 1738 = .ok (.iconst 1, 1) := dk_4 (dk_at dksL_law_69 12 rfl rfl)
theorem dL_law_1739 : decode cL_law 1739 = .ok (.iadd, 1) := dk_96 (dk_at dksL_law_69 13 rfl rfl)
theorem dL_law_1740 : decode cL_law 1740 = .ok (.iaload, 1) := dk_46 (dk_at dksL_law_69 14 rfl rfl)
theorem dL_law_1741 : decode cL_law 1741 = .ok (.invokevirtual 207, 3) := dk_182 0 207 (dk_at dksL_law_69 15 rfl rfl)
theorem dL_law_1744 : decode cL_law 1744 = .ok (.istore 6, 2) := dk_54 6 (dk_at dksL_law_69 18 rfl rfl)
theorem dL_law_1746 : decode cL_law 1746 = .ok (.aload_n 2, 1) := dk_44 (dk_at dksL_law_69 20 rfl rfl)
theorem dL_law_1747 : decode cL_law 1747 = .ok (.invokevirtual 112, 3) := dk_182 0 112 (dk_at dksL_law_69 21 rfl rfl)
theorem dL_law_1750 : decode cL_law 1750 = .ok (.iload 5, 2) := dk_21 5 (dk_at dksL_law_70 0 rfl rfl)
theorem dL_law_1752 : decode cL_law 1752 = .ok (.if_icmp .eq 5, 3) := dk_159 0 5 (dk_at dksL_law_70 2 rfl rfl)
theorem dL_law_1755 : decode cL_law 1755 = .ok (.iconst 0, 1) := dk_3 (dk_at dksL_law_70 5 rfl rfl)
theorem dL_law_1756 : decode cL_law 1756 = .ok (.ireturn, 1) := dk_172 (dk_at dksL_law_70 6 rfl rfl)
theorem dL_law_1757 : decode cL_law 1757 = .ok (.iload 5, 2) := dk_21 5 (dk_at dksL_law_70 7 rfl rfl)
theorem dL_law_1759 : decode cL_law 1759 = .ok (.ifCond .ne 15, 3) := dk_154 0 15 (dk_at dksL_law_70 9 rfl rfl)
theorem dL_law_1762 : decode cL_law 1762 = .ok (.aload_n 3, 1) := dk_45 (dk_at dksL_law_70 12 rfl rfl)
theorem dL_law_1763 : decode cL_law 1763 = .ok (.iconst 0, 1) := dk_3 (dk_at dksL_law_70 13 rfl rfl)
theorem dL_law_1764 : decode cL_law 1764 = .ok (.laload, 1) := dk_47 (dk_at dksL_law_70 14 rfl rfl)
theorem dL_law_1765 : decode cL_law 1765 = .ok (.iload 6, 2) := dk_21 6 (dk_at dksL_law_70 15 rfl rfl)
theorem dL_law_1767 : decode cL_law 1767 = .ok (.i2l, 1) := dk_133 (dk_at dksL_law_70 17 rfl rfl)
theorem dL_law_1768 : decode cL_law 1768 = .ok (.lcmp, 1) := dk_148 (dk_at dksL_law_70 18 rfl rfl)
theorem dL_law_1769 : decode cL_law 1769 = .ok (.ifCond .eq 5, 3) := dk_153 0 5 (dk_at dksL_law_70 19 rfl rfl)
theorem dL_law_1772 : decode cL_law 1772 = .ok (.iconst 0, 1) := dk_3 (dk_at dksL_law_70 22 rfl rfl)
theorem dL_law_1773 : decode cL_law 1773 = .ok (.ireturn, 1) := dk_172 (dk_at dksL_law_70 23 rfl rfl)
theorem dL_law_1774 : decode cL_law 1774 = .ok (.goto 100, 3) := dk_167 0 100 (dk_at dksL_law_71 0 rfl rfl)
theorem dL_law_1777 : decode cL_law 1777 = .ok (.aload_n 1, 1) := dk_43 (dk_at dksL_law_71 3 rfl rfl)
theorem dL_law_1778 : decode cL_law 1778 = .ok (.invokevirtual 208, 3) := dk_182 0 208 (dk_at dksL_law_71 4 rfl rfl)
theorem dL_law_1781 : decode cL_law 1781 = .ok (.dstore 5, 2) := dk_57 5 (dk_at dksL_law_71 7 rfl rfl)
theorem dL_law_1783 : decode cL_law 1783 = .ok (.aload_n 2, 1) := dk_44 (dk_at dksL_law_71 9 rfl rfl)
theorem dL_law_1784 : decode cL_law 1784 = .ok (.invokevirtual 212, 3) := dk_182 0 212 (dk_at dksL_law_71 10 rfl rfl)
theorem dL_law_1787 : decode cL_law 1787 = .ok (.dstore 7, 2) := dk_57 7 (dk_at dksL_law_71 13 rfl rfl)
theorem dL_law_1789 : decode cL_law 1789 = .ok (.dload 5, 2) := dk_24 5 (dk_at dksL_law_71 15 rfl rfl)
theorem dL_law_1791 : decode cL_law 1791 = .ok (.dload 7, 2) := dk_24 7 (dk_at dksL_law_71 17 rfl rfl)
theorem dL_law_1793 : decode cL_law 1793 = .ok (.dcmp .l, 1) := dk_151 (dk_at dksL_law_71 19 rfl rfl)
theorem dL_law_1794 : decode cL_law 1794 = .ok (.ifCond .eq 21, 3) := dk_153 0 21 (dk_at dksL_law_71 20 rfl rfl)
theorem dL_law_1797 : decode cL_law 1797 = .ok (.dload 5, 2) := dk_24 5 (dk_at dksL_law_72 0 rfl rfl)
theorem dL_law_1799 : decode cL_law 1799 = .ok (.dload 5, 2) := dk_24 5 (dk_at dksL_law_72 2 rfl rfl)
theorem dL_law_1801 : decode cL_law 1801 = .ok (.dcmp .l, 1) := dk_151 (dk_at dksL_law_72 4 rfl rfl)
theorem dL_law_1802 : decode cL_law 1802 = .ok (.ifCond .eq 11, 3) := dk_153 0 11 (dk_at dksL_law_72 5 rfl rfl)
theorem dL_law_1805 : decode cL_law 1805 = .ok (.dload 7, 2) := dk_24 7 (dk_at dksL_law_72 8 rfl rfl)
theorem dL_law_1807 : decode cL_law 1807 = .ok (.dload 7, 2) := dk_24 7 (dk_at dksL_law_72 10 rfl rfl)
theorem dL_law_1809 : decode cL_law 1809 = .ok (.dcmp .l, 1) := dk_151 (dk_at dksL_law_72 12 rfl rfl)
theorem dL_law_1810 : decode cL_law 1810 = .ok (.ifCond .ne 5, 3) := dk_154 0 5 (dk_at dksL_law_72 13 rfl rfl)
theorem dL_law_1813 : decode cL_law 1813 = .ok (.iconst 0, 1) := dk_3 (dk_at dksL_law_72 16 rfl rfl)
theorem dL_law_1814 : decode cL_law 1814 = .ok (.ireturn, 1) := dk_172 (dk_at dksL_law_72 17 rfl rfl)
theorem dL_law_1815 : decode cL_law 1815 = .ok (.goto 59, 3) := dk_167 0 59 (dk_at dksL_law_72 18 rfl rfl)
theorem dL_law_1818 : decode cL_law 1818 = .ok (.aload_n 1, 1) := dk_43 (dk_at dksL_law_72 21 rfl rfl)
theorem dL_law_1819 : decode cL_law 1819 = .ok (.invokevirtual 213, 3) := dk_182 0 213 (dk_at dksL_law_73 0 rfl rfl)
theorem dL_law_1822 : decode cL_law 1822 = .ok (.f2d, 1) := dk_141 (dk_at dksL_law_73 3 rfl rfl)
theorem dL_law_1823 : decode cL_law 1823 = .ok (.dstore 5, 2) := dk_57 5 (dk_at dksL_law_73 4 rfl rfl)
theorem dL_law_1825 : decode cL_law 1825 = .ok (.aload_n 2, 1) := dk_44 (dk_at dksL_law_73 6 rfl rfl)
theorem dL_law_1826 : decode cL_law 1826 = .ok (.invokevirtual 217, 3) := dk_182 0 217 (dk_at dksL_law_73 7 rfl rfl)
theorem dL_law_1829 : decode cL_law 1829 = .ok (.f2d, 1) := dk_141 (dk_at dksL_law_73 10 rfl rfl)
theorem dL_law_1830 : decode cL_law 1830 = .ok (.dstore 7, 2) := dk_57 7 (dk_at dksL_law_73 11 rfl rfl)
theorem dL_law_1832 : decode cL_law 1832 = .ok (.dload 5, 2) := dk_24 5 (dk_at dksL_law_73 13 rfl rfl)
theorem dL_law_1834 : decode cL_law 1834 = .ok (.dload 7, 2) := dk_24 7 (dk_at dksL_law_73 15 rfl rfl)
theorem dL_law_1836 : decode cL_law 1836 = .ok (.dcmp .l, 1) := dk_151 (dk_at dksL_law_73 17 rfl rfl)
theorem dL_law_1837 : decode cL_law 1837 = .ok (.ifCond .eq 21, 3) := dk_153 0 21 (dk_at dksL_law_73 18 rfl rfl)
theorem dL_law_1840 : decode cL_law 1840 = .ok (.dload 5, 2) := dk_24 5 (dk_at dksL_law_73 21 rfl rfl)
theorem dL_law_1842 : decode cL_law 1842 = .ok (.dload 5, 2) := dk_24 5 (dk_at dksL_law_74 0 rfl rfl)
theorem dL_law_1844 : decode cL_law 1844 = .ok (.dcmp .l, 1) := dk_151 (dk_at dksL_law_74 2 rfl rfl)
theorem dL_law_1845 : decode cL_law 1845 = .ok (.ifCond .eq 11, 3) := dk_153 0 11 (dk_at dksL_law_74 3 rfl rfl)
theorem dL_law_1848 : decode cL_law 1848 = .ok (.dload 7, 2) := dk_24 7 (dk_at dksL_law_74 6 rfl rfl)
theorem dL_law_1850 : decode cL_law 1850 = .ok (.dload 7, 2) := dk_24 7 (dk_at dksL_law_74 8 rfl rfl)
theorem dL_law_1852 : decode cL_law 1852 = .ok (.dcmp .l, 1) := dk_151 (dk_at dksL_law_74 10 rfl rfl)
theorem dL_law_1853 : decode cL_law 1853 = .ok (.ifCond .ne 5, 3) := dk_154 0 5 (dk_at dksL_law_74 11 rfl rfl)
theorem dL_law_1856 : decode cL_law 1856 = .ok (.iconst 0, 1) := dk_3 (dk_at dksL_law_74 14 rfl rfl)
theorem dL_law_1857 : decode cL_law 1857 = .ok (.ireturn, 1) := dk_172 (dk_at dksL_law_74 15 rfl rfl)
theorem dL_law_1858 : decode cL_law 1858 = .ok (.goto 16, 3) := dk_167 0 16 (dk_at dksL_law_74 16 rfl rfl)
theorem dL_law_1861 : decode cL_law 1861 = .ok (.aload_n 1, 1) := dk_43 (dk_at dksL_law_74 19 rfl rfl)
theorem dL_law_1862 : decode cL_law 1862 = .ok (.invokevirtual 218, 3) := dk_182 0 218 (dk_at dksL_law_74 20 rfl rfl)
theorem dL_law_1865 : decode cL_law 1865 = .ok (.aload_n 2, 1) := dk_44 (dk_at dksL_law_74 23 rfl rfl)
theorem dL_law_1866 : decode cL_law 1866 = .ok (.invokevirtual 221, 3) := dk_182 0 221 (dk_at dksL_law_75 0 rfl rfl)
theorem dL_law_1869 : decode cL_law 1869 = .ok (.if_icmp .eq 5, 3) := dk_159 0 5 (dk_at dksL_law_75 3 rfl rfl)
theorem dL_law_1872 : decode cL_law 1872 = .ok (.iconst 0, 1) := dk_3 (dk_at dksL_law_75 6 rfl rfl)
theorem dL_law_1873 : decode cL_law 1873 = .ok (.ireturn, 1) := dk_172 (dk_at dksL_law_75 7 rfl rfl)
theorem dL_law_1874 : decode cL_law 1874 = .ok (.iinc 4 4, 3) := dk_132 4 4 (dk_at dksL_law_75 8 rfl rfl)
theorem dL_law_1877 : decode cL_law 1877 = .ok (.goto (-1854), 3) := dk_167 248 194 (dk_at dksL_law_75 11 rfl rfl)
theorem dL_law_1880 : decode cL_law 1880 = .ok (.iconst 1, 1) := dk_4 (dk_at dksL_law_75 14 rfl rfl)
theorem dL_law_1881 : decode cL_law 1881 = .ok (.ireturn, 1) := dk_172 (dk_at dksL_law_75 15 rfl rfl)
/-! SlidingtrayLaw -/
set_option maxRecDepth 100000
def RX0 : String := "SlidingtrayLaw"
abbrev cX0_tray : ByteArray := method_3_code
def yX0_tray : MethodName := ⟨RX0, "tray", "(LSlidingtray;III[J)I"⟩
def dkwX0_tray_0 : List UInt8 := [25, 4, 3, 42, 27, 28, 29, 182, 0, 7, 133, 80, 167, 0, 7, 58, 5, 4, 172, 3, 172]
abbrev dktX0_tray_0 : List UInt8 := dkwX0_tray_0 ++ []
theorem dksX0_tray_0 : cX0_tray.data.toList.drop 0 = dktX0_tray_0 := by decide +kernel
theorem dX0_tray_0 : decode cX0_tray 0 = .ok (.aload 4, 2) := dk_25 4 (dk_at dksX0_tray_0 0 rfl rfl)
theorem dX0_tray_2 : decode cX0_tray 2 = .ok (.iconst 0, 1) := dk_3 (dk_at dksX0_tray_0 2 rfl rfl)
theorem dX0_tray_3 : decode cX0_tray 3 = .ok (.aload_n 0, 1) := dk_42 (dk_at dksX0_tray_0 3 rfl rfl)
theorem dX0_tray_4 : decode cX0_tray 4 = .ok (.iload_n 1, 1) := dk_27 (dk_at dksX0_tray_0 4 rfl rfl)
theorem dX0_tray_5 : decode cX0_tray 5 = .ok (.iload_n 2, 1) := dk_28 (dk_at dksX0_tray_0 5 rfl rfl)
theorem dX0_tray_6 : decode cX0_tray 6 = .ok (.iload_n 3, 1) := dk_29 (dk_at dksX0_tray_0 6 rfl rfl)
theorem dX0_tray_7 : decode cX0_tray 7 = .ok (.invokevirtual 7, 3) := dk_182 0 7 (dk_at dksX0_tray_0 7 rfl rfl)
theorem dX0_tray_10 : decode cX0_tray 10 = .ok (.i2l, 1) := dk_133 (dk_at dksX0_tray_0 10 rfl rfl)
theorem dX0_tray_11 : decode cX0_tray 11 = .ok (.lastore, 1) := dk_80 (dk_at dksX0_tray_0 11 rfl rfl)
theorem dX0_tray_12 : decode cX0_tray 12 = .ok (.goto 7, 3) := dk_167 0 7 (dk_at dksX0_tray_0 12 rfl rfl)
theorem dX0_tray_15 : decode cX0_tray 15 = .ok (.astore 5, 2) := dk_58 5 (dk_at dksX0_tray_0 15 rfl rfl)
theorem dX0_tray_17 : decode cX0_tray 17 = .ok (.iconst 1, 1) := dk_4 (dk_at dksX0_tray_0 17 rfl rfl)
theorem dX0_tray_18 : decode cX0_tray 18 = .ok (.ireturn, 1) := dk_172 (dk_at dksX0_tray_0 18 rfl rfl)
theorem dX0_tray_19 : decode cX0_tray 19 = .ok (.iconst 0, 1) := dk_3 (dk_at dksX0_tray_0 19 rfl rfl)
theorem dX0_tray_20 : decode cX0_tray 20 = .ok (.ireturn, 1) := dk_172 (dk_at dksX0_tray_0 20 rfl rfl)
abbrev cX0_lay : ByteArray := method_4_code
def yX0_lay : MethodName := ⟨RX0, "lay", "(LSlidingtray;J[J)I"⟩
def dkwX0_lay_0 : List UInt8 := [45, 3, 42, 31, 182, 0, 15, 133, 80, 167, 0, 7, 58, 4, 4, 172, 3, 172]
abbrev dktX0_lay_0 : List UInt8 := dkwX0_lay_0 ++ []
theorem dksX0_lay_0 : cX0_lay.data.toList.drop 0 = dktX0_lay_0 := by decide +kernel
theorem dX0_lay_0 : decode cX0_lay 0 = .ok (.aload_n 3, 1) := dk_45 (dk_at dksX0_lay_0 0 rfl rfl)
theorem dX0_lay_1 : decode cX0_lay 1 = .ok (.iconst 0, 1) := dk_3 (dk_at dksX0_lay_0 1 rfl rfl)
theorem dX0_lay_2 : decode cX0_lay 2 = .ok (.aload_n 0, 1) := dk_42 (dk_at dksX0_lay_0 2 rfl rfl)
theorem dX0_lay_3 : decode cX0_lay 3 = .ok (.lload_n 1, 1) := dk_31 (dk_at dksX0_lay_0 3 rfl rfl)
theorem dX0_lay_4 : decode cX0_lay 4 = .ok (.invokevirtual 15, 3) := dk_182 0 15 (dk_at dksX0_lay_0 4 rfl rfl)
theorem dX0_lay_7 : decode cX0_lay 7 = .ok (.i2l, 1) := dk_133 (dk_at dksX0_lay_0 7 rfl rfl)
theorem dX0_lay_8 : decode cX0_lay 8 = .ok (.lastore, 1) := dk_80 (dk_at dksX0_lay_0 8 rfl rfl)
theorem dX0_lay_9 : decode cX0_lay 9 = .ok (.goto 7, 3) := dk_167 0 7 (dk_at dksX0_lay_0 9 rfl rfl)
theorem dX0_lay_12 : decode cX0_lay 12 = .ok (.astore 4, 2) := dk_58 4 (dk_at dksX0_lay_0 12 rfl rfl)
theorem dX0_lay_14 : decode cX0_lay 14 = .ok (.iconst 1, 1) := dk_4 (dk_at dksX0_lay_0 14 rfl rfl)
theorem dX0_lay_15 : decode cX0_lay 15 = .ok (.ireturn, 1) := dk_172 (dk_at dksX0_lay_0 15 rfl rfl)
theorem dX0_lay_16 : decode cX0_lay 16 = .ok (.iconst 0, 1) := dk_3 (dk_at dksX0_lay_0 16 rfl rfl)
theorem dX0_lay_17 : decode cX0_lay 17 = .ok (.ireturn, 1) := dk_172 (dk_at dksX0_lay_0 17 rfl rfl)
abbrev cX0_mix : ByteArray := method_5_code
def yX0_mix : MethodName := ⟨RX0, "mix", "(LSlidingtray;II[J)I"⟩
def dkwX0_mix_0 : List UInt8 := [45, 3, 42, 27, 28, 182, 0, 19, 133, 80, 167, 0, 7, 58, 4, 4, 172, 3, 172]
abbrev dktX0_mix_0 : List UInt8 := dkwX0_mix_0 ++ []
theorem dksX0_mix_0 : cX0_mix.data.toList.drop 0 = dktX0_mix_0 := by decide +kernel
theorem dX0_mix_0 : decode cX0_mix 0 = .ok (.aload_n 3, 1) := dk_45 (dk_at dksX0_mix_0 0 rfl rfl)
theorem dX0_mix_1 : decode cX0_mix 1 = .ok (.iconst 0, 1) := dk_3 (dk_at dksX0_mix_0 1 rfl rfl)
theorem dX0_mix_2 : decode cX0_mix 2 = .ok (.aload_n 0, 1) := dk_42 (dk_at dksX0_mix_0 2 rfl rfl)
theorem dX0_mix_3 : decode cX0_mix 3 = .ok (.iload_n 1, 1) := dk_27 (dk_at dksX0_mix_0 3 rfl rfl)
theorem dX0_mix_4 : decode cX0_mix 4 = .ok (.iload_n 2, 1) := dk_28 (dk_at dksX0_mix_0 4 rfl rfl)
theorem dX0_mix_5 : decode cX0_mix 5 = .ok (.invokevirtual 19, 3) := dk_182 0 19 (dk_at dksX0_mix_0 5 rfl rfl)
theorem dX0_mix_8 : decode cX0_mix 8 = .ok (.i2l, 1) := dk_133 (dk_at dksX0_mix_0 8 rfl rfl)
theorem dX0_mix_9 : decode cX0_mix 9 = .ok (.lastore, 1) := dk_80 (dk_at dksX0_mix_0 9 rfl rfl)
theorem dX0_mix_10 : decode cX0_mix 10 = .ok (.goto 7, 3) := dk_167 0 7 (dk_at dksX0_mix_0 10 rfl rfl)
theorem dX0_mix_13 : decode cX0_mix 13 = .ok (.astore 4, 2) := dk_58 4 (dk_at dksX0_mix_0 13 rfl rfl)
theorem dX0_mix_15 : decode cX0_mix 15 = .ok (.iconst 1, 1) := dk_4 (dk_at dksX0_mix_0 15 rfl rfl)
theorem dX0_mix_16 : decode cX0_mix 16 = .ok (.ireturn, 1) := dk_172 (dk_at dksX0_mix_0 16 rfl rfl)
theorem dX0_mix_17 : decode cX0_mix 17 = .ok (.iconst 0, 1) := dk_3 (dk_at dksX0_mix_0 17 rfl rfl)
theorem dX0_mix_18 : decode cX0_mix 18 = .ok (.ireturn, 1) := dk_172 (dk_at dksX0_mix_0 18 rfl rfl)
abbrev cX0_setFree : ByteArray := method_6_code
def yX0_setFree : MethodName := ⟨RX0, "setFree", "(LSlidingtray;IZ[J)I"⟩
def dkwX0_setFree_1 : List UInt8 := [3, 172]
abbrev dktX0_setFree_1 : List UInt8 := dkwX0_setFree_1 ++ []
def dkwX0_setFree_0 : List UInt8 := [45, 3, 42, 27, 28, 182, 0, 23, 153, 0, 7, 10, 167, 0, 4, 9, 80, 167, 0, 7, 58, 4, 4, 172]
abbrev dktX0_setFree_0 : List UInt8 := dkwX0_setFree_0 ++ dktX0_setFree_1
theorem dksX0_setFree_0 : cX0_setFree.data.toList.drop 0 = dktX0_setFree_0 := by decide +kernel
theorem dksX0_setFree_1 : cX0_setFree.data.toList.drop 24 = dktX0_setFree_1 := dk_seg dksX0_setFree_0 24 rfl rfl
theorem dX0_setFree_0 : decode cX0_setFree 0 = .ok (.aload_n 3, 1) := dk_45 (dk_at dksX0_setFree_0 0 rfl rfl)
theorem dX0_setFree_1 : decode cX0_setFree 1 = .ok (.iconst 0, 1) := dk_3 (dk_at dksX0_setFree_0 1 rfl rfl)
theorem dX0_setFree_2 : decode cX0_setFree 2 = .ok (.aload_n 0, 1) := dk_42 (dk_at dksX0_setFree_0 2 rfl rfl)
theorem dX0_setFree_3 : decode cX0_setFree 3 = .ok (.iload_n 1, 1) := dk_27 (dk_at dksX0_setFree_0 3 rfl rfl)
theorem dX0_setFree_4 : decode cX0_setFree 4 = .ok (.iload_n 2, 1) := dk_28 (dk_at dksX0_setFree_0 4 rfl rfl)
theorem dX0_setFree_5 : decode cX0_setFree 5 = .ok (.invokevirtual 23, 3) := dk_182 0 23 (dk_at dksX0_setFree_0 5 rfl rfl)
theorem dX0_setFree_8 : decode cX0_setFree 8 = .ok (.ifCond .eq 7, 3) := dk_153 0 7 (dk_at dksX0_setFree_0 8 rfl rfl)
theorem dX0_setFree_11 : decode cX0_setFree 11 = .ok (.lconst 1, 1) := dk_10 (dk_at dksX0_setFree_0 11 rfl rfl)
theorem dX0_setFree_12 : decode cX0_setFree 12 = .ok (.goto 4, 3) := dk_167 0 4 (dk_at dksX0_setFree_0 12 rfl rfl)
theorem dX0_setFree_15 : decode cX0_setFree 15 = .ok (.lconst 0, 1) := dk_9 (dk_at dksX0_setFree_0 15 rfl rfl)
theorem dX0_setFree_16 : decode cX0_setFree 16 = .ok (.lastore, 1) := dk_80 (dk_at dksX0_setFree_0 16 rfl rfl)
theorem dX0_setFree_17 : decode cX0_setFree 17 = .ok (.goto 7, 3) := dk_167 0 7 (dk_at dksX0_setFree_0 17 rfl rfl)
theorem dX0_setFree_20 : decode cX0_setFree 20 = .ok (.astore 4, 2) := dk_58 4 (dk_at dksX0_setFree_0 20 rfl rfl)
theorem dX0_setFree_22 : decode cX0_setFree 22 = .ok (.iconst 1, 1) := dk_4 (dk_at dksX0_setFree_0 22 rfl rfl)
theorem dX0_setFree_23 : decode cX0_setFree 23 = .ok (.ireturn, 1) := dk_172 (dk_at dksX0_setFree_0 23 rfl rfl)
theorem dX0_setFree_24 : decode cX0_setFree 24 = .ok (.iconst 0, 1) := dk_3 (dk_at dksX0_setFree_1 0 rfl rfl)
theorem dX0_setFree_25 : decode cX0_setFree 25 = .ok (.ireturn, 1) := dk_172 (dk_at dksX0_setFree_1 1 rfl rfl)
abbrev cX0_setWeight : ByteArray := method_7_code
def yX0_setWeight : MethodName := ⟨RX0, "setWeight", "(LSlidingtray;II[J)I"⟩
def dkwX0_setWeight_0 : List UInt8 := [45, 3, 42, 27, 28, 182, 0, 29, 133, 80, 167, 0, 11, 58, 4, 4, 172, 58, 4, 5, 172, 3, 172]
abbrev dktX0_setWeight_0 : List UInt8 := dkwX0_setWeight_0 ++ []
theorem dksX0_setWeight_0 : cX0_setWeight.data.toList.drop 0 = dktX0_setWeight_0 := by decide +kernel
theorem dX0_setWeight_0 : decode cX0_setWeight 0 = .ok (.aload_n 3, 1) := dk_45 (dk_at dksX0_setWeight_0 0 rfl rfl)
theorem dX0_setWeight_1 : decode cX0_setWeight 1 = .ok (.iconst 0, 1) := dk_3 (dk_at dksX0_setWeight_0 1 rfl rfl)
theorem dX0_setWeight_2 : decode cX0_setWeight 2 = .ok (.aload_n 0, 1) := dk_42 (dk_at dksX0_setWeight_0 2 rfl rfl)
theorem dX0_setWeight_3 : decode cX0_setWeight 3 = .ok (.iload_n 1, 1) := dk_27 (dk_at dksX0_setWeight_0 3 rfl rfl)
theorem dX0_setWeight_4 : decode cX0_setWeight 4 = .ok (.iload_n 2, 1) := dk_28 (dk_at dksX0_setWeight_0 4 rfl rfl)
theorem dX0_setWeight_5 : decode cX0_setWeight 5 = .ok (.invokevirtual 29, 3) := dk_182 0 29 (dk_at dksX0_setWeight_0 5 rfl rfl)
theorem dX0_setWeight_8 : decode cX0_setWeight 8 = .ok (.i2l, 1) := dk_133 (dk_at dksX0_setWeight_0 8 rfl rfl)
theorem dX0_setWeight_9 : decode cX0_setWeight 9 = .ok (.lastore, 1) := dk_80 (dk_at dksX0_setWeight_0 9 rfl rfl)
theorem dX0_setWeight_10 : decode cX0_setWeight 10 = .ok (.goto 11, 3) := dk_167 0 11 (dk_at dksX0_setWeight_0 10 rfl rfl)
theorem dX0_setWeight_13 : decode cX0_setWeight 13 = .ok (.astore 4, 2) := dk_58 4 (dk_at dksX0_setWeight_0 13 rfl rfl)
theorem dX0_setWeight_15 : decode cX0_setWeight 15 = .ok (.iconst 1, 1) := dk_4 (dk_at dksX0_setWeight_0 15 rfl rfl)
theorem dX0_setWeight_16 : decode cX0_setWeight 16 = .ok (.ireturn, 1) := dk_172 (dk_at dksX0_setWeight_0 16 rfl rfl)
theorem dX0_setWeight_17 : decode cX0_setWeight 17 = .ok (.astore 4, 2) := dk_58 4 (dk_at dksX0_setWeight_0 17 rfl rfl)
theorem dX0_setWeight_19 : decode cX0_setWeight 19 = .ok (.iconst 2, 1) := dk_5 (dk_at dksX0_setWeight_0 19 rfl rfl)
theorem dX0_setWeight_20 : decode cX0_setWeight 20 = .ok (.ireturn, 1) := dk_172 (dk_at dksX0_setWeight_0 20 rfl rfl)
theorem dX0_setWeight_21 : decode cX0_setWeight 21 = .ok (.iconst 0, 1) := dk_3 (dk_at dksX0_setWeight_0 21 rfl rfl)
theorem dX0_setWeight_22 : decode cX0_setWeight 22 = .ok (.ireturn, 1) := dk_172 (dk_at dksX0_setWeight_0 22 rfl rfl)
abbrev cX0_setLimit : ByteArray := method_8_code
def yX0_setLimit : MethodName := ⟨RX0, "setLimit", "(LSlidingtray;I[J)I"⟩
def dkwX0_setLimit_0 : List UInt8 := [44, 3, 42, 27, 182, 0, 32, 133, 80, 167, 0, 6, 78, 4, 172, 3, 172]
abbrev dktX0_setLimit_0 : List UInt8 := dkwX0_setLimit_0 ++ []
theorem dksX0_setLimit_0 : cX0_setLimit.data.toList.drop 0 = dktX0_setLimit_0 := by decide +kernel
theorem dX0_setLimit_0 : decode cX0_setLimit 0 = .ok (.aload_n 2, 1) := dk_44 (dk_at dksX0_setLimit_0 0 rfl rfl)
theorem dX0_setLimit_1 : decode cX0_setLimit 1 = .ok (.iconst 0, 1) := dk_3 (dk_at dksX0_setLimit_0 1 rfl rfl)
theorem dX0_setLimit_2 : decode cX0_setLimit 2 = .ok (.aload_n 0, 1) := dk_42 (dk_at dksX0_setLimit_0 2 rfl rfl)
theorem dX0_setLimit_3 : decode cX0_setLimit 3 = .ok (.iload_n 1, 1) := dk_27 (dk_at dksX0_setLimit_0 3 rfl rfl)
theorem dX0_setLimit_4 : decode cX0_setLimit 4 = .ok (.invokevirtual 32, 3) := dk_182 0 32 (dk_at dksX0_setLimit_0 4 rfl rfl)
theorem dX0_setLimit_7 : decode cX0_setLimit 7 = .ok (.i2l, 1) := dk_133 (dk_at dksX0_setLimit_0 7 rfl rfl)
theorem dX0_setLimit_8 : decode cX0_setLimit 8 = .ok (.lastore, 1) := dk_80 (dk_at dksX0_setLimit_0 8 rfl rfl)
theorem dX0_setLimit_9 : decode cX0_setLimit 9 = .ok (.goto 6, 3) := dk_167 0 6 (dk_at dksX0_setLimit_0 9 rfl rfl)
theorem dX0_setLimit_12 : decode cX0_setLimit 12 = .ok (.astore_n 3, 1) := dk_78 (dk_at dksX0_setLimit_0 12 rfl rfl)
theorem dX0_setLimit_13 : decode cX0_setLimit 13 = .ok (.iconst 1, 1) := dk_4 (dk_at dksX0_setLimit_0 13 rfl rfl)
theorem dX0_setLimit_14 : decode cX0_setLimit 14 = .ok (.ireturn, 1) := dk_172 (dk_at dksX0_setLimit_0 14 rfl rfl)
theorem dX0_setLimit_15 : decode cX0_setLimit 15 = .ok (.iconst 0, 1) := dk_3 (dk_at dksX0_setLimit_0 15 rfl rfl)
theorem dX0_setLimit_16 : decode cX0_setLimit 16 = .ok (.ireturn, 1) := dk_172 (dk_at dksX0_setLimit_0 16 rfl rfl)
abbrev cX0_move : ByteArray := method_9_code
def yX0_move : MethodName := ⟨RX0, "move", "(LSlidingtray;II[J)I"⟩
def dkwX0_move_0 : List UInt8 := [45, 3, 42, 27, 28, 182, 0, 36, 133, 80, 167, 0, 11, 58, 4, 4, 172, 58, 4, 5, 172, 3, 172]
abbrev dktX0_move_0 : List UInt8 := dkwX0_move_0 ++ []
theorem dksX0_move_0 : cX0_move.data.toList.drop 0 = dktX0_move_0 := by decide +kernel
theorem dX0_move_0 : decode cX0_move 0 = .ok (.aload_n 3, 1) := dk_45 (dk_at dksX0_move_0 0 rfl rfl)
theorem dX0_move_1 : decode cX0_move 1 = .ok (.iconst 0, 1) := dk_3 (dk_at dksX0_move_0 1 rfl rfl)
theorem dX0_move_2 : decode cX0_move 2 = .ok (.aload_n 0, 1) := dk_42 (dk_at dksX0_move_0 2 rfl rfl)
theorem dX0_move_3 : decode cX0_move 3 = .ok (.iload_n 1, 1) := dk_27 (dk_at dksX0_move_0 3 rfl rfl)
theorem dX0_move_4 : decode cX0_move 4 = .ok (.iload_n 2, 1) := dk_28 (dk_at dksX0_move_0 4 rfl rfl)
theorem dX0_move_5 : decode cX0_move 5 = .ok (.invokevirtual 36, 3) := dk_182 0 36 (dk_at dksX0_move_0 5 rfl rfl)
theorem dX0_move_8 : decode cX0_move 8 = .ok (.i2l, 1) := dk_133 (dk_at dksX0_move_0 8 rfl rfl)
theorem dX0_move_9 : decode cX0_move 9 = .ok (.lastore, 1) := dk_80 (dk_at dksX0_move_0 9 rfl rfl)
theorem dX0_move_10 : decode cX0_move 10 = .ok (.goto 11, 3) := dk_167 0 11 (dk_at dksX0_move_0 10 rfl rfl)
theorem dX0_move_13 : decode cX0_move 13 = .ok (.astore 4, 2) := dk_58 4 (dk_at dksX0_move_0 13 rfl rfl)
theorem dX0_move_15 : decode cX0_move 15 = .ok (.iconst 1, 1) := dk_4 (dk_at dksX0_move_0 15 rfl rfl)
theorem dX0_move_16 : decode cX0_move 16 = .ok (.ireturn, 1) := dk_172 (dk_at dksX0_move_0 16 rfl rfl)
theorem dX0_move_17 : decode cX0_move 17 = .ok (.astore 4, 2) := dk_58 4 (dk_at dksX0_move_0 17 rfl rfl)
theorem dX0_move_19 : decode cX0_move 19 = .ok (.iconst 2, 1) := dk_5 (dk_at dksX0_move_0 19 rfl rfl)
theorem dX0_move_20 : decode cX0_move 20 = .ok (.ireturn, 1) := dk_172 (dk_at dksX0_move_0 20 rfl rfl)
theorem dX0_move_21 : decode cX0_move 21 = .ok (.iconst 0, 1) := dk_3 (dk_at dksX0_move_0 21 rfl rfl)
theorem dX0_move_22 : decode cX0_move 22 = .ok (.ireturn, 1) := dk_172 (dk_at dksX0_move_0 22 rfl rfl)
abbrev cX0_undo : ByteArray := method_10_code
def yX0_undo : MethodName := ⟨RX0, "undo", "(LSlidingtray;I[J)I"⟩
def dkwX0_undo_0 : List UInt8 := [44, 3, 42, 27, 182, 0, 41, 133, 80, 167, 0, 6, 78, 4, 172, 3, 172]
abbrev dktX0_undo_0 : List UInt8 := dkwX0_undo_0 ++ []
theorem dksX0_undo_0 : cX0_undo.data.toList.drop 0 = dktX0_undo_0 := by decide +kernel
theorem dX0_undo_0 : decode cX0_undo 0 = .ok (.aload_n 2, 1) := dk_44 (dk_at dksX0_undo_0 0 rfl rfl)
theorem dX0_undo_1 : decode cX0_undo 1 = .ok (.iconst 0, 1) := dk_3 (dk_at dksX0_undo_0 1 rfl rfl)
theorem dX0_undo_2 : decode cX0_undo 2 = .ok (.aload_n 0, 1) := dk_42 (dk_at dksX0_undo_0 2 rfl rfl)
theorem dX0_undo_3 : decode cX0_undo 3 = .ok (.iload_n 1, 1) := dk_27 (dk_at dksX0_undo_0 3 rfl rfl)
theorem dX0_undo_4 : decode cX0_undo 4 = .ok (.invokevirtual 41, 3) := dk_182 0 41 (dk_at dksX0_undo_0 4 rfl rfl)
theorem dX0_undo_7 : decode cX0_undo 7 = .ok (.i2l, 1) := dk_133 (dk_at dksX0_undo_0 7 rfl rfl)
theorem dX0_undo_8 : decode cX0_undo 8 = .ok (.lastore, 1) := dk_80 (dk_at dksX0_undo_0 8 rfl rfl)
theorem dX0_undo_9 : decode cX0_undo 9 = .ok (.goto 6, 3) := dk_167 0 6 (dk_at dksX0_undo_0 9 rfl rfl)
theorem dX0_undo_12 : decode cX0_undo 12 = .ok (.astore_n 3, 1) := dk_78 (dk_at dksX0_undo_0 12 rfl rfl)
theorem dX0_undo_13 : decode cX0_undo 13 = .ok (.iconst 1, 1) := dk_4 (dk_at dksX0_undo_0 13 rfl rfl)
theorem dX0_undo_14 : decode cX0_undo 14 = .ok (.ireturn, 1) := dk_172 (dk_at dksX0_undo_0 14 rfl rfl)
theorem dX0_undo_15 : decode cX0_undo 15 = .ok (.iconst 0, 1) := dk_3 (dk_at dksX0_undo_0 15 rfl rfl)
theorem dX0_undo_16 : decode cX0_undo 16 = .ok (.ireturn, 1) := dk_172 (dk_at dksX0_undo_0 16 rfl rfl)
abbrev cX0_setMacro : ByteArray := method_11_code
def yX0_setMacro : MethodName := ⟨RX0, "setMacro", "(LSlidingtray;IJ[J)I"⟩
def dkwX0_setMacro_0 : List UInt8 := [25, 4, 3, 42, 27, 32, 182, 0, 44, 133, 80, 167, 0, 11, 58, 5, 4, 172, 58, 5, 5, 172, 3, 172]
abbrev dktX0_setMacro_0 : List UInt8 := dkwX0_setMacro_0 ++ []
theorem dksX0_setMacro_0 : cX0_setMacro.data.toList.drop 0 = dktX0_setMacro_0 := by decide +kernel
theorem dX0_setMacro_0 : decode cX0_setMacro 0 = .ok (.aload 4, 2) := dk_25 4 (dk_at dksX0_setMacro_0 0 rfl rfl)
theorem dX0_setMacro_2 : decode cX0_setMacro 2 = .ok (.iconst 0, 1) := dk_3 (dk_at dksX0_setMacro_0 2 rfl rfl)
theorem dX0_setMacro_3 : decode cX0_setMacro 3 = .ok (.aload_n 0, 1) := dk_42 (dk_at dksX0_setMacro_0 3 rfl rfl)
theorem dX0_setMacro_4 : decode cX0_setMacro 4 = .ok (.iload_n 1, 1) := dk_27 (dk_at dksX0_setMacro_0 4 rfl rfl)
theorem dX0_setMacro_5 : decode cX0_setMacro 5 = .ok (.lload_n 2, 1) := dk_32 (dk_at dksX0_setMacro_0 5 rfl rfl)
theorem dX0_setMacro_6 : decode cX0_setMacro 6 = .ok (.invokevirtual 44, 3) := dk_182 0 44 (dk_at dksX0_setMacro_0 6 rfl rfl)
theorem dX0_setMacro_9 : decode cX0_setMacro 9 = .ok (.i2l, 1) := dk_133 (dk_at dksX0_setMacro_0 9 rfl rfl)
theorem dX0_setMacro_10 : decode cX0_setMacro 10 = .ok (.lastore, 1) := dk_80 (dk_at dksX0_setMacro_0 10 rfl rfl)
theorem dX0_setMacro_11 : decode cX0_setMacro 11 = .ok (.goto 11, 3) := dk_167 0 11 (dk_at dksX0_setMacro_0 11 rfl rfl)
theorem dX0_setMacro_14 : decode cX0_setMacro 14 = .ok (.astore 5, 2) := dk_58 5 (dk_at dksX0_setMacro_0 14 rfl rfl)
theorem dX0_setMacro_16 : decode cX0_setMacro 16 = .ok (.iconst 1, 1) := dk_4 (dk_at dksX0_setMacro_0 16 rfl rfl)
theorem dX0_setMacro_17 : decode cX0_setMacro 17 = .ok (.ireturn, 1) := dk_172 (dk_at dksX0_setMacro_0 17 rfl rfl)
theorem dX0_setMacro_18 : decode cX0_setMacro 18 = .ok (.astore 5, 2) := dk_58 5 (dk_at dksX0_setMacro_0 18 rfl rfl)
theorem dX0_setMacro_20 : decode cX0_setMacro 20 = .ok (.iconst 2, 1) := dk_5 (dk_at dksX0_setMacro_0 20 rfl rfl)
theorem dX0_setMacro_21 : decode cX0_setMacro 21 = .ok (.ireturn, 1) := dk_172 (dk_at dksX0_setMacro_0 21 rfl rfl)
theorem dX0_setMacro_22 : decode cX0_setMacro 22 = .ok (.iconst 0, 1) := dk_3 (dk_at dksX0_setMacro_0 22 rfl rfl)
theorem dX0_setMacro_23 : decode cX0_setMacro 23 = .ok (.ireturn, 1) := dk_172 (dk_at dksX0_setMacro_0 23 rfl rfl)
abbrev cX0_play : ByteArray := method_12_code
def yX0_play : MethodName := ⟨RX0, "play", "(LSlidingtray;II[J)I"⟩
def dkwX0_play_1 : List UInt8 := [172, 3, 172]
abbrev dktX0_play_1 : List UInt8 := dkwX0_play_1 ++ []
def dkwX0_play_0 : List UInt8 := [45, 3, 42, 27, 28, 182, 0, 48, 133, 80, 167, 0, 15, 58, 4, 4, 172, 58, 4, 5, 172, 58, 4, 6]
abbrev dktX0_play_0 : List UInt8 := dkwX0_play_0 ++ dktX0_play_1
theorem dksX0_play_0 : cX0_play.data.toList.drop 0 = dktX0_play_0 := by decide +kernel
theorem dksX0_play_1 : cX0_play.data.toList.drop 24 = dktX0_play_1 := dk_seg dksX0_play_0 24 rfl rfl
theorem dX0_play_0 : decode cX0_play 0 = .ok (.aload_n 3, 1) := dk_45 (dk_at dksX0_play_0 0 rfl rfl)
theorem dX0_play_1 : decode cX0_play 1 = .ok (.iconst 0, 1) := dk_3 (dk_at dksX0_play_0 1 rfl rfl)
theorem dX0_play_2 : decode cX0_play 2 = .ok (.aload_n 0, 1) := dk_42 (dk_at dksX0_play_0 2 rfl rfl)
theorem dX0_play_3 : decode cX0_play 3 = .ok (.iload_n 1, 1) := dk_27 (dk_at dksX0_play_0 3 rfl rfl)
theorem dX0_play_4 : decode cX0_play 4 = .ok (.iload_n 2, 1) := dk_28 (dk_at dksX0_play_0 4 rfl rfl)
theorem dX0_play_5 : decode cX0_play 5 = .ok (.invokevirtual 48, 3) := dk_182 0 48 (dk_at dksX0_play_0 5 rfl rfl)
theorem dX0_play_8 : decode cX0_play 8 = .ok (.i2l, 1) := dk_133 (dk_at dksX0_play_0 8 rfl rfl)
theorem dX0_play_9 : decode cX0_play 9 = .ok (.lastore, 1) := dk_80 (dk_at dksX0_play_0 9 rfl rfl)
theorem dX0_play_10 : decode cX0_play 10 = .ok (.goto 15, 3) := dk_167 0 15 (dk_at dksX0_play_0 10 rfl rfl)
theorem dX0_play_13 : decode cX0_play 13 = .ok (.astore 4, 2) := dk_58 4 (dk_at dksX0_play_0 13 rfl rfl)
theorem dX0_play_15 : decode cX0_play 15 = .ok (.iconst 1, 1) := dk_4 (dk_at dksX0_play_0 15 rfl rfl)
theorem dX0_play_16 : decode cX0_play 16 = .ok (.ireturn, 1) := dk_172 (dk_at dksX0_play_0 16 rfl rfl)
theorem dX0_play_17 : decode cX0_play 17 = .ok (.astore 4, 2) := dk_58 4 (dk_at dksX0_play_0 17 rfl rfl)
theorem dX0_play_19 : decode cX0_play 19 = .ok (.iconst 2, 1) := dk_5 (dk_at dksX0_play_0 19 rfl rfl)
theorem dX0_play_20 : decode cX0_play 20 = .ok (.ireturn, 1) := dk_172 (dk_at dksX0_play_0 20 rfl rfl)
theorem dX0_play_21 : decode cX0_play 21 = .ok (.astore 4, 2) := dk_58 4 (dk_at dksX0_play_0 21 rfl rfl)
theorem dX0_play_23 : decode cX0_play 23 = .ok (.iconst 3, 1) := dk_6 (dk_at dksX0_play_0 23 rfl rfl)
theorem dX0_play_24 : decode cX0_play 24 = .ok (.ireturn, 1) := dk_172 (dk_at dksX0_play_1 0 rfl rfl)
theorem dX0_play_25 : decode cX0_play 25 = .ok (.iconst 0, 1) := dk_3 (dk_at dksX0_play_1 1 rfl rfl)
theorem dX0_play_26 : decode cX0_play 26 = .ok (.ireturn, 1) := dk_172 (dk_at dksX0_play_1 2 rfl rfl)
abbrev cX0_keep : ByteArray := method_13_code
def yX0_keep : MethodName := ⟨RX0, "keep", "(LSlidingtray;I[J)I"⟩
def dkwX0_keep_0 : List UInt8 := [44, 3, 42, 27, 182, 0, 53, 80, 167, 0, 6, 78, 4, 172, 3, 172]
abbrev dktX0_keep_0 : List UInt8 := dkwX0_keep_0 ++ []
theorem dksX0_keep_0 : cX0_keep.data.toList.drop 0 = dktX0_keep_0 := by decide +kernel
theorem dX0_keep_0 : decode cX0_keep 0 = .ok (.aload_n 2, 1) := dk_44 (dk_at dksX0_keep_0 0 rfl rfl)
theorem dX0_keep_1 : decode cX0_keep 1 = .ok (.iconst 0, 1) := dk_3 (dk_at dksX0_keep_0 1 rfl rfl)
theorem dX0_keep_2 : decode cX0_keep 2 = .ok (.aload_n 0, 1) := dk_42 (dk_at dksX0_keep_0 2 rfl rfl)
theorem dX0_keep_3 : decode cX0_keep 3 = .ok (.iload_n 1, 1) := dk_27 (dk_at dksX0_keep_0 3 rfl rfl)
theorem dX0_keep_4 : decode cX0_keep 4 = .ok (.invokevirtual 53, 3) := dk_182 0 53 (dk_at dksX0_keep_0 4 rfl rfl)
theorem dX0_keep_7 : decode cX0_keep 7 = .ok (.lastore, 1) := dk_80 (dk_at dksX0_keep_0 7 rfl rfl)
theorem dX0_keep_8 : decode cX0_keep 8 = .ok (.goto 6, 3) := dk_167 0 6 (dk_at dksX0_keep_0 8 rfl rfl)
theorem dX0_keep_11 : decode cX0_keep 11 = .ok (.astore_n 3, 1) := dk_78 (dk_at dksX0_keep_0 11 rfl rfl)
theorem dX0_keep_12 : decode cX0_keep 12 = .ok (.iconst 1, 1) := dk_4 (dk_at dksX0_keep_0 12 rfl rfl)
theorem dX0_keep_13 : decode cX0_keep 13 = .ok (.ireturn, 1) := dk_172 (dk_at dksX0_keep_0 13 rfl rfl)
theorem dX0_keep_14 : decode cX0_keep 14 = .ok (.iconst 0, 1) := dk_3 (dk_at dksX0_keep_0 14 rfl rfl)
theorem dX0_keep_15 : decode cX0_keep 15 = .ok (.ireturn, 1) := dk_172 (dk_at dksX0_keep_0 15 rfl rfl)
abbrev cX0_restore : ByteArray := method_14_code
def yX0_restore : MethodName := ⟨RX0, "restore", "(LSlidingtray;I[J)I"⟩
def dkwX0_restore_0 : List UInt8 := [44, 3, 42, 27, 182, 0, 57, 133, 80, 167, 0, 9, 78, 4, 172, 78, 5, 172, 3, 172]
abbrev dktX0_restore_0 : List UInt8 := dkwX0_restore_0 ++ []
theorem dksX0_restore_0 : cX0_restore.data.toList.drop 0 = dktX0_restore_0 := by decide +kernel
theorem dX0_restore_0 : decode cX0_restore 0 = .ok (.aload_n 2, 1) := dk_44 (dk_at dksX0_restore_0 0 rfl rfl)
theorem dX0_restore_1 : decode cX0_restore 1 = .ok (.iconst 0, 1) := dk_3 (dk_at dksX0_restore_0 1 rfl rfl)
theorem dX0_restore_2 : decode cX0_restore 2 = .ok (.aload_n 0, 1) := dk_42 (dk_at dksX0_restore_0 2 rfl rfl)
theorem dX0_restore_3 : decode cX0_restore 3 = .ok (.iload_n 1, 1) := dk_27 (dk_at dksX0_restore_0 3 rfl rfl)
theorem dX0_restore_4 : decode cX0_restore 4 = .ok (.invokevirtual 57, 3) := dk_182 0 57 (dk_at dksX0_restore_0 4 rfl rfl)
theorem dX0_restore_7 : decode cX0_restore 7 = .ok (.i2l, 1) := dk_133 (dk_at dksX0_restore_0 7 rfl rfl)
theorem dX0_restore_8 : decode cX0_restore 8 = .ok (.lastore, 1) := dk_80 (dk_at dksX0_restore_0 8 rfl rfl)
theorem dX0_restore_9 : decode cX0_restore 9 = .ok (.goto 9, 3) := dk_167 0 9 (dk_at dksX0_restore_0 9 rfl rfl)
theorem dX0_restore_12 : decode cX0_restore 12 = .ok (.astore_n 3, 1) := dk_78 (dk_at dksX0_restore_0 12 rfl rfl)
theorem dX0_restore_13 : decode cX0_restore 13 = .ok (.iconst 1, 1) := dk_4 (dk_at dksX0_restore_0 13 rfl rfl)
theorem dX0_restore_14 : decode cX0_restore 14 = .ok (.ireturn, 1) := dk_172 (dk_at dksX0_restore_0 14 rfl rfl)
theorem dX0_restore_15 : decode cX0_restore 15 = .ok (.astore_n 3, 1) := dk_78 (dk_at dksX0_restore_0 15 rfl rfl)
theorem dX0_restore_16 : decode cX0_restore 16 = .ok (.iconst 2, 1) := dk_5 (dk_at dksX0_restore_0 16 rfl rfl)
theorem dX0_restore_17 : decode cX0_restore 17 = .ok (.ireturn, 1) := dk_172 (dk_at dksX0_restore_0 17 rfl rfl)
theorem dX0_restore_18 : decode cX0_restore 18 = .ok (.iconst 0, 1) := dk_3 (dk_at dksX0_restore_0 18 rfl rfl)
theorem dX0_restore_19 : decode cX0_restore 19 = .ok (.ireturn, 1) := dk_172 (dk_at dksX0_restore_0 19 rfl rfl)
abbrev cX0_tileAt : ByteArray := method_15_code
def yX0_tileAt : MethodName := ⟨RX0, "tileAt", "(LSlidingtray;I[J)I"⟩
def dkwX0_tileAt_0 : List UInt8 := [44, 3, 42, 27, 182, 0, 60, 133, 80, 167, 0, 6, 78, 4, 172, 3, 172]
abbrev dktX0_tileAt_0 : List UInt8 := dkwX0_tileAt_0 ++ []
theorem dksX0_tileAt_0 : cX0_tileAt.data.toList.drop 0 = dktX0_tileAt_0 := by decide +kernel
theorem dX0_tileAt_0 : decode cX0_tileAt 0 = .ok (.aload_n 2, 1) := dk_44 (dk_at dksX0_tileAt_0 0 rfl rfl)
theorem dX0_tileAt_1 : decode cX0_tileAt 1 = .ok (.iconst 0, 1) := dk_3 (dk_at dksX0_tileAt_0 1 rfl rfl)
theorem dX0_tileAt_2 : decode cX0_tileAt 2 = .ok (.aload_n 0, 1) := dk_42 (dk_at dksX0_tileAt_0 2 rfl rfl)
theorem dX0_tileAt_3 : decode cX0_tileAt 3 = .ok (.iload_n 1, 1) := dk_27 (dk_at dksX0_tileAt_0 3 rfl rfl)
theorem dX0_tileAt_4 : decode cX0_tileAt 4 = .ok (.invokevirtual 60, 3) := dk_182 0 60 (dk_at dksX0_tileAt_0 4 rfl rfl)
theorem dX0_tileAt_7 : decode cX0_tileAt 7 = .ok (.i2l, 1) := dk_133 (dk_at dksX0_tileAt_0 7 rfl rfl)
theorem dX0_tileAt_8 : decode cX0_tileAt 8 = .ok (.lastore, 1) := dk_80 (dk_at dksX0_tileAt_0 8 rfl rfl)
theorem dX0_tileAt_9 : decode cX0_tileAt 9 = .ok (.goto 6, 3) := dk_167 0 6 (dk_at dksX0_tileAt_0 9 rfl rfl)
theorem dX0_tileAt_12 : decode cX0_tileAt 12 = .ok (.astore_n 3, 1) := dk_78 (dk_at dksX0_tileAt_0 12 rfl rfl)
theorem dX0_tileAt_13 : decode cX0_tileAt 13 = .ok (.iconst 1, 1) := dk_4 (dk_at dksX0_tileAt_0 13 rfl rfl)
theorem dX0_tileAt_14 : decode cX0_tileAt 14 = .ok (.ireturn, 1) := dk_172 (dk_at dksX0_tileAt_0 14 rfl rfl)
theorem dX0_tileAt_15 : decode cX0_tileAt 15 = .ok (.iconst 0, 1) := dk_3 (dk_at dksX0_tileAt_0 15 rfl rfl)
theorem dX0_tileAt_16 : decode cX0_tileAt 16 = .ok (.ireturn, 1) := dk_172 (dk_at dksX0_tileAt_0 16 rfl rfl)
abbrev cX0_reaches : ByteArray := method_16_code
def yX0_reaches : MethodName := ⟨RX0, "reaches", "(LSlidingtray;[J)I"⟩
def dkwX0_reaches_0 : List UInt8 := [43, 3, 42, 182, 0, 63, 153, 0, 7, 10, 167, 0, 4, 9, 80, 167, 0, 6, 77, 4, 172, 3, 172]
abbrev dktX0_reaches_0 : List UInt8 := dkwX0_reaches_0 ++ []
theorem dksX0_reaches_0 : cX0_reaches.data.toList.drop 0 = dktX0_reaches_0 := by decide +kernel
theorem dX0_reaches_0 : decode cX0_reaches 0 = .ok (.aload_n 1, 1) := dk_43 (dk_at dksX0_reaches_0 0 rfl rfl)
theorem dX0_reaches_1 : decode cX0_reaches 1 = .ok (.iconst 0, 1) := dk_3 (dk_at dksX0_reaches_0 1 rfl rfl)
theorem dX0_reaches_2 : decode cX0_reaches 2 = .ok (.aload_n 0, 1) := dk_42 (dk_at dksX0_reaches_0 2 rfl rfl)
theorem dX0_reaches_3 : decode cX0_reaches 3 = .ok (.invokevirtual 63, 3) := dk_182 0 63 (dk_at dksX0_reaches_0 3 rfl rfl)
theorem dX0_reaches_6 : decode cX0_reaches 6 = .ok (.ifCond .eq 7, 3) := dk_153 0 7 (dk_at dksX0_reaches_0 6 rfl rfl)
theorem dX0_reaches_9 : decode cX0_reaches 9 = .ok (.lconst 1, 1) := dk_10 (dk_at dksX0_reaches_0 9 rfl rfl)
theorem dX0_reaches_10 : decode cX0_reaches 10 = .ok (.goto 4, 3) := dk_167 0 4 (dk_at dksX0_reaches_0 10 rfl rfl)
theorem dX0_reaches_13 : decode cX0_reaches 13 = .ok (.lconst 0, 1) := dk_9 (dk_at dksX0_reaches_0 13 rfl rfl)
theorem dX0_reaches_14 : decode cX0_reaches 14 = .ok (.lastore, 1) := dk_80 (dk_at dksX0_reaches_0 14 rfl rfl)
theorem dX0_reaches_15 : decode cX0_reaches 15 = .ok (.goto 6, 3) := dk_167 0 6 (dk_at dksX0_reaches_0 15 rfl rfl)
theorem dX0_reaches_18 : decode cX0_reaches 18 = .ok (.astore_n 2, 1) := dk_77 (dk_at dksX0_reaches_0 18 rfl rfl)
theorem dX0_reaches_19 : decode cX0_reaches 19 = .ok (.iconst 1, 1) := dk_4 (dk_at dksX0_reaches_0 19 rfl rfl)
theorem dX0_reaches_20 : decode cX0_reaches 20 = .ok (.ireturn, 1) := dk_172 (dk_at dksX0_reaches_0 20 rfl rfl)
theorem dX0_reaches_21 : decode cX0_reaches 21 = .ok (.iconst 0, 1) := dk_3 (dk_at dksX0_reaches_0 21 rfl rfl)
theorem dX0_reaches_22 : decode cX0_reaches 22 = .ok (.ireturn, 1) := dk_172 (dk_at dksX0_reaches_0 22 rfl rfl)
abbrev cX0_estimate : ByteArray := method_17_code
def yX0_estimate : MethodName := ⟨RX0, "estimate", "(LSlidingtray;I[J)I"⟩
def dkwX0_estimate_0 : List UInt8 := [44, 3, 42, 27, 182, 0, 67, 133, 80, 167, 0, 6, 78, 4, 172, 3, 172]
abbrev dktX0_estimate_0 : List UInt8 := dkwX0_estimate_0 ++ []
theorem dksX0_estimate_0 : cX0_estimate.data.toList.drop 0 = dktX0_estimate_0 := by decide +kernel
theorem dX0_estimate_0 : decode cX0_estimate 0 = .ok (.aload_n 2, 1) := dk_44 (dk_at dksX0_estimate_0 0 rfl rfl)
theorem dX0_estimate_1 : decode cX0_estimate 1 = .ok (.iconst 0, 1) := dk_3 (dk_at dksX0_estimate_0 1 rfl rfl)
theorem dX0_estimate_2 : decode cX0_estimate 2 = .ok (.aload_n 0, 1) := dk_42 (dk_at dksX0_estimate_0 2 rfl rfl)
theorem dX0_estimate_3 : decode cX0_estimate 3 = .ok (.iload_n 1, 1) := dk_27 (dk_at dksX0_estimate_0 3 rfl rfl)
theorem dX0_estimate_4 : decode cX0_estimate 4 = .ok (.invokevirtual 67, 3) := dk_182 0 67 (dk_at dksX0_estimate_0 4 rfl rfl)
theorem dX0_estimate_7 : decode cX0_estimate 7 = .ok (.i2l, 1) := dk_133 (dk_at dksX0_estimate_0 7 rfl rfl)
theorem dX0_estimate_8 : decode cX0_estimate 8 = .ok (.lastore, 1) := dk_80 (dk_at dksX0_estimate_0 8 rfl rfl)
theorem dX0_estimate_9 : decode cX0_estimate 9 = .ok (.goto 6, 3) := dk_167 0 6 (dk_at dksX0_estimate_0 9 rfl rfl)
theorem dX0_estimate_12 : decode cX0_estimate 12 = .ok (.astore_n 3, 1) := dk_78 (dk_at dksX0_estimate_0 12 rfl rfl)
theorem dX0_estimate_13 : decode cX0_estimate 13 = .ok (.iconst 1, 1) := dk_4 (dk_at dksX0_estimate_0 13 rfl rfl)
theorem dX0_estimate_14 : decode cX0_estimate 14 = .ok (.ireturn, 1) := dk_172 (dk_at dksX0_estimate_0 14 rfl rfl)
theorem dX0_estimate_15 : decode cX0_estimate 15 = .ok (.iconst 0, 1) := dk_3 (dk_at dksX0_estimate_0 15 rfl rfl)
theorem dX0_estimate_16 : decode cX0_estimate 16 = .ok (.ireturn, 1) := dk_172 (dk_at dksX0_estimate_0 16 rfl rfl)
abbrev cX0_solve : ByteArray := method_18_code
def yX0_solve : MethodName := ⟨RX0, "solve", "(LSlidingtray;I[J)I"⟩
def dkwX0_solve_0 : List UInt8 := [44, 3, 42, 27, 182, 0, 70, 133, 80, 167, 0, 9, 78, 4, 172, 78, 5, 172, 3, 172]
abbrev dktX0_solve_0 : List UInt8 := dkwX0_solve_0 ++ []
theorem dksX0_solve_0 : cX0_solve.data.toList.drop 0 = dktX0_solve_0 := by decide +kernel
theorem dX0_solve_0 : decode cX0_solve 0 = .ok (.aload_n 2, 1) := dk_44 (dk_at dksX0_solve_0 0 rfl rfl)
theorem dX0_solve_1 : decode cX0_solve 1 = .ok (.iconst 0, 1) := dk_3 (dk_at dksX0_solve_0 1 rfl rfl)
theorem dX0_solve_2 : decode cX0_solve 2 = .ok (.aload_n 0, 1) := dk_42 (dk_at dksX0_solve_0 2 rfl rfl)
theorem dX0_solve_3 : decode cX0_solve 3 = .ok (.iload_n 1, 1) := dk_27 (dk_at dksX0_solve_0 3 rfl rfl)
theorem dX0_solve_4 : decode cX0_solve 4 = .ok (.invokevirtual 70, 3) := dk_182 0 70 (dk_at dksX0_solve_0 4 rfl rfl)
theorem dX0_solve_7 : decode cX0_solve 7 = .ok (.i2l, 1) := dk_133 (dk_at dksX0_solve_0 7 rfl rfl)
theorem dX0_solve_8 : decode cX0_solve 8 = .ok (.lastore, 1) := dk_80 (dk_at dksX0_solve_0 8 rfl rfl)
theorem dX0_solve_9 : decode cX0_solve 9 = .ok (.goto 9, 3) := dk_167 0 9 (dk_at dksX0_solve_0 9 rfl rfl)
theorem dX0_solve_12 : decode cX0_solve 12 = .ok (.astore_n 3, 1) := dk_78 (dk_at dksX0_solve_0 12 rfl rfl)
theorem dX0_solve_13 : decode cX0_solve 13 = .ok (.iconst 1, 1) := dk_4 (dk_at dksX0_solve_0 13 rfl rfl)
theorem dX0_solve_14 : decode cX0_solve 14 = .ok (.ireturn, 1) := dk_172 (dk_at dksX0_solve_0 14 rfl rfl)
theorem dX0_solve_15 : decode cX0_solve 15 = .ok (.astore_n 3, 1) := dk_78 (dk_at dksX0_solve_0 15 rfl rfl)
theorem dX0_solve_16 : decode cX0_solve 16 = .ok (.iconst 2, 1) := dk_5 (dk_at dksX0_solve_0 16 rfl rfl)
theorem dX0_solve_17 : decode cX0_solve 17 = .ok (.ireturn, 1) := dk_172 (dk_at dksX0_solve_0 17 rfl rfl)
theorem dX0_solve_18 : decode cX0_solve 18 = .ok (.iconst 0, 1) := dk_3 (dk_at dksX0_solve_0 18 rfl rfl)
theorem dX0_solve_19 : decode cX0_solve 19 = .ok (.ireturn, 1) := dk_172 (dk_at dksX0_solve_0 19 rfl rfl)
abbrev cX0_deepen : ByteArray := method_19_code
def yX0_deepen : MethodName := ⟨RX0, "deepen", "(LSlidingtray;I[J)I"⟩
def dkwX0_deepen_0 : List UInt8 := [44, 3, 42, 27, 182, 0, 73, 133, 80, 167, 0, 9, 78, 4, 172, 78, 5, 172, 3, 172]
abbrev dktX0_deepen_0 : List UInt8 := dkwX0_deepen_0 ++ []
theorem dksX0_deepen_0 : cX0_deepen.data.toList.drop 0 = dktX0_deepen_0 := by decide +kernel
theorem dX0_deepen_0 : decode cX0_deepen 0 = .ok (.aload_n 2, 1) := dk_44 (dk_at dksX0_deepen_0 0 rfl rfl)
theorem dX0_deepen_1 : decode cX0_deepen 1 = .ok (.iconst 0, 1) := dk_3 (dk_at dksX0_deepen_0 1 rfl rfl)
theorem dX0_deepen_2 : decode cX0_deepen 2 = .ok (.aload_n 0, 1) := dk_42 (dk_at dksX0_deepen_0 2 rfl rfl)
theorem dX0_deepen_3 : decode cX0_deepen 3 = .ok (.iload_n 1, 1) := dk_27 (dk_at dksX0_deepen_0 3 rfl rfl)
theorem dX0_deepen_4 : decode cX0_deepen 4 = .ok (.invokevirtual 73, 3) := dk_182 0 73 (dk_at dksX0_deepen_0 4 rfl rfl)
theorem dX0_deepen_7 : decode cX0_deepen 7 = .ok (.i2l, 1) := dk_133 (dk_at dksX0_deepen_0 7 rfl rfl)
theorem dX0_deepen_8 : decode cX0_deepen 8 = .ok (.lastore, 1) := dk_80 (dk_at dksX0_deepen_0 8 rfl rfl)
theorem dX0_deepen_9 : decode cX0_deepen 9 = .ok (.goto 9, 3) := dk_167 0 9 (dk_at dksX0_deepen_0 9 rfl rfl)
theorem dX0_deepen_12 : decode cX0_deepen 12 = .ok (.astore_n 3, 1) := dk_78 (dk_at dksX0_deepen_0 12 rfl rfl)
theorem dX0_deepen_13 : decode cX0_deepen 13 = .ok (.iconst 1, 1) := dk_4 (dk_at dksX0_deepen_0 13 rfl rfl)
theorem dX0_deepen_14 : decode cX0_deepen 14 = .ok (.ireturn, 1) := dk_172 (dk_at dksX0_deepen_0 14 rfl rfl)
theorem dX0_deepen_15 : decode cX0_deepen 15 = .ok (.astore_n 3, 1) := dk_78 (dk_at dksX0_deepen_0 15 rfl rfl)
theorem dX0_deepen_16 : decode cX0_deepen 16 = .ok (.iconst 2, 1) := dk_5 (dk_at dksX0_deepen_0 16 rfl rfl)
theorem dX0_deepen_17 : decode cX0_deepen 17 = .ok (.ireturn, 1) := dk_172 (dk_at dksX0_deepen_0 17 rfl rfl)
theorem dX0_deepen_18 : decode cX0_deepen 18 = .ok (.iconst 0, 1) := dk_3 (dk_at dksX0_deepen_0 18 rfl rfl)
theorem dX0_deepen_19 : decode cX0_deepen 19 = .ok (.ireturn, 1) := dk_172 (dk_at dksX0_deepen_0 19 rfl rfl)
abbrev cX0_both : ByteArray := method_20_code
def yX0_both : MethodName := ⟨RX0, "both", "(LSlidingtray;[J)I"⟩
def dkwX0_both_0 : List UInt8 := [43, 3, 42, 182, 0, 76, 133, 80, 167, 0, 6, 77, 4, 172, 3, 172]
abbrev dktX0_both_0 : List UInt8 := dkwX0_both_0 ++ []
theorem dksX0_both_0 : cX0_both.data.toList.drop 0 = dktX0_both_0 := by decide +kernel
theorem dX0_both_0 : decode cX0_both 0 = .ok (.aload_n 1, 1) := dk_43 (dk_at dksX0_both_0 0 rfl rfl)
theorem dX0_both_1 : decode cX0_both 1 = .ok (.iconst 0, 1) := dk_3 (dk_at dksX0_both_0 1 rfl rfl)
theorem dX0_both_2 : decode cX0_both 2 = .ok (.aload_n 0, 1) := dk_42 (dk_at dksX0_both_0 2 rfl rfl)
theorem dX0_both_3 : decode cX0_both 3 = .ok (.invokevirtual 76, 3) := dk_182 0 76 (dk_at dksX0_both_0 3 rfl rfl)
theorem dX0_both_6 : decode cX0_both 6 = .ok (.i2l, 1) := dk_133 (dk_at dksX0_both_0 6 rfl rfl)
theorem dX0_both_7 : decode cX0_both 7 = .ok (.lastore, 1) := dk_80 (dk_at dksX0_both_0 7 rfl rfl)
theorem dX0_both_8 : decode cX0_both 8 = .ok (.goto 6, 3) := dk_167 0 6 (dk_at dksX0_both_0 8 rfl rfl)
theorem dX0_both_11 : decode cX0_both 11 = .ok (.astore_n 2, 1) := dk_77 (dk_at dksX0_both_0 11 rfl rfl)
theorem dX0_both_12 : decode cX0_both 12 = .ok (.iconst 1, 1) := dk_4 (dk_at dksX0_both_0 12 rfl rfl)
theorem dX0_both_13 : decode cX0_both 13 = .ok (.ireturn, 1) := dk_172 (dk_at dksX0_both_0 13 rfl rfl)
theorem dX0_both_14 : decode cX0_both 14 = .ok (.iconst 0, 1) := dk_3 (dk_at dksX0_both_0 14 rfl rfl)
theorem dX0_both_15 : decode cX0_both 15 = .ok (.ireturn, 1) := dk_172 (dk_at dksX0_both_0 15 rfl rfl)
abbrev cX0_searched : ByteArray := method_21_code
def yX0_searched : MethodName := ⟨RX0, "searched", "(LSlidingtray;I[J)I"⟩
def dkwX0_searched_0 : List UInt8 := [44, 3, 42, 27, 182, 0, 80, 133, 80, 167, 0, 6, 78, 4, 172, 3, 172]
abbrev dktX0_searched_0 : List UInt8 := dkwX0_searched_0 ++ []
theorem dksX0_searched_0 : cX0_searched.data.toList.drop 0 = dktX0_searched_0 := by decide +kernel
theorem dX0_searched_0 : decode cX0_searched 0 = .ok (.aload_n 2, 1) := dk_44 (dk_at dksX0_searched_0 0 rfl rfl)
theorem dX0_searched_1 : decode cX0_searched 1 = .ok (.iconst 0, 1) := dk_3 (dk_at dksX0_searched_0 1 rfl rfl)
theorem dX0_searched_2 : decode cX0_searched 2 = .ok (.aload_n 0, 1) := dk_42 (dk_at dksX0_searched_0 2 rfl rfl)
theorem dX0_searched_3 : decode cX0_searched 3 = .ok (.iload_n 1, 1) := dk_27 (dk_at dksX0_searched_0 3 rfl rfl)
theorem dX0_searched_4 : decode cX0_searched 4 = .ok (.invokevirtual 80, 3) := dk_182 0 80 (dk_at dksX0_searched_0 4 rfl rfl)
theorem dX0_searched_7 : decode cX0_searched 7 = .ok (.i2l, 1) := dk_133 (dk_at dksX0_searched_0 7 rfl rfl)
theorem dX0_searched_8 : decode cX0_searched 8 = .ok (.lastore, 1) := dk_80 (dk_at dksX0_searched_0 8 rfl rfl)
theorem dX0_searched_9 : decode cX0_searched 9 = .ok (.goto 6, 3) := dk_167 0 6 (dk_at dksX0_searched_0 9 rfl rfl)
theorem dX0_searched_12 : decode cX0_searched 12 = .ok (.astore_n 3, 1) := dk_78 (dk_at dksX0_searched_0 12 rfl rfl)
theorem dX0_searched_13 : decode cX0_searched 13 = .ok (.iconst 1, 1) := dk_4 (dk_at dksX0_searched_0 13 rfl rfl)
theorem dX0_searched_14 : decode cX0_searched 14 = .ok (.ireturn, 1) := dk_172 (dk_at dksX0_searched_0 14 rfl rfl)
theorem dX0_searched_15 : decode cX0_searched 15 = .ok (.iconst 0, 1) := dk_3 (dk_at dksX0_searched_0 15 rfl rfl)
theorem dX0_searched_16 : decode cX0_searched 16 = .ok (.ireturn, 1) := dk_172 (dk_at dksX0_searched_0 16 rfl rfl)
abbrev cX0_wayAt : ByteArray := method_22_code
def yX0_wayAt : MethodName := ⟨RX0, "wayAt", "(LSlidingtray;I[J)I"⟩
def dkwX0_wayAt_0 : List UInt8 := [44, 3, 42, 27, 182, 0, 83, 133, 80, 167, 0, 6, 78, 4, 172, 3, 172]
abbrev dktX0_wayAt_0 : List UInt8 := dkwX0_wayAt_0 ++ []
theorem dksX0_wayAt_0 : cX0_wayAt.data.toList.drop 0 = dktX0_wayAt_0 := by decide +kernel
theorem dX0_wayAt_0 : decode cX0_wayAt 0 = .ok (.aload_n 2, 1) := dk_44 (dk_at dksX0_wayAt_0 0 rfl rfl)
theorem dX0_wayAt_1 : decode cX0_wayAt 1 = .ok (.iconst 0, 1) := dk_3 (dk_at dksX0_wayAt_0 1 rfl rfl)
theorem dX0_wayAt_2 : decode cX0_wayAt 2 = .ok (.aload_n 0, 1) := dk_42 (dk_at dksX0_wayAt_0 2 rfl rfl)
theorem dX0_wayAt_3 : decode cX0_wayAt 3 = .ok (.iload_n 1, 1) := dk_27 (dk_at dksX0_wayAt_0 3 rfl rfl)
theorem dX0_wayAt_4 : decode cX0_wayAt 4 = .ok (.invokevirtual 83, 3) := dk_182 0 83 (dk_at dksX0_wayAt_0 4 rfl rfl)
theorem dX0_wayAt_7 : decode cX0_wayAt 7 = .ok (.i2l, 1) := dk_133 (dk_at dksX0_wayAt_0 7 rfl rfl)
theorem dX0_wayAt_8 : decode cX0_wayAt 8 = .ok (.lastore, 1) := dk_80 (dk_at dksX0_wayAt_0 8 rfl rfl)
theorem dX0_wayAt_9 : decode cX0_wayAt 9 = .ok (.goto 6, 3) := dk_167 0 6 (dk_at dksX0_wayAt_0 9 rfl rfl)
theorem dX0_wayAt_12 : decode cX0_wayAt 12 = .ok (.astore_n 3, 1) := dk_78 (dk_at dksX0_wayAt_0 12 rfl rfl)
theorem dX0_wayAt_13 : decode cX0_wayAt 13 = .ok (.iconst 1, 1) := dk_4 (dk_at dksX0_wayAt_0 13 rfl rfl)
theorem dX0_wayAt_14 : decode cX0_wayAt 14 = .ok (.ireturn, 1) := dk_172 (dk_at dksX0_wayAt_0 14 rfl rfl)
theorem dX0_wayAt_15 : decode cX0_wayAt 15 = .ok (.iconst 0, 1) := dk_3 (dk_at dksX0_wayAt_0 15 rfl rfl)
theorem dX0_wayAt_16 : decode cX0_wayAt 16 = .ok (.ireturn, 1) := dk_172 (dk_at dksX0_wayAt_0 16 rfl rfl)
abbrev cX0_hint : ByteArray := method_23_code
def yX0_hint : MethodName := ⟨RX0, "hint", "(LSlidingtray;[J)I"⟩
def dkwX0_hint_0 : List UInt8 := [43, 3, 42, 182, 0, 86, 133, 80, 167, 0, 6, 77, 4, 172, 3, 172]
abbrev dktX0_hint_0 : List UInt8 := dkwX0_hint_0 ++ []
theorem dksX0_hint_0 : cX0_hint.data.toList.drop 0 = dktX0_hint_0 := by decide +kernel
theorem dX0_hint_0 : decode cX0_hint 0 = .ok (.aload_n 1, 1) := dk_43 (dk_at dksX0_hint_0 0 rfl rfl)
theorem dX0_hint_1 : decode cX0_hint 1 = .ok (.iconst 0, 1) := dk_3 (dk_at dksX0_hint_0 1 rfl rfl)
theorem dX0_hint_2 : decode cX0_hint 2 = .ok (.aload_n 0, 1) := dk_42 (dk_at dksX0_hint_0 2 rfl rfl)
theorem dX0_hint_3 : decode cX0_hint 3 = .ok (.invokevirtual 86, 3) := dk_182 0 86 (dk_at dksX0_hint_0 3 rfl rfl)
theorem dX0_hint_6 : decode cX0_hint 6 = .ok (.i2l, 1) := dk_133 (dk_at dksX0_hint_0 6 rfl rfl)
theorem dX0_hint_7 : decode cX0_hint 7 = .ok (.lastore, 1) := dk_80 (dk_at dksX0_hint_0 7 rfl rfl)
theorem dX0_hint_8 : decode cX0_hint 8 = .ok (.goto 6, 3) := dk_167 0 6 (dk_at dksX0_hint_0 8 rfl rfl)
theorem dX0_hint_11 : decode cX0_hint 11 = .ok (.astore_n 2, 1) := dk_77 (dk_at dksX0_hint_0 11 rfl rfl)
theorem dX0_hint_12 : decode cX0_hint 12 = .ok (.iconst 1, 1) := dk_4 (dk_at dksX0_hint_0 12 rfl rfl)
theorem dX0_hint_13 : decode cX0_hint 13 = .ok (.ireturn, 1) := dk_172 (dk_at dksX0_hint_0 13 rfl rfl)
theorem dX0_hint_14 : decode cX0_hint 14 = .ok (.iconst 0, 1) := dk_3 (dk_at dksX0_hint_0 14 rfl rfl)
theorem dX0_hint_15 : decode cX0_hint 15 = .ok (.ireturn, 1) := dk_172 (dk_at dksX0_hint_0 15 rfl rfl)
abbrev cX0_far : ByteArray := method_24_code
def yX0_far : MethodName := ⟨RX0, "far", "(LSlidingtray;I[J)I"⟩
def dkwX0_far_0 : List UInt8 := [44, 3, 42, 27, 182, 0, 89, 133, 80, 167, 0, 9, 78, 4, 172, 78, 5, 172, 3, 172]
abbrev dktX0_far_0 : List UInt8 := dkwX0_far_0 ++ []
theorem dksX0_far_0 : cX0_far.data.toList.drop 0 = dktX0_far_0 := by decide +kernel
theorem dX0_far_0 : decode cX0_far 0 = .ok (.aload_n 2, 1) := dk_44 (dk_at dksX0_far_0 0 rfl rfl)
theorem dX0_far_1 : decode cX0_far 1 = .ok (.iconst 0, 1) := dk_3 (dk_at dksX0_far_0 1 rfl rfl)
theorem dX0_far_2 : decode cX0_far 2 = .ok (.aload_n 0, 1) := dk_42 (dk_at dksX0_far_0 2 rfl rfl)
theorem dX0_far_3 : decode cX0_far 3 = .ok (.iload_n 1, 1) := dk_27 (dk_at dksX0_far_0 3 rfl rfl)
theorem dX0_far_4 : decode cX0_far 4 = .ok (.invokevirtual 89, 3) := dk_182 0 89 (dk_at dksX0_far_0 4 rfl rfl)
theorem dX0_far_7 : decode cX0_far 7 = .ok (.i2l, 1) := dk_133 (dk_at dksX0_far_0 7 rfl rfl)
theorem dX0_far_8 : decode cX0_far 8 = .ok (.lastore, 1) := dk_80 (dk_at dksX0_far_0 8 rfl rfl)
theorem dX0_far_9 : decode cX0_far 9 = .ok (.goto 9, 3) := dk_167 0 9 (dk_at dksX0_far_0 9 rfl rfl)
theorem dX0_far_12 : decode cX0_far 12 = .ok (.astore_n 3, 1) := dk_78 (dk_at dksX0_far_0 12 rfl rfl)
theorem dX0_far_13 : decode cX0_far 13 = .ok (.iconst 1, 1) := dk_4 (dk_at dksX0_far_0 13 rfl rfl)
theorem dX0_far_14 : decode cX0_far 14 = .ok (.ireturn, 1) := dk_172 (dk_at dksX0_far_0 14 rfl rfl)
theorem dX0_far_15 : decode cX0_far 15 = .ok (.astore_n 3, 1) := dk_78 (dk_at dksX0_far_0 15 rfl rfl)
theorem dX0_far_16 : decode cX0_far 16 = .ok (.iconst 2, 1) := dk_5 (dk_at dksX0_far_0 16 rfl rfl)
theorem dX0_far_17 : decode cX0_far 17 = .ok (.ireturn, 1) := dk_172 (dk_at dksX0_far_0 17 rfl rfl)
theorem dX0_far_18 : decode cX0_far 18 = .ok (.iconst 0, 1) := dk_3 (dk_at dksX0_far_0 18 rfl rfl)
theorem dX0_far_19 : decode cX0_far 19 = .ok (.ireturn, 1) := dk_172 (dk_at dksX0_far_0 19 rfl rfl)
abbrev cX0_onlyWay : ByteArray := method_25_code
def yX0_onlyWay : MethodName := ⟨RX0, "onlyWay", "(LSlidingtray;I[J)I"⟩
def dkwX0_onlyWay_0 : List UInt8 := [44, 3, 42, 27, 182, 0, 92, 133, 80, 167, 0, 9, 78, 4, 172, 78, 5, 172, 3, 172]
abbrev dktX0_onlyWay_0 : List UInt8 := dkwX0_onlyWay_0 ++ []
theorem dksX0_onlyWay_0 : cX0_onlyWay.data.toList.drop 0 = dktX0_onlyWay_0 := by decide +kernel
theorem dX0_onlyWay_0 : decode cX0_onlyWay 0 = .ok (.aload_n 2, 1) := dk_44 (dk_at dksX0_onlyWay_0 0 rfl rfl)
theorem dX0_onlyWay_1 : decode cX0_onlyWay 1 = .ok (.iconst 0, 1) := dk_3 (dk_at dksX0_onlyWay_0 1 rfl rfl)
theorem dX0_onlyWay_2 : decode cX0_onlyWay 2 = .ok (.aload_n 0, 1) := dk_42 (dk_at dksX0_onlyWay_0 2 rfl rfl)
theorem dX0_onlyWay_3 : decode cX0_onlyWay 3 = .ok (.iload_n 1, 1) := dk_27 (dk_at dksX0_onlyWay_0 3 rfl rfl)
theorem dX0_onlyWay_4 : decode cX0_onlyWay 4 = .ok (.invokevirtual 92, 3) := dk_182 0 92 (dk_at dksX0_onlyWay_0 4 rfl rfl)
theorem dX0_onlyWay_7 : decode cX0_onlyWay 7 = .ok (.i2l, 1) := dk_133 (dk_at dksX0_onlyWay_0 7 rfl rfl)
theorem dX0_onlyWay_8 : decode cX0_onlyWay 8 = .ok (.lastore, 1) := dk_80 (dk_at dksX0_onlyWay_0 8 rfl rfl)
theorem dX0_onlyWay_9 : decode cX0_onlyWay 9 = .ok (.goto 9, 3) := dk_167 0 9 (dk_at dksX0_onlyWay_0 9 rfl rfl)
theorem dX0_onlyWay_12 : decode cX0_onlyWay 12 = .ok (.astore_n 3, 1) := dk_78 (dk_at dksX0_onlyWay_0 12 rfl rfl)
theorem dX0_onlyWay_13 : decode cX0_onlyWay 13 = .ok (.iconst 1, 1) := dk_4 (dk_at dksX0_onlyWay_0 13 rfl rfl)
theorem dX0_onlyWay_14 : decode cX0_onlyWay 14 = .ok (.ireturn, 1) := dk_172 (dk_at dksX0_onlyWay_0 14 rfl rfl)
theorem dX0_onlyWay_15 : decode cX0_onlyWay 15 = .ok (.astore_n 3, 1) := dk_78 (dk_at dksX0_onlyWay_0 15 rfl rfl)
theorem dX0_onlyWay_16 : decode cX0_onlyWay 16 = .ok (.iconst 2, 1) := dk_5 (dk_at dksX0_onlyWay_0 16 rfl rfl)
theorem dX0_onlyWay_17 : decode cX0_onlyWay 17 = .ok (.ireturn, 1) := dk_172 (dk_at dksX0_onlyWay_0 17 rfl rfl)
theorem dX0_onlyWay_18 : decode cX0_onlyWay 18 = .ok (.iconst 0, 1) := dk_3 (dk_at dksX0_onlyWay_0 18 rfl rfl)
theorem dX0_onlyWay_19 : decode cX0_onlyWay 19 = .ok (.ireturn, 1) := dk_172 (dk_at dksX0_onlyWay_0 19 rfl rfl)
abbrev cX0_isFair : ByteArray := method_26_code
def yX0_isFair : MethodName := ⟨RX0, "isFair", "(LSlidingtray;I[J)I"⟩
def dkwX0_isFair_1 : List UInt8 := [172, 3, 172]
abbrev dktX0_isFair_1 : List UInt8 := dkwX0_isFair_1 ++ []
def dkwX0_isFair_0 : List UInt8 := [44, 3, 42, 27, 182, 0, 95, 153, 0, 7, 10, 167, 0, 4, 9, 80, 167, 0, 9, 78, 4, 172, 78, 5]
abbrev dktX0_isFair_0 : List UInt8 := dkwX0_isFair_0 ++ dktX0_isFair_1
theorem dksX0_isFair_0 : cX0_isFair.data.toList.drop 0 = dktX0_isFair_0 := by decide +kernel
theorem dksX0_isFair_1 : cX0_isFair.data.toList.drop 24 = dktX0_isFair_1 := dk_seg dksX0_isFair_0 24 rfl rfl
theorem dX0_isFair_0 : decode cX0_isFair 0 = .ok (.aload_n 2, 1) := dk_44 (dk_at dksX0_isFair_0 0 rfl rfl)
theorem dX0_isFair_1 : decode cX0_isFair 1 = .ok (.iconst 0, 1) := dk_3 (dk_at dksX0_isFair_0 1 rfl rfl)
theorem dX0_isFair_2 : decode cX0_isFair 2 = .ok (.aload_n 0, 1) := dk_42 (dk_at dksX0_isFair_0 2 rfl rfl)
theorem dX0_isFair_3 : decode cX0_isFair 3 = .ok (.iload_n 1, 1) := dk_27 (dk_at dksX0_isFair_0 3 rfl rfl)
theorem dX0_isFair_4 : decode cX0_isFair 4 = .ok (.invokevirtual 95, 3) := dk_182 0 95 (dk_at dksX0_isFair_0 4 rfl rfl)
theorem dX0_isFair_7 : decode cX0_isFair 7 = .ok (.ifCond .eq 7, 3) := dk_153 0 7 (dk_at dksX0_isFair_0 7 rfl rfl)
theorem dX0_isFair_10 : decode cX0_isFair 10 = .ok (.lconst 1, 1) := dk_10 (dk_at dksX0_isFair_0 10 rfl rfl)
theorem dX0_isFair_11 : decode cX0_isFair 11 = .ok (.goto 4, 3) := dk_167 0 4 (dk_at dksX0_isFair_0 11 rfl rfl)
theorem dX0_isFair_14 : decode cX0_isFair 14 = .ok (.lconst 0, 1) := dk_9 (dk_at dksX0_isFair_0 14 rfl rfl)
theorem dX0_isFair_15 : decode cX0_isFair 15 = .ok (.lastore, 1) := dk_80 (dk_at dksX0_isFair_0 15 rfl rfl)
theorem dX0_isFair_16 : decode cX0_isFair 16 = .ok (.goto 9, 3) := dk_167 0 9 (dk_at dksX0_isFair_0 16 rfl rfl)
theorem dX0_isFair_19 : decode cX0_isFair 19 = .ok (.astore_n 3, 1) := dk_78 (dk_at dksX0_isFair_0 19 rfl rfl)
theorem dX0_isFair_20 : decode cX0_isFair 20 = .ok (.iconst 1, 1) := dk_4 (dk_at dksX0_isFair_0 20 rfl rfl)
theorem dX0_isFair_21 : decode cX0_isFair 21 = .ok (.ireturn, 1) := dk_172 (dk_at dksX0_isFair_0 21 rfl rfl)
theorem dX0_isFair_22 : decode cX0_isFair 22 = .ok (.astore_n 3, 1) := dk_78 (dk_at dksX0_isFair_0 22 rfl rfl)
theorem dX0_isFair_23 : decode cX0_isFair 23 = .ok (.iconst 2, 1) := dk_5 (dk_at dksX0_isFair_0 23 rfl rfl)
theorem dX0_isFair_24 : decode cX0_isFair 24 = .ok (.ireturn, 1) := dk_172 (dk_at dksX0_isFair_1 0 rfl rfl)
theorem dX0_isFair_25 : decode cX0_isFair 25 = .ok (.iconst 0, 1) := dk_3 (dk_at dksX0_isFair_1 1 rfl rfl)
theorem dX0_isFair_26 : decode cX0_isFair 26 = .ok (.ireturn, 1) := dk_172 (dk_at dksX0_isFair_1 2 rfl rfl)
abbrev cX0_part : ByteArray := method_27_code
def yX0_part : MethodName := ⟨RX0, "part", "(LSlidingtray;I[J)I"⟩
def dkwX0_part_0 : List UInt8 := [44, 3, 42, 27, 182, 0, 99, 133, 80, 167, 0, 9, 78, 4, 172, 78, 5, 172, 3, 172]
abbrev dktX0_part_0 : List UInt8 := dkwX0_part_0 ++ []
theorem dksX0_part_0 : cX0_part.data.toList.drop 0 = dktX0_part_0 := by decide +kernel
theorem dX0_part_0 : decode cX0_part 0 = .ok (.aload_n 2, 1) := dk_44 (dk_at dksX0_part_0 0 rfl rfl)
theorem dX0_part_1 : decode cX0_part 1 = .ok (.iconst 0, 1) := dk_3 (dk_at dksX0_part_0 1 rfl rfl)
theorem dX0_part_2 : decode cX0_part 2 = .ok (.aload_n 0, 1) := dk_42 (dk_at dksX0_part_0 2 rfl rfl)
theorem dX0_part_3 : decode cX0_part 3 = .ok (.iload_n 1, 1) := dk_27 (dk_at dksX0_part_0 3 rfl rfl)
theorem dX0_part_4 : decode cX0_part 4 = .ok (.invokevirtual 99, 3) := dk_182 0 99 (dk_at dksX0_part_0 4 rfl rfl)
theorem dX0_part_7 : decode cX0_part 7 = .ok (.i2l, 1) := dk_133 (dk_at dksX0_part_0 7 rfl rfl)
theorem dX0_part_8 : decode cX0_part 8 = .ok (.lastore, 1) := dk_80 (dk_at dksX0_part_0 8 rfl rfl)
theorem dX0_part_9 : decode cX0_part 9 = .ok (.goto 9, 3) := dk_167 0 9 (dk_at dksX0_part_0 9 rfl rfl)
theorem dX0_part_12 : decode cX0_part 12 = .ok (.astore_n 3, 1) := dk_78 (dk_at dksX0_part_0 12 rfl rfl)
theorem dX0_part_13 : decode cX0_part 13 = .ok (.iconst 1, 1) := dk_4 (dk_at dksX0_part_0 13 rfl rfl)
theorem dX0_part_14 : decode cX0_part 14 = .ok (.ireturn, 1) := dk_172 (dk_at dksX0_part_0 14 rfl rfl)
theorem dX0_part_15 : decode cX0_part 15 = .ok (.astore_n 3, 1) := dk_78 (dk_at dksX0_part_0 15 rfl rfl)
theorem dX0_part_16 : decode cX0_part 16 = .ok (.iconst 2, 1) := dk_5 (dk_at dksX0_part_0 16 rfl rfl)
theorem dX0_part_17 : decode cX0_part 17 = .ok (.ireturn, 1) := dk_172 (dk_at dksX0_part_0 17 rfl rfl)
theorem dX0_part_18 : decode cX0_part 18 = .ok (.iconst 0, 1) := dk_3 (dk_at dksX0_part_0 18 rfl rfl)
theorem dX0_part_19 : decode cX0_part 19 = .ok (.ireturn, 1) := dk_172 (dk_at dksX0_part_0 19 rfl rfl)
theorem q101 : (Jvm.Cond.initialized "SlidingtrayLaw") ∈ lw_all := lw_g (lw_at lw_m1 0 rfl) rfl
theorem q161 : (Jvm.Cond.classLink "SlidingtrayLaw" (8 : Nat) "Slidingtray") ∈ lw_all := lw_g (lw_at lw_m1 60 rfl) rfl
theorem q163 : (Jvm.Cond.methodLink "SlidingtrayLaw" (102 : Nat) ({ cls := "Slidingtray", name := "<init>", desc := "()V" } : Jvm.MethodName)) ∈ lw_all := lw_g (lw_at lw_m1 62 rfl) rfl
theorem q1173 : (Jvm.Cond.methodLink "SlidingtrayLaw" (125 : Nat) ({ cls := "Slidingtray", name := "setGoal", desc := "()J" } : Jvm.MethodName)) ∈ lw_all := lw_g (lw_at lw_m5 112 rfl) rfl
theorem q1210 : (Jvm.Cond.methodLink "SlidingtrayLaw" (163 : Nat) ({ cls := "Slidingtray", name := "rank", desc := "()J" } : Jvm.MethodName)) ∈ lw_all := lw_g (lw_at lw_m5 149 rfl) rfl
theorem q1214 : (Jvm.Cond.methodLink "SlidingtrayLaw" (167 : Nat) ({ cls := "Slidingtray", name := "inversions", desc := "()I" } : Jvm.MethodName)) ∈ lw_all := lw_g (lw_at lw_m5 153 rfl) rfl
theorem q1222 : (Jvm.Cond.methodLink "SlidingtrayLaw" (208 : Nat) ({ cls := "Slidingtray", name := "meanWeight", desc := "()D" } : Jvm.MethodName)) ∈ lw_all := lw_g (lw_at lw_m5 161 rfl) rfl
theorem q1227 : (Jvm.Cond.methodLink "SlidingtrayLaw" (213 : Nat) ({ cls := "Slidingtray", name := "settled", desc := "()F" } : Jvm.MethodName)) ∈ lw_all := lw_g (lw_at lw_m5 166 rfl) rfl
theorem q1239 : (Jvm.Cond.methodLink "SlidingtrayLaw" (218 : Nat) ({ cls := "Slidingtray", name := "errors", desc := "()I" } : Jvm.MethodName)) ∈ lw_all := lw_g (lw_at lw_m5 178 rfl) rfl
theorem q2002 : (Jvm.Cond.methodLink "SlidingtrayLaw" (106 : Nat) ({ cls := "SlidingtrayLaw", name := "tray", desc := "(LSlidingtray;III[J)I" } : Jvm.MethodName)) ∈ lw_all := lw_g (lw_at lw_m8 221 rfl) rfl
theorem q2003 : (Jvm.Cond.static ({ cls := "SlidingtrayLaw", name := "tray", desc := "(LSlidingtray;III[J)I" } : Jvm.MethodName)) ∈ lw_all := lw_g (lw_at lw_m8 222 rfl) rfl
theorem q2004 : (Jvm.Cond.codeWith ({ cls := "SlidingtrayLaw", name := "tray", desc := "(LSlidingtray;III[J)I" } : Jvm.MethodName) method_3_code (6 : Nat) (Option.some Jvm.ClassFile.FieldType.int) [((0 : Nat), (12 : Nat), (15 : Nat), (13 : Nat))]) ∈ lw_all := lw_g (lw_at lw_m8 223 rfl) rfl
theorem q2005 : (Jvm.Cond.classLink "SlidingtrayLaw" (13 : Nat) "java/lang/IllegalArgumentException") ∈ lw_all := lw_g (lw_at lw_m8 224 rfl) rfl
theorem q2006 : (Jvm.Cond.methodLink "SlidingtrayLaw" (7 : Nat) ({ cls := "Slidingtray", name := "tray", desc := "(III)I" } : Jvm.MethodName)) ∈ lw_all := lw_g (lw_at lw_m8 225 rfl) rfl
theorem q2034 : (Jvm.Cond.methodLink "SlidingtrayLaw" (117 : Nat) ({ cls := "SlidingtrayLaw", name := "lay", desc := "(LSlidingtray;J[J)I" } : Jvm.MethodName)) ∈ lw_all := lw_g (lw_at lw_m9 13 rfl) rfl
theorem q2035 : (Jvm.Cond.static ({ cls := "SlidingtrayLaw", name := "lay", desc := "(LSlidingtray;J[J)I" } : Jvm.MethodName)) ∈ lw_all := lw_g (lw_at lw_m9 14 rfl) rfl
theorem q2036 : (Jvm.Cond.codeWith ({ cls := "SlidingtrayLaw", name := "lay", desc := "(LSlidingtray;J[J)I" } : Jvm.MethodName) method_4_code (5 : Nat) (Option.some Jvm.ClassFile.FieldType.int) [((0 : Nat), (9 : Nat), (12 : Nat), (13 : Nat))]) ∈ lw_all := lw_g (lw_at lw_m9 15 rfl) rfl
theorem q2037 : (Jvm.Cond.methodLink "SlidingtrayLaw" (15 : Nat) ({ cls := "Slidingtray", name := "lay", desc := "(J)I" } : Jvm.MethodName)) ∈ lw_all := lw_g (lw_at lw_m9 16 rfl) rfl
theorem q2050 : (Jvm.Cond.methodLink "SlidingtrayLaw" (121 : Nat) ({ cls := "SlidingtrayLaw", name := "mix", desc := "(LSlidingtray;II[J)I" } : Jvm.MethodName)) ∈ lw_all := lw_g (lw_at lw_m9 29 rfl) rfl
theorem q2051 : (Jvm.Cond.static ({ cls := "SlidingtrayLaw", name := "mix", desc := "(LSlidingtray;II[J)I" } : Jvm.MethodName)) ∈ lw_all := lw_g (lw_at lw_m9 30 rfl) rfl
theorem q2052 : (Jvm.Cond.codeWith ({ cls := "SlidingtrayLaw", name := "mix", desc := "(LSlidingtray;II[J)I" } : Jvm.MethodName) method_5_code (5 : Nat) (Option.some Jvm.ClassFile.FieldType.int) [((0 : Nat), (10 : Nat), (13 : Nat), (13 : Nat))]) ∈ lw_all := lw_g (lw_at lw_m9 31 rfl) rfl
theorem q2053 : (Jvm.Cond.methodLink "SlidingtrayLaw" (19 : Nat) ({ cls := "Slidingtray", name := "mix", desc := "(II)I" } : Jvm.MethodName)) ∈ lw_all := lw_g (lw_at lw_m9 32 rfl) rfl
theorem q2060 : (Jvm.Cond.methodLink "SlidingtrayLaw" (130 : Nat) ({ cls := "SlidingtrayLaw", name := "setFree", desc := "(LSlidingtray;IZ[J)I" } : Jvm.MethodName)) ∈ lw_all := lw_g (lw_at lw_m9 39 rfl) rfl
theorem q2061 : (Jvm.Cond.static ({ cls := "SlidingtrayLaw", name := "setFree", desc := "(LSlidingtray;IZ[J)I" } : Jvm.MethodName)) ∈ lw_all := lw_g (lw_at lw_m9 40 rfl) rfl
theorem q2062 : (Jvm.Cond.codeWith ({ cls := "SlidingtrayLaw", name := "setFree", desc := "(LSlidingtray;IZ[J)I" } : Jvm.MethodName) method_6_code (5 : Nat) (Option.some Jvm.ClassFile.FieldType.int) [((0 : Nat), (17 : Nat), (20 : Nat), (27 : Nat))]) ∈ lw_all := lw_g (lw_at lw_m9 41 rfl) rfl
theorem q2063 : (Jvm.Cond.classLink "SlidingtrayLaw" (27 : Nat) "java/lang/IndexOutOfBoundsException") ∈ lw_all := lw_g (lw_at lw_m9 42 rfl) rfl
theorem q2079 : (Jvm.Cond.methodLink "SlidingtrayLaw" (23 : Nat) ({ cls := "Slidingtray", name := "setFree", desc := "(IZ)Z" } : Jvm.MethodName)) ∈ lw_all := lw_g (lw_at lw_m9 58 rfl) rfl
theorem q2099 : (Jvm.Cond.methodLink "SlidingtrayLaw" (134 : Nat) ({ cls := "SlidingtrayLaw", name := "setWeight", desc := "(LSlidingtray;II[J)I" } : Jvm.MethodName)) ∈ lw_all := lw_g (lw_at lw_m9 78 rfl) rfl
theorem q2100 : (Jvm.Cond.static ({ cls := "SlidingtrayLaw", name := "setWeight", desc := "(LSlidingtray;II[J)I" } : Jvm.MethodName)) ∈ lw_all := lw_g (lw_at lw_m9 79 rfl) rfl
theorem q2101 : (Jvm.Cond.codeWith ({ cls := "SlidingtrayLaw", name := "setWeight", desc := "(LSlidingtray;II[J)I" } : Jvm.MethodName) method_7_code (5 : Nat) (Option.some Jvm.ClassFile.FieldType.int) [((0 : Nat), (10 : Nat), (13 : Nat), (27 : Nat)), ((0 : Nat), (10 : Nat), (17 : Nat), (13 : Nat))]) ∈ lw_all := lw_g (lw_at lw_m9 80 rfl) rfl
theorem q2102 : (Jvm.Cond.methodLink "SlidingtrayLaw" (29 : Nat) ({ cls := "Slidingtray", name := "setWeight", desc := "(II)I" } : Jvm.MethodName)) ∈ lw_all := lw_g (lw_at lw_m9 81 rfl) rfl
theorem q2106 : (Jvm.Cond.methodLink "SlidingtrayLaw" (137 : Nat) ({ cls := "SlidingtrayLaw", name := "setLimit", desc := "(LSlidingtray;I[J)I" } : Jvm.MethodName)) ∈ lw_all := lw_g (lw_at lw_m9 85 rfl) rfl
theorem q2107 : (Jvm.Cond.static ({ cls := "SlidingtrayLaw", name := "setLimit", desc := "(LSlidingtray;I[J)I" } : Jvm.MethodName)) ∈ lw_all := lw_g (lw_at lw_m9 86 rfl) rfl
theorem q2108 : (Jvm.Cond.codeWith ({ cls := "SlidingtrayLaw", name := "setLimit", desc := "(LSlidingtray;I[J)I" } : Jvm.MethodName) method_8_code (4 : Nat) (Option.some Jvm.ClassFile.FieldType.int) [((0 : Nat), (9 : Nat), (12 : Nat), (13 : Nat))]) ∈ lw_all := lw_g (lw_at lw_m9 87 rfl) rfl
theorem q2109 : (Jvm.Cond.methodLink "SlidingtrayLaw" (32 : Nat) ({ cls := "Slidingtray", name := "setLimit", desc := "(I)I" } : Jvm.MethodName)) ∈ lw_all := lw_g (lw_at lw_m9 88 rfl) rfl
theorem q2113 : (Jvm.Cond.methodLink "SlidingtrayLaw" (141 : Nat) ({ cls := "SlidingtrayLaw", name := "move", desc := "(LSlidingtray;II[J)I" } : Jvm.MethodName)) ∈ lw_all := lw_g (lw_at lw_m9 92 rfl) rfl
theorem q2114 : (Jvm.Cond.static ({ cls := "SlidingtrayLaw", name := "move", desc := "(LSlidingtray;II[J)I" } : Jvm.MethodName)) ∈ lw_all := lw_g (lw_at lw_m9 93 rfl) rfl
theorem q2115 : (Jvm.Cond.codeWith ({ cls := "SlidingtrayLaw", name := "move", desc := "(LSlidingtray;II[J)I" } : Jvm.MethodName) method_9_code (5 : Nat) (Option.some Jvm.ClassFile.FieldType.int) [((0 : Nat), (10 : Nat), (13 : Nat), (13 : Nat)), ((0 : Nat), (10 : Nat), (17 : Nat), (39 : Nat))]) ∈ lw_all := lw_g (lw_at lw_m9 94 rfl) rfl
theorem q2116 : (Jvm.Cond.classLink "SlidingtrayLaw" (39 : Nat) "java/lang/IllegalStateException") ∈ lw_all := lw_g (lw_at lw_m9 95 rfl) rfl
theorem q2117 : (Jvm.Cond.methodLink "SlidingtrayLaw" (36 : Nat) ({ cls := "Slidingtray", name := "move", desc := "(II)I" } : Jvm.MethodName)) ∈ lw_all := lw_g (lw_at lw_m9 96 rfl) rfl
theorem q2136 : (Jvm.Cond.methodLink "SlidingtrayLaw" (144 : Nat) ({ cls := "SlidingtrayLaw", name := "undo", desc := "(LSlidingtray;I[J)I" } : Jvm.MethodName)) ∈ lw_all := lw_g (lw_at lw_m9 115 rfl) rfl
theorem q2137 : (Jvm.Cond.static ({ cls := "SlidingtrayLaw", name := "undo", desc := "(LSlidingtray;I[J)I" } : Jvm.MethodName)) ∈ lw_all := lw_g (lw_at lw_m9 116 rfl) rfl
theorem q2138 : (Jvm.Cond.codeWith ({ cls := "SlidingtrayLaw", name := "undo", desc := "(LSlidingtray;I[J)I" } : Jvm.MethodName) method_10_code (4 : Nat) (Option.some Jvm.ClassFile.FieldType.int) [((0 : Nat), (9 : Nat), (12 : Nat), (13 : Nat))]) ∈ lw_all := lw_g (lw_at lw_m9 117 rfl) rfl
theorem q2139 : (Jvm.Cond.methodLink "SlidingtrayLaw" (41 : Nat) ({ cls := "Slidingtray", name := "undo", desc := "(I)I" } : Jvm.MethodName)) ∈ lw_all := lw_g (lw_at lw_m9 118 rfl) rfl
theorem q2155 : (Jvm.Cond.methodLink "SlidingtrayLaw" (147 : Nat) ({ cls := "SlidingtrayLaw", name := "setMacro", desc := "(LSlidingtray;IJ[J)I" } : Jvm.MethodName)) ∈ lw_all := lw_g (lw_at lw_m9 134 rfl) rfl
theorem q2156 : (Jvm.Cond.static ({ cls := "SlidingtrayLaw", name := "setMacro", desc := "(LSlidingtray;IJ[J)I" } : Jvm.MethodName)) ∈ lw_all := lw_g (lw_at lw_m9 135 rfl) rfl
theorem q2157 : (Jvm.Cond.codeWith ({ cls := "SlidingtrayLaw", name := "setMacro", desc := "(LSlidingtray;IJ[J)I" } : Jvm.MethodName) method_11_code (6 : Nat) (Option.some Jvm.ClassFile.FieldType.int) [((0 : Nat), (11 : Nat), (14 : Nat), (27 : Nat)), ((0 : Nat), (11 : Nat), (18 : Nat), (13 : Nat))]) ∈ lw_all := lw_g (lw_at lw_m9 136 rfl) rfl
theorem q2158 : (Jvm.Cond.methodLink "SlidingtrayLaw" (44 : Nat) ({ cls := "Slidingtray", name := "setMacro", desc := "(IJ)I" } : Jvm.MethodName)) ∈ lw_all := lw_g (lw_at lw_m9 137 rfl) rfl
theorem q2404 : (Jvm.Cond.methodLink "SlidingtrayLaw" (151 : Nat) ({ cls := "SlidingtrayLaw", name := "play", desc := "(LSlidingtray;II[J)I" } : Jvm.MethodName)) ∈ lw_all := lw_g (lw_at lw_m10 143 rfl) rfl
theorem q2405 : (Jvm.Cond.static ({ cls := "SlidingtrayLaw", name := "play", desc := "(LSlidingtray;II[J)I" } : Jvm.MethodName)) ∈ lw_all := lw_g (lw_at lw_m10 144 rfl) rfl
theorem q2406 : (Jvm.Cond.codeWith ({ cls := "SlidingtrayLaw", name := "play", desc := "(LSlidingtray;II[J)I" } : Jvm.MethodName) method_12_code (5 : Nat) (Option.some Jvm.ClassFile.FieldType.int) [((0 : Nat), (10 : Nat), (13 : Nat), (27 : Nat)), ((0 : Nat), (10 : Nat), (17 : Nat), (13 : Nat)), ((0 : Nat), (10 : Nat), (21 : Nat), (51 : Nat))]) ∈ lw_all := lw_g (lw_at lw_m10 145 rfl) rfl
theorem q2407 : (Jvm.Cond.classLink "SlidingtrayLaw" (51 : Nat) "java/util/NoSuchElementException") ∈ lw_all := lw_g (lw_at lw_m10 146 rfl) rfl
theorem q2408 : (Jvm.Cond.methodLink "SlidingtrayLaw" (48 : Nat) ({ cls := "Slidingtray", name := "play", desc := "(II)I" } : Jvm.MethodName)) ∈ lw_all := lw_g (lw_at lw_m10 147 rfl) rfl
theorem q2423 : (Jvm.Cond.methodLink "SlidingtrayLaw" (154 : Nat) ({ cls := "SlidingtrayLaw", name := "keep", desc := "(LSlidingtray;I[J)I" } : Jvm.MethodName)) ∈ lw_all := lw_g (lw_at lw_m10 162 rfl) rfl
theorem q2424 : (Jvm.Cond.static ({ cls := "SlidingtrayLaw", name := "keep", desc := "(LSlidingtray;I[J)I" } : Jvm.MethodName)) ∈ lw_all := lw_g (lw_at lw_m10 163 rfl) rfl
theorem q2425 : (Jvm.Cond.codeWith ({ cls := "SlidingtrayLaw", name := "keep", desc := "(LSlidingtray;I[J)I" } : Jvm.MethodName) method_13_code (4 : Nat) (Option.some Jvm.ClassFile.FieldType.int) [((0 : Nat), (8 : Nat), (11 : Nat), (27 : Nat))]) ∈ lw_all := lw_g (lw_at lw_m10 164 rfl) rfl
theorem q2426 : (Jvm.Cond.methodLink "SlidingtrayLaw" (53 : Nat) ({ cls := "Slidingtray", name := "keep", desc := "(I)J" } : Jvm.MethodName)) ∈ lw_all := lw_g (lw_at lw_m10 165 rfl) rfl
theorem q2444 : (Jvm.Cond.methodLink "SlidingtrayLaw" (157 : Nat) ({ cls := "SlidingtrayLaw", name := "restore", desc := "(LSlidingtray;I[J)I" } : Jvm.MethodName)) ∈ lw_all := lw_g (lw_at lw_m10 183 rfl) rfl
theorem q2445 : (Jvm.Cond.static ({ cls := "SlidingtrayLaw", name := "restore", desc := "(LSlidingtray;I[J)I" } : Jvm.MethodName)) ∈ lw_all := lw_g (lw_at lw_m10 184 rfl) rfl
theorem q2446 : (Jvm.Cond.codeWith ({ cls := "SlidingtrayLaw", name := "restore", desc := "(LSlidingtray;I[J)I" } : Jvm.MethodName) method_14_code (4 : Nat) (Option.some Jvm.ClassFile.FieldType.int) [((0 : Nat), (9 : Nat), (12 : Nat), (27 : Nat)), ((0 : Nat), (9 : Nat), (15 : Nat), (39 : Nat))]) ∈ lw_all := lw_g (lw_at lw_m10 185 rfl) rfl
theorem q2447 : (Jvm.Cond.methodLink "SlidingtrayLaw" (57 : Nat) ({ cls := "Slidingtray", name := "restore", desc := "(I)I" } : Jvm.MethodName)) ∈ lw_all := lw_g (lw_at lw_m10 186 rfl) rfl
theorem q2451 : (Jvm.Cond.methodLink "SlidingtrayLaw" (160 : Nat) ({ cls := "SlidingtrayLaw", name := "tileAt", desc := "(LSlidingtray;I[J)I" } : Jvm.MethodName)) ∈ lw_all := lw_g (lw_at lw_m10 190 rfl) rfl
theorem q2452 : (Jvm.Cond.static ({ cls := "SlidingtrayLaw", name := "tileAt", desc := "(LSlidingtray;I[J)I" } : Jvm.MethodName)) ∈ lw_all := lw_g (lw_at lw_m10 191 rfl) rfl
theorem q2453 : (Jvm.Cond.codeWith ({ cls := "SlidingtrayLaw", name := "tileAt", desc := "(LSlidingtray;I[J)I" } : Jvm.MethodName) method_15_code (4 : Nat) (Option.some Jvm.ClassFile.FieldType.int) [((0 : Nat), (9 : Nat), (12 : Nat), (27 : Nat))]) ∈ lw_all := lw_g (lw_at lw_m10 192 rfl) rfl
theorem q2454 : (Jvm.Cond.methodLink "SlidingtrayLaw" (60 : Nat) ({ cls := "Slidingtray", name := "tileAt", desc := "(I)I" } : Jvm.MethodName)) ∈ lw_all := lw_g (lw_at lw_m10 193 rfl) rfl
theorem q2460 : (Jvm.Cond.methodLink "SlidingtrayLaw" (171 : Nat) ({ cls := "SlidingtrayLaw", name := "reaches", desc := "(LSlidingtray;[J)I" } : Jvm.MethodName)) ∈ lw_all := lw_g (lw_at lw_m10 199 rfl) rfl
theorem q2461 : (Jvm.Cond.static ({ cls := "SlidingtrayLaw", name := "reaches", desc := "(LSlidingtray;[J)I" } : Jvm.MethodName)) ∈ lw_all := lw_g (lw_at lw_m10 200 rfl) rfl
theorem q2462 : (Jvm.Cond.codeWith ({ cls := "SlidingtrayLaw", name := "reaches", desc := "(LSlidingtray;[J)I" } : Jvm.MethodName) method_16_code (3 : Nat) (Option.some Jvm.ClassFile.FieldType.int) [((0 : Nat), (15 : Nat), (18 : Nat), (39 : Nat))]) ∈ lw_all := lw_g (lw_at lw_m10 201 rfl) rfl
theorem q2463 : (Jvm.Cond.methodLink "SlidingtrayLaw" (63 : Nat) ({ cls := "Slidingtray", name := "reaches", desc := "()Z" } : Jvm.MethodName)) ∈ lw_all := lw_g (lw_at lw_m10 202 rfl) rfl
theorem q2471 : (Jvm.Cond.methodLink "SlidingtrayLaw" (175 : Nat) ({ cls := "SlidingtrayLaw", name := "estimate", desc := "(LSlidingtray;I[J)I" } : Jvm.MethodName)) ∈ lw_all := lw_g (lw_at lw_m10 210 rfl) rfl
theorem q2472 : (Jvm.Cond.static ({ cls := "SlidingtrayLaw", name := "estimate", desc := "(LSlidingtray;I[J)I" } : Jvm.MethodName)) ∈ lw_all := lw_g (lw_at lw_m10 211 rfl) rfl
theorem q2473 : (Jvm.Cond.codeWith ({ cls := "SlidingtrayLaw", name := "estimate", desc := "(LSlidingtray;I[J)I" } : Jvm.MethodName) method_17_code (4 : Nat) (Option.some Jvm.ClassFile.FieldType.int) [((0 : Nat), (9 : Nat), (12 : Nat), (13 : Nat))]) ∈ lw_all := lw_g (lw_at lw_m10 212 rfl) rfl
theorem q2474 : (Jvm.Cond.methodLink "SlidingtrayLaw" (67 : Nat) ({ cls := "Slidingtray", name := "estimate", desc := "(I)I" } : Jvm.MethodName)) ∈ lw_all := lw_g (lw_at lw_m10 213 rfl) rfl
theorem q2481 : (Jvm.Cond.methodLink "SlidingtrayLaw" (178 : Nat) ({ cls := "SlidingtrayLaw", name := "solve", desc := "(LSlidingtray;I[J)I" } : Jvm.MethodName)) ∈ lw_all := lw_g (lw_at lw_m10 220 rfl) rfl
theorem q2482 : (Jvm.Cond.static ({ cls := "SlidingtrayLaw", name := "solve", desc := "(LSlidingtray;I[J)I" } : Jvm.MethodName)) ∈ lw_all := lw_g (lw_at lw_m10 221 rfl) rfl
theorem q2483 : (Jvm.Cond.codeWith ({ cls := "SlidingtrayLaw", name := "solve", desc := "(LSlidingtray;I[J)I" } : Jvm.MethodName) method_18_code (4 : Nat) (Option.some Jvm.ClassFile.FieldType.int) [((0 : Nat), (9 : Nat), (12 : Nat), (13 : Nat)), ((0 : Nat), (9 : Nat), (15 : Nat), (39 : Nat))]) ∈ lw_all := lw_g (lw_at lw_m10 222 rfl) rfl
theorem q2484 : (Jvm.Cond.methodLink "SlidingtrayLaw" (70 : Nat) ({ cls := "Slidingtray", name := "solve", desc := "(I)I" } : Jvm.MethodName)) ∈ lw_all := lw_g (lw_at lw_m10 223 rfl) rfl
theorem q2492 : (Jvm.Cond.methodLink "SlidingtrayLaw" (181 : Nat) ({ cls := "SlidingtrayLaw", name := "deepen", desc := "(LSlidingtray;I[J)I" } : Jvm.MethodName)) ∈ lw_all := lw_g (lw_at lw_m10 231 rfl) rfl
theorem q2493 : (Jvm.Cond.static ({ cls := "SlidingtrayLaw", name := "deepen", desc := "(LSlidingtray;I[J)I" } : Jvm.MethodName)) ∈ lw_all := lw_g (lw_at lw_m10 232 rfl) rfl
theorem q2494 : (Jvm.Cond.codeWith ({ cls := "SlidingtrayLaw", name := "deepen", desc := "(LSlidingtray;I[J)I" } : Jvm.MethodName) method_19_code (4 : Nat) (Option.some Jvm.ClassFile.FieldType.int) [((0 : Nat), (9 : Nat), (12 : Nat), (13 : Nat)), ((0 : Nat), (9 : Nat), (15 : Nat), (39 : Nat))]) ∈ lw_all := lw_g (lw_at lw_m10 233 rfl) rfl
theorem q2495 : (Jvm.Cond.methodLink "SlidingtrayLaw" (73 : Nat) ({ cls := "Slidingtray", name := "deepen", desc := "(I)I" } : Jvm.MethodName)) ∈ lw_all := lw_g (lw_at lw_m10 234 rfl) rfl
theorem q2499 : (Jvm.Cond.methodLink "SlidingtrayLaw" (184 : Nat) ({ cls := "SlidingtrayLaw", name := "both", desc := "(LSlidingtray;[J)I" } : Jvm.MethodName)) ∈ lw_all := lw_g (lw_at lw_m10 238 rfl) rfl
theorem q2500 : (Jvm.Cond.static ({ cls := "SlidingtrayLaw", name := "both", desc := "(LSlidingtray;[J)I" } : Jvm.MethodName)) ∈ lw_all := lw_g (lw_at lw_m10 239 rfl) rfl
theorem q2501 : (Jvm.Cond.codeWith ({ cls := "SlidingtrayLaw", name := "both", desc := "(LSlidingtray;[J)I" } : Jvm.MethodName) method_20_code (3 : Nat) (Option.some Jvm.ClassFile.FieldType.int) [((0 : Nat), (8 : Nat), (11 : Nat), (39 : Nat))]) ∈ lw_all := lw_g (lw_at lw_m11 0 rfl) rfl
theorem q2502 : (Jvm.Cond.methodLink "SlidingtrayLaw" (76 : Nat) ({ cls := "Slidingtray", name := "both", desc := "()I" } : Jvm.MethodName)) ∈ lw_all := lw_g (lw_at lw_m11 1 rfl) rfl
theorem q2589 : (Jvm.Cond.methodLink "SlidingtrayLaw" (187 : Nat) ({ cls := "SlidingtrayLaw", name := "searched", desc := "(LSlidingtray;I[J)I" } : Jvm.MethodName)) ∈ lw_all := lw_g (lw_at lw_m11 88 rfl) rfl
theorem q2590 : (Jvm.Cond.static ({ cls := "SlidingtrayLaw", name := "searched", desc := "(LSlidingtray;I[J)I" } : Jvm.MethodName)) ∈ lw_all := lw_g (lw_at lw_m11 89 rfl) rfl
theorem q2591 : (Jvm.Cond.codeWith ({ cls := "SlidingtrayLaw", name := "searched", desc := "(LSlidingtray;I[J)I" } : Jvm.MethodName) method_21_code (4 : Nat) (Option.some Jvm.ClassFile.FieldType.int) [((0 : Nat), (9 : Nat), (12 : Nat), (13 : Nat))]) ∈ lw_all := lw_g (lw_at lw_m11 90 rfl) rfl
theorem q2592 : (Jvm.Cond.methodLink "SlidingtrayLaw" (80 : Nat) ({ cls := "Slidingtray", name := "searched", desc := "(I)I" } : Jvm.MethodName)) ∈ lw_all := lw_g (lw_at lw_m11 91 rfl) rfl
theorem q2596 : (Jvm.Cond.methodLink "SlidingtrayLaw" (190 : Nat) ({ cls := "SlidingtrayLaw", name := "wayAt", desc := "(LSlidingtray;I[J)I" } : Jvm.MethodName)) ∈ lw_all := lw_g (lw_at lw_m11 95 rfl) rfl
theorem q2597 : (Jvm.Cond.static ({ cls := "SlidingtrayLaw", name := "wayAt", desc := "(LSlidingtray;I[J)I" } : Jvm.MethodName)) ∈ lw_all := lw_g (lw_at lw_m11 96 rfl) rfl
theorem q2598 : (Jvm.Cond.codeWith ({ cls := "SlidingtrayLaw", name := "wayAt", desc := "(LSlidingtray;I[J)I" } : Jvm.MethodName) method_22_code (4 : Nat) (Option.some Jvm.ClassFile.FieldType.int) [((0 : Nat), (9 : Nat), (12 : Nat), (51 : Nat))]) ∈ lw_all := lw_g (lw_at lw_m11 97 rfl) rfl
theorem q2599 : (Jvm.Cond.methodLink "SlidingtrayLaw" (83 : Nat) ({ cls := "Slidingtray", name := "wayAt", desc := "(I)I" } : Jvm.MethodName)) ∈ lw_all := lw_g (lw_at lw_m11 98 rfl) rfl
theorem q2603 : (Jvm.Cond.methodLink "SlidingtrayLaw" (193 : Nat) ({ cls := "SlidingtrayLaw", name := "hint", desc := "(LSlidingtray;[J)I" } : Jvm.MethodName)) ∈ lw_all := lw_g (lw_at lw_m11 102 rfl) rfl
theorem q2604 : (Jvm.Cond.static ({ cls := "SlidingtrayLaw", name := "hint", desc := "(LSlidingtray;[J)I" } : Jvm.MethodName)) ∈ lw_all := lw_g (lw_at lw_m11 103 rfl) rfl
theorem q2605 : (Jvm.Cond.codeWith ({ cls := "SlidingtrayLaw", name := "hint", desc := "(LSlidingtray;[J)I" } : Jvm.MethodName) method_23_code (3 : Nat) (Option.some Jvm.ClassFile.FieldType.int) [((0 : Nat), (8 : Nat), (11 : Nat), (39 : Nat))]) ∈ lw_all := lw_g (lw_at lw_m11 104 rfl) rfl
theorem q2606 : (Jvm.Cond.methodLink "SlidingtrayLaw" (86 : Nat) ({ cls := "Slidingtray", name := "hint", desc := "()I" } : Jvm.MethodName)) ∈ lw_all := lw_g (lw_at lw_m11 105 rfl) rfl
theorem q2614 : (Jvm.Cond.methodLink "SlidingtrayLaw" (196 : Nat) ({ cls := "SlidingtrayLaw", name := "far", desc := "(LSlidingtray;I[J)I" } : Jvm.MethodName)) ∈ lw_all := lw_g (lw_at lw_m11 113 rfl) rfl
theorem q2615 : (Jvm.Cond.static ({ cls := "SlidingtrayLaw", name := "far", desc := "(LSlidingtray;I[J)I" } : Jvm.MethodName)) ∈ lw_all := lw_g (lw_at lw_m11 114 rfl) rfl
theorem q2616 : (Jvm.Cond.codeWith ({ cls := "SlidingtrayLaw", name := "far", desc := "(LSlidingtray;I[J)I" } : Jvm.MethodName) method_24_code (4 : Nat) (Option.some Jvm.ClassFile.FieldType.int) [((0 : Nat), (9 : Nat), (12 : Nat), (13 : Nat)), ((0 : Nat), (9 : Nat), (15 : Nat), (39 : Nat))]) ∈ lw_all := lw_g (lw_at lw_m11 115 rfl) rfl
theorem q2617 : (Jvm.Cond.methodLink "SlidingtrayLaw" (89 : Nat) ({ cls := "Slidingtray", name := "far", desc := "(I)I" } : Jvm.MethodName)) ∈ lw_all := lw_g (lw_at lw_m11 116 rfl) rfl
theorem q2635 : (Jvm.Cond.methodLink "SlidingtrayLaw" (199 : Nat) ({ cls := "SlidingtrayLaw", name := "onlyWay", desc := "(LSlidingtray;I[J)I" } : Jvm.MethodName)) ∈ lw_all := lw_g (lw_at lw_m11 134 rfl) rfl
theorem q2636 : (Jvm.Cond.static ({ cls := "SlidingtrayLaw", name := "onlyWay", desc := "(LSlidingtray;I[J)I" } : Jvm.MethodName)) ∈ lw_all := lw_g (lw_at lw_m11 135 rfl) rfl
theorem q2637 : (Jvm.Cond.codeWith ({ cls := "SlidingtrayLaw", name := "onlyWay", desc := "(LSlidingtray;I[J)I" } : Jvm.MethodName) method_25_code (4 : Nat) (Option.some Jvm.ClassFile.FieldType.int) [((0 : Nat), (9 : Nat), (12 : Nat), (13 : Nat)), ((0 : Nat), (9 : Nat), (15 : Nat), (39 : Nat))]) ∈ lw_all := lw_g (lw_at lw_m11 136 rfl) rfl
theorem q2638 : (Jvm.Cond.methodLink "SlidingtrayLaw" (92 : Nat) ({ cls := "Slidingtray", name := "onlyWay", desc := "(I)I" } : Jvm.MethodName)) ∈ lw_all := lw_g (lw_at lw_m11 137 rfl) rfl
theorem q2642 : (Jvm.Cond.methodLink "SlidingtrayLaw" (202 : Nat) ({ cls := "SlidingtrayLaw", name := "isFair", desc := "(LSlidingtray;I[J)I" } : Jvm.MethodName)) ∈ lw_all := lw_g (lw_at lw_m11 141 rfl) rfl
theorem q2643 : (Jvm.Cond.static ({ cls := "SlidingtrayLaw", name := "isFair", desc := "(LSlidingtray;I[J)I" } : Jvm.MethodName)) ∈ lw_all := lw_g (lw_at lw_m11 142 rfl) rfl
theorem q2644 : (Jvm.Cond.codeWith ({ cls := "SlidingtrayLaw", name := "isFair", desc := "(LSlidingtray;I[J)I" } : Jvm.MethodName) method_26_code (4 : Nat) (Option.some Jvm.ClassFile.FieldType.int) [((0 : Nat), (16 : Nat), (19 : Nat), (13 : Nat)), ((0 : Nat), (16 : Nat), (22 : Nat), (39 : Nat))]) ∈ lw_all := lw_g (lw_at lw_m11 143 rfl) rfl
theorem q2645 : (Jvm.Cond.methodLink "SlidingtrayLaw" (95 : Nat) ({ cls := "Slidingtray", name := "isFair", desc := "(I)Z" } : Jvm.MethodName)) ∈ lw_all := lw_g (lw_at lw_m11 144 rfl) rfl
theorem q2655 : (Jvm.Cond.methodLink "SlidingtrayLaw" (205 : Nat) ({ cls := "SlidingtrayLaw", name := "part", desc := "(LSlidingtray;I[J)I" } : Jvm.MethodName)) ∈ lw_all := lw_g (lw_at lw_m11 154 rfl) rfl
theorem q2656 : (Jvm.Cond.static ({ cls := "SlidingtrayLaw", name := "part", desc := "(LSlidingtray;I[J)I" } : Jvm.MethodName)) ∈ lw_all := lw_g (lw_at lw_m11 155 rfl) rfl
theorem q2657 : (Jvm.Cond.codeWith ({ cls := "SlidingtrayLaw", name := "part", desc := "(LSlidingtray;I[J)I" } : Jvm.MethodName) method_27_code (4 : Nat) (Option.some Jvm.ClassFile.FieldType.int) [((0 : Nat), (9 : Nat), (12 : Nat), (13 : Nat)), ((0 : Nat), (9 : Nat), (15 : Nat), (39 : Nat))]) ∈ lw_all := lw_g (lw_at lw_m11 156 rfl) rfl
theorem q2658 : (Jvm.Cond.methodLink "SlidingtrayLaw" (99 : Nat) ({ cls := "Slidingtray", name := "part", desc := "(I)I" } : Jvm.MethodName)) ∈ lw_all := lw_g (lw_at lw_m11 157 rfl) rfl
theorem q2723 : (Jvm.Cond.classLink "SlidingtrayLaw" (103 : Nat) "SlidingtrayModel") ∈ lw_all := lw_g (lw_at lw_m11 222 rfl) rfl
theorem q2725 : (Jvm.Cond.methodLink "SlidingtrayLaw" (105 : Nat) ({ cls := "SlidingtrayModel", name := "<init>", desc := "()V" } : Jvm.MethodName)) ∈ lw_all := lw_g (lw_at lw_m11 224 rfl) rfl
theorem q2946 : (Jvm.Cond.methodLink "SlidingtrayLaw" (112 : Nat) ({ cls := "SlidingtrayModel", name := "thrown", desc := "()I" } : Jvm.MethodName)) ∈ lw_all := lw_g (lw_at lw_m12 205 rfl) rfl
theorem q2950 : (Jvm.Cond.methodLink "SlidingtrayLaw" (111 : Nat) ({ cls := "SlidingtrayModel", name := "tray", desc := "(III)I" } : Jvm.MethodName)) ∈ lw_all := lw_g (lw_at lw_m12 209 rfl) rfl
theorem q2973 : (Jvm.Cond.methodLink "SlidingtrayLaw" (207 : Nat) ({ cls := "SlidingtrayModel", name := "part", desc := "(I)I" } : Jvm.MethodName)) ∈ lw_all := lw_g (lw_at lw_m12 232 rfl) rfl
theorem q3000 : (Jvm.Cond.methodLink "SlidingtrayLaw" (120 : Nat) ({ cls := "SlidingtrayModel", name := "lay", desc := "(J)I" } : Jvm.MethodName)) ∈ lw_all := lw_g (lw_at lw_m13 19 rfl) rfl
theorem q3016 : (Jvm.Cond.methodLink "SlidingtrayLaw" (124 : Nat) ({ cls := "SlidingtrayModel", name := "mix", desc := "(II)I" } : Jvm.MethodName)) ∈ lw_all := lw_g (lw_at lw_m13 35 rfl) rfl
theorem q3025 : (Jvm.Cond.methodLink "SlidingtrayLaw" (129 : Nat) ({ cls := "SlidingtrayModel", name := "setGoal", desc := "()J" } : Jvm.MethodName)) ∈ lw_all := lw_g (lw_at lw_m13 44 rfl) rfl
theorem q3037 : (Jvm.Cond.methodLink "SlidingtrayLaw" (133 : Nat) ({ cls := "SlidingtrayModel", name := "setFree", desc := "(IZ)Z" } : Jvm.MethodName)) ∈ lw_all := lw_g (lw_at lw_m13 56 rfl) rfl
theorem q3049 : (Jvm.Cond.methodLink "SlidingtrayLaw" (136 : Nat) ({ cls := "SlidingtrayModel", name := "setWeight", desc := "(II)I" } : Jvm.MethodName)) ∈ lw_all := lw_g (lw_at lw_m13 68 rfl) rfl
theorem q3053 : (Jvm.Cond.methodLink "SlidingtrayLaw" (140 : Nat) ({ cls := "SlidingtrayModel", name := "setLimit", desc := "(I)I" } : Jvm.MethodName)) ∈ lw_all := lw_g (lw_at lw_m13 72 rfl) rfl
theorem q3057 : (Jvm.Cond.methodLink "SlidingtrayLaw" (143 : Nat) ({ cls := "SlidingtrayModel", name := "move", desc := "(II)I" } : Jvm.MethodName)) ∈ lw_all := lw_g (lw_at lw_m13 76 rfl) rfl
theorem q3065 : (Jvm.Cond.methodLink "SlidingtrayLaw" (146 : Nat) ({ cls := "SlidingtrayModel", name := "undo", desc := "(I)I" } : Jvm.MethodName)) ∈ lw_all := lw_g (lw_at lw_m13 84 rfl) rfl
theorem q3069 : (Jvm.Cond.methodLink "SlidingtrayLaw" (150 : Nat) ({ cls := "SlidingtrayModel", name := "setMacro", desc := "(IJ)I" } : Jvm.MethodName)) ∈ lw_all := lw_g (lw_at lw_m13 88 rfl) rfl
theorem q3077 : (Jvm.Cond.methodLink "SlidingtrayLaw" (153 : Nat) ({ cls := "SlidingtrayModel", name := "play", desc := "(II)I" } : Jvm.MethodName)) ∈ lw_all := lw_g (lw_at lw_m13 96 rfl) rfl
theorem q3081 : (Jvm.Cond.methodLink "SlidingtrayLaw" (156 : Nat) ({ cls := "SlidingtrayModel", name := "keep", desc := "(I)J" } : Jvm.MethodName)) ∈ lw_all := lw_g (lw_at lw_m13 100 rfl) rfl
theorem q3085 : (Jvm.Cond.methodLink "SlidingtrayLaw" (159 : Nat) ({ cls := "SlidingtrayModel", name := "restore", desc := "(I)I" } : Jvm.MethodName)) ∈ lw_all := lw_g (lw_at lw_m13 104 rfl) rfl
theorem q3089 : (Jvm.Cond.methodLink "SlidingtrayLaw" (162 : Nat) ({ cls := "SlidingtrayModel", name := "tileAt", desc := "(I)I" } : Jvm.MethodName)) ∈ lw_all := lw_g (lw_at lw_m13 108 rfl) rfl
theorem q3093 : (Jvm.Cond.methodLink "SlidingtrayLaw" (166 : Nat) ({ cls := "SlidingtrayModel", name := "rank", desc := "()J" } : Jvm.MethodName)) ∈ lw_all := lw_g (lw_at lw_m13 112 rfl) rfl
theorem q3097 : (Jvm.Cond.methodLink "SlidingtrayLaw" (170 : Nat) ({ cls := "SlidingtrayModel", name := "inversions", desc := "()I" } : Jvm.MethodName)) ∈ lw_all := lw_g (lw_at lw_m13 116 rfl) rfl
theorem q3105 : (Jvm.Cond.methodLink "SlidingtrayLaw" (174 : Nat) ({ cls := "SlidingtrayModel", name := "reaches", desc := "()Z" } : Jvm.MethodName)) ∈ lw_all := lw_g (lw_at lw_m13 124 rfl) rfl
theorem q3117 : (Jvm.Cond.methodLink "SlidingtrayLaw" (177 : Nat) ({ cls := "SlidingtrayModel", name := "estimate", desc := "(I)I" } : Jvm.MethodName)) ∈ lw_all := lw_g (lw_at lw_m13 136 rfl) rfl
theorem q3145 : (Jvm.Cond.methodLink "SlidingtrayLaw" (180 : Nat) ({ cls := "SlidingtrayModel", name := "solve", desc := "(I)I" } : Jvm.MethodName)) ∈ lw_all := lw_g (lw_at lw_m13 164 rfl) rfl
theorem q3190 : (Jvm.Cond.methodLink "SlidingtrayLaw" (183 : Nat) ({ cls := "SlidingtrayModel", name := "deepen", desc := "(I)I" } : Jvm.MethodName)) ∈ lw_all := lw_g (lw_at lw_m13 209 rfl) rfl
theorem q3206 : (Jvm.Cond.methodLink "SlidingtrayLaw" (186 : Nat) ({ cls := "SlidingtrayModel", name := "both", desc := "()I" } : Jvm.MethodName)) ∈ lw_all := lw_g (lw_at lw_m13 225 rfl) rfl
theorem q3222 : (Jvm.Cond.methodLink "SlidingtrayLaw" (189 : Nat) ({ cls := "SlidingtrayModel", name := "searched", desc := "(I)I" } : Jvm.MethodName)) ∈ lw_all := lw_g (lw_at lw_m14 1 rfl) rfl
theorem q3226 : (Jvm.Cond.methodLink "SlidingtrayLaw" (192 : Nat) ({ cls := "SlidingtrayModel", name := "wayAt", desc := "(I)I" } : Jvm.MethodName)) ∈ lw_all := lw_g (lw_at lw_m14 5 rfl) rfl
theorem q3230 : (Jvm.Cond.methodLink "SlidingtrayLaw" (195 : Nat) ({ cls := "SlidingtrayModel", name := "hint", desc := "()I" } : Jvm.MethodName)) ∈ lw_all := lw_g (lw_at lw_m14 9 rfl) rfl
theorem q3234 : (Jvm.Cond.methodLink "SlidingtrayLaw" (198 : Nat) ({ cls := "SlidingtrayModel", name := "far", desc := "(I)I" } : Jvm.MethodName)) ∈ lw_all := lw_g (lw_at lw_m14 13 rfl) rfl
theorem q3251 : (Jvm.Cond.methodLink "SlidingtrayLaw" (201 : Nat) ({ cls := "SlidingtrayModel", name := "onlyWay", desc := "(I)I" } : Jvm.MethodName)) ∈ lw_all := lw_g (lw_at lw_m14 30 rfl) rfl
theorem q3255 : (Jvm.Cond.methodLink "SlidingtrayLaw" (204 : Nat) ({ cls := "SlidingtrayModel", name := "isFair", desc := "(I)Z" } : Jvm.MethodName)) ∈ lw_all := lw_g (lw_at lw_m14 34 rfl) rfl
theorem q3263 : (Jvm.Cond.methodLink "SlidingtrayLaw" (212 : Nat) ({ cls := "SlidingtrayModel", name := "meanWeight", desc := "()D" } : Jvm.MethodName)) ∈ lw_all := lw_g (lw_at lw_m14 42 rfl) rfl
theorem q3267 : (Jvm.Cond.methodLink "SlidingtrayLaw" (217 : Nat) ({ cls := "SlidingtrayModel", name := "settled", desc := "()F" } : Jvm.MethodName)) ∈ lw_all := lw_g (lw_at lw_m14 46 rfl) rfl
theorem q3271 : (Jvm.Cond.methodLink "SlidingtrayLaw" (221 : Nat) ({ cls := "SlidingtrayModel", name := "errors", desc := "()I" } : Jvm.MethodName)) ∈ lw_all := lw_g (lw_at lw_m14 50 rfl) rfl
theorem q3279 : (Jvm.Cond.constantLong "SlidingtrayLaw" (115 : Nat) (4294967295 : Int64)) ∈ lw_all := lw_g (lw_at lw_m14 58 rfl) rfl
/-! Slidingtray -/
set_option maxRecDepth 100000
def RX1 : String := "Slidingtray"
def TX1 : u_T := fun k => match k with
  | 0 => ("Slidingtray", "shape", "LSlidingtray$Shape;", false)
  | 1 => ("Slidingtray", "lie", "LSlidingtray$Lie;", false)
  | 2 => ("Slidingtray", "aim", "LSlidingtray$Aim;", false)
  | 3 => ("Slidingtray", "parts", "Ljava/util/List;", true)
  | 4 => ("Slidingtray", "made", "Ljava/util/ArrayDeque;", true)
  | 5 => ("Slidingtray", "macros", "Ljava/util/List;", true)
  | 6 => ("Slidingtray", "images", "[LSlidingtray$Image;", true)
  | 7 => ("Slidingtray", "limit", "I", false)
  | 8 => ("Slidingtray", "found", "LSlidingtray$Found;", false)
  | 9 => ("Slidingtray", "way", "Ljava/util/List;", false)
  | 10 => ("Slidingtray", "lineGoals", "[I", true)
  | _ => ("Slidingtray", "lineWeights", "[I", true)
def tyX1 : Nat → FieldType := fun k => match k with
  | 0 => .object "Slidingtray$Shape"
  | 1 => .object "Slidingtray$Lie"
  | 2 => .object "Slidingtray$Aim"
  | 3 => .object "java/util/List"
  | 4 => .object "java/util/ArrayDeque"
  | 5 => .object "java/util/List"
  | 6 => .array (.object "Slidingtray$Image")
  | 7 => .int
  | 8 => .object "Slidingtray$Found"
  | 9 => .object "java/util/List"
  | 10 => .array .int
  | _ => .array .int
abbrev wsX10 : List Cond := u_ws RX1 TX1 12
theorem nmX1 : ∀ a, a < 12 → ∀ b, b < 12 → a ≠ b → (TX1 a).2.1 ≠ (TX1 b).2.1 := by decide +kernel
theorem tyX1_ok : ∀ k, k < 12 → parseFieldDescriptor (TX1 k).2.2.1 = some (tyX1 k) := by decide +kernel
abbrev cX1_init : ByteArray := prog_1_method_1_code
def yX1_init : MethodName := ⟨RX1, "<init>", "()V"⟩
def dkwX1_init_6 : List UInt8 := [42, 180, 0, 51, 187, 0, 37, 89, 183, 0, 39, 185, 0, 81, 2, 0, 87, 132, 1, 1, 167, 255, 231, 177]
abbrev dktX1_init_6 : List UInt8 := dkwX1_init_6 ++ []
def dkwX1_init_5 : List UInt8 := [181, 0, 71, 42, 7, 188, 10, 181, 0, 74, 42, 7, 188, 10, 181, 0, 78, 3, 60, 27, 7, 162, 0, 26]
abbrev dktX1_init_5 : List UInt8 := dkwX1_init_5 ++ dktX1_init_6
def dkwX1_init_4 : List UInt8 := [181, 0, 60, 42, 187, 0, 64, 89, 183, 0, 66, 181, 0, 67, 42, 187, 0, 37, 89, 183, 0, 39]
abbrev dktX1_init_4 : List UInt8 := dkwX1_init_4 ++ dktX1_init_5
def dkwX1_init_3 : List UInt8 := [187, 0, 37, 89, 183, 0, 39, 181, 0, 51, 42, 5, 189, 0, 54, 181, 0, 56, 42, 17, 1, 244]
abbrev dktX1_init_3 : List UInt8 := dkwX1_init_3 ++ dktX1_init_4
def dkwX1_init_2 : List UInt8 := [187, 0, 37, 89, 183, 0, 39, 181, 0, 40, 42, 187, 0, 44, 89, 183, 0, 46, 181, 0, 47, 42]
abbrev dktX1_init_2 : List UInt8 := dkwX1_init_2 ++ dktX1_init_3
def dkwX1_init_1 : List UInt8 := [184, 0, 18, 181, 0, 24, 42, 187, 0, 28, 89, 42, 180, 0, 24, 183, 0, 30, 181, 0, 33, 42]
abbrev dktX1_init_1 : List UInt8 := dkwX1_init_1 ++ dktX1_init_2
def dkwX1_init_0 : List UInt8 := [42, 183, 0, 1, 42, 187, 0, 7, 89, 6, 6, 3, 183, 0, 9, 181, 0, 12, 42, 42, 180, 0, 12, 9]
abbrev dktX1_init_0 : List UInt8 := dkwX1_init_0 ++ dktX1_init_1
theorem dksX1_init_0 : cX1_init.data.toList.drop 0 = dktX1_init_0 := by decide +kernel
theorem dksX1_init_1 : cX1_init.data.toList.drop 24 = dktX1_init_1 := dk_seg dksX1_init_0 24 rfl rfl
theorem dksX1_init_2 : cX1_init.data.toList.drop 46 = dktX1_init_2 := dk_seg dksX1_init_1 22 rfl rfl
theorem dksX1_init_3 : cX1_init.data.toList.drop 68 = dktX1_init_3 := dk_seg dksX1_init_2 22 rfl rfl
theorem dksX1_init_4 : cX1_init.data.toList.drop 90 = dktX1_init_4 := dk_seg dksX1_init_3 22 rfl rfl
theorem dksX1_init_5 : cX1_init.data.toList.drop 112 = dktX1_init_5 := dk_seg dksX1_init_4 22 rfl rfl
theorem dksX1_init_6 : cX1_init.data.toList.drop 136 = dktX1_init_6 := dk_seg dksX1_init_5 24 rfl rfl
theorem dX1_init_0 : decode cX1_init 0 = .ok (.aload_n 0, 1) := dk_42 (dk_at dksX1_init_0 0 rfl rfl)
theorem dX1_init_1 : decode cX1_init 1 = .ok (.invokespecial 1, 3) := dk_183 0 1 (dk_at dksX1_init_0 1 rfl rfl)
theorem dX1_init_4 : decode cX1_init 4 = .ok (.aload_n 0, 1) := dk_42 (dk_at dksX1_init_0 4 rfl rfl)
theorem dX1_init_5 : decode cX1_init 5 = .ok (.new 7, 3) := dk_187 0 7 (dk_at dksX1_init_0 5 rfl rfl)
theorem dX1_init_8 : decode cX1_init 8 = .ok (.dup, 1) := dk_89 (dk_at dksX1_init_0 8 rfl rfl)
theorem dX1_init_9 : decode cX1_init 9 = .ok (.iconst 3, 1) := dk_6 (dk_at dksX1_init_0 9 rfl rfl)
theorem dX1_init_10 : decode cX1_init 10 = .ok (.iconst 3, 1) := dk_6 (dk_at dksX1_init_0 10 rfl rfl)
theorem dX1_init_11 : decode cX1_init 11 = .ok (.iconst 0, 1) := dk_3 (dk_at dksX1_init_0 11 rfl rfl)
theorem dX1_init_12 : decode cX1_init 12 = .ok (.invokespecial 9, 3) := dk_183 0 9 (dk_at dksX1_init_0 12 rfl rfl)
theorem dX1_init_15 : decode cX1_init 15 = .ok (.putfield 12, 3) := dk_181 0 12 (dk_at dksX1_init_0 15 rfl rfl)
theorem dX1_init_18 : decode cX1_init 18 = .ok (.aload_n 0, 1) := dk_42 (dk_at dksX1_init_0 18 rfl rfl)
theorem dX1_init_19 : decode cX1_init 19 = .ok (.aload_n 0, 1) := dk_42 (dk_at dksX1_init_0 19 rfl rfl)
theorem dX1_init_20 : decode cX1_init 20 = .ok (.getfield 12, 3) := dk_180 0 12 (dk_at dksX1_init_0 20 rfl rfl)
theorem dX1_init_23 : decode cX1_init 23 = .ok (.lconst 0, 1) := dk_9 (dk_at dksX1_init_0 23 rfl rfl)
theorem dX1_init_24 : decode cX1_init 24 = .ok (.invokestatic 18, 3) := dk_184 0 18 (dk_at dksX1_init_1 0 rfl rfl)
theorem dX1_init_27 : decode cX1_init 27 = .ok (.putfield 24, 3) := dk_181 0 24 (dk_at dksX1_init_1 3 rfl rfl)
theorem dX1_init_30 : decode cX1_init 30 = .ok (.aload_n 0, 1) := dk_42 (dk_at dksX1_init_1 6 rfl rfl)
theorem dX1_init_31 : decode cX1_init 31 = .ok (.new 28, 3) := dk_187 0 28 (dk_at dksX1_init_1 7 rfl rfl)
theorem dX1_init_34 : decode cX1_init 34 = .ok (.dup, 1) := dk_89 (dk_at dksX1_init_1 10 rfl rfl)
theorem dX1_init_35 : decode cX1_init 35 = .ok (.aload_n 0, 1) := dk_42 (dk_at dksX1_init_1 11 rfl rfl)
theorem dX1_init_36 : decode cX1_init 36 = .ok (.getfield 24, 3) := dk_180 0 24 (dk_at dksX1_init_1 12 rfl rfl)
theorem dX1_init_39 : decode cX1_init 39 = .ok (.invokespecial 30, 3) := dk_183 0 30 (dk_at dksX1_init_1 15 rfl rfl)
theorem dX1_init_42 : decode cX1_init 42 = .ok (.putfield 33, 3) := dk_181 0 33 (dk_at dksX1_init_1 18 rfl rfl)
theorem dX1_init_45 : decode cX1_init 45 = .ok (.aload_n 0, 1) := dk_42 (dk_at dksX1_init_1 21 rfl rfl)
theorem dX1_init_46 : decode cX1_init 46 = .ok (.new 37, 3) := dk_187 0 37 (dk_at dksX1_init_2 0 rfl rfl)
theorem dX1_init_49 : decode cX1_init 49 = .ok (.dup, 1) := dk_89 (dk_at dksX1_init_2 3 rfl rfl)
theorem dX1_init_50 : decode cX1_init 50 = .ok (.invokespecial 39, 3) := dk_183 0 39 (dk_at dksX1_init_2 4 rfl rfl)
theorem dX1_init_53 : decode cX1_init 53 = .ok (.putfield 40, 3) := dk_181 0 40 (dk_at dksX1_init_2 7 rfl rfl)
theorem dX1_init_56 : decode cX1_init 56 = .ok (.aload_n 0, 1) := dk_42 (dk_at dksX1_init_2 10 rfl rfl)
theorem dX1_init_57 : decode cX1_init 57 = .ok (.new 44, 3) := dk_187 0 44 (dk_at dksX1_init_2 11 rfl rfl)
theorem dX1_init_60 : decode cX1_init 60 = .ok (.dup, 1) := dk_89 (dk_at dksX1_init_2 14 rfl rfl)
theorem dX1_init_61 : decode cX1_init 61 = .ok (.invokespecial 46, 3) := dk_183 0 46 (dk_at dksX1_init_2 15 rfl rfl)
theorem dX1_init_64 : decode cX1_init 64 = .ok (.putfield 47, 3) := dk_181 0 47 (dk_at dksX1_init_2 18 rfl rfl)
theorem dX1_init_67 : decode cX1_init 67 = .ok (.aload_n 0, 1) := dk_42 (dk_at dksX1_init_2 21 rfl rfl)
theorem dX1_init_68 : decode cX1_init 68 = .ok (.new 37, 3) := dk_187 0 37 (dk_at dksX1_init_3 0 rfl rfl)
theorem dX1_init_71 : decode cX1_init 71 = .ok (.dup, 1) := dk_89 (dk_at dksX1_init_3 3 rfl rfl)
theorem dX1_init_72 : decode cX1_init 72 = .ok (.invokespecial 39, 3) := dk_183 0 39 (dk_at dksX1_init_3 4 rfl rfl)
theorem dX1_init_75 : decode cX1_init 75 = .ok (.putfield 51, 3) := dk_181 0 51 (dk_at dksX1_init_3 7 rfl rfl)
theorem dX1_init_78 : decode cX1_init 78 = .ok (.aload_n 0, 1) := dk_42 (dk_at dksX1_init_3 10 rfl rfl)
theorem dX1_init_79 : decode cX1_init 79 = .ok (.iconst 2, 1) := dk_5 (dk_at dksX1_init_3 11 rfl rfl)
theorem dX1_init_80 : decode cX1_init 80 = .ok (.anewarray 54, 3) := dk_189 0 54 (dk_at dksX1_init_3 12 rfl rfl)
theorem dX1_init_83 : decode cX1_init 83 = .ok (.putfield 56, 3) := dk_181 0 56 (dk_at dksX1_init_3 15 rfl rfl)
theorem dX1_init_86 : decode cX1_init 86 = .ok (.aload_n 0, 1) := dk_42 (dk_at dksX1_init_3 18 rfl rfl)
theorem dX1_init_87 : decode cX1_init 87 = .ok (.sipush 500, 3) := dk_17 1 244 (dk_at dksX1_init_3 19 rfl rfl)
theorem dX1_init_90 : decode cX1_init 90 = .ok (.putfield 60, 3) := dk_181 0 60 (dk_at dksX1_init_4 0 rfl rfl)
theorem dX1_init_93 : decode cX1_init 93 = .ok (.aload_n 0, 1) := dk_42 (dk_at dksX1_init_4 3 rfl rfl)
theorem dX1_init_94 : decode cX1_init 94 = .ok (.new 64, 3) := dk_187 0 64 (dk_at dksX1_init_4 4 rfl rfl)
theorem dX1_init_97 : decode cX1_init 97 = .ok (.dup, 1) := dk_89 (dk_at dksX1_init_4 7 rfl rfl)
theorem dX1_init_98 : decode cX1_init 98 = .ok (.invokespecial 66, 3) := dk_183 0 66 (dk_at dksX1_init_4 8 rfl rfl)
theorem dX1_init_101 : decode cX1_init 101 = .ok (.putfield 67, 3) := dk_181 0 67 (dk_at dksX1_init_4 11 rfl rfl)
theorem dX1_init_104 : decode cX1_init 104 = .ok (.aload_n 0, 1) := dk_42 (dk_at dksX1_init_4 14 rfl rfl)
theorem dX1_init_105 : decode cX1_init 105 = .ok (.new 37, 3) := dk_187 0 37 (dk_at dksX1_init_4 15 rfl rfl)
theorem dX1_init_108 : decode cX1_init 108 = .ok (.dup, 1) := dk_89 (dk_at dksX1_init_4 18 rfl rfl)
theorem dX1_init_109 : decode cX1_init 109 = .ok (.invokespecial 39, 3) := dk_183 0 39 (dk_at dksX1_init_4 19 rfl rfl)
theorem dX1_init_112 : decode cX1_init 112 = .ok (.putfield 71, 3) := dk_181 0 71 (dk_at dksX1_init_5 0 rfl rfl)
theorem dX1_init_115 : decode cX1_init 115 = .ok (.aload_n 0, 1) := dk_42 (dk_at dksX1_init_5 3 rfl rfl)
theorem dX1_init_116 : decode cX1_init 116 = .ok (.iconst 4, 1) := dk_7 (dk_at dksX1_init_5 4 rfl rfl)
theorem dX1_init_117 : decode cX1_init 117 = .ok (.newarray .int, 2) := dk_188_10 (dk_at dksX1_init_5 5 rfl rfl)
theorem dX1_init_119 : decode cX1_init 119 = .ok (.putfield 74, 3) := dk_181 0 74 (dk_at dksX1_init_5 7 rfl rfl)
theorem dX1_init_122 : decode cX1_init 122 = .ok (.aload_n 0, 1) := dk_42 (dk_at dksX1_init_5 10 rfl rfl)
theorem dX1_init_123 : decode cX1_init 123 = .ok (.iconst 4, 1) := dk_7 (dk_at dksX1_init_5 11 rfl rfl)
theorem dX1_init_124 : decode cX1_init 124 = .ok (.newarray .int, 2) := dk_188_10 (dk_at dksX1_init_5 12 rfl rfl)
theorem dX1_init_126 : decode cX1_init 126 = .ok (.putfield 78, 3) := dk_181 0 78 (dk_at dksX1_init_5 14 rfl rfl)
theorem dX1_init_129 : decode cX1_init 129 = .ok (.iconst 0, 1) := dk_3 (dk_at dksX1_init_5 17 rfl rfl)
theorem dX1_init_130 : decode cX1_init 130 = .ok (.istore_n 1, 1) := dk_60 (dk_at dksX1_init_5 18 rfl rfl)
theorem dX1_init_131 : decode cX1_init 131 = .ok (.iload_n 1, 1) := dk_27 (dk_at dksX1_init_5 19 rfl rfl)
theorem dX1_init_132 : decode cX1_init 132 = .ok (.iconst 4, 1) := dk_7 (dk_at dksX1_init_5 20 rfl rfl)
theorem dX1_init_133 : decode cX1_init 133 = .ok (.if_icmp .ge 26, 3) := dk_162 0 26 (dk_at dksX1_init_5 21 rfl rfl)
theorem dX1_init_136 : decode cX1_init 136 = .ok (.aload_n 0, 1) := dk_42 (dk_at dksX1_init_6 0 rfl rfl)
theorem dX1_init_137 : decode cX1_init 137 = .ok (.getfield 51, 3) := dk_180 0 51 (dk_at dksX1_init_6 1 rfl rfl)
theorem dX1_init_140 : decode cX1_init 140 = .ok (.new 37, 3) := dk_187 0 37 (dk_at dksX1_init_6 4 rfl rfl)
theorem dX1_init_143 : decode cX1_init 143 = .ok (.dup, 1) := dk_89 (dk_at dksX1_init_6 7 rfl rfl)
theorem dX1_init_144 : decode cX1_init 144 = .ok (.invokespecial 39, 3) := dk_183 0 39 (dk_at dksX1_init_6 8 rfl rfl)
theorem dX1_init_147 : decode cX1_init 147 = .ok (.invokeinterface 81 2, 5) := by decide +kernel
theorem dX1_init_152 : decode cX1_init 152 = .ok (.pop, 1) := dk_87 (dk_at dksX1_init_6 16 rfl rfl)
theorem dX1_init_153 : decode cX1_init 153 = .ok (.iinc 1 1, 3) := dk_132 1 1 (dk_at dksX1_init_6 17 rfl rfl)
theorem dX1_init_156 : decode cX1_init 156 = .ok (.goto (-25), 3) := dk_167 255 231 (dk_at dksX1_init_6 20 rfl rfl)
theorem dX1_init_159 : decode cX1_init 159 = .ok (.return_, 1) := dk_177 (dk_at dksX1_init_6 23 rfl rfl)
abbrev cX1_setGoal : ByteArray := prog_1_method_11_code
def yX1_setGoal : MethodName := ⟨RX1, "setGoal", "()J"⟩
def dkwX1_setGoal_1 : List UInt8 := [42, 180, 0, 24, 182, 0, 169, 173]
abbrev dktX1_setGoal_1 : List UInt8 := dkwX1_setGoal_1 ++ []
def dkwX1_setGoal_0 : List UInt8 := [42, 42, 180, 0, 33, 42, 180, 0, 24, 182, 0, 165, 181, 0, 33, 42, 180, 0, 40, 185, 0, 114, 1, 0]
abbrev dktX1_setGoal_0 : List UInt8 := dkwX1_setGoal_0 ++ dktX1_setGoal_1
theorem dksX1_setGoal_0 : cX1_setGoal.data.toList.drop 0 = dktX1_setGoal_0 := by decide +kernel
theorem dksX1_setGoal_1 : cX1_setGoal.data.toList.drop 24 = dktX1_setGoal_1 := dk_seg dksX1_setGoal_0 24 rfl rfl
theorem dX1_setGoal_0 : decode cX1_setGoal 0 = .ok (.aload_n 0, 1) := dk_42 (dk_at dksX1_setGoal_0 0 rfl rfl)
theorem dX1_setGoal_1 : decode cX1_setGoal 1 = .ok (.aload_n 0, 1) := dk_42 (dk_at dksX1_setGoal_0 1 rfl rfl)
theorem dX1_setGoal_2 : decode cX1_setGoal 2 = .ok (.getfield 33, 3) := dk_180 0 33 (dk_at dksX1_setGoal_0 2 rfl rfl)
theorem dX1_setGoal_5 : decode cX1_setGoal 5 = .ok (.aload_n 0, 1) := dk_42 (dk_at dksX1_setGoal_0 5 rfl rfl)
theorem dX1_setGoal_6 : decode cX1_setGoal 6 = .ok (.getfield 24, 3) := dk_180 0 24 (dk_at dksX1_setGoal_0 6 rfl rfl)
theorem dX1_setGoal_9 : decode cX1_setGoal 9 = .ok (.invokevirtual 165, 3) := dk_182 0 165 (dk_at dksX1_setGoal_0 9 rfl rfl)
theorem dX1_setGoal_12 : decode cX1_setGoal 12 = .ok (.putfield 33, 3) := dk_181 0 33 (dk_at dksX1_setGoal_0 12 rfl rfl)
theorem dX1_setGoal_15 : decode cX1_setGoal 15 = .ok (.aload_n 0, 1) := dk_42 (dk_at dksX1_setGoal_0 15 rfl rfl)
theorem dX1_setGoal_16 : decode cX1_setGoal 16 = .ok (.getfield 40, 3) := dk_180 0 40 (dk_at dksX1_setGoal_0 16 rfl rfl)
theorem dX1_setGoal_19 : decode cX1_setGoal 19 = .ok (.invokeinterface 114 1, 5) := by decide +kernel
theorem dX1_setGoal_24 : decode cX1_setGoal 24 = .ok (.aload_n 0, 1) := dk_42 (dk_at dksX1_setGoal_1 0 rfl rfl)
theorem dX1_setGoal_25 : decode cX1_setGoal 25 = .ok (.getfield 24, 3) := dk_180 0 24 (dk_at dksX1_setGoal_1 1 rfl rfl)
theorem dX1_setGoal_28 : decode cX1_setGoal 28 = .ok (.invokevirtual 169, 3) := dk_182 0 169 (dk_at dksX1_setGoal_1 4 rfl rfl)
theorem dX1_setGoal_31 : decode cX1_setGoal 31 = .ok (.lreturn, 1) := dk_173 (dk_at dksX1_setGoal_1 7 rfl rfl)
abbrev cX1_rank : ByteArray := prog_1_method_24_code
def yX1_rank : MethodName := ⟨RX1, "rank", "()J"⟩
def dkwX1_rank_0 : List UInt8 := [42, 180, 0, 24, 182, 0, 169, 173]
abbrev dktX1_rank_0 : List UInt8 := dkwX1_rank_0 ++ []
theorem dksX1_rank_0 : cX1_rank.data.toList.drop 0 = dktX1_rank_0 := by decide +kernel
theorem dX1_rank_0 : decode cX1_rank 0 = .ok (.aload_n 0, 1) := dk_42 (dk_at dksX1_rank_0 0 rfl rfl)
theorem dX1_rank_1 : decode cX1_rank 1 = .ok (.getfield 24, 3) := dk_180 0 24 (dk_at dksX1_rank_0 1 rfl rfl)
theorem dX1_rank_4 : decode cX1_rank 4 = .ok (.invokevirtual 169, 3) := dk_182 0 169 (dk_at dksX1_rank_0 4 rfl rfl)
theorem dX1_rank_7 : decode cX1_rank 7 = .ok (.lreturn, 1) := dk_173 (dk_at dksX1_rank_0 7 rfl rfl)
abbrev cX1_inversions : ByteArray := prog_1_method_25_code
def yX1_inversions : MethodName := ⟨RX1, "inversions", "()I"⟩
def dkwX1_inversions_0 : List UInt8 := [42, 180, 0, 24, 182, 0, 250, 172]
abbrev dktX1_inversions_0 : List UInt8 := dkwX1_inversions_0 ++ []
theorem dksX1_inversions_0 : cX1_inversions.data.toList.drop 0 = dktX1_inversions_0 := by decide +kernel
theorem dX1_inversions_0 : decode cX1_inversions 0 = .ok (.aload_n 0, 1) := dk_42 (dk_at dksX1_inversions_0 0 rfl rfl)
theorem dX1_inversions_1 : decode cX1_inversions 1 = .ok (.getfield 24, 3) := dk_180 0 24 (dk_at dksX1_inversions_0 1 rfl rfl)
theorem dX1_inversions_4 : decode cX1_inversions 4 = .ok (.invokevirtual 250, 3) := dk_182 0 250 (dk_at dksX1_inversions_0 4 rfl rfl)
theorem dX1_inversions_7 : decode cX1_inversions 7 = .ok (.ireturn, 1) := dk_172 (dk_at dksX1_inversions_0 7 rfl rfl)
abbrev cX1_meanWeight : ByteArray := prog_1_method_49_code
def yX1_meanWeight : MethodName := ⟨RX1, "meanWeight", "()D"⟩
def dkwX1_meanWeight_1 : List UInt8 := [46, 96, 60, 132, 2, 1, 167, 255, 230, 27, 135, 42, 180, 0, 12, 182, 0, 100, 4, 100, 135, 111, 175]
abbrev dktX1_meanWeight_1 : List UInt8 := dkwX1_meanWeight_1 ++ []
def dkwX1_meanWeight_0 : List UInt8 := [3, 60, 4, 61, 28, 42, 180, 0, 12, 182, 0, 100, 162, 0, 21, 27, 42, 180, 0, 33, 180, 0, 188, 28]
abbrev dktX1_meanWeight_0 : List UInt8 := dkwX1_meanWeight_0 ++ dktX1_meanWeight_1
theorem dksX1_meanWeight_0 : cX1_meanWeight.data.toList.drop 0 = dktX1_meanWeight_0 := by decide +kernel
theorem dksX1_meanWeight_1 : cX1_meanWeight.data.toList.drop 24 = dktX1_meanWeight_1 := dk_seg dksX1_meanWeight_0 24 rfl rfl
theorem dX1_meanWeight_0 : decode cX1_meanWeight 0 = .ok (.iconst 0, 1) := dk_3 (dk_at dksX1_meanWeight_0 0 rfl rfl)
theorem dX1_meanWeight_1 : decode cX1_meanWeight 1 = .ok (.istore_n 1, 1) := dk_60 (dk_at dksX1_meanWeight_0 1 rfl rfl)
theorem dX1_meanWeight_2 : decode cX1_meanWeight 2 = .ok (.iconst 1, 1) := dk_4 (dk_at dksX1_meanWeight_0 2 rfl rfl)
theorem dX1_meanWeight_3 : decode cX1_meanWeight 3 = .ok (.istore_n 2, 1) := dk_61 (dk_at dksX1_meanWeight_0 3 rfl rfl)
theorem dX1_meanWeight_4 : decode cX1_meanWeight 4 = .ok (.iload_n 2, 1) := dk_28 (dk_at dksX1_meanWeight_0 4 rfl rfl)
theorem dX1_meanWeight_5 : decode cX1_meanWeight 5 = .ok (.aload_n 0, 1) := dk_42 (dk_at dksX1_meanWeight_0 5 rfl rfl)
theorem dX1_meanWeight_6 : decode cX1_meanWeight 6 = .ok (.getfield 12, 3) := dk_180 0 12 (dk_at dksX1_meanWeight_0 6 rfl rfl)
theorem dX1_meanWeight_9 : decode cX1_meanWeight 9 = .ok (.invokevirtual 100, 3) := dk_182 0 100 (dk_at dksX1_meanWeight_0 9 rfl rfl)
theorem dX1_meanWeight_12 : decode cX1_meanWeight 12 = .ok (.if_icmp .ge 21, 3) := dk_162 0 21 (dk_at dksX1_meanWeight_0 12 rfl rfl)
theorem dX1_meanWeight_15 : decode cX1_meanWeight 15 = .ok (.iload_n 1, 1) := dk_27 (dk_at dksX1_meanWeight_0 15 rfl rfl)
theorem dX1_meanWeight_16 : decode cX1_meanWeight 16 = .ok (.aload_n 0, 1) := dk_42 (dk_at dksX1_meanWeight_0 16 rfl rfl)
theorem dX1_meanWeight_17 : decode cX1_meanWeight 17 = .ok (.getfield 33, 3) := dk_180 0 33 (dk_at dksX1_meanWeight_0 17 rfl rfl)
theorem dX1_meanWeight_20 : decode cX1_meanWeight 20 = .ok (.getfield 188, 3) := dk_180 0 188 (dk_at dksX1_meanWeight_0 20 rfl rfl)
theorem dX1_meanWeight_23 : decode cX1_meanWeight 23 = .ok (.iload_n 2, 1) := dk_28 (dk_at dksX1_meanWeight_0 23 rfl rfl)
theorem dX1_meanWeight_24 : decode cX1_meanWeight 24 = .ok (.iaload, 1) := dk_46 (dk_at dksX1_meanWeight_1 0 rfl rfl)
theorem dX1_meanWeight_25 : decode cX1_meanWeight 25 = .ok (.iadd, 1) := dk_96 (dk_at dksX1_meanWeight_1 1 rfl rfl)
theorem dX1_meanWeight_26 : decode cX1_meanWeight 26 = .ok (.istore_n 1, 1) := dk_60 (dk_at dksX1_meanWeight_1 2 rfl rfl)
theorem dX1_meanWeight_27 : decode cX1_meanWeight 27 = .ok (.iinc 2 1, 3) := dk_132 2 1 (dk_at dksX1_meanWeight_1 3 rfl rfl)
theorem dX1_meanWeight_30 : decode cX1_meanWeight 30 = .ok (.goto (-26), 3) := dk_167 255 230 (dk_at dksX1_meanWeight_1 6 rfl rfl)
theorem dX1_meanWeight_33 : decode cX1_meanWeight 33 = .ok (.iload_n 1, 1) := dk_27 (dk_at dksX1_meanWeight_1 9 rfl rfl)
theorem dX1_meanWeight_34 : decode cX1_meanWeight 34 = .ok (.i2d, 1) := dk_135 (dk_at dksX1_meanWeight_1 10 rfl rfl)
theorem dX1_meanWeight_35 : decode cX1_meanWeight 35 = .ok (.aload_n 0, 1) := dk_42 (dk_at dksX1_meanWeight_1 11 rfl rfl)
theorem dX1_meanWeight_36 : decode cX1_meanWeight 36 = .ok (.getfield 12, 3) := dk_180 0 12 (dk_at dksX1_meanWeight_1 12 rfl rfl)
theorem dX1_meanWeight_39 : decode cX1_meanWeight 39 = .ok (.invokevirtual 100, 3) := dk_182 0 100 (dk_at dksX1_meanWeight_1 15 rfl rfl)
theorem dX1_meanWeight_42 : decode cX1_meanWeight 42 = .ok (.iconst 1, 1) := dk_4 (dk_at dksX1_meanWeight_1 18 rfl rfl)
theorem dX1_meanWeight_43 : decode cX1_meanWeight 43 = .ok (.isub, 1) := dk_100 (dk_at dksX1_meanWeight_1 19 rfl rfl)
theorem dX1_meanWeight_44 : decode cX1_meanWeight 44 = .ok (.i2d, 1) := dk_135 (dk_at dksX1_meanWeight_1 20 rfl rfl)
theorem dX1_meanWeight_45 : decode cX1_meanWeight 45 = .ok (.ddiv, 1) := dk_111 (dk_at dksX1_meanWeight_1 21 rfl rfl)
theorem dX1_meanWeight_46 : decode cX1_meanWeight 46 = .ok (.dreturn, 1) := dk_175 (dk_at dksX1_meanWeight_1 22 rfl rfl)
abbrev cX1_settled : ByteArray := prog_1_method_50_code
def yX1_settled : MethodName := ⟨RX1, "settled", "()F"⟩
def dkwX1_settled_4 : List UInt8 := [28, 134, 27, 134, 110, 174]
abbrev dktX1_settled_4 : List UInt8 := dkwX1_settled_4 ++ []
def dkwX1_settled_3 : List UInt8 := [160, 0, 7, 4, 167, 0, 4, 3, 96, 61, 132, 3, 1, 167, 255, 177, 27, 154, 0, 7, 11, 167, 0, 8]
abbrev dktX1_settled_3 : List UInt8 := dkwX1_settled_3 ++ dktX1_settled_4
def dkwX1_settled_2 : List UInt8 := [28, 42, 180, 0, 33, 21, 4, 182, 1, 2, 153, 0, 21, 42, 180, 0, 33, 180, 1, 5, 21, 4, 46, 29]
abbrev dktX1_settled_2 : List UInt8 := dkwX1_settled_2 ++ dktX1_settled_3
def dkwX1_settled_1 : List UInt8 := [29, 46, 54, 4, 27, 42, 180, 0, 33, 21, 4, 182, 1, 2, 153, 0, 7, 4, 167, 0, 4, 3, 96, 60]
abbrev dktX1_settled_1 : List UInt8 := dkwX1_settled_1 ++ dktX1_settled_2
def dkwX1_settled_0 : List UInt8 := [3, 60, 3, 61, 3, 62, 29, 42, 180, 0, 12, 182, 0, 100, 162, 0, 74, 42, 180, 0, 24, 180, 0, 247]
abbrev dktX1_settled_0 : List UInt8 := dkwX1_settled_0 ++ dktX1_settled_1
theorem dksX1_settled_0 : cX1_settled.data.toList.drop 0 = dktX1_settled_0 := by decide +kernel
theorem dksX1_settled_1 : cX1_settled.data.toList.drop 24 = dktX1_settled_1 := dk_seg dksX1_settled_0 24 rfl rfl
theorem dksX1_settled_2 : cX1_settled.data.toList.drop 48 = dktX1_settled_2 := dk_seg dksX1_settled_1 24 rfl rfl
theorem dksX1_settled_3 : cX1_settled.data.toList.drop 72 = dktX1_settled_3 := dk_seg dksX1_settled_2 24 rfl rfl
theorem dksX1_settled_4 : cX1_settled.data.toList.drop 96 = dktX1_settled_4 := dk_seg dksX1_settled_3 24 rfl rfl
theorem dX1_settled_0 : decode cX1_settled 0 = .ok (.iconst 0, 1) := dk_3 (dk_at dksX1_settled_0 0 rfl rfl)
theorem dX1_settled_1 : decode cX1_settled 1 = .ok (.istore_n 1, 1) := dk_60 (dk_at dksX1_settled_0 1 rfl rfl)
theorem dX1_settled_2 : decode cX1_settled 2 = .ok (.iconst 0, 1) := dk_3 (dk_at dksX1_settled_0 2 rfl rfl)
theorem dX1_settled_3 : decode cX1_settled 3 = .ok (.istore_n 2, 1) := dk_61 (dk_at dksX1_settled_0 3 rfl rfl)
theorem dX1_settled_4 : decode cX1_settled 4 = .ok (.iconst 0, 1) := dk_3 (dk_at dksX1_settled_0 4 rfl rfl)
theorem dX1_settled_5 : decode cX1_settled 5 = .ok (.istore_n 3, 1) := dk_62 (dk_at dksX1_settled_0 5 rfl rfl)
theorem dX1_settled_6 : decode cX1_settled 6 = .ok (.iload_n 3, 1) := dk_29 (dk_at dksX1_settled_0 6 rfl rfl)
theorem dX1_settled_7 : decode cX1_settled 7 = .ok (.aload_n 0, 1) := dk_42 (dk_at dksX1_settled_0 7 rfl rfl)
theorem dX1_settled_8 : decode cX1_settled 8 = .ok (.getfield 12, 3) := dk_180 0 12 (dk_at dksX1_settled_0 8 rfl rfl)
theorem dX1_settled_11 : decode cX1_settled 11 = .ok (.invokevirtual 100, 3) := dk_182 0 100 (dk_at dksX1_settled_0 11 rfl rfl)
theorem dX1_settled_14 : decode cX1_settled 14 = .ok (.if_icmp .ge 74, 3) := dk_162 0 74 (dk_at dksX1_settled_0 14 rfl rfl)
theorem dX1_settled_17 : decode cX1_settled 17 = .ok (.aload_n 0, 1) := dk_42 (dk_at dksX1_settled_0 17 rfl rfl)
theorem dX1_settled_18 : decode cX1_settled 18 = .ok (.getfield 24, 3) := dk_180 0 24 (dk_at dksX1_settled_0 18 rfl rfl)
theorem dX1_settled_21 : decode cX1_settled 21 = .ok (.getfield 247, 3) := dk_180 0 247 (dk_at dksX1_settled_0 21 rfl rfl)
theorem dX1_settled_24 : decode cX1_settled 24 = .ok (.iload_n 3, 1) := dk_29 (dk_at dksX1_settled_1 0 rfl rfl)
theorem dX1_settled_25 : decode cX1_settled 25 = .ok (.iaload, 1) := dk_46 (dk_at dksX1_settled_1 1 rfl rfl)
theorem dX1_settled_26 : decode cX1_settled 26 = .ok (.istore 4, 2) := dk_54 4 (dk_at dksX1_settled_1 2 rfl rfl)
theorem dX1_settled_28 : decode cX1_settled 28 = .ok (.iload_n 1, 1) := dk_27 (dk_at dksX1_settled_1 4 rfl rfl)
theorem dX1_settled_29 : decode cX1_settled 29 = .ok (.aload_n 0, 1) := dk_42 (dk_at dksX1_settled_1 5 rfl rfl)
theorem dX1_settled_30 : decode cX1_settled 30 = .ok (.getfield 33, 3) := dk_180 0 33 (dk_at dksX1_settled_1 6 rfl rfl)
theorem dX1_settled_33 : decode cX1_settled 33 = .ok (.iload 4, 2) := dk_21 4 (dk_at dksX1_settled_1 9 rfl rfl)
theorem dX1_settled_35 : decode cX1_settled 35 = .ok (.invokevirtual 258, 3) := dk_182 1 2 (dk_at dksX1_settled_1 11 rfl rfl)
theorem dX1_settled_38 : decode cX1_settled 38 = .ok (.ifCond .eq 7, 3) := dk_153 0 7 (dk_at dksX1_settled_1 14 rfl rfl)
theorem dX1_settled_41 : decode cX1_settled 41 = .ok (.iconst 1, 1) := dk_4 (dk_at dksX1_settled_1 17 rfl rfl)
theorem dX1_settled_42 : decode cX1_settled 42 = .ok (.goto 4, 3) := dk_167 0 4 (dk_at dksX1_settled_1 18 rfl rfl)
theorem dX1_settled_45 : decode cX1_settled 45 = .ok (.iconst 0, 1) := dk_3 (dk_at dksX1_settled_1 21 rfl rfl)
theorem dX1_settled_46 : decode cX1_settled 46 = .ok (.iadd, 1) := dk_96 (dk_at dksX1_settled_1 22 rfl rfl)
theorem dX1_settled_47 : decode cX1_settled 47 = .ok (.istore_n 1, 1) := dk_60 (dk_at dksX1_settled_1 23 rfl rfl)
theorem dX1_settled_48 : decode cX1_settled 48 = .ok (.iload_n 2, 1) := dk_28 (dk_at dksX1_settled_2 0 rfl rfl)
theorem dX1_settled_49 : decode cX1_settled 49 = .ok (.aload_n 0, 1) := dk_42 (dk_at dksX1_settled_2 1 rfl rfl)
theorem dX1_settled_50 : decode cX1_settled 50 = .ok (.getfield 33, 3) := dk_180 0 33 (dk_at dksX1_settled_2 2 rfl rfl)
theorem dX1_settled_53 : decode cX1_settled 53 = .ok (.iload 4, 2) := dk_21 4 (dk_at dksX1_settled_2 5 rfl rfl)
theorem dX1_settled_55 : decode cX1_settled 55 = .ok (.invokevirtual 258, 3) := dk_182 1 2 (dk_at dksX1_settled_2 7 rfl rfl)
theorem dX1_settled_58 : decode cX1_settled 58 = .ok (.ifCond .eq 21, 3) := dk_153 0 21 (dk_at dksX1_settled_2 10 rfl rfl)
theorem dX1_settled_61 : decode cX1_settled 61 = .ok (.aload_n 0, 1) := dk_42 (dk_at dksX1_settled_2 13 rfl rfl)
theorem dX1_settled_62 : decode cX1_settled 62 = .ok (.getfield 33, 3) := dk_180 0 33 (dk_at dksX1_settled_2 14 rfl rfl)
theorem dX1_settled_65 : decode cX1_settled 65 = .ok (.getfield 261, 3) := dk_180 1 5 (dk_at dksX1_settled_2 17 rfl rfl)
theorem dX1_settled_68 : decode cX1_settled 68 = .ok (.iload 4, 2) := dk_21 4 (dk_at dksX1_settled_2 20 rfl rfl)
theorem dX1_settled_70 : decode cX1_settled 70 = .ok (.iaload, 1) := dk_46 (dk_at dksX1_settled_2 22 rfl rfl)
theorem dX1_settled_71 : decode cX1_settled 71 = .ok (.iload_n 3, 1) := dk_29 (dk_at dksX1_settled_2 23 rfl rfl)
theorem dX1_settled_72 : decode cX1_settled 72 = .ok (.if_icmp .ne 7, 3) := dk_160 0 7 (dk_at dksX1_settled_3 0 rfl rfl)
theorem dX1_settled_75 : decode cX1_settled 75 = .ok (.iconst 1, 1) := dk_4 (dk_at dksX1_settled_3 3 rfl rfl)
theorem dX1_settled_76 : decode cX1_settled 76 = .ok (.goto 4, 3) := dk_167 0 4 (dk_at dksX1_settled_3 4 rfl rfl)
theorem dX1_settled_79 : decode cX1_settled 79 = .ok (.iconst 0, 1) := dk_3 (dk_at dksX1_settled_3 7 rfl rfl)
theorem dX1_settled_80 : decode cX1_settled 80 = .ok (.iadd, 1) := dk_96 (dk_at dksX1_settled_3 8 rfl rfl)
theorem dX1_settled_81 : decode cX1_settled 81 = .ok (.istore_n 2, 1) := dk_61 (dk_at dksX1_settled_3 9 rfl rfl)
theorem dX1_settled_82 : decode cX1_settled 82 = .ok (.iinc 3 1, 3) := dk_132 3 1 (dk_at dksX1_settled_3 10 rfl rfl)
theorem dX1_settled_85 : decode cX1_settled 85 = .ok (.goto (-79), 3) := dk_167 255 177 (dk_at dksX1_settled_3 13 rfl rfl)
theorem dX1_settled_88 : decode cX1_settled 88 = .ok (.iload_n 1, 1) := dk_27 (dk_at dksX1_settled_3 16 rfl rfl)
theorem dX1_settled_89 : decode cX1_settled 89 = .ok (.ifCond .ne 7, 3) := dk_154 0 7 (dk_at dksX1_settled_3 17 rfl rfl)
theorem dX1_settled_92 : decode cX1_settled 92 = .ok (.fconst 0, 1) := dk_11 (dk_at dksX1_settled_3 20 rfl rfl)
theorem dX1_settled_93 : decode cX1_settled 93 = .ok (.goto 8, 3) := dk_167 0 8 (dk_at dksX1_settled_3 21 rfl rfl)
theorem dX1_settled_96 : decode cX1_settled 96 = .ok (.iload_n 2, 1) := dk_28 (dk_at dksX1_settled_4 0 rfl rfl)
theorem dX1_settled_97 : decode cX1_settled 97 = .ok (.i2f, 1) := dk_134 (dk_at dksX1_settled_4 1 rfl rfl)
theorem dX1_settled_98 : decode cX1_settled 98 = .ok (.iload_n 1, 1) := dk_27 (dk_at dksX1_settled_4 2 rfl rfl)
theorem dX1_settled_99 : decode cX1_settled 99 = .ok (.i2f, 1) := dk_134 (dk_at dksX1_settled_4 3 rfl rfl)
theorem dX1_settled_100 : decode cX1_settled 100 = .ok (.fdiv, 1) := dk_110 (dk_at dksX1_settled_4 4 rfl rfl)
theorem dX1_settled_101 : decode cX1_settled 101 = .ok (.freturn, 1) := dk_174 (dk_at dksX1_settled_4 5 rfl rfl)
abbrev cX1_errors : ByteArray := prog_1_method_54_code
def yX1_errors : MethodName := ⟨RX1, "errors", "()I"⟩
def dkwX1_errors_4 : List UInt8 := [180, 0, 24, 182, 0, 169, 136, 46, 182, 1, 200, 153, 0, 7, 3, 167, 0, 4, 4, 96, 172]
abbrev dktX1_errors_4 : List UInt8 := dkwX1_errors_4 ++ []
def dkwX1_errors_3 : List UInt8 := [4, 167, 0, 4, 3, 61, 27, 28, 153, 0, 30, 42, 187, 1, 154, 89, 42, 183, 1, 156, 180, 1, 170, 42]
abbrev dktX1_errors_3 : List UInt8 := dkwX1_errors_3 ++ dktX1_errors_4
def dkwX1_errors_2 : List UInt8 := [167, 0, 4, 4, 96, 60, 132, 2, 1, 167, 255, 228, 42, 180, 0, 12, 182, 0, 100, 16, 6, 163, 0, 7]
abbrev dktX1_errors_2 : List UInt8 := dkwX1_errors_2 ++ dktX1_errors_3
def dkwX1_errors_1 : List UInt8 := [96, 60, 3, 61, 28, 7, 163, 0, 29, 27, 42, 42, 180, 0, 24, 28, 182, 1, 196, 153, 0, 7, 3]
abbrev dktX1_errors_1 : List UInt8 := dkwX1_errors_1 ++ dktX1_errors_2
def dkwX1_errors_0 : List UInt8 := [42, 182, 1, 190, 153, 0, 7, 3, 167, 0, 4, 4, 42, 182, 1, 193, 153, 0, 7, 3, 167, 0, 4, 4]
abbrev dktX1_errors_0 : List UInt8 := dkwX1_errors_0 ++ dktX1_errors_1
theorem dksX1_errors_0 : cX1_errors.data.toList.drop 0 = dktX1_errors_0 := by decide +kernel
theorem dksX1_errors_1 : cX1_errors.data.toList.drop 24 = dktX1_errors_1 := dk_seg dksX1_errors_0 24 rfl rfl
theorem dksX1_errors_2 : cX1_errors.data.toList.drop 47 = dktX1_errors_2 := dk_seg dksX1_errors_1 23 rfl rfl
theorem dksX1_errors_3 : cX1_errors.data.toList.drop 71 = dktX1_errors_3 := dk_seg dksX1_errors_2 24 rfl rfl
theorem dksX1_errors_4 : cX1_errors.data.toList.drop 95 = dktX1_errors_4 := dk_seg dksX1_errors_3 24 rfl rfl
theorem dX1_errors_0 : decode cX1_errors 0 = .ok (.aload_n 0, 1) := dk_42 (dk_at dksX1_errors_0 0 rfl rfl)
theorem dX1_errors_1 : decode cX1_errors 1 = .ok (.invokevirtual 446, 3) := dk_182 1 190 (dk_at dksX1_errors_0 1 rfl rfl)
theorem dX1_errors_4 : decode cX1_errors 4 = .ok (.ifCond .eq 7, 3) := dk_153 0 7 (dk_at dksX1_errors_0 4 rfl rfl)
theorem dX1_errors_7 : decode cX1_errors 7 = .ok (.iconst 0, 1) := dk_3 (dk_at dksX1_errors_0 7 rfl rfl)
theorem dX1_errors_8 : decode cX1_errors 8 = .ok (.goto 4, 3) := dk_167 0 4 (dk_at dksX1_errors_0 8 rfl rfl)
theorem dX1_errors_11 : decode cX1_errors 11 = .ok (.iconst 1, 1) := dk_4 (dk_at dksX1_errors_0 11 rfl rfl)
theorem dX1_errors_12 : decode cX1_errors 12 = .ok (.aload_n 0, 1) := dk_42 (dk_at dksX1_errors_0 12 rfl rfl)
theorem dX1_errors_13 : decode cX1_errors 13 = .ok (.invokevirtual 449, 3) := dk_182 1 193 (dk_at dksX1_errors_0 13 rfl rfl)
theorem dX1_errors_16 : decode cX1_errors 16 = .ok (.ifCond .eq 7, 3) := dk_153 0 7 (dk_at dksX1_errors_0 16 rfl rfl)
theorem dX1_errors_19 : decode cX1_errors 19 = .ok (.iconst 0, 1) := dk_3 (dk_at dksX1_errors_0 19 rfl rfl)
theorem dX1_errors_20 : decode cX1_errors 20 = .ok (.goto 4, 3) := dk_167 0 4 (dk_at dksX1_errors_0 20 rfl rfl)
theorem dX1_errors_23 : decode cX1_errors 23 = .ok (.iconst 1, 1) := dk_4 (dk_at dksX1_errors_0 23 rfl rfl)
theorem dX1_errors_24 : decode cX1_errors 24 = .ok (.iadd, 1) := dk_96 (dk_at dksX1_errors_1 0 rfl rfl)
theorem dX1_errors_25 : decode cX1_errors 25 = .ok (.istore_n 1, 1) := dk_60 (dk_at dksX1_errors_1 1 rfl rfl)
theorem dX1_errors_26 : decode cX1_errors 26 = .ok (.iconst 0, 1) := dk_3 (dk_at dksX1_errors_1 2 rfl rfl)
theorem dX1_errors_27 : decode cX1_errors 27 = .ok (.istore_n 2, 1) := dk_61 (dk_at dksX1_errors_1 3 rfl rfl)
theorem dX1_errors_28 : decode cX1_errors 28 = .ok (.iload_n 2, 1) := dk_28 (dk_at dksX1_errors_1 4 rfl rfl)
theorem dX1_errors_29 : decode cX1_errors 29 = .ok (.iconst 4, 1) := dk_7 (dk_at dksX1_errors_1 5 rfl rfl)
theorem dX1_errors_30 : decode cX1_errors 30 = .ok (.if_icmp .gt 29, 3) := dk_163 0 29 (dk_at dksX1_errors_1 6 rfl rfl)
theorem dX1_errors_33 : decode cX1_errors 33 = .ok (.iload_n 1, 1) := dk_27 (dk_at dksX1_errors_1 9 rfl rfl)
theorem dX1_errors_34 : decode cX1_errors 34 = .ok (.aload_n 0, 1) := dk_42 (dk_at dksX1_errors_1 10 rfl rfl)
theorem dX1_errors_35 : decode cX1_errors 35 = .ok (.aload_n 0, 1) := dk_42 (dk_at dksX1_errors_1 11 rfl rfl)
theorem dX1_errors_36 : decode cX1_errors 36 = .ok (.getfield 24, 3) := dk_180 0 24 (dk_at dksX1_errors_1 12 rfl rfl)
theorem dX1_errors_39 : decode cX1_errors 39 = .ok (.iload_n 2, 1) := dk_28 (dk_at dksX1_errors_1 15 rfl rfl)
theorem dX1_errors_40 : decode cX1_errors 40 = .ok (.invokevirtual 452, 3) := dk_182 1 196 (dk_at dksX1_errors_1 16 rfl rfl)
theorem dX1_errors_43 : decode cX1_errors 43 = .ok (.ifCond .eq 7, 3) := dk_153 0 7 (dk_at dksX1_errors_1 19 rfl rfl)
theorem dX1_errors_46 : decode cX1_errors 46 = .ok (.iconst 0, 1) := dk_3 (dk_at dksX1_errors_1 22 rfl rfl)
theorem dX1_errors_47 : decode cX1_errors 47 = .ok (.goto 4, 3) := dk_167 0 4 (dk_at dksX1_errors_2 0 rfl rfl)
theorem dX1_errors_50 : decode cX1_errors 50 = .ok (.iconst 1, 1) := dk_4 (dk_at dksX1_errors_2 3 rfl rfl)
theorem dX1_errors_51 : decode cX1_errors 51 = .ok (.iadd, 1) := dk_96 (dk_at dksX1_errors_2 4 rfl rfl)
theorem dX1_errors_52 : decode cX1_errors 52 = .ok (.istore_n 1, 1) := dk_60 (dk_at dksX1_errors_2 5 rfl rfl)
theorem dX1_errors_53 : decode cX1_errors 53 = .ok (.iinc 2 1, 3) := dk_132 2 1 (dk_at dksX1_errors_2 6 rfl rfl)
theorem dX1_errors_56 : decode cX1_errors 56 = .ok (.goto (-28), 3) := dk_167 255 228 (dk_at dksX1_errors_2 9 rfl rfl)
theorem dX1_errors_59 : decode cX1_errors 59 = .ok (.aload_n 0, 1) := dk_42 (dk_at dksX1_errors_2 12 rfl rfl)
theorem dX1_errors_60 : decode cX1_errors 60 = .ok (.getfield 12, 3) := dk_180 0 12 (dk_at dksX1_errors_2 13 rfl rfl)
theorem dX1_errors_63 : decode cX1_errors 63 = .ok (.invokevirtual 100, 3) := dk_182 0 100 (dk_at dksX1_errors_2 16 rfl rfl)
theorem dX1_errors_66 : decode cX1_errors 66 = .ok (.bipush 6, 2) := dk_16 6 (dk_at dksX1_errors_2 19 rfl rfl)
theorem dX1_errors_68 : decode cX1_errors 68 = .ok (.if_icmp .gt 7, 3) := dk_163 0 7 (dk_at dksX1_errors_2 21 rfl rfl)
theorem dX1_errors_71 : decode cX1_errors 71 = .ok (.iconst 1, 1) := dk_4 (dk_at dksX1_errors_3 0 rfl rfl)
theorem dX1_errors_72 : decode cX1_errors 72 = .ok (.goto 4, 3) := dk_167 0 4 (dk_at dksX1_errors_3 1 rfl rfl)
theorem dX1_errors_75 : decode cX1_errors 75 = .ok (.iconst 0, 1) := dk_3 (dk_at dksX1_errors_3 4 rfl rfl)
theorem dX1_errors_76 : decode cX1_errors 76 = .ok (.istore_n 2, 1) := dk_61 (dk_at dksX1_errors_3 5 rfl rfl)
theorem dX1_errors_77 : decode cX1_errors 77 = .ok (.iload_n 1, 1) := dk_27 (dk_at dksX1_errors_3 6 rfl rfl)
theorem dX1_errors_78 : decode cX1_errors 78 = .ok (.iload_n 2, 1) := dk_28 (dk_at dksX1_errors_3 7 rfl rfl)
theorem dX1_errors_79 : decode cX1_errors 79 = .ok (.ifCond .eq 30, 3) := dk_153 0 30 (dk_at dksX1_errors_3 8 rfl rfl)
theorem dX1_errors_82 : decode cX1_errors 82 = .ok (.aload_n 0, 1) := dk_42 (dk_at dksX1_errors_3 11 rfl rfl)
theorem dX1_errors_83 : decode cX1_errors 83 = .ok (.new 410, 3) := dk_187 1 154 (dk_at dksX1_errors_3 12 rfl rfl)
theorem dX1_errors_86 : decode cX1_errors 86 = .ok (.dup, 1) := dk_89 (dk_at dksX1_errors_3 15 rfl rfl)
theorem dX1_errors_87 : decode cX1_errors 87 = .ok (.aload_n 0, 1) := dk_42 (dk_at dksX1_errors_3 16 rfl rfl)
theorem dX1_errors_88 : decode cX1_errors 88 = .ok (.invokespecial 412, 3) := dk_183 1 156 (dk_at dksX1_errors_3 17 rfl rfl)
theorem dX1_errors_91 : decode cX1_errors 91 = .ok (.getfield 426, 3) := dk_180 1 170 (dk_at dksX1_errors_3 20 rfl rfl)
theorem dX1_errors_94 : decode cX1_errors 94 = .ok (.aload_n 0, 1) := dk_42 (dk_at dksX1_errors_3 23 rfl rfl)
theorem dX1_errors_95 : decode cX1_errors 95 = .ok (.getfield 24, 3) := dk_180 0 24 (dk_at dksX1_errors_4 0 rfl rfl)
theorem dX1_errors_98 : decode cX1_errors 98 = .ok (.invokevirtual 169, 3) := dk_182 0 169 (dk_at dksX1_errors_4 3 rfl rfl)
theorem dX1_errors_101 : decode cX1_errors 101 = .ok (.l2i, 1) := dk_136 (dk_at dksX1_errors_4 6 rfl rfl)
theorem dX1_errors_102 : decode cX1_errors 102 = .ok (.iaload, 1) := dk_46 (dk_at dksX1_errors_4 7 rfl rfl)
theorem dX1_errors_103 : decode cX1_errors 103 = .ok (.invokevirtual 456, 3) := dk_182 1 200 (dk_at dksX1_errors_4 8 rfl rfl)
theorem dX1_errors_106 : decode cX1_errors 106 = .ok (.ifCond .eq 7, 3) := dk_153 0 7 (dk_at dksX1_errors_4 11 rfl rfl)
theorem dX1_errors_109 : decode cX1_errors 109 = .ok (.iconst 0, 1) := dk_3 (dk_at dksX1_errors_4 14 rfl rfl)
theorem dX1_errors_110 : decode cX1_errors 110 = .ok (.goto 4, 3) := dk_167 0 4 (dk_at dksX1_errors_4 15 rfl rfl)
theorem dX1_errors_113 : decode cX1_errors 113 = .ok (.iconst 1, 1) := dk_4 (dk_at dksX1_errors_4 18 rfl rfl)
theorem dX1_errors_114 : decode cX1_errors 114 = .ok (.iadd, 1) := dk_96 (dk_at dksX1_errors_4 19 rfl rfl)
theorem dX1_errors_115 : decode cX1_errors 115 = .ok (.ireturn, 1) := dk_172 (dk_at dksX1_errors_4 20 rfl rfl)
abbrev cX1_isByRank : ByteArray := prog_1_method_51_code
def yX1_isByRank : MethodName := ⟨RX1, "isByRank", "()Z"⟩
def dkwX1_isByRank_0 : List UInt8 := [42, 180, 0, 12, 42, 180, 0, 24, 182, 0, 169, 184, 0, 18, 42, 180, 0, 24, 182, 1, 187, 172]
abbrev dktX1_isByRank_0 : List UInt8 := dkwX1_isByRank_0 ++ []
theorem dksX1_isByRank_0 : cX1_isByRank.data.toList.drop 0 = dktX1_isByRank_0 := by decide +kernel
theorem dX1_isByRank_0 : decode cX1_isByRank 0 = .ok (.aload_n 0, 1) := dk_42 (dk_at dksX1_isByRank_0 0 rfl rfl)
theorem dX1_isByRank_1 : decode cX1_isByRank 1 = .ok (.getfield 12, 3) := dk_180 0 12 (dk_at dksX1_isByRank_0 1 rfl rfl)
theorem dX1_isByRank_4 : decode cX1_isByRank 4 = .ok (.aload_n 0, 1) := dk_42 (dk_at dksX1_isByRank_0 4 rfl rfl)
theorem dX1_isByRank_5 : decode cX1_isByRank 5 = .ok (.getfield 24, 3) := dk_180 0 24 (dk_at dksX1_isByRank_0 5 rfl rfl)
theorem dX1_isByRank_8 : decode cX1_isByRank 8 = .ok (.invokevirtual 169, 3) := dk_182 0 169 (dk_at dksX1_isByRank_0 8 rfl rfl)
theorem dX1_isByRank_11 : decode cX1_isByRank 11 = .ok (.invokestatic 18, 3) := dk_184 0 18 (dk_at dksX1_isByRank_0 11 rfl rfl)
theorem dX1_isByRank_14 : decode cX1_isByRank 14 = .ok (.aload_n 0, 1) := dk_42 (dk_at dksX1_isByRank_0 14 rfl rfl)
theorem dX1_isByRank_15 : decode cX1_isByRank 15 = .ok (.getfield 24, 3) := dk_180 0 24 (dk_at dksX1_isByRank_0 15 rfl rfl)
theorem dX1_isByRank_18 : decode cX1_isByRank 18 = .ok (.invokevirtual 443, 3) := dk_182 1 187 (dk_at dksX1_isByRank_0 18 rfl rfl)
theorem dX1_isByRank_21 : decode cX1_isByRank 21 = .ok (.ireturn, 1) := dk_172 (dk_at dksX1_isByRank_0 21 rfl rfl)
abbrev cX1_movesBack : ByteArray := prog_1_method_52_code
def yX1_movesBack : MethodName := ⟨RX1, "movesBack", "()Z"⟩
def dkwX1_movesBack_2 : List UInt8 := [4, 167, 0, 4, 3, 60, 132, 2, 1, 167, 255, 203, 27, 172]
abbrev dktX1_movesBack_2 : List UInt8 := dkwX1_movesBack_2 ++ []
def dkwX1_movesBack_1 : List UInt8 := [42, 180, 0, 24, 28, 182, 0, 161, 6, 28, 100, 182, 0, 161, 42, 180, 0, 24, 182, 1, 187, 153, 0, 7]
abbrev dktX1_movesBack_1 : List UInt8 := dkwX1_movesBack_1 ++ dktX1_movesBack_2
def dkwX1_movesBack_0 : List UInt8 := [4, 60, 3, 61, 28, 6, 163, 0, 54, 27, 153, 0, 42, 42, 180, 0, 24, 28, 182, 0, 152, 153, 0, 27]
abbrev dktX1_movesBack_0 : List UInt8 := dkwX1_movesBack_0 ++ dktX1_movesBack_1
theorem dksX1_movesBack_0 : cX1_movesBack.data.toList.drop 0 = dktX1_movesBack_0 := by decide +kernel
theorem dksX1_movesBack_1 : cX1_movesBack.data.toList.drop 24 = dktX1_movesBack_1 := dk_seg dksX1_movesBack_0 24 rfl rfl
theorem dksX1_movesBack_2 : cX1_movesBack.data.toList.drop 48 = dktX1_movesBack_2 := dk_seg dksX1_movesBack_1 24 rfl rfl
theorem dX1_movesBack_0 : decode cX1_movesBack 0 = .ok (.iconst 1, 1) := dk_4 (dk_at dksX1_movesBack_0 0 rfl rfl)
theorem dX1_movesBack_1 : decode cX1_movesBack 1 = .ok (.istore_n 1, 1) := dk_60 (dk_at dksX1_movesBack_0 1 rfl rfl)
theorem dX1_movesBack_2 : decode cX1_movesBack 2 = .ok (.iconst 0, 1) := dk_3 (dk_at dksX1_movesBack_0 2 rfl rfl)
theorem dX1_movesBack_3 : decode cX1_movesBack 3 = .ok (.istore_n 2, 1) := dk_61 (dk_at dksX1_movesBack_0 3 rfl rfl)
theorem dX1_movesBack_4 : decode cX1_movesBack 4 = .ok (.iload_n 2, 1) := dk_28 (dk_at dksX1_movesBack_0 4 rfl rfl)
theorem dX1_movesBack_5 : decode cX1_movesBack 5 = .ok (.iconst 3, 1) := dk_6 (dk_at dksX1_movesBack_0 5 rfl rfl)
theorem dX1_movesBack_6 : decode cX1_movesBack 6 = .ok (.if_icmp .gt 54, 3) := dk_163 0 54 (dk_at dksX1_movesBack_0 6 rfl rfl)
theorem dX1_movesBack_9 : decode cX1_movesBack 9 = .ok (.iload_n 1, 1) := dk_27 (dk_at dksX1_movesBack_0 9 rfl rfl)
theorem dX1_movesBack_10 : decode cX1_movesBack 10 = .ok (.ifCond .eq 42, 3) := dk_153 0 42 (dk_at dksX1_movesBack_0 10 rfl rfl)
theorem dX1_movesBack_13 : decode cX1_movesBack 13 = .ok (.aload_n 0, 1) := dk_42 (dk_at dksX1_movesBack_0 13 rfl rfl)
theorem dX1_movesBack_14 : decode cX1_movesBack 14 = .ok (.getfield 24, 3) := dk_180 0 24 (dk_at dksX1_movesBack_0 14 rfl rfl)
theorem dX1_movesBack_17 : decode cX1_movesBack 17 = .ok (.iload_n 2, 1) := dk_28 (dk_at dksX1_movesBack_0 17 rfl rfl)
theorem dX1_movesBack_18 : decode cX1_movesBack 18 = .ok (.invokevirtual 152, 3) := dk_182 0 152 (dk_at dksX1_movesBack_0 18 rfl rfl)
theorem dX1_movesBack_21 : decode cX1_movesBack 21 = .ok (.ifCond .eq 27, 3) := dk_153 0 27 (dk_at dksX1_movesBack_0 21 rfl rfl)
theorem dX1_movesBack_24 : decode cX1_movesBack 24 = .ok (.aload_n 0, 1) := dk_42 (dk_at dksX1_movesBack_1 0 rfl rfl)
theorem dX1_movesBack_25 : decode cX1_movesBack 25 = .ok (.getfield 24, 3) := dk_180 0 24 (dk_at dksX1_movesBack_1 1 rfl rfl)
theorem dX1_movesBack_28 : decode cX1_movesBack 28 = .ok (.iload_n 2, 1) := dk_28 (dk_at dksX1_movesBack_1 4 rfl rfl)
theorem dX1_movesBack_29 : decode cX1_movesBack 29 = .ok (.invokevirtual 161, 3) := dk_182 0 161 (dk_at dksX1_movesBack_1 5 rfl rfl)
theorem dX1_movesBack_32 : decode cX1_movesBack 32 = .ok (.iconst 3, 1) := dk_6 (dk_at dksX1_movesBack_1 8 rfl rfl)
theorem dX1_movesBack_33 : decode cX1_movesBack 33 = .ok (.iload_n 2, 1) := dk_28 (dk_at dksX1_movesBack_1 9 rfl rfl)
theorem dX1_movesBack_34 : decode cX1_movesBack 34 = .ok (.isub, 1) := dk_100 (dk_at dksX1_movesBack_1 10 rfl rfl)
theorem dX1_movesBack_35 : decode cX1_movesBack 35 = .ok (.invokevirtual 161, 3) := dk_182 0 161 (dk_at dksX1_movesBack_1 11 rfl rfl)
theorem dX1_movesBack_38 : decode cX1_movesBack 38 = .ok (.aload_n 0, 1) := dk_42 (dk_at dksX1_movesBack_1 14 rfl rfl)
theorem dX1_movesBack_39 : decode cX1_movesBack 39 = .ok (.getfield 24, 3) := dk_180 0 24 (dk_at dksX1_movesBack_1 15 rfl rfl)
theorem dX1_movesBack_42 : decode cX1_movesBack 42 = .ok (.invokevirtual 443, 3) := dk_182 1 187 (dk_at dksX1_movesBack_1 18 rfl rfl)
theorem dX1_movesBack_45 : decode cX1_movesBack 45 = .ok (.ifCond .eq 7, 3) := dk_153 0 7 (dk_at dksX1_movesBack_1 21 rfl rfl)
theorem dX1_movesBack_48 : decode cX1_movesBack 48 = .ok (.iconst 1, 1) := dk_4 (dk_at dksX1_movesBack_2 0 rfl rfl)
theorem dX1_movesBack_49 : decode cX1_movesBack 49 = .ok (.goto 4, 3) := dk_167 0 4 (dk_at dksX1_movesBack_2 1 rfl rfl)
theorem dX1_movesBack_52 : decode cX1_movesBack 52 = .ok (.iconst 0, 1) := dk_3 (dk_at dksX1_movesBack_2 4 rfl rfl)
theorem dX1_movesBack_53 : decode cX1_movesBack 53 = .ok (.istore_n 1, 1) := dk_60 (dk_at dksX1_movesBack_2 5 rfl rfl)
theorem dX1_movesBack_54 : decode cX1_movesBack 54 = .ok (.iinc 2 1, 3) := dk_132 2 1 (dk_at dksX1_movesBack_2 6 rfl rfl)
theorem dX1_movesBack_57 : decode cX1_movesBack 57 = .ok (.goto (-53), 3) := dk_167 255 203 (dk_at dksX1_movesBack_2 9 rfl rfl)
theorem dX1_movesBack_60 : decode cX1_movesBack 60 = .ok (.iload_n 1, 1) := dk_27 (dk_at dksX1_movesBack_2 12 rfl rfl)
theorem dX1_movesBack_61 : decode cX1_movesBack 61 = .ok (.ireturn, 1) := dk_172 (dk_at dksX1_movesBack_2 13 rfl rfl)
abbrev cX1_fallsFair : ByteArray := prog_1_method_44_code
def yX1_fallsFair : MethodName := ⟨RX1, "fallsFair", "(LSlidingtray$Lie;I)Z"⟩
def dkwX1_fallsFair_3 : List UInt8 := [54, 4, 132, 5, 1, 167, 255, 196, 21, 4, 172]
abbrev dktX1_fallsFair_3 : List UInt8 := dkwX1_fallsFair_3 ++ []
def dkwX1_fallsFair_2 : List UInt8 := [21, 6, 46, 42, 43, 21, 5, 182, 0, 161, 28, 182, 1, 51, 96, 163, 0, 7, 4, 167, 0, 4, 3]
abbrev dktX1_fallsFair_2 : List UInt8 := dkwX1_fallsFair_2 ++ dktX1_fallsFair_3
def dkwX1_fallsFair_1 : List UInt8 := [182, 0, 152, 54, 6, 21, 4, 153, 0, 38, 21, 6, 153, 0, 29, 29, 42, 180, 0, 33, 180, 0, 188]
abbrev dktX1_fallsFair_1 : List UInt8 := dkwX1_fallsFair_1 ++ dktX1_fallsFair_2
def dkwX1_fallsFair_0 : List UInt8 := [42, 43, 28, 182, 1, 51, 62, 4, 54, 4, 3, 54, 5, 21, 5, 6, 163, 0, 60, 43, 21, 5]
abbrev dktX1_fallsFair_0 : List UInt8 := dkwX1_fallsFair_0 ++ dktX1_fallsFair_1
theorem dksX1_fallsFair_0 : cX1_fallsFair.data.toList.drop 0 = dktX1_fallsFair_0 := by decide +kernel
theorem dksX1_fallsFair_1 : cX1_fallsFair.data.toList.drop 22 = dktX1_fallsFair_1 := dk_seg dksX1_fallsFair_0 22 rfl rfl
theorem dksX1_fallsFair_2 : cX1_fallsFair.data.toList.drop 45 = dktX1_fallsFair_2 := dk_seg dksX1_fallsFair_1 23 rfl rfl
theorem dksX1_fallsFair_3 : cX1_fallsFair.data.toList.drop 68 = dktX1_fallsFair_3 := dk_seg dksX1_fallsFair_2 23 rfl rfl
theorem dX1_fallsFair_0 : decode cX1_fallsFair 0 = .ok (.aload_n 0, 1) := dk_42 (dk_at dksX1_fallsFair_0 0 rfl rfl)
theorem dX1_fallsFair_1 : decode cX1_fallsFair 1 = .ok (.aload_n 1, 1) := dk_43 (dk_at dksX1_fallsFair_0 1 rfl rfl)
theorem dX1_fallsFair_2 : decode cX1_fallsFair 2 = .ok (.iload_n 2, 1) := dk_28 (dk_at dksX1_fallsFair_0 2 rfl rfl)
theorem dX1_fallsFair_3 : decode cX1_fallsFair 3 = .ok (.invokevirtual 307, 3) := dk_182 1 51 (dk_at dksX1_fallsFair_0 3 rfl rfl)
theorem dX1_fallsFair_6 : decode cX1_fallsFair 6 = .ok (.istore_n 3, 1) := dk_62 (dk_at dksX1_fallsFair_0 6 rfl rfl)
theorem dX1_fallsFair_7 : decode cX1_fallsFair 7 = .ok (.iconst 1, 1) := dk_4 (dk_at dksX1_fallsFair_0 7 rfl rfl)
theorem dX1_fallsFair_8 : decode cX1_fallsFair 8 = .ok (.istore 4, 2) := dk_54 4 (dk_at dksX1_fallsFair_0 8 rfl rfl)
theorem dX1_fallsFair_10 : decode cX1_fallsFair 10 = .ok (.iconst 0, 1) := dk_3 (dk_at dksX1_fallsFair_0 10 rfl rfl)
theorem dX1_fallsFair_11 : decode cX1_fallsFair 11 = .ok (.istore 5, 2) := dk_54 5 (dk_at dksX1_fallsFair_0 11 rfl rfl)
theorem dX1_fallsFair_13 : decode cX1_fallsFair 13 = .ok (.iload 5, 2) := dk_21 5 (dk_at dksX1_fallsFair_0 13 rfl rfl)
theorem dX1_fallsFair_15 : decode cX1_fallsFair 15 = .ok (.iconst 3, 1) := dk_6 (dk_at dksX1_fallsFair_0 15 rfl rfl)
theorem dX1_fallsFair_16 : decode cX1_fallsFair 16 = .ok (.if_icmp .gt 60, 3) := dk_163 0 60 (dk_at dksX1_fallsFair_0 16 rfl rfl)
theorem dX1_fallsFair_19 : decode cX1_fallsFair 19 = .ok (.aload_n 1, 1) := dk_43 (dk_at dksX1_fallsFair_0 19 rfl rfl)
theorem dX1_fallsFair_20 : decode cX1_fallsFair 20 = .ok (.iload 5, 2) := dk_21 5 (dk_at dksX1_fallsFair_0 20 rfl rfl)
theorem dX1_fallsFair_22 : decode cX1_fallsFair 22 = .ok (.invokevirtual 152, 3) := dk_182 0 152 (dk_at dksX1_fallsFair_1 0 rfl rfl)
theorem dX1_fallsFair_25 : decode cX1_fallsFair 25 = .ok (.istore 6, 2) := dk_54 6 (dk_at dksX1_fallsFair_1 3 rfl rfl)
theorem dX1_fallsFair_27 : decode cX1_fallsFair 27 = .ok (.iload 4, 2) := dk_21 4 (dk_at dksX1_fallsFair_1 5 rfl rfl)
theorem dX1_fallsFair_29 : decode cX1_fallsFair 29 = .ok (.ifCond .eq 38, 3) := dk_153 0 38 (dk_at dksX1_fallsFair_1 7 rfl rfl)
theorem dX1_fallsFair_32 : decode cX1_fallsFair 32 = .ok (.iload 6, 2) := dk_21 6 (dk_at dksX1_fallsFair_1 10 rfl rfl)
theorem dX1_fallsFair_34 : decode cX1_fallsFair 34 = .ok (.ifCond .eq 29, 3) := dk_153 0 29 (dk_at dksX1_fallsFair_1 12 rfl rfl)
theorem dX1_fallsFair_37 : decode cX1_fallsFair 37 = .ok (.iload_n 3, 1) := dk_29 (dk_at dksX1_fallsFair_1 15 rfl rfl)
theorem dX1_fallsFair_38 : decode cX1_fallsFair 38 = .ok (.aload_n 0, 1) := dk_42 (dk_at dksX1_fallsFair_1 16 rfl rfl)
theorem dX1_fallsFair_39 : decode cX1_fallsFair 39 = .ok (.getfield 33, 3) := dk_180 0 33 (dk_at dksX1_fallsFair_1 17 rfl rfl)
theorem dX1_fallsFair_42 : decode cX1_fallsFair 42 = .ok (.getfield 188, 3) := dk_180 0 188 (dk_at dksX1_fallsFair_1 20 rfl rfl)
theorem dX1_fallsFair_45 : decode cX1_fallsFair 45 = .ok (.iload 6, 2) := dk_21 6 (dk_at dksX1_fallsFair_2 0 rfl rfl)
theorem dX1_fallsFair_47 : decode cX1_fallsFair 47 = .ok (.iaload, 1) := dk_46 (dk_at dksX1_fallsFair_2 2 rfl rfl)
theorem dX1_fallsFair_48 : decode cX1_fallsFair 48 = .ok (.aload_n 0, 1) := dk_42 (dk_at dksX1_fallsFair_2 3 rfl rfl)
theorem dX1_fallsFair_49 : decode cX1_fallsFair 49 = .ok (.aload_n 1, 1) := dk_43 (dk_at dksX1_fallsFair_2 4 rfl rfl)
theorem dX1_fallsFair_50 : decode cX1_fallsFair 50 = .ok (.iload 5, 2) := dk_21 5 (dk_at dksX1_fallsFair_2 5 rfl rfl)
theorem dX1_fallsFair_52 : decode cX1_fallsFair 52 = .ok (.invokevirtual 161, 3) := dk_182 0 161 (dk_at dksX1_fallsFair_2 7 rfl rfl)
theorem dX1_fallsFair_55 : decode cX1_fallsFair 55 = .ok (.iload_n 2, 1) := dk_28 (dk_at dksX1_fallsFair_2 10 rfl rfl)
theorem dX1_fallsFair_56 : decode cX1_fallsFair 56 = .ok (.invokevirtual 307, 3) := dk_182 1 51 (dk_at dksX1_fallsFair_2 11 rfl rfl)
theorem dX1_fallsFair_59 : decode cX1_fallsFair 59 = .ok (.iadd, 1) := dk_96 (dk_at dksX1_fallsFair_2 14 rfl rfl)
theorem dX1_fallsFair_60 : decode cX1_fallsFair 60 = .ok (.if_icmp .gt 7, 3) := dk_163 0 7 (dk_at dksX1_fallsFair_2 15 rfl rfl)
theorem dX1_fallsFair_63 : decode cX1_fallsFair 63 = .ok (.iconst 1, 1) := dk_4 (dk_at dksX1_fallsFair_2 18 rfl rfl)
theorem dX1_fallsFair_64 : decode cX1_fallsFair 64 = .ok (.goto 4, 3) := dk_167 0 4 (dk_at dksX1_fallsFair_2 19 rfl rfl)
theorem dX1_fallsFair_67 : decode cX1_fallsFair 67 = .ok (.iconst 0, 1) := dk_3 (dk_at dksX1_fallsFair_2 22 rfl rfl)
theorem dX1_fallsFair_68 : decode cX1_fallsFair 68 = .ok (.istore 4, 2) := dk_54 4 (dk_at dksX1_fallsFair_3 0 rfl rfl)
theorem dX1_fallsFair_70 : decode cX1_fallsFair 70 = .ok (.iinc 5 1, 3) := dk_132 5 1 (dk_at dksX1_fallsFair_3 2 rfl rfl)
theorem dX1_fallsFair_73 : decode cX1_fallsFair 73 = .ok (.goto (-60), 3) := dk_167 255 196 (dk_at dksX1_fallsFair_3 5 rfl rfl)
theorem dX1_fallsFair_76 : decode cX1_fallsFair 76 = .ok (.iload 4, 2) := dk_21 4 (dk_at dksX1_fallsFair_3 8 rfl rfl)
theorem dX1_fallsFair_78 : decode cX1_fallsFair 78 = .ok (.ireturn, 1) := dk_172 (dk_at dksX1_fallsFair_3 10 rfl rfl)
abbrev cX1_estimateOf : ByteArray := prog_1_method_32_code
def yX1_estimateOf : MethodName := ⟨RX1, "estimateOf", "(LSlidingtray$Lie;I)I"⟩
def dkwX1_estimateOf_5 : List UInt8 := [182, 1, 45, 167, 0, 4, 29, 172]
abbrev dktX1_estimateOf_5 : List UInt8 := dkwX1_estimateOf_5 ++ []
def dkwX1_estimateOf_4 : List UInt8 := [3, 167, 0, 28, 42, 43, 182, 1, 42, 167, 0, 20, 42, 43, 182, 1, 24, 167, 0, 12, 42, 43]
abbrev dktX1_estimateOf_4 : List UInt8 := dkwX1_estimateOf_4 ++ dktX1_estimateOf_5
def dkwX1_estimateOf_3 : List UInt8 := [170, 0, 0, 0, 0, 0, 59, 0, 0, 0, 0, 0, 0, 0, 3, 0, 0, 0, 31, 0, 0, 0, 35, 0, 0, 0, 43, 0, 0, 0, 51]
abbrev dktX1_estimateOf_3 : List UInt8 := dkwX1_estimateOf_3 ++ dktX1_estimateOf_4
def dkwX1_estimateOf_2 : List UInt8 := [167, 0, 4, 3, 96, 62, 167, 255, 216, 28]
abbrev dktX1_estimateOf_2 : List UInt8 := dkwX1_estimateOf_2 ++ dktX1_estimateOf_3
def dkwX1_estimateOf_1 : List UInt8 := [25, 4, 185, 0, 127, 1, 0, 192, 1, 37, 58, 5, 29, 28, 7, 160, 0, 12, 25, 5, 43, 182, 1, 39]
abbrev dktX1_estimateOf_1 : List UInt8 := dkwX1_estimateOf_1 ++ dktX1_estimateOf_2
def dkwX1_estimateOf_0 : List UInt8 := [3, 62, 42, 180, 0, 40, 185, 0, 118, 1, 0, 58, 4, 25, 4, 185, 0, 122, 1, 0, 153, 0, 36]
abbrev dktX1_estimateOf_0 : List UInt8 := dkwX1_estimateOf_0 ++ dktX1_estimateOf_1
theorem dksX1_estimateOf_0 : cX1_estimateOf.data.toList.drop 0 = dktX1_estimateOf_0 := by decide +kernel
theorem dksX1_estimateOf_1 : cX1_estimateOf.data.toList.drop 23 = dktX1_estimateOf_1 := dk_seg dksX1_estimateOf_0 23 rfl rfl
theorem dksX1_estimateOf_2 : cX1_estimateOf.data.toList.drop 47 = dktX1_estimateOf_2 := dk_seg dksX1_estimateOf_1 24 rfl rfl
theorem dksX1_estimateOf_3 : cX1_estimateOf.data.toList.drop 57 = dktX1_estimateOf_3 := dk_seg dksX1_estimateOf_2 10 rfl rfl
theorem dksX1_estimateOf_4 : cX1_estimateOf.data.toList.drop 88 = dktX1_estimateOf_4 := dk_seg dksX1_estimateOf_3 31 rfl rfl
theorem dksX1_estimateOf_5 : cX1_estimateOf.data.toList.drop 110 = dktX1_estimateOf_5 := dk_seg dksX1_estimateOf_4 22 rfl rfl
theorem dX1_estimateOf_0 : decode cX1_estimateOf 0 = .ok (.iconst 0, 1) := dk_3 (dk_at dksX1_estimateOf_0 0 rfl rfl)
theorem dX1_estimateOf_1 : decode cX1_estimateOf 1 = .ok (.istore_n 3, 1) := dk_62 (dk_at dksX1_estimateOf_0 1 rfl rfl)
theorem dX1_estimateOf_2 : decode cX1_estimateOf 2 = .ok (.aload_n 0, 1) := dk_42 (dk_at dksX1_estimateOf_0 2 rfl rfl)
theorem dX1_estimateOf_3 : decode cX1_estimateOf 3 = .ok (.getfield 40, 3) := dk_180 0 40 (dk_at dksX1_estimateOf_0 3 rfl rfl)
theorem dX1_estimateOf_6 : decode cX1_estimateOf 6 = .ok (.invokeinterface 118 1, 5) := by decide +kernel
theorem dX1_estimateOf_11 : decode cX1_estimateOf 11 = .ok (.astore 4, 2) := dk_58 4 (dk_at dksX1_estimateOf_0 11 rfl rfl)
theorem dX1_estimateOf_13 : decode cX1_estimateOf 13 = .ok (.aload 4, 2) := dk_25 4 (dk_at dksX1_estimateOf_0 13 rfl rfl)
theorem dX1_estimateOf_15 : decode cX1_estimateOf 15 = .ok (.invokeinterface 122 1, 5) := by decide +kernel
theorem dX1_estimateOf_20 : decode cX1_estimateOf 20 = .ok (.ifCond .eq 36, 3) := dk_153 0 36 (dk_at dksX1_estimateOf_0 20 rfl rfl)
theorem dX1_estimateOf_23 : decode cX1_estimateOf 23 = .ok (.aload 4, 2) := dk_25 4 (dk_at dksX1_estimateOf_1 0 rfl rfl)
theorem dX1_estimateOf_25 : decode cX1_estimateOf 25 = .ok (.invokeinterface 127 1, 5) := by decide +kernel
theorem dX1_estimateOf_30 : decode cX1_estimateOf 30 = .ok (.checkcast 293, 3) := dk_192 1 37 (dk_at dksX1_estimateOf_1 7 rfl rfl)
theorem dX1_estimateOf_33 : decode cX1_estimateOf 33 = .ok (.astore 5, 2) := dk_58 5 (dk_at dksX1_estimateOf_1 10 rfl rfl)
theorem dX1_estimateOf_35 : decode cX1_estimateOf 35 = .ok (.iload_n 3, 1) := dk_29 (dk_at dksX1_estimateOf_1 12 rfl rfl)
theorem dX1_estimateOf_36 : decode cX1_estimateOf 36 = .ok (.iload_n 2, 1) := dk_28 (dk_at dksX1_estimateOf_1 13 rfl rfl)
theorem dX1_estimateOf_37 : decode cX1_estimateOf 37 = .ok (.iconst 4, 1) := dk_7 (dk_at dksX1_estimateOf_1 14 rfl rfl)
theorem dX1_estimateOf_38 : decode cX1_estimateOf 38 = .ok (.if_icmp .ne 12, 3) := dk_160 0 12 (dk_at dksX1_estimateOf_1 15 rfl rfl)
theorem dX1_estimateOf_41 : decode cX1_estimateOf 41 = .ok (.aload 5, 2) := dk_25 5 (dk_at dksX1_estimateOf_1 18 rfl rfl)
theorem dX1_estimateOf_43 : decode cX1_estimateOf 43 = .ok (.aload_n 1, 1) := dk_43 (dk_at dksX1_estimateOf_1 20 rfl rfl)
theorem dX1_estimateOf_44 : decode cX1_estimateOf 44 = .ok (.invokevirtual 295, 3) := dk_182 1 39 (dk_at dksX1_estimateOf_1 21 rfl rfl)
theorem dX1_estimateOf_47 : decode cX1_estimateOf 47 = .ok (.goto 4, 3) := dk_167 0 4 (dk_at dksX1_estimateOf_2 0 rfl rfl)
theorem dX1_estimateOf_50 : decode cX1_estimateOf 50 = .ok (.iconst 0, 1) := dk_3 (dk_at dksX1_estimateOf_2 3 rfl rfl)
theorem dX1_estimateOf_51 : decode cX1_estimateOf 51 = .ok (.iadd, 1) := dk_96 (dk_at dksX1_estimateOf_2 4 rfl rfl)
theorem dX1_estimateOf_52 : decode cX1_estimateOf 52 = .ok (.istore_n 3, 1) := dk_62 (dk_at dksX1_estimateOf_2 5 rfl rfl)
theorem dX1_estimateOf_53 : decode cX1_estimateOf 53 = .ok (.goto (-40), 3) := dk_167 255 216 (dk_at dksX1_estimateOf_2 6 rfl rfl)
theorem dX1_estimateOf_56 : decode cX1_estimateOf 56 = .ok (.iload_n 2, 1) := dk_28 (dk_at dksX1_estimateOf_2 9 rfl rfl)
theorem dX1_estimateOf_57 : decode cX1_estimateOf 57 = .ok (.tableswitch 59 0 3 #[31, 35, 43, 51], 31) := by decide +kernel
theorem dX1_estimateOf_88 : decode cX1_estimateOf 88 = .ok (.iconst 0, 1) := dk_3 (dk_at dksX1_estimateOf_4 0 rfl rfl)
theorem dX1_estimateOf_89 : decode cX1_estimateOf 89 = .ok (.goto 28, 3) := dk_167 0 28 (dk_at dksX1_estimateOf_4 1 rfl rfl)
theorem dX1_estimateOf_92 : decode cX1_estimateOf 92 = .ok (.aload_n 0, 1) := dk_42 (dk_at dksX1_estimateOf_4 4 rfl rfl)
theorem dX1_estimateOf_93 : decode cX1_estimateOf 93 = .ok (.aload_n 1, 1) := dk_43 (dk_at dksX1_estimateOf_4 5 rfl rfl)
theorem dX1_estimateOf_94 : decode cX1_estimateOf 94 = .ok (.invokevirtual 298, 3) := dk_182 1 42 (dk_at dksX1_estimateOf_4 6 rfl rfl)
theorem dX1_estimateOf_97 : decode cX1_estimateOf 97 = .ok (.goto 20, 3) := dk_167 0 20 (dk_at dksX1_estimateOf_4 9 rfl rfl)
theorem dX1_estimateOf_100 : decode cX1_estimateOf 100 = .ok (.aload_n 0, 1) := dk_42 (dk_at dksX1_estimateOf_4 12 rfl rfl)
theorem dX1_estimateOf_101 : decode cX1_estimateOf 101 = .ok (.aload_n 1, 1) := dk_43 (dk_at dksX1_estimateOf_4 13 rfl rfl)
theorem dX1_estimateOf_102 : decode cX1_estimateOf 102 = .ok (.invokevirtual 280, 3) := dk_182 1 24 (dk_at dksX1_estimateOf_4 14 rfl rfl)
theorem dX1_estimateOf_105 : decode cX1_estimateOf 105 = .ok (.goto 12, 3) := dk_167 0 12 (dk_at dksX1_estimateOf_4 17 rfl rfl)
theorem dX1_estimateOf_108 : decode cX1_estimateOf 108 = .ok (.aload_n 0, 1) := dk_42 (dk_at dksX1_estimateOf_4 20 rfl rfl)
theorem dX1_estimateOf_109 : decode cX1_estimateOf 109 = .ok (.aload_n 1, 1) := dk_43 (dk_at dksX1_estimateOf_4 21 rfl rfl)
theorem dX1_estimateOf_110 : decode cX1_estimateOf 110 = .ok (.invokevirtual 301, 3) := dk_182 1 45 (dk_at dksX1_estimateOf_5 0 rfl rfl)
theorem dX1_estimateOf_113 : decode cX1_estimateOf 113 = .ok (.goto 4, 3) := dk_167 0 4 (dk_at dksX1_estimateOf_5 3 rfl rfl)
theorem dX1_estimateOf_116 : decode cX1_estimateOf 116 = .ok (.iload_n 3, 1) := dk_29 (dk_at dksX1_estimateOf_5 6 rfl rfl)
theorem dX1_estimateOf_117 : decode cX1_estimateOf 117 = .ok (.ireturn, 1) := dk_172 (dk_at dksX1_estimateOf_5 7 rfl rfl)
abbrev cX1_displaced : ByteArray := prog_1_method_27_code
def yX1_displaced : MethodName := ⟨RX1, "displaced", "(LSlidingtray$Lie;)I"⟩
def dkwX1_displaced_3 : List UInt8 := [167, 255, 193, 28, 172]
abbrev dktX1_displaced_3 : List UInt8 := dkwX1_displaced_3 ++ []
def dkwX1_displaced_2 : List UInt8 := [159, 0, 16, 42, 180, 0, 33, 180, 0, 188, 21, 4, 46, 167, 0, 4, 3, 96, 61, 132, 3, 1]
abbrev dktX1_displaced_2 : List UInt8 := dkwX1_displaced_2 ++ dktX1_displaced_3
def dkwX1_displaced_1 : List UInt8 := [180, 0, 33, 21, 4, 182, 1, 2, 153, 0, 30, 42, 180, 0, 33, 180, 1, 5, 21, 4, 46, 29]
abbrev dktX1_displaced_1 : List UInt8 := dkwX1_displaced_1 ++ dktX1_displaced_2
def dkwX1_displaced_0 : List UInt8 := [3, 61, 3, 62, 29, 43, 180, 0, 247, 190, 162, 0, 60, 43, 180, 0, 247, 29, 46, 54, 4, 28, 42]
abbrev dktX1_displaced_0 : List UInt8 := dkwX1_displaced_0 ++ dktX1_displaced_1
theorem dksX1_displaced_0 : cX1_displaced.data.toList.drop 0 = dktX1_displaced_0 := by decide +kernel
theorem dksX1_displaced_1 : cX1_displaced.data.toList.drop 23 = dktX1_displaced_1 := dk_seg dksX1_displaced_0 23 rfl rfl
theorem dksX1_displaced_2 : cX1_displaced.data.toList.drop 45 = dktX1_displaced_2 := dk_seg dksX1_displaced_1 22 rfl rfl
theorem dksX1_displaced_3 : cX1_displaced.data.toList.drop 67 = dktX1_displaced_3 := dk_seg dksX1_displaced_2 22 rfl rfl
theorem dX1_displaced_0 : decode cX1_displaced 0 = .ok (.iconst 0, 1) := dk_3 (dk_at dksX1_displaced_0 0 rfl rfl)
theorem dX1_displaced_1 : decode cX1_displaced 1 = .ok (.istore_n 2, 1) := dk_61 (dk_at dksX1_displaced_0 1 rfl rfl)
theorem dX1_displaced_2 : decode cX1_displaced 2 = .ok (.iconst 0, 1) := dk_3 (dk_at dksX1_displaced_0 2 rfl rfl)
theorem dX1_displaced_3 : decode cX1_displaced 3 = .ok (.istore_n 3, 1) := dk_62 (dk_at dksX1_displaced_0 3 rfl rfl)
theorem dX1_displaced_4 : decode cX1_displaced 4 = .ok (.iload_n 3, 1) := dk_29 (dk_at dksX1_displaced_0 4 rfl rfl)
theorem dX1_displaced_5 : decode cX1_displaced 5 = .ok (.aload_n 1, 1) := dk_43 (dk_at dksX1_displaced_0 5 rfl rfl)
theorem dX1_displaced_6 : decode cX1_displaced 6 = .ok (.getfield 247, 3) := dk_180 0 247 (dk_at dksX1_displaced_0 6 rfl rfl)
theorem dX1_displaced_9 : decode cX1_displaced 9 = .ok (.arraylength, 1) := dk_190 (dk_at dksX1_displaced_0 9 rfl rfl)
theorem dX1_displaced_10 : decode cX1_displaced 10 = .ok (.if_icmp .ge 60, 3) := dk_162 0 60 (dk_at dksX1_displaced_0 10 rfl rfl)
theorem dX1_displaced_13 : decode cX1_displaced 13 = .ok (.aload_n 1, 1) := dk_43 (dk_at dksX1_displaced_0 13 rfl rfl)
theorem dX1_displaced_14 : decode cX1_displaced 14 = .ok (.getfield 247, 3) := dk_180 0 247 (dk_at dksX1_displaced_0 14 rfl rfl)
theorem dX1_displaced_17 : decode cX1_displaced 17 = .ok (.iload_n 3, 1) := dk_29 (dk_at dksX1_displaced_0 17 rfl rfl)
theorem dX1_displaced_18 : decode cX1_displaced 18 = .ok (.iaload, 1) := dk_46 (dk_at dksX1_displaced_0 18 rfl rfl)
theorem dX1_displaced_19 : decode cX1_displaced 19 = .ok (.istore 4, 2) := dk_54 4 (dk_at dksX1_displaced_0 19 rfl rfl)
theorem dX1_displaced_21 : decode cX1_displaced 21 = .ok (.iload_n 2, 1) := dk_28 (dk_at dksX1_displaced_0 21 rfl rfl)
theorem dX1_displaced_22 : decode cX1_displaced 22 = .ok (.aload_n 0, 1) := dk_42 (dk_at dksX1_displaced_0 22 rfl rfl)
theorem dX1_displaced_23 : decode cX1_displaced 23 = .ok (.getfield 33, 3) := dk_180 0 33 (dk_at dksX1_displaced_1 0 rfl rfl)
theorem dX1_displaced_26 : decode cX1_displaced 26 = .ok (.iload 4, 2) := dk_21 4 (dk_at dksX1_displaced_1 3 rfl rfl)
theorem dX1_displaced_28 : decode cX1_displaced 28 = .ok (.invokevirtual 258, 3) := dk_182 1 2 (dk_at dksX1_displaced_1 5 rfl rfl)
theorem dX1_displaced_31 : decode cX1_displaced 31 = .ok (.ifCond .eq 30, 3) := dk_153 0 30 (dk_at dksX1_displaced_1 8 rfl rfl)
theorem dX1_displaced_34 : decode cX1_displaced 34 = .ok (.aload_n 0, 1) := dk_42 (dk_at dksX1_displaced_1 11 rfl rfl)
theorem dX1_displaced_35 : decode cX1_displaced 35 = .ok (.getfield 33, 3) := dk_180 0 33 (dk_at dksX1_displaced_1 12 rfl rfl)
theorem dX1_displaced_38 : decode cX1_displaced 38 = .ok (.getfield 261, 3) := dk_180 1 5 (dk_at dksX1_displaced_1 15 rfl rfl)
theorem dX1_displaced_41 : decode cX1_displaced 41 = .ok (.iload 4, 2) := dk_21 4 (dk_at dksX1_displaced_1 18 rfl rfl)
theorem dX1_displaced_43 : decode cX1_displaced 43 = .ok (.iaload, 1) := dk_46 (dk_at dksX1_displaced_1 20 rfl rfl)
theorem dX1_displaced_44 : decode cX1_displaced 44 = .ok (.iload_n 3, 1) := dk_29 (dk_at dksX1_displaced_1 21 rfl rfl)
theorem dX1_displaced_45 : decode cX1_displaced 45 = .ok (.if_icmp .eq 16, 3) := dk_159 0 16 (dk_at dksX1_displaced_2 0 rfl rfl)
theorem dX1_displaced_48 : decode cX1_displaced 48 = .ok (.aload_n 0, 1) := dk_42 (dk_at dksX1_displaced_2 3 rfl rfl)
theorem dX1_displaced_49 : decode cX1_displaced 49 = .ok (.getfield 33, 3) := dk_180 0 33 (dk_at dksX1_displaced_2 4 rfl rfl)
theorem dX1_displaced_52 : decode cX1_displaced 52 = .ok (.getfield 188, 3) := dk_180 0 188 (dk_at dksX1_displaced_2 7 rfl rfl)
theorem dX1_displaced_55 : decode cX1_displaced 55 = .ok (.iload 4, 2) := dk_21 4 (dk_at dksX1_displaced_2 10 rfl rfl)
theorem dX1_displaced_57 : decode cX1_displaced 57 = .ok (.iaload, 1) := dk_46 (dk_at dksX1_displaced_2 12 rfl rfl)
theorem dX1_displaced_58 : decode cX1_displaced 58 = .ok (.goto 4, 3) := dk_167 0 4 (dk_at dksX1_displaced_2 13 rfl rfl)
theorem dX1_displaced_61 : decode cX1_displaced 61 = .ok (.iconst 0, 1) := dk_3 (dk_at dksX1_displaced_2 16 rfl rfl)
theorem dX1_displaced_62 : decode cX1_displaced 62 = .ok (.iadd, 1) := dk_96 (dk_at dksX1_displaced_2 17 rfl rfl)
theorem dX1_displaced_63 : decode cX1_displaced 63 = .ok (.istore_n 2, 1) := dk_61 (dk_at dksX1_displaced_2 18 rfl rfl)
theorem dX1_displaced_64 : decode cX1_displaced 64 = .ok (.iinc 3 1, 3) := dk_132 3 1 (dk_at dksX1_displaced_2 19 rfl rfl)
theorem dX1_displaced_67 : decode cX1_displaced 67 = .ok (.goto (-63), 3) := dk_167 255 193 (dk_at dksX1_displaced_3 0 rfl rfl)
theorem dX1_displaced_70 : decode cX1_displaced 70 = .ok (.iload_n 2, 1) := dk_28 (dk_at dksX1_displaced_3 3 rfl rfl)
theorem dX1_displaced_71 : decode cX1_displaced 71 = .ok (.ireturn, 1) := dk_172 (dk_at dksX1_displaced_3 4 rfl rfl)
abbrev cX1_ways : ByteArray := prog_1_method_28_code
def yX1_ways : MethodName := ⟨RX1, "ways", "(LSlidingtray$Lie;)I"⟩
def dkwX1_ways_3 : List UInt8 := [96, 61, 132, 3, 1, 167, 255, 186, 28, 172]
abbrev dktX1_ways_3 : List UInt8 := dkwX1_ways_3 ++ []
def dkwX1_ways_2 : List UInt8 := [180, 0, 12, 180, 0, 254, 29, 50, 42, 180, 0, 33, 180, 1, 5, 21, 4, 46, 46, 104, 167, 0, 4, 3]
abbrev dktX1_ways_2 : List UInt8 := dkwX1_ways_2 ++ dktX1_ways_3
def dkwX1_ways_1 : List UInt8 := [180, 0, 33, 21, 4, 182, 1, 2, 153, 0, 37, 42, 180, 0, 33, 180, 0, 188, 21, 4, 46, 42]
abbrev dktX1_ways_1 : List UInt8 := dkwX1_ways_1 ++ dktX1_ways_2
def dkwX1_ways_0 : List UInt8 := [3, 61, 3, 62, 29, 43, 180, 0, 247, 190, 162, 0, 67, 43, 180, 0, 247, 29, 46, 54, 4, 28, 42]
abbrev dktX1_ways_0 : List UInt8 := dkwX1_ways_0 ++ dktX1_ways_1
theorem dksX1_ways_0 : cX1_ways.data.toList.drop 0 = dktX1_ways_0 := by decide +kernel
theorem dksX1_ways_1 : cX1_ways.data.toList.drop 23 = dktX1_ways_1 := dk_seg dksX1_ways_0 23 rfl rfl
theorem dksX1_ways_2 : cX1_ways.data.toList.drop 45 = dktX1_ways_2 := dk_seg dksX1_ways_1 22 rfl rfl
theorem dksX1_ways_3 : cX1_ways.data.toList.drop 69 = dktX1_ways_3 := dk_seg dksX1_ways_2 24 rfl rfl
theorem dX1_ways_0 : decode cX1_ways 0 = .ok (.iconst 0, 1) := dk_3 (dk_at dksX1_ways_0 0 rfl rfl)
theorem dX1_ways_1 : decode cX1_ways 1 = .ok (.istore_n 2, 1) := dk_61 (dk_at dksX1_ways_0 1 rfl rfl)
theorem dX1_ways_2 : decode cX1_ways 2 = .ok (.iconst 0, 1) := dk_3 (dk_at dksX1_ways_0 2 rfl rfl)
theorem dX1_ways_3 : decode cX1_ways 3 = .ok (.istore_n 3, 1) := dk_62 (dk_at dksX1_ways_0 3 rfl rfl)
theorem dX1_ways_4 : decode cX1_ways 4 = .ok (.iload_n 3, 1) := dk_29 (dk_at dksX1_ways_0 4 rfl rfl)
theorem dX1_ways_5 : decode cX1_ways 5 = .ok (.aload_n 1, 1) := dk_43 (dk_at dksX1_ways_0 5 rfl rfl)
theorem dX1_ways_6 : decode cX1_ways 6 = .ok (.getfield 247, 3) := dk_180 0 247 (dk_at dksX1_ways_0 6 rfl rfl)
theorem dX1_ways_9 : decode cX1_ways 9 = .ok (.arraylength, 1) := dk_190 (dk_at dksX1_ways_0 9 rfl rfl)
theorem dX1_ways_10 : decode cX1_ways 10 = .ok (.if_icmp .ge 67, 3) := dk_162 0 67 (dk_at dksX1_ways_0 10 rfl rfl)
theorem dX1_ways_13 : decode cX1_ways 13 = .ok (.aload_n 1, 1) := dk_43 (dk_at dksX1_ways_0 13 rfl rfl)
theorem dX1_ways_14 : decode cX1_ways 14 = .ok (.getfield 247, 3) := dk_180 0 247 (dk_at dksX1_ways_0 14 rfl rfl)
theorem dX1_ways_17 : decode cX1_ways 17 = .ok (.iload_n 3, 1) := dk_29 (dk_at dksX1_ways_0 17 rfl rfl)
theorem dX1_ways_18 : decode cX1_ways 18 = .ok (.iaload, 1) := dk_46 (dk_at dksX1_ways_0 18 rfl rfl)
theorem dX1_ways_19 : decode cX1_ways 19 = .ok (.istore 4, 2) := dk_54 4 (dk_at dksX1_ways_0 19 rfl rfl)
theorem dX1_ways_21 : decode cX1_ways 21 = .ok (.iload_n 2, 1) := dk_28 (dk_at dksX1_ways_0 21 rfl rfl)
theorem dX1_ways_22 : decode cX1_ways 22 = .ok (.aload_n 0, 1) := dk_42 (dk_at dksX1_ways_0 22 rfl rfl)
theorem dX1_ways_23 : decode cX1_ways 23 = .ok (.getfield 33, 3) := dk_180 0 33 (dk_at dksX1_ways_1 0 rfl rfl)
theorem dX1_ways_26 : decode cX1_ways 26 = .ok (.iload 4, 2) := dk_21 4 (dk_at dksX1_ways_1 3 rfl rfl)
theorem dX1_ways_28 : decode cX1_ways 28 = .ok (.invokevirtual 258, 3) := dk_182 1 2 (dk_at dksX1_ways_1 5 rfl rfl)
theorem dX1_ways_31 : decode cX1_ways 31 = .ok (.ifCond .eq 37, 3) := dk_153 0 37 (dk_at dksX1_ways_1 8 rfl rfl)
theorem dX1_ways_34 : decode cX1_ways 34 = .ok (.aload_n 0, 1) := dk_42 (dk_at dksX1_ways_1 11 rfl rfl)
theorem dX1_ways_35 : decode cX1_ways 35 = .ok (.getfield 33, 3) := dk_180 0 33 (dk_at dksX1_ways_1 12 rfl rfl)
theorem dX1_ways_38 : decode cX1_ways 38 = .ok (.getfield 188, 3) := dk_180 0 188 (dk_at dksX1_ways_1 15 rfl rfl)
theorem dX1_ways_41 : decode cX1_ways 41 = .ok (.iload 4, 2) := dk_21 4 (dk_at dksX1_ways_1 18 rfl rfl)
theorem dX1_ways_43 : decode cX1_ways 43 = .ok (.iaload, 1) := dk_46 (dk_at dksX1_ways_1 20 rfl rfl)
theorem dX1_ways_44 : decode cX1_ways 44 = .ok (.aload_n 0, 1) := dk_42 (dk_at dksX1_ways_1 21 rfl rfl)
theorem dX1_ways_45 : decode cX1_ways 45 = .ok (.getfield 12, 3) := dk_180 0 12 (dk_at dksX1_ways_2 0 rfl rfl)
theorem dX1_ways_48 : decode cX1_ways 48 = .ok (.getfield 254, 3) := dk_180 0 254 (dk_at dksX1_ways_2 3 rfl rfl)
theorem dX1_ways_51 : decode cX1_ways 51 = .ok (.iload_n 3, 1) := dk_29 (dk_at dksX1_ways_2 6 rfl rfl)
theorem dX1_ways_52 : decode cX1_ways 52 = .ok (.aaload, 1) := dk_50 (dk_at dksX1_ways_2 7 rfl rfl)
theorem dX1_ways_53 : decode cX1_ways 53 = .ok (.aload_n 0, 1) := dk_42 (dk_at dksX1_ways_2 8 rfl rfl)
theorem dX1_ways_54 : decode cX1_ways 54 = .ok (.getfield 33, 3) := dk_180 0 33 (dk_at dksX1_ways_2 9 rfl rfl)
theorem dX1_ways_57 : decode cX1_ways 57 = .ok (.getfield 261, 3) := dk_180 1 5 (dk_at dksX1_ways_2 12 rfl rfl)
theorem dX1_ways_60 : decode cX1_ways 60 = .ok (.iload 4, 2) := dk_21 4 (dk_at dksX1_ways_2 15 rfl rfl)
theorem dX1_ways_62 : decode cX1_ways 62 = .ok (.iaload, 1) := dk_46 (dk_at dksX1_ways_2 17 rfl rfl)
theorem dX1_ways_63 : decode cX1_ways 63 = .ok (.iaload, 1) := dk_46 (dk_at dksX1_ways_2 18 rfl rfl)
theorem dX1_ways_64 : decode cX1_ways 64 = .ok (.imul, 1) := dk_104 (dk_at dksX1_ways_2 19 rfl rfl)
theorem dX1_ways_65 : decode cX1_ways 65 = .ok (.goto 4, 3) := dk_167 0 4 (dk_at dksX1_ways_2 20 rfl rfl)
theorem dX1_ways_68 : decode cX1_ways 68 = .ok (.iconst 0, 1) := dk_3 (dk_at dksX1_ways_2 23 rfl rfl)
theorem dX1_ways_69 : decode cX1_ways 69 = .ok (.iadd, 1) := dk_96 (dk_at dksX1_ways_3 0 rfl rfl)
theorem dX1_ways_70 : decode cX1_ways 70 = .ok (.istore_n 2, 1) := dk_61 (dk_at dksX1_ways_3 1 rfl rfl)
theorem dX1_ways_71 : decode cX1_ways 71 = .ok (.iinc 3 1, 3) := dk_132 3 1 (dk_at dksX1_ways_3 2 rfl rfl)
theorem dX1_ways_74 : decode cX1_ways 74 = .ok (.goto (-70), 3) := dk_167 255 186 (dk_at dksX1_ways_3 5 rfl rfl)
theorem dX1_ways_77 : decode cX1_ways 77 = .ok (.iload_n 2, 1) := dk_28 (dk_at dksX1_ways_3 8 rfl rfl)
theorem dX1_ways_78 : decode cX1_ways 78 = .ok (.ireturn, 1) := dk_172 (dk_at dksX1_ways_3 9 rfl rfl)
abbrev cX1_pairs : ByteArray := prog_1_method_31_code
def yX1_pairs : MethodName := ⟨RX1, "pairs", "(LSlidingtray$Lie;)I"⟩
def dkwX1_pairs_4 : List UInt8 := [182, 1, 30, 104, 96, 61, 132, 3, 1, 167, 255, 212, 28, 172]
abbrev dktX1_pairs_4 : List UInt8 := dkwX1_pairs_4 ++ []
def dkwX1_pairs_3 : List UInt8 := [180, 0, 12, 180, 1, 34, 29, 182, 0, 179, 153, 0, 7, 3, 167, 0, 12, 5, 42, 43, 29, 3]
abbrev dktX1_pairs_3 : List UInt8 := dkwX1_pairs_3 ++ dktX1_pairs_4
def dkwX1_pairs_2 : List UInt8 := [61, 132, 3, 1, 167, 255, 212, 3, 62, 29, 42, 180, 0, 12, 180, 0, 241, 162, 0, 39, 28, 42]
abbrev dktX1_pairs_2 : List UInt8 := dkwX1_pairs_2 ++ dktX1_pairs_3
def dkwX1_pairs_1 : List UInt8 := [180, 1, 27, 29, 182, 0, 179, 153, 0, 7, 3, 167, 0, 12, 5, 42, 43, 29, 4, 182, 1, 30, 104, 96]
abbrev dktX1_pairs_1 : List UInt8 := dkwX1_pairs_1 ++ dktX1_pairs_2
def dkwX1_pairs_0 : List UInt8 := [42, 43, 182, 1, 24, 61, 3, 62, 29, 42, 180, 0, 12, 180, 0, 238, 162, 0, 39, 28, 42, 180, 0, 12]
abbrev dktX1_pairs_0 : List UInt8 := dkwX1_pairs_0 ++ dktX1_pairs_1
theorem dksX1_pairs_0 : cX1_pairs.data.toList.drop 0 = dktX1_pairs_0 := by decide +kernel
theorem dksX1_pairs_1 : cX1_pairs.data.toList.drop 24 = dktX1_pairs_1 := dk_seg dksX1_pairs_0 24 rfl rfl
theorem dksX1_pairs_2 : cX1_pairs.data.toList.drop 48 = dktX1_pairs_2 := dk_seg dksX1_pairs_1 24 rfl rfl
theorem dksX1_pairs_3 : cX1_pairs.data.toList.drop 70 = dktX1_pairs_3 := dk_seg dksX1_pairs_2 22 rfl rfl
theorem dksX1_pairs_4 : cX1_pairs.data.toList.drop 92 = dktX1_pairs_4 := dk_seg dksX1_pairs_3 22 rfl rfl
theorem dX1_pairs_0 : decode cX1_pairs 0 = .ok (.aload_n 0, 1) := dk_42 (dk_at dksX1_pairs_0 0 rfl rfl)
theorem dX1_pairs_1 : decode cX1_pairs 1 = .ok (.aload_n 1, 1) := dk_43 (dk_at dksX1_pairs_0 1 rfl rfl)
theorem dX1_pairs_2 : decode cX1_pairs 2 = .ok (.invokevirtual 280, 3) := dk_182 1 24 (dk_at dksX1_pairs_0 2 rfl rfl)
theorem dX1_pairs_5 : decode cX1_pairs 5 = .ok (.istore_n 2, 1) := dk_61 (dk_at dksX1_pairs_0 5 rfl rfl)
theorem dX1_pairs_6 : decode cX1_pairs 6 = .ok (.iconst 0, 1) := dk_3 (dk_at dksX1_pairs_0 6 rfl rfl)
theorem dX1_pairs_7 : decode cX1_pairs 7 = .ok (.istore_n 3, 1) := dk_62 (dk_at dksX1_pairs_0 7 rfl rfl)
theorem dX1_pairs_8 : decode cX1_pairs 8 = .ok (.iload_n 3, 1) := dk_29 (dk_at dksX1_pairs_0 8 rfl rfl)
theorem dX1_pairs_9 : decode cX1_pairs 9 = .ok (.aload_n 0, 1) := dk_42 (dk_at dksX1_pairs_0 9 rfl rfl)
theorem dX1_pairs_10 : decode cX1_pairs 10 = .ok (.getfield 12, 3) := dk_180 0 12 (dk_at dksX1_pairs_0 10 rfl rfl)
theorem dX1_pairs_13 : decode cX1_pairs 13 = .ok (.getfield 238, 3) := dk_180 0 238 (dk_at dksX1_pairs_0 13 rfl rfl)
theorem dX1_pairs_16 : decode cX1_pairs 16 = .ok (.if_icmp .ge 39, 3) := dk_162 0 39 (dk_at dksX1_pairs_0 16 rfl rfl)
theorem dX1_pairs_19 : decode cX1_pairs 19 = .ok (.iload_n 2, 1) := dk_28 (dk_at dksX1_pairs_0 19 rfl rfl)
theorem dX1_pairs_20 : decode cX1_pairs 20 = .ok (.aload_n 0, 1) := dk_42 (dk_at dksX1_pairs_0 20 rfl rfl)
theorem dX1_pairs_21 : decode cX1_pairs 21 = .ok (.getfield 12, 3) := dk_180 0 12 (dk_at dksX1_pairs_0 21 rfl rfl)
theorem dX1_pairs_24 : decode cX1_pairs 24 = .ok (.getfield 283, 3) := dk_180 1 27 (dk_at dksX1_pairs_1 0 rfl rfl)
theorem dX1_pairs_27 : decode cX1_pairs 27 = .ok (.iload_n 3, 1) := dk_29 (dk_at dksX1_pairs_1 3 rfl rfl)
theorem dX1_pairs_28 : decode cX1_pairs 28 = .ok (.invokevirtual 179, 3) := dk_182 0 179 (dk_at dksX1_pairs_1 4 rfl rfl)
theorem dX1_pairs_31 : decode cX1_pairs 31 = .ok (.ifCond .eq 7, 3) := dk_153 0 7 (dk_at dksX1_pairs_1 7 rfl rfl)
theorem dX1_pairs_34 : decode cX1_pairs 34 = .ok (.iconst 0, 1) := dk_3 (dk_at dksX1_pairs_1 10 rfl rfl)
theorem dX1_pairs_35 : decode cX1_pairs 35 = .ok (.goto 12, 3) := dk_167 0 12 (dk_at dksX1_pairs_1 11 rfl rfl)
theorem dX1_pairs_38 : decode cX1_pairs 38 = .ok (.iconst 2, 1) := dk_5 (dk_at dksX1_pairs_1 14 rfl rfl)
theorem dX1_pairs_39 : decode cX1_pairs 39 = .ok (.aload_n 0, 1) := dk_42 (dk_at dksX1_pairs_1 15 rfl rfl)
theorem dX1_pairs_40 : decode cX1_pairs 40 = .ok (.aload_n 1, 1) := dk_43 (dk_at dksX1_pairs_1 16 rfl rfl)
theorem dX1_pairs_41 : decode cX1_pairs 41 = .ok (.iload_n 3, 1) := dk_29 (dk_at dksX1_pairs_1 17 rfl rfl)
theorem dX1_pairs_42 : decode cX1_pairs 42 = .ok (.iconst 1, 1) := dk_4 (dk_at dksX1_pairs_1 18 rfl rfl)
theorem dX1_pairs_43 : decode cX1_pairs 43 = .ok (.invokevirtual 286, 3) := dk_182 1 30 (dk_at dksX1_pairs_1 19 rfl rfl)
theorem dX1_pairs_46 : decode cX1_pairs 46 = .ok (.imul, 1) := dk_104 (dk_at dksX1_pairs_1 22 rfl rfl)
theorem dX1_pairs_47 : decode cX1_pairs 47 = .ok (.iadd, 1) := dk_96 (dk_at dksX1_pairs_1 23 rfl rfl)
theorem dX1_pairs_48 : decode cX1_pairs 48 = .ok (.istore_n 2, 1) := dk_61 (dk_at dksX1_pairs_2 0 rfl rfl)
theorem dX1_pairs_49 : decode cX1_pairs 49 = .ok (.iinc 3 1, 3) := dk_132 3 1 (dk_at dksX1_pairs_2 1 rfl rfl)
theorem dX1_pairs_52 : decode cX1_pairs 52 = .ok (.goto (-44), 3) := dk_167 255 212 (dk_at dksX1_pairs_2 4 rfl rfl)
theorem dX1_pairs_55 : decode cX1_pairs 55 = .ok (.iconst 0, 1) := dk_3 (dk_at dksX1_pairs_2 7 rfl rfl)
theorem dX1_pairs_56 : decode cX1_pairs 56 = .ok (.istore_n 3, 1) := dk_62 (dk_at dksX1_pairs_2 8 rfl rfl)
theorem dX1_pairs_57 : decode cX1_pairs 57 = .ok (.iload_n 3, 1) := dk_29 (dk_at dksX1_pairs_2 9 rfl rfl)
theorem dX1_pairs_58 : decode cX1_pairs 58 = .ok (.aload_n 0, 1) := dk_42 (dk_at dksX1_pairs_2 10 rfl rfl)
theorem dX1_pairs_59 : decode cX1_pairs 59 = .ok (.getfield 12, 3) := dk_180 0 12 (dk_at dksX1_pairs_2 11 rfl rfl)
theorem dX1_pairs_62 : decode cX1_pairs 62 = .ok (.getfield 241, 3) := dk_180 0 241 (dk_at dksX1_pairs_2 14 rfl rfl)
theorem dX1_pairs_65 : decode cX1_pairs 65 = .ok (.if_icmp .ge 39, 3) := dk_162 0 39 (dk_at dksX1_pairs_2 17 rfl rfl)
theorem dX1_pairs_68 : decode cX1_pairs 68 = .ok (.iload_n 2, 1) := dk_28 (dk_at dksX1_pairs_2 20 rfl rfl)
theorem dX1_pairs_69 : decode cX1_pairs 69 = .ok (.aload_n 0, 1) := dk_42 (dk_at dksX1_pairs_2 21 rfl rfl)
theorem dX1_pairs_70 : decode cX1_pairs 70 = .ok (.getfield 12, 3) := dk_180 0 12 (dk_at dksX1_pairs_3 0 rfl rfl)
theorem dX1_pairs_73 : decode cX1_pairs 73 = .ok (.getfield 290, 3) := dk_180 1 34 (dk_at dksX1_pairs_3 3 rfl rfl)
theorem dX1_pairs_76 : decode cX1_pairs 76 = .ok (.iload_n 3, 1) := dk_29 (dk_at dksX1_pairs_3 6 rfl rfl)
theorem dX1_pairs_77 : decode cX1_pairs 77 = .ok (.invokevirtual 179, 3) := dk_182 0 179 (dk_at dksX1_pairs_3 7 rfl rfl)
theorem dX1_pairs_80 : decode cX1_pairs 80 = .ok (.ifCond .eq 7, 3) := dk_153 0 7 (dk_at dksX1_pairs_3 10 rfl rfl)
theorem dX1_pairs_83 : decode cX1_pairs 83 = .ok (.iconst 0, 1) := dk_3 (dk_at dksX1_pairs_3 13 rfl rfl)
theorem dX1_pairs_84 : decode cX1_pairs 84 = .ok (.goto 12, 3) := dk_167 0 12 (dk_at dksX1_pairs_3 14 rfl rfl)
theorem dX1_pairs_87 : decode cX1_pairs 87 = .ok (.iconst 2, 1) := dk_5 (dk_at dksX1_pairs_3 17 rfl rfl)
theorem dX1_pairs_88 : decode cX1_pairs 88 = .ok (.aload_n 0, 1) := dk_42 (dk_at dksX1_pairs_3 18 rfl rfl)
theorem dX1_pairs_89 : decode cX1_pairs 89 = .ok (.aload_n 1, 1) := dk_43 (dk_at dksX1_pairs_3 19 rfl rfl)
theorem dX1_pairs_90 : decode cX1_pairs 90 = .ok (.iload_n 3, 1) := dk_29 (dk_at dksX1_pairs_3 20 rfl rfl)
theorem dX1_pairs_91 : decode cX1_pairs 91 = .ok (.iconst 0, 1) := dk_3 (dk_at dksX1_pairs_3 21 rfl rfl)
theorem dX1_pairs_92 : decode cX1_pairs 92 = .ok (.invokevirtual 286, 3) := dk_182 1 30 (dk_at dksX1_pairs_4 0 rfl rfl)
theorem dX1_pairs_95 : decode cX1_pairs 95 = .ok (.imul, 1) := dk_104 (dk_at dksX1_pairs_4 3 rfl rfl)
theorem dX1_pairs_96 : decode cX1_pairs 96 = .ok (.iadd, 1) := dk_96 (dk_at dksX1_pairs_4 4 rfl rfl)
theorem dX1_pairs_97 : decode cX1_pairs 97 = .ok (.istore_n 2, 1) := dk_61 (dk_at dksX1_pairs_4 5 rfl rfl)
theorem dX1_pairs_98 : decode cX1_pairs 98 = .ok (.iinc 3 1, 3) := dk_132 3 1 (dk_at dksX1_pairs_4 6 rfl rfl)
theorem dX1_pairs_101 : decode cX1_pairs 101 = .ok (.goto (-44), 3) := dk_167 255 212 (dk_at dksX1_pairs_4 9 rfl rfl)
theorem dX1_pairs_104 : decode cX1_pairs 104 = .ok (.iload_n 2, 1) := dk_28 (dk_at dksX1_pairs_4 12 rfl rfl)
theorem dX1_pairs_105 : decode cX1_pairs 105 = .ok (.ireturn, 1) := dk_172 (dk_at dksX1_pairs_4 13 rfl rfl)
abbrev cX1_lineAdds : ByteArray := prog_1_method_30_code
def yX1_lineAdds : MethodName := ⟨RX1, "lineAdds", "(LSlidingtray$Lie;IZ)I"⟩
def dkwX1_lineAdds_7 : List UInt8 := [167, 255, 96, 42, 21, 4, 182, 1, 21, 172]
abbrev dktX1_lineAdds_7 : List UInt8 := dkwX1_lineAdds_7 ++ []
def dkwX1_lineAdds_6 : List UInt8 := [79, 42, 180, 0, 78, 21, 4, 42, 180, 0, 33, 180, 0, 188, 21, 6, 46, 79, 132, 4, 1, 132, 5, 1]
abbrev dktX1_lineAdds_6 : List UInt8 := dkwX1_lineAdds_6 ++ dktX1_lineAdds_7
def dkwX1_lineAdds_5 : List UInt8 := [153, 0, 15, 42, 180, 0, 12, 21, 8, 182, 1, 18, 167, 0, 12, 42, 180, 0, 12, 21, 8, 182, 1, 15]
abbrev dktX1_lineAdds_5 : List UInt8 := dkwX1_lineAdds_5 ++ dktX1_lineAdds_6
def dkwX1_lineAdds_4 : List UInt8 := [167, 0, 12, 42, 180, 0, 12, 21, 8, 182, 1, 18, 28, 160, 0, 55, 42, 180, 0, 74, 21, 4, 29]
abbrev dktX1_lineAdds_4 : List UInt8 := dkwX1_lineAdds_4 ++ dktX1_lineAdds_5
def dkwX1_lineAdds_3 : List UInt8 := [180, 0, 33, 180, 1, 5, 21, 6, 46, 54, 8, 29, 153, 0, 15, 42, 180, 0, 12, 21, 8, 182, 1, 15]
abbrev dktX1_lineAdds_3 : List UInt8 := dkwX1_lineAdds_3 ++ dktX1_lineAdds_4
def dkwX1_lineAdds_2 : List UInt8 := [182, 1, 18, 54, 7, 21, 7, 28, 160, 0, 108, 42, 180, 0, 33, 21, 6, 182, 1, 2, 153, 0, 96, 42]
abbrev dktX1_lineAdds_2 : List UInt8 := dkwX1_lineAdds_2 ++ dktX1_lineAdds_3
def dkwX1_lineAdds_1 : List UInt8 := [54, 6, 29, 153, 0, 15, 42, 180, 0, 12, 21, 5, 182, 1, 15, 167, 0, 12, 42, 180, 0, 12, 21, 5]
abbrev dktX1_lineAdds_1 : List UInt8 := dkwX1_lineAdds_1 ++ dktX1_lineAdds_2
def dkwX1_lineAdds_0 : List UInt8 := [3, 54, 4, 3, 54, 5, 21, 5, 43, 180, 0, 247, 190, 162, 0, 156, 43, 180, 0, 247, 21, 5, 46]
abbrev dktX1_lineAdds_0 : List UInt8 := dkwX1_lineAdds_0 ++ dktX1_lineAdds_1
theorem dksX1_lineAdds_0 : cX1_lineAdds.data.toList.drop 0 = dktX1_lineAdds_0 := by decide +kernel
theorem dksX1_lineAdds_1 : cX1_lineAdds.data.toList.drop 23 = dktX1_lineAdds_1 := dk_seg dksX1_lineAdds_0 23 rfl rfl
theorem dksX1_lineAdds_2 : cX1_lineAdds.data.toList.drop 47 = dktX1_lineAdds_2 := dk_seg dksX1_lineAdds_1 24 rfl rfl
theorem dksX1_lineAdds_3 : cX1_lineAdds.data.toList.drop 71 = dktX1_lineAdds_3 := dk_seg dksX1_lineAdds_2 24 rfl rfl
theorem dksX1_lineAdds_4 : cX1_lineAdds.data.toList.drop 95 = dktX1_lineAdds_4 := dk_seg dksX1_lineAdds_3 24 rfl rfl
theorem dksX1_lineAdds_5 : cX1_lineAdds.data.toList.drop 118 = dktX1_lineAdds_5 := dk_seg dksX1_lineAdds_4 23 rfl rfl
theorem dksX1_lineAdds_6 : cX1_lineAdds.data.toList.drop 142 = dktX1_lineAdds_6 := dk_seg dksX1_lineAdds_5 24 rfl rfl
theorem dksX1_lineAdds_7 : cX1_lineAdds.data.toList.drop 166 = dktX1_lineAdds_7 := dk_seg dksX1_lineAdds_6 24 rfl rfl
theorem dX1_lineAdds_0 : decode cX1_lineAdds 0 = .ok (.iconst 0, 1) := dk_3 (dk_at dksX1_lineAdds_0 0 rfl rfl)
theorem dX1_lineAdds_1 : decode cX1_lineAdds 1 = .ok (.istore 4, 2) := dk_54 4 (dk_at dksX1_lineAdds_0 1 rfl rfl)
theorem dX1_lineAdds_3 : decode cX1_lineAdds 3 = .ok (.iconst 0, 1) := dk_3 (dk_at dksX1_lineAdds_0 3 rfl rfl)
theorem dX1_lineAdds_4 : decode cX1_lineAdds 4 = .ok (.istore 5, 2) := dk_54 5 (dk_at dksX1_lineAdds_0 4 rfl rfl)
theorem dX1_lineAdds_6 : decode cX1_lineAdds 6 = .ok (.iload 5, 2) := dk_21 5 (dk_at dksX1_lineAdds_0 6 rfl rfl)
theorem dX1_lineAdds_8 : decode cX1_lineAdds 8 = .ok (.aload_n 1, 1) := dk_43 (dk_at dksX1_lineAdds_0 8 rfl rfl)
theorem dX1_lineAdds_9 : decode cX1_lineAdds 9 = .ok (.getfield 247, 3) := dk_180 0 247 (dk_at dksX1_lineAdds_0 9 rfl rfl)
theorem dX1_lineAdds_12 : decode cX1_lineAdds 12 = .ok (.arraylength, 1) := dk_190 (dk_at dksX1_lineAdds_0 12 rfl rfl)
theorem dX1_lineAdds_13 : decode cX1_lineAdds 13 = .ok (.if_icmp .ge 156, 3) := dk_162 0 156 (dk_at dksX1_lineAdds_0 13 rfl rfl)
theorem dX1_lineAdds_16 : decode cX1_lineAdds 16 = .ok (.aload_n 1, 1) := dk_43 (dk_at dksX1_lineAdds_0 16 rfl rfl)
theorem dX1_lineAdds_17 : decode cX1_lineAdds 17 = .ok (.getfield 247, 3) := dk_180 0 247 (dk_at dksX1_lineAdds_0 17 rfl rfl)
theorem dX1_lineAdds_20 : decode cX1_lineAdds 20 = .ok (.iload 5, 2) := dk_21 5 (dk_at dksX1_lineAdds_0 20 rfl rfl)
theorem dX1_lineAdds_22 : decode cX1_lineAdds 22 = .ok (.iaload, 1) := dk_46 (dk_at dksX1_lineAdds_0 22 rfl rfl)
theorem dX1_lineAdds_23 : decode cX1_lineAdds 23 = .ok (.istore 6, 2) := dk_54 6 (dk_at dksX1_lineAdds_1 0 rfl rfl)
theorem dX1_lineAdds_25 : decode cX1_lineAdds 25 = .ok (.iload_n 3, 1) := dk_29 (dk_at dksX1_lineAdds_1 2 rfl rfl)
theorem dX1_lineAdds_26 : decode cX1_lineAdds 26 = .ok (.ifCond .eq 15, 3) := dk_153 0 15 (dk_at dksX1_lineAdds_1 3 rfl rfl)
theorem dX1_lineAdds_29 : decode cX1_lineAdds 29 = .ok (.aload_n 0, 1) := dk_42 (dk_at dksX1_lineAdds_1 6 rfl rfl)
theorem dX1_lineAdds_30 : decode cX1_lineAdds 30 = .ok (.getfield 12, 3) := dk_180 0 12 (dk_at dksX1_lineAdds_1 7 rfl rfl)
theorem dX1_lineAdds_33 : decode cX1_lineAdds 33 = .ok (.iload 5, 2) := dk_21 5 (dk_at dksX1_lineAdds_1 10 rfl rfl)
theorem dX1_lineAdds_35 : decode cX1_lineAdds 35 = .ok (.invokevirtual 271, 3) := dk_182 1 15 (dk_at dksX1_lineAdds_1 12 rfl rfl)
theorem dX1_lineAdds_38 : decode cX1_lineAdds 38 = .ok (.goto 12, 3) := dk_167 0 12 (dk_at dksX1_lineAdds_1 15 rfl rfl)
theorem dX1_lineAdds_41 : decode cX1_lineAdds 41 = .ok (.aload_n 0, 1) := dk_42 (dk_at dksX1_lineAdds_1 18 rfl rfl)
theorem dX1_lineAdds_42 : decode cX1_lineAdds 42 = .ok (.getfield 12, 3) := dk_180 0 12 (dk_at dksX1_lineAdds_1 19 rfl rfl)
theorem dX1_lineAdds_45 : decode cX1_lineAdds 45 = .ok (.iload 5, 2) := dk_21 5 (dk_at dksX1_lineAdds_1 22 rfl rfl)
theorem dX1_lineAdds_47 : decode cX1_lineAdds 47 = .ok (.invokevirtual 274, 3) := dk_182 1 18 (dk_at dksX1_lineAdds_2 0 rfl rfl)
theorem dX1_lineAdds_50 : decode cX1_lineAdds 50 = .ok (.istore 7, 2) := dk_54 7 (dk_at dksX1_lineAdds_2 3 rfl rfl)
theorem dX1_lineAdds_52 : decode cX1_lineAdds 52 = .ok (.iload 7, 2) := dk_21 7 (dk_at dksX1_lineAdds_2 5 rfl rfl)
theorem dX1_lineAdds_54 : decode cX1_lineAdds 54 = .ok (.iload_n 2, 1) := dk_28 (dk_at dksX1_lineAdds_2 7 rfl rfl)
theorem dX1_lineAdds_55 : decode cX1_lineAdds 55 = .ok (.if_icmp .ne 108, 3) := dk_160 0 108 (dk_at dksX1_lineAdds_2 8 rfl rfl)
theorem dX1_lineAdds_58 : decode cX1_lineAdds 58 = .ok (.aload_n 0, 1) := dk_42 (dk_at dksX1_lineAdds_2 11 rfl rfl)
theorem dX1_lineAdds_59 : decode cX1_lineAdds 59 = .ok (.getfield 33, 3) := dk_180 0 33 (dk_at dksX1_lineAdds_2 12 rfl rfl)
theorem dX1_lineAdds_62 : decode cX1_lineAdds 62 = .ok (.iload 6, 2) := dk_21 6 (dk_at dksX1_lineAdds_2 15 rfl rfl)
theorem dX1_lineAdds_64 : decode cX1_lineAdds 64 = .ok (.invokevirtual 258, 3) := dk_182 1 2 (dk_at dksX1_lineAdds_2 17 rfl rfl)
theorem dX1_lineAdds_67 : decode cX1_lineAdds 67 = .ok (.ifCond .eq 96, 3) := dk_153 0 96 (dk_at dksX1_lineAdds_2 20 rfl rfl)
theorem dX1_lineAdds_70 : decode cX1_lineAdds 70 = .ok (.aload_n 0, 1) := dk_42 (dk_at dksX1_lineAdds_2 23 rfl rfl)
theorem dX1_lineAdds_71 : decode cX1_lineAdds 71 = .ok (.getfield 33, 3) := dk_180 0 33 (dk_at dksX1_lineAdds_3 0 rfl rfl)
theorem dX1_lineAdds_74 : decode cX1_lineAdds 74 = .ok (.getfield 261, 3) := dk_180 1 5 (dk_at dksX1_lineAdds_3 3 rfl rfl)
theorem dX1_lineAdds_77 : decode cX1_lineAdds 77 = .ok (.iload 6, 2) := dk_21 6 (dk_at dksX1_lineAdds_3 6 rfl rfl)
theorem dX1_lineAdds_79 : decode cX1_lineAdds 79 = .ok (.iaload, 1) := dk_46 (dk_at dksX1_lineAdds_3 8 rfl rfl)
theorem dX1_lineAdds_80 : decode cX1_lineAdds 80 = .ok (.istore 8, 2) := dk_54 8 (dk_at dksX1_lineAdds_3 9 rfl rfl)
theorem dX1_lineAdds_82 : decode cX1_lineAdds 82 = .ok (.iload_n 3, 1) := dk_29 (dk_at dksX1_lineAdds_3 11 rfl rfl)
theorem dX1_lineAdds_83 : decode cX1_lineAdds 83 = .ok (.ifCond .eq 15, 3) := dk_153 0 15 (dk_at dksX1_lineAdds_3 12 rfl rfl)
theorem dX1_lineAdds_86 : decode cX1_lineAdds 86 = .ok (.aload_n 0, 1) := dk_42 (dk_at dksX1_lineAdds_3 15 rfl rfl)
theorem dX1_lineAdds_87 : decode cX1_lineAdds 87 = .ok (.getfield 12, 3) := dk_180 0 12 (dk_at dksX1_lineAdds_3 16 rfl rfl)
theorem dX1_lineAdds_90 : decode cX1_lineAdds 90 = .ok (.iload 8, 2) := dk_21 8 (dk_at dksX1_lineAdds_3 19 rfl rfl)
theorem dX1_lineAdds_92 : decode cX1_lineAdds 92 = .ok (.invokevirtual 271, 3) := dk_182 1 15 (dk_at dksX1_lineAdds_3 21 rfl rfl)
theorem dX1_lineAdds_95 : decode cX1_lineAdds 95 = .ok (.goto 12, 3) := dk_167 0 12 (dk_at dksX1_lineAdds_4 0 rfl rfl)
theorem dX1_lineAdds_98 : decode cX1_lineAdds 98 = .ok (.aload_n 0, 1) := dk_42 (dk_at dksX1_lineAdds_4 3 rfl rfl)
theorem dX1_lineAdds_99 : decode cX1_lineAdds 99 = .ok (.getfield 12, 3) := dk_180 0 12 (dk_at dksX1_lineAdds_4 4 rfl rfl)
theorem dX1_lineAdds_102 : decode cX1_lineAdds 102 = .ok (.iload 8, 2) := dk_21 8 (dk_at dksX1_lineAdds_4 7 rfl rfl)
theorem dX1_lineAdds_104 : decode cX1_lineAdds 104 = .ok (.invokevirtual 274, 3) := dk_182 1 18 (dk_at dksX1_lineAdds_4 9 rfl rfl)
theorem dX1_lineAdds_107 : decode cX1_lineAdds 107 = .ok (.iload_n 2, 1) := dk_28 (dk_at dksX1_lineAdds_4 12 rfl rfl)
theorem dX1_lineAdds_108 : decode cX1_lineAdds 108 = .ok (.if_icmp .ne 55, 3) := dk_160 0 55 (dk_at dksX1_lineAdds_4 13 rfl rfl)
theorem dX1_lineAdds_111 : decode cX1_lineAdds 111 = .ok (.aload_n 0, 1) := dk_42 (dk_at dksX1_lineAdds_4 16 rfl rfl)
theorem dX1_lineAdds_112 : decode cX1_lineAdds 112 = .ok (.getfield 74, 3) := dk_180 0 74 (dk_at dksX1_lineAdds_4 17 rfl rfl)
theorem dX1_lineAdds_115 : decode cX1_lineAdds 115 = .ok (.iload 4, 2) := dk_21 4 (dk_at dksX1_lineAdds_4 20 rfl rfl)
theorem dX1_lineAdds_117 : decode cX1_lineAdds 117 = .ok (.iload_n 3, 1) := dk_29 (dk_at dksX1_lineAdds_4 22 rfl rfl)
theorem dX1_lineAdds_118 : decode cX1_lineAdds 118 = .ok (.ifCond .eq 15, 3) := dk_153 0 15 (dk_at dksX1_lineAdds_5 0 rfl rfl)
theorem dX1_lineAdds_121 : decode cX1_lineAdds 121 = .ok (.aload_n 0, 1) := dk_42 (dk_at dksX1_lineAdds_5 3 rfl rfl)
theorem dX1_lineAdds_122 : decode cX1_lineAdds 122 = .ok (.getfield 12, 3) := dk_180 0 12 (dk_at dksX1_lineAdds_5 4 rfl rfl)
theorem dX1_lineAdds_125 : decode cX1_lineAdds 125 = .ok (.iload 8, 2) := dk_21 8 (dk_at dksX1_lineAdds_5 7 rfl rfl)
theorem dX1_lineAdds_127 : decode cX1_lineAdds 127 = .ok (.invokevirtual 274, 3) := dk_182 1 18 (dk_at dksX1_lineAdds_5 9 rfl rfl)
theorem dX1_lineAdds_130 : decode cX1_lineAdds 130 = .ok (.goto 12, 3) := dk_167 0 12 (dk_at dksX1_lineAdds_5 12 rfl rfl)
theorem dX1_lineAdds_133 : decode cX1_lineAdds 133 = .ok (.aload_n 0, 1) := dk_42 (dk_at dksX1_lineAdds_5 15 rfl rfl)
theorem dX1_lineAdds_134 : decode cX1_lineAdds 134 = .ok (.getfield 12, 3) := dk_180 0 12 (dk_at dksX1_lineAdds_5 16 rfl rfl)
theorem dX1_lineAdds_137 : decode cX1_lineAdds 137 = .ok (.iload 8, 2) := dk_21 8 (dk_at dksX1_lineAdds_5 19 rfl rfl)
theorem dX1_lineAdds_139 : decode cX1_lineAdds 139 = .ok (.invokevirtual 271, 3) := dk_182 1 15 (dk_at dksX1_lineAdds_5 21 rfl rfl)
theorem dX1_lineAdds_142 : decode cX1_lineAdds 142 = .ok (.iastore, 1) := dk_79 (dk_at dksX1_lineAdds_6 0 rfl rfl)
theorem dX1_lineAdds_143 : decode cX1_lineAdds 143 = .ok (.aload_n 0, 1) := dk_42 (dk_at dksX1_lineAdds_6 1 rfl rfl)
theorem dX1_lineAdds_144 : decode cX1_lineAdds 144 = .ok (.getfield 78, 3) := dk_180 0 78 (dk_at dksX1_lineAdds_6 2 rfl rfl)
theorem dX1_lineAdds_147 : decode cX1_lineAdds 147 = .ok (.iload 4, 2) := dk_21 4 (dk_at dksX1_lineAdds_6 5 rfl rfl)
theorem dX1_lineAdds_149 : decode cX1_lineAdds 149 = .ok (.aload_n 0, 1) := dk_42 (dk_at dksX1_lineAdds_6 7 rfl rfl)
theorem dX1_lineAdds_150 : decode cX1_lineAdds 150 = .ok (.getfield 33, 3) := dk_180 0 33 (dk_at dksX1_lineAdds_6 8 rfl rfl)
theorem dX1_lineAdds_153 : decode cX1_lineAdds 153 = .ok (.getfield 188, 3) := dk_180 0 188 (dk_at dksX1_lineAdds_6 11 rfl rfl)
theorem dX1_lineAdds_156 : decode cX1_lineAdds 156 = .ok (.iload 6, 2) := dk_21 6 (dk_at dksX1_lineAdds_6 14 rfl rfl)
theorem dX1_lineAdds_158 : decode cX1_lineAdds 158 = .ok (.iaload, 1) := dk_46 (dk_at dksX1_lineAdds_6 16 rfl rfl)
theorem dX1_lineAdds_159 : decode cX1_lineAdds 159 = .ok (.iastore, 1) := dk_79 (dk_at dksX1_lineAdds_6 17 rfl rfl)
theorem dX1_lineAdds_160 : decode cX1_lineAdds 160 = .ok (.iinc 4 1, 3) := dk_132 4 1 (dk_at dksX1_lineAdds_6 18 rfl rfl)
theorem dX1_lineAdds_163 : decode cX1_lineAdds 163 = .ok (.iinc 5 1, 3) := dk_132 5 1 (dk_at dksX1_lineAdds_6 21 rfl rfl)
theorem dX1_lineAdds_166 : decode cX1_lineAdds 166 = .ok (.goto (-160), 3) := dk_167 255 96 (dk_at dksX1_lineAdds_7 0 rfl rfl)
theorem dX1_lineAdds_169 : decode cX1_lineAdds 169 = .ok (.aload_n 0, 1) := dk_42 (dk_at dksX1_lineAdds_7 3 rfl rfl)
theorem dX1_lineAdds_170 : decode cX1_lineAdds 170 = .ok (.iload 4, 2) := dk_21 4 (dk_at dksX1_lineAdds_7 4 rfl rfl)
theorem dX1_lineAdds_172 : decode cX1_lineAdds 172 = .ok (.invokevirtual 277, 3) := dk_182 1 21 (dk_at dksX1_lineAdds_7 6 rfl rfl)
theorem dX1_lineAdds_175 : decode cX1_lineAdds 175 = .ok (.ireturn, 1) := dk_172 (dk_at dksX1_lineAdds_7 9 rfl rfl)
abbrev cX1_leastOut : ByteArray := prog_1_method_29_code
def yX1_leastOut : MethodName := ⟨RX1, "leastOut", "(I)I"⟩
def dkwX1_leastOut_5 : List UInt8 := [167, 255, 148, 28, 172]
abbrev dktX1_leastOut_5 : List UInt8 := dkwX1_leastOut_5 ++ []
def dkwX1_leastOut_4 : List UInt8 := [167, 255, 189, 21, 6, 153, 0, 12, 28, 21, 4, 184, 1, 9, 167, 0, 4, 28, 61, 132, 3, 1]
abbrev dktX1_leastOut_4 : List UInt8 := dkwX1_leastOut_4 ++ dktX1_leastOut_5
def dkwX1_leastOut_3 : List UInt8 := [164, 0, 7, 4, 167, 0, 4, 3, 54, 6, 42, 180, 0, 74, 21, 7, 46, 54, 5, 132, 7, 1]
abbrev dktX1_leastOut_3 : List UInt8 := dkwX1_leastOut_3 ++ dktX1_leastOut_4
def dkwX1_leastOut_2 : List UInt8 := [21, 7, 46, 96, 54, 4, 167, 0, 36, 21, 6, 153, 0, 19, 42, 180, 0, 74, 21, 7, 46, 21, 5]
abbrev dktX1_leastOut_2 : List UInt8 := dkwX1_leastOut_2 ++ dktX1_leastOut_3
def dkwX1_leastOut_1 : List UInt8 := [54, 7, 21, 7, 27, 162, 0, 67, 29, 21, 7, 122, 4, 126, 4, 160, 0, 18, 21, 4, 42, 180, 0, 78]
abbrev dktX1_leastOut_1 : List UInt8 := dkwX1_leastOut_1 ++ dktX1_leastOut_2
def dkwX1_leastOut_0 : List UInt8 := [19, 1, 8, 61, 3, 62, 29, 4, 27, 120, 162, 0, 107, 3, 54, 4, 2, 54, 5, 4, 54, 6, 3]
abbrev dktX1_leastOut_0 : List UInt8 := dkwX1_leastOut_0 ++ dktX1_leastOut_1
theorem dksX1_leastOut_0 : cX1_leastOut.data.toList.drop 0 = dktX1_leastOut_0 := by decide +kernel
theorem dksX1_leastOut_1 : cX1_leastOut.data.toList.drop 23 = dktX1_leastOut_1 := dk_seg dksX1_leastOut_0 23 rfl rfl
theorem dksX1_leastOut_2 : cX1_leastOut.data.toList.drop 47 = dktX1_leastOut_2 := dk_seg dksX1_leastOut_1 24 rfl rfl
theorem dksX1_leastOut_3 : cX1_leastOut.data.toList.drop 70 = dktX1_leastOut_3 := dk_seg dksX1_leastOut_2 23 rfl rfl
theorem dksX1_leastOut_4 : cX1_leastOut.data.toList.drop 92 = dktX1_leastOut_4 := dk_seg dksX1_leastOut_3 22 rfl rfl
theorem dksX1_leastOut_5 : cX1_leastOut.data.toList.drop 114 = dktX1_leastOut_5 := dk_seg dksX1_leastOut_4 22 rfl rfl
theorem dX1_leastOut_0 : decode cX1_leastOut 0 = .ok (.ldc_w 264, 3) := dk_19 1 8 (dk_at dksX1_leastOut_0 0 rfl rfl)
theorem dX1_leastOut_3 : decode cX1_leastOut 3 = .ok (.istore_n 2, 1) := dk_61 (dk_at dksX1_leastOut_0 3 rfl rfl)
theorem dX1_leastOut_4 : decode cX1_leastOut 4 = .ok (.iconst 0, 1) := dk_3 (dk_at dksX1_leastOut_0 4 rfl rfl)
theorem dX1_leastOut_5 : decode cX1_leastOut 5 = .ok (.istore_n 3, 1) := dk_62 (dk_at dksX1_leastOut_0 5 rfl rfl)
theorem dX1_leastOut_6 : decode cX1_leastOut 6 = .ok (.iload_n 3, 1) := dk_29 (dk_at dksX1_leastOut_0 6 rfl rfl)
theorem dX1_leastOut_7 : decode cX1_leastOut 7 = .ok (.iconst 1, 1) := dk_4 (dk_at dksX1_leastOut_0 7 rfl rfl)
theorem dX1_leastOut_8 : decode cX1_leastOut 8 = .ok (.iload_n 1, 1) := dk_27 (dk_at dksX1_leastOut_0 8 rfl rfl)
theorem dX1_leastOut_9 : decode cX1_leastOut 9 = .ok (.ishl, 1) := dk_120 (dk_at dksX1_leastOut_0 9 rfl rfl)
theorem dX1_leastOut_10 : decode cX1_leastOut 10 = .ok (.if_icmp .ge 107, 3) := dk_162 0 107 (dk_at dksX1_leastOut_0 10 rfl rfl)
theorem dX1_leastOut_13 : decode cX1_leastOut 13 = .ok (.iconst 0, 1) := dk_3 (dk_at dksX1_leastOut_0 13 rfl rfl)
theorem dX1_leastOut_14 : decode cX1_leastOut 14 = .ok (.istore 4, 2) := dk_54 4 (dk_at dksX1_leastOut_0 14 rfl rfl)
theorem dX1_leastOut_16 : decode cX1_leastOut 16 = .ok (.iconst (-1), 1) := dk_2 (dk_at dksX1_leastOut_0 16 rfl rfl)
theorem dX1_leastOut_17 : decode cX1_leastOut 17 = .ok (.istore 5, 2) := dk_54 5 (dk_at dksX1_leastOut_0 17 rfl rfl)
theorem dX1_leastOut_19 : decode cX1_leastOut 19 = .ok (.iconst 1, 1) := dk_4 (dk_at dksX1_leastOut_0 19 rfl rfl)
theorem dX1_leastOut_20 : decode cX1_leastOut 20 = .ok (.istore 6, 2) := dk_54 6 (dk_at dksX1_leastOut_0 20 rfl rfl)
theorem dX1_leastOut_22 : decode cX1_leastOut 22 = .ok (.iconst 0, 1) := dk_3 (dk_at dksX1_leastOut_0 22 rfl rfl)
theorem dX1_leastOut_23 : decode cX1_leastOut 23 = .ok (.istore 7, 2) := dk_54 7 (dk_at dksX1_leastOut_1 0 rfl rfl)
theorem dX1_leastOut_25 : decode cX1_leastOut 25 = .ok (.iload 7, 2) := dk_21 7 (dk_at dksX1_leastOut_1 2 rfl rfl)
theorem dX1_leastOut_27 : decode cX1_leastOut 27 = .ok (.iload_n 1, 1) := dk_27 (dk_at dksX1_leastOut_1 4 rfl rfl)
theorem dX1_leastOut_28 : decode cX1_leastOut 28 = .ok (.if_icmp .ge 67, 3) := dk_162 0 67 (dk_at dksX1_leastOut_1 5 rfl rfl)
theorem dX1_leastOut_31 : decode cX1_leastOut 31 = .ok (.iload_n 3, 1) := dk_29 (dk_at dksX1_leastOut_1 8 rfl rfl)
theorem dX1_leastOut_32 : decode cX1_leastOut 32 = .ok (.iload 7, 2) := dk_21 7 (dk_at dksX1_leastOut_1 9 rfl rfl)
theorem dX1_leastOut_34 : decode cX1_leastOut 34 = .ok (.ishr, 1) := dk_122 (dk_at dksX1_leastOut_1 11 rfl rfl)
theorem dX1_leastOut_35 : decode cX1_leastOut 35 = .ok (.iconst 1, 1) := dk_4 (dk_at dksX1_leastOut_1 12 rfl rfl)
theorem dX1_leastOut_36 : decode cX1_leastOut 36 = .ok (.iand, 1) := dk_126 (dk_at dksX1_leastOut_1 13 rfl rfl)
theorem dX1_leastOut_37 : decode cX1_leastOut 37 = .ok (.iconst 1, 1) := dk_4 (dk_at dksX1_leastOut_1 14 rfl rfl)
theorem dX1_leastOut_38 : decode cX1_leastOut 38 = .ok (.if_icmp .ne 18, 3) := dk_160 0 18 (dk_at dksX1_leastOut_1 15 rfl rfl)
theorem dX1_leastOut_41 : decode cX1_leastOut 41 = .ok (.iload 4, 2) := dk_21 4 (dk_at dksX1_leastOut_1 18 rfl rfl)
theorem dX1_leastOut_43 : decode cX1_leastOut 43 = .ok (.aload_n 0, 1) := dk_42 (dk_at dksX1_leastOut_1 20 rfl rfl)
theorem dX1_leastOut_44 : decode cX1_leastOut 44 = .ok (.getfield 78, 3) := dk_180 0 78 (dk_at dksX1_leastOut_1 21 rfl rfl)
theorem dX1_leastOut_47 : decode cX1_leastOut 47 = .ok (.iload 7, 2) := dk_21 7 (dk_at dksX1_leastOut_2 0 rfl rfl)
theorem dX1_leastOut_49 : decode cX1_leastOut 49 = .ok (.iaload, 1) := dk_46 (dk_at dksX1_leastOut_2 2 rfl rfl)
theorem dX1_leastOut_50 : decode cX1_leastOut 50 = .ok (.iadd, 1) := dk_96 (dk_at dksX1_leastOut_2 3 rfl rfl)
theorem dX1_leastOut_51 : decode cX1_leastOut 51 = .ok (.istore 4, 2) := dk_54 4 (dk_at dksX1_leastOut_2 4 rfl rfl)
theorem dX1_leastOut_53 : decode cX1_leastOut 53 = .ok (.goto 36, 3) := dk_167 0 36 (dk_at dksX1_leastOut_2 6 rfl rfl)
theorem dX1_leastOut_56 : decode cX1_leastOut 56 = .ok (.iload 6, 2) := dk_21 6 (dk_at dksX1_leastOut_2 9 rfl rfl)
theorem dX1_leastOut_58 : decode cX1_leastOut 58 = .ok (.ifCond .eq 19, 3) := dk_153 0 19 (dk_at dksX1_leastOut_2 11 rfl rfl)
theorem dX1_leastOut_61 : decode cX1_leastOut 61 = .ok (.aload_n 0, 1) := dk_42 (dk_at dksX1_leastOut_2 14 rfl rfl)
theorem dX1_leastOut_62 : decode cX1_leastOut 62 = .ok (.getfield 74, 3) := dk_180 0 74 (dk_at dksX1_leastOut_2 15 rfl rfl)
theorem dX1_leastOut_65 : decode cX1_leastOut 65 = .ok (.iload 7, 2) := dk_21 7 (dk_at dksX1_leastOut_2 18 rfl rfl)
theorem dX1_leastOut_67 : decode cX1_leastOut 67 = .ok (.iaload, 1) := dk_46 (dk_at dksX1_leastOut_2 20 rfl rfl)
theorem dX1_leastOut_68 : decode cX1_leastOut 68 = .ok (.iload 5, 2) := dk_21 5 (dk_at dksX1_leastOut_2 21 rfl rfl)
theorem dX1_leastOut_70 : decode cX1_leastOut 70 = .ok (.if_icmp .le 7, 3) := dk_164 0 7 (dk_at dksX1_leastOut_3 0 rfl rfl)
theorem dX1_leastOut_73 : decode cX1_leastOut 73 = .ok (.iconst 1, 1) := dk_4 (dk_at dksX1_leastOut_3 3 rfl rfl)
theorem dX1_leastOut_74 : decode cX1_leastOut 74 = .ok (.goto 4, 3) := dk_167 0 4 (dk_at dksX1_leastOut_3 4 rfl rfl)
theorem dX1_leastOut_77 : decode cX1_leastOut 77 = .ok (.iconst 0, 1) := dk_3 (dk_at dksX1_leastOut_3 7 rfl rfl)
theorem dX1_leastOut_78 : decode cX1_leastOut 78 = .ok (.istore 6, 2) := dk_54 6 (dk_at dksX1_leastOut_3 8 rfl rfl)
theorem dX1_leastOut_80 : decode cX1_leastOut 80 = .ok (.aload_n 0, 1) := dk_42 (dk_at dksX1_leastOut_3 10 rfl rfl)
theorem dX1_leastOut_81 : decode cX1_leastOut 81 = .ok (.getfield 74, 3) := dk_180 0 74 (dk_at dksX1_leastOut_3 11 rfl rfl)
theorem dX1_leastOut_84 : decode cX1_leastOut 84 = .ok (.iload 7, 2) := dk_21 7 (dk_at dksX1_leastOut_3 14 rfl rfl)
theorem dX1_leastOut_86 : decode cX1_leastOut 86 = .ok (.iaload, 1) := dk_46 (dk_at dksX1_leastOut_3 16 rfl rfl)
theorem dX1_leastOut_87 : decode cX1_leastOut 87 = .ok (.istore 5, 2) := dk_54 5 (dk_at dksX1_leastOut_3 17 rfl rfl)
theorem dX1_leastOut_89 : decode cX1_leastOut 89 = .ok (.iinc 7 1, 3) := dk_132 7 1 (dk_at dksX1_leastOut_3 19 rfl rfl)
theorem dX1_leastOut_92 : decode cX1_leastOut 92 = .ok (.goto (-67), 3) := dk_167 255 189 (dk_at dksX1_leastOut_4 0 rfl rfl)
theorem dX1_leastOut_95 : decode cX1_leastOut 95 = .ok (.iload 6, 2) := dk_21 6 (dk_at dksX1_leastOut_4 3 rfl rfl)
theorem dX1_leastOut_97 : decode cX1_leastOut 97 = .ok (.ifCond .eq 12, 3) := dk_153 0 12 (dk_at dksX1_leastOut_4 5 rfl rfl)
theorem dX1_leastOut_100 : decode cX1_leastOut 100 = .ok (.iload_n 2, 1) := dk_28 (dk_at dksX1_leastOut_4 8 rfl rfl)
theorem dX1_leastOut_101 : decode cX1_leastOut 101 = .ok (.iload 4, 2) := dk_21 4 (dk_at dksX1_leastOut_4 9 rfl rfl)
theorem dX1_leastOut_103 : decode cX1_leastOut 103 = .ok (.invokestatic 265, 3) := dk_184 1 9 (dk_at dksX1_leastOut_4 11 rfl rfl)
theorem dX1_leastOut_106 : decode cX1_leastOut 106 = .ok (.goto 4, 3) := dk_167 0 4 (dk_at dksX1_leastOut_4 14 rfl rfl)
theorem dX1_leastOut_109 : decode cX1_leastOut 109 = .ok (.iload_n 2, 1) := dk_28 (dk_at dksX1_leastOut_4 17 rfl rfl)
theorem dX1_leastOut_110 : decode cX1_leastOut 110 = .ok (.istore_n 2, 1) := dk_61 (dk_at dksX1_leastOut_4 18 rfl rfl)
theorem dX1_leastOut_111 : decode cX1_leastOut 111 = .ok (.iinc 3 1, 3) := dk_132 3 1 (dk_at dksX1_leastOut_4 19 rfl rfl)
theorem dX1_leastOut_114 : decode cX1_leastOut 114 = .ok (.goto (-108), 3) := dk_167 255 148 (dk_at dksX1_leastOut_5 0 rfl rfl)
theorem dX1_leastOut_117 : decode cX1_leastOut 117 = .ok (.iload_n 2, 1) := dk_28 (dk_at dksX1_leastOut_5 3 rfl rfl)
theorem dX1_leastOut_118 : decode cX1_leastOut 118 = .ok (.ireturn, 1) := dk_172 (dk_at dksX1_leastOut_5 4 rfl rfl)
abbrev cX1_arrangements : ByteArray := prog_1_method_6_code
def yX1_arrangements : MethodName := ⟨RX1, "arrangements", "()J"⟩
def dkwX1_arrangements_1 : List UInt8 := [167, 255, 237, 31, 173]
abbrev dktX1_arrangements_1 : List UInt8 := dkwX1_arrangements_1 ++ []
def dkwX1_arrangements_0 : List UInt8 := [10, 64, 5, 62, 29, 42, 180, 0, 12, 182, 0, 100, 163, 0, 14, 31, 29, 133, 105, 64, 132, 3, 1]
abbrev dktX1_arrangements_0 : List UInt8 := dkwX1_arrangements_0 ++ dktX1_arrangements_1
theorem dksX1_arrangements_0 : cX1_arrangements.data.toList.drop 0 = dktX1_arrangements_0 := by decide +kernel
theorem dksX1_arrangements_1 : cX1_arrangements.data.toList.drop 23 = dktX1_arrangements_1 := dk_seg dksX1_arrangements_0 23 rfl rfl
theorem dX1_arrangements_0 : decode cX1_arrangements 0 = .ok (.lconst 1, 1) := dk_10 (dk_at dksX1_arrangements_0 0 rfl rfl)
theorem dX1_arrangements_1 : decode cX1_arrangements 1 = .ok (.lstore_n 1, 1) := dk_64 (dk_at dksX1_arrangements_0 1 rfl rfl)
theorem dX1_arrangements_2 : decode cX1_arrangements 2 = .ok (.iconst 2, 1) := dk_5 (dk_at dksX1_arrangements_0 2 rfl rfl)
theorem dX1_arrangements_3 : decode cX1_arrangements 3 = .ok (.istore_n 3, 1) := dk_62 (dk_at dksX1_arrangements_0 3 rfl rfl)
theorem dX1_arrangements_4 : decode cX1_arrangements 4 = .ok (.iload_n 3, 1) := dk_29 (dk_at dksX1_arrangements_0 4 rfl rfl)
theorem dX1_arrangements_5 : decode cX1_arrangements 5 = .ok (.aload_n 0, 1) := dk_42 (dk_at dksX1_arrangements_0 5 rfl rfl)
theorem dX1_arrangements_6 : decode cX1_arrangements 6 = .ok (.getfield 12, 3) := dk_180 0 12 (dk_at dksX1_arrangements_0 6 rfl rfl)
theorem dX1_arrangements_9 : decode cX1_arrangements 9 = .ok (.invokevirtual 100, 3) := dk_182 0 100 (dk_at dksX1_arrangements_0 9 rfl rfl)
theorem dX1_arrangements_12 : decode cX1_arrangements 12 = .ok (.if_icmp .gt 14, 3) := dk_163 0 14 (dk_at dksX1_arrangements_0 12 rfl rfl)
theorem dX1_arrangements_15 : decode cX1_arrangements 15 = .ok (.lload_n 1, 1) := dk_31 (dk_at dksX1_arrangements_0 15 rfl rfl)
theorem dX1_arrangements_16 : decode cX1_arrangements 16 = .ok (.iload_n 3, 1) := dk_29 (dk_at dksX1_arrangements_0 16 rfl rfl)
theorem dX1_arrangements_17 : decode cX1_arrangements 17 = .ok (.i2l, 1) := dk_133 (dk_at dksX1_arrangements_0 17 rfl rfl)
theorem dX1_arrangements_18 : decode cX1_arrangements 18 = .ok (.lmul, 1) := dk_105 (dk_at dksX1_arrangements_0 18 rfl rfl)
theorem dX1_arrangements_19 : decode cX1_arrangements 19 = .ok (.lstore_n 1, 1) := dk_64 (dk_at dksX1_arrangements_0 19 rfl rfl)
theorem dX1_arrangements_20 : decode cX1_arrangements 20 = .ok (.iinc 3 1, 3) := dk_132 3 1 (dk_at dksX1_arrangements_0 20 rfl rfl)
theorem dX1_arrangements_23 : decode cX1_arrangements 23 = .ok (.goto (-19), 3) := dk_167 255 237 (dk_at dksX1_arrangements_1 0 rfl rfl)
theorem dX1_arrangements_26 : decode cX1_arrangements 26 = .ok (.lload_n 1, 1) := dk_31 (dk_at dksX1_arrangements_1 3 rfl rfl)
theorem dX1_arrangements_27 : decode cX1_arrangements 27 = .ok (.lreturn, 1) := dk_173 (dk_at dksX1_arrangements_1 4 rfl rfl)
abbrev cX1_tell : ByteArray := prog_1_method_53_code
def yX1_tell : MethodName := ⟨RX1, "tell", "(I)Z"⟩
def dkwX1_tell_2 : List UInt8 := [27, 160, 0, 11, 28, 153, 0, 7, 4, 167, 0, 4, 3, 61, 167, 0, 6, 78, 28, 172, 28, 172]
abbrev dktX1_tell_2 : List UInt8 := dkwX1_tell_2 ++ []
def dkwX1_tell_1 : List UInt8 := [167, 0, 4, 3, 61, 187, 1, 125, 89, 42, 6, 183, 1, 127, 42, 180, 0, 24, 182, 1, 130, 180, 1, 102]
abbrev dktX1_tell_1 : List UInt8 := dkwX1_tell_1 ++ dktX1_tell_2
def dkwX1_tell_0 : List UInt8 := [4, 61, 42, 42, 180, 0, 24, 6, 42, 180, 0, 60, 182, 1, 117, 180, 1, 102, 27, 160, 0, 7, 4]
abbrev dktX1_tell_0 : List UInt8 := dkwX1_tell_0 ++ dktX1_tell_1
theorem dksX1_tell_0 : cX1_tell.data.toList.drop 0 = dktX1_tell_0 := by decide +kernel
theorem dksX1_tell_1 : cX1_tell.data.toList.drop 23 = dktX1_tell_1 := dk_seg dksX1_tell_0 23 rfl rfl
theorem dksX1_tell_2 : cX1_tell.data.toList.drop 47 = dktX1_tell_2 := dk_seg dksX1_tell_1 24 rfl rfl
theorem dX1_tell_0 : decode cX1_tell 0 = .ok (.iconst 1, 1) := dk_4 (dk_at dksX1_tell_0 0 rfl rfl)
theorem dX1_tell_1 : decode cX1_tell 1 = .ok (.istore_n 2, 1) := dk_61 (dk_at dksX1_tell_0 1 rfl rfl)
theorem dX1_tell_2 : decode cX1_tell 2 = .ok (.aload_n 0, 1) := dk_42 (dk_at dksX1_tell_0 2 rfl rfl)
theorem dX1_tell_3 : decode cX1_tell 3 = .ok (.aload_n 0, 1) := dk_42 (dk_at dksX1_tell_0 3 rfl rfl)
theorem dX1_tell_4 : decode cX1_tell 4 = .ok (.getfield 24, 3) := dk_180 0 24 (dk_at dksX1_tell_0 4 rfl rfl)
theorem dX1_tell_7 : decode cX1_tell 7 = .ok (.iconst 3, 1) := dk_6 (dk_at dksX1_tell_0 7 rfl rfl)
theorem dX1_tell_8 : decode cX1_tell 8 = .ok (.aload_n 0, 1) := dk_42 (dk_at dksX1_tell_0 8 rfl rfl)
theorem dX1_tell_9 : decode cX1_tell 9 = .ok (.getfield 60, 3) := dk_180 0 60 (dk_at dksX1_tell_0 9 rfl rfl)
theorem dX1_tell_12 : decode cX1_tell 12 = .ok (.invokevirtual 373, 3) := dk_182 1 117 (dk_at dksX1_tell_0 12 rfl rfl)
theorem dX1_tell_15 : decode cX1_tell 15 = .ok (.getfield 358, 3) := dk_180 1 102 (dk_at dksX1_tell_0 15 rfl rfl)
theorem dX1_tell_18 : decode cX1_tell 18 = .ok (.iload_n 1, 1) := dk_27 (dk_at dksX1_tell_0 18 rfl rfl)
theorem dX1_tell_19 : decode cX1_tell 19 = .ok (.if_icmp .ne 7, 3) := dk_160 0 7 (dk_at dksX1_tell_0 19 rfl rfl)
theorem dX1_tell_22 : decode cX1_tell 22 = .ok (.iconst 1, 1) := dk_4 (dk_at dksX1_tell_0 22 rfl rfl)
theorem dX1_tell_23 : decode cX1_tell 23 = .ok (.goto 4, 3) := dk_167 0 4 (dk_at dksX1_tell_1 0 rfl rfl)
theorem dX1_tell_26 : decode cX1_tell 26 = .ok (.iconst 0, 1) := dk_3 (dk_at dksX1_tell_1 3 rfl rfl)
theorem dX1_tell_27 : decode cX1_tell 27 = .ok (.istore_n 2, 1) := dk_61 (dk_at dksX1_tell_1 4 rfl rfl)
theorem dX1_tell_28 : decode cX1_tell 28 = .ok (.new 381, 3) := dk_187 1 125 (dk_at dksX1_tell_1 5 rfl rfl)
theorem dX1_tell_31 : decode cX1_tell 31 = .ok (.dup, 1) := dk_89 (dk_at dksX1_tell_1 8 rfl rfl)
theorem dX1_tell_32 : decode cX1_tell 32 = .ok (.aload_n 0, 1) := dk_42 (dk_at dksX1_tell_1 9 rfl rfl)
theorem dX1_tell_33 : decode cX1_tell 33 = .ok (.iconst 3, 1) := dk_6 (dk_at dksX1_tell_1 10 rfl rfl)
theorem dX1_tell_34 : decode cX1_tell 34 = .ok (.invokespecial 383, 3) := dk_183 1 127 (dk_at dksX1_tell_1 11 rfl rfl)
theorem dX1_tell_37 : decode cX1_tell 37 = .ok (.aload_n 0, 1) := dk_42 (dk_at dksX1_tell_1 14 rfl rfl)
theorem dX1_tell_38 : decode cX1_tell 38 = .ok (.getfield 24, 3) := dk_180 0 24 (dk_at dksX1_tell_1 15 rfl rfl)
theorem dX1_tell_41 : decode cX1_tell 41 = .ok (.invokevirtual 386, 3) := dk_182 1 130 (dk_at dksX1_tell_1 18 rfl rfl)
theorem dX1_tell_44 : decode cX1_tell 44 = .ok (.getfield 358, 3) := dk_180 1 102 (dk_at dksX1_tell_1 21 rfl rfl)
theorem dX1_tell_47 : decode cX1_tell 47 = .ok (.iload_n 1, 1) := dk_27 (dk_at dksX1_tell_2 0 rfl rfl)
theorem dX1_tell_48 : decode cX1_tell 48 = .ok (.if_icmp .ne 11, 3) := dk_160 0 11 (dk_at dksX1_tell_2 1 rfl rfl)
theorem dX1_tell_51 : decode cX1_tell 51 = .ok (.iload_n 2, 1) := dk_28 (dk_at dksX1_tell_2 4 rfl rfl)
theorem dX1_tell_52 : decode cX1_tell 52 = .ok (.ifCond .eq 7, 3) := dk_153 0 7 (dk_at dksX1_tell_2 5 rfl rfl)
theorem dX1_tell_55 : decode cX1_tell 55 = .ok (.iconst 1, 1) := dk_4 (dk_at dksX1_tell_2 8 rfl rfl)
theorem dX1_tell_56 : decode cX1_tell 56 = .ok (.goto 4, 3) := dk_167 0 4 (dk_at dksX1_tell_2 9 rfl rfl)
theorem dX1_tell_59 : decode cX1_tell 59 = .ok (.iconst 0, 1) := dk_3 (dk_at dksX1_tell_2 12 rfl rfl)
theorem dX1_tell_60 : decode cX1_tell 60 = .ok (.istore_n 2, 1) := dk_61 (dk_at dksX1_tell_2 13 rfl rfl)
theorem dX1_tell_61 : decode cX1_tell 61 = .ok (.goto 6, 3) := dk_167 0 6 (dk_at dksX1_tell_2 14 rfl rfl)
theorem dX1_tell_64 : decode cX1_tell 64 = .ok (.astore_n 3, 1) := dk_78 (dk_at dksX1_tell_2 17 rfl rfl)
theorem dX1_tell_65 : decode cX1_tell 65 = .ok (.iload_n 2, 1) := dk_28 (dk_at dksX1_tell_2 18 rfl rfl)
theorem dX1_tell_66 : decode cX1_tell 66 = .ok (.ireturn, 1) := dk_172 (dk_at dksX1_tell_2 19 rfl rfl)
theorem dX1_tell_67 : decode cX1_tell 67 = .ok (.iload_n 2, 1) := dk_28 (dk_at dksX1_tell_2 20 rfl rfl)
theorem dX1_tell_68 : decode cX1_tell 68 = .ok (.ireturn, 1) := dk_172 (dk_at dksX1_tell_2 21 rfl rfl)
abbrev cX1_best : ByteArray := prog_1_method_34_code
def yX1_best : MethodName := ⟨RX1, "best", "(LSlidingtray$Lie;II)LSlidingtray$Found;"⟩
def dkwX1_best_15 : List UInt8 := [25, 14, 182, 1, 78, 87, 132, 9, 1, 167, 255, 106, 167, 254, 220, 25, 4, 176]
abbrev dktX1_best_15 : List UInt8 := dkwX1_best_15 ++ []
def dkwX1_best_14 : List UInt8 := [183, 1, 63, 58, 14, 25, 6, 25, 14, 180, 1, 66, 184, 1, 69, 25, 14, 182, 1, 74, 87, 25, 5]
abbrev dktX1_best_14 : List UInt8 := dkwX1_best_14 ++ dktX1_best_15
def dkwX1_best_13 : List UInt8 := [199, 0, 13, 42, 25, 11, 28, 182, 1, 51, 167, 0, 8, 25, 13, 180, 1, 114, 21, 12, 25, 8, 21, 9]
abbrev dktX1_best_13 : List UInt8 := dkwX1_best_13 ++ dktX1_best_14
def dkwX1_best_12 : List UInt8 := [25, 13, 198, 0, 13, 21, 12, 25, 13, 180, 1, 99, 162, 0, 64, 187, 1, 61, 89, 25, 11, 25, 13]
abbrev dktX1_best_12 : List UInt8 := dkwX1_best_12 ++ dktX1_best_13
def dkwX1_best_11 : List UInt8 := [21, 10, 46, 96, 54, 12, 25, 6, 25, 11, 182, 0, 169, 184, 1, 69, 182, 1, 85, 192, 1, 61, 58, 13]
abbrev dktX1_best_11 : List UInt8 := dkwX1_best_11 ++ dktX1_best_12
def dkwX1_best_10 : List UInt8 := [25, 8, 180, 1, 94, 21, 9, 182, 0, 161, 58, 11, 25, 8, 180, 1, 99, 42, 180, 0, 33, 180, 0, 188]
abbrev dktX1_best_10 : List UInt8 := dkwX1_best_10 ++ dktX1_best_11
def dkwX1_best_9 : List UInt8 := [21, 9, 6, 163, 0, 150, 25, 8, 180, 1, 94, 21, 9, 182, 0, 152, 54, 10, 21, 10, 158, 0, 127]
abbrev dktX1_best_9 : List UInt8 := dkwX1_best_9 ++ dktX1_best_10
def dkwX1_best_8 : List UInt8 := [184, 0, 155, 185, 1, 111, 3, 0, 25, 9, 180, 1, 103, 58, 9, 167, 255, 222, 25, 4, 176, 3, 54, 9]
abbrev dktX1_best_8 : List UInt8 := dkwX1_best_8 ++ dktX1_best_9
def dkwX1_best_7 : List UInt8 := [25, 8, 58, 9, 25, 9, 180, 1, 103, 198, 0, 32, 25, 4, 180, 1, 107, 3, 25, 9, 180, 1, 108]
abbrev dktX1_best_7 : List UInt8 := dkwX1_best_7 ++ dktX1_best_8
def dkwX1_best_6 : List UInt8 := [180, 0, 33, 25, 8, 180, 1, 94, 182, 1, 95, 153, 0, 57, 25, 4, 25, 8, 180, 1, 99, 181, 1, 102]
abbrev dktX1_best_6 : List UInt8 := dkwX1_best_6 ++ dktX1_best_7
def dkwX1_best_5 : List UInt8 := [160, 0, 11, 187, 1, 91, 89, 183, 1, 93, 191, 25, 4, 89, 180, 1, 88, 4, 96, 181, 1, 88, 42]
abbrev dktX1_best_5 : List UInt8 := dkwX1_best_5 ++ dktX1_best_6
def dkwX1_best_4 : List UInt8 := [180, 1, 66, 184, 1, 69, 182, 1, 85, 25, 8, 165, 0, 6, 167, 255, 220, 25, 4, 180, 1, 88, 29]
abbrev dktX1_best_4 : List UInt8 := dkwX1_best_4 ++ dktX1_best_5
def dkwX1_best_3 : List UInt8 := [25, 5, 182, 1, 81, 154, 1, 34, 25, 5, 182, 1, 82, 192, 1, 61, 58, 8, 25, 6, 25, 8]
abbrev dktX1_best_3 : List UInt8 := dkwX1_best_3 ++ dktX1_best_4
def dkwX1_best_2 : List UInt8 := [25, 6, 25, 7, 180, 1, 66, 184, 1, 69, 25, 7, 182, 1, 74, 87, 25, 5, 25, 7, 182, 1, 78, 87]
abbrev dktX1_best_2 : List UInt8 := dkwX1_best_2 ++ dktX1_best_3
def dkwX1_best_1 : List UInt8 := [183, 1, 60, 58, 6, 187, 1, 61, 89, 43, 42, 43, 28, 182, 1, 51, 3, 1, 2, 183, 1, 63, 58, 7]
abbrev dktX1_best_1 : List UInt8 := dkwX1_best_1 ++ dktX1_best_2
def dkwX1_best_0 : List UInt8 := [187, 0, 64, 89, 183, 0, 66, 58, 4, 187, 1, 55, 89, 183, 1, 57, 58, 5, 187, 1, 58, 89]
abbrev dktX1_best_0 : List UInt8 := dkwX1_best_0 ++ dktX1_best_1
theorem dksX1_best_0 : cX1_best.data.toList.drop 0 = dktX1_best_0 := by decide +kernel
theorem dksX1_best_1 : cX1_best.data.toList.drop 22 = dktX1_best_1 := dk_seg dksX1_best_0 22 rfl rfl
theorem dksX1_best_2 : cX1_best.data.toList.drop 46 = dktX1_best_2 := dk_seg dksX1_best_1 24 rfl rfl
theorem dksX1_best_3 : cX1_best.data.toList.drop 70 = dktX1_best_3 := dk_seg dksX1_best_2 24 rfl rfl
theorem dksX1_best_4 : cX1_best.data.toList.drop 92 = dktX1_best_4 := dk_seg dksX1_best_3 22 rfl rfl
theorem dksX1_best_5 : cX1_best.data.toList.drop 115 = dktX1_best_5 := dk_seg dksX1_best_4 23 rfl rfl
theorem dksX1_best_6 : cX1_best.data.toList.drop 138 = dktX1_best_6 := dk_seg dksX1_best_5 23 rfl rfl
theorem dksX1_best_7 : cX1_best.data.toList.drop 162 = dktX1_best_7 := dk_seg dksX1_best_6 24 rfl rfl
theorem dksX1_best_8 : cX1_best.data.toList.drop 185 = dktX1_best_8 := dk_seg dksX1_best_7 23 rfl rfl
theorem dksX1_best_9 : cX1_best.data.toList.drop 209 = dktX1_best_9 := dk_seg dksX1_best_8 24 rfl rfl
theorem dksX1_best_10 : cX1_best.data.toList.drop 232 = dktX1_best_10 := dk_seg dksX1_best_9 23 rfl rfl
theorem dksX1_best_11 : cX1_best.data.toList.drop 256 = dktX1_best_11 := dk_seg dksX1_best_10 24 rfl rfl
theorem dksX1_best_12 : cX1_best.data.toList.drop 280 = dktX1_best_12 := dk_seg dksX1_best_11 24 rfl rfl
theorem dksX1_best_13 : cX1_best.data.toList.drop 303 = dktX1_best_13 := dk_seg dksX1_best_12 23 rfl rfl
theorem dksX1_best_14 : cX1_best.data.toList.drop 327 = dktX1_best_14 := dk_seg dksX1_best_13 24 rfl rfl
theorem dksX1_best_15 : cX1_best.data.toList.drop 350 = dktX1_best_15 := dk_seg dksX1_best_14 23 rfl rfl
theorem dX1_best_0 : decode cX1_best 0 = .ok (.new 64, 3) := dk_187 0 64 (dk_at dksX1_best_0 0 rfl rfl)
theorem dX1_best_3 : decode cX1_best 3 = .ok (.dup, 1) := dk_89 (dk_at dksX1_best_0 3 rfl rfl)
theorem dX1_best_4 : decode cX1_best 4 = .ok (.invokespecial 66, 3) := dk_183 0 66 (dk_at dksX1_best_0 4 rfl rfl)
theorem dX1_best_7 : decode cX1_best 7 = .ok (.astore 4, 2) := dk_58 4 (dk_at dksX1_best_0 7 rfl rfl)
theorem dX1_best_9 : decode cX1_best 9 = .ok (.new 311, 3) := dk_187 1 55 (dk_at dksX1_best_0 9 rfl rfl)
theorem dX1_best_12 : decode cX1_best 12 = .ok (.dup, 1) := dk_89 (dk_at dksX1_best_0 12 rfl rfl)
theorem dX1_best_13 : decode cX1_best 13 = .ok (.invokespecial 313, 3) := dk_183 1 57 (dk_at dksX1_best_0 13 rfl rfl)
theorem dX1_best_16 : decode cX1_best 16 = .ok (.astore 5, 2) := dk_58 5 (dk_at dksX1_best_0 16 rfl rfl)
theorem dX1_best_18 : decode cX1_best 18 = .ok (.new 314, 3) := dk_187 1 58 (dk_at dksX1_best_0 18 rfl rfl)
theorem dX1_best_21 : decode cX1_best 21 = .ok (.dup, 1) := dk_89 (dk_at dksX1_best_0 21 rfl rfl)
theorem dX1_best_22 : decode cX1_best 22 = .ok (.invokespecial 316, 3) := dk_183 1 60 (dk_at dksX1_best_1 0 rfl rfl)
theorem dX1_best_25 : decode cX1_best 25 = .ok (.astore 6, 2) := dk_58 6 (dk_at dksX1_best_1 3 rfl rfl)
theorem dX1_best_27 : decode cX1_best 27 = .ok (.new 317, 3) := dk_187 1 61 (dk_at dksX1_best_1 5 rfl rfl)
theorem dX1_best_30 : decode cX1_best 30 = .ok (.dup, 1) := dk_89 (dk_at dksX1_best_1 8 rfl rfl)
theorem dX1_best_31 : decode cX1_best 31 = .ok (.aload_n 1, 1) := dk_43 (dk_at dksX1_best_1 9 rfl rfl)
theorem dX1_best_32 : decode cX1_best 32 = .ok (.aload_n 0, 1) := dk_42 (dk_at dksX1_best_1 10 rfl rfl)
theorem dX1_best_33 : decode cX1_best 33 = .ok (.aload_n 1, 1) := dk_43 (dk_at dksX1_best_1 11 rfl rfl)
theorem dX1_best_34 : decode cX1_best 34 = .ok (.iload_n 2, 1) := dk_28 (dk_at dksX1_best_1 12 rfl rfl)
theorem dX1_best_35 : decode cX1_best 35 = .ok (.invokevirtual 307, 3) := dk_182 1 51 (dk_at dksX1_best_1 13 rfl rfl)
theorem dX1_best_38 : decode cX1_best 38 = .ok (.iconst 0, 1) := dk_3 (dk_at dksX1_best_1 16 rfl rfl)
theorem dX1_best_39 : decode cX1_best 39 = .ok (.aconst_null, 1) := dk_1 (dk_at dksX1_best_1 17 rfl rfl)
theorem dX1_best_40 : decode cX1_best 40 = .ok (.iconst (-1), 1) := dk_2 (dk_at dksX1_best_1 18 rfl rfl)
theorem dX1_best_41 : decode cX1_best 41 = .ok (.invokespecial 319, 3) := dk_183 1 63 (dk_at dksX1_best_1 19 rfl rfl)
theorem dX1_best_44 : decode cX1_best 44 = .ok (.astore 7, 2) := dk_58 7 (dk_at dksX1_best_1 22 rfl rfl)
theorem dX1_best_46 : decode cX1_best 46 = .ok (.aload 6, 2) := dk_25 6 (dk_at dksX1_best_2 0 rfl rfl)
theorem dX1_best_48 : decode cX1_best 48 = .ok (.aload 7, 2) := dk_25 7 (dk_at dksX1_best_2 2 rfl rfl)
theorem dX1_best_50 : decode cX1_best 50 = .ok (.getfield 322, 3) := dk_180 1 66 (dk_at dksX1_best_2 4 rfl rfl)
theorem dX1_best_53 : decode cX1_best 53 = .ok (.invokestatic 325, 3) := dk_184 1 69 (dk_at dksX1_best_2 7 rfl rfl)
theorem dX1_best_56 : decode cX1_best 56 = .ok (.aload 7, 2) := dk_25 7 (dk_at dksX1_best_2 10 rfl rfl)
theorem dX1_best_58 : decode cX1_best 58 = .ok (.invokevirtual 330, 3) := dk_182 1 74 (dk_at dksX1_best_2 12 rfl rfl)
theorem dX1_best_61 : decode cX1_best 61 = .ok (.pop, 1) := dk_87 (dk_at dksX1_best_2 15 rfl rfl)
theorem dX1_best_62 : decode cX1_best 62 = .ok (.aload 5, 2) := dk_25 5 (dk_at dksX1_best_2 16 rfl rfl)
theorem dX1_best_64 : decode cX1_best 64 = .ok (.aload 7, 2) := dk_25 7 (dk_at dksX1_best_2 18 rfl rfl)
theorem dX1_best_66 : decode cX1_best 66 = .ok (.invokevirtual 334, 3) := dk_182 1 78 (dk_at dksX1_best_2 20 rfl rfl)
theorem dX1_best_69 : decode cX1_best 69 = .ok (.pop, 1) := dk_87 (dk_at dksX1_best_2 23 rfl rfl)
theorem dX1_best_70 : decode cX1_best 70 = .ok (.aload 5, 2) := dk_25 5 (dk_at dksX1_best_3 0 rfl rfl)
theorem dX1_best_72 : decode cX1_best 72 = .ok (.invokevirtual 337, 3) := dk_182 1 81 (dk_at dksX1_best_3 2 rfl rfl)
theorem dX1_best_75 : decode cX1_best 75 = .ok (.ifCond .ne 290, 3) := dk_154 1 34 (dk_at dksX1_best_3 5 rfl rfl)
theorem dX1_best_78 : decode cX1_best 78 = .ok (.aload 5, 2) := dk_25 5 (dk_at dksX1_best_3 8 rfl rfl)
theorem dX1_best_80 : decode cX1_best 80 = .ok (.invokevirtual 338, 3) := dk_182 1 82 (dk_at dksX1_best_3 10 rfl rfl)
theorem dX1_best_83 : decode cX1_best 83 = .ok (.checkcast 317, 3) := dk_192 1 61 (dk_at dksX1_best_3 13 rfl rfl)
theorem dX1_best_86 : decode cX1_best 86 = .ok (.astore 8, 2) := dk_58 8 (dk_at dksX1_best_3 16 rfl rfl)
theorem dX1_best_88 : decode cX1_best 88 = .ok (.aload 6, 2) := dk_25 6 (dk_at dksX1_best_3 18 rfl rfl)
theorem dX1_best_90 : decode cX1_best 90 = .ok (.aload 8, 2) := dk_25 8 (dk_at dksX1_best_3 20 rfl rfl)
theorem dX1_best_92 : decode cX1_best 92 = .ok (.getfield 322, 3) := dk_180 1 66 (dk_at dksX1_best_4 0 rfl rfl)
theorem dX1_best_95 : decode cX1_best 95 = .ok (.invokestatic 325, 3) := dk_184 1 69 (dk_at dksX1_best_4 3 rfl rfl)
theorem dX1_best_98 : decode cX1_best 98 = .ok (.invokevirtual 341, 3) := dk_182 1 85 (dk_at dksX1_best_4 6 rfl rfl)
theorem dX1_best_101 : decode cX1_best 101 = .ok (.aload 8, 2) := dk_25 8 (dk_at dksX1_best_4 9 rfl rfl)
theorem dX1_best_103 : decode cX1_best 103 = .ok (.if_acmp .eq 6, 3) := dk_165 0 6 (dk_at dksX1_best_4 11 rfl rfl)
theorem dX1_best_106 : decode cX1_best 106 = .ok (.goto (-36), 3) := dk_167 255 220 (dk_at dksX1_best_4 14 rfl rfl)
theorem dX1_best_109 : decode cX1_best 109 = .ok (.aload 4, 2) := dk_25 4 (dk_at dksX1_best_4 17 rfl rfl)
theorem dX1_best_111 : decode cX1_best 111 = .ok (.getfield 344, 3) := dk_180 1 88 (dk_at dksX1_best_4 19 rfl rfl)
theorem dX1_best_114 : decode cX1_best 114 = .ok (.iload_n 3, 1) := dk_29 (dk_at dksX1_best_4 22 rfl rfl)
theorem dX1_best_115 : decode cX1_best 115 = .ok (.if_icmp .ne 11, 3) := dk_160 0 11 (dk_at dksX1_best_5 0 rfl rfl)
theorem dX1_best_118 : decode cX1_best 118 = .ok (.new 347, 3) := dk_187 1 91 (dk_at dksX1_best_5 3 rfl rfl)
theorem dX1_best_121 : decode cX1_best 121 = .ok (.dup, 1) := dk_89 (dk_at dksX1_best_5 6 rfl rfl)
theorem dX1_best_122 : decode cX1_best 122 = .ok (.invokespecial 349, 3) := dk_183 1 93 (dk_at dksX1_best_5 7 rfl rfl)
theorem dX1_best_125 : decode cX1_best 125 = .ok (.athrow, 1) := dk_191 (dk_at dksX1_best_5 10 rfl rfl)
theorem dX1_best_126 : decode cX1_best 126 = .ok (.aload 4, 2) := dk_25 4 (dk_at dksX1_best_5 11 rfl rfl)
theorem dX1_best_128 : decode cX1_best 128 = .ok (.dup, 1) := dk_89 (dk_at dksX1_best_5 13 rfl rfl)
theorem dX1_best_129 : decode cX1_best 129 = .ok (.getfield 344, 3) := dk_180 1 88 (dk_at dksX1_best_5 14 rfl rfl)
theorem dX1_best_132 : decode cX1_best 132 = .ok (.iconst 1, 1) := dk_4 (dk_at dksX1_best_5 17 rfl rfl)
theorem dX1_best_133 : decode cX1_best 133 = .ok (.iadd, 1) := dk_96 (dk_at dksX1_best_5 18 rfl rfl)
theorem dX1_best_134 : decode cX1_best 134 = .ok (.putfield 344, 3) := dk_181 1 88 (dk_at dksX1_best_5 19 rfl rfl)
theorem dX1_best_137 : decode cX1_best 137 = .ok (.aload_n 0, 1) := dk_42 (dk_at dksX1_best_5 22 rfl rfl)
theorem dX1_best_138 : decode cX1_best 138 = .ok (.getfield 33, 3) := dk_180 0 33 (dk_at dksX1_best_6 0 rfl rfl)
theorem dX1_best_141 : decode cX1_best 141 = .ok (.aload 8, 2) := dk_25 8 (dk_at dksX1_best_6 3 rfl rfl)
theorem dX1_best_143 : decode cX1_best 143 = .ok (.getfield 350, 3) := dk_180 1 94 (dk_at dksX1_best_6 5 rfl rfl)
theorem dX1_best_146 : decode cX1_best 146 = .ok (.invokevirtual 351, 3) := dk_182 1 95 (dk_at dksX1_best_6 8 rfl rfl)
theorem dX1_best_149 : decode cX1_best 149 = .ok (.ifCond .eq 57, 3) := dk_153 0 57 (dk_at dksX1_best_6 11 rfl rfl)
theorem dX1_best_152 : decode cX1_best 152 = .ok (.aload 4, 2) := dk_25 4 (dk_at dksX1_best_6 14 rfl rfl)
theorem dX1_best_154 : decode cX1_best 154 = .ok (.aload 8, 2) := dk_25 8 (dk_at dksX1_best_6 16 rfl rfl)
theorem dX1_best_156 : decode cX1_best 156 = .ok (.getfield 355, 3) := dk_180 1 99 (dk_at dksX1_best_6 18 rfl rfl)
theorem dX1_best_159 : decode cX1_best 159 = .ok (.putfield 358, 3) := dk_181 1 102 (dk_at dksX1_best_6 21 rfl rfl)
theorem dX1_best_162 : decode cX1_best 162 = .ok (.aload 8, 2) := dk_25 8 (dk_at dksX1_best_7 0 rfl rfl)
theorem dX1_best_164 : decode cX1_best 164 = .ok (.astore 9, 2) := dk_58 9 (dk_at dksX1_best_7 2 rfl rfl)
theorem dX1_best_166 : decode cX1_best 166 = .ok (.aload 9, 2) := dk_25 9 (dk_at dksX1_best_7 4 rfl rfl)
theorem dX1_best_168 : decode cX1_best 168 = .ok (.getfield 359, 3) := dk_180 1 103 (dk_at dksX1_best_7 6 rfl rfl)
theorem dX1_best_171 : decode cX1_best 171 = .ok (.ifnull 32, 3) := dk_198 0 32 (dk_at dksX1_best_7 9 rfl rfl)
theorem dX1_best_174 : decode cX1_best 174 = .ok (.aload 4, 2) := dk_25 4 (dk_at dksX1_best_7 12 rfl rfl)
theorem dX1_best_176 : decode cX1_best 176 = .ok (.getfield 363, 3) := dk_180 1 107 (dk_at dksX1_best_7 14 rfl rfl)
theorem dX1_best_179 : decode cX1_best 179 = .ok (.iconst 0, 1) := dk_3 (dk_at dksX1_best_7 17 rfl rfl)
theorem dX1_best_180 : decode cX1_best 180 = .ok (.aload 9, 2) := dk_25 9 (dk_at dksX1_best_7 18 rfl rfl)
theorem dX1_best_182 : decode cX1_best 182 = .ok (.getfield 364, 3) := dk_180 1 108 (dk_at dksX1_best_7 20 rfl rfl)
theorem dX1_best_185 : decode cX1_best 185 = .ok (.invokestatic 155, 3) := dk_184 0 155 (dk_at dksX1_best_8 0 rfl rfl)
theorem dX1_best_188 : decode cX1_best 188 = .ok (.invokeinterface 367 3, 5) := by decide +kernel
theorem dX1_best_193 : decode cX1_best 193 = .ok (.aload 9, 2) := dk_25 9 (dk_at dksX1_best_8 8 rfl rfl)
theorem dX1_best_195 : decode cX1_best 195 = .ok (.getfield 359, 3) := dk_180 1 103 (dk_at dksX1_best_8 10 rfl rfl)
theorem dX1_best_198 : decode cX1_best 198 = .ok (.astore 9, 2) := dk_58 9 (dk_at dksX1_best_8 13 rfl rfl)
theorem dX1_best_200 : decode cX1_best 200 = .ok (.goto (-34), 3) := dk_167 255 222 (dk_at dksX1_best_8 15 rfl rfl)
theorem dX1_best_203 : decode cX1_best 203 = .ok (.aload 4, 2) := dk_25 4 (dk_at dksX1_best_8 18 rfl rfl)
theorem dX1_best_205 : decode cX1_best 205 = .ok (.areturn, 1) := dk_176 (dk_at dksX1_best_8 20 rfl rfl)
theorem dX1_best_206 : decode cX1_best 206 = .ok (.iconst 0, 1) := dk_3 (dk_at dksX1_best_8 21 rfl rfl)
theorem dX1_best_207 : decode cX1_best 207 = .ok (.istore 9, 2) := dk_54 9 (dk_at dksX1_best_8 22 rfl rfl)
theorem dX1_best_209 : decode cX1_best 209 = .ok (.iload 9, 2) := dk_21 9 (dk_at dksX1_best_9 0 rfl rfl)
theorem dX1_best_211 : decode cX1_best 211 = .ok (.iconst 3, 1) := dk_6 (dk_at dksX1_best_9 2 rfl rfl)
theorem dX1_best_212 : decode cX1_best 212 = .ok (.if_icmp .gt 150, 3) := dk_163 0 150 (dk_at dksX1_best_9 3 rfl rfl)
theorem dX1_best_215 : decode cX1_best 215 = .ok (.aload 8, 2) := dk_25 8 (dk_at dksX1_best_9 6 rfl rfl)
theorem dX1_best_217 : decode cX1_best 217 = .ok (.getfield 350, 3) := dk_180 1 94 (dk_at dksX1_best_9 8 rfl rfl)
theorem dX1_best_220 : decode cX1_best 220 = .ok (.iload 9, 2) := dk_21 9 (dk_at dksX1_best_9 11 rfl rfl)
theorem dX1_best_222 : decode cX1_best 222 = .ok (.invokevirtual 152, 3) := dk_182 0 152 (dk_at dksX1_best_9 13 rfl rfl)
theorem dX1_best_225 : decode cX1_best 225 = .ok (.istore 10, 2) := dk_54 10 (dk_at dksX1_best_9 16 rfl rfl)
theorem dX1_best_227 : decode cX1_best 227 = .ok (.iload 10, 2) := dk_21 10 (dk_at dksX1_best_9 18 rfl rfl)
theorem dX1_best_229 : decode cX1_best 229 = .ok (.ifCond .le 127, 3) := dk_158 0 127 (dk_at dksX1_best_9 20 rfl rfl)
theorem dX1_best_232 : decode cX1_best 232 = .ok (.aload 8, 2) := dk_25 8 (dk_at dksX1_best_10 0 rfl rfl)
theorem dX1_best_234 : decode cX1_best 234 = .ok (.getfield 350, 3) := dk_180 1 94 (dk_at dksX1_best_10 2 rfl rfl)
theorem dX1_best_237 : decode cX1_best 237 = .ok (.iload 9, 2) := dk_21 9 (dk_at dksX1_best_10 5 rfl rfl)
theorem dX1_best_239 : decode cX1_best 239 = .ok (.invokevirtual 161, 3) := dk_182 0 161 (dk_at dksX1_best_10 7 rfl rfl)
theorem dX1_best_242 : decode cX1_best 242 = .ok (.astore 11, 2) := dk_58 11 (dk_at dksX1_best_10 10 rfl rfl)
theorem dX1_best_244 : decode cX1_best 244 = .ok (.aload 8, 2) := dk_25 8 (dk_at dksX1_best_10 12 rfl rfl)
theorem dX1_best_246 : decode cX1_best 246 = .ok (.getfield 355, 3) := dk_180 1 99 (dk_at dksX1_best_10 14 rfl rfl)
theorem dX1_best_249 : decode cX1_best 249 = .ok (.aload_n 0, 1) := dk_42 (dk_at dksX1_best_10 17 rfl rfl)
theorem dX1_best_250 : decode cX1_best 250 = .ok (.getfield 33, 3) := dk_180 0 33 (dk_at dksX1_best_10 18 rfl rfl)
theorem dX1_best_253 : decode cX1_best 253 = .ok (.getfield 188, 3) := dk_180 0 188 (dk_at dksX1_best_10 21 rfl rfl)
theorem dX1_best_256 : decode cX1_best 256 = .ok (.iload 10, 2) := dk_21 10 (dk_at dksX1_best_11 0 rfl rfl)
theorem dX1_best_258 : decode cX1_best 258 = .ok (.iaload, 1) := dk_46 (dk_at dksX1_best_11 2 rfl rfl)
theorem dX1_best_259 : decode cX1_best 259 = .ok (.iadd, 1) := dk_96 (dk_at dksX1_best_11 3 rfl rfl)
theorem dX1_best_260 : decode cX1_best 260 = .ok (.istore 12, 2) := dk_54 12 (dk_at dksX1_best_11 4 rfl rfl)
theorem dX1_best_262 : decode cX1_best 262 = .ok (.aload 6, 2) := dk_25 6 (dk_at dksX1_best_11 6 rfl rfl)
theorem dX1_best_264 : decode cX1_best 264 = .ok (.aload 11, 2) := dk_25 11 (dk_at dksX1_best_11 8 rfl rfl)
theorem dX1_best_266 : decode cX1_best 266 = .ok (.invokevirtual 169, 3) := dk_182 0 169 (dk_at dksX1_best_11 10 rfl rfl)
theorem dX1_best_269 : decode cX1_best 269 = .ok (.invokestatic 325, 3) := dk_184 1 69 (dk_at dksX1_best_11 13 rfl rfl)
theorem dX1_best_272 : decode cX1_best 272 = .ok (.invokevirtual 341, 3) := dk_182 1 85 (dk_at dksX1_best_11 16 rfl rfl)
theorem dX1_best_275 : decode cX1_best 275 = .ok (.checkcast 317, 3) := dk_192 1 61 (dk_at dksX1_best_11 19 rfl rfl)
theorem dX1_best_278 : decode cX1_best 278 = .ok (.astore 13, 2) := dk_58 13 (dk_at dksX1_best_11 22 rfl rfl)
theorem dX1_best_280 : decode cX1_best 280 = .ok (.aload 13, 2) := dk_25 13 (dk_at dksX1_best_12 0 rfl rfl)
theorem dX1_best_282 : decode cX1_best 282 = .ok (.ifnull 13, 3) := dk_198 0 13 (dk_at dksX1_best_12 2 rfl rfl)
theorem dX1_best_285 : decode cX1_best 285 = .ok (.iload 12, 2) := dk_21 12 (dk_at dksX1_best_12 5 rfl rfl)
theorem dX1_best_287 : decode cX1_best 287 = .ok (.aload 13, 2) := dk_25 13 (dk_at dksX1_best_12 7 rfl rfl)
theorem dX1_best_289 : decode cX1_best 289 = .ok (.getfield 355, 3) := dk_180 1 99 (dk_at dksX1_best_12 9 rfl rfl)
theorem dX1_best_292 : decode cX1_best 292 = .ok (.if_icmp .ge 64, 3) := dk_162 0 64 (dk_at dksX1_best_12 12 rfl rfl)
theorem dX1_best_295 : decode cX1_best 295 = .ok (.new 317, 3) := dk_187 1 61 (dk_at dksX1_best_12 15 rfl rfl)
theorem dX1_best_298 : decode cX1_best 298 = .ok (.dup, 1) := dk_89 (dk_at dksX1_best_12 18 rfl rfl)
theorem dX1_best_299 : decode cX1_best 299 = .ok (.aload 11, 2) := dk_25 11 (dk_at dksX1_best_12 19 rfl rfl)
theorem dX1_best_301 : decode cX1_best 301 = .ok (.aload 13, 2) := dk_25 13 (dk_at dksX1_best_12 21 rfl rfl)
theorem dX1_best_303 : decode cX1_best 303 = .ok (.ifnonnull 13, 3) := dk_199 0 13 (dk_at dksX1_best_13 0 rfl rfl)
theorem dX1_best_306 : decode cX1_best 306 = .ok (.aload_n 0, 1) := dk_42 (dk_at dksX1_best_13 3 rfl rfl)
theorem dX1_best_307 : decode cX1_best 307 = .ok (.aload 11, 2) := dk_25 11 (dk_at dksX1_best_13 4 rfl rfl)
theorem dX1_best_309 : decode cX1_best 309 = .ok (.iload_n 2, 1) := dk_28 (dk_at dksX1_best_13 6 rfl rfl)
theorem dX1_best_310 : decode cX1_best 310 = .ok (.invokevirtual 307, 3) := dk_182 1 51 (dk_at dksX1_best_13 7 rfl rfl)
theorem dX1_best_313 : decode cX1_best 313 = .ok (.goto 8, 3) := dk_167 0 8 (dk_at dksX1_best_13 10 rfl rfl)
theorem dX1_best_316 : decode cX1_best 316 = .ok (.aload 13, 2) := dk_25 13 (dk_at dksX1_best_13 13 rfl rfl)
theorem dX1_best_318 : decode cX1_best 318 = .ok (.getfield 370, 3) := dk_180 1 114 (dk_at dksX1_best_13 15 rfl rfl)
theorem dX1_best_321 : decode cX1_best 321 = .ok (.iload 12, 2) := dk_21 12 (dk_at dksX1_best_13 18 rfl rfl)
theorem dX1_best_323 : decode cX1_best 323 = .ok (.aload 8, 2) := dk_25 8 (dk_at dksX1_best_13 20 rfl rfl)
theorem dX1_best_325 : decode cX1_best 325 = .ok (.iload 9, 2) := dk_21 9 (dk_at dksX1_best_13 22 rfl rfl)
theorem dX1_best_327 : decode cX1_best 327 = .ok (.invokespecial 319, 3) := dk_183 1 63 (dk_at dksX1_best_14 0 rfl rfl)
theorem dX1_best_330 : decode cX1_best 330 = .ok (.astore 14, 2) := dk_58 14 (dk_at dksX1_best_14 3 rfl rfl)
theorem dX1_best_332 : decode cX1_best 332 = .ok (.aload 6, 2) := dk_25 6 (dk_at dksX1_best_14 5 rfl rfl)
theorem dX1_best_334 : decode cX1_best 334 = .ok (.aload 14, 2) := dk_25 14 (dk_at dksX1_best_14 7 rfl rfl)
theorem dX1_best_336 : decode cX1_best 336 = .ok (.getfield 322, 3) := dk_180 1 66 (dk_at dksX1_best_14 9 rfl rfl)
theorem dX1_best_339 : decode cX1_best 339 = .ok (.invokestatic 325, 3) := dk_184 1 69 (dk_at dksX1_best_14 12 rfl rfl)
theorem dX1_best_342 : decode cX1_best 342 = .ok (.aload 14, 2) := dk_25 14 (dk_at dksX1_best_14 15 rfl rfl)
theorem dX1_best_344 : decode cX1_best 344 = .ok (.invokevirtual 330, 3) := dk_182 1 74 (dk_at dksX1_best_14 17 rfl rfl)
theorem dX1_best_347 : decode cX1_best 347 = .ok (.pop, 1) := dk_87 (dk_at dksX1_best_14 20 rfl rfl)
theorem dX1_best_348 : decode cX1_best 348 = .ok (.aload 5, 2) := dk_25 5 (dk_at dksX1_best_14 21 rfl rfl)
theorem dX1_best_350 : decode cX1_best 350 = .ok (.aload 14, 2) := dk_25 14 (dk_at dksX1_best_15 0 rfl rfl)
theorem dX1_best_352 : decode cX1_best 352 = .ok (.invokevirtual 334, 3) := dk_182 1 78 (dk_at dksX1_best_15 2 rfl rfl)
theorem dX1_best_355 : decode cX1_best 355 = .ok (.pop, 1) := dk_87 (dk_at dksX1_best_15 5 rfl rfl)
theorem dX1_best_356 : decode cX1_best 356 = .ok (.iinc 9 1, 3) := dk_132 9 1 (dk_at dksX1_best_15 6 rfl rfl)
theorem dX1_best_359 : decode cX1_best 359 = .ok (.goto (-150), 3) := dk_167 255 106 (dk_at dksX1_best_15 9 rfl rfl)
theorem dX1_best_362 : decode cX1_best 362 = .ok (.goto (-292), 3) := dk_167 254 220 (dk_at dksX1_best_15 12 rfl rfl)
theorem dX1_best_365 : decode cX1_best 365 = .ok (.aload 4, 2) := dk_25 4 (dk_at dksX1_best_15 15 rfl rfl)
theorem dX1_best_367 : decode cX1_best 367 = .ok (.areturn, 1) := dk_176 (dk_at dksX1_best_15 17 rfl rfl)
abbrev cX1_tray : ByteArray := prog_1_method_7_code
def yX1_tray : MethodName := ⟨RX1, "tray", "(III)I"⟩
def dkwX1_tray_9 : List UInt8 := [187, 0, 37, 89, 183, 0, 39, 181, 0, 71, 42, 180, 0, 12, 182, 0, 100, 4, 100, 172]
abbrev dktX1_tray_9 : List UInt8 := dkwX1_tray_9 ++ []
def dkwX1_tray_8 : List UInt8 := [21, 5, 1, 83, 132, 5, 1, 167, 255, 239, 42, 187, 0, 64, 89, 183, 0, 66, 181, 0, 67, 42]
abbrev dktX1_tray_8 : List UInt8 := dkwX1_tray_8 ++ dktX1_tray_9
def dkwX1_tray_7 : List UInt8 := [25, 6, 185, 0, 114, 1, 0, 167, 255, 227, 3, 54, 5, 21, 5, 5, 162, 0, 17, 42, 180, 0, 56]
abbrev dktX1_tray_7 : List UInt8 := dkwX1_tray_7 ++ dktX1_tray_8
def dkwX1_tray_6 : List UInt8 := [58, 5, 25, 5, 185, 0, 122, 1, 0, 153, 0, 25, 25, 5, 185, 0, 127, 1, 0, 192, 0, 82, 58, 6]
abbrev dktX1_tray_6 : List UInt8 := dkwX1_tray_6 ++ dktX1_tray_7
def dkwX1_tray_5 : List UInt8 := [180, 0, 40, 185, 0, 114, 1, 0, 42, 180, 0, 47, 182, 0, 117, 42, 180, 0, 51, 185, 0, 118, 1, 0]
abbrev dktX1_tray_5 : List UInt8 := dkwX1_tray_5 ++ dktX1_tray_6
def dkwX1_tray_4 : List UInt8 := [184, 0, 18, 181, 0, 24, 42, 187, 0, 28, 89, 42, 180, 0, 24, 183, 0, 30, 181, 0, 33, 42]
abbrev dktX1_tray_4 : List UInt8 := dkwX1_tray_4 ++ dktX1_tray_5
def dkwX1_tray_3 : List UInt8 := [58, 4, 25, 4, 182, 0, 110, 184, 0, 96, 42, 25, 4, 181, 0, 12, 42, 42, 180, 0, 12, 9]
abbrev dktX1_tray_3 : List UInt8 := dkwX1_tray_3 ++ dktX1_tray_4
def dkwX1_tray_2 : List UInt8 := [100, 6, 161, 0, 7, 4, 167, 0, 4, 3, 184, 0, 96, 187, 0, 7, 89, 27, 28, 29, 183, 0, 9]
abbrev dktX1_tray_2 : List UInt8 := dkwX1_tray_2 ++ dktX1_tray_3
def dkwX1_tray_1 : List UInt8 := [3, 184, 0, 96, 29, 155, 0, 28, 29, 4, 27, 28, 104, 120, 162, 0, 19, 27, 28, 104, 29, 184, 0, 104]
abbrev dktX1_tray_1 : List UInt8 := dkwX1_tray_1 ++ dktX1_tray_2
def dkwX1_tray_0 : List UInt8 := [27, 5, 161, 0, 22, 27, 7, 163, 0, 17, 28, 5, 161, 0, 12, 28, 7, 163, 0, 7, 4, 167, 0, 4]
abbrev dktX1_tray_0 : List UInt8 := dkwX1_tray_0 ++ dktX1_tray_1
theorem dksX1_tray_0 : cX1_tray.data.toList.drop 0 = dktX1_tray_0 := by decide +kernel
theorem dksX1_tray_1 : cX1_tray.data.toList.drop 24 = dktX1_tray_1 := dk_seg dksX1_tray_0 24 rfl rfl
theorem dksX1_tray_2 : cX1_tray.data.toList.drop 48 = dktX1_tray_2 := dk_seg dksX1_tray_1 24 rfl rfl
theorem dksX1_tray_3 : cX1_tray.data.toList.drop 71 = dktX1_tray_3 := dk_seg dksX1_tray_2 23 rfl rfl
theorem dksX1_tray_4 : cX1_tray.data.toList.drop 93 = dktX1_tray_4 := dk_seg dksX1_tray_3 22 rfl rfl
theorem dksX1_tray_5 : cX1_tray.data.toList.drop 115 = dktX1_tray_5 := dk_seg dksX1_tray_4 22 rfl rfl
theorem dksX1_tray_6 : cX1_tray.data.toList.drop 139 = dktX1_tray_6 := dk_seg dksX1_tray_5 24 rfl rfl
theorem dksX1_tray_7 : cX1_tray.data.toList.drop 163 = dktX1_tray_7 := dk_seg dksX1_tray_6 24 rfl rfl
theorem dksX1_tray_8 : cX1_tray.data.toList.drop 186 = dktX1_tray_8 := dk_seg dksX1_tray_7 23 rfl rfl
theorem dksX1_tray_9 : cX1_tray.data.toList.drop 208 = dktX1_tray_9 := dk_seg dksX1_tray_8 22 rfl rfl
theorem dX1_tray_0 : decode cX1_tray 0 = .ok (.iload_n 1, 1) := dk_27 (dk_at dksX1_tray_0 0 rfl rfl)
theorem dX1_tray_1 : decode cX1_tray 1 = .ok (.iconst 2, 1) := dk_5 (dk_at dksX1_tray_0 1 rfl rfl)
theorem dX1_tray_2 : decode cX1_tray 2 = .ok (.if_icmp .lt 22, 3) := dk_161 0 22 (dk_at dksX1_tray_0 2 rfl rfl)
theorem dX1_tray_5 : decode cX1_tray 5 = .ok (.iload_n 1, 1) := dk_27 (dk_at dksX1_tray_0 5 rfl rfl)
theorem dX1_tray_6 : decode cX1_tray 6 = .ok (.iconst 4, 1) := dk_7 (dk_at dksX1_tray_0 6 rfl rfl)
theorem dX1_tray_7 : decode cX1_tray 7 = .ok (.if_icmp .gt 17, 3) := dk_163 0 17 (dk_at dksX1_tray_0 7 rfl rfl)
theorem dX1_tray_10 : decode cX1_tray 10 = .ok (.iload_n 2, 1) := dk_28 (dk_at dksX1_tray_0 10 rfl rfl)
theorem dX1_tray_11 : decode cX1_tray 11 = .ok (.iconst 2, 1) := dk_5 (dk_at dksX1_tray_0 11 rfl rfl)
theorem dX1_tray_12 : decode cX1_tray 12 = .ok (.if_icmp .lt 12, 3) := dk_161 0 12 (dk_at dksX1_tray_0 12 rfl rfl)
theorem dX1_tray_15 : decode cX1_tray 15 = .ok (.iload_n 2, 1) := dk_28 (dk_at dksX1_tray_0 15 rfl rfl)
theorem dX1_tray_16 : decode cX1_tray 16 = .ok (.iconst 4, 1) := dk_7 (dk_at dksX1_tray_0 16 rfl rfl)
theorem dX1_tray_17 : decode cX1_tray 17 = .ok (.if_icmp .gt 7, 3) := dk_163 0 7 (dk_at dksX1_tray_0 17 rfl rfl)
theorem dX1_tray_20 : decode cX1_tray 20 = .ok (.iconst 1, 1) := dk_4 (dk_at dksX1_tray_0 20 rfl rfl)
theorem dX1_tray_21 : decode cX1_tray 21 = .ok (.goto 4, 3) := dk_167 0 4 (dk_at dksX1_tray_0 21 rfl rfl)
theorem dX1_tray_24 : decode cX1_tray 24 = .ok (.iconst 0, 1) := dk_3 (dk_at dksX1_tray_1 0 rfl rfl)
theorem dX1_tray_25 : decode cX1_tray 25 = .ok (.invokestatic 96, 3) := dk_184 0 96 (dk_at dksX1_tray_1 1 rfl rfl)
theorem dX1_tray_28 : decode cX1_tray 28 = .ok (.iload_n 3, 1) := dk_29 (dk_at dksX1_tray_1 4 rfl rfl)
theorem dX1_tray_29 : decode cX1_tray 29 = .ok (.ifCond .lt 28, 3) := dk_155 0 28 (dk_at dksX1_tray_1 5 rfl rfl)
theorem dX1_tray_32 : decode cX1_tray 32 = .ok (.iload_n 3, 1) := dk_29 (dk_at dksX1_tray_1 8 rfl rfl)
theorem dX1_tray_33 : decode cX1_tray 33 = .ok (.iconst 1, 1) := dk_4 (dk_at dksX1_tray_1 9 rfl rfl)
theorem dX1_tray_34 : decode cX1_tray 34 = .ok (.iload_n 1, 1) := dk_27 (dk_at dksX1_tray_1 10 rfl rfl)
theorem dX1_tray_35 : decode cX1_tray 35 = .ok (.iload_n 2, 1) := dk_28 (dk_at dksX1_tray_1 11 rfl rfl)
theorem dX1_tray_36 : decode cX1_tray 36 = .ok (.imul, 1) := dk_104 (dk_at dksX1_tray_1 12 rfl rfl)
theorem dX1_tray_37 : decode cX1_tray 37 = .ok (.ishl, 1) := dk_120 (dk_at dksX1_tray_1 13 rfl rfl)
theorem dX1_tray_38 : decode cX1_tray 38 = .ok (.if_icmp .ge 19, 3) := dk_162 0 19 (dk_at dksX1_tray_1 14 rfl rfl)
theorem dX1_tray_41 : decode cX1_tray 41 = .ok (.iload_n 1, 1) := dk_27 (dk_at dksX1_tray_1 17 rfl rfl)
theorem dX1_tray_42 : decode cX1_tray 42 = .ok (.iload_n 2, 1) := dk_28 (dk_at dksX1_tray_1 18 rfl rfl)
theorem dX1_tray_43 : decode cX1_tray 43 = .ok (.imul, 1) := dk_104 (dk_at dksX1_tray_1 19 rfl rfl)
theorem dX1_tray_44 : decode cX1_tray 44 = .ok (.iload_n 3, 1) := dk_29 (dk_at dksX1_tray_1 20 rfl rfl)
theorem dX1_tray_45 : decode cX1_tray 45 = .ok (.invokestatic 104, 3) := dk_184 0 104 (dk_at dksX1_tray_1 21 rfl rfl)
theorem dX1_tray_48 : decode cX1_tray 48 = .ok (.isub, 1) := dk_100 (dk_at dksX1_tray_2 0 rfl rfl)
theorem dX1_tray_49 : decode cX1_tray 49 = .ok (.iconst 3, 1) := dk_6 (dk_at dksX1_tray_2 1 rfl rfl)
theorem dX1_tray_50 : decode cX1_tray 50 = .ok (.if_icmp .lt 7, 3) := dk_161 0 7 (dk_at dksX1_tray_2 2 rfl rfl)
theorem dX1_tray_53 : decode cX1_tray 53 = .ok (.iconst 1, 1) := dk_4 (dk_at dksX1_tray_2 5 rfl rfl)
theorem dX1_tray_54 : decode cX1_tray 54 = .ok (.goto 4, 3) := dk_167 0 4 (dk_at dksX1_tray_2 6 rfl rfl)
theorem dX1_tray_57 : decode cX1_tray 57 = .ok (.iconst 0, 1) := dk_3 (dk_at dksX1_tray_2 9 rfl rfl)
theorem dX1_tray_58 : decode cX1_tray 58 = .ok (.invokestatic 96, 3) := dk_184 0 96 (dk_at dksX1_tray_2 10 rfl rfl)
theorem dX1_tray_61 : decode cX1_tray 61 = .ok (.new 7, 3) := dk_187 0 7 (dk_at dksX1_tray_2 13 rfl rfl)
theorem dX1_tray_64 : decode cX1_tray 64 = .ok (.dup, 1) := dk_89 (dk_at dksX1_tray_2 16 rfl rfl)
theorem dX1_tray_65 : decode cX1_tray 65 = .ok (.iload_n 1, 1) := dk_27 (dk_at dksX1_tray_2 17 rfl rfl)
theorem dX1_tray_66 : decode cX1_tray 66 = .ok (.iload_n 2, 1) := dk_28 (dk_at dksX1_tray_2 18 rfl rfl)
theorem dX1_tray_67 : decode cX1_tray 67 = .ok (.iload_n 3, 1) := dk_29 (dk_at dksX1_tray_2 19 rfl rfl)
theorem dX1_tray_68 : decode cX1_tray 68 = .ok (.invokespecial 9, 3) := dk_183 0 9 (dk_at dksX1_tray_2 20 rfl rfl)
theorem dX1_tray_71 : decode cX1_tray 71 = .ok (.astore 4, 2) := dk_58 4 (dk_at dksX1_tray_3 0 rfl rfl)
theorem dX1_tray_73 : decode cX1_tray 73 = .ok (.aload 4, 2) := dk_25 4 (dk_at dksX1_tray_3 2 rfl rfl)
theorem dX1_tray_75 : decode cX1_tray 75 = .ok (.invokevirtual 110, 3) := dk_182 0 110 (dk_at dksX1_tray_3 4 rfl rfl)
theorem dX1_tray_78 : decode cX1_tray 78 = .ok (.invokestatic 96, 3) := dk_184 0 96 (dk_at dksX1_tray_3 7 rfl rfl)
theorem dX1_tray_81 : decode cX1_tray 81 = .ok (.aload_n 0, 1) := dk_42 (dk_at dksX1_tray_3 10 rfl rfl)
theorem dX1_tray_82 : decode cX1_tray 82 = .ok (.aload 4, 2) := dk_25 4 (dk_at dksX1_tray_3 11 rfl rfl)
theorem dX1_tray_84 : decode cX1_tray 84 = .ok (.putfield 12, 3) := dk_181 0 12 (dk_at dksX1_tray_3 13 rfl rfl)
theorem dX1_tray_87 : decode cX1_tray 87 = .ok (.aload_n 0, 1) := dk_42 (dk_at dksX1_tray_3 16 rfl rfl)
theorem dX1_tray_88 : decode cX1_tray 88 = .ok (.aload_n 0, 1) := dk_42 (dk_at dksX1_tray_3 17 rfl rfl)
theorem dX1_tray_89 : decode cX1_tray 89 = .ok (.getfield 12, 3) := dk_180 0 12 (dk_at dksX1_tray_3 18 rfl rfl)
theorem dX1_tray_92 : decode cX1_tray 92 = .ok (.lconst 0, 1) := dk_9 (dk_at dksX1_tray_3 21 rfl rfl)
theorem dX1_tray_93 : decode cX1_tray 93 = .ok (.invokestatic 18, 3) := dk_184 0 18 (dk_at dksX1_tray_4 0 rfl rfl)
theorem dX1_tray_96 : decode cX1_tray 96 = .ok (.putfield 24, 3) := dk_181 0 24 (dk_at dksX1_tray_4 3 rfl rfl)
theorem dX1_tray_99 : decode cX1_tray 99 = .ok (.aload_n 0, 1) := dk_42 (dk_at dksX1_tray_4 6 rfl rfl)
theorem dX1_tray_100 : decode cX1_tray 100 = .ok (.new 28, 3) := dk_187 0 28 (dk_at dksX1_tray_4 7 rfl rfl)
theorem dX1_tray_103 : decode cX1_tray 103 = .ok (.dup, 1) := dk_89 (dk_at dksX1_tray_4 10 rfl rfl)
theorem dX1_tray_104 : decode cX1_tray 104 = .ok (.aload_n 0, 1) := dk_42 (dk_at dksX1_tray_4 11 rfl rfl)
theorem dX1_tray_105 : decode cX1_tray 105 = .ok (.getfield 24, 3) := dk_180 0 24 (dk_at dksX1_tray_4 12 rfl rfl)
theorem dX1_tray_108 : decode cX1_tray 108 = .ok (.invokespecial 30, 3) := dk_183 0 30 (dk_at dksX1_tray_4 15 rfl rfl)
theorem dX1_tray_111 : decode cX1_tray 111 = .ok (.putfield 33, 3) := dk_181 0 33 (dk_at dksX1_tray_4 18 rfl rfl)
theorem dX1_tray_114 : decode cX1_tray 114 = .ok (.aload_n 0, 1) := dk_42 (dk_at dksX1_tray_4 21 rfl rfl)
theorem dX1_tray_115 : decode cX1_tray 115 = .ok (.getfield 40, 3) := dk_180 0 40 (dk_at dksX1_tray_5 0 rfl rfl)
theorem dX1_tray_118 : decode cX1_tray 118 = .ok (.invokeinterface 114 1, 5) := by decide +kernel
theorem dX1_tray_123 : decode cX1_tray 123 = .ok (.aload_n 0, 1) := dk_42 (dk_at dksX1_tray_5 8 rfl rfl)
theorem dX1_tray_124 : decode cX1_tray 124 = .ok (.getfield 47, 3) := dk_180 0 47 (dk_at dksX1_tray_5 9 rfl rfl)
theorem dX1_tray_127 : decode cX1_tray 127 = .ok (.invokevirtual 117, 3) := dk_182 0 117 (dk_at dksX1_tray_5 12 rfl rfl)
theorem dX1_tray_130 : decode cX1_tray 130 = .ok (.aload_n 0, 1) := dk_42 (dk_at dksX1_tray_5 15 rfl rfl)
theorem dX1_tray_131 : decode cX1_tray 131 = .ok (.getfield 51, 3) := dk_180 0 51 (dk_at dksX1_tray_5 16 rfl rfl)
theorem dX1_tray_134 : decode cX1_tray 134 = .ok (.invokeinterface 118 1, 5) := by decide +kernel
theorem dX1_tray_139 : decode cX1_tray 139 = .ok (.astore 5, 2) := dk_58 5 (dk_at dksX1_tray_6 0 rfl rfl)
theorem dX1_tray_141 : decode cX1_tray 141 = .ok (.aload 5, 2) := dk_25 5 (dk_at dksX1_tray_6 2 rfl rfl)
theorem dX1_tray_143 : decode cX1_tray 143 = .ok (.invokeinterface 122 1, 5) := by decide +kernel
theorem dX1_tray_148 : decode cX1_tray 148 = .ok (.ifCond .eq 25, 3) := dk_153 0 25 (dk_at dksX1_tray_6 9 rfl rfl)
theorem dX1_tray_151 : decode cX1_tray 151 = .ok (.aload 5, 2) := dk_25 5 (dk_at dksX1_tray_6 12 rfl rfl)
theorem dX1_tray_153 : decode cX1_tray 153 = .ok (.invokeinterface 127 1, 5) := by decide +kernel
theorem dX1_tray_158 : decode cX1_tray 158 = .ok (.checkcast 82, 3) := dk_192 0 82 (dk_at dksX1_tray_6 19 rfl rfl)
theorem dX1_tray_161 : decode cX1_tray 161 = .ok (.astore 6, 2) := dk_58 6 (dk_at dksX1_tray_6 22 rfl rfl)
theorem dX1_tray_163 : decode cX1_tray 163 = .ok (.aload 6, 2) := dk_25 6 (dk_at dksX1_tray_7 0 rfl rfl)
theorem dX1_tray_165 : decode cX1_tray 165 = .ok (.invokeinterface 114 1, 5) := by decide +kernel
theorem dX1_tray_170 : decode cX1_tray 170 = .ok (.goto (-29), 3) := dk_167 255 227 (dk_at dksX1_tray_7 7 rfl rfl)
theorem dX1_tray_173 : decode cX1_tray 173 = .ok (.iconst 0, 1) := dk_3 (dk_at dksX1_tray_7 10 rfl rfl)
theorem dX1_tray_174 : decode cX1_tray 174 = .ok (.istore 5, 2) := dk_54 5 (dk_at dksX1_tray_7 11 rfl rfl)
theorem dX1_tray_176 : decode cX1_tray 176 = .ok (.iload 5, 2) := dk_21 5 (dk_at dksX1_tray_7 13 rfl rfl)
theorem dX1_tray_178 : decode cX1_tray 178 = .ok (.iconst 2, 1) := dk_5 (dk_at dksX1_tray_7 15 rfl rfl)
theorem dX1_tray_179 : decode cX1_tray 179 = .ok (.if_icmp .ge 17, 3) := dk_162 0 17 (dk_at dksX1_tray_7 16 rfl rfl)
theorem dX1_tray_182 : decode cX1_tray 182 = .ok (.aload_n 0, 1) := dk_42 (dk_at dksX1_tray_7 19 rfl rfl)
theorem dX1_tray_183 : decode cX1_tray 183 = .ok (.getfield 56, 3) := dk_180 0 56 (dk_at dksX1_tray_7 20 rfl rfl)
theorem dX1_tray_186 : decode cX1_tray 186 = .ok (.iload 5, 2) := dk_21 5 (dk_at dksX1_tray_8 0 rfl rfl)
theorem dX1_tray_188 : decode cX1_tray 188 = .ok (.aconst_null, 1) := dk_1 (dk_at dksX1_tray_8 2 rfl rfl)
theorem dX1_tray_189 : decode cX1_tray 189 = .ok (.aastore, 1) := dk_83 (dk_at dksX1_tray_8 3 rfl rfl)
theorem dX1_tray_190 : decode cX1_tray 190 = .ok (.iinc 5 1, 3) := dk_132 5 1 (dk_at dksX1_tray_8 4 rfl rfl)
theorem dX1_tray_193 : decode cX1_tray 193 = .ok (.goto (-17), 3) := dk_167 255 239 (dk_at dksX1_tray_8 7 rfl rfl)
theorem dX1_tray_196 : decode cX1_tray 196 = .ok (.aload_n 0, 1) := dk_42 (dk_at dksX1_tray_8 10 rfl rfl)
theorem dX1_tray_197 : decode cX1_tray 197 = .ok (.new 64, 3) := dk_187 0 64 (dk_at dksX1_tray_8 11 rfl rfl)
theorem dX1_tray_200 : decode cX1_tray 200 = .ok (.dup, 1) := dk_89 (dk_at dksX1_tray_8 14 rfl rfl)
theorem dX1_tray_201 : decode cX1_tray 201 = .ok (.invokespecial 66, 3) := dk_183 0 66 (dk_at dksX1_tray_8 15 rfl rfl)
theorem dX1_tray_204 : decode cX1_tray 204 = .ok (.putfield 67, 3) := dk_181 0 67 (dk_at dksX1_tray_8 18 rfl rfl)
theorem dX1_tray_207 : decode cX1_tray 207 = .ok (.aload_n 0, 1) := dk_42 (dk_at dksX1_tray_8 21 rfl rfl)
theorem dX1_tray_208 : decode cX1_tray 208 = .ok (.new 37, 3) := dk_187 0 37 (dk_at dksX1_tray_9 0 rfl rfl)
theorem dX1_tray_211 : decode cX1_tray 211 = .ok (.dup, 1) := dk_89 (dk_at dksX1_tray_9 3 rfl rfl)
theorem dX1_tray_212 : decode cX1_tray 212 = .ok (.invokespecial 39, 3) := dk_183 0 39 (dk_at dksX1_tray_9 4 rfl rfl)
theorem dX1_tray_215 : decode cX1_tray 215 = .ok (.putfield 71, 3) := dk_181 0 71 (dk_at dksX1_tray_9 7 rfl rfl)
theorem dX1_tray_218 : decode cX1_tray 218 = .ok (.aload_n 0, 1) := dk_42 (dk_at dksX1_tray_9 10 rfl rfl)
theorem dX1_tray_219 : decode cX1_tray 219 = .ok (.getfield 12, 3) := dk_180 0 12 (dk_at dksX1_tray_9 11 rfl rfl)
theorem dX1_tray_222 : decode cX1_tray 222 = .ok (.invokevirtual 100, 3) := dk_182 0 100 (dk_at dksX1_tray_9 14 rfl rfl)
theorem dX1_tray_225 : decode cX1_tray 225 = .ok (.iconst 1, 1) := dk_4 (dk_at dksX1_tray_9 17 rfl rfl)
theorem dX1_tray_226 : decode cX1_tray 226 = .ok (.isub, 1) := dk_100 (dk_at dksX1_tray_9 18 rfl rfl)
theorem dX1_tray_227 : decode cX1_tray 227 = .ok (.ireturn, 1) := dk_172 (dk_at dksX1_tray_9 19 rfl rfl)
abbrev cX1_checkArgument : ByteArray := prog_1_method_3_code
def yX1_checkArgument : MethodName := ⟨RX1, "checkArgument", "(Z)V"⟩
def dkwX1_checkArgument_0 : List UInt8 := [26, 154, 0, 11, 187, 0, 90, 89, 183, 0, 92, 191, 177]
abbrev dktX1_checkArgument_0 : List UInt8 := dkwX1_checkArgument_0 ++ []
theorem dksX1_checkArgument_0 : cX1_checkArgument.data.toList.drop 0 = dktX1_checkArgument_0 := by decide +kernel
theorem dX1_checkArgument_0 : decode cX1_checkArgument 0 = .ok (.iload_n 0, 1) := dk_26 (dk_at dksX1_checkArgument_0 0 rfl rfl)
theorem dX1_checkArgument_1 : decode cX1_checkArgument 1 = .ok (.ifCond .ne 11, 3) := dk_154 0 11 (dk_at dksX1_checkArgument_0 1 rfl rfl)
theorem dX1_checkArgument_4 : decode cX1_checkArgument 4 = .ok (.new 90, 3) := dk_187 0 90 (dk_at dksX1_checkArgument_0 4 rfl rfl)
theorem dX1_checkArgument_7 : decode cX1_checkArgument 7 = .ok (.dup, 1) := dk_89 (dk_at dksX1_checkArgument_0 7 rfl rfl)
theorem dX1_checkArgument_8 : decode cX1_checkArgument 8 = .ok (.invokespecial 92, 3) := dk_183 0 92 (dk_at dksX1_checkArgument_0 8 rfl rfl)
theorem dX1_checkArgument_11 : decode cX1_checkArgument 11 = .ok (.athrow, 1) := dk_191 (dk_at dksX1_checkArgument_0 11 rfl rfl)
theorem dX1_checkArgument_12 : decode cX1_checkArgument 12 = .ok (.return_, 1) := dk_177 (dk_at dksX1_checkArgument_0 12 rfl rfl)
abbrev cX1_lay : ByteArray := prog_1_method_9_code
def yX1_lay : MethodName := ⟨RX1, "lay", "(J)I"⟩
def dkwX1_lay_1 : List UInt8 := [42, 180, 0, 12, 31, 184, 0, 18, 182, 0, 148, 172]
abbrev dktX1_lay_1 : List UInt8 := dkwX1_lay_1 ++ []
def dkwX1_lay_0 : List UInt8 := [31, 9, 148, 155, 0, 16, 31, 42, 182, 0, 144, 148, 156, 0, 7, 4, 167, 0, 4, 3, 184, 0, 96, 42]
abbrev dktX1_lay_0 : List UInt8 := dkwX1_lay_0 ++ dktX1_lay_1
theorem dksX1_lay_0 : cX1_lay.data.toList.drop 0 = dktX1_lay_0 := by decide +kernel
theorem dksX1_lay_1 : cX1_lay.data.toList.drop 24 = dktX1_lay_1 := dk_seg dksX1_lay_0 24 rfl rfl
theorem dX1_lay_0 : decode cX1_lay 0 = .ok (.lload_n 1, 1) := dk_31 (dk_at dksX1_lay_0 0 rfl rfl)
theorem dX1_lay_1 : decode cX1_lay 1 = .ok (.lconst 0, 1) := dk_9 (dk_at dksX1_lay_0 1 rfl rfl)
theorem dX1_lay_2 : decode cX1_lay 2 = .ok (.lcmp, 1) := dk_148 (dk_at dksX1_lay_0 2 rfl rfl)
theorem dX1_lay_3 : decode cX1_lay 3 = .ok (.ifCond .lt 16, 3) := dk_155 0 16 (dk_at dksX1_lay_0 3 rfl rfl)
theorem dX1_lay_6 : decode cX1_lay 6 = .ok (.lload_n 1, 1) := dk_31 (dk_at dksX1_lay_0 6 rfl rfl)
theorem dX1_lay_7 : decode cX1_lay 7 = .ok (.aload_n 0, 1) := dk_42 (dk_at dksX1_lay_0 7 rfl rfl)
theorem dX1_lay_8 : decode cX1_lay 8 = .ok (.invokevirtual 144, 3) := dk_182 0 144 (dk_at dksX1_lay_0 8 rfl rfl)
theorem dX1_lay_11 : decode cX1_lay 11 = .ok (.lcmp, 1) := dk_148 (dk_at dksX1_lay_0 11 rfl rfl)
theorem dX1_lay_12 : decode cX1_lay 12 = .ok (.ifCond .ge 7, 3) := dk_156 0 7 (dk_at dksX1_lay_0 12 rfl rfl)
theorem dX1_lay_15 : decode cX1_lay 15 = .ok (.iconst 1, 1) := dk_4 (dk_at dksX1_lay_0 15 rfl rfl)
theorem dX1_lay_16 : decode cX1_lay 16 = .ok (.goto 4, 3) := dk_167 0 4 (dk_at dksX1_lay_0 16 rfl rfl)
theorem dX1_lay_19 : decode cX1_lay 19 = .ok (.iconst 0, 1) := dk_3 (dk_at dksX1_lay_0 19 rfl rfl)
theorem dX1_lay_20 : decode cX1_lay 20 = .ok (.invokestatic 96, 3) := dk_184 0 96 (dk_at dksX1_lay_0 20 rfl rfl)
theorem dX1_lay_23 : decode cX1_lay 23 = .ok (.aload_n 0, 1) := dk_42 (dk_at dksX1_lay_0 23 rfl rfl)
theorem dX1_lay_24 : decode cX1_lay 24 = .ok (.aload_n 0, 1) := dk_42 (dk_at dksX1_lay_1 0 rfl rfl)
theorem dX1_lay_25 : decode cX1_lay 25 = .ok (.getfield 12, 3) := dk_180 0 12 (dk_at dksX1_lay_1 1 rfl rfl)
theorem dX1_lay_28 : decode cX1_lay 28 = .ok (.lload_n 1, 1) := dk_31 (dk_at dksX1_lay_1 4 rfl rfl)
theorem dX1_lay_29 : decode cX1_lay 29 = .ok (.invokestatic 18, 3) := dk_184 0 18 (dk_at dksX1_lay_1 5 rfl rfl)
theorem dX1_lay_32 : decode cX1_lay 32 = .ok (.invokevirtual 148, 3) := dk_182 0 148 (dk_at dksX1_lay_1 8 rfl rfl)
theorem dX1_lay_35 : decode cX1_lay 35 = .ok (.ireturn, 1) := dk_172 (dk_at dksX1_lay_1 11 rfl rfl)
abbrev cX1_lies : ByteArray := prog_1_method_8_code
def yX1_lies : MethodName := ⟨RX1, "lies", "(LSlidingtray$Lie;)I"⟩
def dkwX1_lies_1 : List UInt8 := [180, 0, 134, 185, 0, 137, 2, 0, 192, 0, 105, 182, 0, 141, 172]
abbrev dktX1_lies_1 : List UInt8 := dkwX1_lies_1 ++ []
def dkwX1_lies_0 : List UInt8 := [42, 43, 181, 0, 24, 42, 180, 0, 47, 182, 0, 117, 42, 180, 0, 12, 180, 0, 131, 42, 180, 0, 24]
abbrev dktX1_lies_0 : List UInt8 := dkwX1_lies_0 ++ dktX1_lies_1
theorem dksX1_lies_0 : cX1_lies.data.toList.drop 0 = dktX1_lies_0 := by decide +kernel
theorem dksX1_lies_1 : cX1_lies.data.toList.drop 23 = dktX1_lies_1 := dk_seg dksX1_lies_0 23 rfl rfl
theorem dX1_lies_0 : decode cX1_lies 0 = .ok (.aload_n 0, 1) := dk_42 (dk_at dksX1_lies_0 0 rfl rfl)
theorem dX1_lies_1 : decode cX1_lies 1 = .ok (.aload_n 1, 1) := dk_43 (dk_at dksX1_lies_0 1 rfl rfl)
theorem dX1_lies_2 : decode cX1_lies 2 = .ok (.putfield 24, 3) := dk_181 0 24 (dk_at dksX1_lies_0 2 rfl rfl)
theorem dX1_lies_5 : decode cX1_lies 5 = .ok (.aload_n 0, 1) := dk_42 (dk_at dksX1_lies_0 5 rfl rfl)
theorem dX1_lies_6 : decode cX1_lies 6 = .ok (.getfield 47, 3) := dk_180 0 47 (dk_at dksX1_lies_0 6 rfl rfl)
theorem dX1_lies_9 : decode cX1_lies 9 = .ok (.invokevirtual 117, 3) := dk_182 0 117 (dk_at dksX1_lies_0 9 rfl rfl)
theorem dX1_lies_12 : decode cX1_lies 12 = .ok (.aload_n 0, 1) := dk_42 (dk_at dksX1_lies_0 12 rfl rfl)
theorem dX1_lies_13 : decode cX1_lies 13 = .ok (.getfield 12, 3) := dk_180 0 12 (dk_at dksX1_lies_0 13 rfl rfl)
theorem dX1_lies_16 : decode cX1_lies 16 = .ok (.getfield 131, 3) := dk_180 0 131 (dk_at dksX1_lies_0 16 rfl rfl)
theorem dX1_lies_19 : decode cX1_lies 19 = .ok (.aload_n 0, 1) := dk_42 (dk_at dksX1_lies_0 19 rfl rfl)
theorem dX1_lies_20 : decode cX1_lies 20 = .ok (.getfield 24, 3) := dk_180 0 24 (dk_at dksX1_lies_0 20 rfl rfl)
theorem dX1_lies_23 : decode cX1_lies 23 = .ok (.getfield 134, 3) := dk_180 0 134 (dk_at dksX1_lies_1 0 rfl rfl)
theorem dX1_lies_26 : decode cX1_lies 26 = .ok (.invokeinterface 137 2, 5) := by decide +kernel
theorem dX1_lies_31 : decode cX1_lies 31 = .ok (.checkcast 105, 3) := dk_192 0 105 (dk_at dksX1_lies_1 8 rfl rfl)
theorem dX1_lies_34 : decode cX1_lies 34 = .ok (.invokevirtual 141, 3) := dk_182 0 141 (dk_at dksX1_lies_1 11 rfl rfl)
theorem dX1_lies_37 : decode cX1_lies 37 = .ok (.ireturn, 1) := dk_172 (dk_at dksX1_lies_1 14 rfl rfl)
abbrev cX1_mix : ByteArray := prog_1_method_10_code
def yX1_mix : MethodName := ⟨RX1, "mix", "(II)I"⟩
def dkwX1_mix_5 : List UInt8 := [182, 0, 141, 182, 0, 161, 78, 132, 5, 1, 167, 255, 159, 42, 45, 182, 0, 148, 172]
abbrev dktX1_mix_5 : List UInt8 := dkwX1_mix_5 ++ []
def dkwX1_mix_4 : List UInt8 := [25, 6, 21, 4, 16, 16, 124, 25, 6, 185, 0, 160, 1, 0, 112, 185, 0, 137, 2, 0, 192, 0, 105]
abbrev dktX1_mix_4 : List UInt8 := dkwX1_mix_4 ++ dktX1_mix_5
def dkwX1_mix_3 : List UInt8 := [185, 0, 81, 2, 0, 87, 132, 7, 1, 167, 255, 225, 21, 4, 18, 159, 104, 17, 48, 57, 96, 54, 4, 45]
abbrev dktX1_mix_3 : List UInt8 := dkwX1_mix_3 ++ dktX1_mix_4
def dkwX1_mix_2 : List UInt8 := [21, 7, 6, 163, 0, 31, 45, 21, 7, 182, 0, 152, 158, 0, 16, 25, 6, 21, 7, 184, 0, 155]
abbrev dktX1_mix_2 : List UInt8 := dkwX1_mix_2 ++ dktX1_mix_3
def dkwX1_mix_1 : List UInt8 := [27, 54, 4, 3, 54, 5, 21, 5, 28, 162, 0, 97, 187, 0, 37, 89, 183, 0, 39, 58, 6, 3, 54, 7]
abbrev dktX1_mix_1 : List UInt8 := dkwX1_mix_1 ++ dktX1_mix_2
def dkwX1_mix_0 : List UInt8 := [28, 155, 0, 14, 28, 17, 0, 200, 163, 0, 7, 4, 167, 0, 4, 3, 184, 0, 96, 42, 180, 0, 24, 78]
abbrev dktX1_mix_0 : List UInt8 := dkwX1_mix_0 ++ dktX1_mix_1
theorem dksX1_mix_0 : cX1_mix.data.toList.drop 0 = dktX1_mix_0 := by decide +kernel
theorem dksX1_mix_1 : cX1_mix.data.toList.drop 24 = dktX1_mix_1 := dk_seg dksX1_mix_0 24 rfl rfl
theorem dksX1_mix_2 : cX1_mix.data.toList.drop 48 = dktX1_mix_2 := dk_seg dksX1_mix_1 24 rfl rfl
theorem dksX1_mix_3 : cX1_mix.data.toList.drop 70 = dktX1_mix_3 := dk_seg dksX1_mix_2 22 rfl rfl
theorem dksX1_mix_4 : cX1_mix.data.toList.drop 94 = dktX1_mix_4 := dk_seg dksX1_mix_3 24 rfl rfl
theorem dksX1_mix_5 : cX1_mix.data.toList.drop 117 = dktX1_mix_5 := dk_seg dksX1_mix_4 23 rfl rfl
theorem dX1_mix_0 : decode cX1_mix 0 = .ok (.iload_n 2, 1) := dk_28 (dk_at dksX1_mix_0 0 rfl rfl)
theorem dX1_mix_1 : decode cX1_mix 1 = .ok (.ifCond .lt 14, 3) := dk_155 0 14 (dk_at dksX1_mix_0 1 rfl rfl)
theorem dX1_mix_4 : decode cX1_mix 4 = .ok (.iload_n 2, 1) := dk_28 (dk_at dksX1_mix_0 4 rfl rfl)
theorem dX1_mix_5 : decode cX1_mix 5 = .ok (.sipush 200, 3) := dk_17 0 200 (dk_at dksX1_mix_0 5 rfl rfl)
theorem dX1_mix_8 : decode cX1_mix 8 = .ok (.if_icmp .gt 7, 3) := dk_163 0 7 (dk_at dksX1_mix_0 8 rfl rfl)
theorem dX1_mix_11 : decode cX1_mix 11 = .ok (.iconst 1, 1) := dk_4 (dk_at dksX1_mix_0 11 rfl rfl)
theorem dX1_mix_12 : decode cX1_mix 12 = .ok (.goto 4, 3) := dk_167 0 4 (dk_at dksX1_mix_0 12 rfl rfl)
theorem dX1_mix_15 : decode cX1_mix 15 = .ok (.iconst 0, 1) := dk_3 (dk_at dksX1_mix_0 15 rfl rfl)
theorem dX1_mix_16 : decode cX1_mix 16 = .ok (.invokestatic 96, 3) := dk_184 0 96 (dk_at dksX1_mix_0 16 rfl rfl)
theorem dX1_mix_19 : decode cX1_mix 19 = .ok (.aload_n 0, 1) := dk_42 (dk_at dksX1_mix_0 19 rfl rfl)
theorem dX1_mix_20 : decode cX1_mix 20 = .ok (.getfield 24, 3) := dk_180 0 24 (dk_at dksX1_mix_0 20 rfl rfl)
theorem dX1_mix_23 : decode cX1_mix 23 = .ok (.astore_n 3, 1) := dk_78 (dk_at dksX1_mix_0 23 rfl rfl)
theorem dX1_mix_24 : decode cX1_mix 24 = .ok (.iload_n 1, 1) := dk_27 (dk_at dksX1_mix_1 0 rfl rfl)
theorem dX1_mix_25 : decode cX1_mix 25 = .ok (.istore 4, 2) := dk_54 4 (dk_at dksX1_mix_1 1 rfl rfl)
theorem dX1_mix_27 : decode cX1_mix 27 = .ok (.iconst 0, 1) := dk_3 (dk_at dksX1_mix_1 3 rfl rfl)
theorem dX1_mix_28 : decode cX1_mix 28 = .ok (.istore 5, 2) := dk_54 5 (dk_at dksX1_mix_1 4 rfl rfl)
theorem dX1_mix_30 : decode cX1_mix 30 = .ok (.iload 5, 2) := dk_21 5 (dk_at dksX1_mix_1 6 rfl rfl)
theorem dX1_mix_32 : decode cX1_mix 32 = .ok (.iload_n 2, 1) := dk_28 (dk_at dksX1_mix_1 8 rfl rfl)
theorem dX1_mix_33 : decode cX1_mix 33 = .ok (.if_icmp .ge 97, 3) := dk_162 0 97 (dk_at dksX1_mix_1 9 rfl rfl)
theorem dX1_mix_36 : decode cX1_mix 36 = .ok (.new 37, 3) := dk_187 0 37 (dk_at dksX1_mix_1 12 rfl rfl)
theorem dX1_mix_39 : decode cX1_mix 39 = .ok (.dup, 1) := dk_89 (dk_at dksX1_mix_1 15 rfl rfl)
theorem dX1_mix_40 : decode cX1_mix 40 = .ok (.invokespecial 39, 3) := dk_183 0 39 (dk_at dksX1_mix_1 16 rfl rfl)
theorem dX1_mix_43 : decode cX1_mix 43 = .ok (.astore 6, 2) := dk_58 6 (dk_at dksX1_mix_1 19 rfl rfl)
theorem dX1_mix_45 : decode cX1_mix 45 = .ok (.iconst 0, 1) := dk_3 (dk_at dksX1_mix_1 21 rfl rfl)
theorem dX1_mix_46 : decode cX1_mix 46 = .ok (.istore 7, 2) := dk_54 7 (dk_at dksX1_mix_1 22 rfl rfl)
theorem dX1_mix_48 : decode cX1_mix 48 = .ok (.iload 7, 2) := dk_21 7 (dk_at dksX1_mix_2 0 rfl rfl)
theorem dX1_mix_50 : decode cX1_mix 50 = .ok (.iconst 3, 1) := dk_6 (dk_at dksX1_mix_2 2 rfl rfl)
theorem dX1_mix_51 : decode cX1_mix 51 = .ok (.if_icmp .gt 31, 3) := dk_163 0 31 (dk_at dksX1_mix_2 3 rfl rfl)
theorem dX1_mix_54 : decode cX1_mix 54 = .ok (.aload_n 3, 1) := dk_45 (dk_at dksX1_mix_2 6 rfl rfl)
theorem dX1_mix_55 : decode cX1_mix 55 = .ok (.iload 7, 2) := dk_21 7 (dk_at dksX1_mix_2 7 rfl rfl)
theorem dX1_mix_57 : decode cX1_mix 57 = .ok (.invokevirtual 152, 3) := dk_182 0 152 (dk_at dksX1_mix_2 9 rfl rfl)
theorem dX1_mix_60 : decode cX1_mix 60 = .ok (.ifCond .le 16, 3) := dk_158 0 16 (dk_at dksX1_mix_2 12 rfl rfl)
theorem dX1_mix_63 : decode cX1_mix 63 = .ok (.aload 6, 2) := dk_25 6 (dk_at dksX1_mix_2 15 rfl rfl)
theorem dX1_mix_65 : decode cX1_mix 65 = .ok (.iload 7, 2) := dk_21 7 (dk_at dksX1_mix_2 17 rfl rfl)
theorem dX1_mix_67 : decode cX1_mix 67 = .ok (.invokestatic 155, 3) := dk_184 0 155 (dk_at dksX1_mix_2 19 rfl rfl)
theorem dX1_mix_70 : decode cX1_mix 70 = .ok (.invokeinterface 81 2, 5) := by decide +kernel
theorem dX1_mix_75 : decode cX1_mix 75 = .ok (.pop, 1) := dk_87 (dk_at dksX1_mix_3 5 rfl rfl)
theorem dX1_mix_76 : decode cX1_mix 76 = .ok (.iinc 7 1, 3) := dk_132 7 1 (dk_at dksX1_mix_3 6 rfl rfl)
theorem dX1_mix_79 : decode cX1_mix 79 = .ok (.goto (-31), 3) := dk_167 255 225 (dk_at dksX1_mix_3 9 rfl rfl)
theorem dX1_mix_82 : decode cX1_mix 82 = .ok (.iload 4, 2) := dk_21 4 (dk_at dksX1_mix_3 12 rfl rfl)
theorem dX1_mix_84 : decode cX1_mix 84 = .ok (.ldc 159, 2) := dk_18 159 (dk_at dksX1_mix_3 14 rfl rfl)
theorem dX1_mix_86 : decode cX1_mix 86 = .ok (.imul, 1) := dk_104 (dk_at dksX1_mix_3 16 rfl rfl)
theorem dX1_mix_87 : decode cX1_mix 87 = .ok (.sipush 12345, 3) := dk_17 48 57 (dk_at dksX1_mix_3 17 rfl rfl)
theorem dX1_mix_90 : decode cX1_mix 90 = .ok (.iadd, 1) := dk_96 (dk_at dksX1_mix_3 20 rfl rfl)
theorem dX1_mix_91 : decode cX1_mix 91 = .ok (.istore 4, 2) := dk_54 4 (dk_at dksX1_mix_3 21 rfl rfl)
theorem dX1_mix_93 : decode cX1_mix 93 = .ok (.aload_n 3, 1) := dk_45 (dk_at dksX1_mix_3 23 rfl rfl)
theorem dX1_mix_94 : decode cX1_mix 94 = .ok (.aload 6, 2) := dk_25 6 (dk_at dksX1_mix_4 0 rfl rfl)
theorem dX1_mix_96 : decode cX1_mix 96 = .ok (.iload 4, 2) := dk_21 4 (dk_at dksX1_mix_4 2 rfl rfl)
theorem dX1_mix_98 : decode cX1_mix 98 = .ok (.bipush 16, 2) := dk_16 16 (dk_at dksX1_mix_4 4 rfl rfl)
theorem dX1_mix_100 : decode cX1_mix 100 = .ok (.iushr, 1) := dk_124 (dk_at dksX1_mix_4 6 rfl rfl)
theorem dX1_mix_101 : decode cX1_mix 101 = .ok (.aload 6, 2) := dk_25 6 (dk_at dksX1_mix_4 7 rfl rfl)
theorem dX1_mix_103 : decode cX1_mix 103 = .ok (.invokeinterface 160 1, 5) := by decide +kernel
theorem dX1_mix_108 : decode cX1_mix 108 = .ok (.irem, 1) := dk_112 (dk_at dksX1_mix_4 14 rfl rfl)
theorem dX1_mix_109 : decode cX1_mix 109 = .ok (.invokeinterface 137 2, 5) := by decide +kernel
theorem dX1_mix_114 : decode cX1_mix 114 = .ok (.checkcast 105, 3) := dk_192 0 105 (dk_at dksX1_mix_4 20 rfl rfl)
theorem dX1_mix_117 : decode cX1_mix 117 = .ok (.invokevirtual 141, 3) := dk_182 0 141 (dk_at dksX1_mix_5 0 rfl rfl)
theorem dX1_mix_120 : decode cX1_mix 120 = .ok (.invokevirtual 161, 3) := dk_182 0 161 (dk_at dksX1_mix_5 3 rfl rfl)
theorem dX1_mix_123 : decode cX1_mix 123 = .ok (.astore_n 3, 1) := dk_78 (dk_at dksX1_mix_5 6 rfl rfl)
theorem dX1_mix_124 : decode cX1_mix 124 = .ok (.iinc 5 1, 3) := dk_132 5 1 (dk_at dksX1_mix_5 7 rfl rfl)
theorem dX1_mix_127 : decode cX1_mix 127 = .ok (.goto (-97), 3) := dk_167 255 159 (dk_at dksX1_mix_5 10 rfl rfl)
theorem dX1_mix_130 : decode cX1_mix 130 = .ok (.aload_n 0, 1) := dk_42 (dk_at dksX1_mix_5 13 rfl rfl)
theorem dX1_mix_131 : decode cX1_mix 131 = .ok (.aload_n 3, 1) := dk_45 (dk_at dksX1_mix_5 14 rfl rfl)
theorem dX1_mix_132 : decode cX1_mix 132 = .ok (.invokevirtual 148, 3) := dk_182 0 148 (dk_at dksX1_mix_5 15 rfl rfl)
theorem dX1_mix_135 : decode cX1_mix 135 = .ok (.ireturn, 1) := dk_172 (dk_at dksX1_mix_5 18 rfl rfl)
abbrev cX1_setFree : ByteArray := prog_1_method_12_code
def yX1_setFree : MethodName := ⟨RX1, "setFree", "(IZ)Z"⟩
def dkwX1_setFree_2 : List UInt8 := [182, 0, 184, 42, 180, 0, 40, 185, 0, 114, 1, 0, 29, 172]
abbrev dktX1_setFree_2 : List UInt8 := dkwX1_setFree_2 ++ []
def dkwX1_setFree_1 : List UInt8 := [180, 0, 33, 180, 0, 175, 27, 182, 0, 179, 62, 29, 28, 159, 0, 14, 42, 180, 0, 33, 180, 0, 175, 27]
abbrev dktX1_setFree_1 : List UInt8 := dkwX1_setFree_1 ++ dktX1_setFree_2
def dkwX1_setFree_0 : List UInt8 := [27, 155, 0, 18, 27, 42, 180, 0, 12, 182, 0, 100, 162, 0, 7, 4, 167, 0, 4, 3, 184, 0, 172, 42]
abbrev dktX1_setFree_0 : List UInt8 := dkwX1_setFree_0 ++ dktX1_setFree_1
theorem dksX1_setFree_0 : cX1_setFree.data.toList.drop 0 = dktX1_setFree_0 := by decide +kernel
theorem dksX1_setFree_1 : cX1_setFree.data.toList.drop 24 = dktX1_setFree_1 := dk_seg dksX1_setFree_0 24 rfl rfl
theorem dksX1_setFree_2 : cX1_setFree.data.toList.drop 48 = dktX1_setFree_2 := dk_seg dksX1_setFree_1 24 rfl rfl
theorem dX1_setFree_0 : decode cX1_setFree 0 = .ok (.iload_n 1, 1) := dk_27 (dk_at dksX1_setFree_0 0 rfl rfl)
theorem dX1_setFree_1 : decode cX1_setFree 1 = .ok (.ifCond .lt 18, 3) := dk_155 0 18 (dk_at dksX1_setFree_0 1 rfl rfl)
theorem dX1_setFree_4 : decode cX1_setFree 4 = .ok (.iload_n 1, 1) := dk_27 (dk_at dksX1_setFree_0 4 rfl rfl)
theorem dX1_setFree_5 : decode cX1_setFree 5 = .ok (.aload_n 0, 1) := dk_42 (dk_at dksX1_setFree_0 5 rfl rfl)
theorem dX1_setFree_6 : decode cX1_setFree 6 = .ok (.getfield 12, 3) := dk_180 0 12 (dk_at dksX1_setFree_0 6 rfl rfl)
theorem dX1_setFree_9 : decode cX1_setFree 9 = .ok (.invokevirtual 100, 3) := dk_182 0 100 (dk_at dksX1_setFree_0 9 rfl rfl)
theorem dX1_setFree_12 : decode cX1_setFree 12 = .ok (.if_icmp .ge 7, 3) := dk_162 0 7 (dk_at dksX1_setFree_0 12 rfl rfl)
theorem dX1_setFree_15 : decode cX1_setFree 15 = .ok (.iconst 1, 1) := dk_4 (dk_at dksX1_setFree_0 15 rfl rfl)
theorem dX1_setFree_16 : decode cX1_setFree 16 = .ok (.goto 4, 3) := dk_167 0 4 (dk_at dksX1_setFree_0 16 rfl rfl)
theorem dX1_setFree_19 : decode cX1_setFree 19 = .ok (.iconst 0, 1) := dk_3 (dk_at dksX1_setFree_0 19 rfl rfl)
theorem dX1_setFree_20 : decode cX1_setFree 20 = .ok (.invokestatic 172, 3) := dk_184 0 172 (dk_at dksX1_setFree_0 20 rfl rfl)
theorem dX1_setFree_23 : decode cX1_setFree 23 = .ok (.aload_n 0, 1) := dk_42 (dk_at dksX1_setFree_0 23 rfl rfl)
theorem dX1_setFree_24 : decode cX1_setFree 24 = .ok (.getfield 33, 3) := dk_180 0 33 (dk_at dksX1_setFree_1 0 rfl rfl)
theorem dX1_setFree_27 : decode cX1_setFree 27 = .ok (.getfield 175, 3) := dk_180 0 175 (dk_at dksX1_setFree_1 3 rfl rfl)
theorem dX1_setFree_30 : decode cX1_setFree 30 = .ok (.iload_n 1, 1) := dk_27 (dk_at dksX1_setFree_1 6 rfl rfl)
theorem dX1_setFree_31 : decode cX1_setFree 31 = .ok (.invokevirtual 179, 3) := dk_182 0 179 (dk_at dksX1_setFree_1 7 rfl rfl)
theorem dX1_setFree_34 : decode cX1_setFree 34 = .ok (.istore_n 3, 1) := dk_62 (dk_at dksX1_setFree_1 10 rfl rfl)
theorem dX1_setFree_35 : decode cX1_setFree 35 = .ok (.iload_n 3, 1) := dk_29 (dk_at dksX1_setFree_1 11 rfl rfl)
theorem dX1_setFree_36 : decode cX1_setFree 36 = .ok (.iload_n 2, 1) := dk_28 (dk_at dksX1_setFree_1 12 rfl rfl)
theorem dX1_setFree_37 : decode cX1_setFree 37 = .ok (.if_icmp .eq 14, 3) := dk_159 0 14 (dk_at dksX1_setFree_1 13 rfl rfl)
theorem dX1_setFree_40 : decode cX1_setFree 40 = .ok (.aload_n 0, 1) := dk_42 (dk_at dksX1_setFree_1 16 rfl rfl)
theorem dX1_setFree_41 : decode cX1_setFree 41 = .ok (.getfield 33, 3) := dk_180 0 33 (dk_at dksX1_setFree_1 17 rfl rfl)
theorem dX1_setFree_44 : decode cX1_setFree 44 = .ok (.getfield 175, 3) := dk_180 0 175 (dk_at dksX1_setFree_1 20 rfl rfl)
theorem dX1_setFree_47 : decode cX1_setFree 47 = .ok (.iload_n 1, 1) := dk_27 (dk_at dksX1_setFree_1 23 rfl rfl)
theorem dX1_setFree_48 : decode cX1_setFree 48 = .ok (.invokevirtual 184, 3) := dk_182 0 184 (dk_at dksX1_setFree_2 0 rfl rfl)
theorem dX1_setFree_51 : decode cX1_setFree 51 = .ok (.aload_n 0, 1) := dk_42 (dk_at dksX1_setFree_2 3 rfl rfl)
theorem dX1_setFree_52 : decode cX1_setFree 52 = .ok (.getfield 40, 3) := dk_180 0 40 (dk_at dksX1_setFree_2 4 rfl rfl)
theorem dX1_setFree_55 : decode cX1_setFree 55 = .ok (.invokeinterface 114 1, 5) := by decide +kernel
theorem dX1_setFree_60 : decode cX1_setFree 60 = .ok (.iload_n 3, 1) := dk_29 (dk_at dksX1_setFree_2 12 rfl rfl)
theorem dX1_setFree_61 : decode cX1_setFree 61 = .ok (.ireturn, 1) := dk_172 (dk_at dksX1_setFree_2 13 rfl rfl)
abbrev cX1_checkIndex : ByteArray := prog_1_method_2_code
def yX1_checkIndex : MethodName := ⟨RX1, "checkIndex", "(Z)V"⟩
def dkwX1_checkIndex_0 : List UInt8 := [26, 154, 0, 11, 187, 0, 87, 89, 183, 0, 89, 191, 177]
abbrev dktX1_checkIndex_0 : List UInt8 := dkwX1_checkIndex_0 ++ []
theorem dksX1_checkIndex_0 : cX1_checkIndex.data.toList.drop 0 = dktX1_checkIndex_0 := by decide +kernel
theorem dX1_checkIndex_0 : decode cX1_checkIndex 0 = .ok (.iload_n 0, 1) := dk_26 (dk_at dksX1_checkIndex_0 0 rfl rfl)
theorem dX1_checkIndex_1 : decode cX1_checkIndex 1 = .ok (.ifCond .ne 11, 3) := dk_154 0 11 (dk_at dksX1_checkIndex_0 1 rfl rfl)
theorem dX1_checkIndex_4 : decode cX1_checkIndex 4 = .ok (.new 87, 3) := dk_187 0 87 (dk_at dksX1_checkIndex_0 4 rfl rfl)
theorem dX1_checkIndex_7 : decode cX1_checkIndex 7 = .ok (.dup, 1) := dk_89 (dk_at dksX1_checkIndex_0 7 rfl rfl)
theorem dX1_checkIndex_8 : decode cX1_checkIndex 8 = .ok (.invokespecial 89, 3) := dk_183 0 89 (dk_at dksX1_checkIndex_0 8 rfl rfl)
theorem dX1_checkIndex_11 : decode cX1_checkIndex 11 = .ok (.athrow, 1) := dk_191 (dk_at dksX1_checkIndex_0 11 rfl rfl)
theorem dX1_checkIndex_12 : decode cX1_checkIndex 12 = .ok (.return_, 1) := dk_177 (dk_at dksX1_checkIndex_0 12 rfl rfl)
abbrev cX1_setWeight : ByteArray := prog_1_method_13_code
def yX1_setWeight : MethodName := ⟨RX1, "setWeight", "(II)I"⟩
def dkwX1_setWeight_3 : List UInt8 := [185, 0, 114, 1, 0, 29, 172]
abbrev dktX1_setWeight_3 : List UInt8 := dkwX1_setWeight_3 ++ []
def dkwX1_setWeight_2 : List UInt8 := [180, 0, 188, 27, 46, 62, 42, 180, 0, 33, 180, 0, 188, 27, 28, 79, 42, 180, 0, 40]
abbrev dktX1_setWeight_2 : List UInt8 := dkwX1_setWeight_2 ++ dktX1_setWeight_3
def dkwX1_setWeight_1 : List UInt8 := [28, 4, 161, 0, 13, 28, 16, 9, 163, 0, 7, 4, 167, 0, 4, 3, 184, 0, 96, 42, 180, 0, 33]
abbrev dktX1_setWeight_1 : List UInt8 := dkwX1_setWeight_1 ++ dktX1_setWeight_2
def dkwX1_setWeight_0 : List UInt8 := [27, 4, 161, 0, 18, 27, 42, 180, 0, 12, 182, 0, 100, 162, 0, 7, 4, 167, 0, 4, 3, 184, 0, 172]
abbrev dktX1_setWeight_0 : List UInt8 := dkwX1_setWeight_0 ++ dktX1_setWeight_1
theorem dksX1_setWeight_0 : cX1_setWeight.data.toList.drop 0 = dktX1_setWeight_0 := by decide +kernel
theorem dksX1_setWeight_1 : cX1_setWeight.data.toList.drop 24 = dktX1_setWeight_1 := dk_seg dksX1_setWeight_0 24 rfl rfl
theorem dksX1_setWeight_2 : cX1_setWeight.data.toList.drop 47 = dktX1_setWeight_2 := dk_seg dksX1_setWeight_1 23 rfl rfl
theorem dksX1_setWeight_3 : cX1_setWeight.data.toList.drop 67 = dktX1_setWeight_3 := dk_seg dksX1_setWeight_2 20 rfl rfl
theorem dX1_setWeight_0 : decode cX1_setWeight 0 = .ok (.iload_n 1, 1) := dk_27 (dk_at dksX1_setWeight_0 0 rfl rfl)
theorem dX1_setWeight_1 : decode cX1_setWeight 1 = .ok (.iconst 1, 1) := dk_4 (dk_at dksX1_setWeight_0 1 rfl rfl)
theorem dX1_setWeight_2 : decode cX1_setWeight 2 = .ok (.if_icmp .lt 18, 3) := dk_161 0 18 (dk_at dksX1_setWeight_0 2 rfl rfl)
theorem dX1_setWeight_5 : decode cX1_setWeight 5 = .ok (.iload_n 1, 1) := dk_27 (dk_at dksX1_setWeight_0 5 rfl rfl)
theorem dX1_setWeight_6 : decode cX1_setWeight 6 = .ok (.aload_n 0, 1) := dk_42 (dk_at dksX1_setWeight_0 6 rfl rfl)
theorem dX1_setWeight_7 : decode cX1_setWeight 7 = .ok (.getfield 12, 3) := dk_180 0 12 (dk_at dksX1_setWeight_0 7 rfl rfl)
theorem dX1_setWeight_10 : decode cX1_setWeight 10 = .ok (.invokevirtual 100, 3) := dk_182 0 100 (dk_at dksX1_setWeight_0 10 rfl rfl)
theorem dX1_setWeight_13 : decode cX1_setWeight 13 = .ok (.if_icmp .ge 7, 3) := dk_162 0 7 (dk_at dksX1_setWeight_0 13 rfl rfl)
theorem dX1_setWeight_16 : decode cX1_setWeight 16 = .ok (.iconst 1, 1) := dk_4 (dk_at dksX1_setWeight_0 16 rfl rfl)
theorem dX1_setWeight_17 : decode cX1_setWeight 17 = .ok (.goto 4, 3) := dk_167 0 4 (dk_at dksX1_setWeight_0 17 rfl rfl)
theorem dX1_setWeight_20 : decode cX1_setWeight 20 = .ok (.iconst 0, 1) := dk_3 (dk_at dksX1_setWeight_0 20 rfl rfl)
theorem dX1_setWeight_21 : decode cX1_setWeight 21 = .ok (.invokestatic 172, 3) := dk_184 0 172 (dk_at dksX1_setWeight_0 21 rfl rfl)
theorem dX1_setWeight_24 : decode cX1_setWeight 24 = .ok (.iload_n 2, 1) := dk_28 (dk_at dksX1_setWeight_1 0 rfl rfl)
theorem dX1_setWeight_25 : decode cX1_setWeight 25 = .ok (.iconst 1, 1) := dk_4 (dk_at dksX1_setWeight_1 1 rfl rfl)
theorem dX1_setWeight_26 : decode cX1_setWeight 26 = .ok (.if_icmp .lt 13, 3) := dk_161 0 13 (dk_at dksX1_setWeight_1 2 rfl rfl)
theorem dX1_setWeight_29 : decode cX1_setWeight 29 = .ok (.iload_n 2, 1) := dk_28 (dk_at dksX1_setWeight_1 5 rfl rfl)
theorem dX1_setWeight_30 : decode cX1_setWeight 30 = .ok (.bipush 9, 2) := dk_16 9 (dk_at dksX1_setWeight_1 6 rfl rfl)
theorem dX1_setWeight_32 : decode cX1_setWeight 32 = .ok (.if_icmp .gt 7, 3) := dk_163 0 7 (dk_at dksX1_setWeight_1 8 rfl rfl)
theorem dX1_setWeight_35 : decode cX1_setWeight 35 = .ok (.iconst 1, 1) := dk_4 (dk_at dksX1_setWeight_1 11 rfl rfl)
theorem dX1_setWeight_36 : decode cX1_setWeight 36 = .ok (.goto 4, 3) := dk_167 0 4 (dk_at dksX1_setWeight_1 12 rfl rfl)
theorem dX1_setWeight_39 : decode cX1_setWeight 39 = .ok (.iconst 0, 1) := dk_3 (dk_at dksX1_setWeight_1 15 rfl rfl)
theorem dX1_setWeight_40 : decode cX1_setWeight 40 = .ok (.invokestatic 96, 3) := dk_184 0 96 (dk_at dksX1_setWeight_1 16 rfl rfl)
theorem dX1_setWeight_43 : decode cX1_setWeight 43 = .ok (.aload_n 0, 1) := dk_42 (dk_at dksX1_setWeight_1 19 rfl rfl)
theorem dX1_setWeight_44 : decode cX1_setWeight 44 = .ok (.getfield 33, 3) := dk_180 0 33 (dk_at dksX1_setWeight_1 20 rfl rfl)
theorem dX1_setWeight_47 : decode cX1_setWeight 47 = .ok (.getfield 188, 3) := dk_180 0 188 (dk_at dksX1_setWeight_2 0 rfl rfl)
theorem dX1_setWeight_50 : decode cX1_setWeight 50 = .ok (.iload_n 1, 1) := dk_27 (dk_at dksX1_setWeight_2 3 rfl rfl)
theorem dX1_setWeight_51 : decode cX1_setWeight 51 = .ok (.iaload, 1) := dk_46 (dk_at dksX1_setWeight_2 4 rfl rfl)
theorem dX1_setWeight_52 : decode cX1_setWeight 52 = .ok (.istore_n 3, 1) := dk_62 (dk_at dksX1_setWeight_2 5 rfl rfl)
theorem dX1_setWeight_53 : decode cX1_setWeight 53 = .ok (.aload_n 0, 1) := dk_42 (dk_at dksX1_setWeight_2 6 rfl rfl)
theorem dX1_setWeight_54 : decode cX1_setWeight 54 = .ok (.getfield 33, 3) := dk_180 0 33 (dk_at dksX1_setWeight_2 7 rfl rfl)
theorem dX1_setWeight_57 : decode cX1_setWeight 57 = .ok (.getfield 188, 3) := dk_180 0 188 (dk_at dksX1_setWeight_2 10 rfl rfl)
theorem dX1_setWeight_60 : decode cX1_setWeight 60 = .ok (.iload_n 1, 1) := dk_27 (dk_at dksX1_setWeight_2 13 rfl rfl)
theorem dX1_setWeight_61 : decode cX1_setWeight 61 = .ok (.iload_n 2, 1) := dk_28 (dk_at dksX1_setWeight_2 14 rfl rfl)
theorem dX1_setWeight_62 : decode cX1_setWeight 62 = .ok (.iastore, 1) := dk_79 (dk_at dksX1_setWeight_2 15 rfl rfl)
theorem dX1_setWeight_63 : decode cX1_setWeight 63 = .ok (.aload_n 0, 1) := dk_42 (dk_at dksX1_setWeight_2 16 rfl rfl)
theorem dX1_setWeight_64 : decode cX1_setWeight 64 = .ok (.getfield 40, 3) := dk_180 0 40 (dk_at dksX1_setWeight_2 17 rfl rfl)
theorem dX1_setWeight_67 : decode cX1_setWeight 67 = .ok (.invokeinterface 114 1, 5) := by decide +kernel
theorem dX1_setWeight_72 : decode cX1_setWeight 72 = .ok (.iload_n 3, 1) := dk_29 (dk_at dksX1_setWeight_3 5 rfl rfl)
theorem dX1_setWeight_73 : decode cX1_setWeight 73 = .ok (.ireturn, 1) := dk_172 (dk_at dksX1_setWeight_3 6 rfl rfl)
abbrev cX1_setLimit : ByteArray := prog_1_method_14_code
def yX1_setLimit : MethodName := ⟨RX1, "setLimit", "(I)I"⟩
def dkwX1_setLimit_1 : List UInt8 := [61, 42, 27, 181, 0, 60, 28, 172]
abbrev dktX1_setLimit_1 : List UInt8 := dkwX1_setLimit_1 ++ []
def dkwX1_setLimit_0 : List UInt8 := [27, 4, 161, 0, 14, 27, 17, 3, 232, 163, 0, 7, 4, 167, 0, 4, 3, 184, 0, 96, 42, 180, 0, 60]
abbrev dktX1_setLimit_0 : List UInt8 := dkwX1_setLimit_0 ++ dktX1_setLimit_1
theorem dksX1_setLimit_0 : cX1_setLimit.data.toList.drop 0 = dktX1_setLimit_0 := by decide +kernel
theorem dksX1_setLimit_1 : cX1_setLimit.data.toList.drop 24 = dktX1_setLimit_1 := dk_seg dksX1_setLimit_0 24 rfl rfl
theorem dX1_setLimit_0 : decode cX1_setLimit 0 = .ok (.iload_n 1, 1) := dk_27 (dk_at dksX1_setLimit_0 0 rfl rfl)
theorem dX1_setLimit_1 : decode cX1_setLimit 1 = .ok (.iconst 1, 1) := dk_4 (dk_at dksX1_setLimit_0 1 rfl rfl)
theorem dX1_setLimit_2 : decode cX1_setLimit 2 = .ok (.if_icmp .lt 14, 3) := dk_161 0 14 (dk_at dksX1_setLimit_0 2 rfl rfl)
theorem dX1_setLimit_5 : decode cX1_setLimit 5 = .ok (.iload_n 1, 1) := dk_27 (dk_at dksX1_setLimit_0 5 rfl rfl)
theorem dX1_setLimit_6 : decode cX1_setLimit 6 = .ok (.sipush 1000, 3) := dk_17 3 232 (dk_at dksX1_setLimit_0 6 rfl rfl)
theorem dX1_setLimit_9 : decode cX1_setLimit 9 = .ok (.if_icmp .gt 7, 3) := dk_163 0 7 (dk_at dksX1_setLimit_0 9 rfl rfl)
theorem dX1_setLimit_12 : decode cX1_setLimit 12 = .ok (.iconst 1, 1) := dk_4 (dk_at dksX1_setLimit_0 12 rfl rfl)
theorem dX1_setLimit_13 : decode cX1_setLimit 13 = .ok (.goto 4, 3) := dk_167 0 4 (dk_at dksX1_setLimit_0 13 rfl rfl)
theorem dX1_setLimit_16 : decode cX1_setLimit 16 = .ok (.iconst 0, 1) := dk_3 (dk_at dksX1_setLimit_0 16 rfl rfl)
theorem dX1_setLimit_17 : decode cX1_setLimit 17 = .ok (.invokestatic 96, 3) := dk_184 0 96 (dk_at dksX1_setLimit_0 17 rfl rfl)
theorem dX1_setLimit_20 : decode cX1_setLimit 20 = .ok (.aload_n 0, 1) := dk_42 (dk_at dksX1_setLimit_0 20 rfl rfl)
theorem dX1_setLimit_21 : decode cX1_setLimit 21 = .ok (.getfield 60, 3) := dk_180 0 60 (dk_at dksX1_setLimit_0 21 rfl rfl)
theorem dX1_setLimit_24 : decode cX1_setLimit 24 = .ok (.istore_n 2, 1) := dk_61 (dk_at dksX1_setLimit_1 0 rfl rfl)
theorem dX1_setLimit_25 : decode cX1_setLimit 25 = .ok (.aload_n 0, 1) := dk_42 (dk_at dksX1_setLimit_1 1 rfl rfl)
theorem dX1_setLimit_26 : decode cX1_setLimit 26 = .ok (.iload_n 1, 1) := dk_27 (dk_at dksX1_setLimit_1 2 rfl rfl)
theorem dX1_setLimit_27 : decode cX1_setLimit 27 = .ok (.putfield 60, 3) := dk_181 0 60 (dk_at dksX1_setLimit_1 3 rfl rfl)
theorem dX1_setLimit_30 : decode cX1_setLimit 30 = .ok (.iload_n 2, 1) := dk_28 (dk_at dksX1_setLimit_1 6 rfl rfl)
theorem dX1_setLimit_31 : decode cX1_setLimit 31 = .ok (.ireturn, 1) := dk_172 (dk_at dksX1_setLimit_1 7 rfl rfl)
abbrev cX1_move : ByteArray := prog_1_method_16_code
def yX1_move : MethodName := ⟨RX1, "move", "(II)I"⟩
def dkwX1_move_4 : List UInt8 := [21, 5, 28, 162, 0, 14, 42, 27, 182, 0, 202, 132, 5, 1, 167, 255, 242, 21, 4, 172]
abbrev dktX1_move_4 : List UInt8 := dkwX1_move_4 ++ []
def dkwX1_move_3 : List UInt8 := [27, 182, 0, 152, 46, 96, 54, 4, 45, 27, 182, 0, 161, 78, 132, 5, 1, 167, 255, 207, 3, 54, 5]
abbrev dktX1_move_3 : List UInt8 := dkwX1_move_3 ++ dktX1_move_4
def dkwX1_move_2 : List UInt8 := [182, 0, 152, 158, 0, 7, 4, 167, 0, 4, 3, 184, 0, 199, 21, 4, 42, 180, 0, 33, 180, 0, 188, 45]
abbrev dktX1_move_2 : List UInt8 := dkwX1_move_2 ++ dktX1_move_3
def dkwX1_move_1 : List UInt8 := [184, 0, 96, 42, 180, 0, 24, 78, 3, 54, 4, 3, 54, 5, 21, 5, 28, 162, 0, 49, 45, 27]
abbrev dktX1_move_1 : List UInt8 := dkwX1_move_1 ++ dktX1_move_2
def dkwX1_move_0 : List UInt8 := [27, 155, 0, 22, 27, 6, 163, 0, 17, 28, 4, 161, 0, 12, 28, 6, 163, 0, 7, 4, 167, 0, 4, 3]
abbrev dktX1_move_0 : List UInt8 := dkwX1_move_0 ++ dktX1_move_1
theorem dksX1_move_0 : cX1_move.data.toList.drop 0 = dktX1_move_0 := by decide +kernel
theorem dksX1_move_1 : cX1_move.data.toList.drop 24 = dktX1_move_1 := dk_seg dksX1_move_0 24 rfl rfl
theorem dksX1_move_2 : cX1_move.data.toList.drop 46 = dktX1_move_2 := dk_seg dksX1_move_1 22 rfl rfl
theorem dksX1_move_3 : cX1_move.data.toList.drop 70 = dktX1_move_3 := dk_seg dksX1_move_2 24 rfl rfl
theorem dksX1_move_4 : cX1_move.data.toList.drop 93 = dktX1_move_4 := dk_seg dksX1_move_3 23 rfl rfl
theorem dX1_move_0 : decode cX1_move 0 = .ok (.iload_n 1, 1) := dk_27 (dk_at dksX1_move_0 0 rfl rfl)
theorem dX1_move_1 : decode cX1_move 1 = .ok (.ifCond .lt 22, 3) := dk_155 0 22 (dk_at dksX1_move_0 1 rfl rfl)
theorem dX1_move_4 : decode cX1_move 4 = .ok (.iload_n 1, 1) := dk_27 (dk_at dksX1_move_0 4 rfl rfl)
theorem dX1_move_5 : decode cX1_move 5 = .ok (.iconst 3, 1) := dk_6 (dk_at dksX1_move_0 5 rfl rfl)
theorem dX1_move_6 : decode cX1_move 6 = .ok (.if_icmp .gt 17, 3) := dk_163 0 17 (dk_at dksX1_move_0 6 rfl rfl)
theorem dX1_move_9 : decode cX1_move 9 = .ok (.iload_n 2, 1) := dk_28 (dk_at dksX1_move_0 9 rfl rfl)
theorem dX1_move_10 : decode cX1_move 10 = .ok (.iconst 1, 1) := dk_4 (dk_at dksX1_move_0 10 rfl rfl)
theorem dX1_move_11 : decode cX1_move 11 = .ok (.if_icmp .lt 12, 3) := dk_161 0 12 (dk_at dksX1_move_0 11 rfl rfl)
theorem dX1_move_14 : decode cX1_move 14 = .ok (.iload_n 2, 1) := dk_28 (dk_at dksX1_move_0 14 rfl rfl)
theorem dX1_move_15 : decode cX1_move 15 = .ok (.iconst 3, 1) := dk_6 (dk_at dksX1_move_0 15 rfl rfl)
theorem dX1_move_16 : decode cX1_move 16 = .ok (.if_icmp .gt 7, 3) := dk_163 0 7 (dk_at dksX1_move_0 16 rfl rfl)
theorem dX1_move_19 : decode cX1_move 19 = .ok (.iconst 1, 1) := dk_4 (dk_at dksX1_move_0 19 rfl rfl)
theorem dX1_move_20 : decode cX1_move 20 = .ok (.goto 4, 3) := dk_167 0 4 (dk_at dksX1_move_0 20 rfl rfl)
theorem dX1_move_23 : decode cX1_move 23 = .ok (.iconst 0, 1) := dk_3 (dk_at dksX1_move_0 23 rfl rfl)
theorem dX1_move_24 : decode cX1_move 24 = .ok (.invokestatic 96, 3) := dk_184 0 96 (dk_at dksX1_move_1 0 rfl rfl)
theorem dX1_move_27 : decode cX1_move 27 = .ok (.aload_n 0, 1) := dk_42 (dk_at dksX1_move_1 3 rfl rfl)
theorem dX1_move_28 : decode cX1_move 28 = .ok (.getfield 24, 3) := dk_180 0 24 (dk_at dksX1_move_1 4 rfl rfl)
theorem dX1_move_31 : decode cX1_move 31 = .ok (.astore_n 3, 1) := dk_78 (dk_at dksX1_move_1 7 rfl rfl)
theorem dX1_move_32 : decode cX1_move 32 = .ok (.iconst 0, 1) := dk_3 (dk_at dksX1_move_1 8 rfl rfl)
theorem dX1_move_33 : decode cX1_move 33 = .ok (.istore 4, 2) := dk_54 4 (dk_at dksX1_move_1 9 rfl rfl)
theorem dX1_move_35 : decode cX1_move 35 = .ok (.iconst 0, 1) := dk_3 (dk_at dksX1_move_1 11 rfl rfl)
theorem dX1_move_36 : decode cX1_move 36 = .ok (.istore 5, 2) := dk_54 5 (dk_at dksX1_move_1 12 rfl rfl)
theorem dX1_move_38 : decode cX1_move 38 = .ok (.iload 5, 2) := dk_21 5 (dk_at dksX1_move_1 14 rfl rfl)
theorem dX1_move_40 : decode cX1_move 40 = .ok (.iload_n 2, 1) := dk_28 (dk_at dksX1_move_1 16 rfl rfl)
theorem dX1_move_41 : decode cX1_move 41 = .ok (.if_icmp .ge 49, 3) := dk_162 0 49 (dk_at dksX1_move_1 17 rfl rfl)
theorem dX1_move_44 : decode cX1_move 44 = .ok (.aload_n 3, 1) := dk_45 (dk_at dksX1_move_1 20 rfl rfl)
theorem dX1_move_45 : decode cX1_move 45 = .ok (.iload_n 1, 1) := dk_27 (dk_at dksX1_move_1 21 rfl rfl)
theorem dX1_move_46 : decode cX1_move 46 = .ok (.invokevirtual 152, 3) := dk_182 0 152 (dk_at dksX1_move_2 0 rfl rfl)
theorem dX1_move_49 : decode cX1_move 49 = .ok (.ifCond .le 7, 3) := dk_158 0 7 (dk_at dksX1_move_2 3 rfl rfl)
theorem dX1_move_52 : decode cX1_move 52 = .ok (.iconst 1, 1) := dk_4 (dk_at dksX1_move_2 6 rfl rfl)
theorem dX1_move_53 : decode cX1_move 53 = .ok (.goto 4, 3) := dk_167 0 4 (dk_at dksX1_move_2 7 rfl rfl)
theorem dX1_move_56 : decode cX1_move 56 = .ok (.iconst 0, 1) := dk_3 (dk_at dksX1_move_2 10 rfl rfl)
theorem dX1_move_57 : decode cX1_move 57 = .ok (.invokestatic 199, 3) := dk_184 0 199 (dk_at dksX1_move_2 11 rfl rfl)
theorem dX1_move_60 : decode cX1_move 60 = .ok (.iload 4, 2) := dk_21 4 (dk_at dksX1_move_2 14 rfl rfl)
theorem dX1_move_62 : decode cX1_move 62 = .ok (.aload_n 0, 1) := dk_42 (dk_at dksX1_move_2 16 rfl rfl)
theorem dX1_move_63 : decode cX1_move 63 = .ok (.getfield 33, 3) := dk_180 0 33 (dk_at dksX1_move_2 17 rfl rfl)
theorem dX1_move_66 : decode cX1_move 66 = .ok (.getfield 188, 3) := dk_180 0 188 (dk_at dksX1_move_2 20 rfl rfl)
theorem dX1_move_69 : decode cX1_move 69 = .ok (.aload_n 3, 1) := dk_45 (dk_at dksX1_move_2 23 rfl rfl)
theorem dX1_move_70 : decode cX1_move 70 = .ok (.iload_n 1, 1) := dk_27 (dk_at dksX1_move_3 0 rfl rfl)
theorem dX1_move_71 : decode cX1_move 71 = .ok (.invokevirtual 152, 3) := dk_182 0 152 (dk_at dksX1_move_3 1 rfl rfl)
theorem dX1_move_74 : decode cX1_move 74 = .ok (.iaload, 1) := dk_46 (dk_at dksX1_move_3 4 rfl rfl)
theorem dX1_move_75 : decode cX1_move 75 = .ok (.iadd, 1) := dk_96 (dk_at dksX1_move_3 5 rfl rfl)
theorem dX1_move_76 : decode cX1_move 76 = .ok (.istore 4, 2) := dk_54 4 (dk_at dksX1_move_3 6 rfl rfl)
theorem dX1_move_78 : decode cX1_move 78 = .ok (.aload_n 3, 1) := dk_45 (dk_at dksX1_move_3 8 rfl rfl)
theorem dX1_move_79 : decode cX1_move 79 = .ok (.iload_n 1, 1) := dk_27 (dk_at dksX1_move_3 9 rfl rfl)
theorem dX1_move_80 : decode cX1_move 80 = .ok (.invokevirtual 161, 3) := dk_182 0 161 (dk_at dksX1_move_3 10 rfl rfl)
theorem dX1_move_83 : decode cX1_move 83 = .ok (.astore_n 3, 1) := dk_78 (dk_at dksX1_move_3 13 rfl rfl)
theorem dX1_move_84 : decode cX1_move 84 = .ok (.iinc 5 1, 3) := dk_132 5 1 (dk_at dksX1_move_3 14 rfl rfl)
theorem dX1_move_87 : decode cX1_move 87 = .ok (.goto (-49), 3) := dk_167 255 207 (dk_at dksX1_move_3 17 rfl rfl)
theorem dX1_move_90 : decode cX1_move 90 = .ok (.iconst 0, 1) := dk_3 (dk_at dksX1_move_3 20 rfl rfl)
theorem dX1_move_91 : decode cX1_move 91 = .ok (.istore 5, 2) := dk_54 5 (dk_at dksX1_move_3 21 rfl rfl)
theorem dX1_move_93 : decode cX1_move 93 = .ok (.iload 5, 2) := dk_21 5 (dk_at dksX1_move_4 0 rfl rfl)
theorem dX1_move_95 : decode cX1_move 95 = .ok (.iload_n 2, 1) := dk_28 (dk_at dksX1_move_4 2 rfl rfl)
theorem dX1_move_96 : decode cX1_move 96 = .ok (.if_icmp .ge 14, 3) := dk_162 0 14 (dk_at dksX1_move_4 3 rfl rfl)
theorem dX1_move_99 : decode cX1_move 99 = .ok (.aload_n 0, 1) := dk_42 (dk_at dksX1_move_4 6 rfl rfl)
theorem dX1_move_100 : decode cX1_move 100 = .ok (.iload_n 1, 1) := dk_27 (dk_at dksX1_move_4 7 rfl rfl)
theorem dX1_move_101 : decode cX1_move 101 = .ok (.invokevirtual 202, 3) := dk_182 0 202 (dk_at dksX1_move_4 8 rfl rfl)
theorem dX1_move_104 : decode cX1_move 104 = .ok (.iinc 5 1, 3) := dk_132 5 1 (dk_at dksX1_move_4 11 rfl rfl)
theorem dX1_move_107 : decode cX1_move 107 = .ok (.goto (-14), 3) := dk_167 255 242 (dk_at dksX1_move_4 14 rfl rfl)
theorem dX1_move_110 : decode cX1_move 110 = .ok (.iload 4, 2) := dk_21 4 (dk_at dksX1_move_4 17 rfl rfl)
theorem dX1_move_112 : decode cX1_move 112 = .ok (.ireturn, 1) := dk_172 (dk_at dksX1_move_4 19 rfl rfl)
abbrev cX1_checkState : ByteArray := prog_1_method_4_code
def yX1_checkState : MethodName := ⟨RX1, "checkState", "(Z)V"⟩
def dkwX1_checkState_0 : List UInt8 := [26, 154, 0, 11, 187, 0, 93, 89, 183, 0, 95, 191, 177]
abbrev dktX1_checkState_0 : List UInt8 := dkwX1_checkState_0 ++ []
theorem dksX1_checkState_0 : cX1_checkState.data.toList.drop 0 = dktX1_checkState_0 := by decide +kernel
theorem dX1_checkState_0 : decode cX1_checkState 0 = .ok (.iload_n 0, 1) := dk_26 (dk_at dksX1_checkState_0 0 rfl rfl)
theorem dX1_checkState_1 : decode cX1_checkState 1 = .ok (.ifCond .ne 11, 3) := dk_154 0 11 (dk_at dksX1_checkState_0 1 rfl rfl)
theorem dX1_checkState_4 : decode cX1_checkState 4 = .ok (.new 93, 3) := dk_187 0 93 (dk_at dksX1_checkState_0 4 rfl rfl)
theorem dX1_checkState_7 : decode cX1_checkState 7 = .ok (.dup, 1) := dk_89 (dk_at dksX1_checkState_0 7 rfl rfl)
theorem dX1_checkState_8 : decode cX1_checkState 8 = .ok (.invokespecial 95, 3) := dk_183 0 95 (dk_at dksX1_checkState_0 8 rfl rfl)
theorem dX1_checkState_11 : decode cX1_checkState 11 = .ok (.athrow, 1) := dk_191 (dk_at dksX1_checkState_0 11 rfl rfl)
theorem dX1_checkState_12 : decode cX1_checkState 12 = .ok (.return_, 1) := dk_177 (dk_at dksX1_checkState_0 12 rfl rfl)
abbrev cX1_makes : ByteArray := prog_1_method_15_code
def yX1_makes : MethodName := ⟨RX1, "makes", "(I)V"⟩
def dkwX1_makes_2 : List UInt8 := [182, 0, 141, 61, 177]
abbrev dktX1_makes_2 : List UInt8 := dkwX1_makes_2 ++ []
def dkwX1_makes_1 : List UInt8 := [180, 0, 47, 182, 0, 195, 17, 0, 200, 164, 0, 17, 42, 180, 0, 47, 182, 0, 196, 192, 0, 105]
abbrev dktX1_makes_1 : List UInt8 := dkwX1_makes_1 ++ dktX1_makes_2
def dkwX1_makes_0 : List UInt8 := [42, 42, 180, 0, 24, 27, 182, 0, 161, 181, 0, 24, 42, 180, 0, 47, 27, 184, 0, 155, 182, 0, 191, 42]
abbrev dktX1_makes_0 : List UInt8 := dkwX1_makes_0 ++ dktX1_makes_1
theorem dksX1_makes_0 : cX1_makes.data.toList.drop 0 = dktX1_makes_0 := by decide +kernel
theorem dksX1_makes_1 : cX1_makes.data.toList.drop 24 = dktX1_makes_1 := dk_seg dksX1_makes_0 24 rfl rfl
theorem dksX1_makes_2 : cX1_makes.data.toList.drop 46 = dktX1_makes_2 := dk_seg dksX1_makes_1 22 rfl rfl
theorem dX1_makes_0 : decode cX1_makes 0 = .ok (.aload_n 0, 1) := dk_42 (dk_at dksX1_makes_0 0 rfl rfl)
theorem dX1_makes_1 : decode cX1_makes 1 = .ok (.aload_n 0, 1) := dk_42 (dk_at dksX1_makes_0 1 rfl rfl)
theorem dX1_makes_2 : decode cX1_makes 2 = .ok (.getfield 24, 3) := dk_180 0 24 (dk_at dksX1_makes_0 2 rfl rfl)
theorem dX1_makes_5 : decode cX1_makes 5 = .ok (.iload_n 1, 1) := dk_27 (dk_at dksX1_makes_0 5 rfl rfl)
theorem dX1_makes_6 : decode cX1_makes 6 = .ok (.invokevirtual 161, 3) := dk_182 0 161 (dk_at dksX1_makes_0 6 rfl rfl)
theorem dX1_makes_9 : decode cX1_makes 9 = .ok (.putfield 24, 3) := dk_181 0 24 (dk_at dksX1_makes_0 9 rfl rfl)
theorem dX1_makes_12 : decode cX1_makes 12 = .ok (.aload_n 0, 1) := dk_42 (dk_at dksX1_makes_0 12 rfl rfl)
theorem dX1_makes_13 : decode cX1_makes 13 = .ok (.getfield 47, 3) := dk_180 0 47 (dk_at dksX1_makes_0 13 rfl rfl)
theorem dX1_makes_16 : decode cX1_makes 16 = .ok (.iload_n 1, 1) := dk_27 (dk_at dksX1_makes_0 16 rfl rfl)
theorem dX1_makes_17 : decode cX1_makes 17 = .ok (.invokestatic 155, 3) := dk_184 0 155 (dk_at dksX1_makes_0 17 rfl rfl)
theorem dX1_makes_20 : decode cX1_makes 20 = .ok (.invokevirtual 191, 3) := dk_182 0 191 (dk_at dksX1_makes_0 20 rfl rfl)
theorem dX1_makes_23 : decode cX1_makes 23 = .ok (.aload_n 0, 1) := dk_42 (dk_at dksX1_makes_0 23 rfl rfl)
theorem dX1_makes_24 : decode cX1_makes 24 = .ok (.getfield 47, 3) := dk_180 0 47 (dk_at dksX1_makes_1 0 rfl rfl)
theorem dX1_makes_27 : decode cX1_makes 27 = .ok (.invokevirtual 195, 3) := dk_182 0 195 (dk_at dksX1_makes_1 3 rfl rfl)
theorem dX1_makes_30 : decode cX1_makes 30 = .ok (.sipush 200, 3) := dk_17 0 200 (dk_at dksX1_makes_1 6 rfl rfl)
theorem dX1_makes_33 : decode cX1_makes 33 = .ok (.if_icmp .le 17, 3) := dk_164 0 17 (dk_at dksX1_makes_1 9 rfl rfl)
theorem dX1_makes_36 : decode cX1_makes 36 = .ok (.aload_n 0, 1) := dk_42 (dk_at dksX1_makes_1 12 rfl rfl)
theorem dX1_makes_37 : decode cX1_makes 37 = .ok (.getfield 47, 3) := dk_180 0 47 (dk_at dksX1_makes_1 13 rfl rfl)
theorem dX1_makes_40 : decode cX1_makes 40 = .ok (.invokevirtual 196, 3) := dk_182 0 196 (dk_at dksX1_makes_1 16 rfl rfl)
theorem dX1_makes_43 : decode cX1_makes 43 = .ok (.checkcast 105, 3) := dk_192 0 105 (dk_at dksX1_makes_1 19 rfl rfl)
theorem dX1_makes_46 : decode cX1_makes 46 = .ok (.invokevirtual 141, 3) := dk_182 0 141 (dk_at dksX1_makes_2 0 rfl rfl)
theorem dX1_makes_49 : decode cX1_makes 49 = .ok (.istore_n 2, 1) := dk_61 (dk_at dksX1_makes_2 3 rfl rfl)
theorem dX1_makes_50 : decode cX1_makes 50 = .ok (.return_, 1) := dk_177 (dk_at dksX1_makes_2 4 rfl rfl)
abbrev cX1_undo : ByteArray := prog_1_method_17_code
def yX1_undo : MethodName := ⟨RX1, "undo", "(I)I"⟩
def dkwX1_undo_2 : List UInt8 := [182, 0, 208, 192, 0, 105, 182, 0, 141, 100, 182, 0, 161, 181, 0, 24, 132, 2, 1, 167, 255, 212, 28, 172]
abbrev dktX1_undo_2 : List UInt8 := dkwX1_undo_2 ++ []
def dkwX1_undo_1 : List UInt8 := [162, 0, 45, 42, 180, 0, 47, 182, 0, 205, 154, 0, 35, 42, 42, 180, 0, 24, 6, 42, 180, 0, 47]
abbrev dktX1_undo_1 : List UInt8 := dkwX1_undo_1 ++ dktX1_undo_2
def dkwX1_undo_0 : List UInt8 := [27, 4, 161, 0, 14, 27, 17, 0, 200, 163, 0, 7, 4, 167, 0, 4, 3, 184, 0, 96, 3, 61, 28, 27]
abbrev dktX1_undo_0 : List UInt8 := dkwX1_undo_0 ++ dktX1_undo_1
theorem dksX1_undo_0 : cX1_undo.data.toList.drop 0 = dktX1_undo_0 := by decide +kernel
theorem dksX1_undo_1 : cX1_undo.data.toList.drop 24 = dktX1_undo_1 := dk_seg dksX1_undo_0 24 rfl rfl
theorem dksX1_undo_2 : cX1_undo.data.toList.drop 47 = dktX1_undo_2 := dk_seg dksX1_undo_1 23 rfl rfl
theorem dX1_undo_0 : decode cX1_undo 0 = .ok (.iload_n 1, 1) := dk_27 (dk_at dksX1_undo_0 0 rfl rfl)
theorem dX1_undo_1 : decode cX1_undo 1 = .ok (.iconst 1, 1) := dk_4 (dk_at dksX1_undo_0 1 rfl rfl)
theorem dX1_undo_2 : decode cX1_undo 2 = .ok (.if_icmp .lt 14, 3) := dk_161 0 14 (dk_at dksX1_undo_0 2 rfl rfl)
theorem dX1_undo_5 : decode cX1_undo 5 = .ok (.iload_n 1, 1) := dk_27 (dk_at dksX1_undo_0 5 rfl rfl)
theorem dX1_undo_6 : decode cX1_undo 6 = .ok (.sipush 200, 3) := dk_17 0 200 (dk_at dksX1_undo_0 6 rfl rfl)
theorem dX1_undo_9 : decode cX1_undo 9 = .ok (.if_icmp .gt 7, 3) := dk_163 0 7 (dk_at dksX1_undo_0 9 rfl rfl)
theorem dX1_undo_12 : decode cX1_undo 12 = .ok (.iconst 1, 1) := dk_4 (dk_at dksX1_undo_0 12 rfl rfl)
theorem dX1_undo_13 : decode cX1_undo 13 = .ok (.goto 4, 3) := dk_167 0 4 (dk_at dksX1_undo_0 13 rfl rfl)
theorem dX1_undo_16 : decode cX1_undo 16 = .ok (.iconst 0, 1) := dk_3 (dk_at dksX1_undo_0 16 rfl rfl)
theorem dX1_undo_17 : decode cX1_undo 17 = .ok (.invokestatic 96, 3) := dk_184 0 96 (dk_at dksX1_undo_0 17 rfl rfl)
theorem dX1_undo_20 : decode cX1_undo 20 = .ok (.iconst 0, 1) := dk_3 (dk_at dksX1_undo_0 20 rfl rfl)
theorem dX1_undo_21 : decode cX1_undo 21 = .ok (.istore_n 2, 1) := dk_61 (dk_at dksX1_undo_0 21 rfl rfl)
theorem dX1_undo_22 : decode cX1_undo 22 = .ok (.iload_n 2, 1) := dk_28 (dk_at dksX1_undo_0 22 rfl rfl)
theorem dX1_undo_23 : decode cX1_undo 23 = .ok (.iload_n 1, 1) := dk_27 (dk_at dksX1_undo_0 23 rfl rfl)
theorem dX1_undo_24 : decode cX1_undo 24 = .ok (.if_icmp .ge 45, 3) := dk_162 0 45 (dk_at dksX1_undo_1 0 rfl rfl)
theorem dX1_undo_27 : decode cX1_undo 27 = .ok (.aload_n 0, 1) := dk_42 (dk_at dksX1_undo_1 3 rfl rfl)
theorem dX1_undo_28 : decode cX1_undo 28 = .ok (.getfield 47, 3) := dk_180 0 47 (dk_at dksX1_undo_1 4 rfl rfl)
theorem dX1_undo_31 : decode cX1_undo 31 = .ok (.invokevirtual 205, 3) := dk_182 0 205 (dk_at dksX1_undo_1 7 rfl rfl)
theorem dX1_undo_34 : decode cX1_undo 34 = .ok (.ifCond .ne 35, 3) := dk_154 0 35 (dk_at dksX1_undo_1 10 rfl rfl)
theorem dX1_undo_37 : decode cX1_undo 37 = .ok (.aload_n 0, 1) := dk_42 (dk_at dksX1_undo_1 13 rfl rfl)
theorem dX1_undo_38 : decode cX1_undo 38 = .ok (.aload_n 0, 1) := dk_42 (dk_at dksX1_undo_1 14 rfl rfl)
theorem dX1_undo_39 : decode cX1_undo 39 = .ok (.getfield 24, 3) := dk_180 0 24 (dk_at dksX1_undo_1 15 rfl rfl)
theorem dX1_undo_42 : decode cX1_undo 42 = .ok (.iconst 3, 1) := dk_6 (dk_at dksX1_undo_1 18 rfl rfl)
theorem dX1_undo_43 : decode cX1_undo 43 = .ok (.aload_n 0, 1) := dk_42 (dk_at dksX1_undo_1 19 rfl rfl)
theorem dX1_undo_44 : decode cX1_undo 44 = .ok (.getfield 47, 3) := dk_180 0 47 (dk_at dksX1_undo_1 20 rfl rfl)
theorem dX1_undo_47 : decode cX1_undo 47 = .ok (.invokevirtual 208, 3) := dk_182 0 208 (dk_at dksX1_undo_2 0 rfl rfl)
theorem dX1_undo_50 : decode cX1_undo 50 = .ok (.checkcast 105, 3) := dk_192 0 105 (dk_at dksX1_undo_2 3 rfl rfl)
theorem dX1_undo_53 : decode cX1_undo 53 = .ok (.invokevirtual 141, 3) := dk_182 0 141 (dk_at dksX1_undo_2 6 rfl rfl)
theorem dX1_undo_56 : decode cX1_undo 56 = .ok (.isub, 1) := dk_100 (dk_at dksX1_undo_2 9 rfl rfl)
theorem dX1_undo_57 : decode cX1_undo 57 = .ok (.invokevirtual 161, 3) := dk_182 0 161 (dk_at dksX1_undo_2 10 rfl rfl)
theorem dX1_undo_60 : decode cX1_undo 60 = .ok (.putfield 24, 3) := dk_181 0 24 (dk_at dksX1_undo_2 13 rfl rfl)
theorem dX1_undo_63 : decode cX1_undo 63 = .ok (.iinc 2 1, 3) := dk_132 2 1 (dk_at dksX1_undo_2 16 rfl rfl)
theorem dX1_undo_66 : decode cX1_undo 66 = .ok (.goto (-44), 3) := dk_167 255 212 (dk_at dksX1_undo_2 19 rfl rfl)
theorem dX1_undo_69 : decode cX1_undo 69 = .ok (.iload_n 2, 1) := dk_28 (dk_at dksX1_undo_2 22 rfl rfl)
theorem dX1_undo_70 : decode cX1_undo 70 = .ok (.ireturn, 1) := dk_172 (dk_at dksX1_undo_2 23 rfl rfl)
abbrev cX1_setMacro : ByteArray := prog_1_method_19_code
def yX1_setMacro : MethodName := ⟨RX1, "setMacro", "(IJ)I"⟩
def dkwX1_setMacro_5 : List UInt8 := [25, 4, 185, 0, 160, 1, 0, 172]
abbrev dktX1_setMacro_5 : List UInt8 := dkwX1_setMacro_5 ++ []
def dkwX1_setMacro_4 : List UInt8 := [87, 132, 6, 248, 167, 255, 181, 25, 4, 185, 0, 114, 1, 0, 25, 4, 25, 5, 185, 0, 224, 2, 0, 87]
abbrev dktX1_setMacro_4 : List UInt8 := dkwX1_setMacro_4 ++ dktX1_setMacro_5
def dkwX1_setMacro_3 : List UInt8 := [167, 0, 4, 3, 184, 0, 96, 21, 7, 153, 0, 16, 25, 5, 21, 8, 184, 0, 155, 185, 0, 81, 2, 0]
abbrev dktX1_setMacro_3 : List UInt8 := dkwX1_setMacro_3 ++ dktX1_setMacro_4
def dkwX1_setMacro_2 : List UInt8 := [18, 217, 21, 7, 146, 182, 0, 219, 54, 8, 21, 7, 153, 0, 9, 21, 8, 2, 159, 0, 7, 4]
abbrev dktX1_setMacro_2 : List UInt8 := dkwX1_setMacro_2 ++ dktX1_setMacro_3
def dkwX1_setMacro_1 : List UInt8 := [155, 0, 76, 32, 21, 6, 125, 20, 0, 215, 127, 136, 54, 7, 21, 7, 154, 0, 7, 2, 167, 0, 11]
abbrev dktX1_setMacro_1 : List UInt8 := dkwX1_setMacro_1 ++ dktX1_setMacro_2
def dkwX1_setMacro_0 : List UInt8 := [42, 27, 182, 0, 211, 58, 4, 187, 0, 37, 89, 183, 0, 39, 58, 5, 16, 56, 54, 6, 21, 6]
abbrev dktX1_setMacro_0 : List UInt8 := dkwX1_setMacro_0 ++ dktX1_setMacro_1
theorem dksX1_setMacro_0 : cX1_setMacro.data.toList.drop 0 = dktX1_setMacro_0 := by decide +kernel
theorem dksX1_setMacro_1 : cX1_setMacro.data.toList.drop 22 = dktX1_setMacro_1 := dk_seg dksX1_setMacro_0 22 rfl rfl
theorem dksX1_setMacro_2 : cX1_setMacro.data.toList.drop 45 = dktX1_setMacro_2 := dk_seg dksX1_setMacro_1 23 rfl rfl
theorem dksX1_setMacro_3 : cX1_setMacro.data.toList.drop 67 = dktX1_setMacro_3 := dk_seg dksX1_setMacro_2 22 rfl rfl
theorem dksX1_setMacro_4 : cX1_setMacro.data.toList.drop 91 = dktX1_setMacro_4 := dk_seg dksX1_setMacro_3 24 rfl rfl
theorem dksX1_setMacro_5 : cX1_setMacro.data.toList.drop 115 = dktX1_setMacro_5 := dk_seg dksX1_setMacro_4 24 rfl rfl
theorem dX1_setMacro_0 : decode cX1_setMacro 0 = .ok (.aload_n 0, 1) := dk_42 (dk_at dksX1_setMacro_0 0 rfl rfl)
theorem dX1_setMacro_1 : decode cX1_setMacro 1 = .ok (.iload_n 1, 1) := dk_27 (dk_at dksX1_setMacro_0 1 rfl rfl)
theorem dX1_setMacro_2 : decode cX1_setMacro 2 = .ok (.invokevirtual 211, 3) := dk_182 0 211 (dk_at dksX1_setMacro_0 2 rfl rfl)
theorem dX1_setMacro_5 : decode cX1_setMacro 5 = .ok (.astore 4, 2) := dk_58 4 (dk_at dksX1_setMacro_0 5 rfl rfl)
theorem dX1_setMacro_7 : decode cX1_setMacro 7 = .ok (.new 37, 3) := dk_187 0 37 (dk_at dksX1_setMacro_0 7 rfl rfl)
theorem dX1_setMacro_10 : decode cX1_setMacro 10 = .ok (.dup, 1) := dk_89 (dk_at dksX1_setMacro_0 10 rfl rfl)
theorem dX1_setMacro_11 : decode cX1_setMacro 11 = .ok (.invokespecial 39, 3) := dk_183 0 39 (dk_at dksX1_setMacro_0 11 rfl rfl)
theorem dX1_setMacro_14 : decode cX1_setMacro 14 = .ok (.astore 5, 2) := dk_58 5 (dk_at dksX1_setMacro_0 14 rfl rfl)
theorem dX1_setMacro_16 : decode cX1_setMacro 16 = .ok (.bipush 56, 2) := dk_16 56 (dk_at dksX1_setMacro_0 16 rfl rfl)
theorem dX1_setMacro_18 : decode cX1_setMacro 18 = .ok (.istore 6, 2) := dk_54 6 (dk_at dksX1_setMacro_0 18 rfl rfl)
theorem dX1_setMacro_20 : decode cX1_setMacro 20 = .ok (.iload 6, 2) := dk_21 6 (dk_at dksX1_setMacro_0 20 rfl rfl)
theorem dX1_setMacro_22 : decode cX1_setMacro 22 = .ok (.ifCond .lt 76, 3) := dk_155 0 76 (dk_at dksX1_setMacro_1 0 rfl rfl)
theorem dX1_setMacro_25 : decode cX1_setMacro 25 = .ok (.lload_n 2, 1) := dk_32 (dk_at dksX1_setMacro_1 3 rfl rfl)
theorem dX1_setMacro_26 : decode cX1_setMacro 26 = .ok (.iload 6, 2) := dk_21 6 (dk_at dksX1_setMacro_1 4 rfl rfl)
theorem dX1_setMacro_28 : decode cX1_setMacro 28 = .ok (.lushr, 1) := dk_125 (dk_at dksX1_setMacro_1 6 rfl rfl)
theorem dX1_setMacro_29 : decode cX1_setMacro 29 = .ok (.ldc2_w 215, 3) := dk_20 0 215 (dk_at dksX1_setMacro_1 7 rfl rfl)
theorem dX1_setMacro_32 : decode cX1_setMacro 32 = .ok (.land, 1) := dk_127 (dk_at dksX1_setMacro_1 10 rfl rfl)
theorem dX1_setMacro_33 : decode cX1_setMacro 33 = .ok (.l2i, 1) := dk_136 (dk_at dksX1_setMacro_1 11 rfl rfl)
theorem dX1_setMacro_34 : decode cX1_setMacro 34 = .ok (.istore 7, 2) := dk_54 7 (dk_at dksX1_setMacro_1 12 rfl rfl)
theorem dX1_setMacro_36 : decode cX1_setMacro 36 = .ok (.iload 7, 2) := dk_21 7 (dk_at dksX1_setMacro_1 14 rfl rfl)
theorem dX1_setMacro_38 : decode cX1_setMacro 38 = .ok (.ifCond .ne 7, 3) := dk_154 0 7 (dk_at dksX1_setMacro_1 16 rfl rfl)
theorem dX1_setMacro_41 : decode cX1_setMacro 41 = .ok (.iconst (-1), 1) := dk_2 (dk_at dksX1_setMacro_1 19 rfl rfl)
theorem dX1_setMacro_42 : decode cX1_setMacro 42 = .ok (.goto 11, 3) := dk_167 0 11 (dk_at dksX1_setMacro_1 20 rfl rfl)
theorem dX1_setMacro_45 : decode cX1_setMacro 45 = .ok (.ldc 217, 2) := dk_18 217 (dk_at dksX1_setMacro_2 0 rfl rfl)
theorem dX1_setMacro_47 : decode cX1_setMacro 47 = .ok (.iload 7, 2) := dk_21 7 (dk_at dksX1_setMacro_2 2 rfl rfl)
theorem dX1_setMacro_49 : decode cX1_setMacro 49 = .ok (.i2c, 1) := dk_146 (dk_at dksX1_setMacro_2 4 rfl rfl)
theorem dX1_setMacro_50 : decode cX1_setMacro 50 = .ok (.invokevirtual 219, 3) := dk_182 0 219 (dk_at dksX1_setMacro_2 5 rfl rfl)
theorem dX1_setMacro_53 : decode cX1_setMacro 53 = .ok (.istore 8, 2) := dk_54 8 (dk_at dksX1_setMacro_2 8 rfl rfl)
theorem dX1_setMacro_55 : decode cX1_setMacro 55 = .ok (.iload 7, 2) := dk_21 7 (dk_at dksX1_setMacro_2 10 rfl rfl)
theorem dX1_setMacro_57 : decode cX1_setMacro 57 = .ok (.ifCond .eq 9, 3) := dk_153 0 9 (dk_at dksX1_setMacro_2 12 rfl rfl)
theorem dX1_setMacro_60 : decode cX1_setMacro 60 = .ok (.iload 8, 2) := dk_21 8 (dk_at dksX1_setMacro_2 15 rfl rfl)
theorem dX1_setMacro_62 : decode cX1_setMacro 62 = .ok (.iconst (-1), 1) := dk_2 (dk_at dksX1_setMacro_2 17 rfl rfl)
theorem dX1_setMacro_63 : decode cX1_setMacro 63 = .ok (.if_icmp .eq 7, 3) := dk_159 0 7 (dk_at dksX1_setMacro_2 18 rfl rfl)
theorem dX1_setMacro_66 : decode cX1_setMacro 66 = .ok (.iconst 1, 1) := dk_4 (dk_at dksX1_setMacro_2 21 rfl rfl)
theorem dX1_setMacro_67 : decode cX1_setMacro 67 = .ok (.goto 4, 3) := dk_167 0 4 (dk_at dksX1_setMacro_3 0 rfl rfl)
theorem dX1_setMacro_70 : decode cX1_setMacro 70 = .ok (.iconst 0, 1) := dk_3 (dk_at dksX1_setMacro_3 3 rfl rfl)
theorem dX1_setMacro_71 : decode cX1_setMacro 71 = .ok (.invokestatic 96, 3) := dk_184 0 96 (dk_at dksX1_setMacro_3 4 rfl rfl)
theorem dX1_setMacro_74 : decode cX1_setMacro 74 = .ok (.iload 7, 2) := dk_21 7 (dk_at dksX1_setMacro_3 7 rfl rfl)
theorem dX1_setMacro_76 : decode cX1_setMacro 76 = .ok (.ifCond .eq 16, 3) := dk_153 0 16 (dk_at dksX1_setMacro_3 9 rfl rfl)
theorem dX1_setMacro_79 : decode cX1_setMacro 79 = .ok (.aload 5, 2) := dk_25 5 (dk_at dksX1_setMacro_3 12 rfl rfl)
theorem dX1_setMacro_81 : decode cX1_setMacro 81 = .ok (.iload 8, 2) := dk_21 8 (dk_at dksX1_setMacro_3 14 rfl rfl)
theorem dX1_setMacro_83 : decode cX1_setMacro 83 = .ok (.invokestatic 155, 3) := dk_184 0 155 (dk_at dksX1_setMacro_3 16 rfl rfl)
theorem dX1_setMacro_86 : decode cX1_setMacro 86 = .ok (.invokeinterface 81 2, 5) := by decide +kernel
theorem dX1_setMacro_91 : decode cX1_setMacro 91 = .ok (.pop, 1) := dk_87 (dk_at dksX1_setMacro_4 0 rfl rfl)
theorem dX1_setMacro_92 : decode cX1_setMacro 92 = .ok (.iinc 6 (-8), 3) := dk_132 6 248 (dk_at dksX1_setMacro_4 1 rfl rfl)
theorem dX1_setMacro_95 : decode cX1_setMacro 95 = .ok (.goto (-75), 3) := dk_167 255 181 (dk_at dksX1_setMacro_4 4 rfl rfl)
theorem dX1_setMacro_98 : decode cX1_setMacro 98 = .ok (.aload 4, 2) := dk_25 4 (dk_at dksX1_setMacro_4 7 rfl rfl)
theorem dX1_setMacro_100 : decode cX1_setMacro 100 = .ok (.invokeinterface 114 1, 5) := by decide +kernel
theorem dX1_setMacro_105 : decode cX1_setMacro 105 = .ok (.aload 4, 2) := dk_25 4 (dk_at dksX1_setMacro_4 14 rfl rfl)
theorem dX1_setMacro_107 : decode cX1_setMacro 107 = .ok (.aload 5, 2) := dk_25 5 (dk_at dksX1_setMacro_4 16 rfl rfl)
theorem dX1_setMacro_109 : decode cX1_setMacro 109 = .ok (.invokeinterface 224 2, 5) := by decide +kernel
theorem dX1_setMacro_114 : decode cX1_setMacro 114 = .ok (.pop, 1) := dk_87 (dk_at dksX1_setMacro_4 23 rfl rfl)
theorem dX1_setMacro_115 : decode cX1_setMacro 115 = .ok (.aload 4, 2) := dk_25 4 (dk_at dksX1_setMacro_5 0 rfl rfl)
theorem dX1_setMacro_117 : decode cX1_setMacro 117 = .ok (.invokeinterface 160 1, 5) := by decide +kernel
theorem dX1_setMacro_122 : decode cX1_setMacro 122 = .ok (.ireturn, 1) := dk_172 (dk_at dksX1_setMacro_5 7 rfl rfl)
abbrev cX1_macroAt : ByteArray := prog_1_method_18_code
def yX1_macroAt : MethodName := ⟨RX1, "macroAt", "(I)Ljava/util/List;"⟩
def dkwX1_macroAt_1 : List UInt8 := [185, 0, 137, 2, 0, 192, 0, 82, 176]
abbrev dktX1_macroAt_1 : List UInt8 := dkwX1_macroAt_1 ++ []
def dkwX1_macroAt_0 : List UInt8 := [27, 155, 0, 12, 27, 7, 162, 0, 7, 4, 167, 0, 4, 3, 184, 0, 172, 42, 180, 0, 51, 27]
abbrev dktX1_macroAt_0 : List UInt8 := dkwX1_macroAt_0 ++ dktX1_macroAt_1
theorem dksX1_macroAt_0 : cX1_macroAt.data.toList.drop 0 = dktX1_macroAt_0 := by decide +kernel
theorem dksX1_macroAt_1 : cX1_macroAt.data.toList.drop 22 = dktX1_macroAt_1 := dk_seg dksX1_macroAt_0 22 rfl rfl
theorem dX1_macroAt_0 : decode cX1_macroAt 0 = .ok (.iload_n 1, 1) := dk_27 (dk_at dksX1_macroAt_0 0 rfl rfl)
theorem dX1_macroAt_1 : decode cX1_macroAt 1 = .ok (.ifCond .lt 12, 3) := dk_155 0 12 (dk_at dksX1_macroAt_0 1 rfl rfl)
theorem dX1_macroAt_4 : decode cX1_macroAt 4 = .ok (.iload_n 1, 1) := dk_27 (dk_at dksX1_macroAt_0 4 rfl rfl)
theorem dX1_macroAt_5 : decode cX1_macroAt 5 = .ok (.iconst 4, 1) := dk_7 (dk_at dksX1_macroAt_0 5 rfl rfl)
theorem dX1_macroAt_6 : decode cX1_macroAt 6 = .ok (.if_icmp .ge 7, 3) := dk_162 0 7 (dk_at dksX1_macroAt_0 6 rfl rfl)
theorem dX1_macroAt_9 : decode cX1_macroAt 9 = .ok (.iconst 1, 1) := dk_4 (dk_at dksX1_macroAt_0 9 rfl rfl)
theorem dX1_macroAt_10 : decode cX1_macroAt 10 = .ok (.goto 4, 3) := dk_167 0 4 (dk_at dksX1_macroAt_0 10 rfl rfl)
theorem dX1_macroAt_13 : decode cX1_macroAt 13 = .ok (.iconst 0, 1) := dk_3 (dk_at dksX1_macroAt_0 13 rfl rfl)
theorem dX1_macroAt_14 : decode cX1_macroAt 14 = .ok (.invokestatic 172, 3) := dk_184 0 172 (dk_at dksX1_macroAt_0 14 rfl rfl)
theorem dX1_macroAt_17 : decode cX1_macroAt 17 = .ok (.aload_n 0, 1) := dk_42 (dk_at dksX1_macroAt_0 17 rfl rfl)
theorem dX1_macroAt_18 : decode cX1_macroAt 18 = .ok (.getfield 51, 3) := dk_180 0 51 (dk_at dksX1_macroAt_0 18 rfl rfl)
theorem dX1_macroAt_21 : decode cX1_macroAt 21 = .ok (.iload_n 1, 1) := dk_27 (dk_at dksX1_macroAt_0 21 rfl rfl)
theorem dX1_macroAt_22 : decode cX1_macroAt 22 = .ok (.invokeinterface 137 2, 5) := by decide +kernel
theorem dX1_macroAt_27 : decode cX1_macroAt 27 = .ok (.checkcast 82, 3) := dk_192 0 82 (dk_at dksX1_macroAt_1 5 rfl rfl)
theorem dX1_macroAt_30 : decode cX1_macroAt 30 = .ok (.areturn, 1) := dk_176 (dk_at dksX1_macroAt_1 8 rfl rfl)
abbrev cX1_play : ByteArray := prog_1_method_20_code
def yX1_play : MethodName := ⟨RX1, "play", "(II)I"⟩
def dkwX1_play_5 : List UInt8 := [132, 4, 1, 167, 255, 184, 21, 4, 172]
abbrev dktX1_play_5 : List UInt8 := dkwX1_play_5 ++ []
def dkwX1_play_4 : List UInt8 := [45, 21, 4, 45, 185, 0, 160, 1, 0, 112, 185, 0, 137, 2, 0, 192, 0, 105, 182, 0, 141, 182, 0, 202]
abbrev dktX1_play_4 : List UInt8 := dkwX1_play_4 ++ dktX1_play_5
def dkwX1_play_3 : List UInt8 := [185, 0, 160, 1, 0, 112, 185, 0, 137, 2, 0, 192, 0, 105, 182, 0, 141, 182, 0, 152, 158, 0, 34, 42]
abbrev dktX1_play_3 : List UInt8 := dkwX1_play_3 ++ dktX1_play_4
def dkwX1_play_2 : List UInt8 := [21, 4, 28, 45, 185, 0, 160, 1, 0, 104, 162, 0, 65, 42, 180, 0, 24, 45, 21, 4, 45]
abbrev dktX1_play_2 : List UInt8 := dkwX1_play_2 ++ dktX1_play_3
def dkwX1_play_1 : List UInt8 := [184, 0, 96, 45, 185, 0, 228, 1, 0, 153, 0, 11, 187, 0, 229, 89, 183, 0, 231, 191, 3, 54, 4]
abbrev dktX1_play_1 : List UInt8 := dkwX1_play_1 ++ dktX1_play_2
def dkwX1_play_0 : List UInt8 := [42, 27, 182, 0, 211, 78, 28, 4, 161, 0, 13, 28, 16, 20, 163, 0, 7, 4, 167, 0, 4, 3]
abbrev dktX1_play_0 : List UInt8 := dkwX1_play_0 ++ dktX1_play_1
theorem dksX1_play_0 : cX1_play.data.toList.drop 0 = dktX1_play_0 := by decide +kernel
theorem dksX1_play_1 : cX1_play.data.toList.drop 22 = dktX1_play_1 := dk_seg dksX1_play_0 22 rfl rfl
theorem dksX1_play_2 : cX1_play.data.toList.drop 45 = dktX1_play_2 := dk_seg dksX1_play_1 23 rfl rfl
theorem dksX1_play_3 : cX1_play.data.toList.drop 66 = dktX1_play_3 := dk_seg dksX1_play_2 21 rfl rfl
theorem dksX1_play_4 : cX1_play.data.toList.drop 90 = dktX1_play_4 := dk_seg dksX1_play_3 24 rfl rfl
theorem dksX1_play_5 : cX1_play.data.toList.drop 114 = dktX1_play_5 := dk_seg dksX1_play_4 24 rfl rfl
theorem dX1_play_0 : decode cX1_play 0 = .ok (.aload_n 0, 1) := dk_42 (dk_at dksX1_play_0 0 rfl rfl)
theorem dX1_play_1 : decode cX1_play 1 = .ok (.iload_n 1, 1) := dk_27 (dk_at dksX1_play_0 1 rfl rfl)
theorem dX1_play_2 : decode cX1_play 2 = .ok (.invokevirtual 211, 3) := dk_182 0 211 (dk_at dksX1_play_0 2 rfl rfl)
theorem dX1_play_5 : decode cX1_play 5 = .ok (.astore_n 3, 1) := dk_78 (dk_at dksX1_play_0 5 rfl rfl)
theorem dX1_play_6 : decode cX1_play 6 = .ok (.iload_n 2, 1) := dk_28 (dk_at dksX1_play_0 6 rfl rfl)
theorem dX1_play_7 : decode cX1_play 7 = .ok (.iconst 1, 1) := dk_4 (dk_at dksX1_play_0 7 rfl rfl)
theorem dX1_play_8 : decode cX1_play 8 = .ok (.if_icmp .lt 13, 3) := dk_161 0 13 (dk_at dksX1_play_0 8 rfl rfl)
theorem dX1_play_11 : decode cX1_play 11 = .ok (.iload_n 2, 1) := dk_28 (dk_at dksX1_play_0 11 rfl rfl)
theorem dX1_play_12 : decode cX1_play 12 = .ok (.bipush 20, 2) := dk_16 20 (dk_at dksX1_play_0 12 rfl rfl)
theorem dX1_play_14 : decode cX1_play 14 = .ok (.if_icmp .gt 7, 3) := dk_163 0 7 (dk_at dksX1_play_0 14 rfl rfl)
theorem dX1_play_17 : decode cX1_play 17 = .ok (.iconst 1, 1) := dk_4 (dk_at dksX1_play_0 17 rfl rfl)
theorem dX1_play_18 : decode cX1_play 18 = .ok (.goto 4, 3) := dk_167 0 4 (dk_at dksX1_play_0 18 rfl rfl)
theorem dX1_play_21 : decode cX1_play 21 = .ok (.iconst 0, 1) := dk_3 (dk_at dksX1_play_0 21 rfl rfl)
theorem dX1_play_22 : decode cX1_play 22 = .ok (.invokestatic 96, 3) := dk_184 0 96 (dk_at dksX1_play_1 0 rfl rfl)
theorem dX1_play_25 : decode cX1_play 25 = .ok (.aload_n 3, 1) := dk_45 (dk_at dksX1_play_1 3 rfl rfl)
theorem dX1_play_26 : decode cX1_play 26 = .ok (.invokeinterface 228 1, 5) := by decide +kernel
theorem dX1_play_31 : decode cX1_play 31 = .ok (.ifCond .eq 11, 3) := dk_153 0 11 (dk_at dksX1_play_1 9 rfl rfl)
theorem dX1_play_34 : decode cX1_play 34 = .ok (.new 229, 3) := dk_187 0 229 (dk_at dksX1_play_1 12 rfl rfl)
theorem dX1_play_37 : decode cX1_play 37 = .ok (.dup, 1) := dk_89 (dk_at dksX1_play_1 15 rfl rfl)
theorem dX1_play_38 : decode cX1_play 38 = .ok (.invokespecial 231, 3) := dk_183 0 231 (dk_at dksX1_play_1 16 rfl rfl)
theorem dX1_play_41 : decode cX1_play 41 = .ok (.athrow, 1) := dk_191 (dk_at dksX1_play_1 19 rfl rfl)
theorem dX1_play_42 : decode cX1_play 42 = .ok (.iconst 0, 1) := dk_3 (dk_at dksX1_play_1 20 rfl rfl)
theorem dX1_play_43 : decode cX1_play 43 = .ok (.istore 4, 2) := dk_54 4 (dk_at dksX1_play_1 21 rfl rfl)
theorem dX1_play_45 : decode cX1_play 45 = .ok (.iload 4, 2) := dk_21 4 (dk_at dksX1_play_2 0 rfl rfl)
theorem dX1_play_47 : decode cX1_play 47 = .ok (.iload_n 2, 1) := dk_28 (dk_at dksX1_play_2 2 rfl rfl)
theorem dX1_play_48 : decode cX1_play 48 = .ok (.aload_n 3, 1) := dk_45 (dk_at dksX1_play_2 3 rfl rfl)
theorem dX1_play_49 : decode cX1_play 49 = .ok (.invokeinterface 160 1, 5) := by decide +kernel
theorem dX1_play_54 : decode cX1_play 54 = .ok (.imul, 1) := dk_104 (dk_at dksX1_play_2 9 rfl rfl)
theorem dX1_play_55 : decode cX1_play 55 = .ok (.if_icmp .ge 65, 3) := dk_162 0 65 (dk_at dksX1_play_2 10 rfl rfl)
theorem dX1_play_58 : decode cX1_play 58 = .ok (.aload_n 0, 1) := dk_42 (dk_at dksX1_play_2 13 rfl rfl)
theorem dX1_play_59 : decode cX1_play 59 = .ok (.getfield 24, 3) := dk_180 0 24 (dk_at dksX1_play_2 14 rfl rfl)
theorem dX1_play_62 : decode cX1_play 62 = .ok (.aload_n 3, 1) := dk_45 (dk_at dksX1_play_2 17 rfl rfl)
theorem dX1_play_63 : decode cX1_play 63 = .ok (.iload 4, 2) := dk_21 4 (dk_at dksX1_play_2 18 rfl rfl)
theorem dX1_play_65 : decode cX1_play 65 = .ok (.aload_n 3, 1) := dk_45 (dk_at dksX1_play_2 20 rfl rfl)
theorem dX1_play_66 : decode cX1_play 66 = .ok (.invokeinterface 160 1, 5) := by decide +kernel
theorem dX1_play_71 : decode cX1_play 71 = .ok (.irem, 1) := dk_112 (dk_at dksX1_play_3 5 rfl rfl)
theorem dX1_play_72 : decode cX1_play 72 = .ok (.invokeinterface 137 2, 5) := by decide +kernel
theorem dX1_play_77 : decode cX1_play 77 = .ok (.checkcast 105, 3) := dk_192 0 105 (dk_at dksX1_play_3 11 rfl rfl)
theorem dX1_play_80 : decode cX1_play 80 = .ok (.invokevirtual 141, 3) := dk_182 0 141 (dk_at dksX1_play_3 14 rfl rfl)
theorem dX1_play_83 : decode cX1_play 83 = .ok (.invokevirtual 152, 3) := dk_182 0 152 (dk_at dksX1_play_3 17 rfl rfl)
theorem dX1_play_86 : decode cX1_play 86 = .ok (.ifCond .le 34, 3) := dk_158 0 34 (dk_at dksX1_play_3 20 rfl rfl)
theorem dX1_play_89 : decode cX1_play 89 = .ok (.aload_n 0, 1) := dk_42 (dk_at dksX1_play_3 23 rfl rfl)
theorem dX1_play_90 : decode cX1_play 90 = .ok (.aload_n 3, 1) := dk_45 (dk_at dksX1_play_4 0 rfl rfl)
theorem dX1_play_91 : decode cX1_play 91 = .ok (.iload 4, 2) := dk_21 4 (dk_at dksX1_play_4 1 rfl rfl)
theorem dX1_play_93 : decode cX1_play 93 = .ok (.aload_n 3, 1) := dk_45 (dk_at dksX1_play_4 3 rfl rfl)
theorem dX1_play_94 : decode cX1_play 94 = .ok (.invokeinterface 160 1, 5) := by decide +kernel
theorem dX1_play_99 : decode cX1_play 99 = .ok (.irem, 1) := dk_112 (dk_at dksX1_play_4 9 rfl rfl)
theorem dX1_play_100 : decode cX1_play 100 = .ok (.invokeinterface 137 2, 5) := by decide +kernel
theorem dX1_play_105 : decode cX1_play 105 = .ok (.checkcast 105, 3) := dk_192 0 105 (dk_at dksX1_play_4 15 rfl rfl)
theorem dX1_play_108 : decode cX1_play 108 = .ok (.invokevirtual 141, 3) := dk_182 0 141 (dk_at dksX1_play_4 18 rfl rfl)
theorem dX1_play_111 : decode cX1_play 111 = .ok (.invokevirtual 202, 3) := dk_182 0 202 (dk_at dksX1_play_4 21 rfl rfl)
theorem dX1_play_114 : decode cX1_play 114 = .ok (.iinc 4 1, 3) := dk_132 4 1 (dk_at dksX1_play_5 0 rfl rfl)
theorem dX1_play_117 : decode cX1_play 117 = .ok (.goto (-72), 3) := dk_167 255 184 (dk_at dksX1_play_5 3 rfl rfl)
theorem dX1_play_120 : decode cX1_play 120 = .ok (.iload 4, 2) := dk_21 4 (dk_at dksX1_play_5 6 rfl rfl)
theorem dX1_play_122 : decode cX1_play 122 = .ok (.ireturn, 1) := dk_172 (dk_at dksX1_play_5 8 rfl rfl)
abbrev cX1_keep : ByteArray := prog_1_method_21_code
def yX1_keep : MethodName := ⟨RX1, "keep", "(I)J"⟩
def dkwX1_keep_2 : List UInt8 := [183, 0, 233, 83, 42, 180, 0, 24, 182, 0, 169, 173]
abbrev dktX1_keep_2 : List UInt8 := dkwX1_keep_2 ++ []
def dkwX1_keep_1 : List UInt8 := [187, 0, 54, 89, 42, 180, 0, 24, 42, 180, 0, 33, 42, 180, 0, 33, 180, 0, 232, 182, 0, 165]
abbrev dktX1_keep_1 : List UInt8 := dkwX1_keep_1 ++ dktX1_keep_2
def dkwX1_keep_0 : List UInt8 := [27, 155, 0, 12, 27, 5, 162, 0, 7, 4, 167, 0, 4, 3, 184, 0, 172, 42, 180, 0, 56, 27]
abbrev dktX1_keep_0 : List UInt8 := dkwX1_keep_0 ++ dktX1_keep_1
theorem dksX1_keep_0 : cX1_keep.data.toList.drop 0 = dktX1_keep_0 := by decide +kernel
theorem dksX1_keep_1 : cX1_keep.data.toList.drop 22 = dktX1_keep_1 := dk_seg dksX1_keep_0 22 rfl rfl
theorem dksX1_keep_2 : cX1_keep.data.toList.drop 44 = dktX1_keep_2 := dk_seg dksX1_keep_1 22 rfl rfl
theorem dX1_keep_0 : decode cX1_keep 0 = .ok (.iload_n 1, 1) := dk_27 (dk_at dksX1_keep_0 0 rfl rfl)
theorem dX1_keep_1 : decode cX1_keep 1 = .ok (.ifCond .lt 12, 3) := dk_155 0 12 (dk_at dksX1_keep_0 1 rfl rfl)
theorem dX1_keep_4 : decode cX1_keep 4 = .ok (.iload_n 1, 1) := dk_27 (dk_at dksX1_keep_0 4 rfl rfl)
theorem dX1_keep_5 : decode cX1_keep 5 = .ok (.iconst 2, 1) := dk_5 (dk_at dksX1_keep_0 5 rfl rfl)
theorem dX1_keep_6 : decode cX1_keep 6 = .ok (.if_icmp .ge 7, 3) := dk_162 0 7 (dk_at dksX1_keep_0 6 rfl rfl)
theorem dX1_keep_9 : decode cX1_keep 9 = .ok (.iconst 1, 1) := dk_4 (dk_at dksX1_keep_0 9 rfl rfl)
theorem dX1_keep_10 : decode cX1_keep 10 = .ok (.goto 4, 3) := dk_167 0 4 (dk_at dksX1_keep_0 10 rfl rfl)
theorem dX1_keep_13 : decode cX1_keep 13 = .ok (.iconst 0, 1) := dk_3 (dk_at dksX1_keep_0 13 rfl rfl)
theorem dX1_keep_14 : decode cX1_keep 14 = .ok (.invokestatic 172, 3) := dk_184 0 172 (dk_at dksX1_keep_0 14 rfl rfl)
theorem dX1_keep_17 : decode cX1_keep 17 = .ok (.aload_n 0, 1) := dk_42 (dk_at dksX1_keep_0 17 rfl rfl)
theorem dX1_keep_18 : decode cX1_keep 18 = .ok (.getfield 56, 3) := dk_180 0 56 (dk_at dksX1_keep_0 18 rfl rfl)
theorem dX1_keep_21 : decode cX1_keep 21 = .ok (.iload_n 1, 1) := dk_27 (dk_at dksX1_keep_0 21 rfl rfl)
theorem dX1_keep_22 : decode cX1_keep 22 = .ok (.new 54, 3) := dk_187 0 54 (dk_at dksX1_keep_1 0 rfl rfl)
theorem dX1_keep_25 : decode cX1_keep 25 = .ok (.dup, 1) := dk_89 (dk_at dksX1_keep_1 3 rfl rfl)
theorem dX1_keep_26 : decode cX1_keep 26 = .ok (.aload_n 0, 1) := dk_42 (dk_at dksX1_keep_1 4 rfl rfl)
theorem dX1_keep_27 : decode cX1_keep 27 = .ok (.getfield 24, 3) := dk_180 0 24 (dk_at dksX1_keep_1 5 rfl rfl)
theorem dX1_keep_30 : decode cX1_keep 30 = .ok (.aload_n 0, 1) := dk_42 (dk_at dksX1_keep_1 8 rfl rfl)
theorem dX1_keep_31 : decode cX1_keep 31 = .ok (.getfield 33, 3) := dk_180 0 33 (dk_at dksX1_keep_1 9 rfl rfl)
theorem dX1_keep_34 : decode cX1_keep 34 = .ok (.aload_n 0, 1) := dk_42 (dk_at dksX1_keep_1 12 rfl rfl)
theorem dX1_keep_35 : decode cX1_keep 35 = .ok (.getfield 33, 3) := dk_180 0 33 (dk_at dksX1_keep_1 13 rfl rfl)
theorem dX1_keep_38 : decode cX1_keep 38 = .ok (.getfield 232, 3) := dk_180 0 232 (dk_at dksX1_keep_1 16 rfl rfl)
theorem dX1_keep_41 : decode cX1_keep 41 = .ok (.invokevirtual 165, 3) := dk_182 0 165 (dk_at dksX1_keep_1 19 rfl rfl)
theorem dX1_keep_44 : decode cX1_keep 44 = .ok (.invokespecial 233, 3) := dk_183 0 233 (dk_at dksX1_keep_2 0 rfl rfl)
theorem dX1_keep_47 : decode cX1_keep 47 = .ok (.aastore, 1) := dk_83 (dk_at dksX1_keep_2 3 rfl rfl)
theorem dX1_keep_48 : decode cX1_keep 48 = .ok (.aload_n 0, 1) := dk_42 (dk_at dksX1_keep_2 4 rfl rfl)
theorem dX1_keep_49 : decode cX1_keep 49 = .ok (.getfield 24, 3) := dk_180 0 24 (dk_at dksX1_keep_2 5 rfl rfl)
theorem dX1_keep_52 : decode cX1_keep 52 = .ok (.invokevirtual 169, 3) := dk_182 0 169 (dk_at dksX1_keep_2 8 rfl rfl)
theorem dX1_keep_55 : decode cX1_keep 55 = .ok (.lreturn, 1) := dk_173 (dk_at dksX1_keep_2 11 rfl rfl)
abbrev cX1_restore : ByteArray := prog_1_method_22_code
def yX1_restore : MethodName := ⟨RX1, "restore", "(I)I"⟩
def dkwX1_restore_3 : List UInt8 := [185, 0, 114, 1, 0, 42, 42, 180, 0, 56, 27, 50, 180, 0, 237, 182, 0, 148, 172]
abbrev dktX1_restore_3 : List UInt8 := dkwX1_restore_3 ++ []
def dkwX1_restore_2 : List UInt8 := [180, 0, 56, 27, 50, 180, 0, 236, 180, 0, 232, 182, 0, 165, 181, 0, 33, 42, 180, 0, 40]
abbrev dktX1_restore_2 : List UInt8 := dkwX1_restore_2 ++ dktX1_restore_3
def dkwX1_restore_1 : List UInt8 := [198, 0, 7, 4, 167, 0, 4, 3, 184, 0, 199, 42, 42, 180, 0, 56, 27, 50, 180, 0, 236, 42]
abbrev dktX1_restore_1 : List UInt8 := dkwX1_restore_1 ++ dktX1_restore_2
def dkwX1_restore_0 : List UInt8 := [27, 155, 0, 12, 27, 5, 162, 0, 7, 4, 167, 0, 4, 3, 184, 0, 172, 42, 180, 0, 56, 27, 50]
abbrev dktX1_restore_0 : List UInt8 := dkwX1_restore_0 ++ dktX1_restore_1
theorem dksX1_restore_0 : cX1_restore.data.toList.drop 0 = dktX1_restore_0 := by decide +kernel
theorem dksX1_restore_1 : cX1_restore.data.toList.drop 23 = dktX1_restore_1 := dk_seg dksX1_restore_0 23 rfl rfl
theorem dksX1_restore_2 : cX1_restore.data.toList.drop 45 = dktX1_restore_2 := dk_seg dksX1_restore_1 22 rfl rfl
theorem dksX1_restore_3 : cX1_restore.data.toList.drop 66 = dktX1_restore_3 := dk_seg dksX1_restore_2 21 rfl rfl
theorem dX1_restore_0 : decode cX1_restore 0 = .ok (.iload_n 1, 1) := dk_27 (dk_at dksX1_restore_0 0 rfl rfl)
theorem dX1_restore_1 : decode cX1_restore 1 = .ok (.ifCond .lt 12, 3) := dk_155 0 12 (dk_at dksX1_restore_0 1 rfl rfl)
theorem dX1_restore_4 : decode cX1_restore 4 = .ok (.iload_n 1, 1) := dk_27 (dk_at dksX1_restore_0 4 rfl rfl)
theorem dX1_restore_5 : decode cX1_restore 5 = .ok (.iconst 2, 1) := dk_5 (dk_at dksX1_restore_0 5 rfl rfl)
theorem dX1_restore_6 : decode cX1_restore 6 = .ok (.if_icmp .ge 7, 3) := dk_162 0 7 (dk_at dksX1_restore_0 6 rfl rfl)
theorem dX1_restore_9 : decode cX1_restore 9 = .ok (.iconst 1, 1) := dk_4 (dk_at dksX1_restore_0 9 rfl rfl)
theorem dX1_restore_10 : decode cX1_restore 10 = .ok (.goto 4, 3) := dk_167 0 4 (dk_at dksX1_restore_0 10 rfl rfl)
theorem dX1_restore_13 : decode cX1_restore 13 = .ok (.iconst 0, 1) := dk_3 (dk_at dksX1_restore_0 13 rfl rfl)
theorem dX1_restore_14 : decode cX1_restore 14 = .ok (.invokestatic 172, 3) := dk_184 0 172 (dk_at dksX1_restore_0 14 rfl rfl)
theorem dX1_restore_17 : decode cX1_restore 17 = .ok (.aload_n 0, 1) := dk_42 (dk_at dksX1_restore_0 17 rfl rfl)
theorem dX1_restore_18 : decode cX1_restore 18 = .ok (.getfield 56, 3) := dk_180 0 56 (dk_at dksX1_restore_0 18 rfl rfl)
theorem dX1_restore_21 : decode cX1_restore 21 = .ok (.iload_n 1, 1) := dk_27 (dk_at dksX1_restore_0 21 rfl rfl)
theorem dX1_restore_22 : decode cX1_restore 22 = .ok (.aaload, 1) := dk_50 (dk_at dksX1_restore_0 22 rfl rfl)
theorem dX1_restore_23 : decode cX1_restore 23 = .ok (.ifnull 7, 3) := dk_198 0 7 (dk_at dksX1_restore_1 0 rfl rfl)
theorem dX1_restore_26 : decode cX1_restore 26 = .ok (.iconst 1, 1) := dk_4 (dk_at dksX1_restore_1 3 rfl rfl)
theorem dX1_restore_27 : decode cX1_restore 27 = .ok (.goto 4, 3) := dk_167 0 4 (dk_at dksX1_restore_1 4 rfl rfl)
theorem dX1_restore_30 : decode cX1_restore 30 = .ok (.iconst 0, 1) := dk_3 (dk_at dksX1_restore_1 7 rfl rfl)
theorem dX1_restore_31 : decode cX1_restore 31 = .ok (.invokestatic 199, 3) := dk_184 0 199 (dk_at dksX1_restore_1 8 rfl rfl)
theorem dX1_restore_34 : decode cX1_restore 34 = .ok (.aload_n 0, 1) := dk_42 (dk_at dksX1_restore_1 11 rfl rfl)
theorem dX1_restore_35 : decode cX1_restore 35 = .ok (.aload_n 0, 1) := dk_42 (dk_at dksX1_restore_1 12 rfl rfl)
theorem dX1_restore_36 : decode cX1_restore 36 = .ok (.getfield 56, 3) := dk_180 0 56 (dk_at dksX1_restore_1 13 rfl rfl)
theorem dX1_restore_39 : decode cX1_restore 39 = .ok (.iload_n 1, 1) := dk_27 (dk_at dksX1_restore_1 16 rfl rfl)
theorem dX1_restore_40 : decode cX1_restore 40 = .ok (.aaload, 1) := dk_50 (dk_at dksX1_restore_1 17 rfl rfl)
theorem dX1_restore_41 : decode cX1_restore 41 = .ok (.getfield 236, 3) := dk_180 0 236 (dk_at dksX1_restore_1 18 rfl rfl)
theorem dX1_restore_44 : decode cX1_restore 44 = .ok (.aload_n 0, 1) := dk_42 (dk_at dksX1_restore_1 21 rfl rfl)
theorem dX1_restore_45 : decode cX1_restore 45 = .ok (.getfield 56, 3) := dk_180 0 56 (dk_at dksX1_restore_2 0 rfl rfl)
theorem dX1_restore_48 : decode cX1_restore 48 = .ok (.iload_n 1, 1) := dk_27 (dk_at dksX1_restore_2 3 rfl rfl)
theorem dX1_restore_49 : decode cX1_restore 49 = .ok (.aaload, 1) := dk_50 (dk_at dksX1_restore_2 4 rfl rfl)
theorem dX1_restore_50 : decode cX1_restore 50 = .ok (.getfield 236, 3) := dk_180 0 236 (dk_at dksX1_restore_2 5 rfl rfl)
theorem dX1_restore_53 : decode cX1_restore 53 = .ok (.getfield 232, 3) := dk_180 0 232 (dk_at dksX1_restore_2 8 rfl rfl)
theorem dX1_restore_56 : decode cX1_restore 56 = .ok (.invokevirtual 165, 3) := dk_182 0 165 (dk_at dksX1_restore_2 11 rfl rfl)
theorem dX1_restore_59 : decode cX1_restore 59 = .ok (.putfield 33, 3) := dk_181 0 33 (dk_at dksX1_restore_2 14 rfl rfl)
theorem dX1_restore_62 : decode cX1_restore 62 = .ok (.aload_n 0, 1) := dk_42 (dk_at dksX1_restore_2 17 rfl rfl)
theorem dX1_restore_63 : decode cX1_restore 63 = .ok (.getfield 40, 3) := dk_180 0 40 (dk_at dksX1_restore_2 18 rfl rfl)
theorem dX1_restore_66 : decode cX1_restore 66 = .ok (.invokeinterface 114 1, 5) := by decide +kernel
theorem dX1_restore_71 : decode cX1_restore 71 = .ok (.aload_n 0, 1) := dk_42 (dk_at dksX1_restore_3 5 rfl rfl)
theorem dX1_restore_72 : decode cX1_restore 72 = .ok (.aload_n 0, 1) := dk_42 (dk_at dksX1_restore_3 6 rfl rfl)
theorem dX1_restore_73 : decode cX1_restore 73 = .ok (.getfield 56, 3) := dk_180 0 56 (dk_at dksX1_restore_3 7 rfl rfl)
theorem dX1_restore_76 : decode cX1_restore 76 = .ok (.iload_n 1, 1) := dk_27 (dk_at dksX1_restore_3 10 rfl rfl)
theorem dX1_restore_77 : decode cX1_restore 77 = .ok (.aaload, 1) := dk_50 (dk_at dksX1_restore_3 11 rfl rfl)
theorem dX1_restore_78 : decode cX1_restore 78 = .ok (.getfield 237, 3) := dk_180 0 237 (dk_at dksX1_restore_3 12 rfl rfl)
theorem dX1_restore_81 : decode cX1_restore 81 = .ok (.invokevirtual 148, 3) := dk_182 0 148 (dk_at dksX1_restore_3 15 rfl rfl)
theorem dX1_restore_84 : decode cX1_restore 84 = .ok (.ireturn, 1) := dk_172 (dk_at dksX1_restore_3 18 rfl rfl)
abbrev cX1_tileAt : ByteArray := prog_1_method_23_code
def yX1_tileAt : MethodName := ⟨RX1, "tileAt", "(I)I"⟩
def dkwX1_tileAt_2 : List UInt8 := [28, 2, 160, 0, 7, 2, 167, 0, 12, 42, 180, 0, 24, 180, 0, 247, 28, 46, 172]
abbrev dktX1_tileAt_2 : List UInt8 := dkwX1_tileAt_2 ++ []
def dkwX1_tileAt_1 : List UInt8 := [167, 0, 4, 3, 184, 0, 172, 42, 180, 0, 12, 180, 0, 131, 27, 184, 0, 155, 185, 0, 244, 2, 0, 61]
abbrev dktX1_tileAt_1 : List UInt8 := dkwX1_tileAt_1 ++ dktX1_tileAt_2
def dkwX1_tileAt_0 : List UInt8 := [27, 155, 0, 26, 27, 42, 180, 0, 12, 180, 0, 238, 42, 180, 0, 12, 180, 0, 241, 104, 162, 0, 7, 4]
abbrev dktX1_tileAt_0 : List UInt8 := dkwX1_tileAt_0 ++ dktX1_tileAt_1
theorem dksX1_tileAt_0 : cX1_tileAt.data.toList.drop 0 = dktX1_tileAt_0 := by decide +kernel
theorem dksX1_tileAt_1 : cX1_tileAt.data.toList.drop 24 = dktX1_tileAt_1 := dk_seg dksX1_tileAt_0 24 rfl rfl
theorem dksX1_tileAt_2 : cX1_tileAt.data.toList.drop 48 = dktX1_tileAt_2 := dk_seg dksX1_tileAt_1 24 rfl rfl
theorem dX1_tileAt_0 : decode cX1_tileAt 0 = .ok (.iload_n 1, 1) := dk_27 (dk_at dksX1_tileAt_0 0 rfl rfl)
theorem dX1_tileAt_1 : decode cX1_tileAt 1 = .ok (.ifCond .lt 26, 3) := dk_155 0 26 (dk_at dksX1_tileAt_0 1 rfl rfl)
theorem dX1_tileAt_4 : decode cX1_tileAt 4 = .ok (.iload_n 1, 1) := dk_27 (dk_at dksX1_tileAt_0 4 rfl rfl)
theorem dX1_tileAt_5 : decode cX1_tileAt 5 = .ok (.aload_n 0, 1) := dk_42 (dk_at dksX1_tileAt_0 5 rfl rfl)
theorem dX1_tileAt_6 : decode cX1_tileAt 6 = .ok (.getfield 12, 3) := dk_180 0 12 (dk_at dksX1_tileAt_0 6 rfl rfl)
theorem dX1_tileAt_9 : decode cX1_tileAt 9 = .ok (.getfield 238, 3) := dk_180 0 238 (dk_at dksX1_tileAt_0 9 rfl rfl)
theorem dX1_tileAt_12 : decode cX1_tileAt 12 = .ok (.aload_n 0, 1) := dk_42 (dk_at dksX1_tileAt_0 12 rfl rfl)
theorem dX1_tileAt_13 : decode cX1_tileAt 13 = .ok (.getfield 12, 3) := dk_180 0 12 (dk_at dksX1_tileAt_0 13 rfl rfl)
theorem dX1_tileAt_16 : decode cX1_tileAt 16 = .ok (.getfield 241, 3) := dk_180 0 241 (dk_at dksX1_tileAt_0 16 rfl rfl)
theorem dX1_tileAt_19 : decode cX1_tileAt 19 = .ok (.imul, 1) := dk_104 (dk_at dksX1_tileAt_0 19 rfl rfl)
theorem dX1_tileAt_20 : decode cX1_tileAt 20 = .ok (.if_icmp .ge 7, 3) := dk_162 0 7 (dk_at dksX1_tileAt_0 20 rfl rfl)
theorem dX1_tileAt_23 : decode cX1_tileAt 23 = .ok (.iconst 1, 1) := dk_4 (dk_at dksX1_tileAt_0 23 rfl rfl)
theorem dX1_tileAt_24 : decode cX1_tileAt 24 = .ok (.goto 4, 3) := dk_167 0 4 (dk_at dksX1_tileAt_1 0 rfl rfl)
theorem dX1_tileAt_27 : decode cX1_tileAt 27 = .ok (.iconst 0, 1) := dk_3 (dk_at dksX1_tileAt_1 3 rfl rfl)
theorem dX1_tileAt_28 : decode cX1_tileAt 28 = .ok (.invokestatic 172, 3) := dk_184 0 172 (dk_at dksX1_tileAt_1 4 rfl rfl)
theorem dX1_tileAt_31 : decode cX1_tileAt 31 = .ok (.aload_n 0, 1) := dk_42 (dk_at dksX1_tileAt_1 7 rfl rfl)
theorem dX1_tileAt_32 : decode cX1_tileAt 32 = .ok (.getfield 12, 3) := dk_180 0 12 (dk_at dksX1_tileAt_1 8 rfl rfl)
theorem dX1_tileAt_35 : decode cX1_tileAt 35 = .ok (.getfield 131, 3) := dk_180 0 131 (dk_at dksX1_tileAt_1 11 rfl rfl)
theorem dX1_tileAt_38 : decode cX1_tileAt 38 = .ok (.iload_n 1, 1) := dk_27 (dk_at dksX1_tileAt_1 14 rfl rfl)
theorem dX1_tileAt_39 : decode cX1_tileAt 39 = .ok (.invokestatic 155, 3) := dk_184 0 155 (dk_at dksX1_tileAt_1 15 rfl rfl)
theorem dX1_tileAt_42 : decode cX1_tileAt 42 = .ok (.invokeinterface 244 2, 5) := by decide +kernel
theorem dX1_tileAt_47 : decode cX1_tileAt 47 = .ok (.istore_n 2, 1) := dk_61 (dk_at dksX1_tileAt_1 23 rfl rfl)
theorem dX1_tileAt_48 : decode cX1_tileAt 48 = .ok (.iload_n 2, 1) := dk_28 (dk_at dksX1_tileAt_2 0 rfl rfl)
theorem dX1_tileAt_49 : decode cX1_tileAt 49 = .ok (.iconst (-1), 1) := dk_2 (dk_at dksX1_tileAt_2 1 rfl rfl)
theorem dX1_tileAt_50 : decode cX1_tileAt 50 = .ok (.if_icmp .ne 7, 3) := dk_160 0 7 (dk_at dksX1_tileAt_2 2 rfl rfl)
theorem dX1_tileAt_53 : decode cX1_tileAt 53 = .ok (.iconst (-1), 1) := dk_2 (dk_at dksX1_tileAt_2 5 rfl rfl)
theorem dX1_tileAt_54 : decode cX1_tileAt 54 = .ok (.goto 12, 3) := dk_167 0 12 (dk_at dksX1_tileAt_2 6 rfl rfl)
theorem dX1_tileAt_57 : decode cX1_tileAt 57 = .ok (.aload_n 0, 1) := dk_42 (dk_at dksX1_tileAt_2 9 rfl rfl)
theorem dX1_tileAt_58 : decode cX1_tileAt 58 = .ok (.getfield 24, 3) := dk_180 0 24 (dk_at dksX1_tileAt_2 10 rfl rfl)
theorem dX1_tileAt_61 : decode cX1_tileAt 61 = .ok (.getfield 247, 3) := dk_180 0 247 (dk_at dksX1_tileAt_2 13 rfl rfl)
theorem dX1_tileAt_64 : decode cX1_tileAt 64 = .ok (.iload_n 2, 1) := dk_28 (dk_at dksX1_tileAt_2 16 rfl rfl)
theorem dX1_tileAt_65 : decode cX1_tileAt 65 = .ok (.iaload, 1) := dk_46 (dk_at dksX1_tileAt_2 17 rfl rfl)
theorem dX1_tileAt_66 : decode cX1_tileAt 66 = .ok (.ireturn, 1) := dk_172 (dk_at dksX1_tileAt_2 18 rfl rfl)
abbrev cX1_reaches : ByteArray := prog_1_method_26_code
def yX1_reaches : MethodName := ⟨RX1, "reaches", "()Z"⟩
def dkwX1_reaches_4 : List UInt8 := [112, 154, 0, 7, 4, 167, 0, 4, 3, 172]
abbrev dktX1_reaches_4 : List UInt8 := dkwX1_reaches_4 ++ []
def dkwX1_reaches_3 : List UInt8 := [180, 0, 254, 42, 180, 0, 24, 180, 0, 134, 50, 42, 180, 0, 33, 180, 0, 232, 180, 0, 134, 46, 96, 5]
abbrev dktX1_reaches_3 : List UInt8 := dkwX1_reaches_3 ++ dktX1_reaches_4
def dkwX1_reaches_2 : List UInt8 := [42, 180, 0, 24, 182, 0, 250, 42, 180, 0, 33, 180, 0, 232, 182, 0, 250, 96, 42, 180, 0, 12]
abbrev dktX1_reaches_2 : List UInt8 := dkwX1_reaches_2 ++ dktX1_reaches_3
def dkwX1_reaches_1 : List UInt8 := [160, 0, 20, 42, 180, 0, 33, 180, 0, 175, 182, 0, 253, 153, 0, 7, 4, 167, 0, 4, 3, 184, 0, 199]
abbrev dktX1_reaches_1 : List UInt8 := dkwX1_reaches_1 ++ dktX1_reaches_2
def dkwX1_reaches_0 : List UInt8 := [42, 180, 0, 12, 182, 0, 100, 42, 180, 0, 12, 180, 0, 238, 42, 180, 0, 12, 180, 0, 241, 104]
abbrev dktX1_reaches_0 : List UInt8 := dkwX1_reaches_0 ++ dktX1_reaches_1
theorem dksX1_reaches_0 : cX1_reaches.data.toList.drop 0 = dktX1_reaches_0 := by decide +kernel
theorem dksX1_reaches_1 : cX1_reaches.data.toList.drop 22 = dktX1_reaches_1 := dk_seg dksX1_reaches_0 22 rfl rfl
theorem dksX1_reaches_2 : cX1_reaches.data.toList.drop 46 = dktX1_reaches_2 := dk_seg dksX1_reaches_1 24 rfl rfl
theorem dksX1_reaches_3 : cX1_reaches.data.toList.drop 68 = dktX1_reaches_3 := dk_seg dksX1_reaches_2 22 rfl rfl
theorem dksX1_reaches_4 : cX1_reaches.data.toList.drop 92 = dktX1_reaches_4 := dk_seg dksX1_reaches_3 24 rfl rfl
theorem dX1_reaches_0 : decode cX1_reaches 0 = .ok (.aload_n 0, 1) := dk_42 (dk_at dksX1_reaches_0 0 rfl rfl)
theorem dX1_reaches_1 : decode cX1_reaches 1 = .ok (.getfield 12, 3) := dk_180 0 12 (dk_at dksX1_reaches_0 1 rfl rfl)
theorem dX1_reaches_4 : decode cX1_reaches 4 = .ok (.invokevirtual 100, 3) := dk_182 0 100 (dk_at dksX1_reaches_0 4 rfl rfl)
theorem dX1_reaches_7 : decode cX1_reaches 7 = .ok (.aload_n 0, 1) := dk_42 (dk_at dksX1_reaches_0 7 rfl rfl)
theorem dX1_reaches_8 : decode cX1_reaches 8 = .ok (.getfield 12, 3) := dk_180 0 12 (dk_at dksX1_reaches_0 8 rfl rfl)
theorem dX1_reaches_11 : decode cX1_reaches 11 = .ok (.getfield 238, 3) := dk_180 0 238 (dk_at dksX1_reaches_0 11 rfl rfl)
theorem dX1_reaches_14 : decode cX1_reaches 14 = .ok (.aload_n 0, 1) := dk_42 (dk_at dksX1_reaches_0 14 rfl rfl)
theorem dX1_reaches_15 : decode cX1_reaches 15 = .ok (.getfield 12, 3) := dk_180 0 12 (dk_at dksX1_reaches_0 15 rfl rfl)
theorem dX1_reaches_18 : decode cX1_reaches 18 = .ok (.getfield 241, 3) := dk_180 0 241 (dk_at dksX1_reaches_0 18 rfl rfl)
theorem dX1_reaches_21 : decode cX1_reaches 21 = .ok (.imul, 1) := dk_104 (dk_at dksX1_reaches_0 21 rfl rfl)
theorem dX1_reaches_22 : decode cX1_reaches 22 = .ok (.if_icmp .ne 20, 3) := dk_160 0 20 (dk_at dksX1_reaches_1 0 rfl rfl)
theorem dX1_reaches_25 : decode cX1_reaches 25 = .ok (.aload_n 0, 1) := dk_42 (dk_at dksX1_reaches_1 3 rfl rfl)
theorem dX1_reaches_26 : decode cX1_reaches 26 = .ok (.getfield 33, 3) := dk_180 0 33 (dk_at dksX1_reaches_1 4 rfl rfl)
theorem dX1_reaches_29 : decode cX1_reaches 29 = .ok (.getfield 175, 3) := dk_180 0 175 (dk_at dksX1_reaches_1 7 rfl rfl)
theorem dX1_reaches_32 : decode cX1_reaches 32 = .ok (.invokevirtual 253, 3) := dk_182 0 253 (dk_at dksX1_reaches_1 10 rfl rfl)
theorem dX1_reaches_35 : decode cX1_reaches 35 = .ok (.ifCond .eq 7, 3) := dk_153 0 7 (dk_at dksX1_reaches_1 13 rfl rfl)
theorem dX1_reaches_38 : decode cX1_reaches 38 = .ok (.iconst 1, 1) := dk_4 (dk_at dksX1_reaches_1 16 rfl rfl)
theorem dX1_reaches_39 : decode cX1_reaches 39 = .ok (.goto 4, 3) := dk_167 0 4 (dk_at dksX1_reaches_1 17 rfl rfl)
theorem dX1_reaches_42 : decode cX1_reaches 42 = .ok (.iconst 0, 1) := dk_3 (dk_at dksX1_reaches_1 20 rfl rfl)
theorem dX1_reaches_43 : decode cX1_reaches 43 = .ok (.invokestatic 199, 3) := dk_184 0 199 (dk_at dksX1_reaches_1 21 rfl rfl)
theorem dX1_reaches_46 : decode cX1_reaches 46 = .ok (.aload_n 0, 1) := dk_42 (dk_at dksX1_reaches_2 0 rfl rfl)
theorem dX1_reaches_47 : decode cX1_reaches 47 = .ok (.getfield 24, 3) := dk_180 0 24 (dk_at dksX1_reaches_2 1 rfl rfl)
theorem dX1_reaches_50 : decode cX1_reaches 50 = .ok (.invokevirtual 250, 3) := dk_182 0 250 (dk_at dksX1_reaches_2 4 rfl rfl)
theorem dX1_reaches_53 : decode cX1_reaches 53 = .ok (.aload_n 0, 1) := dk_42 (dk_at dksX1_reaches_2 7 rfl rfl)
theorem dX1_reaches_54 : decode cX1_reaches 54 = .ok (.getfield 33, 3) := dk_180 0 33 (dk_at dksX1_reaches_2 8 rfl rfl)
theorem dX1_reaches_57 : decode cX1_reaches 57 = .ok (.getfield 232, 3) := dk_180 0 232 (dk_at dksX1_reaches_2 11 rfl rfl)
theorem dX1_reaches_60 : decode cX1_reaches 60 = .ok (.invokevirtual 250, 3) := dk_182 0 250 (dk_at dksX1_reaches_2 14 rfl rfl)
theorem dX1_reaches_63 : decode cX1_reaches 63 = .ok (.iadd, 1) := dk_96 (dk_at dksX1_reaches_2 17 rfl rfl)
theorem dX1_reaches_64 : decode cX1_reaches 64 = .ok (.aload_n 0, 1) := dk_42 (dk_at dksX1_reaches_2 18 rfl rfl)
theorem dX1_reaches_65 : decode cX1_reaches 65 = .ok (.getfield 12, 3) := dk_180 0 12 (dk_at dksX1_reaches_2 19 rfl rfl)
theorem dX1_reaches_68 : decode cX1_reaches 68 = .ok (.getfield 254, 3) := dk_180 0 254 (dk_at dksX1_reaches_3 0 rfl rfl)
theorem dX1_reaches_71 : decode cX1_reaches 71 = .ok (.aload_n 0, 1) := dk_42 (dk_at dksX1_reaches_3 3 rfl rfl)
theorem dX1_reaches_72 : decode cX1_reaches 72 = .ok (.getfield 24, 3) := dk_180 0 24 (dk_at dksX1_reaches_3 4 rfl rfl)
theorem dX1_reaches_75 : decode cX1_reaches 75 = .ok (.getfield 134, 3) := dk_180 0 134 (dk_at dksX1_reaches_3 7 rfl rfl)
theorem dX1_reaches_78 : decode cX1_reaches 78 = .ok (.aaload, 1) := dk_50 (dk_at dksX1_reaches_3 10 rfl rfl)
theorem dX1_reaches_79 : decode cX1_reaches 79 = .ok (.aload_n 0, 1) := dk_42 (dk_at dksX1_reaches_3 11 rfl rfl)
theorem dX1_reaches_80 : decode cX1_reaches 80 = .ok (.getfield 33, 3) := dk_180 0 33 (dk_at dksX1_reaches_3 12 rfl rfl)
theorem dX1_reaches_83 : decode cX1_reaches 83 = .ok (.getfield 232, 3) := dk_180 0 232 (dk_at dksX1_reaches_3 15 rfl rfl)
theorem dX1_reaches_86 : decode cX1_reaches 86 = .ok (.getfield 134, 3) := dk_180 0 134 (dk_at dksX1_reaches_3 18 rfl rfl)
theorem dX1_reaches_89 : decode cX1_reaches 89 = .ok (.iaload, 1) := dk_46 (dk_at dksX1_reaches_3 21 rfl rfl)
theorem dX1_reaches_90 : decode cX1_reaches 90 = .ok (.iadd, 1) := dk_96 (dk_at dksX1_reaches_3 22 rfl rfl)
theorem dX1_reaches_91 : decode cX1_reaches 91 = .ok (.iconst 2, 1) := dk_5 (dk_at dksX1_reaches_3 23 rfl rfl)
theorem dX1_reaches_92 : decode cX1_reaches 92 = .ok (.irem, 1) := dk_112 (dk_at dksX1_reaches_4 0 rfl rfl)
theorem dX1_reaches_93 : decode cX1_reaches 93 = .ok (.ifCond .ne 7, 3) := dk_154 0 7 (dk_at dksX1_reaches_4 1 rfl rfl)
theorem dX1_reaches_96 : decode cX1_reaches 96 = .ok (.iconst 1, 1) := dk_4 (dk_at dksX1_reaches_4 4 rfl rfl)
theorem dX1_reaches_97 : decode cX1_reaches 97 = .ok (.goto 4, 3) := dk_167 0 4 (dk_at dksX1_reaches_4 5 rfl rfl)
theorem dX1_reaches_100 : decode cX1_reaches 100 = .ok (.iconst 0, 1) := dk_3 (dk_at dksX1_reaches_4 8 rfl rfl)
theorem dX1_reaches_101 : decode cX1_reaches 101 = .ok (.ireturn, 1) := dk_172 (dk_at dksX1_reaches_4 9 rfl rfl)
abbrev cX1_estimate : ByteArray := prog_1_method_33_code
def yX1_estimate : MethodName := ⟨RX1, "estimate", "(I)I"⟩
def dkwX1_estimate_0 : List UInt8 := [27, 184, 1, 48, 42, 42, 180, 0, 24, 27, 182, 1, 51, 172]
abbrev dktX1_estimate_0 : List UInt8 := dkwX1_estimate_0 ++ []
theorem dksX1_estimate_0 : cX1_estimate.data.toList.drop 0 = dktX1_estimate_0 := by decide +kernel
theorem dX1_estimate_0 : decode cX1_estimate 0 = .ok (.iload_n 1, 1) := dk_27 (dk_at dksX1_estimate_0 0 rfl rfl)
theorem dX1_estimate_1 : decode cX1_estimate 1 = .ok (.invokestatic 304, 3) := dk_184 1 48 (dk_at dksX1_estimate_0 1 rfl rfl)
theorem dX1_estimate_4 : decode cX1_estimate 4 = .ok (.aload_n 0, 1) := dk_42 (dk_at dksX1_estimate_0 4 rfl rfl)
theorem dX1_estimate_5 : decode cX1_estimate 5 = .ok (.aload_n 0, 1) := dk_42 (dk_at dksX1_estimate_0 5 rfl rfl)
theorem dX1_estimate_6 : decode cX1_estimate 6 = .ok (.getfield 24, 3) := dk_180 0 24 (dk_at dksX1_estimate_0 6 rfl rfl)
theorem dX1_estimate_9 : decode cX1_estimate 9 = .ok (.iload_n 1, 1) := dk_27 (dk_at dksX1_estimate_0 9 rfl rfl)
theorem dX1_estimate_10 : decode cX1_estimate 10 = .ok (.invokevirtual 307, 3) := dk_182 1 51 (dk_at dksX1_estimate_0 10 rfl rfl)
theorem dX1_estimate_13 : decode cX1_estimate 13 = .ok (.ireturn, 1) := dk_172 (dk_at dksX1_estimate_0 13 rfl rfl)
abbrev cX1_checkEstimate : ByteArray := prog_1_method_5_code
def yX1_checkEstimate : MethodName := ⟨RX1, "checkEstimate", "(I)V"⟩
def dkwX1_checkEstimate_0 : List UInt8 := [26, 155, 0, 12, 26, 7, 163, 0, 7, 4, 167, 0, 4, 3, 184, 0, 96, 177]
abbrev dktX1_checkEstimate_0 : List UInt8 := dkwX1_checkEstimate_0 ++ []
theorem dksX1_checkEstimate_0 : cX1_checkEstimate.data.toList.drop 0 = dktX1_checkEstimate_0 := by decide +kernel
theorem dX1_checkEstimate_0 : decode cX1_checkEstimate 0 = .ok (.iload_n 0, 1) := dk_26 (dk_at dksX1_checkEstimate_0 0 rfl rfl)
theorem dX1_checkEstimate_1 : decode cX1_checkEstimate 1 = .ok (.ifCond .lt 12, 3) := dk_155 0 12 (dk_at dksX1_checkEstimate_0 1 rfl rfl)
theorem dX1_checkEstimate_4 : decode cX1_checkEstimate 4 = .ok (.iload_n 0, 1) := dk_26 (dk_at dksX1_checkEstimate_0 4 rfl rfl)
theorem dX1_checkEstimate_5 : decode cX1_checkEstimate 5 = .ok (.iconst 4, 1) := dk_7 (dk_at dksX1_checkEstimate_0 5 rfl rfl)
theorem dX1_checkEstimate_6 : decode cX1_checkEstimate 6 = .ok (.if_icmp .gt 7, 3) := dk_163 0 7 (dk_at dksX1_checkEstimate_0 6 rfl rfl)
theorem dX1_checkEstimate_9 : decode cX1_checkEstimate 9 = .ok (.iconst 1, 1) := dk_4 (dk_at dksX1_checkEstimate_0 9 rfl rfl)
theorem dX1_checkEstimate_10 : decode cX1_checkEstimate 10 = .ok (.goto 4, 3) := dk_167 0 4 (dk_at dksX1_checkEstimate_0 10 rfl rfl)
theorem dX1_checkEstimate_13 : decode cX1_checkEstimate 13 = .ok (.iconst 0, 1) := dk_3 (dk_at dksX1_checkEstimate_0 13 rfl rfl)
theorem dX1_checkEstimate_14 : decode cX1_checkEstimate 14 = .ok (.invokestatic 96, 3) := dk_184 0 96 (dk_at dksX1_checkEstimate_0 14 rfl rfl)
theorem dX1_checkEstimate_17 : decode cX1_checkEstimate 17 = .ok (.return_, 1) := dk_177 (dk_at dksX1_checkEstimate_0 17 rfl rfl)
abbrev cX1_solve : ByteArray := prog_1_method_36_code
def yX1_solve : MethodName := ⟨RX1, "solve", "(I)I"⟩
def dkwX1_solve_1 : List UInt8 := [187, 0, 93, 89, 183, 0, 95, 191]
abbrev dktX1_solve_1 : List UInt8 := dkwX1_solve_1 ++ []
def dkwX1_solve_0 : List UInt8 := [27, 184, 1, 48, 42, 42, 42, 180, 0, 24, 27, 42, 180, 0, 60, 182, 1, 117, 182, 1, 121, 172, 77]
abbrev dktX1_solve_0 : List UInt8 := dkwX1_solve_0 ++ dktX1_solve_1
theorem dksX1_solve_0 : cX1_solve.data.toList.drop 0 = dktX1_solve_0 := by decide +kernel
theorem dksX1_solve_1 : cX1_solve.data.toList.drop 23 = dktX1_solve_1 := dk_seg dksX1_solve_0 23 rfl rfl
theorem dX1_solve_0 : decode cX1_solve 0 = .ok (.iload_n 1, 1) := dk_27 (dk_at dksX1_solve_0 0 rfl rfl)
theorem dX1_solve_1 : decode cX1_solve 1 = .ok (.invokestatic 304, 3) := dk_184 1 48 (dk_at dksX1_solve_0 1 rfl rfl)
theorem dX1_solve_4 : decode cX1_solve 4 = .ok (.aload_n 0, 1) := dk_42 (dk_at dksX1_solve_0 4 rfl rfl)
theorem dX1_solve_5 : decode cX1_solve 5 = .ok (.aload_n 0, 1) := dk_42 (dk_at dksX1_solve_0 5 rfl rfl)
theorem dX1_solve_6 : decode cX1_solve 6 = .ok (.aload_n 0, 1) := dk_42 (dk_at dksX1_solve_0 6 rfl rfl)
theorem dX1_solve_7 : decode cX1_solve 7 = .ok (.getfield 24, 3) := dk_180 0 24 (dk_at dksX1_solve_0 7 rfl rfl)
theorem dX1_solve_10 : decode cX1_solve 10 = .ok (.iload_n 1, 1) := dk_27 (dk_at dksX1_solve_0 10 rfl rfl)
theorem dX1_solve_11 : decode cX1_solve 11 = .ok (.aload_n 0, 1) := dk_42 (dk_at dksX1_solve_0 11 rfl rfl)
theorem dX1_solve_12 : decode cX1_solve 12 = .ok (.getfield 60, 3) := dk_180 0 60 (dk_at dksX1_solve_0 12 rfl rfl)
theorem dX1_solve_15 : decode cX1_solve 15 = .ok (.invokevirtual 373, 3) := dk_182 1 117 (dk_at dksX1_solve_0 15 rfl rfl)
theorem dX1_solve_18 : decode cX1_solve 18 = .ok (.invokevirtual 377, 3) := dk_182 1 121 (dk_at dksX1_solve_0 18 rfl rfl)
theorem dX1_solve_21 : decode cX1_solve 21 = .ok (.ireturn, 1) := dk_172 (dk_at dksX1_solve_0 21 rfl rfl)
theorem dX1_solve_22 : decode cX1_solve 22 = .ok (.astore_n 2, 1) := dk_77 (dk_at dksX1_solve_0 22 rfl rfl)
theorem dX1_solve_23 : decode cX1_solve 23 = .ok (.new 93, 3) := dk_187 0 93 (dk_at dksX1_solve_1 0 rfl rfl)
theorem dX1_solve_26 : decode cX1_solve 26 = .ok (.dup, 1) := dk_89 (dk_at dksX1_solve_1 3 rfl rfl)
theorem dX1_solve_27 : decode cX1_solve 27 = .ok (.invokespecial 95, 3) := dk_183 0 95 (dk_at dksX1_solve_1 4 rfl rfl)
theorem dX1_solve_30 : decode cX1_solve 30 = .ok (.athrow, 1) := dk_191 (dk_at dksX1_solve_1 7 rfl rfl)
abbrev cX1_finds : ByteArray := prog_1_method_35_code
def yX1_finds : MethodName := ⟨RX1, "finds", "(LSlidingtray$Found;)I"⟩
def dkwX1_finds_0 : List UInt8 := [42, 43, 181, 0, 67, 42, 43, 180, 1, 107, 181, 0, 71, 43, 180, 1, 102, 172]
abbrev dktX1_finds_0 : List UInt8 := dkwX1_finds_0 ++ []
theorem dksX1_finds_0 : cX1_finds.data.toList.drop 0 = dktX1_finds_0 := by decide +kernel
theorem dX1_finds_0 : decode cX1_finds 0 = .ok (.aload_n 0, 1) := dk_42 (dk_at dksX1_finds_0 0 rfl rfl)
theorem dX1_finds_1 : decode cX1_finds 1 = .ok (.aload_n 1, 1) := dk_43 (dk_at dksX1_finds_0 1 rfl rfl)
theorem dX1_finds_2 : decode cX1_finds 2 = .ok (.putfield 67, 3) := dk_181 0 67 (dk_at dksX1_finds_0 2 rfl rfl)
theorem dX1_finds_5 : decode cX1_finds 5 = .ok (.aload_n 0, 1) := dk_42 (dk_at dksX1_finds_0 5 rfl rfl)
theorem dX1_finds_6 : decode cX1_finds 6 = .ok (.aload_n 1, 1) := dk_43 (dk_at dksX1_finds_0 6 rfl rfl)
theorem dX1_finds_7 : decode cX1_finds 7 = .ok (.getfield 363, 3) := dk_180 1 107 (dk_at dksX1_finds_0 7 rfl rfl)
theorem dX1_finds_10 : decode cX1_finds 10 = .ok (.putfield 71, 3) := dk_181 0 71 (dk_at dksX1_finds_0 10 rfl rfl)
theorem dX1_finds_13 : decode cX1_finds 13 = .ok (.aload_n 1, 1) := dk_43 (dk_at dksX1_finds_0 13 rfl rfl)
theorem dX1_finds_14 : decode cX1_finds 14 = .ok (.getfield 358, 3) := dk_180 1 102 (dk_at dksX1_finds_0 14 rfl rfl)
theorem dX1_finds_17 : decode cX1_finds 17 = .ok (.ireturn, 1) := dk_172 (dk_at dksX1_finds_0 17 rfl rfl)
abbrev cX1_deepen : ByteArray := prog_1_method_37_code
def yX1_deepen : MethodName := ⟨RX1, "deepen", "(I)I"⟩
def dkwX1_deepen_1 : List UInt8 := [172, 77, 187, 0, 93, 89, 183, 0, 95, 191]
abbrev dktX1_deepen_1 : List UInt8 := dkwX1_deepen_1 ++ []
def dkwX1_deepen_0 : List UInt8 := [27, 184, 1, 48, 42, 187, 1, 125, 89, 42, 27, 183, 1, 127, 42, 180, 0, 24, 182, 1, 130, 182, 1, 121]
abbrev dktX1_deepen_0 : List UInt8 := dkwX1_deepen_0 ++ dktX1_deepen_1
theorem dksX1_deepen_0 : cX1_deepen.data.toList.drop 0 = dktX1_deepen_0 := by decide +kernel
theorem dksX1_deepen_1 : cX1_deepen.data.toList.drop 24 = dktX1_deepen_1 := dk_seg dksX1_deepen_0 24 rfl rfl
theorem dX1_deepen_0 : decode cX1_deepen 0 = .ok (.iload_n 1, 1) := dk_27 (dk_at dksX1_deepen_0 0 rfl rfl)
theorem dX1_deepen_1 : decode cX1_deepen 1 = .ok (.invokestatic 304, 3) := dk_184 1 48 (dk_at dksX1_deepen_0 1 rfl rfl)
theorem dX1_deepen_4 : decode cX1_deepen 4 = .ok (.aload_n 0, 1) := dk_42 (dk_at dksX1_deepen_0 4 rfl rfl)
theorem dX1_deepen_5 : decode cX1_deepen 5 = .ok (.new 381, 3) := dk_187 1 125 (dk_at dksX1_deepen_0 5 rfl rfl)
theorem dX1_deepen_8 : decode cX1_deepen 8 = .ok (.dup, 1) := dk_89 (dk_at dksX1_deepen_0 8 rfl rfl)
theorem dX1_deepen_9 : decode cX1_deepen 9 = .ok (.aload_n 0, 1) := dk_42 (dk_at dksX1_deepen_0 9 rfl rfl)
theorem dX1_deepen_10 : decode cX1_deepen 10 = .ok (.iload_n 1, 1) := dk_27 (dk_at dksX1_deepen_0 10 rfl rfl)
theorem dX1_deepen_11 : decode cX1_deepen 11 = .ok (.invokespecial 383, 3) := dk_183 1 127 (dk_at dksX1_deepen_0 11 rfl rfl)
theorem dX1_deepen_14 : decode cX1_deepen 14 = .ok (.aload_n 0, 1) := dk_42 (dk_at dksX1_deepen_0 14 rfl rfl)
theorem dX1_deepen_15 : decode cX1_deepen 15 = .ok (.getfield 24, 3) := dk_180 0 24 (dk_at dksX1_deepen_0 15 rfl rfl)
theorem dX1_deepen_18 : decode cX1_deepen 18 = .ok (.invokevirtual 386, 3) := dk_182 1 130 (dk_at dksX1_deepen_0 18 rfl rfl)
theorem dX1_deepen_21 : decode cX1_deepen 21 = .ok (.invokevirtual 377, 3) := dk_182 1 121 (dk_at dksX1_deepen_0 21 rfl rfl)
theorem dX1_deepen_24 : decode cX1_deepen 24 = .ok (.ireturn, 1) := dk_172 (dk_at dksX1_deepen_1 0 rfl rfl)
theorem dX1_deepen_25 : decode cX1_deepen 25 = .ok (.astore_n 2, 1) := dk_77 (dk_at dksX1_deepen_1 1 rfl rfl)
theorem dX1_deepen_26 : decode cX1_deepen 26 = .ok (.new 93, 3) := dk_187 0 93 (dk_at dksX1_deepen_1 2 rfl rfl)
theorem dX1_deepen_29 : decode cX1_deepen 29 = .ok (.dup, 1) := dk_89 (dk_at dksX1_deepen_1 5 rfl rfl)
theorem dX1_deepen_30 : decode cX1_deepen 30 = .ok (.invokespecial 95, 3) := dk_183 0 95 (dk_at dksX1_deepen_1 6 rfl rfl)
theorem dX1_deepen_33 : decode cX1_deepen 33 = .ok (.athrow, 1) := dk_191 (dk_at dksX1_deepen_1 9 rfl rfl)
abbrev cX1_both : ByteArray := prog_1_method_39_code
def yX1_both : MethodName := ⟨RX1, "both", "()I"⟩
def dkwX1_both_1 : List UInt8 := [180, 0, 67, 180, 1, 102, 172, 76, 187, 0, 93, 89, 183, 0, 95, 191]
abbrev dktX1_both_1 : List UInt8 := dkwX1_both_1 ++ []
def dkwX1_both_0 : List UInt8 := [42, 180, 0, 33, 180, 0, 175, 182, 0, 253, 184, 0, 199, 42, 42, 182, 1, 147, 181, 0, 67, 42]
abbrev dktX1_both_0 : List UInt8 := dkwX1_both_0 ++ dktX1_both_1
theorem dksX1_both_0 : cX1_both.data.toList.drop 0 = dktX1_both_0 := by decide +kernel
theorem dksX1_both_1 : cX1_both.data.toList.drop 22 = dktX1_both_1 := dk_seg dksX1_both_0 22 rfl rfl
theorem dX1_both_0 : decode cX1_both 0 = .ok (.aload_n 0, 1) := dk_42 (dk_at dksX1_both_0 0 rfl rfl)
theorem dX1_both_1 : decode cX1_both 1 = .ok (.getfield 33, 3) := dk_180 0 33 (dk_at dksX1_both_0 1 rfl rfl)
theorem dX1_both_4 : decode cX1_both 4 = .ok (.getfield 175, 3) := dk_180 0 175 (dk_at dksX1_both_0 4 rfl rfl)
theorem dX1_both_7 : decode cX1_both 7 = .ok (.invokevirtual 253, 3) := dk_182 0 253 (dk_at dksX1_both_0 7 rfl rfl)
theorem dX1_both_10 : decode cX1_both 10 = .ok (.invokestatic 199, 3) := dk_184 0 199 (dk_at dksX1_both_0 10 rfl rfl)
theorem dX1_both_13 : decode cX1_both 13 = .ok (.aload_n 0, 1) := dk_42 (dk_at dksX1_both_0 13 rfl rfl)
theorem dX1_both_14 : decode cX1_both 14 = .ok (.aload_n 0, 1) := dk_42 (dk_at dksX1_both_0 14 rfl rfl)
theorem dX1_both_15 : decode cX1_both 15 = .ok (.invokevirtual 403, 3) := dk_182 1 147 (dk_at dksX1_both_0 15 rfl rfl)
theorem dX1_both_18 : decode cX1_both 18 = .ok (.putfield 67, 3) := dk_181 0 67 (dk_at dksX1_both_0 18 rfl rfl)
theorem dX1_both_21 : decode cX1_both 21 = .ok (.aload_n 0, 1) := dk_42 (dk_at dksX1_both_0 21 rfl rfl)
theorem dX1_both_22 : decode cX1_both 22 = .ok (.getfield 67, 3) := dk_180 0 67 (dk_at dksX1_both_1 0 rfl rfl)
theorem dX1_both_25 : decode cX1_both 25 = .ok (.getfield 358, 3) := dk_180 1 102 (dk_at dksX1_both_1 3 rfl rfl)
theorem dX1_both_28 : decode cX1_both 28 = .ok (.ireturn, 1) := dk_172 (dk_at dksX1_both_1 6 rfl rfl)
theorem dX1_both_29 : decode cX1_both 29 = .ok (.astore_n 1, 1) := dk_76 (dk_at dksX1_both_1 7 rfl rfl)
theorem dX1_both_30 : decode cX1_both 30 = .ok (.new 93, 3) := dk_187 0 93 (dk_at dksX1_both_1 8 rfl rfl)
theorem dX1_both_33 : decode cX1_both 33 = .ok (.dup, 1) := dk_89 (dk_at dksX1_both_1 11 rfl rfl)
theorem dX1_both_34 : decode cX1_both 34 = .ok (.invokespecial 95, 3) := dk_183 0 95 (dk_at dksX1_both_1 12 rfl rfl)
theorem dX1_both_37 : decode cX1_both 37 = .ok (.athrow, 1) := dk_191 (dk_at dksX1_both_1 15 rfl rfl)
abbrev cX1_fromBoth : ByteArray := prog_1_method_38_code
def yX1_fromBoth : MethodName := ⟨RX1, "fromBoth", "()LSlidingtray$Found;"⟩
def dkwX1_fromBoth_8 : List UInt8 := [153, 0, 10, 43, 180, 1, 141, 167, 0, 4, 2, 181, 1, 102, 43, 176]
abbrev dktX1_fromBoth_8 : List UInt8 := dkwX1_fromBoth_8 ++ []
def dkwX1_fromBoth_7 : List UInt8 := [167, 0, 4, 44, 182, 1, 137, 153, 0, 7, 4, 167, 0, 4, 3, 54, 4, 167, 255, 141, 43, 21, 4]
abbrev dktX1_fromBoth_7 : List UInt8 := dkwX1_fromBoth_7 ++ dktX1_fromBoth_8
def dkwX1_fromBoth_6 : List UInt8 := [167, 0, 4, 3, 96, 181, 1, 141, 21, 5, 153, 0, 26, 25, 6, 25, 6, 44, 166, 0, 7, 45]
abbrev dktX1_fromBoth_6 : List UInt8 := dkwX1_fromBoth_6 ++ dktX1_fromBoth_7
def dkwX1_fromBoth_5 : List UInt8 := [21, 7, 158, 0, 7, 4, 167, 0, 4, 3, 54, 5, 43, 89, 180, 1, 141, 21, 5, 153, 0, 7, 4]
abbrev dktX1_fromBoth_5 : List UInt8 := dkwX1_fromBoth_5 ++ dktX1_fromBoth_6
def dkwX1_fromBoth_4 : List UInt8 := [180, 0, 60, 43, 180, 1, 88, 100, 182, 1, 144, 54, 7, 43, 89, 180, 1, 88, 21, 7, 96, 181, 1, 88]
abbrev dktX1_fromBoth_4 : List UInt8 := dkwX1_fromBoth_4 ++ dktX1_fromBoth_5
def dkwX1_fromBoth_3 : List UInt8 := [21, 5, 153, 0, 111, 43, 180, 1, 141, 5, 112, 154, 0, 7, 44, 167, 0, 4, 45, 58, 6, 25, 6, 42]
abbrev dktX1_fromBoth_3 : List UInt8 := dkwX1_fromBoth_3 ++ dktX1_fromBoth_4
def dkwX1_fromBoth_2 : List UInt8 := [187, 1, 91, 89, 183, 1, 93, 191, 44, 45, 182, 1, 137, 54, 4, 4, 54, 5, 21, 4, 154, 0, 116]
abbrev dktX1_fromBoth_2 : List UInt8 := dkwX1_fromBoth_2 ++ dktX1_fromBoth_3
def dkwX1_fromBoth_1 : List UInt8 := [42, 180, 0, 33, 180, 0, 232, 183, 1, 136, 78, 43, 5, 181, 1, 88, 42, 180, 0, 60, 5, 162, 0, 11]
abbrev dktX1_fromBoth_1 : List UInt8 := dkwX1_fromBoth_1 ++ dktX1_fromBoth_2
def dkwX1_fromBoth_0 : List UInt8 := [187, 0, 64, 89, 183, 0, 66, 76, 187, 1, 134, 89, 42, 180, 0, 24, 183, 1, 136, 77, 187, 1, 134, 89]
abbrev dktX1_fromBoth_0 : List UInt8 := dkwX1_fromBoth_0 ++ dktX1_fromBoth_1
theorem dksX1_fromBoth_0 : cX1_fromBoth.data.toList.drop 0 = dktX1_fromBoth_0 := by decide +kernel
theorem dksX1_fromBoth_1 : cX1_fromBoth.data.toList.drop 24 = dktX1_fromBoth_1 := dk_seg dksX1_fromBoth_0 24 rfl rfl
theorem dksX1_fromBoth_2 : cX1_fromBoth.data.toList.drop 48 = dktX1_fromBoth_2 := dk_seg dksX1_fromBoth_1 24 rfl rfl
theorem dksX1_fromBoth_3 : cX1_fromBoth.data.toList.drop 71 = dktX1_fromBoth_3 := dk_seg dksX1_fromBoth_2 23 rfl rfl
theorem dksX1_fromBoth_4 : cX1_fromBoth.data.toList.drop 95 = dktX1_fromBoth_4 := dk_seg dksX1_fromBoth_3 24 rfl rfl
theorem dksX1_fromBoth_5 : cX1_fromBoth.data.toList.drop 119 = dktX1_fromBoth_5 := dk_seg dksX1_fromBoth_4 24 rfl rfl
theorem dksX1_fromBoth_6 : cX1_fromBoth.data.toList.drop 142 = dktX1_fromBoth_6 := dk_seg dksX1_fromBoth_5 23 rfl rfl
theorem dksX1_fromBoth_7 : cX1_fromBoth.data.toList.drop 164 = dktX1_fromBoth_7 := dk_seg dksX1_fromBoth_6 22 rfl rfl
theorem dksX1_fromBoth_8 : cX1_fromBoth.data.toList.drop 187 = dktX1_fromBoth_8 := dk_seg dksX1_fromBoth_7 23 rfl rfl
theorem dX1_fromBoth_0 : decode cX1_fromBoth 0 = .ok (.new 64, 3) := dk_187 0 64 (dk_at dksX1_fromBoth_0 0 rfl rfl)
theorem dX1_fromBoth_3 : decode cX1_fromBoth 3 = .ok (.dup, 1) := dk_89 (dk_at dksX1_fromBoth_0 3 rfl rfl)
theorem dX1_fromBoth_4 : decode cX1_fromBoth 4 = .ok (.invokespecial 66, 3) := dk_183 0 66 (dk_at dksX1_fromBoth_0 4 rfl rfl)
theorem dX1_fromBoth_7 : decode cX1_fromBoth 7 = .ok (.astore_n 1, 1) := dk_76 (dk_at dksX1_fromBoth_0 7 rfl rfl)
theorem dX1_fromBoth_8 : decode cX1_fromBoth 8 = .ok (.new 390, 3) := dk_187 1 134 (dk_at dksX1_fromBoth_0 8 rfl rfl)
theorem dX1_fromBoth_11 : decode cX1_fromBoth 11 = .ok (.dup, 1) := dk_89 (dk_at dksX1_fromBoth_0 11 rfl rfl)
theorem dX1_fromBoth_12 : decode cX1_fromBoth 12 = .ok (.aload_n 0, 1) := dk_42 (dk_at dksX1_fromBoth_0 12 rfl rfl)
theorem dX1_fromBoth_13 : decode cX1_fromBoth 13 = .ok (.getfield 24, 3) := dk_180 0 24 (dk_at dksX1_fromBoth_0 13 rfl rfl)
theorem dX1_fromBoth_16 : decode cX1_fromBoth 16 = .ok (.invokespecial 392, 3) := dk_183 1 136 (dk_at dksX1_fromBoth_0 16 rfl rfl)
theorem dX1_fromBoth_19 : decode cX1_fromBoth 19 = .ok (.astore_n 2, 1) := dk_77 (dk_at dksX1_fromBoth_0 19 rfl rfl)
theorem dX1_fromBoth_20 : decode cX1_fromBoth 20 = .ok (.new 390, 3) := dk_187 1 134 (dk_at dksX1_fromBoth_0 20 rfl rfl)
theorem dX1_fromBoth_23 : decode cX1_fromBoth 23 = .ok (.dup, 1) := dk_89 (dk_at dksX1_fromBoth_0 23 rfl rfl)
theorem dX1_fromBoth_24 : decode cX1_fromBoth 24 = .ok (.aload_n 0, 1) := dk_42 (dk_at dksX1_fromBoth_1 0 rfl rfl)
theorem dX1_fromBoth_25 : decode cX1_fromBoth 25 = .ok (.getfield 33, 3) := dk_180 0 33 (dk_at dksX1_fromBoth_1 1 rfl rfl)
theorem dX1_fromBoth_28 : decode cX1_fromBoth 28 = .ok (.getfield 232, 3) := dk_180 0 232 (dk_at dksX1_fromBoth_1 4 rfl rfl)
theorem dX1_fromBoth_31 : decode cX1_fromBoth 31 = .ok (.invokespecial 392, 3) := dk_183 1 136 (dk_at dksX1_fromBoth_1 7 rfl rfl)
theorem dX1_fromBoth_34 : decode cX1_fromBoth 34 = .ok (.astore_n 3, 1) := dk_78 (dk_at dksX1_fromBoth_1 10 rfl rfl)
theorem dX1_fromBoth_35 : decode cX1_fromBoth 35 = .ok (.aload_n 1, 1) := dk_43 (dk_at dksX1_fromBoth_1 11 rfl rfl)
theorem dX1_fromBoth_36 : decode cX1_fromBoth 36 = .ok (.iconst 2, 1) := dk_5 (dk_at dksX1_fromBoth_1 12 rfl rfl)
theorem dX1_fromBoth_37 : decode cX1_fromBoth 37 = .ok (.putfield 344, 3) := dk_181 1 88 (dk_at dksX1_fromBoth_1 13 rfl rfl)
theorem dX1_fromBoth_40 : decode cX1_fromBoth 40 = .ok (.aload_n 0, 1) := dk_42 (dk_at dksX1_fromBoth_1 16 rfl rfl)
theorem dX1_fromBoth_41 : decode cX1_fromBoth 41 = .ok (.getfield 60, 3) := dk_180 0 60 (dk_at dksX1_fromBoth_1 17 rfl rfl)
theorem dX1_fromBoth_44 : decode cX1_fromBoth 44 = .ok (.iconst 2, 1) := dk_5 (dk_at dksX1_fromBoth_1 20 rfl rfl)
theorem dX1_fromBoth_45 : decode cX1_fromBoth 45 = .ok (.if_icmp .ge 11, 3) := dk_162 0 11 (dk_at dksX1_fromBoth_1 21 rfl rfl)
theorem dX1_fromBoth_48 : decode cX1_fromBoth 48 = .ok (.new 347, 3) := dk_187 1 91 (dk_at dksX1_fromBoth_2 0 rfl rfl)
theorem dX1_fromBoth_51 : decode cX1_fromBoth 51 = .ok (.dup, 1) := dk_89 (dk_at dksX1_fromBoth_2 3 rfl rfl)
theorem dX1_fromBoth_52 : decode cX1_fromBoth 52 = .ok (.invokespecial 349, 3) := dk_183 1 93 (dk_at dksX1_fromBoth_2 4 rfl rfl)
theorem dX1_fromBoth_55 : decode cX1_fromBoth 55 = .ok (.athrow, 1) := dk_191 (dk_at dksX1_fromBoth_2 7 rfl rfl)
theorem dX1_fromBoth_56 : decode cX1_fromBoth 56 = .ok (.aload_n 2, 1) := dk_44 (dk_at dksX1_fromBoth_2 8 rfl rfl)
theorem dX1_fromBoth_57 : decode cX1_fromBoth 57 = .ok (.aload_n 3, 1) := dk_45 (dk_at dksX1_fromBoth_2 9 rfl rfl)
theorem dX1_fromBoth_58 : decode cX1_fromBoth 58 = .ok (.invokevirtual 393, 3) := dk_182 1 137 (dk_at dksX1_fromBoth_2 10 rfl rfl)
theorem dX1_fromBoth_61 : decode cX1_fromBoth 61 = .ok (.istore 4, 2) := dk_54 4 (dk_at dksX1_fromBoth_2 13 rfl rfl)
theorem dX1_fromBoth_63 : decode cX1_fromBoth 63 = .ok (.iconst 1, 1) := dk_4 (dk_at dksX1_fromBoth_2 15 rfl rfl)
theorem dX1_fromBoth_64 : decode cX1_fromBoth 64 = .ok (.istore 5, 2) := dk_54 5 (dk_at dksX1_fromBoth_2 16 rfl rfl)
theorem dX1_fromBoth_66 : decode cX1_fromBoth 66 = .ok (.iload 4, 2) := dk_21 4 (dk_at dksX1_fromBoth_2 18 rfl rfl)
theorem dX1_fromBoth_68 : decode cX1_fromBoth 68 = .ok (.ifCond .ne 116, 3) := dk_154 0 116 (dk_at dksX1_fromBoth_2 20 rfl rfl)
theorem dX1_fromBoth_71 : decode cX1_fromBoth 71 = .ok (.iload 5, 2) := dk_21 5 (dk_at dksX1_fromBoth_3 0 rfl rfl)
theorem dX1_fromBoth_73 : decode cX1_fromBoth 73 = .ok (.ifCond .eq 111, 3) := dk_153 0 111 (dk_at dksX1_fromBoth_3 2 rfl rfl)
theorem dX1_fromBoth_76 : decode cX1_fromBoth 76 = .ok (.aload_n 1, 1) := dk_43 (dk_at dksX1_fromBoth_3 5 rfl rfl)
theorem dX1_fromBoth_77 : decode cX1_fromBoth 77 = .ok (.getfield 397, 3) := dk_180 1 141 (dk_at dksX1_fromBoth_3 6 rfl rfl)
theorem dX1_fromBoth_80 : decode cX1_fromBoth 80 = .ok (.iconst 2, 1) := dk_5 (dk_at dksX1_fromBoth_3 9 rfl rfl)
theorem dX1_fromBoth_81 : decode cX1_fromBoth 81 = .ok (.irem, 1) := dk_112 (dk_at dksX1_fromBoth_3 10 rfl rfl)
theorem dX1_fromBoth_82 : decode cX1_fromBoth 82 = .ok (.ifCond .ne 7, 3) := dk_154 0 7 (dk_at dksX1_fromBoth_3 11 rfl rfl)
theorem dX1_fromBoth_85 : decode cX1_fromBoth 85 = .ok (.aload_n 2, 1) := dk_44 (dk_at dksX1_fromBoth_3 14 rfl rfl)
theorem dX1_fromBoth_86 : decode cX1_fromBoth 86 = .ok (.goto 4, 3) := dk_167 0 4 (dk_at dksX1_fromBoth_3 15 rfl rfl)
theorem dX1_fromBoth_89 : decode cX1_fromBoth 89 = .ok (.aload_n 3, 1) := dk_45 (dk_at dksX1_fromBoth_3 18 rfl rfl)
theorem dX1_fromBoth_90 : decode cX1_fromBoth 90 = .ok (.astore 6, 2) := dk_58 6 (dk_at dksX1_fromBoth_3 19 rfl rfl)
theorem dX1_fromBoth_92 : decode cX1_fromBoth 92 = .ok (.aload 6, 2) := dk_25 6 (dk_at dksX1_fromBoth_3 21 rfl rfl)
theorem dX1_fromBoth_94 : decode cX1_fromBoth 94 = .ok (.aload_n 0, 1) := dk_42 (dk_at dksX1_fromBoth_3 23 rfl rfl)
theorem dX1_fromBoth_95 : decode cX1_fromBoth 95 = .ok (.getfield 60, 3) := dk_180 0 60 (dk_at dksX1_fromBoth_4 0 rfl rfl)
theorem dX1_fromBoth_98 : decode cX1_fromBoth 98 = .ok (.aload_n 1, 1) := dk_43 (dk_at dksX1_fromBoth_4 3 rfl rfl)
theorem dX1_fromBoth_99 : decode cX1_fromBoth 99 = .ok (.getfield 344, 3) := dk_180 1 88 (dk_at dksX1_fromBoth_4 4 rfl rfl)
theorem dX1_fromBoth_102 : decode cX1_fromBoth 102 = .ok (.isub, 1) := dk_100 (dk_at dksX1_fromBoth_4 7 rfl rfl)
theorem dX1_fromBoth_103 : decode cX1_fromBoth 103 = .ok (.invokevirtual 400, 3) := dk_182 1 144 (dk_at dksX1_fromBoth_4 8 rfl rfl)
theorem dX1_fromBoth_106 : decode cX1_fromBoth 106 = .ok (.istore 7, 2) := dk_54 7 (dk_at dksX1_fromBoth_4 11 rfl rfl)
theorem dX1_fromBoth_108 : decode cX1_fromBoth 108 = .ok (.aload_n 1, 1) := dk_43 (dk_at dksX1_fromBoth_4 13 rfl rfl)
theorem dX1_fromBoth_109 : decode cX1_fromBoth 109 = .ok (.dup, 1) := dk_89 (dk_at dksX1_fromBoth_4 14 rfl rfl)
theorem dX1_fromBoth_110 : decode cX1_fromBoth 110 = .ok (.getfield 344, 3) := dk_180 1 88 (dk_at dksX1_fromBoth_4 15 rfl rfl)
theorem dX1_fromBoth_113 : decode cX1_fromBoth 113 = .ok (.iload 7, 2) := dk_21 7 (dk_at dksX1_fromBoth_4 18 rfl rfl)
theorem dX1_fromBoth_115 : decode cX1_fromBoth 115 = .ok (.iadd, 1) := dk_96 (dk_at dksX1_fromBoth_4 20 rfl rfl)
theorem dX1_fromBoth_116 : decode cX1_fromBoth 116 = .ok (.putfield 344, 3) := dk_181 1 88 (dk_at dksX1_fromBoth_4 21 rfl rfl)
theorem dX1_fromBoth_119 : decode cX1_fromBoth 119 = .ok (.iload 7, 2) := dk_21 7 (dk_at dksX1_fromBoth_5 0 rfl rfl)
theorem dX1_fromBoth_121 : decode cX1_fromBoth 121 = .ok (.ifCond .le 7, 3) := dk_158 0 7 (dk_at dksX1_fromBoth_5 2 rfl rfl)
theorem dX1_fromBoth_124 : decode cX1_fromBoth 124 = .ok (.iconst 1, 1) := dk_4 (dk_at dksX1_fromBoth_5 5 rfl rfl)
theorem dX1_fromBoth_125 : decode cX1_fromBoth 125 = .ok (.goto 4, 3) := dk_167 0 4 (dk_at dksX1_fromBoth_5 6 rfl rfl)
theorem dX1_fromBoth_128 : decode cX1_fromBoth 128 = .ok (.iconst 0, 1) := dk_3 (dk_at dksX1_fromBoth_5 9 rfl rfl)
theorem dX1_fromBoth_129 : decode cX1_fromBoth 129 = .ok (.istore 5, 2) := dk_54 5 (dk_at dksX1_fromBoth_5 10 rfl rfl)
theorem dX1_fromBoth_131 : decode cX1_fromBoth 131 = .ok (.aload_n 1, 1) := dk_43 (dk_at dksX1_fromBoth_5 12 rfl rfl)
theorem dX1_fromBoth_132 : decode cX1_fromBoth 132 = .ok (.dup, 1) := dk_89 (dk_at dksX1_fromBoth_5 13 rfl rfl)
theorem dX1_fromBoth_133 : decode cX1_fromBoth 133 = .ok (.getfield 397, 3) := dk_180 1 141 (dk_at dksX1_fromBoth_5 14 rfl rfl)
theorem dX1_fromBoth_136 : decode cX1_fromBoth 136 = .ok (.iload 5, 2) := dk_21 5 (dk_at dksX1_fromBoth_5 17 rfl rfl)
theorem dX1_fromBoth_138 : decode cX1_fromBoth 138 = .ok (.ifCond .eq 7, 3) := dk_153 0 7 (dk_at dksX1_fromBoth_5 19 rfl rfl)
theorem dX1_fromBoth_141 : decode cX1_fromBoth 141 = .ok (.iconst 1, 1) := dk_4 (dk_at dksX1_fromBoth_5 22 rfl rfl)
theorem dX1_fromBoth_142 : decode cX1_fromBoth 142 = .ok (.goto 4, 3) := dk_167 0 4 (dk_at dksX1_fromBoth_6 0 rfl rfl)
theorem dX1_fromBoth_145 : decode cX1_fromBoth 145 = .ok (.iconst 0, 1) := dk_3 (dk_at dksX1_fromBoth_6 3 rfl rfl)
theorem dX1_fromBoth_146 : decode cX1_fromBoth 146 = .ok (.iadd, 1) := dk_96 (dk_at dksX1_fromBoth_6 4 rfl rfl)
theorem dX1_fromBoth_147 : decode cX1_fromBoth 147 = .ok (.putfield 397, 3) := dk_181 1 141 (dk_at dksX1_fromBoth_6 5 rfl rfl)
theorem dX1_fromBoth_150 : decode cX1_fromBoth 150 = .ok (.iload 5, 2) := dk_21 5 (dk_at dksX1_fromBoth_6 8 rfl rfl)
theorem dX1_fromBoth_152 : decode cX1_fromBoth 152 = .ok (.ifCond .eq 26, 3) := dk_153 0 26 (dk_at dksX1_fromBoth_6 10 rfl rfl)
theorem dX1_fromBoth_155 : decode cX1_fromBoth 155 = .ok (.aload 6, 2) := dk_25 6 (dk_at dksX1_fromBoth_6 13 rfl rfl)
theorem dX1_fromBoth_157 : decode cX1_fromBoth 157 = .ok (.aload 6, 2) := dk_25 6 (dk_at dksX1_fromBoth_6 15 rfl rfl)
theorem dX1_fromBoth_159 : decode cX1_fromBoth 159 = .ok (.aload_n 2, 1) := dk_44 (dk_at dksX1_fromBoth_6 17 rfl rfl)
theorem dX1_fromBoth_160 : decode cX1_fromBoth 160 = .ok (.if_acmp .ne 7, 3) := dk_166 0 7 (dk_at dksX1_fromBoth_6 18 rfl rfl)
theorem dX1_fromBoth_163 : decode cX1_fromBoth 163 = .ok (.aload_n 3, 1) := dk_45 (dk_at dksX1_fromBoth_6 21 rfl rfl)
theorem dX1_fromBoth_164 : decode cX1_fromBoth 164 = .ok (.goto 4, 3) := dk_167 0 4 (dk_at dksX1_fromBoth_7 0 rfl rfl)
theorem dX1_fromBoth_167 : decode cX1_fromBoth 167 = .ok (.aload_n 2, 1) := dk_44 (dk_at dksX1_fromBoth_7 3 rfl rfl)
theorem dX1_fromBoth_168 : decode cX1_fromBoth 168 = .ok (.invokevirtual 393, 3) := dk_182 1 137 (dk_at dksX1_fromBoth_7 4 rfl rfl)
theorem dX1_fromBoth_171 : decode cX1_fromBoth 171 = .ok (.ifCond .eq 7, 3) := dk_153 0 7 (dk_at dksX1_fromBoth_7 7 rfl rfl)
theorem dX1_fromBoth_174 : decode cX1_fromBoth 174 = .ok (.iconst 1, 1) := dk_4 (dk_at dksX1_fromBoth_7 10 rfl rfl)
theorem dX1_fromBoth_175 : decode cX1_fromBoth 175 = .ok (.goto 4, 3) := dk_167 0 4 (dk_at dksX1_fromBoth_7 11 rfl rfl)
theorem dX1_fromBoth_178 : decode cX1_fromBoth 178 = .ok (.iconst 0, 1) := dk_3 (dk_at dksX1_fromBoth_7 14 rfl rfl)
theorem dX1_fromBoth_179 : decode cX1_fromBoth 179 = .ok (.istore 4, 2) := dk_54 4 (dk_at dksX1_fromBoth_7 15 rfl rfl)
theorem dX1_fromBoth_181 : decode cX1_fromBoth 181 = .ok (.goto (-115), 3) := dk_167 255 141 (dk_at dksX1_fromBoth_7 17 rfl rfl)
theorem dX1_fromBoth_184 : decode cX1_fromBoth 184 = .ok (.aload_n 1, 1) := dk_43 (dk_at dksX1_fromBoth_7 20 rfl rfl)
theorem dX1_fromBoth_185 : decode cX1_fromBoth 185 = .ok (.iload 4, 2) := dk_21 4 (dk_at dksX1_fromBoth_7 21 rfl rfl)
theorem dX1_fromBoth_187 : decode cX1_fromBoth 187 = .ok (.ifCond .eq 10, 3) := dk_153 0 10 (dk_at dksX1_fromBoth_8 0 rfl rfl)
theorem dX1_fromBoth_190 : decode cX1_fromBoth 190 = .ok (.aload_n 1, 1) := dk_43 (dk_at dksX1_fromBoth_8 3 rfl rfl)
theorem dX1_fromBoth_191 : decode cX1_fromBoth 191 = .ok (.getfield 397, 3) := dk_180 1 141 (dk_at dksX1_fromBoth_8 4 rfl rfl)
theorem dX1_fromBoth_194 : decode cX1_fromBoth 194 = .ok (.goto 4, 3) := dk_167 0 4 (dk_at dksX1_fromBoth_8 7 rfl rfl)
theorem dX1_fromBoth_197 : decode cX1_fromBoth 197 = .ok (.iconst (-1), 1) := dk_2 (dk_at dksX1_fromBoth_8 10 rfl rfl)
theorem dX1_fromBoth_198 : decode cX1_fromBoth 198 = .ok (.putfield 358, 3) := dk_181 1 102 (dk_at dksX1_fromBoth_8 11 rfl rfl)
theorem dX1_fromBoth_201 : decode cX1_fromBoth 201 = .ok (.aload_n 1, 1) := dk_43 (dk_at dksX1_fromBoth_8 14 rfl rfl)
theorem dX1_fromBoth_202 : decode cX1_fromBoth 202 = .ok (.areturn, 1) := dk_176 (dk_at dksX1_fromBoth_8 15 rfl rfl)
abbrev cX1_searched : ByteArray := prog_1_method_40_code
def yX1_searched : MethodName := ⟨RX1, "searched", "(I)I"⟩
def dkwX1_searched_2 : List UInt8 := [42, 180, 0, 67, 180, 1, 107, 185, 0, 160, 1, 0, 172]
abbrev dktX1_searched_2 : List UInt8 := dkwX1_searched_2 ++ []
def dkwX1_searched_1 : List UInt8 := [180, 0, 67, 180, 1, 88, 167, 0, 30, 27, 4, 160, 0, 13, 42, 180, 0, 67, 180, 1, 141, 167, 0, 15]
abbrev dktX1_searched_1 : List UInt8 := dkwX1_searched_1 ++ dktX1_searched_2
def dkwX1_searched_0 : List UInt8 := [27, 155, 0, 12, 27, 5, 163, 0, 7, 4, 167, 0, 4, 3, 184, 0, 96, 27, 154, 0, 13, 42]
abbrev dktX1_searched_0 : List UInt8 := dkwX1_searched_0 ++ dktX1_searched_1
theorem dksX1_searched_0 : cX1_searched.data.toList.drop 0 = dktX1_searched_0 := by decide +kernel
theorem dksX1_searched_1 : cX1_searched.data.toList.drop 22 = dktX1_searched_1 := dk_seg dksX1_searched_0 22 rfl rfl
theorem dksX1_searched_2 : cX1_searched.data.toList.drop 46 = dktX1_searched_2 := dk_seg dksX1_searched_1 24 rfl rfl
theorem dX1_searched_0 : decode cX1_searched 0 = .ok (.iload_n 1, 1) := dk_27 (dk_at dksX1_searched_0 0 rfl rfl)
theorem dX1_searched_1 : decode cX1_searched 1 = .ok (.ifCond .lt 12, 3) := dk_155 0 12 (dk_at dksX1_searched_0 1 rfl rfl)
theorem dX1_searched_4 : decode cX1_searched 4 = .ok (.iload_n 1, 1) := dk_27 (dk_at dksX1_searched_0 4 rfl rfl)
theorem dX1_searched_5 : decode cX1_searched 5 = .ok (.iconst 2, 1) := dk_5 (dk_at dksX1_searched_0 5 rfl rfl)
theorem dX1_searched_6 : decode cX1_searched 6 = .ok (.if_icmp .gt 7, 3) := dk_163 0 7 (dk_at dksX1_searched_0 6 rfl rfl)
theorem dX1_searched_9 : decode cX1_searched 9 = .ok (.iconst 1, 1) := dk_4 (dk_at dksX1_searched_0 9 rfl rfl)
theorem dX1_searched_10 : decode cX1_searched 10 = .ok (.goto 4, 3) := dk_167 0 4 (dk_at dksX1_searched_0 10 rfl rfl)
theorem dX1_searched_13 : decode cX1_searched 13 = .ok (.iconst 0, 1) := dk_3 (dk_at dksX1_searched_0 13 rfl rfl)
theorem dX1_searched_14 : decode cX1_searched 14 = .ok (.invokestatic 96, 3) := dk_184 0 96 (dk_at dksX1_searched_0 14 rfl rfl)
theorem dX1_searched_17 : decode cX1_searched 17 = .ok (.iload_n 1, 1) := dk_27 (dk_at dksX1_searched_0 17 rfl rfl)
theorem dX1_searched_18 : decode cX1_searched 18 = .ok (.ifCond .ne 13, 3) := dk_154 0 13 (dk_at dksX1_searched_0 18 rfl rfl)
theorem dX1_searched_21 : decode cX1_searched 21 = .ok (.aload_n 0, 1) := dk_42 (dk_at dksX1_searched_0 21 rfl rfl)
theorem dX1_searched_22 : decode cX1_searched 22 = .ok (.getfield 67, 3) := dk_180 0 67 (dk_at dksX1_searched_1 0 rfl rfl)
theorem dX1_searched_25 : decode cX1_searched 25 = .ok (.getfield 344, 3) := dk_180 1 88 (dk_at dksX1_searched_1 3 rfl rfl)
theorem dX1_searched_28 : decode cX1_searched 28 = .ok (.goto 30, 3) := dk_167 0 30 (dk_at dksX1_searched_1 6 rfl rfl)
theorem dX1_searched_31 : decode cX1_searched 31 = .ok (.iload_n 1, 1) := dk_27 (dk_at dksX1_searched_1 9 rfl rfl)
theorem dX1_searched_32 : decode cX1_searched 32 = .ok (.iconst 1, 1) := dk_4 (dk_at dksX1_searched_1 10 rfl rfl)
theorem dX1_searched_33 : decode cX1_searched 33 = .ok (.if_icmp .ne 13, 3) := dk_160 0 13 (dk_at dksX1_searched_1 11 rfl rfl)
theorem dX1_searched_36 : decode cX1_searched 36 = .ok (.aload_n 0, 1) := dk_42 (dk_at dksX1_searched_1 14 rfl rfl)
theorem dX1_searched_37 : decode cX1_searched 37 = .ok (.getfield 67, 3) := dk_180 0 67 (dk_at dksX1_searched_1 15 rfl rfl)
theorem dX1_searched_40 : decode cX1_searched 40 = .ok (.getfield 397, 3) := dk_180 1 141 (dk_at dksX1_searched_1 18 rfl rfl)
theorem dX1_searched_43 : decode cX1_searched 43 = .ok (.goto 15, 3) := dk_167 0 15 (dk_at dksX1_searched_1 21 rfl rfl)
theorem dX1_searched_46 : decode cX1_searched 46 = .ok (.aload_n 0, 1) := dk_42 (dk_at dksX1_searched_2 0 rfl rfl)
theorem dX1_searched_47 : decode cX1_searched 47 = .ok (.getfield 67, 3) := dk_180 0 67 (dk_at dksX1_searched_2 1 rfl rfl)
theorem dX1_searched_50 : decode cX1_searched 50 = .ok (.getfield 363, 3) := dk_180 1 107 (dk_at dksX1_searched_2 4 rfl rfl)
theorem dX1_searched_53 : decode cX1_searched 53 = .ok (.invokeinterface 160 1, 5) := by decide +kernel
theorem dX1_searched_58 : decode cX1_searched 58 = .ok (.ireturn, 1) := dk_172 (dk_at dksX1_searched_2 12 rfl rfl)
abbrev cX1_wayAt : ByteArray := prog_1_method_41_code
def yX1_wayAt : MethodName := ⟨RX1, "wayAt", "(I)I"⟩
def dkwX1_wayAt_1 : List UInt8 := [191, 42, 180, 0, 71, 27, 185, 0, 137, 2, 0, 192, 0, 105, 182, 0, 141, 172]
abbrev dktX1_wayAt_1 : List UInt8 := dkwX1_wayAt_1 ++ []
def dkwX1_wayAt_0 : List UInt8 := [27, 155, 0, 16, 27, 42, 180, 0, 71, 185, 0, 160, 1, 0, 161, 0, 11, 187, 0, 229, 89, 183, 0, 231]
abbrev dktX1_wayAt_0 : List UInt8 := dkwX1_wayAt_0 ++ dktX1_wayAt_1
theorem dksX1_wayAt_0 : cX1_wayAt.data.toList.drop 0 = dktX1_wayAt_0 := by decide +kernel
theorem dksX1_wayAt_1 : cX1_wayAt.data.toList.drop 24 = dktX1_wayAt_1 := dk_seg dksX1_wayAt_0 24 rfl rfl
theorem dX1_wayAt_0 : decode cX1_wayAt 0 = .ok (.iload_n 1, 1) := dk_27 (dk_at dksX1_wayAt_0 0 rfl rfl)
theorem dX1_wayAt_1 : decode cX1_wayAt 1 = .ok (.ifCond .lt 16, 3) := dk_155 0 16 (dk_at dksX1_wayAt_0 1 rfl rfl)
theorem dX1_wayAt_4 : decode cX1_wayAt 4 = .ok (.iload_n 1, 1) := dk_27 (dk_at dksX1_wayAt_0 4 rfl rfl)
theorem dX1_wayAt_5 : decode cX1_wayAt 5 = .ok (.aload_n 0, 1) := dk_42 (dk_at dksX1_wayAt_0 5 rfl rfl)
theorem dX1_wayAt_6 : decode cX1_wayAt 6 = .ok (.getfield 71, 3) := dk_180 0 71 (dk_at dksX1_wayAt_0 6 rfl rfl)
theorem dX1_wayAt_9 : decode cX1_wayAt 9 = .ok (.invokeinterface 160 1, 5) := by decide +kernel
theorem dX1_wayAt_14 : decode cX1_wayAt 14 = .ok (.if_icmp .lt 11, 3) := dk_161 0 11 (dk_at dksX1_wayAt_0 14 rfl rfl)
theorem dX1_wayAt_17 : decode cX1_wayAt 17 = .ok (.new 229, 3) := dk_187 0 229 (dk_at dksX1_wayAt_0 17 rfl rfl)
theorem dX1_wayAt_20 : decode cX1_wayAt 20 = .ok (.dup, 1) := dk_89 (dk_at dksX1_wayAt_0 20 rfl rfl)
theorem dX1_wayAt_21 : decode cX1_wayAt 21 = .ok (.invokespecial 231, 3) := dk_183 0 231 (dk_at dksX1_wayAt_0 21 rfl rfl)
theorem dX1_wayAt_24 : decode cX1_wayAt 24 = .ok (.athrow, 1) := dk_191 (dk_at dksX1_wayAt_1 0 rfl rfl)
theorem dX1_wayAt_25 : decode cX1_wayAt 25 = .ok (.aload_n 0, 1) := dk_42 (dk_at dksX1_wayAt_1 1 rfl rfl)
theorem dX1_wayAt_26 : decode cX1_wayAt 26 = .ok (.getfield 71, 3) := dk_180 0 71 (dk_at dksX1_wayAt_1 2 rfl rfl)
theorem dX1_wayAt_29 : decode cX1_wayAt 29 = .ok (.iload_n 1, 1) := dk_27 (dk_at dksX1_wayAt_1 5 rfl rfl)
theorem dX1_wayAt_30 : decode cX1_wayAt 30 = .ok (.invokeinterface 137 2, 5) := by decide +kernel
theorem dX1_wayAt_35 : decode cX1_wayAt 35 = .ok (.checkcast 105, 3) := dk_192 0 105 (dk_at dksX1_wayAt_1 11 rfl rfl)
theorem dX1_wayAt_38 : decode cX1_wayAt 38 = .ok (.invokevirtual 141, 3) := dk_182 0 141 (dk_at dksX1_wayAt_1 14 rfl rfl)
theorem dX1_wayAt_41 : decode cX1_wayAt 41 = .ok (.ireturn, 1) := dk_172 (dk_at dksX1_wayAt_1 17 rfl rfl)
abbrev cX1_hint : ByteArray := prog_1_method_43_code
def yX1_hint : MethodName := ⟨RX1, "hint", "()I"⟩
def dkwX1_hint_0 : List UInt8 := [42, 182, 1, 151, 172, 76, 187, 0, 93, 89, 183, 0, 95, 191]
abbrev dktX1_hint_0 : List UInt8 := dkwX1_hint_0 ++ []
theorem dksX1_hint_0 : cX1_hint.data.toList.drop 0 = dktX1_hint_0 := by decide +kernel
theorem dX1_hint_0 : decode cX1_hint 0 = .ok (.aload_n 0, 1) := dk_42 (dk_at dksX1_hint_0 0 rfl rfl)
theorem dX1_hint_1 : decode cX1_hint 1 = .ok (.invokevirtual 407, 3) := dk_182 1 151 (dk_at dksX1_hint_0 1 rfl rfl)
theorem dX1_hint_4 : decode cX1_hint 4 = .ok (.ireturn, 1) := dk_172 (dk_at dksX1_hint_0 4 rfl rfl)
theorem dX1_hint_5 : decode cX1_hint 5 = .ok (.astore_n 1, 1) := dk_76 (dk_at dksX1_hint_0 5 rfl rfl)
theorem dX1_hint_6 : decode cX1_hint 6 = .ok (.new 93, 3) := dk_187 0 93 (dk_at dksX1_hint_0 6 rfl rfl)
theorem dX1_hint_9 : decode cX1_hint 9 = .ok (.dup, 1) := dk_89 (dk_at dksX1_hint_0 9 rfl rfl)
theorem dX1_hint_10 : decode cX1_hint 10 = .ok (.invokespecial 95, 3) := dk_183 0 95 (dk_at dksX1_hint_0 10 rfl rfl)
theorem dX1_hint_13 : decode cX1_hint 13 = .ok (.athrow, 1) := dk_191 (dk_at dksX1_hint_0 13 rfl rfl)
abbrev cX1_firstMove : ByteArray := prog_1_method_42_code
def yX1_firstMove : MethodName := ⟨RX1, "firstMove", "()I"⟩
def dkwX1_firstMove_3 : List UInt8 := [180, 0, 33, 180, 0, 188, 29, 46, 96, 27, 160, 0, 5, 28, 172, 132, 2, 1, 167, 255, 187, 2, 172]
abbrev dktX1_firstMove_3 : List UInt8 := dkwX1_firstMove_3 ++ []
def dkwX1_firstMove_2 : List UInt8 := [182, 0, 161, 6, 16, 100, 182, 1, 117, 180, 1, 102, 54, 4, 21, 4, 2, 159, 0, 21, 21, 4, 42]
abbrev dktX1_firstMove_2 : List UInt8 := dkwX1_firstMove_2 ++ dktX1_firstMove_3
def dkwX1_firstMove_1 : List UInt8 := [158, 0, 66, 42, 180, 0, 24, 28, 182, 0, 152, 62, 29, 158, 0, 47, 42, 42, 180, 0, 24, 28]
abbrev dktX1_firstMove_1 : List UInt8 := dkwX1_firstMove_1 ++ dktX1_firstMove_2
def dkwX1_firstMove_0 : List UInt8 := [42, 42, 180, 0, 24, 6, 16, 100, 182, 1, 117, 180, 1, 102, 60, 3, 61, 28, 6, 163, 0, 70, 27]
abbrev dktX1_firstMove_0 : List UInt8 := dkwX1_firstMove_0 ++ dktX1_firstMove_1
theorem dksX1_firstMove_0 : cX1_firstMove.data.toList.drop 0 = dktX1_firstMove_0 := by decide +kernel
theorem dksX1_firstMove_1 : cX1_firstMove.data.toList.drop 23 = dktX1_firstMove_1 := dk_seg dksX1_firstMove_0 23 rfl rfl
theorem dksX1_firstMove_2 : cX1_firstMove.data.toList.drop 45 = dktX1_firstMove_2 := dk_seg dksX1_firstMove_1 22 rfl rfl
theorem dksX1_firstMove_3 : cX1_firstMove.data.toList.drop 68 = dktX1_firstMove_3 := dk_seg dksX1_firstMove_2 23 rfl rfl
theorem dX1_firstMove_0 : decode cX1_firstMove 0 = .ok (.aload_n 0, 1) := dk_42 (dk_at dksX1_firstMove_0 0 rfl rfl)
theorem dX1_firstMove_1 : decode cX1_firstMove 1 = .ok (.aload_n 0, 1) := dk_42 (dk_at dksX1_firstMove_0 1 rfl rfl)
theorem dX1_firstMove_2 : decode cX1_firstMove 2 = .ok (.getfield 24, 3) := dk_180 0 24 (dk_at dksX1_firstMove_0 2 rfl rfl)
theorem dX1_firstMove_5 : decode cX1_firstMove 5 = .ok (.iconst 3, 1) := dk_6 (dk_at dksX1_firstMove_0 5 rfl rfl)
theorem dX1_firstMove_6 : decode cX1_firstMove 6 = .ok (.bipush 100, 2) := dk_16 100 (dk_at dksX1_firstMove_0 6 rfl rfl)
theorem dX1_firstMove_8 : decode cX1_firstMove 8 = .ok (.invokevirtual 373, 3) := dk_182 1 117 (dk_at dksX1_firstMove_0 8 rfl rfl)
theorem dX1_firstMove_11 : decode cX1_firstMove 11 = .ok (.getfield 358, 3) := dk_180 1 102 (dk_at dksX1_firstMove_0 11 rfl rfl)
theorem dX1_firstMove_14 : decode cX1_firstMove 14 = .ok (.istore_n 1, 1) := dk_60 (dk_at dksX1_firstMove_0 14 rfl rfl)
theorem dX1_firstMove_15 : decode cX1_firstMove 15 = .ok (.iconst 0, 1) := dk_3 (dk_at dksX1_firstMove_0 15 rfl rfl)
theorem dX1_firstMove_16 : decode cX1_firstMove 16 = .ok (.istore_n 2, 1) := dk_61 (dk_at dksX1_firstMove_0 16 rfl rfl)
theorem dX1_firstMove_17 : decode cX1_firstMove 17 = .ok (.iload_n 2, 1) := dk_28 (dk_at dksX1_firstMove_0 17 rfl rfl)
theorem dX1_firstMove_18 : decode cX1_firstMove 18 = .ok (.iconst 3, 1) := dk_6 (dk_at dksX1_firstMove_0 18 rfl rfl)
theorem dX1_firstMove_19 : decode cX1_firstMove 19 = .ok (.if_icmp .gt 70, 3) := dk_163 0 70 (dk_at dksX1_firstMove_0 19 rfl rfl)
theorem dX1_firstMove_22 : decode cX1_firstMove 22 = .ok (.iload_n 1, 1) := dk_27 (dk_at dksX1_firstMove_0 22 rfl rfl)
theorem dX1_firstMove_23 : decode cX1_firstMove 23 = .ok (.ifCond .le 66, 3) := dk_158 0 66 (dk_at dksX1_firstMove_1 0 rfl rfl)
theorem dX1_firstMove_26 : decode cX1_firstMove 26 = .ok (.aload_n 0, 1) := dk_42 (dk_at dksX1_firstMove_1 3 rfl rfl)
theorem dX1_firstMove_27 : decode cX1_firstMove 27 = .ok (.getfield 24, 3) := dk_180 0 24 (dk_at dksX1_firstMove_1 4 rfl rfl)
theorem dX1_firstMove_30 : decode cX1_firstMove 30 = .ok (.iload_n 2, 1) := dk_28 (dk_at dksX1_firstMove_1 7 rfl rfl)
theorem dX1_firstMove_31 : decode cX1_firstMove 31 = .ok (.invokevirtual 152, 3) := dk_182 0 152 (dk_at dksX1_firstMove_1 8 rfl rfl)
theorem dX1_firstMove_34 : decode cX1_firstMove 34 = .ok (.istore_n 3, 1) := dk_62 (dk_at dksX1_firstMove_1 11 rfl rfl)
theorem dX1_firstMove_35 : decode cX1_firstMove 35 = .ok (.iload_n 3, 1) := dk_29 (dk_at dksX1_firstMove_1 12 rfl rfl)
theorem dX1_firstMove_36 : decode cX1_firstMove 36 = .ok (.ifCond .le 47, 3) := dk_158 0 47 (dk_at dksX1_firstMove_1 13 rfl rfl)
theorem dX1_firstMove_39 : decode cX1_firstMove 39 = .ok (.aload_n 0, 1) := dk_42 (dk_at dksX1_firstMove_1 16 rfl rfl)
theorem dX1_firstMove_40 : decode cX1_firstMove 40 = .ok (.aload_n 0, 1) := dk_42 (dk_at dksX1_firstMove_1 17 rfl rfl)
theorem dX1_firstMove_41 : decode cX1_firstMove 41 = .ok (.getfield 24, 3) := dk_180 0 24 (dk_at dksX1_firstMove_1 18 rfl rfl)
theorem dX1_firstMove_44 : decode cX1_firstMove 44 = .ok (.iload_n 2, 1) := dk_28 (dk_at dksX1_firstMove_1 21 rfl rfl)
theorem dX1_firstMove_45 : decode cX1_firstMove 45 = .ok (.invokevirtual 161, 3) := dk_182 0 161 (dk_at dksX1_firstMove_2 0 rfl rfl)
theorem dX1_firstMove_48 : decode cX1_firstMove 48 = .ok (.iconst 3, 1) := dk_6 (dk_at dksX1_firstMove_2 3 rfl rfl)
theorem dX1_firstMove_49 : decode cX1_firstMove 49 = .ok (.bipush 100, 2) := dk_16 100 (dk_at dksX1_firstMove_2 4 rfl rfl)
theorem dX1_firstMove_51 : decode cX1_firstMove 51 = .ok (.invokevirtual 373, 3) := dk_182 1 117 (dk_at dksX1_firstMove_2 6 rfl rfl)
theorem dX1_firstMove_54 : decode cX1_firstMove 54 = .ok (.getfield 358, 3) := dk_180 1 102 (dk_at dksX1_firstMove_2 9 rfl rfl)
theorem dX1_firstMove_57 : decode cX1_firstMove 57 = .ok (.istore 4, 2) := dk_54 4 (dk_at dksX1_firstMove_2 12 rfl rfl)
theorem dX1_firstMove_59 : decode cX1_firstMove 59 = .ok (.iload 4, 2) := dk_21 4 (dk_at dksX1_firstMove_2 14 rfl rfl)
theorem dX1_firstMove_61 : decode cX1_firstMove 61 = .ok (.iconst (-1), 1) := dk_2 (dk_at dksX1_firstMove_2 16 rfl rfl)
theorem dX1_firstMove_62 : decode cX1_firstMove 62 = .ok (.if_icmp .eq 21, 3) := dk_159 0 21 (dk_at dksX1_firstMove_2 17 rfl rfl)
theorem dX1_firstMove_65 : decode cX1_firstMove 65 = .ok (.iload 4, 2) := dk_21 4 (dk_at dksX1_firstMove_2 20 rfl rfl)
theorem dX1_firstMove_67 : decode cX1_firstMove 67 = .ok (.aload_n 0, 1) := dk_42 (dk_at dksX1_firstMove_2 22 rfl rfl)
theorem dX1_firstMove_68 : decode cX1_firstMove 68 = .ok (.getfield 33, 3) := dk_180 0 33 (dk_at dksX1_firstMove_3 0 rfl rfl)
theorem dX1_firstMove_71 : decode cX1_firstMove 71 = .ok (.getfield 188, 3) := dk_180 0 188 (dk_at dksX1_firstMove_3 3 rfl rfl)
theorem dX1_firstMove_74 : decode cX1_firstMove 74 = .ok (.iload_n 3, 1) := dk_29 (dk_at dksX1_firstMove_3 6 rfl rfl)
theorem dX1_firstMove_75 : decode cX1_firstMove 75 = .ok (.iaload, 1) := dk_46 (dk_at dksX1_firstMove_3 7 rfl rfl)
theorem dX1_firstMove_76 : decode cX1_firstMove 76 = .ok (.iadd, 1) := dk_96 (dk_at dksX1_firstMove_3 8 rfl rfl)
theorem dX1_firstMove_77 : decode cX1_firstMove 77 = .ok (.iload_n 1, 1) := dk_27 (dk_at dksX1_firstMove_3 9 rfl rfl)
theorem dX1_firstMove_78 : decode cX1_firstMove 78 = .ok (.if_icmp .ne 5, 3) := dk_160 0 5 (dk_at dksX1_firstMove_3 10 rfl rfl)
theorem dX1_firstMove_81 : decode cX1_firstMove 81 = .ok (.iload_n 2, 1) := dk_28 (dk_at dksX1_firstMove_3 13 rfl rfl)
theorem dX1_firstMove_82 : decode cX1_firstMove 82 = .ok (.ireturn, 1) := dk_172 (dk_at dksX1_firstMove_3 14 rfl rfl)
theorem dX1_firstMove_83 : decode cX1_firstMove 83 = .ok (.iinc 2 1, 3) := dk_132 2 1 (dk_at dksX1_firstMove_3 15 rfl rfl)
theorem dX1_firstMove_86 : decode cX1_firstMove 86 = .ok (.goto (-69), 3) := dk_167 255 187 (dk_at dksX1_firstMove_3 18 rfl rfl)
theorem dX1_firstMove_89 : decode cX1_firstMove 89 = .ok (.iconst (-1), 1) := dk_2 (dk_at dksX1_firstMove_3 21 rfl rfl)
theorem dX1_firstMove_90 : decode cX1_firstMove 90 = .ok (.ireturn, 1) := dk_172 (dk_at dksX1_firstMove_3 22 rfl rfl)
abbrev cX1_far : ByteArray := prog_1_method_45_code
def yX1_far : MethodName := ⟨RX1, "far", "(I)I"⟩
def dkwX1_far_6 : List UInt8 := [180, 1, 170, 29, 46, 167, 0, 9, 44, 180, 1, 173, 29, 46, 172]
abbrev dktX1_far_6 : List UInt8 := dkwX1_far_6 ++ []
def dkwX1_far_5 : List UInt8 := [19, 1, 159, 182, 1, 160, 167, 0, 30, 44, 44, 182, 1, 163, 3, 182, 1, 166, 167, 0, 18, 44]
abbrev dktX1_far_5 : List UInt8 := dkwX1_far_5 ++ dktX1_far_6
def dkwX1_far_4 : List UInt8 := [44, 3, 19, 1, 159, 182, 1, 160, 167, 0, 51, 44, 182, 1, 163, 167, 0, 44, 44, 44, 182, 1, 163]
abbrev dktX1_far_4 : List UInt8 := dkwX1_far_4 ++ dktX1_far_5
def dkwX1_far_3 : List UInt8 := [170, 0, 0, 0, 0, 0, 0, 89, 0, 0, 0, 0, 0, 0, 0, 4, 0, 0, 0, 36, 0, 0, 0, 47, 0, 0, 0, 54, 0, 0, 0, 68, 0, 0, 0, 80]
abbrev dktX1_far_3 : List UInt8 := dkwX1_far_3 ++ dktX1_far_4
def dkwX1_far_2 : List UInt8 := [180, 0, 24, 182, 0, 169, 136, 62, 27]
abbrev dktX1_far_2 : List UInt8 := dkwX1_far_2 ++ dktX1_far_3
def dkwX1_far_1 : List UInt8 := [16, 6, 163, 0, 7, 4, 167, 0, 4, 3, 184, 0, 199, 187, 1, 154, 89, 42, 183, 1, 156, 77, 42]
abbrev dktX1_far_1 : List UInt8 := dkwX1_far_1 ++ dktX1_far_2
def dkwX1_far_0 : List UInt8 := [27, 155, 0, 12, 27, 8, 163, 0, 7, 4, 167, 0, 4, 3, 184, 0, 96, 42, 180, 0, 12, 182, 0, 100]
abbrev dktX1_far_0 : List UInt8 := dkwX1_far_0 ++ dktX1_far_1
theorem dksX1_far_0 : cX1_far.data.toList.drop 0 = dktX1_far_0 := by decide +kernel
theorem dksX1_far_1 : cX1_far.data.toList.drop 24 = dktX1_far_1 := dk_seg dksX1_far_0 24 rfl rfl
theorem dksX1_far_2 : cX1_far.data.toList.drop 47 = dktX1_far_2 := dk_seg dksX1_far_1 23 rfl rfl
theorem dksX1_far_3 : cX1_far.data.toList.drop 56 = dktX1_far_3 := dk_seg dksX1_far_2 9 rfl rfl
theorem dksX1_far_4 : cX1_far.data.toList.drop 92 = dktX1_far_4 := dk_seg dksX1_far_3 36 rfl rfl
theorem dksX1_far_5 : cX1_far.data.toList.drop 115 = dktX1_far_5 := dk_seg dksX1_far_4 23 rfl rfl
theorem dksX1_far_6 : cX1_far.data.toList.drop 137 = dktX1_far_6 := dk_seg dksX1_far_5 22 rfl rfl
theorem dX1_far_0 : decode cX1_far 0 = .ok (.iload_n 1, 1) := dk_27 (dk_at dksX1_far_0 0 rfl rfl)
theorem dX1_far_1 : decode cX1_far 1 = .ok (.ifCond .lt 12, 3) := dk_155 0 12 (dk_at dksX1_far_0 1 rfl rfl)
theorem dX1_far_4 : decode cX1_far 4 = .ok (.iload_n 1, 1) := dk_27 (dk_at dksX1_far_0 4 rfl rfl)
theorem dX1_far_5 : decode cX1_far 5 = .ok (.iconst 5, 1) := dk_8 (dk_at dksX1_far_0 5 rfl rfl)
theorem dX1_far_6 : decode cX1_far 6 = .ok (.if_icmp .gt 7, 3) := dk_163 0 7 (dk_at dksX1_far_0 6 rfl rfl)
theorem dX1_far_9 : decode cX1_far 9 = .ok (.iconst 1, 1) := dk_4 (dk_at dksX1_far_0 9 rfl rfl)
theorem dX1_far_10 : decode cX1_far 10 = .ok (.goto 4, 3) := dk_167 0 4 (dk_at dksX1_far_0 10 rfl rfl)
theorem dX1_far_13 : decode cX1_far 13 = .ok (.iconst 0, 1) := dk_3 (dk_at dksX1_far_0 13 rfl rfl)
theorem dX1_far_14 : decode cX1_far 14 = .ok (.invokestatic 96, 3) := dk_184 0 96 (dk_at dksX1_far_0 14 rfl rfl)
theorem dX1_far_17 : decode cX1_far 17 = .ok (.aload_n 0, 1) := dk_42 (dk_at dksX1_far_0 17 rfl rfl)
theorem dX1_far_18 : decode cX1_far 18 = .ok (.getfield 12, 3) := dk_180 0 12 (dk_at dksX1_far_0 18 rfl rfl)
theorem dX1_far_21 : decode cX1_far 21 = .ok (.invokevirtual 100, 3) := dk_182 0 100 (dk_at dksX1_far_0 21 rfl rfl)
theorem dX1_far_24 : decode cX1_far 24 = .ok (.bipush 6, 2) := dk_16 6 (dk_at dksX1_far_1 0 rfl rfl)
theorem dX1_far_26 : decode cX1_far 26 = .ok (.if_icmp .gt 7, 3) := dk_163 0 7 (dk_at dksX1_far_1 2 rfl rfl)
theorem dX1_far_29 : decode cX1_far 29 = .ok (.iconst 1, 1) := dk_4 (dk_at dksX1_far_1 5 rfl rfl)
theorem dX1_far_30 : decode cX1_far 30 = .ok (.goto 4, 3) := dk_167 0 4 (dk_at dksX1_far_1 6 rfl rfl)
theorem dX1_far_33 : decode cX1_far 33 = .ok (.iconst 0, 1) := dk_3 (dk_at dksX1_far_1 9 rfl rfl)
theorem dX1_far_34 : decode cX1_far 34 = .ok (.invokestatic 199, 3) := dk_184 0 199 (dk_at dksX1_far_1 10 rfl rfl)
theorem dX1_far_37 : decode cX1_far 37 = .ok (.new 410, 3) := dk_187 1 154 (dk_at dksX1_far_1 13 rfl rfl)
theorem dX1_far_40 : decode cX1_far 40 = .ok (.dup, 1) := dk_89 (dk_at dksX1_far_1 16 rfl rfl)
theorem dX1_far_41 : decode cX1_far 41 = .ok (.aload_n 0, 1) := dk_42 (dk_at dksX1_far_1 17 rfl rfl)
theorem dX1_far_42 : decode cX1_far 42 = .ok (.invokespecial 412, 3) := dk_183 1 156 (dk_at dksX1_far_1 18 rfl rfl)
theorem dX1_far_45 : decode cX1_far 45 = .ok (.astore_n 2, 1) := dk_77 (dk_at dksX1_far_1 21 rfl rfl)
theorem dX1_far_46 : decode cX1_far 46 = .ok (.aload_n 0, 1) := dk_42 (dk_at dksX1_far_1 22 rfl rfl)
theorem dX1_far_47 : decode cX1_far 47 = .ok (.getfield 24, 3) := dk_180 0 24 (dk_at dksX1_far_2 0 rfl rfl)
theorem dX1_far_50 : decode cX1_far 50 = .ok (.invokevirtual 169, 3) := dk_182 0 169 (dk_at dksX1_far_2 3 rfl rfl)
theorem dX1_far_53 : decode cX1_far 53 = .ok (.l2i, 1) := dk_136 (dk_at dksX1_far_2 6 rfl rfl)
theorem dX1_far_54 : decode cX1_far 54 = .ok (.istore_n 3, 1) := dk_62 (dk_at dksX1_far_2 7 rfl rfl)
theorem dX1_far_55 : decode cX1_far 55 = .ok (.iload_n 1, 1) := dk_27 (dk_at dksX1_far_2 8 rfl rfl)
theorem dX1_far_56 : decode cX1_far 56 = .ok (.tableswitch 89 0 4 #[36, 47, 54, 68, 80], 36) := by decide +kernel
theorem dX1_far_92 : decode cX1_far 92 = .ok (.aload_n 2, 1) := dk_44 (dk_at dksX1_far_4 0 rfl rfl)
theorem dX1_far_93 : decode cX1_far 93 = .ok (.iconst 0, 1) := dk_3 (dk_at dksX1_far_4 1 rfl rfl)
theorem dX1_far_94 : decode cX1_far 94 = .ok (.ldc_w 415, 3) := dk_19 1 159 (dk_at dksX1_far_4 2 rfl rfl)
theorem dX1_far_97 : decode cX1_far 97 = .ok (.invokevirtual 416, 3) := dk_182 1 160 (dk_at dksX1_far_4 5 rfl rfl)
theorem dX1_far_100 : decode cX1_far 100 = .ok (.goto 51, 3) := dk_167 0 51 (dk_at dksX1_far_4 8 rfl rfl)
theorem dX1_far_103 : decode cX1_far 103 = .ok (.aload_n 2, 1) := dk_44 (dk_at dksX1_far_4 11 rfl rfl)
theorem dX1_far_104 : decode cX1_far 104 = .ok (.invokevirtual 419, 3) := dk_182 1 163 (dk_at dksX1_far_4 12 rfl rfl)
theorem dX1_far_107 : decode cX1_far 107 = .ok (.goto 44, 3) := dk_167 0 44 (dk_at dksX1_far_4 15 rfl rfl)
theorem dX1_far_110 : decode cX1_far 110 = .ok (.aload_n 2, 1) := dk_44 (dk_at dksX1_far_4 18 rfl rfl)
theorem dX1_far_111 : decode cX1_far 111 = .ok (.aload_n 2, 1) := dk_44 (dk_at dksX1_far_4 19 rfl rfl)
theorem dX1_far_112 : decode cX1_far 112 = .ok (.invokevirtual 419, 3) := dk_182 1 163 (dk_at dksX1_far_4 20 rfl rfl)
theorem dX1_far_115 : decode cX1_far 115 = .ok (.ldc_w 415, 3) := dk_19 1 159 (dk_at dksX1_far_5 0 rfl rfl)
theorem dX1_far_118 : decode cX1_far 118 = .ok (.invokevirtual 416, 3) := dk_182 1 160 (dk_at dksX1_far_5 3 rfl rfl)
theorem dX1_far_121 : decode cX1_far 121 = .ok (.goto 30, 3) := dk_167 0 30 (dk_at dksX1_far_5 6 rfl rfl)
theorem dX1_far_124 : decode cX1_far 124 = .ok (.aload_n 2, 1) := dk_44 (dk_at dksX1_far_5 9 rfl rfl)
theorem dX1_far_125 : decode cX1_far 125 = .ok (.aload_n 2, 1) := dk_44 (dk_at dksX1_far_5 10 rfl rfl)
theorem dX1_far_126 : decode cX1_far 126 = .ok (.invokevirtual 419, 3) := dk_182 1 163 (dk_at dksX1_far_5 11 rfl rfl)
theorem dX1_far_129 : decode cX1_far 129 = .ok (.iconst 0, 1) := dk_3 (dk_at dksX1_far_5 14 rfl rfl)
theorem dX1_far_130 : decode cX1_far 130 = .ok (.invokevirtual 422, 3) := dk_182 1 166 (dk_at dksX1_far_5 15 rfl rfl)
theorem dX1_far_133 : decode cX1_far 133 = .ok (.goto 18, 3) := dk_167 0 18 (dk_at dksX1_far_5 18 rfl rfl)
theorem dX1_far_136 : decode cX1_far 136 = .ok (.aload_n 2, 1) := dk_44 (dk_at dksX1_far_5 21 rfl rfl)
theorem dX1_far_137 : decode cX1_far 137 = .ok (.getfield 426, 3) := dk_180 1 170 (dk_at dksX1_far_6 0 rfl rfl)
theorem dX1_far_140 : decode cX1_far 140 = .ok (.iload_n 3, 1) := dk_29 (dk_at dksX1_far_6 3 rfl rfl)
theorem dX1_far_141 : decode cX1_far 141 = .ok (.iaload, 1) := dk_46 (dk_at dksX1_far_6 4 rfl rfl)
theorem dX1_far_142 : decode cX1_far 142 = .ok (.goto 9, 3) := dk_167 0 9 (dk_at dksX1_far_6 5 rfl rfl)
theorem dX1_far_145 : decode cX1_far 145 = .ok (.aload_n 2, 1) := dk_44 (dk_at dksX1_far_6 8 rfl rfl)
theorem dX1_far_146 : decode cX1_far 146 = .ok (.getfield 429, 3) := dk_180 1 173 (dk_at dksX1_far_6 9 rfl rfl)
theorem dX1_far_149 : decode cX1_far 149 = .ok (.iload_n 3, 1) := dk_29 (dk_at dksX1_far_6 12 rfl rfl)
theorem dX1_far_150 : decode cX1_far 150 = .ok (.iaload, 1) := dk_46 (dk_at dksX1_far_6 13 rfl rfl)
theorem dX1_far_151 : decode cX1_far 151 = .ok (.ireturn, 1) := dk_172 (dk_at dksX1_far_6 14 rfl rfl)
abbrev cX1_onlyWay : ByteArray := prog_1_method_46_code
def yX1_onlyWay : MethodName := ⟨RX1, "onlyWay", "(I)I"⟩
def dkwX1_onlyWay_1 : List UInt8 := [4, 167, 0, 4, 3, 184, 0, 199, 187, 1, 154, 89, 42, 183, 1, 156, 27, 4, 182, 1, 166, 172]
abbrev dktX1_onlyWay_1 : List UInt8 := dkwX1_onlyWay_1 ++ []
def dkwX1_onlyWay_0 : List UInt8 := [27, 155, 0, 7, 4, 167, 0, 4, 3, 184, 0, 96, 42, 180, 0, 12, 182, 0, 100, 16, 6, 163, 0, 7]
abbrev dktX1_onlyWay_0 : List UInt8 := dkwX1_onlyWay_0 ++ dktX1_onlyWay_1
theorem dksX1_onlyWay_0 : cX1_onlyWay.data.toList.drop 0 = dktX1_onlyWay_0 := by decide +kernel
theorem dksX1_onlyWay_1 : cX1_onlyWay.data.toList.drop 24 = dktX1_onlyWay_1 := dk_seg dksX1_onlyWay_0 24 rfl rfl
theorem dX1_onlyWay_0 : decode cX1_onlyWay 0 = .ok (.iload_n 1, 1) := dk_27 (dk_at dksX1_onlyWay_0 0 rfl rfl)
theorem dX1_onlyWay_1 : decode cX1_onlyWay 1 = .ok (.ifCond .lt 7, 3) := dk_155 0 7 (dk_at dksX1_onlyWay_0 1 rfl rfl)
theorem dX1_onlyWay_4 : decode cX1_onlyWay 4 = .ok (.iconst 1, 1) := dk_4 (dk_at dksX1_onlyWay_0 4 rfl rfl)
theorem dX1_onlyWay_5 : decode cX1_onlyWay 5 = .ok (.goto 4, 3) := dk_167 0 4 (dk_at dksX1_onlyWay_0 5 rfl rfl)
theorem dX1_onlyWay_8 : decode cX1_onlyWay 8 = .ok (.iconst 0, 1) := dk_3 (dk_at dksX1_onlyWay_0 8 rfl rfl)
theorem dX1_onlyWay_9 : decode cX1_onlyWay 9 = .ok (.invokestatic 96, 3) := dk_184 0 96 (dk_at dksX1_onlyWay_0 9 rfl rfl)
theorem dX1_onlyWay_12 : decode cX1_onlyWay 12 = .ok (.aload_n 0, 1) := dk_42 (dk_at dksX1_onlyWay_0 12 rfl rfl)
theorem dX1_onlyWay_13 : decode cX1_onlyWay 13 = .ok (.getfield 12, 3) := dk_180 0 12 (dk_at dksX1_onlyWay_0 13 rfl rfl)
theorem dX1_onlyWay_16 : decode cX1_onlyWay 16 = .ok (.invokevirtual 100, 3) := dk_182 0 100 (dk_at dksX1_onlyWay_0 16 rfl rfl)
theorem dX1_onlyWay_19 : decode cX1_onlyWay 19 = .ok (.bipush 6, 2) := dk_16 6 (dk_at dksX1_onlyWay_0 19 rfl rfl)
theorem dX1_onlyWay_21 : decode cX1_onlyWay 21 = .ok (.if_icmp .gt 7, 3) := dk_163 0 7 (dk_at dksX1_onlyWay_0 21 rfl rfl)
theorem dX1_onlyWay_24 : decode cX1_onlyWay 24 = .ok (.iconst 1, 1) := dk_4 (dk_at dksX1_onlyWay_1 0 rfl rfl)
theorem dX1_onlyWay_25 : decode cX1_onlyWay 25 = .ok (.goto 4, 3) := dk_167 0 4 (dk_at dksX1_onlyWay_1 1 rfl rfl)
theorem dX1_onlyWay_28 : decode cX1_onlyWay 28 = .ok (.iconst 0, 1) := dk_3 (dk_at dksX1_onlyWay_1 4 rfl rfl)
theorem dX1_onlyWay_29 : decode cX1_onlyWay 29 = .ok (.invokestatic 199, 3) := dk_184 0 199 (dk_at dksX1_onlyWay_1 5 rfl rfl)
theorem dX1_onlyWay_32 : decode cX1_onlyWay 32 = .ok (.new 410, 3) := dk_187 1 154 (dk_at dksX1_onlyWay_1 8 rfl rfl)
theorem dX1_onlyWay_35 : decode cX1_onlyWay 35 = .ok (.dup, 1) := dk_89 (dk_at dksX1_onlyWay_1 11 rfl rfl)
theorem dX1_onlyWay_36 : decode cX1_onlyWay 36 = .ok (.aload_n 0, 1) := dk_42 (dk_at dksX1_onlyWay_1 12 rfl rfl)
theorem dX1_onlyWay_37 : decode cX1_onlyWay 37 = .ok (.invokespecial 412, 3) := dk_183 1 156 (dk_at dksX1_onlyWay_1 13 rfl rfl)
theorem dX1_onlyWay_40 : decode cX1_onlyWay 40 = .ok (.iload_n 1, 1) := dk_27 (dk_at dksX1_onlyWay_1 16 rfl rfl)
theorem dX1_onlyWay_41 : decode cX1_onlyWay 41 = .ok (.iconst 1, 1) := dk_4 (dk_at dksX1_onlyWay_1 17 rfl rfl)
theorem dX1_onlyWay_42 : decode cX1_onlyWay 42 = .ok (.invokevirtual 422, 3) := dk_182 1 166 (dk_at dksX1_onlyWay_1 18 rfl rfl)
theorem dX1_onlyWay_45 : decode cX1_onlyWay 45 = .ok (.ireturn, 1) := dk_172 (dk_at dksX1_onlyWay_1 21 rfl rfl)
abbrev cX1_isFair : ByteArray := prog_1_method_47_code
def yX1_isFair : MethodName := ⟨RX1, "isFair", "(I)Z"⟩
def dkwX1_isFair_1 : List UInt8 := [187, 1, 154, 89, 42, 183, 1, 156, 27, 182, 1, 175, 172]
abbrev dktX1_isFair_1 : List UInt8 := dkwX1_isFair_1 ++ []
def dkwX1_isFair_0 : List UInt8 := [27, 184, 1, 48, 42, 180, 0, 12, 182, 0, 100, 16, 6, 163, 0, 7, 4, 167, 0, 4, 3, 184, 0, 199]
abbrev dktX1_isFair_0 : List UInt8 := dkwX1_isFair_0 ++ dktX1_isFair_1
theorem dksX1_isFair_0 : cX1_isFair.data.toList.drop 0 = dktX1_isFair_0 := by decide +kernel
theorem dksX1_isFair_1 : cX1_isFair.data.toList.drop 24 = dktX1_isFair_1 := dk_seg dksX1_isFair_0 24 rfl rfl
theorem dX1_isFair_0 : decode cX1_isFair 0 = .ok (.iload_n 1, 1) := dk_27 (dk_at dksX1_isFair_0 0 rfl rfl)
theorem dX1_isFair_1 : decode cX1_isFair 1 = .ok (.invokestatic 304, 3) := dk_184 1 48 (dk_at dksX1_isFair_0 1 rfl rfl)
theorem dX1_isFair_4 : decode cX1_isFair 4 = .ok (.aload_n 0, 1) := dk_42 (dk_at dksX1_isFair_0 4 rfl rfl)
theorem dX1_isFair_5 : decode cX1_isFair 5 = .ok (.getfield 12, 3) := dk_180 0 12 (dk_at dksX1_isFair_0 5 rfl rfl)
theorem dX1_isFair_8 : decode cX1_isFair 8 = .ok (.invokevirtual 100, 3) := dk_182 0 100 (dk_at dksX1_isFair_0 8 rfl rfl)
theorem dX1_isFair_11 : decode cX1_isFair 11 = .ok (.bipush 6, 2) := dk_16 6 (dk_at dksX1_isFair_0 11 rfl rfl)
theorem dX1_isFair_13 : decode cX1_isFair 13 = .ok (.if_icmp .gt 7, 3) := dk_163 0 7 (dk_at dksX1_isFair_0 13 rfl rfl)
theorem dX1_isFair_16 : decode cX1_isFair 16 = .ok (.iconst 1, 1) := dk_4 (dk_at dksX1_isFair_0 16 rfl rfl)
theorem dX1_isFair_17 : decode cX1_isFair 17 = .ok (.goto 4, 3) := dk_167 0 4 (dk_at dksX1_isFair_0 17 rfl rfl)
theorem dX1_isFair_20 : decode cX1_isFair 20 = .ok (.iconst 0, 1) := dk_3 (dk_at dksX1_isFair_0 20 rfl rfl)
theorem dX1_isFair_21 : decode cX1_isFair 21 = .ok (.invokestatic 199, 3) := dk_184 0 199 (dk_at dksX1_isFair_0 21 rfl rfl)
theorem dX1_isFair_24 : decode cX1_isFair 24 = .ok (.new 410, 3) := dk_187 1 154 (dk_at dksX1_isFair_1 0 rfl rfl)
theorem dX1_isFair_27 : decode cX1_isFair 27 = .ok (.dup, 1) := dk_89 (dk_at dksX1_isFair_1 3 rfl rfl)
theorem dX1_isFair_28 : decode cX1_isFair 28 = .ok (.aload_n 0, 1) := dk_42 (dk_at dksX1_isFair_1 4 rfl rfl)
theorem dX1_isFair_29 : decode cX1_isFair 29 = .ok (.invokespecial 412, 3) := dk_183 1 156 (dk_at dksX1_isFair_1 5 rfl rfl)
theorem dX1_isFair_32 : decode cX1_isFair 32 = .ok (.iload_n 1, 1) := dk_27 (dk_at dksX1_isFair_1 8 rfl rfl)
theorem dX1_isFair_33 : decode cX1_isFair 33 = .ok (.invokevirtual 431, 3) := dk_182 1 175 (dk_at dksX1_isFair_1 9 rfl rfl)
theorem dX1_isFair_36 : decode cX1_isFair 36 = .ok (.ireturn, 1) := dk_172 (dk_at dksX1_isFair_1 12 rfl rfl)
abbrev cX1_part : ByteArray := prog_1_method_48_code
def yX1_part : MethodName := ⟨RX1, "part", "(I)I"⟩
def dkwX1_part_8 : List UInt8 := [45, 185, 0, 81, 2, 0, 87, 45, 180, 1, 184, 172]
abbrev dktX1_part_8 : List UInt8 := dkwX1_part_8 ++ []
def dkwX1_part_7 : List UInt8 := [3, 184, 0, 199, 167, 255, 218, 187, 1, 37, 89, 42, 180, 0, 33, 27, 183, 1, 181, 78, 42, 180, 0, 40]
abbrev dktX1_part_7 : List UInt8 := dkwX1_part_7 ++ dktX1_part_8
def dkwX1_part_6 : List UInt8 := [185, 0, 127, 1, 0, 192, 1, 37, 58, 4, 25, 4, 180, 1, 178, 27, 126, 154, 0, 7, 4, 167, 0, 4]
abbrev dktX1_part_6 : List UInt8 := dkwX1_part_6 ++ dktX1_part_7
def dkwX1_part_5 : List UInt8 := [42, 180, 0, 40, 185, 0, 118, 1, 0, 78, 45, 185, 0, 122, 1, 0, 153, 0, 35, 45]
abbrev dktX1_part_5 : List UInt8 := dkwX1_part_5 ++ dktX1_part_6
def dkwX1_part_4 : List UInt8 := [5, 162, 0, 19, 42, 180, 0, 12, 182, 0, 100, 16, 9, 163, 0, 7, 4, 167, 0, 4, 3, 184, 0, 199]
abbrev dktX1_part_4 : List UInt8 := dkwX1_part_4 ++ dktX1_part_5
def dkwX1_part_3 : List UInt8 := [167, 0, 4, 3, 61, 132, 3, 1, 167, 255, 213, 28, 184, 0, 96, 42, 180, 0, 40, 185, 0, 160, 1, 0]
abbrev dktX1_part_3 : List UInt8 := dkwX1_part_3 ++ dktX1_part_4
def dkwX1_part_2 : List UInt8 := [153, 0, 26, 27, 29, 122, 4, 126, 153, 0, 14, 42, 180, 0, 33, 29, 182, 1, 2, 153, 0, 7, 4]
abbrev dktX1_part_2 : List UInt8 := dkwX1_part_2 ++ dktX1_part_3
def dkwX1_part_1 : List UInt8 := [163, 0, 7, 4, 167, 0, 4, 3, 61, 3, 62, 29, 42, 180, 0, 12, 182, 0, 100, 162, 0, 38, 28]
abbrev dktX1_part_1 : List UInt8 := dkwX1_part_1 ++ dktX1_part_2
def dkwX1_part_0 : List UInt8 := [27, 158, 0, 28, 27, 4, 42, 180, 0, 12, 182, 0, 100, 120, 162, 0, 15, 27, 184, 0, 104, 6]
abbrev dktX1_part_0 : List UInt8 := dkwX1_part_0 ++ dktX1_part_1
theorem dksX1_part_0 : cX1_part.data.toList.drop 0 = dktX1_part_0 := by decide +kernel
theorem dksX1_part_1 : cX1_part.data.toList.drop 22 = dktX1_part_1 := dk_seg dksX1_part_0 22 rfl rfl
theorem dksX1_part_2 : cX1_part.data.toList.drop 45 = dktX1_part_2 := dk_seg dksX1_part_1 23 rfl rfl
theorem dksX1_part_3 : cX1_part.data.toList.drop 68 = dktX1_part_3 := dk_seg dksX1_part_2 23 rfl rfl
theorem dksX1_part_4 : cX1_part.data.toList.drop 92 = dktX1_part_4 := dk_seg dksX1_part_3 24 rfl rfl
theorem dksX1_part_5 : cX1_part.data.toList.drop 116 = dktX1_part_5 := dk_seg dksX1_part_4 24 rfl rfl
theorem dksX1_part_6 : cX1_part.data.toList.drop 136 = dktX1_part_6 := dk_seg dksX1_part_5 20 rfl rfl
theorem dksX1_part_7 : cX1_part.data.toList.drop 160 = dktX1_part_7 := dk_seg dksX1_part_6 24 rfl rfl
theorem dksX1_part_8 : cX1_part.data.toList.drop 184 = dktX1_part_8 := dk_seg dksX1_part_7 24 rfl rfl
theorem dX1_part_0 : decode cX1_part 0 = .ok (.iload_n 1, 1) := dk_27 (dk_at dksX1_part_0 0 rfl rfl)
theorem dX1_part_1 : decode cX1_part 1 = .ok (.ifCond .le 28, 3) := dk_158 0 28 (dk_at dksX1_part_0 1 rfl rfl)
theorem dX1_part_4 : decode cX1_part 4 = .ok (.iload_n 1, 1) := dk_27 (dk_at dksX1_part_0 4 rfl rfl)
theorem dX1_part_5 : decode cX1_part 5 = .ok (.iconst 1, 1) := dk_4 (dk_at dksX1_part_0 5 rfl rfl)
theorem dX1_part_6 : decode cX1_part 6 = .ok (.aload_n 0, 1) := dk_42 (dk_at dksX1_part_0 6 rfl rfl)
theorem dX1_part_7 : decode cX1_part 7 = .ok (.getfield 12, 3) := dk_180 0 12 (dk_at dksX1_part_0 7 rfl rfl)
theorem dX1_part_10 : decode cX1_part 10 = .ok (.invokevirtual 100, 3) := dk_182 0 100 (dk_at dksX1_part_0 10 rfl rfl)
theorem dX1_part_13 : decode cX1_part 13 = .ok (.ishl, 1) := dk_120 (dk_at dksX1_part_0 13 rfl rfl)
theorem dX1_part_14 : decode cX1_part 14 = .ok (.if_icmp .ge 15, 3) := dk_162 0 15 (dk_at dksX1_part_0 14 rfl rfl)
theorem dX1_part_17 : decode cX1_part 17 = .ok (.iload_n 1, 1) := dk_27 (dk_at dksX1_part_0 17 rfl rfl)
theorem dX1_part_18 : decode cX1_part 18 = .ok (.invokestatic 104, 3) := dk_184 0 104 (dk_at dksX1_part_0 18 rfl rfl)
theorem dX1_part_21 : decode cX1_part 21 = .ok (.iconst 3, 1) := dk_6 (dk_at dksX1_part_0 21 rfl rfl)
theorem dX1_part_22 : decode cX1_part 22 = .ok (.if_icmp .gt 7, 3) := dk_163 0 7 (dk_at dksX1_part_1 0 rfl rfl)
theorem dX1_part_25 : decode cX1_part 25 = .ok (.iconst 1, 1) := dk_4 (dk_at dksX1_part_1 3 rfl rfl)
theorem dX1_part_26 : decode cX1_part 26 = .ok (.goto 4, 3) := dk_167 0 4 (dk_at dksX1_part_1 4 rfl rfl)
theorem dX1_part_29 : decode cX1_part 29 = .ok (.iconst 0, 1) := dk_3 (dk_at dksX1_part_1 7 rfl rfl)
theorem dX1_part_30 : decode cX1_part 30 = .ok (.istore_n 2, 1) := dk_61 (dk_at dksX1_part_1 8 rfl rfl)
theorem dX1_part_31 : decode cX1_part 31 = .ok (.iconst 0, 1) := dk_3 (dk_at dksX1_part_1 9 rfl rfl)
theorem dX1_part_32 : decode cX1_part 32 = .ok (.istore_n 3, 1) := dk_62 (dk_at dksX1_part_1 10 rfl rfl)
theorem dX1_part_33 : decode cX1_part 33 = .ok (.iload_n 3, 1) := dk_29 (dk_at dksX1_part_1 11 rfl rfl)
theorem dX1_part_34 : decode cX1_part 34 = .ok (.aload_n 0, 1) := dk_42 (dk_at dksX1_part_1 12 rfl rfl)
theorem dX1_part_35 : decode cX1_part 35 = .ok (.getfield 12, 3) := dk_180 0 12 (dk_at dksX1_part_1 13 rfl rfl)
theorem dX1_part_38 : decode cX1_part 38 = .ok (.invokevirtual 100, 3) := dk_182 0 100 (dk_at dksX1_part_1 16 rfl rfl)
theorem dX1_part_41 : decode cX1_part 41 = .ok (.if_icmp .ge 38, 3) := dk_162 0 38 (dk_at dksX1_part_1 19 rfl rfl)
theorem dX1_part_44 : decode cX1_part 44 = .ok (.iload_n 2, 1) := dk_28 (dk_at dksX1_part_1 22 rfl rfl)
theorem dX1_part_45 : decode cX1_part 45 = .ok (.ifCond .eq 26, 3) := dk_153 0 26 (dk_at dksX1_part_2 0 rfl rfl)
theorem dX1_part_48 : decode cX1_part 48 = .ok (.iload_n 1, 1) := dk_27 (dk_at dksX1_part_2 3 rfl rfl)
theorem dX1_part_49 : decode cX1_part 49 = .ok (.iload_n 3, 1) := dk_29 (dk_at dksX1_part_2 4 rfl rfl)
theorem dX1_part_50 : decode cX1_part 50 = .ok (.ishr, 1) := dk_122 (dk_at dksX1_part_2 5 rfl rfl)
theorem dX1_part_51 : decode cX1_part 51 = .ok (.iconst 1, 1) := dk_4 (dk_at dksX1_part_2 6 rfl rfl)
theorem dX1_part_52 : decode cX1_part 52 = .ok (.iand, 1) := dk_126 (dk_at dksX1_part_2 7 rfl rfl)
theorem dX1_part_53 : decode cX1_part 53 = .ok (.ifCond .eq 14, 3) := dk_153 0 14 (dk_at dksX1_part_2 8 rfl rfl)
theorem dX1_part_56 : decode cX1_part 56 = .ok (.aload_n 0, 1) := dk_42 (dk_at dksX1_part_2 11 rfl rfl)
theorem dX1_part_57 : decode cX1_part 57 = .ok (.getfield 33, 3) := dk_180 0 33 (dk_at dksX1_part_2 12 rfl rfl)
theorem dX1_part_60 : decode cX1_part 60 = .ok (.iload_n 3, 1) := dk_29 (dk_at dksX1_part_2 15 rfl rfl)
theorem dX1_part_61 : decode cX1_part 61 = .ok (.invokevirtual 258, 3) := dk_182 1 2 (dk_at dksX1_part_2 16 rfl rfl)
theorem dX1_part_64 : decode cX1_part 64 = .ok (.ifCond .eq 7, 3) := dk_153 0 7 (dk_at dksX1_part_2 19 rfl rfl)
theorem dX1_part_67 : decode cX1_part 67 = .ok (.iconst 1, 1) := dk_4 (dk_at dksX1_part_2 22 rfl rfl)
theorem dX1_part_68 : decode cX1_part 68 = .ok (.goto 4, 3) := dk_167 0 4 (dk_at dksX1_part_3 0 rfl rfl)
theorem dX1_part_71 : decode cX1_part 71 = .ok (.iconst 0, 1) := dk_3 (dk_at dksX1_part_3 3 rfl rfl)
theorem dX1_part_72 : decode cX1_part 72 = .ok (.istore_n 2, 1) := dk_61 (dk_at dksX1_part_3 4 rfl rfl)
theorem dX1_part_73 : decode cX1_part 73 = .ok (.iinc 3 1, 3) := dk_132 3 1 (dk_at dksX1_part_3 5 rfl rfl)
theorem dX1_part_76 : decode cX1_part 76 = .ok (.goto (-43), 3) := dk_167 255 213 (dk_at dksX1_part_3 8 rfl rfl)
theorem dX1_part_79 : decode cX1_part 79 = .ok (.iload_n 2, 1) := dk_28 (dk_at dksX1_part_3 11 rfl rfl)
theorem dX1_part_80 : decode cX1_part 80 = .ok (.invokestatic 96, 3) := dk_184 0 96 (dk_at dksX1_part_3 12 rfl rfl)
theorem dX1_part_83 : decode cX1_part 83 = .ok (.aload_n 0, 1) := dk_42 (dk_at dksX1_part_3 15 rfl rfl)
theorem dX1_part_84 : decode cX1_part 84 = .ok (.getfield 40, 3) := dk_180 0 40 (dk_at dksX1_part_3 16 rfl rfl)
theorem dX1_part_87 : decode cX1_part 87 = .ok (.invokeinterface 160 1, 5) := by decide +kernel
theorem dX1_part_92 : decode cX1_part 92 = .ok (.iconst 2, 1) := dk_5 (dk_at dksX1_part_4 0 rfl rfl)
theorem dX1_part_93 : decode cX1_part 93 = .ok (.if_icmp .ge 19, 3) := dk_162 0 19 (dk_at dksX1_part_4 1 rfl rfl)
theorem dX1_part_96 : decode cX1_part 96 = .ok (.aload_n 0, 1) := dk_42 (dk_at dksX1_part_4 4 rfl rfl)
theorem dX1_part_97 : decode cX1_part 97 = .ok (.getfield 12, 3) := dk_180 0 12 (dk_at dksX1_part_4 5 rfl rfl)
theorem dX1_part_100 : decode cX1_part 100 = .ok (.invokevirtual 100, 3) := dk_182 0 100 (dk_at dksX1_part_4 8 rfl rfl)
theorem dX1_part_103 : decode cX1_part 103 = .ok (.bipush 9, 2) := dk_16 9 (dk_at dksX1_part_4 11 rfl rfl)
theorem dX1_part_105 : decode cX1_part 105 = .ok (.if_icmp .gt 7, 3) := dk_163 0 7 (dk_at dksX1_part_4 13 rfl rfl)
theorem dX1_part_108 : decode cX1_part 108 = .ok (.iconst 1, 1) := dk_4 (dk_at dksX1_part_4 16 rfl rfl)
theorem dX1_part_109 : decode cX1_part 109 = .ok (.goto 4, 3) := dk_167 0 4 (dk_at dksX1_part_4 17 rfl rfl)
theorem dX1_part_112 : decode cX1_part 112 = .ok (.iconst 0, 1) := dk_3 (dk_at dksX1_part_4 20 rfl rfl)
theorem dX1_part_113 : decode cX1_part 113 = .ok (.invokestatic 199, 3) := dk_184 0 199 (dk_at dksX1_part_4 21 rfl rfl)
theorem dX1_part_116 : decode cX1_part 116 = .ok (.aload_n 0, 1) := dk_42 (dk_at dksX1_part_5 0 rfl rfl)
theorem dX1_part_117 : decode cX1_part 117 = .ok (.getfield 40, 3) := dk_180 0 40 (dk_at dksX1_part_5 1 rfl rfl)
theorem dX1_part_120 : decode cX1_part 120 = .ok (.invokeinterface 118 1, 5) := by decide +kernel
theorem dX1_part_125 : decode cX1_part 125 = .ok (.astore_n 3, 1) := dk_78 (dk_at dksX1_part_5 9 rfl rfl)
theorem dX1_part_126 : decode cX1_part 126 = .ok (.aload_n 3, 1) := dk_45 (dk_at dksX1_part_5 10 rfl rfl)
theorem dX1_part_127 : decode cX1_part 127 = .ok (.invokeinterface 122 1, 5) := by decide +kernel
theorem dX1_part_132 : decode cX1_part 132 = .ok (.ifCond .eq 35, 3) := dk_153 0 35 (dk_at dksX1_part_5 16 rfl rfl)
theorem dX1_part_135 : decode cX1_part 135 = .ok (.aload_n 3, 1) := dk_45 (dk_at dksX1_part_5 19 rfl rfl)
theorem dX1_part_136 : decode cX1_part 136 = .ok (.invokeinterface 127 1, 5) := by decide +kernel
theorem dX1_part_141 : decode cX1_part 141 = .ok (.checkcast 293, 3) := dk_192 1 37 (dk_at dksX1_part_6 5 rfl rfl)
theorem dX1_part_144 : decode cX1_part 144 = .ok (.astore 4, 2) := dk_58 4 (dk_at dksX1_part_6 8 rfl rfl)
theorem dX1_part_146 : decode cX1_part 146 = .ok (.aload 4, 2) := dk_25 4 (dk_at dksX1_part_6 10 rfl rfl)
theorem dX1_part_148 : decode cX1_part 148 = .ok (.getfield 434, 3) := dk_180 1 178 (dk_at dksX1_part_6 12 rfl rfl)
theorem dX1_part_151 : decode cX1_part 151 = .ok (.iload_n 1, 1) := dk_27 (dk_at dksX1_part_6 15 rfl rfl)
theorem dX1_part_152 : decode cX1_part 152 = .ok (.iand, 1) := dk_126 (dk_at dksX1_part_6 16 rfl rfl)
theorem dX1_part_153 : decode cX1_part 153 = .ok (.ifCond .ne 7, 3) := dk_154 0 7 (dk_at dksX1_part_6 17 rfl rfl)
theorem dX1_part_156 : decode cX1_part 156 = .ok (.iconst 1, 1) := dk_4 (dk_at dksX1_part_6 20 rfl rfl)
theorem dX1_part_157 : decode cX1_part 157 = .ok (.goto 4, 3) := dk_167 0 4 (dk_at dksX1_part_6 21 rfl rfl)
theorem dX1_part_160 : decode cX1_part 160 = .ok (.iconst 0, 1) := dk_3 (dk_at dksX1_part_7 0 rfl rfl)
theorem dX1_part_161 : decode cX1_part 161 = .ok (.invokestatic 199, 3) := dk_184 0 199 (dk_at dksX1_part_7 1 rfl rfl)
theorem dX1_part_164 : decode cX1_part 164 = .ok (.goto (-38), 3) := dk_167 255 218 (dk_at dksX1_part_7 4 rfl rfl)
theorem dX1_part_167 : decode cX1_part 167 = .ok (.new 293, 3) := dk_187 1 37 (dk_at dksX1_part_7 7 rfl rfl)
theorem dX1_part_170 : decode cX1_part 170 = .ok (.dup, 1) := dk_89 (dk_at dksX1_part_7 10 rfl rfl)
theorem dX1_part_171 : decode cX1_part 171 = .ok (.aload_n 0, 1) := dk_42 (dk_at dksX1_part_7 11 rfl rfl)
theorem dX1_part_172 : decode cX1_part 172 = .ok (.getfield 33, 3) := dk_180 0 33 (dk_at dksX1_part_7 12 rfl rfl)
theorem dX1_part_175 : decode cX1_part 175 = .ok (.iload_n 1, 1) := dk_27 (dk_at dksX1_part_7 15 rfl rfl)
theorem dX1_part_176 : decode cX1_part 176 = .ok (.invokespecial 437, 3) := dk_183 1 181 (dk_at dksX1_part_7 16 rfl rfl)
theorem dX1_part_179 : decode cX1_part 179 = .ok (.astore_n 3, 1) := dk_78 (dk_at dksX1_part_7 19 rfl rfl)
theorem dX1_part_180 : decode cX1_part 180 = .ok (.aload_n 0, 1) := dk_42 (dk_at dksX1_part_7 20 rfl rfl)
theorem dX1_part_181 : decode cX1_part 181 = .ok (.getfield 40, 3) := dk_180 0 40 (dk_at dksX1_part_7 21 rfl rfl)
theorem dX1_part_184 : decode cX1_part 184 = .ok (.aload_n 3, 1) := dk_45 (dk_at dksX1_part_8 0 rfl rfl)
theorem dX1_part_185 : decode cX1_part 185 = .ok (.invokeinterface 81 2, 5) := by decide +kernel
theorem dX1_part_190 : decode cX1_part 190 = .ok (.pop, 1) := dk_87 (dk_at dksX1_part_8 6 rfl rfl)
theorem dX1_part_191 : decode cX1_part 191 = .ok (.aload_n 3, 1) := dk_45 (dk_at dksX1_part_8 7 rfl rfl)
theorem dX1_part_192 : decode cX1_part 192 = .ok (.getfield 440, 3) := dk_180 1 184 (dk_at dksX1_part_8 8 rfl rfl)
theorem dX1_part_195 : decode cX1_part 195 = .ok (.ireturn, 1) := dk_172 (dk_at dksX1_part_8 11 rfl rfl)
theorem q102 : (Jvm.Cond.initialized "Slidingtray") ∈ lw_all := lw_g (lw_at lw_m1 1 rfl) rfl
theorem q162 : (Jvm.Cond.instantiable "Slidingtray" (12 : Nat)) ∈ lw_all := lw_g (lw_at lw_m1 61 rfl) rfl
theorem q164 : (Jvm.Cond.instanceMethod ({ cls := "Slidingtray", name := "<init>", desc := "()V" } : Jvm.MethodName)) ∈ lw_all := lw_g (lw_at lw_m1 63 rfl) rfl
theorem q165 : (Jvm.Cond.code ({ cls := "Slidingtray", name := "<init>", desc := "()V" } : Jvm.MethodName) prog_1_method_1_code (2 : Nat) (Option.none : Option Jvm.ClassFile.FieldType)) ∈ lw_all := lw_g (lw_at lw_m1 64 rfl) rfl
theorem q166 : (Jvm.Cond.methodLink "Slidingtray" (1 : Nat) ({ cls := "java/lang/Object", name := "<init>", desc := "()V" } : Jvm.MethodName)) ∈ lw_all := lw_g (lw_at lw_m1 65 rfl) rfl
theorem q169 : (Jvm.Cond.classLink "Slidingtray" (7 : Nat) "Slidingtray$Shape") ∈ lw_all := lw_g (lw_at lw_m1 68 rfl) rfl
theorem q171 : (Jvm.Cond.methodLink "Slidingtray" (9 : Nat) ({ cls := "Slidingtray$Shape", name := "<init>", desc := "(III)V" } : Jvm.MethodName)) ∈ lw_all := lw_g (lw_at lw_m1 70 rfl) rfl
theorem q286 : (Jvm.Cond.selects "Slidingtray" ({ cls := "java/lang/Object", name := "getClass", desc := "()Ljava/lang/Class;" } : Jvm.MethodName) ({ cls := "java/lang/Object", name := "getClass", desc := "()Ljava/lang/Class;" } : Jvm.MethodName)) ∈ lw_all := lw_g (lw_at lw_m1 185 rfl) rfl
theorem q741 : (Jvm.Cond.selects "Slidingtray" ({ cls := "java/lang/Object", name := "equals", desc := "(Ljava/lang/Object;)Z" } : Jvm.MethodName) ({ cls := "java/lang/Object", name := "equals", desc := "(Ljava/lang/Object;)Z" } : Jvm.MethodName)) ∈ lw_all := lw_g (lw_at lw_m3 160 rfl) rfl
theorem q988 : (Jvm.Cond.fieldLinkNest "Slidingtray" (238 : Nat) "Slidingtray$Shape" "rows" "I" "Slidingtray") ∈ lw_tbl := lw_at lw_m4 167 rfl
theorem q990 : (Jvm.Cond.fieldLinkNest "Slidingtray" (241 : Nat) "Slidingtray$Shape" "columns" "I" "Slidingtray") ∈ lw_tbl := lw_at lw_m4 169 rfl
theorem q992 : (Jvm.Cond.fieldLinkNest "Slidingtray" (131 : Nat) "Slidingtray$Shape" "cells" "Ljava/util/List;" "Slidingtray") ∈ lw_tbl := lw_at lw_m4 171 rfl
theorem q997 : (Jvm.Cond.fieldLinkNest "Slidingtray" (254 : Nat) "Slidingtray$Shape" "apart" "[[I" "Slidingtray") ∈ lw_tbl := lw_at lw_m4 176 rfl
theorem q999 : (Jvm.Cond.fieldLinkNest "Slidingtray" (283 : Nat) "Slidingtray$Shape" "walledRows" "Ljava/util/BitSet;" "Slidingtray") ∈ lw_tbl := lw_at lw_m4 178 rfl
theorem q1001 : (Jvm.Cond.fieldLinkNest "Slidingtray" (290 : Nat) "Slidingtray$Shape" "walledColumns" "Ljava/util/BitSet;" "Slidingtray") ∈ lw_tbl := lw_at lw_m4 180 rfl
theorem q1017 : (Jvm.Cond.methodLink "Slidingtray" (18 : Nat) ({ cls := "Slidingtray$Lie", name := "of", desc := "(LSlidingtray$Shape;J)LSlidingtray$Lie;" } : Jvm.MethodName)) ∈ lw_all := lw_g (lw_at lw_m4 196 rfl) rfl
theorem q1056 : (Jvm.Cond.fieldLinkNest "Slidingtray" (247 : Nat) "Slidingtray$Lie" "tiles" "[I" "Slidingtray") ∈ lw_tbl := lw_at lw_m4 235 rfl
theorem q1059 : (Jvm.Cond.fieldLinkNest "Slidingtray" (134 : Nat) "Slidingtray$Lie" "gap" "I" "Slidingtray") ∈ lw_tbl := lw_at lw_m4 238 rfl
theorem q1067 : (Jvm.Cond.classLink "Slidingtray" (28 : Nat) "Slidingtray$Aim") ∈ lw_all := lw_g (lw_at lw_m5 6 rfl) rfl
theorem q1069 : (Jvm.Cond.methodLink "Slidingtray" (30 : Nat) ({ cls := "Slidingtray$Aim", name := "<init>", desc := "(LSlidingtray$Lie;)V" } : Jvm.MethodName)) ∈ lw_all := lw_g (lw_at lw_m5 8 rfl) rfl
theorem q1077 : (Jvm.Cond.fieldLinkNest "Slidingtray" (232 : Nat) "Slidingtray$Aim" "lie" "LSlidingtray$Lie;" "Slidingtray") ∈ lw_tbl := lw_at lw_m5 16 rfl
theorem q1080 : (Jvm.Cond.fieldLinkNest "Slidingtray" (261 : Nat) "Slidingtray$Aim" "opens" "[I" "Slidingtray") ∈ lw_tbl := lw_at lw_m5 19 rfl
theorem q1082 : (Jvm.Cond.fieldLinkNest "Slidingtray" (175 : Nat) "Slidingtray$Aim" "free" "Ljava/util/BitSet;" "Slidingtray") ∈ lw_tbl := lw_at lw_m5 21 rfl
theorem q1087 : (Jvm.Cond.fieldLinkNest "Slidingtray" (188 : Nat) "Slidingtray$Aim" "weights" "[I" "Slidingtray") ∈ lw_tbl := lw_at lw_m5 26 rfl
theorem q1097 : (Jvm.Cond.classLink "Slidingtray" (37 : Nat) "java/util/ArrayList") ∈ lw_all := lw_g (lw_at lw_m5 36 rfl) rfl
theorem q1098 : (Jvm.Cond.methodLink "Slidingtray" (39 : Nat) ({ cls := "java/util/ArrayList", name := "<init>", desc := "()V" } : Jvm.MethodName)) ∈ lw_all := lw_g (lw_at lw_m5 37 rfl) rfl
theorem q1099 : (Jvm.Cond.classLink "Slidingtray" (44 : Nat) "java/util/ArrayDeque") ∈ lw_all := lw_g (lw_at lw_m5 38 rfl) rfl
theorem q1100 : (Jvm.Cond.methodLink "Slidingtray" (46 : Nat) ({ cls := "java/util/ArrayDeque", name := "<init>", desc := "()V" } : Jvm.MethodName)) ∈ lw_all := lw_g (lw_at lw_m5 39 rfl) rfl
theorem q1101 : (Jvm.Cond.classLink "Slidingtray" (54 : Nat) "Slidingtray$Image") ∈ lw_all := lw_g (lw_at lw_m5 40 rfl) rfl
theorem q1103 : (Jvm.Cond.classLink "Slidingtray" (64 : Nat) "Slidingtray$Found") ∈ lw_all := lw_g (lw_at lw_m5 42 rfl) rfl
theorem q1105 : (Jvm.Cond.methodLinkNest "Slidingtray" (66 : Nat) ({ cls := "Slidingtray$Found", name := "<init>", desc := "()V" } : Jvm.MethodName) "Slidingtray") ∈ lw_tbl := lw_at lw_m5 44 rfl
theorem q1113 : (Jvm.Cond.fieldLinkNest "Slidingtray" (358 : Nat) "Slidingtray$Found" "cost" "I" "Slidingtray") ∈ lw_tbl := lw_at lw_m5 52 rfl
theorem q1115 : (Jvm.Cond.fieldLinkNest "Slidingtray" (344 : Nat) "Slidingtray$Found" "taken" "I" "Slidingtray") ∈ lw_tbl := lw_at lw_m5 54 rfl
theorem q1117 : (Jvm.Cond.fieldLinkNest "Slidingtray" (397 : Nat) "Slidingtray$Found" "rounds" "I" "Slidingtray") ∈ lw_tbl := lw_at lw_m5 56 rfl
theorem q1120 : (Jvm.Cond.fieldLinkNest "Slidingtray" (363 : Nat) "Slidingtray$Found" "way" "Ljava/util/List;" "Slidingtray") ∈ lw_tbl := lw_at lw_m5 59 rfl
theorem q1130 : (Jvm.Cond.interfaceEntry "Slidingtray" (81 : Nat)) ∈ lw_tbl := lw_at lw_m5 69 rfl
theorem q1131 : (Jvm.Cond.methodLink "Slidingtray" (81 : Nat) ({ cls := "java/util/List", name := "add", desc := "(Ljava/lang/Object;)Z" } : Jvm.MethodName)) ∈ lw_all := lw_g (lw_at lw_m5 70 rfl) rfl
theorem q1132 : (Jvm.Cond.fieldLink "Slidingtray" (12 : Nat) "Slidingtray" "shape" "LSlidingtray$Shape;") ∈ lw_all := lw_g (lw_at lw_m5 71 rfl) rfl
theorem q1134 : (Jvm.Cond.fieldLink "Slidingtray" (24 : Nat) "Slidingtray" "lie" "LSlidingtray$Lie;") ∈ lw_all := lw_g (lw_at lw_m5 73 rfl) rfl
theorem q1135 : (Jvm.Cond.fieldLink "Slidingtray" (33 : Nat) "Slidingtray" "aim" "LSlidingtray$Aim;") ∈ lw_all := lw_g (lw_at lw_m5 74 rfl) rfl
theorem q1138 : (Jvm.Cond.fieldLink "Slidingtray" (40 : Nat) "Slidingtray" "parts" "Ljava/util/List;") ∈ lw_all := lw_g (lw_at lw_m5 77 rfl) rfl
theorem q1139 : (Jvm.Cond.fieldLink "Slidingtray" (47 : Nat) "Slidingtray" "made" "Ljava/util/ArrayDeque;") ∈ lw_all := lw_g (lw_at lw_m5 78 rfl) rfl
theorem q1140 : (Jvm.Cond.fieldLink "Slidingtray" (51 : Nat) "Slidingtray" "macros" "Ljava/util/List;") ∈ lw_all := lw_g (lw_at lw_m5 79 rfl) rfl
theorem q1141 : (Jvm.Cond.fieldLink "Slidingtray" (56 : Nat) "Slidingtray" "images" "[LSlidingtray$Image;") ∈ lw_all := lw_g (lw_at lw_m5 80 rfl) rfl
theorem q1142 : (Jvm.Cond.fieldLink "Slidingtray" (60 : Nat) "Slidingtray" "limit" "I") ∈ lw_all := lw_g (lw_at lw_m5 81 rfl) rfl
theorem q1144 : (Jvm.Cond.fieldLink "Slidingtray" (67 : Nat) "Slidingtray" "found" "LSlidingtray$Found;") ∈ lw_all := lw_g (lw_at lw_m5 83 rfl) rfl
theorem q1145 : (Jvm.Cond.fieldLink "Slidingtray" (71 : Nat) "Slidingtray" "way" "Ljava/util/List;") ∈ lw_all := lw_g (lw_at lw_m5 84 rfl) rfl
theorem q1146 : (Jvm.Cond.fieldLink "Slidingtray" (74 : Nat) "Slidingtray" "lineGoals" "[I") ∈ lw_all := lw_g (lw_at lw_m5 85 rfl) rfl
theorem q1147 : (Jvm.Cond.fieldLink "Slidingtray" (78 : Nat) "Slidingtray" "lineWeights" "[I") ∈ lw_all := lw_g (lw_at lw_m5 86 rfl) rfl
theorem q1148 : (Jvm.Cond.lays "Slidingtray" "Slidingtray" "shape" "LSlidingtray$Shape;") ∈ lw_all := lw_g (lw_at lw_m5 87 rfl) rfl
theorem q1149 : (Jvm.Cond.soleField "Slidingtray" "shape") ∈ lw_all := lw_g (lw_at lw_m5 88 rfl) rfl
theorem q1150 : (Jvm.Cond.lays "Slidingtray" "Slidingtray" "lie" "LSlidingtray$Lie;") ∈ lw_all := lw_g (lw_at lw_m5 89 rfl) rfl
theorem q1151 : (Jvm.Cond.soleField "Slidingtray" "lie") ∈ lw_all := lw_g (lw_at lw_m5 90 rfl) rfl
theorem q1152 : (Jvm.Cond.lays "Slidingtray" "Slidingtray" "aim" "LSlidingtray$Aim;") ∈ lw_all := lw_g (lw_at lw_m5 91 rfl) rfl
theorem q1153 : (Jvm.Cond.soleField "Slidingtray" "aim") ∈ lw_all := lw_g (lw_at lw_m5 92 rfl) rfl
theorem q1154 : (Jvm.Cond.laysFinal "Slidingtray" "Slidingtray" "parts" "Ljava/util/List;") ∈ lw_all := lw_g (lw_at lw_m5 93 rfl) rfl
theorem q1155 : (Jvm.Cond.soleField "Slidingtray" "parts") ∈ lw_all := lw_g (lw_at lw_m5 94 rfl) rfl
theorem q1156 : (Jvm.Cond.laysFinal "Slidingtray" "Slidingtray" "made" "Ljava/util/ArrayDeque;") ∈ lw_all := lw_g (lw_at lw_m5 95 rfl) rfl
theorem q1157 : (Jvm.Cond.soleField "Slidingtray" "made") ∈ lw_all := lw_g (lw_at lw_m5 96 rfl) rfl
theorem q1158 : (Jvm.Cond.laysFinal "Slidingtray" "Slidingtray" "macros" "Ljava/util/List;") ∈ lw_all := lw_g (lw_at lw_m5 97 rfl) rfl
theorem q1159 : (Jvm.Cond.soleField "Slidingtray" "macros") ∈ lw_all := lw_g (lw_at lw_m5 98 rfl) rfl
theorem q1160 : (Jvm.Cond.laysFinal "Slidingtray" "Slidingtray" "images" "[LSlidingtray$Image;") ∈ lw_all := lw_g (lw_at lw_m5 99 rfl) rfl
theorem q1161 : (Jvm.Cond.soleField "Slidingtray" "images") ∈ lw_all := lw_g (lw_at lw_m5 100 rfl) rfl
theorem q1162 : (Jvm.Cond.lays "Slidingtray" "Slidingtray" "limit" "I") ∈ lw_all := lw_g (lw_at lw_m5 101 rfl) rfl
theorem q1163 : (Jvm.Cond.soleField "Slidingtray" "limit") ∈ lw_all := lw_g (lw_at lw_m5 102 rfl) rfl
theorem q1164 : (Jvm.Cond.lays "Slidingtray" "Slidingtray" "found" "LSlidingtray$Found;") ∈ lw_all := lw_g (lw_at lw_m5 103 rfl) rfl
theorem q1165 : (Jvm.Cond.soleField "Slidingtray" "found") ∈ lw_all := lw_g (lw_at lw_m5 104 rfl) rfl
theorem q1166 : (Jvm.Cond.lays "Slidingtray" "Slidingtray" "way" "Ljava/util/List;") ∈ lw_all := lw_g (lw_at lw_m5 105 rfl) rfl
theorem q1167 : (Jvm.Cond.soleField "Slidingtray" "way") ∈ lw_all := lw_g (lw_at lw_m5 106 rfl) rfl
theorem q1168 : (Jvm.Cond.laysFinal "Slidingtray" "Slidingtray" "lineGoals" "[I") ∈ lw_all := lw_g (lw_at lw_m5 107 rfl) rfl
theorem q1169 : (Jvm.Cond.soleField "Slidingtray" "lineGoals") ∈ lw_all := lw_g (lw_at lw_m5 108 rfl) rfl
theorem q1170 : (Jvm.Cond.laysFinal "Slidingtray" "Slidingtray" "lineWeights" "[I") ∈ lw_all := lw_g (lw_at lw_m5 109 rfl) rfl
theorem q1171 : (Jvm.Cond.soleField "Slidingtray" "lineWeights") ∈ lw_all := lw_g (lw_at lw_m5 110 rfl) rfl
theorem q1172 : (Jvm.Cond.superclass "Slidingtray" "java/lang/Object") ∈ lw_all := lw_g (lw_at lw_m5 111 rfl) rfl
theorem q1174 : (Jvm.Cond.instanceMethod ({ cls := "Slidingtray", name := "setGoal", desc := "()J" } : Jvm.MethodName)) ∈ lw_all := lw_g (lw_at lw_m5 113 rfl) rfl
theorem q1175 : (Jvm.Cond.selects "Slidingtray" ({ cls := "Slidingtray", name := "setGoal", desc := "()J" } : Jvm.MethodName) ({ cls := "Slidingtray", name := "setGoal", desc := "()J" } : Jvm.MethodName)) ∈ lw_all := lw_g (lw_at lw_m5 114 rfl) rfl
theorem q1176 : (Jvm.Cond.code ({ cls := "Slidingtray", name := "setGoal", desc := "()J" } : Jvm.MethodName) prog_1_method_11_code (1 : Nat) (Option.some Jvm.ClassFile.FieldType.long)) ∈ lw_all := lw_g (lw_at lw_m5 115 rfl) rfl
theorem q1177 : (Jvm.Cond.methodLink "Slidingtray" (165 : Nat) ({ cls := "Slidingtray$Aim", name := "at", desc := "(LSlidingtray$Lie;)LSlidingtray$Aim;" } : Jvm.MethodName)) ∈ lw_all := lw_g (lw_at lw_m5 116 rfl) rfl
theorem q1189 : (Jvm.Cond.interfaceEntry "Slidingtray" (114 : Nat)) ∈ lw_tbl := lw_at lw_m5 128 rfl
theorem q1190 : (Jvm.Cond.methodLink "Slidingtray" (114 : Nat) ({ cls := "java/util/List", name := "clear", desc := "()V" } : Jvm.MethodName)) ∈ lw_all := lw_g (lw_at lw_m5 129 rfl) rfl
theorem q1198 : (Jvm.Cond.methodLink "Slidingtray" (169 : Nat) ({ cls := "Slidingtray$Lie", name := "rank", desc := "()J" } : Jvm.MethodName)) ∈ lw_all := lw_g (lw_at lw_m5 137 rfl) rfl
theorem q1211 : (Jvm.Cond.instanceMethod ({ cls := "Slidingtray", name := "rank", desc := "()J" } : Jvm.MethodName)) ∈ lw_all := lw_g (lw_at lw_m5 150 rfl) rfl
theorem q1212 : (Jvm.Cond.selects "Slidingtray" ({ cls := "Slidingtray", name := "rank", desc := "()J" } : Jvm.MethodName) ({ cls := "Slidingtray", name := "rank", desc := "()J" } : Jvm.MethodName)) ∈ lw_all := lw_g (lw_at lw_m5 151 rfl) rfl
theorem q1213 : (Jvm.Cond.code ({ cls := "Slidingtray", name := "rank", desc := "()J" } : Jvm.MethodName) prog_1_method_24_code (1 : Nat) (Option.some Jvm.ClassFile.FieldType.long)) ∈ lw_all := lw_g (lw_at lw_m5 152 rfl) rfl
theorem q1215 : (Jvm.Cond.instanceMethod ({ cls := "Slidingtray", name := "inversions", desc := "()I" } : Jvm.MethodName)) ∈ lw_all := lw_g (lw_at lw_m5 154 rfl) rfl
theorem q1216 : (Jvm.Cond.selects "Slidingtray" ({ cls := "Slidingtray", name := "inversions", desc := "()I" } : Jvm.MethodName) ({ cls := "Slidingtray", name := "inversions", desc := "()I" } : Jvm.MethodName)) ∈ lw_all := lw_g (lw_at lw_m5 155 rfl) rfl
theorem q1217 : (Jvm.Cond.code ({ cls := "Slidingtray", name := "inversions", desc := "()I" } : Jvm.MethodName) prog_1_method_25_code (1 : Nat) (Option.some Jvm.ClassFile.FieldType.int)) ∈ lw_all := lw_g (lw_at lw_m5 156 rfl) rfl
theorem q1218 : (Jvm.Cond.methodLink "Slidingtray" (250 : Nat) ({ cls := "Slidingtray$Lie", name := "inversions", desc := "()I" } : Jvm.MethodName)) ∈ lw_all := lw_g (lw_at lw_m5 157 rfl) rfl
theorem q1223 : (Jvm.Cond.instanceMethod ({ cls := "Slidingtray", name := "meanWeight", desc := "()D" } : Jvm.MethodName)) ∈ lw_all := lw_g (lw_at lw_m5 162 rfl) rfl
theorem q1224 : (Jvm.Cond.selects "Slidingtray" ({ cls := "Slidingtray", name := "meanWeight", desc := "()D" } : Jvm.MethodName) ({ cls := "Slidingtray", name := "meanWeight", desc := "()D" } : Jvm.MethodName)) ∈ lw_all := lw_g (lw_at lw_m5 163 rfl) rfl
theorem q1225 : (Jvm.Cond.code ({ cls := "Slidingtray", name := "meanWeight", desc := "()D" } : Jvm.MethodName) prog_1_method_49_code (3 : Nat) (Option.some Jvm.ClassFile.FieldType.double)) ∈ lw_all := lw_g (lw_at lw_m5 164 rfl) rfl
theorem q1226 : (Jvm.Cond.methodLink "Slidingtray" (100 : Nat) ({ cls := "Slidingtray$Shape", name := "size", desc := "()I" } : Jvm.MethodName)) ∈ lw_all := lw_g (lw_at lw_m5 165 rfl) rfl
theorem q1228 : (Jvm.Cond.instanceMethod ({ cls := "Slidingtray", name := "settled", desc := "()F" } : Jvm.MethodName)) ∈ lw_all := lw_g (lw_at lw_m5 167 rfl) rfl
theorem q1229 : (Jvm.Cond.selects "Slidingtray" ({ cls := "Slidingtray", name := "settled", desc := "()F" } : Jvm.MethodName) ({ cls := "Slidingtray", name := "settled", desc := "()F" } : Jvm.MethodName)) ∈ lw_all := lw_g (lw_at lw_m5 168 rfl) rfl
theorem q1230 : (Jvm.Cond.code ({ cls := "Slidingtray", name := "settled", desc := "()F" } : Jvm.MethodName) prog_1_method_50_code (5 : Nat) (Option.some Jvm.ClassFile.FieldType.float)) ∈ lw_all := lw_g (lw_at lw_m5 169 rfl) rfl
theorem q1231 : (Jvm.Cond.methodLink "Slidingtray" (258 : Nat) ({ cls := "Slidingtray$Aim", name := "counts", desc := "(I)Z" } : Jvm.MethodName)) ∈ lw_all := lw_g (lw_at lw_m5 170 rfl) rfl
theorem q1240 : (Jvm.Cond.instanceMethod ({ cls := "Slidingtray", name := "errors", desc := "()I" } : Jvm.MethodName)) ∈ lw_all := lw_g (lw_at lw_m5 179 rfl) rfl
theorem q1241 : (Jvm.Cond.selects "Slidingtray" ({ cls := "Slidingtray", name := "errors", desc := "()I" } : Jvm.MethodName) ({ cls := "Slidingtray", name := "errors", desc := "()I" } : Jvm.MethodName)) ∈ lw_all := lw_g (lw_at lw_m5 180 rfl) rfl
theorem q1242 : (Jvm.Cond.code ({ cls := "Slidingtray", name := "errors", desc := "()I" } : Jvm.MethodName) prog_1_method_54_code (3 : Nat) (Option.some Jvm.ClassFile.FieldType.int)) ∈ lw_all := lw_g (lw_at lw_m5 181 rfl) rfl
theorem q1243 : (Jvm.Cond.methodLink "Slidingtray" (446 : Nat) ({ cls := "Slidingtray", name := "isByRank", desc := "()Z" } : Jvm.MethodName)) ∈ lw_all := lw_g (lw_at lw_m5 182 rfl) rfl
theorem q1244 : (Jvm.Cond.privateMethod ({ cls := "Slidingtray", name := "isByRank", desc := "()Z" } : Jvm.MethodName)) ∈ lw_tbl := lw_at lw_m5 183 rfl
theorem q1245 : (Jvm.Cond.instanceMethod ({ cls := "Slidingtray", name := "isByRank", desc := "()Z" } : Jvm.MethodName)) ∈ lw_all := lw_g (lw_at lw_m5 184 rfl) rfl
theorem q1246 : (Jvm.Cond.code ({ cls := "Slidingtray", name := "isByRank", desc := "()Z" } : Jvm.MethodName) prog_1_method_51_code (1 : Nat) (Option.some Jvm.ClassFile.FieldType.boolean)) ∈ lw_all := lw_g (lw_at lw_m5 185 rfl) rfl
theorem q1247 : (Jvm.Cond.methodLink "Slidingtray" (443 : Nat) ({ cls := "Slidingtray$Lie", name := "equals", desc := "(Ljava/lang/Object;)Z" } : Jvm.MethodName)) ∈ lw_all := lw_g (lw_at lw_m5 186 rfl) rfl
theorem q1248 : (Jvm.Cond.methodLink "Slidingtray" (449 : Nat) ({ cls := "Slidingtray", name := "movesBack", desc := "()Z" } : Jvm.MethodName)) ∈ lw_all := lw_g (lw_at lw_m5 187 rfl) rfl
theorem q1249 : (Jvm.Cond.privateMethod ({ cls := "Slidingtray", name := "movesBack", desc := "()Z" } : Jvm.MethodName)) ∈ lw_tbl := lw_at lw_m5 188 rfl
theorem q1250 : (Jvm.Cond.instanceMethod ({ cls := "Slidingtray", name := "movesBack", desc := "()Z" } : Jvm.MethodName)) ∈ lw_all := lw_g (lw_at lw_m5 189 rfl) rfl
theorem q1251 : (Jvm.Cond.code ({ cls := "Slidingtray", name := "movesBack", desc := "()Z" } : Jvm.MethodName) prog_1_method_52_code (3 : Nat) (Option.some Jvm.ClassFile.FieldType.boolean)) ∈ lw_all := lw_g (lw_at lw_m5 190 rfl) rfl
theorem q1252 : (Jvm.Cond.methodLink "Slidingtray" (152 : Nat) ({ cls := "Slidingtray$Lie", name := "moves", desc := "(I)I" } : Jvm.MethodName)) ∈ lw_all := lw_g (lw_at lw_m5 191 rfl) rfl
theorem q1256 : (Jvm.Cond.methodLink "Slidingtray" (161 : Nat) ({ cls := "Slidingtray$Lie", name := "moved", desc := "(I)LSlidingtray$Lie;" } : Jvm.MethodName)) ∈ lw_all := lw_g (lw_at lw_m5 195 rfl) rfl
theorem q1260 : (Jvm.Cond.methodLink "Slidingtray" (452 : Nat) ({ cls := "Slidingtray", name := "fallsFair", desc := "(LSlidingtray$Lie;I)Z" } : Jvm.MethodName)) ∈ lw_all := lw_g (lw_at lw_m5 199 rfl) rfl
theorem q1261 : (Jvm.Cond.privateMethod ({ cls := "Slidingtray", name := "fallsFair", desc := "(LSlidingtray$Lie;I)Z" } : Jvm.MethodName)) ∈ lw_tbl := lw_at lw_m5 200 rfl
theorem q1262 : (Jvm.Cond.instanceMethod ({ cls := "Slidingtray", name := "fallsFair", desc := "(LSlidingtray$Lie;I)Z" } : Jvm.MethodName)) ∈ lw_all := lw_g (lw_at lw_m5 201 rfl) rfl
theorem q1263 : (Jvm.Cond.code ({ cls := "Slidingtray", name := "fallsFair", desc := "(LSlidingtray$Lie;I)Z" } : Jvm.MethodName) prog_1_method_44_code (7 : Nat) (Option.some Jvm.ClassFile.FieldType.boolean)) ∈ lw_all := lw_g (lw_at lw_m5 202 rfl) rfl
theorem q1264 : (Jvm.Cond.methodLink "Slidingtray" (307 : Nat) ({ cls := "Slidingtray", name := "estimateOf", desc := "(LSlidingtray$Lie;I)I" } : Jvm.MethodName)) ∈ lw_all := lw_g (lw_at lw_m5 203 rfl) rfl
theorem q1265 : (Jvm.Cond.privateMethod ({ cls := "Slidingtray", name := "estimateOf", desc := "(LSlidingtray$Lie;I)I" } : Jvm.MethodName)) ∈ lw_tbl := lw_at lw_m5 204 rfl
theorem q1266 : (Jvm.Cond.instanceMethod ({ cls := "Slidingtray", name := "estimateOf", desc := "(LSlidingtray$Lie;I)I" } : Jvm.MethodName)) ∈ lw_all := lw_g (lw_at lw_m5 205 rfl) rfl
theorem q1267 : (Jvm.Cond.code ({ cls := "Slidingtray", name := "estimateOf", desc := "(LSlidingtray$Lie;I)I" } : Jvm.MethodName) prog_1_method_32_code (6 : Nat) (Option.some Jvm.ClassFile.FieldType.int)) ∈ lw_all := lw_g (lw_at lw_m5 206 rfl) rfl
theorem q1268 : (Jvm.Cond.interfaceEntry "Slidingtray" (118 : Nat)) ∈ lw_tbl := lw_at lw_m5 207 rfl
theorem q1269 : (Jvm.Cond.methodLink "Slidingtray" (118 : Nat) ({ cls := "java/util/List", name := "iterator", desc := "()Ljava/util/Iterator;" } : Jvm.MethodName)) ∈ lw_all := lw_g (lw_at lw_m5 208 rfl) rfl
theorem q1296 : (Jvm.Cond.interfaceEntry "Slidingtray" (122 : Nat)) ∈ lw_tbl := lw_at lw_m5 235 rfl
theorem q1297 : (Jvm.Cond.methodLink "Slidingtray" (122 : Nat) ({ cls := "java/util/Iterator", name := "hasNext", desc := "()Z" } : Jvm.MethodName)) ∈ lw_all := lw_g (lw_at lw_m5 236 rfl) rfl
theorem q1325 : (Jvm.Cond.interfaceEntry "Slidingtray" (127 : Nat)) ∈ lw_tbl := lw_at lw_m6 24 rfl
theorem q1326 : (Jvm.Cond.methodLink "Slidingtray" (127 : Nat) ({ cls := "java/util/Iterator", name := "next", desc := "()Ljava/lang/Object;" } : Jvm.MethodName)) ∈ lw_all := lw_g (lw_at lw_m6 25 rfl) rfl
theorem q1378 : (Jvm.Cond.classLink "Slidingtray" (293 : Nat) "Slidingtray$Part") ∈ lw_all := lw_g (lw_at lw_m6 77 rfl) rfl
theorem q1379 : (Jvm.Cond.methodLink "Slidingtray" (295 : Nat) ({ cls := "Slidingtray$Part", name := "costOf", desc := "(LSlidingtray$Lie;)I" } : Jvm.MethodName)) ∈ lw_all := lw_g (lw_at lw_m6 78 rfl) rfl
theorem q1397 : (Jvm.Cond.methodLink "Slidingtray" (298 : Nat) ({ cls := "Slidingtray", name := "displaced", desc := "(LSlidingtray$Lie;)I" } : Jvm.MethodName)) ∈ lw_all := lw_g (lw_at lw_m6 96 rfl) rfl
theorem q1398 : (Jvm.Cond.privateMethod ({ cls := "Slidingtray", name := "displaced", desc := "(LSlidingtray$Lie;)I" } : Jvm.MethodName)) ∈ lw_tbl := lw_at lw_m6 97 rfl
theorem q1399 : (Jvm.Cond.instanceMethod ({ cls := "Slidingtray", name := "displaced", desc := "(LSlidingtray$Lie;)I" } : Jvm.MethodName)) ∈ lw_all := lw_g (lw_at lw_m6 98 rfl) rfl
theorem q1400 : (Jvm.Cond.code ({ cls := "Slidingtray", name := "displaced", desc := "(LSlidingtray$Lie;)I" } : Jvm.MethodName) prog_1_method_27_code (5 : Nat) (Option.some Jvm.ClassFile.FieldType.int)) ∈ lw_all := lw_g (lw_at lw_m6 99 rfl) rfl
theorem q1401 : (Jvm.Cond.methodLink "Slidingtray" (280 : Nat) ({ cls := "Slidingtray", name := "ways", desc := "(LSlidingtray$Lie;)I" } : Jvm.MethodName)) ∈ lw_all := lw_g (lw_at lw_m6 100 rfl) rfl
theorem q1402 : (Jvm.Cond.privateMethod ({ cls := "Slidingtray", name := "ways", desc := "(LSlidingtray$Lie;)I" } : Jvm.MethodName)) ∈ lw_tbl := lw_at lw_m6 101 rfl
theorem q1403 : (Jvm.Cond.instanceMethod ({ cls := "Slidingtray", name := "ways", desc := "(LSlidingtray$Lie;)I" } : Jvm.MethodName)) ∈ lw_all := lw_g (lw_at lw_m6 102 rfl) rfl
theorem q1404 : (Jvm.Cond.code ({ cls := "Slidingtray", name := "ways", desc := "(LSlidingtray$Lie;)I" } : Jvm.MethodName) prog_1_method_28_code (5 : Nat) (Option.some Jvm.ClassFile.FieldType.int)) ∈ lw_all := lw_g (lw_at lw_m6 103 rfl) rfl
theorem q1405 : (Jvm.Cond.methodLink "Slidingtray" (301 : Nat) ({ cls := "Slidingtray", name := "pairs", desc := "(LSlidingtray$Lie;)I" } : Jvm.MethodName)) ∈ lw_all := lw_g (lw_at lw_m6 104 rfl) rfl
theorem q1406 : (Jvm.Cond.privateMethod ({ cls := "Slidingtray", name := "pairs", desc := "(LSlidingtray$Lie;)I" } : Jvm.MethodName)) ∈ lw_tbl := lw_at lw_m6 105 rfl
theorem q1407 : (Jvm.Cond.instanceMethod ({ cls := "Slidingtray", name := "pairs", desc := "(LSlidingtray$Lie;)I" } : Jvm.MethodName)) ∈ lw_all := lw_g (lw_at lw_m6 106 rfl) rfl
theorem q1408 : (Jvm.Cond.code ({ cls := "Slidingtray", name := "pairs", desc := "(LSlidingtray$Lie;)I" } : Jvm.MethodName) prog_1_method_31_code (4 : Nat) (Option.some Jvm.ClassFile.FieldType.int)) ∈ lw_all := lw_g (lw_at lw_m6 107 rfl) rfl
theorem q1409 : (Jvm.Cond.methodLink "Slidingtray" (179 : Nat) ({ cls := "java/util/BitSet", name := "get", desc := "(I)Z" } : Jvm.MethodName)) ∈ lw_all := lw_g (lw_at lw_m6 108 rfl) rfl
theorem q1410 : (Jvm.Cond.methodLink "Slidingtray" (286 : Nat) ({ cls := "Slidingtray", name := "lineAdds", desc := "(LSlidingtray$Lie;IZ)I" } : Jvm.MethodName)) ∈ lw_all := lw_g (lw_at lw_m6 109 rfl) rfl
theorem q1411 : (Jvm.Cond.privateMethod ({ cls := "Slidingtray", name := "lineAdds", desc := "(LSlidingtray$Lie;IZ)I" } : Jvm.MethodName)) ∈ lw_tbl := lw_at lw_m6 110 rfl
theorem q1412 : (Jvm.Cond.instanceMethod ({ cls := "Slidingtray", name := "lineAdds", desc := "(LSlidingtray$Lie;IZ)I" } : Jvm.MethodName)) ∈ lw_all := lw_g (lw_at lw_m6 111 rfl) rfl
theorem q1413 : (Jvm.Cond.code ({ cls := "Slidingtray", name := "lineAdds", desc := "(LSlidingtray$Lie;IZ)I" } : Jvm.MethodName) prog_1_method_30_code (9 : Nat) (Option.some Jvm.ClassFile.FieldType.int)) ∈ lw_all := lw_g (lw_at lw_m6 112 rfl) rfl
theorem q1414 : (Jvm.Cond.methodLink "Slidingtray" (271 : Nat) ({ cls := "Slidingtray$Shape", name := "rowOf", desc := "(I)I" } : Jvm.MethodName)) ∈ lw_all := lw_g (lw_at lw_m6 113 rfl) rfl
theorem q1415 : (Jvm.Cond.methodLink "Slidingtray" (274 : Nat) ({ cls := "Slidingtray$Shape", name := "columnOf", desc := "(I)I" } : Jvm.MethodName)) ∈ lw_all := lw_g (lw_at lw_m6 114 rfl) rfl
theorem q1416 : (Jvm.Cond.methodLink "Slidingtray" (277 : Nat) ({ cls := "Slidingtray", name := "leastOut", desc := "(I)I" } : Jvm.MethodName)) ∈ lw_all := lw_g (lw_at lw_m6 115 rfl) rfl
theorem q1417 : (Jvm.Cond.privateMethod ({ cls := "Slidingtray", name := "leastOut", desc := "(I)I" } : Jvm.MethodName)) ∈ lw_tbl := lw_at lw_m6 116 rfl
theorem q1418 : (Jvm.Cond.instanceMethod ({ cls := "Slidingtray", name := "leastOut", desc := "(I)I" } : Jvm.MethodName)) ∈ lw_all := lw_g (lw_at lw_m6 117 rfl) rfl
theorem q1419 : (Jvm.Cond.code ({ cls := "Slidingtray", name := "leastOut", desc := "(I)I" } : Jvm.MethodName) prog_1_method_29_code (8 : Nat) (Option.some Jvm.ClassFile.FieldType.int)) ∈ lw_all := lw_g (lw_at lw_m6 118 rfl) rfl
theorem q1420 : (Jvm.Cond.constant "Slidingtray" (264 : Nat) (2147483647 : Int32)) ∈ lw_all := lw_g (lw_at lw_m6 119 rfl) rfl
theorem q1421 : (Jvm.Cond.methodLink "Slidingtray" (265 : Nat) ({ cls := "java/lang/Math", name := "min", desc := "(II)I" } : Jvm.MethodName)) ∈ lw_all := lw_g (lw_at lw_m6 120 rfl) rfl
theorem q1422 : (Jvm.Cond.classLink "Slidingtray" (410 : Nat) "Slidingtray$All") ∈ lw_all := lw_g (lw_at lw_m6 121 rfl) rfl
theorem q1424 : (Jvm.Cond.methodLink "Slidingtray" (412 : Nat) ({ cls := "Slidingtray$All", name := "<init>", desc := "(LSlidingtray;)V" } : Jvm.MethodName)) ∈ lw_all := lw_g (lw_at lw_m6 123 rfl) rfl
theorem q1429 : (Jvm.Cond.privateMethod ({ cls := "Slidingtray", name := "arrangements", desc := "()J" } : Jvm.MethodName)) ∈ lw_tbl := lw_at lw_m6 128 rfl
theorem q1430 : (Jvm.Cond.instanceMethod ({ cls := "Slidingtray", name := "arrangements", desc := "()J" } : Jvm.MethodName)) ∈ lw_all := lw_g (lw_at lw_m6 129 rfl) rfl
theorem q1431 : (Jvm.Cond.code ({ cls := "Slidingtray", name := "arrangements", desc := "()J" } : Jvm.MethodName) prog_1_method_6_code (4 : Nat) (Option.some Jvm.ClassFile.FieldType.long)) ∈ lw_all := lw_g (lw_at lw_m6 130 rfl) rfl
theorem q1483 : (Jvm.Cond.fieldLinkNest "Slidingtray" (350 : Nat) "Slidingtray$State" "lie" "LSlidingtray$Lie;" "Slidingtray") ∈ lw_tbl := lw_at lw_m6 182 rfl
theorem q1485 : (Jvm.Cond.fieldLinkNest "Slidingtray" (370 : Nat) "Slidingtray$State" "estimate" "I" "Slidingtray") ∈ lw_tbl := lw_at lw_m6 184 rfl
theorem q1488 : (Jvm.Cond.fieldLinkNest "Slidingtray" (322 : Nat) "Slidingtray$State" "rank" "J" "Slidingtray") ∈ lw_tbl := lw_at lw_m6 187 rfl
theorem q1491 : (Jvm.Cond.fieldLinkNest "Slidingtray" (355 : Nat) "Slidingtray$State" "cost" "I" "Slidingtray") ∈ lw_tbl := lw_at lw_m6 190 rfl
theorem q1493 : (Jvm.Cond.fieldLinkNest "Slidingtray" (359 : Nat) "Slidingtray$State" "from" "LSlidingtray$State;" "Slidingtray") ∈ lw_tbl := lw_at lw_m6 192 rfl
theorem q1495 : (Jvm.Cond.fieldLinkNest "Slidingtray" (364 : Nat) "Slidingtray$State" "direction" "I" "Slidingtray") ∈ lw_tbl := lw_at lw_m6 194 rfl
theorem q1730 : (Jvm.Cond.fieldLinkNest "Slidingtray" (426 : Nat) "Slidingtray$All" "costs" "[I" "Slidingtray") ∈ lw_tbl := lw_at lw_m7 189 rfl
theorem q1732 : (Jvm.Cond.fieldLinkNest "Slidingtray" (429 : Nat) "Slidingtray$All" "ways" "[I" "Slidingtray") ∈ lw_tbl := lw_at lw_m7 191 rfl
theorem q1743 : (Jvm.Cond.methodLink "Slidingtray" (456 : Nat) ({ cls := "Slidingtray", name := "tell", desc := "(I)Z" } : Jvm.MethodName)) ∈ lw_all := lw_g (lw_at lw_m7 202 rfl) rfl
theorem q1744 : (Jvm.Cond.privateMethod ({ cls := "Slidingtray", name := "tell", desc := "(I)Z" } : Jvm.MethodName)) ∈ lw_tbl := lw_at lw_m7 203 rfl
theorem q1745 : (Jvm.Cond.instanceMethod ({ cls := "Slidingtray", name := "tell", desc := "(I)Z" } : Jvm.MethodName)) ∈ lw_all := lw_g (lw_at lw_m7 204 rfl) rfl
theorem q1746 : (Jvm.Cond.codeWith ({ cls := "Slidingtray", name := "tell", desc := "(I)Z" } : Jvm.MethodName) prog_1_method_53_code (4 : Nat) (Option.some Jvm.ClassFile.FieldType.boolean) [((2 : Nat), (61 : Nat), (64 : Nat), (347 : Nat))]) ∈ lw_all := lw_g (lw_at lw_m7 205 rfl) rfl
theorem q1747 : (Jvm.Cond.classLink "Slidingtray" (347 : Nat) "Slidingtray$Beyond") ∈ lw_all := lw_g (lw_at lw_m7 206 rfl) rfl
theorem q1748 : (Jvm.Cond.methodLink "Slidingtray" (373 : Nat) ({ cls := "Slidingtray", name := "best", desc := "(LSlidingtray$Lie;II)LSlidingtray$Found;" } : Jvm.MethodName)) ∈ lw_all := lw_g (lw_at lw_m7 207 rfl) rfl
theorem q1749 : (Jvm.Cond.privateMethod ({ cls := "Slidingtray", name := "best", desc := "(LSlidingtray$Lie;II)LSlidingtray$Found;" } : Jvm.MethodName)) ∈ lw_tbl := lw_at lw_m7 208 rfl
theorem q1750 : (Jvm.Cond.instanceMethod ({ cls := "Slidingtray", name := "best", desc := "(LSlidingtray$Lie;II)LSlidingtray$Found;" } : Jvm.MethodName)) ∈ lw_all := lw_g (lw_at lw_m7 209 rfl) rfl
theorem q1751 : (Jvm.Cond.code ({ cls := "Slidingtray", name := "best", desc := "(LSlidingtray$Lie;II)LSlidingtray$Found;" } : Jvm.MethodName) prog_1_method_34_code (15 : Nat) (Option.some (Jvm.ClassFile.FieldType.object "Slidingtray$Found"))) ∈ lw_all := lw_g (lw_at lw_m7 210 rfl) rfl
theorem q1752 : (Jvm.Cond.classLink "Slidingtray" (311 : Nat) "java/util/PriorityQueue") ∈ lw_all := lw_g (lw_at lw_m7 211 rfl) rfl
theorem q1753 : (Jvm.Cond.methodLink "Slidingtray" (313 : Nat) ({ cls := "java/util/PriorityQueue", name := "<init>", desc := "()V" } : Jvm.MethodName)) ∈ lw_all := lw_g (lw_at lw_m7 212 rfl) rfl
theorem q1754 : (Jvm.Cond.classLink "Slidingtray" (314 : Nat) "java/util/TreeMap") ∈ lw_all := lw_g (lw_at lw_m7 213 rfl) rfl
theorem q1756 : (Jvm.Cond.methodLink "Slidingtray" (316 : Nat) ({ cls := "java/util/TreeMap", name := "<init>", desc := "()V" } : Jvm.MethodName)) ∈ lw_all := lw_g (lw_at lw_m7 215 rfl) rfl
theorem q1788 : (Jvm.Cond.classLink "Slidingtray" (317 : Nat) "Slidingtray$State") ∈ lw_all := lw_g (lw_at lw_m8 7 rfl) rfl
theorem q1789 : (Jvm.Cond.methodLink "Slidingtray" (319 : Nat) ({ cls := "Slidingtray$State", name := "<init>", desc := "(LSlidingtray$Lie;IILSlidingtray$State;I)V" } : Jvm.MethodName)) ∈ lw_all := lw_g (lw_at lw_m8 8 rfl) rfl
theorem q1790 : (Jvm.Cond.methodLink "Slidingtray" (325 : Nat) ({ cls := "java/lang/Long", name := "valueOf", desc := "(J)Ljava/lang/Long;" } : Jvm.MethodName)) ∈ lw_all := lw_g (lw_at lw_m8 9 rfl) rfl
theorem q1806 : (Jvm.Cond.methodLink "Slidingtray" (330 : Nat) ({ cls := "java/util/TreeMap", name := "put", desc := "(Ljava/lang/Object;Ljava/lang/Object;)Ljava/lang/Object;" } : Jvm.MethodName)) ∈ lw_all := lw_g (lw_at lw_m8 25 rfl) rfl
theorem q1891 : (Jvm.Cond.methodLink "Slidingtray" (334 : Nat) ({ cls := "java/util/PriorityQueue", name := "offer", desc := "(Ljava/lang/Object;)Z" } : Jvm.MethodName)) ∈ lw_all := lw_g (lw_at lw_m8 110 rfl) rfl
theorem q1892 : (Jvm.Cond.methodLink "Slidingtray" (337 : Nat) ({ cls := "java/util/PriorityQueue", name := "isEmpty", desc := "()Z" } : Jvm.MethodName)) ∈ lw_all := lw_g (lw_at lw_m8 111 rfl) rfl
theorem q1893 : (Jvm.Cond.methodLink "Slidingtray" (338 : Nat) ({ cls := "java/util/PriorityQueue", name := "poll", desc := "()Ljava/lang/Object;" } : Jvm.MethodName)) ∈ lw_all := lw_g (lw_at lw_m8 112 rfl) rfl
theorem q1894 : (Jvm.Cond.methodLink "Slidingtray" (341 : Nat) ({ cls := "java/util/TreeMap", name := "get", desc := "(Ljava/lang/Object;)Ljava/lang/Object;" } : Jvm.MethodName)) ∈ lw_all := lw_g (lw_at lw_m8 113 rfl) rfl
theorem q1914 : (Jvm.Cond.methodLink "Slidingtray" (349 : Nat) ({ cls := "Slidingtray$Beyond", name := "<init>", desc := "()V" } : Jvm.MethodName)) ∈ lw_all := lw_g (lw_at lw_m8 133 rfl) rfl
theorem q1925 : (Jvm.Cond.methodLink "Slidingtray" (351 : Nat) ({ cls := "Slidingtray$Aim", name := "isGoal", desc := "(LSlidingtray$Lie;)Z" } : Jvm.MethodName)) ∈ lw_all := lw_g (lw_at lw_m8 144 rfl) rfl
theorem q1926 : (Jvm.Cond.methodLink "Slidingtray" (155 : Nat) ({ cls := "java/lang/Integer", name := "valueOf", desc := "(I)Ljava/lang/Integer;" } : Jvm.MethodName)) ∈ lw_all := lw_g (lw_at lw_m8 145 rfl) rfl
theorem q1927 : (Jvm.Cond.interfaceEntry "Slidingtray" (367 : Nat)) ∈ lw_tbl := lw_at lw_m8 146 rfl
theorem q1928 : (Jvm.Cond.methodLink "Slidingtray" (367 : Nat) ({ cls := "java/util/List", name := "add", desc := "(ILjava/lang/Object;)V" } : Jvm.MethodName)) ∈ lw_all := lw_g (lw_at lw_m8 147 rfl) rfl
theorem q1953 : (Jvm.Cond.classLink "Slidingtray" (381 : Nat) "Slidingtray$Depth") ∈ lw_all := lw_g (lw_at lw_m8 172 rfl) rfl
theorem q1955 : (Jvm.Cond.methodLink "Slidingtray" (383 : Nat) ({ cls := "Slidingtray$Depth", name := "<init>", desc := "(LSlidingtray;I)V" } : Jvm.MethodName)) ∈ lw_all := lw_g (lw_at lw_m8 174 rfl) rfl
theorem q1977 : (Jvm.Cond.methodLink "Slidingtray" (386 : Nat) ({ cls := "Slidingtray$Depth", name := "search", desc := "(LSlidingtray$Lie;)LSlidingtray$Found;" } : Jvm.MethodName)) ∈ lw_all := lw_g (lw_at lw_m8 196 rfl) rfl
theorem q2007 : (Jvm.Cond.instanceMethod ({ cls := "Slidingtray", name := "tray", desc := "(III)I" } : Jvm.MethodName)) ∈ lw_all := lw_g (lw_at lw_m8 226 rfl) rfl
theorem q2008 : (Jvm.Cond.selects "Slidingtray" ({ cls := "Slidingtray", name := "tray", desc := "(III)I" } : Jvm.MethodName) ({ cls := "Slidingtray", name := "tray", desc := "(III)I" } : Jvm.MethodName)) ∈ lw_all := lw_g (lw_at lw_m8 227 rfl) rfl
theorem q2009 : (Jvm.Cond.code ({ cls := "Slidingtray", name := "tray", desc := "(III)I" } : Jvm.MethodName) prog_1_method_7_code (7 : Nat) (Option.some Jvm.ClassFile.FieldType.int)) ∈ lw_all := lw_g (lw_at lw_m8 228 rfl) rfl
theorem q2010 : (Jvm.Cond.methodLink "Slidingtray" (96 : Nat) ({ cls := "Slidingtray", name := "checkArgument", desc := "(Z)V" } : Jvm.MethodName)) ∈ lw_all := lw_g (lw_at lw_m8 229 rfl) rfl
theorem q2011 : (Jvm.Cond.static ({ cls := "Slidingtray", name := "checkArgument", desc := "(Z)V" } : Jvm.MethodName)) ∈ lw_all := lw_g (lw_at lw_m8 230 rfl) rfl
theorem q2012 : (Jvm.Cond.code ({ cls := "Slidingtray", name := "checkArgument", desc := "(Z)V" } : Jvm.MethodName) prog_1_method_3_code (1 : Nat) (Option.none : Option Jvm.ClassFile.FieldType)) ∈ lw_all := lw_g (lw_at lw_m8 231 rfl) rfl
theorem q2013 : (Jvm.Cond.classLink "Slidingtray" (90 : Nat) "java/lang/IllegalArgumentException") ∈ lw_all := lw_g (lw_at lw_m8 232 rfl) rfl
theorem q2014 : (Jvm.Cond.methodLink "Slidingtray" (92 : Nat) ({ cls := "java/lang/IllegalArgumentException", name := "<init>", desc := "()V" } : Jvm.MethodName)) ∈ lw_all := lw_g (lw_at lw_m8 233 rfl) rfl
theorem q2015 : (Jvm.Cond.methodLink "Slidingtray" (104 : Nat) ({ cls := "java/lang/Integer", name := "bitCount", desc := "(I)I" } : Jvm.MethodName)) ∈ lw_all := lw_g (lw_at lw_m8 234 rfl) rfl
theorem q2021 : (Jvm.Cond.methodLink "Slidingtray" (110 : Nat) ({ cls := "Slidingtray$Shape", name := "isConnected", desc := "()Z" } : Jvm.MethodName)) ∈ lw_all := lw_g (lw_at lw_m9 0 rfl) rfl
theorem q2026 : (Jvm.Cond.methodLink "Slidingtray" (117 : Nat) ({ cls := "java/util/ArrayDeque", name := "clear", desc := "()V" } : Jvm.MethodName)) ∈ lw_all := lw_g (lw_at lw_m9 5 rfl) rfl
theorem q2033 : (Jvm.Cond.classLink "Slidingtray" (82 : Nat) "java/util/List") ∈ lw_all := lw_g (lw_at lw_m9 12 rfl) rfl
theorem q2038 : (Jvm.Cond.instanceMethod ({ cls := "Slidingtray", name := "lay", desc := "(J)I" } : Jvm.MethodName)) ∈ lw_all := lw_g (lw_at lw_m9 17 rfl) rfl
theorem q2039 : (Jvm.Cond.selects "Slidingtray" ({ cls := "Slidingtray", name := "lay", desc := "(J)I" } : Jvm.MethodName) ({ cls := "Slidingtray", name := "lay", desc := "(J)I" } : Jvm.MethodName)) ∈ lw_all := lw_g (lw_at lw_m9 18 rfl) rfl
theorem q2040 : (Jvm.Cond.code ({ cls := "Slidingtray", name := "lay", desc := "(J)I" } : Jvm.MethodName) prog_1_method_9_code (3 : Nat) (Option.some Jvm.ClassFile.FieldType.int)) ∈ lw_all := lw_g (lw_at lw_m9 19 rfl) rfl
theorem q2041 : (Jvm.Cond.methodLink "Slidingtray" (144 : Nat) ({ cls := "Slidingtray", name := "arrangements", desc := "()J" } : Jvm.MethodName)) ∈ lw_all := lw_g (lw_at lw_m9 20 rfl) rfl
theorem q2042 : (Jvm.Cond.methodLink "Slidingtray" (148 : Nat) ({ cls := "Slidingtray", name := "lies", desc := "(LSlidingtray$Lie;)I" } : Jvm.MethodName)) ∈ lw_all := lw_g (lw_at lw_m9 21 rfl) rfl
theorem q2043 : (Jvm.Cond.privateMethod ({ cls := "Slidingtray", name := "lies", desc := "(LSlidingtray$Lie;)I" } : Jvm.MethodName)) ∈ lw_tbl := lw_at lw_m9 22 rfl
theorem q2044 : (Jvm.Cond.instanceMethod ({ cls := "Slidingtray", name := "lies", desc := "(LSlidingtray$Lie;)I" } : Jvm.MethodName)) ∈ lw_all := lw_g (lw_at lw_m9 23 rfl) rfl
theorem q2045 : (Jvm.Cond.code ({ cls := "Slidingtray", name := "lies", desc := "(LSlidingtray$Lie;)I" } : Jvm.MethodName) prog_1_method_8_code (2 : Nat) (Option.some Jvm.ClassFile.FieldType.int)) ∈ lw_all := lw_g (lw_at lw_m9 24 rfl) rfl
theorem q2046 : (Jvm.Cond.interfaceEntry "Slidingtray" (137 : Nat)) ∈ lw_tbl := lw_at lw_m9 25 rfl
theorem q2047 : (Jvm.Cond.methodLink "Slidingtray" (137 : Nat) ({ cls := "java/util/List", name := "get", desc := "(I)Ljava/lang/Object;" } : Jvm.MethodName)) ∈ lw_all := lw_g (lw_at lw_m9 26 rfl) rfl
theorem q2048 : (Jvm.Cond.classLink "Slidingtray" (105 : Nat) "java/lang/Integer") ∈ lw_all := lw_g (lw_at lw_m9 27 rfl) rfl
theorem q2049 : (Jvm.Cond.methodLink "Slidingtray" (141 : Nat) ({ cls := "java/lang/Integer", name := "intValue", desc := "()I" } : Jvm.MethodName)) ∈ lw_all := lw_g (lw_at lw_m9 28 rfl) rfl
theorem q2054 : (Jvm.Cond.instanceMethod ({ cls := "Slidingtray", name := "mix", desc := "(II)I" } : Jvm.MethodName)) ∈ lw_all := lw_g (lw_at lw_m9 33 rfl) rfl
theorem q2055 : (Jvm.Cond.selects "Slidingtray" ({ cls := "Slidingtray", name := "mix", desc := "(II)I" } : Jvm.MethodName) ({ cls := "Slidingtray", name := "mix", desc := "(II)I" } : Jvm.MethodName)) ∈ lw_all := lw_g (lw_at lw_m9 34 rfl) rfl
theorem q2056 : (Jvm.Cond.code ({ cls := "Slidingtray", name := "mix", desc := "(II)I" } : Jvm.MethodName) prog_1_method_10_code (8 : Nat) (Option.some Jvm.ClassFile.FieldType.int)) ∈ lw_all := lw_g (lw_at lw_m9 35 rfl) rfl
theorem q2057 : (Jvm.Cond.constant "Slidingtray" (159 : Nat) (1103515245 : Int32)) ∈ lw_all := lw_g (lw_at lw_m9 36 rfl) rfl
theorem q2058 : (Jvm.Cond.interfaceEntry "Slidingtray" (160 : Nat)) ∈ lw_tbl := lw_at lw_m9 37 rfl
theorem q2059 : (Jvm.Cond.methodLink "Slidingtray" (160 : Nat) ({ cls := "java/util/List", name := "size", desc := "()I" } : Jvm.MethodName)) ∈ lw_all := lw_g (lw_at lw_m9 38 rfl) rfl
theorem q2080 : (Jvm.Cond.instanceMethod ({ cls := "Slidingtray", name := "setFree", desc := "(IZ)Z" } : Jvm.MethodName)) ∈ lw_all := lw_g (lw_at lw_m9 59 rfl) rfl
theorem q2081 : (Jvm.Cond.selects "Slidingtray" ({ cls := "Slidingtray", name := "setFree", desc := "(IZ)Z" } : Jvm.MethodName) ({ cls := "Slidingtray", name := "setFree", desc := "(IZ)Z" } : Jvm.MethodName)) ∈ lw_all := lw_g (lw_at lw_m9 60 rfl) rfl
theorem q2082 : (Jvm.Cond.code ({ cls := "Slidingtray", name := "setFree", desc := "(IZ)Z" } : Jvm.MethodName) prog_1_method_12_code (4 : Nat) (Option.some Jvm.ClassFile.FieldType.boolean)) ∈ lw_all := lw_g (lw_at lw_m9 61 rfl) rfl
theorem q2083 : (Jvm.Cond.methodLink "Slidingtray" (172 : Nat) ({ cls := "Slidingtray", name := "checkIndex", desc := "(Z)V" } : Jvm.MethodName)) ∈ lw_all := lw_g (lw_at lw_m9 62 rfl) rfl
theorem q2084 : (Jvm.Cond.static ({ cls := "Slidingtray", name := "checkIndex", desc := "(Z)V" } : Jvm.MethodName)) ∈ lw_all := lw_g (lw_at lw_m9 63 rfl) rfl
theorem q2085 : (Jvm.Cond.code ({ cls := "Slidingtray", name := "checkIndex", desc := "(Z)V" } : Jvm.MethodName) prog_1_method_2_code (1 : Nat) (Option.none : Option Jvm.ClassFile.FieldType)) ∈ lw_all := lw_g (lw_at lw_m9 64 rfl) rfl
theorem q2086 : (Jvm.Cond.classLink "Slidingtray" (87 : Nat) "java/lang/IndexOutOfBoundsException") ∈ lw_all := lw_g (lw_at lw_m9 65 rfl) rfl
theorem q2087 : (Jvm.Cond.methodLink "Slidingtray" (89 : Nat) ({ cls := "java/lang/IndexOutOfBoundsException", name := "<init>", desc := "()V" } : Jvm.MethodName)) ∈ lw_all := lw_g (lw_at lw_m9 66 rfl) rfl
theorem q2091 : (Jvm.Cond.methodLink "Slidingtray" (184 : Nat) ({ cls := "java/util/BitSet", name := "flip", desc := "(I)V" } : Jvm.MethodName)) ∈ lw_all := lw_g (lw_at lw_m9 70 rfl) rfl
theorem q2103 : (Jvm.Cond.instanceMethod ({ cls := "Slidingtray", name := "setWeight", desc := "(II)I" } : Jvm.MethodName)) ∈ lw_all := lw_g (lw_at lw_m9 82 rfl) rfl
theorem q2104 : (Jvm.Cond.selects "Slidingtray" ({ cls := "Slidingtray", name := "setWeight", desc := "(II)I" } : Jvm.MethodName) ({ cls := "Slidingtray", name := "setWeight", desc := "(II)I" } : Jvm.MethodName)) ∈ lw_all := lw_g (lw_at lw_m9 83 rfl) rfl
theorem q2105 : (Jvm.Cond.code ({ cls := "Slidingtray", name := "setWeight", desc := "(II)I" } : Jvm.MethodName) prog_1_method_13_code (4 : Nat) (Option.some Jvm.ClassFile.FieldType.int)) ∈ lw_all := lw_g (lw_at lw_m9 84 rfl) rfl
theorem q2110 : (Jvm.Cond.instanceMethod ({ cls := "Slidingtray", name := "setLimit", desc := "(I)I" } : Jvm.MethodName)) ∈ lw_all := lw_g (lw_at lw_m9 89 rfl) rfl
theorem q2111 : (Jvm.Cond.selects "Slidingtray" ({ cls := "Slidingtray", name := "setLimit", desc := "(I)I" } : Jvm.MethodName) ({ cls := "Slidingtray", name := "setLimit", desc := "(I)I" } : Jvm.MethodName)) ∈ lw_all := lw_g (lw_at lw_m9 90 rfl) rfl
theorem q2112 : (Jvm.Cond.code ({ cls := "Slidingtray", name := "setLimit", desc := "(I)I" } : Jvm.MethodName) prog_1_method_14_code (3 : Nat) (Option.some Jvm.ClassFile.FieldType.int)) ∈ lw_all := lw_g (lw_at lw_m9 91 rfl) rfl
theorem q2118 : (Jvm.Cond.instanceMethod ({ cls := "Slidingtray", name := "move", desc := "(II)I" } : Jvm.MethodName)) ∈ lw_all := lw_g (lw_at lw_m9 97 rfl) rfl
theorem q2119 : (Jvm.Cond.selects "Slidingtray" ({ cls := "Slidingtray", name := "move", desc := "(II)I" } : Jvm.MethodName) ({ cls := "Slidingtray", name := "move", desc := "(II)I" } : Jvm.MethodName)) ∈ lw_all := lw_g (lw_at lw_m9 98 rfl) rfl
theorem q2120 : (Jvm.Cond.code ({ cls := "Slidingtray", name := "move", desc := "(II)I" } : Jvm.MethodName) prog_1_method_16_code (6 : Nat) (Option.some Jvm.ClassFile.FieldType.int)) ∈ lw_all := lw_g (lw_at lw_m9 99 rfl) rfl
theorem q2121 : (Jvm.Cond.methodLink "Slidingtray" (199 : Nat) ({ cls := "Slidingtray", name := "checkState", desc := "(Z)V" } : Jvm.MethodName)) ∈ lw_all := lw_g (lw_at lw_m9 100 rfl) rfl
theorem q2122 : (Jvm.Cond.static ({ cls := "Slidingtray", name := "checkState", desc := "(Z)V" } : Jvm.MethodName)) ∈ lw_all := lw_g (lw_at lw_m9 101 rfl) rfl
theorem q2123 : (Jvm.Cond.code ({ cls := "Slidingtray", name := "checkState", desc := "(Z)V" } : Jvm.MethodName) prog_1_method_4_code (1 : Nat) (Option.none : Option Jvm.ClassFile.FieldType)) ∈ lw_all := lw_g (lw_at lw_m9 102 rfl) rfl
theorem q2124 : (Jvm.Cond.classLink "Slidingtray" (93 : Nat) "java/lang/IllegalStateException") ∈ lw_all := lw_g (lw_at lw_m9 103 rfl) rfl
theorem q2125 : (Jvm.Cond.methodLink "Slidingtray" (95 : Nat) ({ cls := "java/lang/IllegalStateException", name := "<init>", desc := "()V" } : Jvm.MethodName)) ∈ lw_all := lw_g (lw_at lw_m9 104 rfl) rfl
theorem q2129 : (Jvm.Cond.methodLink "Slidingtray" (202 : Nat) ({ cls := "Slidingtray", name := "makes", desc := "(I)V" } : Jvm.MethodName)) ∈ lw_all := lw_g (lw_at lw_m9 108 rfl) rfl
theorem q2130 : (Jvm.Cond.privateMethod ({ cls := "Slidingtray", name := "makes", desc := "(I)V" } : Jvm.MethodName)) ∈ lw_tbl := lw_at lw_m9 109 rfl
theorem q2131 : (Jvm.Cond.instanceMethod ({ cls := "Slidingtray", name := "makes", desc := "(I)V" } : Jvm.MethodName)) ∈ lw_all := lw_g (lw_at lw_m9 110 rfl) rfl
theorem q2132 : (Jvm.Cond.code ({ cls := "Slidingtray", name := "makes", desc := "(I)V" } : Jvm.MethodName) prog_1_method_15_code (3 : Nat) (Option.none : Option Jvm.ClassFile.FieldType)) ∈ lw_all := lw_g (lw_at lw_m9 111 rfl) rfl
theorem q2133 : (Jvm.Cond.methodLink "Slidingtray" (191 : Nat) ({ cls := "java/util/ArrayDeque", name := "addLast", desc := "(Ljava/lang/Object;)V" } : Jvm.MethodName)) ∈ lw_all := lw_g (lw_at lw_m9 112 rfl) rfl
theorem q2134 : (Jvm.Cond.methodLink "Slidingtray" (195 : Nat) ({ cls := "java/util/ArrayDeque", name := "size", desc := "()I" } : Jvm.MethodName)) ∈ lw_all := lw_g (lw_at lw_m9 113 rfl) rfl
theorem q2135 : (Jvm.Cond.methodLink "Slidingtray" (196 : Nat) ({ cls := "java/util/ArrayDeque", name := "removeFirst", desc := "()Ljava/lang/Object;" } : Jvm.MethodName)) ∈ lw_all := lw_g (lw_at lw_m9 114 rfl) rfl
theorem q2140 : (Jvm.Cond.instanceMethod ({ cls := "Slidingtray", name := "undo", desc := "(I)I" } : Jvm.MethodName)) ∈ lw_all := lw_g (lw_at lw_m9 119 rfl) rfl
theorem q2141 : (Jvm.Cond.selects "Slidingtray" ({ cls := "Slidingtray", name := "undo", desc := "(I)I" } : Jvm.MethodName) ({ cls := "Slidingtray", name := "undo", desc := "(I)I" } : Jvm.MethodName)) ∈ lw_all := lw_g (lw_at lw_m9 120 rfl) rfl
theorem q2142 : (Jvm.Cond.code ({ cls := "Slidingtray", name := "undo", desc := "(I)I" } : Jvm.MethodName) prog_1_method_17_code (3 : Nat) (Option.some Jvm.ClassFile.FieldType.int)) ∈ lw_all := lw_g (lw_at lw_m9 121 rfl) rfl
theorem q2143 : (Jvm.Cond.methodLink "Slidingtray" (205 : Nat) ({ cls := "java/util/ArrayDeque", name := "isEmpty", desc := "()Z" } : Jvm.MethodName)) ∈ lw_all := lw_g (lw_at lw_m9 122 rfl) rfl
theorem q2144 : (Jvm.Cond.methodLink "Slidingtray" (208 : Nat) ({ cls := "java/util/ArrayDeque", name := "removeLast", desc := "()Ljava/lang/Object;" } : Jvm.MethodName)) ∈ lw_all := lw_g (lw_at lw_m9 123 rfl) rfl
theorem q2159 : (Jvm.Cond.instanceMethod ({ cls := "Slidingtray", name := "setMacro", desc := "(IJ)I" } : Jvm.MethodName)) ∈ lw_all := lw_g (lw_at lw_m9 138 rfl) rfl
theorem q2160 : (Jvm.Cond.selects "Slidingtray" ({ cls := "Slidingtray", name := "setMacro", desc := "(IJ)I" } : Jvm.MethodName) ({ cls := "Slidingtray", name := "setMacro", desc := "(IJ)I" } : Jvm.MethodName)) ∈ lw_all := lw_g (lw_at lw_m9 139 rfl) rfl
theorem q2161 : (Jvm.Cond.code ({ cls := "Slidingtray", name := "setMacro", desc := "(IJ)I" } : Jvm.MethodName) prog_1_method_19_code (9 : Nat) (Option.some Jvm.ClassFile.FieldType.int)) ∈ lw_all := lw_g (lw_at lw_m9 140 rfl) rfl
theorem q2162 : (Jvm.Cond.methodLink "Slidingtray" (211 : Nat) ({ cls := "Slidingtray", name := "macroAt", desc := "(I)Ljava/util/List;" } : Jvm.MethodName)) ∈ lw_all := lw_g (lw_at lw_m9 141 rfl) rfl
theorem q2163 : (Jvm.Cond.privateMethod ({ cls := "Slidingtray", name := "macroAt", desc := "(I)Ljava/util/List;" } : Jvm.MethodName)) ∈ lw_tbl := lw_at lw_m9 142 rfl
theorem q2164 : (Jvm.Cond.instanceMethod ({ cls := "Slidingtray", name := "macroAt", desc := "(I)Ljava/util/List;" } : Jvm.MethodName)) ∈ lw_all := lw_g (lw_at lw_m9 143 rfl) rfl
theorem q2165 : (Jvm.Cond.code ({ cls := "Slidingtray", name := "macroAt", desc := "(I)Ljava/util/List;" } : Jvm.MethodName) prog_1_method_18_code (2 : Nat) (Option.some (Jvm.ClassFile.FieldType.object "java/util/List"))) ∈ lw_all := lw_g (lw_at lw_m9 144 rfl) rfl
theorem q2166 : (Jvm.Cond.constantLong "Slidingtray" (215 : Nat) (255 : Int64)) ∈ lw_all := lw_g (lw_at lw_m9 145 rfl) rfl
theorem q2167 : (Jvm.Cond.stringRef "Slidingtray" (217 : Nat) "ulrd") ∈ lw_tbl := lw_at lw_m9 146 rfl
theorem q2168 : (Jvm.Cond.methodLink "Slidingtray" (219 : Nat) ({ cls := "java/lang/String", name := "indexOf", desc := "(I)I" } : Jvm.MethodName)) ∈ lw_all := lw_g (lw_at lw_m9 147 rfl) rfl
theorem q2216 : (Jvm.Cond.interfaceEntry "Slidingtray" (224 : Nat)) ∈ lw_tbl := lw_at lw_m9 195 rfl
theorem q2217 : (Jvm.Cond.methodLink "Slidingtray" (224 : Nat) ({ cls := "java/util/List", name := "addAll", desc := "(Ljava/util/Collection;)Z" } : Jvm.MethodName)) ∈ lw_all := lw_g (lw_at lw_m9 196 rfl) rfl
theorem q2409 : (Jvm.Cond.instanceMethod ({ cls := "Slidingtray", name := "play", desc := "(II)I" } : Jvm.MethodName)) ∈ lw_all := lw_g (lw_at lw_m10 148 rfl) rfl
theorem q2410 : (Jvm.Cond.selects "Slidingtray" ({ cls := "Slidingtray", name := "play", desc := "(II)I" } : Jvm.MethodName) ({ cls := "Slidingtray", name := "play", desc := "(II)I" } : Jvm.MethodName)) ∈ lw_all := lw_g (lw_at lw_m10 149 rfl) rfl
theorem q2411 : (Jvm.Cond.code ({ cls := "Slidingtray", name := "play", desc := "(II)I" } : Jvm.MethodName) prog_1_method_20_code (5 : Nat) (Option.some Jvm.ClassFile.FieldType.int)) ∈ lw_all := lw_g (lw_at lw_m10 150 rfl) rfl
theorem q2412 : (Jvm.Cond.interfaceEntry "Slidingtray" (228 : Nat)) ∈ lw_tbl := lw_at lw_m10 151 rfl
theorem q2413 : (Jvm.Cond.methodLink "Slidingtray" (228 : Nat) ({ cls := "java/util/List", name := "isEmpty", desc := "()Z" } : Jvm.MethodName)) ∈ lw_all := lw_g (lw_at lw_m10 152 rfl) rfl
theorem q2421 : (Jvm.Cond.classLink "Slidingtray" (229 : Nat) "java/util/NoSuchElementException") ∈ lw_all := lw_g (lw_at lw_m10 160 rfl) rfl
theorem q2422 : (Jvm.Cond.methodLink "Slidingtray" (231 : Nat) ({ cls := "java/util/NoSuchElementException", name := "<init>", desc := "()V" } : Jvm.MethodName)) ∈ lw_all := lw_g (lw_at lw_m10 161 rfl) rfl
theorem q2427 : (Jvm.Cond.instanceMethod ({ cls := "Slidingtray", name := "keep", desc := "(I)J" } : Jvm.MethodName)) ∈ lw_all := lw_g (lw_at lw_m10 166 rfl) rfl
theorem q2428 : (Jvm.Cond.selects "Slidingtray" ({ cls := "Slidingtray", name := "keep", desc := "(I)J" } : Jvm.MethodName) ({ cls := "Slidingtray", name := "keep", desc := "(I)J" } : Jvm.MethodName)) ∈ lw_all := lw_g (lw_at lw_m10 167 rfl) rfl
theorem q2429 : (Jvm.Cond.code ({ cls := "Slidingtray", name := "keep", desc := "(I)J" } : Jvm.MethodName) prog_1_method_21_code (2 : Nat) (Option.some Jvm.ClassFile.FieldType.long)) ∈ lw_all := lw_g (lw_at lw_m10 168 rfl) rfl
theorem q2431 : (Jvm.Cond.methodLink "Slidingtray" (233 : Nat) ({ cls := "Slidingtray$Image", name := "<init>", desc := "(LSlidingtray$Lie;LSlidingtray$Aim;)V" } : Jvm.MethodName)) ∈ lw_all := lw_g (lw_at lw_m10 170 rfl) rfl
theorem q2436 : (Jvm.Cond.fieldLinkNest "Slidingtray" (237 : Nat) "Slidingtray$Image" "lie" "LSlidingtray$Lie;" "Slidingtray") ∈ lw_tbl := lw_at lw_m10 175 rfl
theorem q2438 : (Jvm.Cond.fieldLinkNest "Slidingtray" (236 : Nat) "Slidingtray$Image" "aim" "LSlidingtray$Aim;" "Slidingtray") ∈ lw_tbl := lw_at lw_m10 177 rfl
theorem q2448 : (Jvm.Cond.instanceMethod ({ cls := "Slidingtray", name := "restore", desc := "(I)I" } : Jvm.MethodName)) ∈ lw_all := lw_g (lw_at lw_m10 187 rfl) rfl
theorem q2449 : (Jvm.Cond.selects "Slidingtray" ({ cls := "Slidingtray", name := "restore", desc := "(I)I" } : Jvm.MethodName) ({ cls := "Slidingtray", name := "restore", desc := "(I)I" } : Jvm.MethodName)) ∈ lw_all := lw_g (lw_at lw_m10 188 rfl) rfl
theorem q2450 : (Jvm.Cond.code ({ cls := "Slidingtray", name := "restore", desc := "(I)I" } : Jvm.MethodName) prog_1_method_22_code (2 : Nat) (Option.some Jvm.ClassFile.FieldType.int)) ∈ lw_all := lw_g (lw_at lw_m10 189 rfl) rfl
theorem q2455 : (Jvm.Cond.instanceMethod ({ cls := "Slidingtray", name := "tileAt", desc := "(I)I" } : Jvm.MethodName)) ∈ lw_all := lw_g (lw_at lw_m10 194 rfl) rfl
theorem q2456 : (Jvm.Cond.selects "Slidingtray" ({ cls := "Slidingtray", name := "tileAt", desc := "(I)I" } : Jvm.MethodName) ({ cls := "Slidingtray", name := "tileAt", desc := "(I)I" } : Jvm.MethodName)) ∈ lw_all := lw_g (lw_at lw_m10 195 rfl) rfl
theorem q2457 : (Jvm.Cond.code ({ cls := "Slidingtray", name := "tileAt", desc := "(I)I" } : Jvm.MethodName) prog_1_method_23_code (3 : Nat) (Option.some Jvm.ClassFile.FieldType.int)) ∈ lw_all := lw_g (lw_at lw_m10 196 rfl) rfl
theorem q2458 : (Jvm.Cond.interfaceEntry "Slidingtray" (244 : Nat)) ∈ lw_tbl := lw_at lw_m10 197 rfl
theorem q2459 : (Jvm.Cond.methodLink "Slidingtray" (244 : Nat) ({ cls := "java/util/List", name := "indexOf", desc := "(Ljava/lang/Object;)I" } : Jvm.MethodName)) ∈ lw_all := lw_g (lw_at lw_m10 198 rfl) rfl
theorem q2464 : (Jvm.Cond.instanceMethod ({ cls := "Slidingtray", name := "reaches", desc := "()Z" } : Jvm.MethodName)) ∈ lw_all := lw_g (lw_at lw_m10 203 rfl) rfl
theorem q2465 : (Jvm.Cond.selects "Slidingtray" ({ cls := "Slidingtray", name := "reaches", desc := "()Z" } : Jvm.MethodName) ({ cls := "Slidingtray", name := "reaches", desc := "()Z" } : Jvm.MethodName)) ∈ lw_all := lw_g (lw_at lw_m10 204 rfl) rfl
theorem q2466 : (Jvm.Cond.code ({ cls := "Slidingtray", name := "reaches", desc := "()Z" } : Jvm.MethodName) prog_1_method_26_code (1 : Nat) (Option.some Jvm.ClassFile.FieldType.boolean)) ∈ lw_all := lw_g (lw_at lw_m10 205 rfl) rfl
theorem q2467 : (Jvm.Cond.methodLink "Slidingtray" (253 : Nat) ({ cls := "java/util/BitSet", name := "isEmpty", desc := "()Z" } : Jvm.MethodName)) ∈ lw_all := lw_g (lw_at lw_m10 206 rfl) rfl
theorem q2475 : (Jvm.Cond.instanceMethod ({ cls := "Slidingtray", name := "estimate", desc := "(I)I" } : Jvm.MethodName)) ∈ lw_all := lw_g (lw_at lw_m10 214 rfl) rfl
theorem q2476 : (Jvm.Cond.selects "Slidingtray" ({ cls := "Slidingtray", name := "estimate", desc := "(I)I" } : Jvm.MethodName) ({ cls := "Slidingtray", name := "estimate", desc := "(I)I" } : Jvm.MethodName)) ∈ lw_all := lw_g (lw_at lw_m10 215 rfl) rfl
theorem q2477 : (Jvm.Cond.code ({ cls := "Slidingtray", name := "estimate", desc := "(I)I" } : Jvm.MethodName) prog_1_method_33_code (2 : Nat) (Option.some Jvm.ClassFile.FieldType.int)) ∈ lw_all := lw_g (lw_at lw_m10 216 rfl) rfl
theorem q2478 : (Jvm.Cond.methodLink "Slidingtray" (304 : Nat) ({ cls := "Slidingtray", name := "checkEstimate", desc := "(I)V" } : Jvm.MethodName)) ∈ lw_all := lw_g (lw_at lw_m10 217 rfl) rfl
theorem q2479 : (Jvm.Cond.static ({ cls := "Slidingtray", name := "checkEstimate", desc := "(I)V" } : Jvm.MethodName)) ∈ lw_all := lw_g (lw_at lw_m10 218 rfl) rfl
theorem q2480 : (Jvm.Cond.code ({ cls := "Slidingtray", name := "checkEstimate", desc := "(I)V" } : Jvm.MethodName) prog_1_method_5_code (1 : Nat) (Option.none : Option Jvm.ClassFile.FieldType)) ∈ lw_all := lw_g (lw_at lw_m10 219 rfl) rfl
theorem q2485 : (Jvm.Cond.instanceMethod ({ cls := "Slidingtray", name := "solve", desc := "(I)I" } : Jvm.MethodName)) ∈ lw_all := lw_g (lw_at lw_m10 224 rfl) rfl
theorem q2486 : (Jvm.Cond.selects "Slidingtray" ({ cls := "Slidingtray", name := "solve", desc := "(I)I" } : Jvm.MethodName) ({ cls := "Slidingtray", name := "solve", desc := "(I)I" } : Jvm.MethodName)) ∈ lw_all := lw_g (lw_at lw_m10 225 rfl) rfl
theorem q2487 : (Jvm.Cond.codeWith ({ cls := "Slidingtray", name := "solve", desc := "(I)I" } : Jvm.MethodName) prog_1_method_36_code (3 : Nat) (Option.some Jvm.ClassFile.FieldType.int) [((4 : Nat), (21 : Nat), (22 : Nat), (347 : Nat))]) ∈ lw_all := lw_g (lw_at lw_m10 226 rfl) rfl
theorem q2488 : (Jvm.Cond.methodLink "Slidingtray" (377 : Nat) ({ cls := "Slidingtray", name := "finds", desc := "(LSlidingtray$Found;)I" } : Jvm.MethodName)) ∈ lw_all := lw_g (lw_at lw_m10 227 rfl) rfl
theorem q2489 : (Jvm.Cond.privateMethod ({ cls := "Slidingtray", name := "finds", desc := "(LSlidingtray$Found;)I" } : Jvm.MethodName)) ∈ lw_tbl := lw_at lw_m10 228 rfl
theorem q2490 : (Jvm.Cond.instanceMethod ({ cls := "Slidingtray", name := "finds", desc := "(LSlidingtray$Found;)I" } : Jvm.MethodName)) ∈ lw_all := lw_g (lw_at lw_m10 229 rfl) rfl
theorem q2491 : (Jvm.Cond.code ({ cls := "Slidingtray", name := "finds", desc := "(LSlidingtray$Found;)I" } : Jvm.MethodName) prog_1_method_35_code (2 : Nat) (Option.some Jvm.ClassFile.FieldType.int)) ∈ lw_all := lw_g (lw_at lw_m10 230 rfl) rfl
theorem q2496 : (Jvm.Cond.instanceMethod ({ cls := "Slidingtray", name := "deepen", desc := "(I)I" } : Jvm.MethodName)) ∈ lw_all := lw_g (lw_at lw_m10 235 rfl) rfl
theorem q2497 : (Jvm.Cond.selects "Slidingtray" ({ cls := "Slidingtray", name := "deepen", desc := "(I)I" } : Jvm.MethodName) ({ cls := "Slidingtray", name := "deepen", desc := "(I)I" } : Jvm.MethodName)) ∈ lw_all := lw_g (lw_at lw_m10 236 rfl) rfl
theorem q2498 : (Jvm.Cond.codeWith ({ cls := "Slidingtray", name := "deepen", desc := "(I)I" } : Jvm.MethodName) prog_1_method_37_code (3 : Nat) (Option.some Jvm.ClassFile.FieldType.int) [((4 : Nat), (24 : Nat), (25 : Nat), (347 : Nat))]) ∈ lw_all := lw_g (lw_at lw_m10 237 rfl) rfl
theorem q2503 : (Jvm.Cond.instanceMethod ({ cls := "Slidingtray", name := "both", desc := "()I" } : Jvm.MethodName)) ∈ lw_all := lw_g (lw_at lw_m11 2 rfl) rfl
theorem q2504 : (Jvm.Cond.selects "Slidingtray" ({ cls := "Slidingtray", name := "both", desc := "()I" } : Jvm.MethodName) ({ cls := "Slidingtray", name := "both", desc := "()I" } : Jvm.MethodName)) ∈ lw_all := lw_g (lw_at lw_m11 3 rfl) rfl
theorem q2505 : (Jvm.Cond.codeWith ({ cls := "Slidingtray", name := "both", desc := "()I" } : Jvm.MethodName) prog_1_method_39_code (2 : Nat) (Option.some Jvm.ClassFile.FieldType.int) [((13 : Nat), (28 : Nat), (29 : Nat), (347 : Nat))]) ∈ lw_all := lw_g (lw_at lw_m11 4 rfl) rfl
theorem q2506 : (Jvm.Cond.methodLink "Slidingtray" (403 : Nat) ({ cls := "Slidingtray", name := "fromBoth", desc := "()LSlidingtray$Found;" } : Jvm.MethodName)) ∈ lw_all := lw_g (lw_at lw_m11 5 rfl) rfl
theorem q2507 : (Jvm.Cond.privateMethod ({ cls := "Slidingtray", name := "fromBoth", desc := "()LSlidingtray$Found;" } : Jvm.MethodName)) ∈ lw_tbl := lw_at lw_m11 6 rfl
theorem q2508 : (Jvm.Cond.instanceMethod ({ cls := "Slidingtray", name := "fromBoth", desc := "()LSlidingtray$Found;" } : Jvm.MethodName)) ∈ lw_all := lw_g (lw_at lw_m11 7 rfl) rfl
theorem q2509 : (Jvm.Cond.code ({ cls := "Slidingtray", name := "fromBoth", desc := "()LSlidingtray$Found;" } : Jvm.MethodName) prog_1_method_38_code (8 : Nat) (Option.some (Jvm.ClassFile.FieldType.object "Slidingtray$Found"))) ∈ lw_all := lw_g (lw_at lw_m11 8 rfl) rfl
theorem q2510 : (Jvm.Cond.classLink "Slidingtray" (390 : Nat) "Slidingtray$Rings") ∈ lw_all := lw_g (lw_at lw_m11 9 rfl) rfl
theorem q2512 : (Jvm.Cond.methodLink "Slidingtray" (392 : Nat) ({ cls := "Slidingtray$Rings", name := "<init>", desc := "(LSlidingtray$Lie;)V" } : Jvm.MethodName)) ∈ lw_all := lw_g (lw_at lw_m11 11 rfl) rfl
theorem q2556 : (Jvm.Cond.methodLink "Slidingtray" (393 : Nat) ({ cls := "Slidingtray$Rings", name := "meets", desc := "(LSlidingtray$Rings;)Z" } : Jvm.MethodName)) ∈ lw_all := lw_g (lw_at lw_m11 55 rfl) rfl
theorem q2579 : (Jvm.Cond.methodLink "Slidingtray" (400 : Nat) ({ cls := "Slidingtray$Rings", name := "grow", desc := "(I)I" } : Jvm.MethodName)) ∈ lw_all := lw_g (lw_at lw_m11 78 rfl) rfl
theorem q2593 : (Jvm.Cond.instanceMethod ({ cls := "Slidingtray", name := "searched", desc := "(I)I" } : Jvm.MethodName)) ∈ lw_all := lw_g (lw_at lw_m11 92 rfl) rfl
theorem q2594 : (Jvm.Cond.selects "Slidingtray" ({ cls := "Slidingtray", name := "searched", desc := "(I)I" } : Jvm.MethodName) ({ cls := "Slidingtray", name := "searched", desc := "(I)I" } : Jvm.MethodName)) ∈ lw_all := lw_g (lw_at lw_m11 93 rfl) rfl
theorem q2595 : (Jvm.Cond.code ({ cls := "Slidingtray", name := "searched", desc := "(I)I" } : Jvm.MethodName) prog_1_method_40_code (2 : Nat) (Option.some Jvm.ClassFile.FieldType.int)) ∈ lw_all := lw_g (lw_at lw_m11 94 rfl) rfl
theorem q2600 : (Jvm.Cond.instanceMethod ({ cls := "Slidingtray", name := "wayAt", desc := "(I)I" } : Jvm.MethodName)) ∈ lw_all := lw_g (lw_at lw_m11 99 rfl) rfl
theorem q2601 : (Jvm.Cond.selects "Slidingtray" ({ cls := "Slidingtray", name := "wayAt", desc := "(I)I" } : Jvm.MethodName) ({ cls := "Slidingtray", name := "wayAt", desc := "(I)I" } : Jvm.MethodName)) ∈ lw_all := lw_g (lw_at lw_m11 100 rfl) rfl
theorem q2602 : (Jvm.Cond.code ({ cls := "Slidingtray", name := "wayAt", desc := "(I)I" } : Jvm.MethodName) prog_1_method_41_code (2 : Nat) (Option.some Jvm.ClassFile.FieldType.int)) ∈ lw_all := lw_g (lw_at lw_m11 101 rfl) rfl
theorem q2607 : (Jvm.Cond.instanceMethod ({ cls := "Slidingtray", name := "hint", desc := "()I" } : Jvm.MethodName)) ∈ lw_all := lw_g (lw_at lw_m11 106 rfl) rfl
theorem q2608 : (Jvm.Cond.selects "Slidingtray" ({ cls := "Slidingtray", name := "hint", desc := "()I" } : Jvm.MethodName) ({ cls := "Slidingtray", name := "hint", desc := "()I" } : Jvm.MethodName)) ∈ lw_all := lw_g (lw_at lw_m11 107 rfl) rfl
theorem q2609 : (Jvm.Cond.codeWith ({ cls := "Slidingtray", name := "hint", desc := "()I" } : Jvm.MethodName) prog_1_method_43_code (2 : Nat) (Option.some Jvm.ClassFile.FieldType.int) [((0 : Nat), (4 : Nat), (5 : Nat), (347 : Nat))]) ∈ lw_all := lw_g (lw_at lw_m11 108 rfl) rfl
theorem q2610 : (Jvm.Cond.methodLink "Slidingtray" (407 : Nat) ({ cls := "Slidingtray", name := "firstMove", desc := "()I" } : Jvm.MethodName)) ∈ lw_all := lw_g (lw_at lw_m11 109 rfl) rfl
theorem q2611 : (Jvm.Cond.privateMethod ({ cls := "Slidingtray", name := "firstMove", desc := "()I" } : Jvm.MethodName)) ∈ lw_tbl := lw_at lw_m11 110 rfl
theorem q2612 : (Jvm.Cond.instanceMethod ({ cls := "Slidingtray", name := "firstMove", desc := "()I" } : Jvm.MethodName)) ∈ lw_all := lw_g (lw_at lw_m11 111 rfl) rfl
theorem q2613 : (Jvm.Cond.code ({ cls := "Slidingtray", name := "firstMove", desc := "()I" } : Jvm.MethodName) prog_1_method_42_code (5 : Nat) (Option.some Jvm.ClassFile.FieldType.int)) ∈ lw_all := lw_g (lw_at lw_m11 112 rfl) rfl
theorem q2618 : (Jvm.Cond.instanceMethod ({ cls := "Slidingtray", name := "far", desc := "(I)I" } : Jvm.MethodName)) ∈ lw_all := lw_g (lw_at lw_m11 117 rfl) rfl
theorem q2619 : (Jvm.Cond.selects "Slidingtray" ({ cls := "Slidingtray", name := "far", desc := "(I)I" } : Jvm.MethodName) ({ cls := "Slidingtray", name := "far", desc := "(I)I" } : Jvm.MethodName)) ∈ lw_all := lw_g (lw_at lw_m11 118 rfl) rfl
theorem q2620 : (Jvm.Cond.code ({ cls := "Slidingtray", name := "far", desc := "(I)I" } : Jvm.MethodName) prog_1_method_45_code (4 : Nat) (Option.some Jvm.ClassFile.FieldType.int)) ∈ lw_all := lw_g (lw_at lw_m11 119 rfl) rfl
theorem q2621 : (Jvm.Cond.constant "Slidingtray" (415 : Nat) (1000000 : Int32)) ∈ lw_all := lw_g (lw_at lw_m11 120 rfl) rfl
theorem q2622 : (Jvm.Cond.methodLink "Slidingtray" (416 : Nat) ({ cls := "Slidingtray$All", name := "count", desc := "(II)I" } : Jvm.MethodName)) ∈ lw_all := lw_g (lw_at lw_m11 121 rfl) rfl
theorem q2626 : (Jvm.Cond.methodLink "Slidingtray" (419 : Nat) ({ cls := "Slidingtray$All", name := "greatest", desc := "()I" } : Jvm.MethodName)) ∈ lw_all := lw_g (lw_at lw_m11 125 rfl) rfl
theorem q2631 : (Jvm.Cond.methodLink "Slidingtray" (422 : Nat) ({ cls := "Slidingtray$All", name := "first", desc := "(IZ)I" } : Jvm.MethodName)) ∈ lw_all := lw_g (lw_at lw_m11 130 rfl) rfl
theorem q2639 : (Jvm.Cond.instanceMethod ({ cls := "Slidingtray", name := "onlyWay", desc := "(I)I" } : Jvm.MethodName)) ∈ lw_all := lw_g (lw_at lw_m11 138 rfl) rfl
theorem q2640 : (Jvm.Cond.selects "Slidingtray" ({ cls := "Slidingtray", name := "onlyWay", desc := "(I)I" } : Jvm.MethodName) ({ cls := "Slidingtray", name := "onlyWay", desc := "(I)I" } : Jvm.MethodName)) ∈ lw_all := lw_g (lw_at lw_m11 139 rfl) rfl
theorem q2641 : (Jvm.Cond.code ({ cls := "Slidingtray", name := "onlyWay", desc := "(I)I" } : Jvm.MethodName) prog_1_method_46_code (2 : Nat) (Option.some Jvm.ClassFile.FieldType.int)) ∈ lw_all := lw_g (lw_at lw_m11 140 rfl) rfl
theorem q2646 : (Jvm.Cond.instanceMethod ({ cls := "Slidingtray", name := "isFair", desc := "(I)Z" } : Jvm.MethodName)) ∈ lw_all := lw_g (lw_at lw_m11 145 rfl) rfl
theorem q2647 : (Jvm.Cond.selects "Slidingtray" ({ cls := "Slidingtray", name := "isFair", desc := "(I)Z" } : Jvm.MethodName) ({ cls := "Slidingtray", name := "isFair", desc := "(I)Z" } : Jvm.MethodName)) ∈ lw_all := lw_g (lw_at lw_m11 146 rfl) rfl
theorem q2648 : (Jvm.Cond.code ({ cls := "Slidingtray", name := "isFair", desc := "(I)Z" } : Jvm.MethodName) prog_1_method_47_code (2 : Nat) (Option.some Jvm.ClassFile.FieldType.boolean)) ∈ lw_all := lw_g (lw_at lw_m11 147 rfl) rfl
theorem q2649 : (Jvm.Cond.methodLink "Slidingtray" (431 : Nat) ({ cls := "Slidingtray$All", name := "isFair", desc := "(I)Z" } : Jvm.MethodName)) ∈ lw_all := lw_g (lw_at lw_m11 148 rfl) rfl
theorem q2659 : (Jvm.Cond.instanceMethod ({ cls := "Slidingtray", name := "part", desc := "(I)I" } : Jvm.MethodName)) ∈ lw_all := lw_g (lw_at lw_m11 158 rfl) rfl
theorem q2660 : (Jvm.Cond.selects "Slidingtray" ({ cls := "Slidingtray", name := "part", desc := "(I)I" } : Jvm.MethodName) ({ cls := "Slidingtray", name := "part", desc := "(I)I" } : Jvm.MethodName)) ∈ lw_all := lw_g (lw_at lw_m11 159 rfl) rfl
theorem q2661 : (Jvm.Cond.code ({ cls := "Slidingtray", name := "part", desc := "(I)I" } : Jvm.MethodName) prog_1_method_48_code (5 : Nat) (Option.some Jvm.ClassFile.FieldType.int)) ∈ lw_all := lw_g (lw_at lw_m11 160 rfl) rfl
theorem q2663 : (Jvm.Cond.methodLink "Slidingtray" (437 : Nat) ({ cls := "Slidingtray$Part", name := "<init>", desc := "(LSlidingtray$Aim;I)V" } : Jvm.MethodName)) ∈ lw_all := lw_g (lw_at lw_m11 162 rfl) rfl
theorem q2709 : (Jvm.Cond.fieldLinkNest "Slidingtray" (434 : Nat) "Slidingtray$Part" "set" "I" "Slidingtray") ∈ lw_tbl := lw_at lw_m11 208 rfl
theorem q2713 : (Jvm.Cond.fieldLinkNest "Slidingtray" (440 : Nat) "Slidingtray$Part" "places" "I" "Slidingtray") ∈ lw_tbl := lw_at lw_m11 212 rfl
theorem q3296 : (Jvm.Cond.castable "Slidingtray" "java/lang/Object") ∈ lw_tbl := lw_at lw_m14 75 rfl
theorem in_X1 : ∀ w ∈ wsX10, w ∈ lw_all := lw_in wsX10 [1148, 1150, 1152, 1154, 1156, 1158, 1160, 1162, 1164, 1166, 1168, 1170] (by decide +kernel) (by decide +kernel)

