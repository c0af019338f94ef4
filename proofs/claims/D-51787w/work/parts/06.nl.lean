set_option maxRecDepth 100000
abbrev cL_law : ByteArray := code
def dkwL_law_86 : List UInt8 := [4, 172]
abbrev dktL_law_86 : List UInt8 := dkwL_law_86 ++ []
def dkwL_law_85 : List UInt8 := [154, 0, 15, 45, 3, 47, 21, 6, 133, 148, 153, 0, 5, 3, 172, 167, 0, 3, 132, 4, 6, 167, 247, 193]
abbrev dktL_law_85 : List UInt8 := dkwL_law_85 ++ dktL_law_86
def dkwL_law_84 : List UInt8 := [184, 0, 236, 54, 5, 44, 182, 0, 238, 54, 6, 44, 182, 0, 131, 21, 5, 159, 0, 5, 3, 172, 21, 5]
abbrev dktL_law_84 : List UInt8 := dkwL_law_84 ++ dktL_law_85
def dkwL_law_83 : List UInt8 := [46, 182, 0, 231, 159, 0, 62, 3, 172, 43, 182, 0, 232, 44, 182, 0, 235, 159, 0, 49, 3, 172, 43, 45]
abbrev dktL_law_83 : List UInt8 := dkwL_law_83 ++ dktL_law_84
def dkwL_law_82 : List UInt8 := [153, 0, 5, 3, 172, 167, 0, 85, 43, 42, 21, 4, 4, 96, 46, 182, 0, 228, 44, 42, 21, 4, 4, 96]
abbrev dktL_law_82 : List UInt8 := dkwL_law_82 ++ dktL_law_83
def dkwL_law_81 : List UInt8 := [182, 0, 131, 21, 5, 159, 0, 5, 3, 172, 21, 5, 154, 0, 15, 45, 3, 47, 21, 6, 133, 148]
abbrev dktL_law_81 : List UInt8 := dkwL_law_81 ++ dktL_law_82
def dkwL_law_80 : List UInt8 := [21, 4, 4, 96, 46, 45, 184, 0, 225, 54, 5, 44, 42, 21, 4, 4, 96, 46, 182, 0, 227, 54, 6, 44]
abbrev dktL_law_80 : List UInt8 := dkwL_law_80 ++ dktL_law_81
def dkwL_law_79 : List UInt8 := [148, 153, 0, 5, 3, 172, 167, 0, 154, 43, 182, 0, 221, 44, 182, 0, 224, 159, 0, 143, 3, 172, 43, 42]
abbrev dktL_law_79 : List UInt8 := dkwL_law_79 ++ dktL_law_80
def dkwL_law_78 : List UInt8 := [54, 6, 44, 182, 0, 131, 21, 5, 159, 0, 5, 3, 172, 21, 5, 154, 0, 15, 45, 3, 47, 21, 6, 133]
abbrev dktL_law_78 : List UInt8 := dkwL_law_78 ++ dktL_law_79
def dkwL_law_77 : List UInt8 := [21, 6, 133, 148, 153, 0, 5, 3, 172, 167, 0, 198, 43, 45, 184, 0, 217, 54, 5, 44, 182, 0, 220]
abbrev dktL_law_77 : List UInt8 := dkwL_law_77 ++ dktL_law_78
def dkwL_law_76 : List UInt8 := [182, 0, 216, 54, 6, 44, 182, 0, 131, 21, 5, 159, 0, 5, 3, 172, 21, 5, 154, 0, 15, 45, 3, 47]
abbrev dktL_law_76 : List UInt8 := dkwL_law_76 ++ dktL_law_77
def dkwL_law_75 : List UInt8 := [5, 96, 46, 45, 184, 0, 214, 54, 5, 44, 42, 21, 4, 4, 96, 46, 42, 21, 4, 5, 96, 46]
abbrev dktL_law_75 : List UInt8 := dkwL_law_75 ++ dktL_law_76
def dkwL_law_74 : List UInt8 := [3, 47, 21, 6, 133, 148, 153, 0, 5, 3, 172, 167, 1, 10, 43, 42, 21, 4, 4, 96, 46, 42, 21, 4]
abbrev dktL_law_74 : List UInt8 := dkwL_law_74 ++ dktL_law_75
def dkwL_law_73 : List UInt8 := [96, 46, 182, 0, 213, 54, 6, 44, 182, 0, 131, 21, 5, 159, 0, 5, 3, 172, 21, 5, 154, 0, 15, 45]
abbrev dktL_law_73 : List UInt8 := dkwL_law_73 ++ dktL_law_74
def dkwL_law_72 : List UInt8 := [46, 42, 21, 4, 5, 96, 46, 45, 184, 0, 211, 54, 5, 44, 42, 21, 4, 4, 96, 46, 42, 21, 4, 5]
abbrev dktL_law_72 : List UInt8 := dkwL_law_72 ++ dktL_law_73
def dkwL_law_71 : List UInt8 := [154, 0, 15, 45, 3, 47, 21, 6, 133, 148, 153, 0, 5, 3, 172, 167, 1, 78, 43, 42, 21, 4, 4, 96]
abbrev dktL_law_71 : List UInt8 := dkwL_law_71 ++ dktL_law_72
def dkwL_law_70 : List UInt8 := [42, 21, 4, 5, 96, 46, 182, 0, 210, 54, 6, 44, 182, 0, 131, 21, 5, 159, 0, 5, 3, 172, 21, 5]
abbrev dktL_law_70 : List UInt8 := dkwL_law_70 ++ dktL_law_71
def dkwL_law_69 : List UInt8 := [21, 4, 4, 96, 46, 42, 21, 4, 5, 96, 46, 45, 184, 0, 208, 54, 5, 44, 42, 21, 4, 4, 96, 46]
abbrev dktL_law_69 : List UInt8 := dkwL_law_69 ++ dktL_law_70
def dkwL_law_68 : List UInt8 := [172, 21, 5, 154, 0, 15, 45, 3, 47, 21, 6, 133, 148, 153, 0, 5, 3, 172, 167, 1, 146, 43, 42]
abbrev dktL_law_68 : List UInt8 := dkwL_law_68 ++ dktL_law_69
def dkwL_law_67 : List UInt8 := [54, 5, 44, 42, 21, 4, 4, 96, 46, 182, 0, 207, 54, 6, 44, 182, 0, 131, 21, 5, 159, 0, 5, 3]
abbrev dktL_law_67 : List UInt8 := dkwL_law_67 ++ dktL_law_68
def dkwL_law_66 : List UInt8 := [47, 21, 6, 133, 148, 153, 0, 5, 3, 172, 167, 1, 202, 43, 42, 21, 4, 4, 96, 46, 45, 184, 0, 205]
abbrev dktL_law_66 : List UInt8 := dkwL_law_66 ++ dktL_law_67
def dkwL_law_65 : List UInt8 := [3, 182, 0, 204, 54, 6, 44, 182, 0, 131, 21, 5, 159, 0, 5, 3, 172, 21, 5, 154, 0, 15, 45, 3]
abbrev dktL_law_65 : List UInt8 := dkwL_law_65 ++ dktL_law_66
def dkwL_law_64 : List UInt8 := [21, 4, 5, 96, 46, 42, 21, 4, 6, 96, 46, 42, 21, 4, 7, 96, 46, 153, 0, 7, 4, 167, 0, 4]
abbrev dktL_law_64 : List UInt8 := dkwL_law_64 ++ dktL_law_65
def dkwL_law_63 : List UInt8 := [46, 153, 0, 7, 4, 167, 0, 4, 3, 45, 184, 0, 201, 54, 5, 44, 42, 21, 4, 4, 96, 46, 42]
abbrev dktL_law_63 : List UInt8 := dkwL_law_63 ++ dktL_law_64
def dkwL_law_62 : List UInt8 := [43, 42, 21, 4, 4, 96, 46, 42, 21, 4, 5, 96, 46, 42, 21, 4, 6, 96, 46, 42, 21, 4, 7, 96]
abbrev dktL_law_62 : List UInt8 := dkwL_law_62 ++ dktL_law_63
def dkwL_law_61 : List UInt8 := [153, 0, 21, 24, 5, 24, 5, 151, 153, 0, 11, 24, 7, 24, 7, 151, 154, 0, 5, 3, 172, 167, 2, 54]
abbrev dktL_law_61 : List UInt8 := dkwL_law_61 ++ dktL_law_62
def dkwL_law_60 : List UInt8 := [3, 172, 167, 2, 97, 43, 182, 0, 196, 141, 57, 5, 44, 182, 0, 200, 141, 57, 7, 24, 5, 24, 7, 151]
abbrev dktL_law_60 : List UInt8 := dkwL_law_60 ++ dktL_law_61
def dkwL_law_59 : List UInt8 := [24, 5, 24, 7, 151, 153, 0, 21, 24, 5, 24, 5, 151, 153, 0, 11, 24, 7, 24, 7, 151, 154, 0, 5]
abbrev dktL_law_59 : List UInt8 := dkwL_law_59 ++ dktL_law_60
def dkwL_law_58 : List UInt8 := [182, 0, 186, 44, 182, 0, 190, 159, 2, 140, 3, 172, 43, 182, 0, 191, 57, 5, 44, 182, 0, 195, 57, 7]
abbrev dktL_law_58 : List UInt8 := dkwL_law_58 ++ dktL_law_59
def dkwL_law_57 : List UInt8 := [148, 153, 0, 5, 3, 172, 167, 2, 164, 43, 182, 0, 182, 44, 182, 0, 185, 159, 2, 153, 3, 172, 43]
abbrev dktL_law_57 : List UInt8 := dkwL_law_57 ++ dktL_law_58
def dkwL_law_56 : List UInt8 := [54, 6, 44, 182, 0, 131, 21, 5, 159, 0, 5, 3, 172, 21, 5, 154, 0, 15, 45, 3, 47, 21, 6, 133]
abbrev dktL_law_56 : List UInt8 := dkwL_law_56 ++ dktL_law_57
def dkwL_law_55 : List UInt8 := [46, 45, 184, 0, 179, 54, 5, 44, 42, 21, 4, 4, 96, 46, 42, 21, 4, 5, 96, 46, 182, 0, 181]
abbrev dktL_law_55 : List UInt8 := dkwL_law_55 ++ dktL_law_56
def dkwL_law_54 : List UInt8 := [21, 6, 133, 148, 153, 0, 5, 3, 172, 167, 2, 232, 43, 42, 21, 4, 4, 96, 46, 42, 21, 4, 5, 96]
abbrev dktL_law_54 : List UInt8 := dkwL_law_54 ++ dktL_law_55
def dkwL_law_53 : List UInt8 := [182, 0, 178, 54, 6, 44, 182, 0, 131, 21, 5, 159, 0, 5, 3, 172, 21, 5, 154, 0, 15, 45, 3, 47]
abbrev dktL_law_53 : List UInt8 := dkwL_law_53 ++ dktL_law_54
def dkwL_law_52 : List UInt8 := [167, 3, 32, 43, 42, 21, 4, 4, 96, 46, 45, 184, 0, 176, 54, 5, 44, 42, 21, 4, 4, 96, 46]
abbrev dktL_law_52 : List UInt8 := dkwL_law_52 ++ dktL_law_53
def dkwL_law_51 : List UInt8 := [159, 0, 5, 3, 172, 21, 5, 154, 0, 15, 45, 3, 47, 21, 6, 133, 148, 153, 0, 5, 3, 172]
abbrev dktL_law_51 : List UInt8 := dkwL_law_51 ++ dktL_law_52
def dkwL_law_50 : List UInt8 := [21, 4, 4, 96, 46, 42, 21, 4, 5, 96, 46, 182, 0, 175, 54, 6, 44, 182, 0, 131, 21, 5]
abbrev dktL_law_50 : List UInt8 := dkwL_law_50 ++ dktL_law_51
def dkwL_law_49 : List UInt8 := [167, 3, 100, 43, 42, 21, 4, 4, 96, 46, 42, 21, 4, 5, 96, 46, 45, 184, 0, 173, 54, 5, 44, 42]
abbrev dktL_law_49 : List UInt8 := dkwL_law_49 ++ dktL_law_50
def dkwL_law_48 : List UInt8 := [21, 5, 159, 0, 5, 3, 172, 21, 5, 154, 0, 15, 45, 3, 47, 21, 6, 133, 148, 153, 0, 5, 3, 172]
abbrev dktL_law_48 : List UInt8 := dkwL_law_48 ++ dktL_law_49
def dkwL_law_47 : List UInt8 := [96, 46, 42, 21, 4, 5, 96, 46, 42, 21, 4, 6, 96, 46, 182, 0, 172, 54, 6, 44, 182, 0, 131]
abbrev dktL_law_47 : List UInt8 := dkwL_law_47 ++ dktL_law_48
def dkwL_law_46 : List UInt8 := [46, 42, 21, 4, 5, 96, 46, 42, 21, 4, 6, 96, 46, 45, 184, 0, 170, 54, 5, 44, 42, 21, 4, 4]
abbrev dktL_law_46 : List UInt8 := dkwL_law_46 ++ dktL_law_47
def dkwL_law_45 : List UInt8 := [154, 0, 15, 45, 3, 47, 21, 6, 133, 148, 153, 0, 5, 3, 172, 167, 3, 180, 43, 42, 21, 4, 4, 96]
abbrev dktL_law_45 : List UInt8 := dkwL_law_45 ++ dktL_law_46
def dkwL_law_44 : List UInt8 := [21, 4, 6, 96, 46, 182, 0, 169, 54, 6, 44, 182, 0, 131, 21, 5, 159, 0, 5, 3, 172, 21, 5]
abbrev dktL_law_44 : List UInt8 := dkwL_law_44 ++ dktL_law_45
def dkwL_law_43 : List UInt8 := [6, 96, 46, 45, 184, 0, 166, 54, 5, 44, 42, 21, 4, 4, 96, 46, 42, 21, 4, 5, 96, 46, 42]
abbrev dktL_law_43 : List UInt8 := dkwL_law_43 ++ dktL_law_44
def dkwL_law_42 : List UInt8 := [153, 0, 5, 3, 172, 167, 4, 4, 43, 42, 21, 4, 4, 96, 46, 42, 21, 4, 5, 96, 46, 42, 21, 4]
abbrev dktL_law_42 : List UInt8 := dkwL_law_42 ++ dktL_law_43
def dkwL_law_41 : List UInt8 := [182, 0, 131, 21, 5, 159, 0, 5, 3, 172, 21, 5, 154, 0, 15, 45, 3, 47, 21, 6, 133, 148]
abbrev dktL_law_41 : List UInt8 := dkwL_law_41 ++ dktL_law_42
def dkwL_law_40 : List UInt8 := [184, 0, 163, 54, 5, 44, 42, 21, 4, 4, 96, 46, 42, 21, 4, 5, 96, 46, 182, 0, 165, 54, 6, 44]
abbrev dktL_law_40 : List UInt8 := dkwL_law_40 ++ dktL_law_41
def dkwL_law_39 : List UInt8 := [153, 0, 5, 3, 172, 167, 4, 72, 43, 42, 21, 4, 4, 96, 46, 42, 21, 4, 5, 96, 46, 45]
abbrev dktL_law_39 : List UInt8 := dkwL_law_39 ++ dktL_law_40
def dkwL_law_38 : List UInt8 := [182, 0, 131, 21, 5, 159, 0, 5, 3, 172, 21, 5, 154, 0, 15, 45, 3, 47, 21, 6, 133, 148]
abbrev dktL_law_38 : List UInt8 := dkwL_law_38 ++ dktL_law_39
def dkwL_law_37 : List UInt8 := [184, 0, 160, 54, 5, 44, 42, 21, 4, 4, 96, 46, 42, 21, 4, 5, 96, 46, 182, 0, 162, 54, 6, 44]
abbrev dktL_law_37 : List UInt8 := dkwL_law_37 ++ dktL_law_38
def dkwL_law_36 : List UInt8 := [153, 0, 5, 3, 172, 167, 4, 140, 43, 42, 21, 4, 4, 96, 46, 42, 21, 4, 5, 96, 46, 45]
abbrev dktL_law_36 : List UInt8 := dkwL_law_36 ++ dktL_law_37
def dkwL_law_35 : List UInt8 := [182, 0, 131, 21, 5, 159, 0, 5, 3, 172, 21, 5, 154, 0, 15, 45, 3, 47, 21, 6, 133, 148]
abbrev dktL_law_35 : List UInt8 := dkwL_law_35 ++ dktL_law_36
def dkwL_law_34 : List UInt8 := [5, 96, 46, 42, 21, 4, 6, 96, 46, 153, 0, 7, 4, 167, 0, 4, 3, 182, 0, 159, 54, 6, 44]
abbrev dktL_law_34 : List UInt8 := dkwL_law_34 ++ dktL_law_35
def dkwL_law_33 : List UInt8 := [153, 0, 7, 4, 167, 0, 4, 3, 45, 184, 0, 156, 54, 5, 44, 42, 21, 4, 4, 96, 46, 42, 21, 4]
abbrev dktL_law_33 : List UInt8 := dkwL_law_33 ++ dktL_law_34
def dkwL_law_32 : List UInt8 := [167, 4, 236, 43, 42, 21, 4, 4, 96, 46, 42, 21, 4, 5, 96, 46, 42, 21, 4, 6, 96, 46]
abbrev dktL_law_32 : List UInt8 := dkwL_law_32 ++ dktL_law_33
def dkwL_law_31 : List UInt8 := [159, 0, 5, 3, 172, 21, 5, 154, 0, 15, 45, 3, 47, 21, 6, 133, 148, 153, 0, 5, 3, 172]
abbrev dktL_law_31 : List UInt8 := dkwL_law_31 ++ dktL_law_32
def dkwL_law_30 : List UInt8 := [21, 4, 4, 96, 46, 42, 21, 4, 5, 96, 46, 182, 0, 155, 54, 6, 44, 182, 0, 131, 21, 5]
abbrev dktL_law_30 : List UInt8 := dkwL_law_30 ++ dktL_law_31
def dkwL_law_29 : List UInt8 := [167, 5, 48, 43, 42, 21, 4, 4, 96, 46, 42, 21, 4, 5, 96, 46, 45, 184, 0, 153, 54, 5, 44, 42]
abbrev dktL_law_29 : List UInt8 := dkwL_law_29 ++ dktL_law_30
def dkwL_law_28 : List UInt8 := [159, 0, 5, 3, 172, 21, 5, 154, 0, 15, 45, 3, 47, 21, 6, 133, 148, 153, 0, 5, 3, 172]
abbrev dktL_law_28 : List UInt8 := dkwL_law_28 ++ dktL_law_29
def dkwL_law_27 : List UInt8 := [21, 4, 4, 96, 46, 42, 21, 4, 5, 96, 46, 182, 0, 152, 54, 6, 44, 182, 0, 131, 21, 5]
abbrev dktL_law_27 : List UInt8 := dkwL_law_27 ++ dktL_law_28
def dkwL_law_26 : List UInt8 := [167, 5, 116, 43, 42, 21, 4, 4, 96, 46, 42, 21, 4, 5, 96, 46, 45, 184, 0, 150, 54, 5, 44, 42]
abbrev dktL_law_26 : List UInt8 := dkwL_law_26 ++ dktL_law_27
def dkwL_law_25 : List UInt8 := [159, 0, 5, 3, 172, 21, 5, 154, 0, 15, 45, 3, 47, 21, 6, 133, 148, 153, 0, 5, 3, 172]
abbrev dktL_law_25 : List UInt8 := dkwL_law_25 ++ dktL_law_26
def dkwL_law_24 : List UInt8 := [21, 4, 4, 96, 46, 42, 21, 4, 5, 96, 46, 182, 0, 149, 54, 6, 44, 182, 0, 131, 21, 5]
abbrev dktL_law_24 : List UInt8 := dkwL_law_24 ++ dktL_law_25
def dkwL_law_23 : List UInt8 := [167, 5, 184, 43, 42, 21, 4, 4, 96, 46, 42, 21, 4, 5, 96, 46, 45, 184, 0, 147, 54, 5, 44, 42]
abbrev dktL_law_23 : List UInt8 := dkwL_law_23 ++ dktL_law_24
def dkwL_law_22 : List UInt8 := [159, 0, 5, 3, 172, 21, 5, 154, 0, 15, 45, 3, 47, 21, 6, 133, 148, 153, 0, 5, 3, 172]
abbrev dktL_law_22 : List UInt8 := dkwL_law_22 ++ dktL_law_23
def dkwL_law_21 : List UInt8 := [21, 4, 4, 96, 46, 42, 21, 4, 5, 96, 46, 182, 0, 146, 54, 6, 44, 182, 0, 131, 21, 5]
abbrev dktL_law_21 : List UInt8 := dkwL_law_21 ++ dktL_law_22
def dkwL_law_20 : List UInt8 := [167, 5, 252, 43, 42, 21, 4, 4, 96, 46, 42, 21, 4, 5, 96, 46, 45, 184, 0, 144, 54, 5, 44, 42]
abbrev dktL_law_20 : List UInt8 := dkwL_law_20 ++ dktL_law_21
def dkwL_law_19 : List UInt8 := [159, 0, 5, 3, 172, 21, 5, 154, 0, 15, 45, 3, 47, 21, 6, 133, 148, 153, 0, 5, 3, 172]
abbrev dktL_law_19 : List UInt8 := dkwL_law_19 ++ dktL_law_20
def dkwL_law_18 : List UInt8 := [21, 4, 4, 96, 46, 42, 21, 4, 5, 96, 46, 182, 0, 143, 54, 6, 44, 182, 0, 131, 21, 5]
abbrev dktL_law_18 : List UInt8 := dkwL_law_18 ++ dktL_law_19
def dkwL_law_17 : List UInt8 := [167, 6, 64, 43, 42, 21, 4, 4, 96, 46, 42, 21, 4, 5, 96, 46, 45, 184, 0, 141, 54, 5, 44, 42]
abbrev dktL_law_17 : List UInt8 := dkwL_law_17 ++ dktL_law_18
def dkwL_law_16 : List UInt8 := [159, 0, 5, 3, 172, 21, 5, 154, 0, 15, 45, 3, 47, 21, 6, 133, 148, 153, 0, 5, 3, 172]
abbrev dktL_law_16 : List UInt8 := dkwL_law_16 ++ dktL_law_17
def dkwL_law_15 : List UInt8 := [21, 4, 4, 96, 46, 42, 21, 4, 5, 96, 46, 182, 0, 140, 54, 6, 44, 182, 0, 131, 21, 5]
abbrev dktL_law_15 : List UInt8 := dkwL_law_15 ++ dktL_law_16
def dkwL_law_14 : List UInt8 := [167, 6, 132, 43, 42, 21, 4, 4, 96, 46, 42, 21, 4, 5, 96, 46, 45, 184, 0, 137, 54, 5, 44, 42]
abbrev dktL_law_14 : List UInt8 := dkwL_law_14 ++ dktL_law_15
def dkwL_law_13 : List UInt8 := [21, 5, 159, 0, 5, 3, 172, 21, 5, 154, 0, 15, 45, 3, 47, 21, 6, 133, 148, 153, 0, 5, 3, 172]
abbrev dktL_law_13 : List UInt8 := dkwL_law_13 ++ dktL_law_14
def dkwL_law_12 : List UInt8 := [46, 45, 184, 0, 134, 54, 5, 44, 42, 21, 4, 4, 96, 46, 182, 0, 136, 54, 6, 44, 182, 0, 131]
abbrev dktL_law_12 : List UInt8 := dkwL_law_12 ++ dktL_law_13
def dkwL_law_11 : List UInt8 := [154, 0, 15, 45, 3, 47, 21, 6, 133, 148, 153, 0, 5, 3, 172, 167, 6, 188, 43, 42, 21, 4, 4, 96]
abbrev dktL_law_11 : List UInt8 := dkwL_law_11 ++ dktL_law_12
def dkwL_law_10 : List UInt8 := [21, 4, 4, 96, 46, 182, 0, 130, 54, 6, 44, 182, 0, 131, 21, 5, 159, 0, 5, 3, 172, 21, 5]
abbrev dktL_law_10 : List UInt8 := dkwL_law_10 ++ dktL_law_11
def dkwL_law_9 : List UInt8 := [182, 0, 124, 159, 6, 246, 3, 172, 43, 42, 21, 4, 4, 96, 46, 45, 184, 0, 125, 54, 5, 44, 42]
abbrev dktL_law_9 : List UInt8 := dkwL_law_9 ++ dktL_law_10
def dkwL_law_8 : List UInt8 := [159, 7, 16, 3, 172, 43, 182, 0, 117, 44, 182, 0, 120, 159, 7, 3, 3, 172, 43, 182, 0, 121, 44]
abbrev dktL_law_8 : List UInt8 := dkwL_law_8 ++ dktL_law_9
def dkwL_law_7 : List UInt8 := [3, 172, 43, 182, 0, 109, 44, 182, 0, 112, 159, 7, 29, 3, 172, 43, 182, 0, 113, 44, 182, 0, 116]
abbrev dktL_law_7 : List UInt8 := dkwL_law_7 ++ dktL_law_8
def dkwL_law_6 : List UInt8 := [172, 43, 42, 21, 4, 4, 96, 46, 182, 0, 104, 44, 42, 21, 4, 4, 96, 46, 182, 0, 108, 159, 7, 42]
abbrev dktL_law_6 : List UInt8 := dkwL_law_6 ++ dktL_law_7
def dkwL_law_5 : List UInt8 := [21, 4, 6, 96, 46, 42, 21, 4, 7, 96, 46, 42, 21, 4, 8, 96, 46, 182, 0, 103, 159, 7, 67, 3]
abbrev dktL_law_5 : List UInt8 := dkwL_law_5 ++ dktL_law_6
def dkwL_law_4 : List UInt8 := [46, 42, 21, 4, 8, 96, 46, 182, 0, 99, 44, 42, 21, 4, 4, 96, 46, 42, 21, 4, 5, 96, 46, 42]
abbrev dktL_law_4 : List UInt8 := dkwL_law_4 ++ dktL_law_5
def dkwL_law_3 : List UInt8 := [43, 42, 21, 4, 4, 96, 46, 42, 21, 4, 5, 96, 46, 42, 21, 4, 6, 96, 46, 42, 21, 4, 7, 96]
abbrev dktL_law_3 : List UInt8 := dkwL_law_3 ++ dktL_law_4
def dkwL_law_2 : List UInt8 := [170, 0, 0, 0, 0, 0, 8, 43, 0, 0, 0, 0, 0, 0, 0, 36, 0, 0, 0, 164, 0, 0, 0, 237, 0, 0, 1, 6, 0, 0, 1, 19, 0, 0, 1, 32, 0, 0, 1, 45, 0, 0, 1, 58, 0, 0, 1, 114, 0, 0, 1, 170, 0, 0, 1, 238, 0, 0, 2, 50, 0, 0, 2, 118, 0, 0, 2, 186, 0, 0, 2, 254, 0, 0, 3, 66, 0, 0, 3, 162, 0, 0, 3, 230, 0, 0, 4, 42, 0, 0, 4, 122, 0, 0, 4, 202, 0, 0, 5, 14, 0, 0, 5, 70, 0, 0, 5, 138, 0, 0, 5, 151, 0, 0, 5, 164, 0, 0, 5, 205, 0, 0, 5, 248, 0, 0, 6, 100, 0, 0, 6, 156, 0, 0, 6, 224, 0, 0, 7, 36, 0, 0, 7, 104, 0, 0, 7, 148, 0, 0, 7, 161, 0, 0, 7, 217, 0, 0, 7, 242, 0, 0, 7, 255]
abbrev dktL_law_2 : List UInt8 := dkwL_law_2 ++ dktL_law_3
def dkwL_law_1 : List UInt8 := [21, 4, 42, 190, 16, 6, 100, 163, 8, 59, 42, 21, 4, 46, 16, 63, 126]
abbrev dktL_law_1 : List UInt8 := dkwL_law_1 ++ dktL_law_2
def dkwL_law_0 : List UInt8 := [187, 0, 8, 89, 183, 0, 95, 76, 187, 0, 96, 89, 183, 0, 98, 77, 4, 188, 11, 78, 3, 54, 4]
abbrev dktL_law_0 : List UInt8 := dkwL_law_0 ++ dktL_law_1
theorem dksL_law_0 : cL_law.data.toList.drop 0 = dktL_law_0 := by decide +kernel
theorem dksL_law_1 : cL_law.data.toList.drop 23 = dktL_law_1 := dk_seg dksL_law_0 23 rfl rfl
theorem dksL_law_2 : cL_law.data.toList.drop 40 = dktL_law_2 := dk_seg dksL_law_1 17 rfl rfl
theorem dksL_law_3 : cL_law.data.toList.drop 204 = dktL_law_3 := dk_seg dksL_law_2 164 rfl rfl
theorem dksL_law_4 : cL_law.data.toList.drop 228 = dktL_law_4 := dk_seg dksL_law_3 24 rfl rfl
theorem dksL_law_5 : cL_law.data.toList.drop 252 = dktL_law_5 := dk_seg dksL_law_4 24 rfl rfl
theorem dksL_law_6 : cL_law.data.toList.drop 276 = dktL_law_6 := dk_seg dksL_law_5 24 rfl rfl
theorem dksL_law_7 : cL_law.data.toList.drop 300 = dktL_law_7 := dk_seg dksL_law_6 24 rfl rfl
theorem dksL_law_8 : cL_law.data.toList.drop 323 = dktL_law_8 := dk_seg dksL_law_7 23 rfl rfl
theorem dksL_law_9 : cL_law.data.toList.drop 346 = dktL_law_9 := dk_seg dksL_law_8 23 rfl rfl
theorem dksL_law_10 : cL_law.data.toList.drop 369 = dktL_law_10 := dk_seg dksL_law_9 23 rfl rfl
theorem dksL_law_11 : cL_law.data.toList.drop 392 = dktL_law_11 := dk_seg dksL_law_10 23 rfl rfl
theorem dksL_law_12 : cL_law.data.toList.drop 416 = dktL_law_12 := dk_seg dksL_law_11 24 rfl rfl
theorem dksL_law_13 : cL_law.data.toList.drop 439 = dktL_law_13 := dk_seg dksL_law_12 23 rfl rfl
theorem dksL_law_14 : cL_law.data.toList.drop 463 = dktL_law_14 := dk_seg dksL_law_13 24 rfl rfl
theorem dksL_law_15 : cL_law.data.toList.drop 487 = dktL_law_15 := dk_seg dksL_law_14 24 rfl rfl
theorem dksL_law_16 : cL_law.data.toList.drop 509 = dktL_law_16 := dk_seg dksL_law_15 22 rfl rfl
theorem dksL_law_17 : cL_law.data.toList.drop 531 = dktL_law_17 := dk_seg dksL_law_16 22 rfl rfl
theorem dksL_law_18 : cL_law.data.toList.drop 555 = dktL_law_18 := dk_seg dksL_law_17 24 rfl rfl
theorem dksL_law_19 : cL_law.data.toList.drop 577 = dktL_law_19 := dk_seg dksL_law_18 22 rfl rfl
theorem dksL_law_20 : cL_law.data.toList.drop 599 = dktL_law_20 := dk_seg dksL_law_19 22 rfl rfl
theorem dksL_law_21 : cL_law.data.toList.drop 623 = dktL_law_21 := dk_seg dksL_law_20 24 rfl rfl
theorem dksL_law_22 : cL_law.data.toList.drop 645 = dktL_law_22 := dk_seg dksL_law_21 22 rfl rfl
theorem dksL_law_23 : cL_law.data.toList.drop 667 = dktL_law_23 := dk_seg dksL_law_22 22 rfl rfl
theorem dksL_law_24 : cL_law.data.toList.drop 691 = dktL_law_24 := dk_seg dksL_law_23 24 rfl rfl
theorem dksL_law_25 : cL_law.data.toList.drop 713 = dktL_law_25 := dk_seg dksL_law_24 22 rfl rfl
theorem dksL_law_26 : cL_law.data.toList.drop 735 = dktL_law_26 := dk_seg dksL_law_25 22 rfl rfl
theorem dksL_law_27 : cL_law.data.toList.drop 759 = dktL_law_27 := dk_seg dksL_law_26 24 rfl rfl
theorem dksL_law_28 : cL_law.data.toList.drop 781 = dktL_law_28 := dk_seg dksL_law_27 22 rfl rfl
theorem dksL_law_29 : cL_law.data.toList.drop 803 = dktL_law_29 := dk_seg dksL_law_28 22 rfl rfl
theorem dksL_law_30 : cL_law.data.toList.drop 827 = dktL_law_30 := dk_seg dksL_law_29 24 rfl rfl
theorem dksL_law_31 : cL_law.data.toList.drop 849 = dktL_law_31 := dk_seg dksL_law_30 22 rfl rfl
theorem dksL_law_32 : cL_law.data.toList.drop 871 = dktL_law_32 := dk_seg dksL_law_31 22 rfl rfl
theorem dksL_law_33 : cL_law.data.toList.drop 893 = dktL_law_33 := dk_seg dksL_law_32 22 rfl rfl
theorem dksL_law_34 : cL_law.data.toList.drop 917 = dktL_law_34 := dk_seg dksL_law_33 24 rfl rfl
theorem dksL_law_35 : cL_law.data.toList.drop 940 = dktL_law_35 := dk_seg dksL_law_34 23 rfl rfl
theorem dksL_law_36 : cL_law.data.toList.drop 962 = dktL_law_36 := dk_seg dksL_law_35 22 rfl rfl
theorem dksL_law_37 : cL_law.data.toList.drop 984 = dktL_law_37 := dk_seg dksL_law_36 22 rfl rfl
theorem dksL_law_38 : cL_law.data.toList.drop 1008 = dktL_law_38 := dk_seg dksL_law_37 24 rfl rfl
theorem dksL_law_39 : cL_law.data.toList.drop 1030 = dktL_law_39 := dk_seg dksL_law_38 22 rfl rfl
theorem dksL_law_40 : cL_law.data.toList.drop 1052 = dktL_law_40 := dk_seg dksL_law_39 22 rfl rfl
theorem dksL_law_41 : cL_law.data.toList.drop 1076 = dktL_law_41 := dk_seg dksL_law_40 24 rfl rfl
theorem dksL_law_42 : cL_law.data.toList.drop 1098 = dktL_law_42 := dk_seg dksL_law_41 22 rfl rfl
theorem dksL_law_43 : cL_law.data.toList.drop 1122 = dktL_law_43 := dk_seg dksL_law_42 24 rfl rfl
theorem dksL_law_44 : cL_law.data.toList.drop 1145 = dktL_law_44 := dk_seg dksL_law_43 23 rfl rfl
theorem dksL_law_45 : cL_law.data.toList.drop 1168 = dktL_law_45 := dk_seg dksL_law_44 23 rfl rfl
theorem dksL_law_46 : cL_law.data.toList.drop 1192 = dktL_law_46 := dk_seg dksL_law_45 24 rfl rfl
theorem dksL_law_47 : cL_law.data.toList.drop 1216 = dktL_law_47 := dk_seg dksL_law_46 24 rfl rfl
theorem dksL_law_48 : cL_law.data.toList.drop 1239 = dktL_law_48 := dk_seg dksL_law_47 23 rfl rfl
theorem dksL_law_49 : cL_law.data.toList.drop 1263 = dktL_law_49 := dk_seg dksL_law_48 24 rfl rfl
theorem dksL_law_50 : cL_law.data.toList.drop 1287 = dktL_law_50 := dk_seg dksL_law_49 24 rfl rfl
theorem dksL_law_51 : cL_law.data.toList.drop 1309 = dktL_law_51 := dk_seg dksL_law_50 22 rfl rfl
theorem dksL_law_52 : cL_law.data.toList.drop 1331 = dktL_law_52 := dk_seg dksL_law_51 22 rfl rfl
theorem dksL_law_53 : cL_law.data.toList.drop 1354 = dktL_law_53 := dk_seg dksL_law_52 23 rfl rfl
theorem dksL_law_54 : cL_law.data.toList.drop 1378 = dktL_law_54 := dk_seg dksL_law_53 24 rfl rfl
theorem dksL_law_55 : cL_law.data.toList.drop 1402 = dktL_law_55 := dk_seg dksL_law_54 24 rfl rfl
theorem dksL_law_56 : cL_law.data.toList.drop 1425 = dktL_law_56 := dk_seg dksL_law_55 23 rfl rfl
theorem dksL_law_57 : cL_law.data.toList.drop 1449 = dktL_law_57 := dk_seg dksL_law_56 24 rfl rfl
theorem dksL_law_58 : cL_law.data.toList.drop 1472 = dktL_law_58 := dk_seg dksL_law_57 23 rfl rfl
theorem dksL_law_59 : cL_law.data.toList.drop 1496 = dktL_law_59 := dk_seg dksL_law_58 24 rfl rfl
theorem dksL_law_60 : cL_law.data.toList.drop 1520 = dktL_law_60 := dk_seg dksL_law_59 24 rfl rfl
theorem dksL_law_61 : cL_law.data.toList.drop 1544 = dktL_law_61 := dk_seg dksL_law_60 24 rfl rfl
theorem dksL_law_62 : cL_law.data.toList.drop 1568 = dktL_law_62 := dk_seg dksL_law_61 24 rfl rfl
theorem dksL_law_63 : cL_law.data.toList.drop 1592 = dktL_law_63 := dk_seg dksL_law_62 24 rfl rfl
theorem dksL_law_64 : cL_law.data.toList.drop 1615 = dktL_law_64 := dk_seg dksL_law_63 23 rfl rfl
theorem dksL_law_65 : cL_law.data.toList.drop 1639 = dktL_law_65 := dk_seg dksL_law_64 24 rfl rfl
theorem dksL_law_66 : cL_law.data.toList.drop 1663 = dktL_law_66 := dk_seg dksL_law_65 24 rfl rfl
theorem dksL_law_67 : cL_law.data.toList.drop 1687 = dktL_law_67 := dk_seg dksL_law_66 24 rfl rfl
theorem dksL_law_68 : cL_law.data.toList.drop 1711 = dktL_law_68 := dk_seg dksL_law_67 24 rfl rfl
theorem dksL_law_69 : cL_law.data.toList.drop 1734 = dktL_law_69 := dk_seg dksL_law_68 23 rfl rfl
theorem dksL_law_70 : cL_law.data.toList.drop 1758 = dktL_law_70 := dk_seg dksL_law_69 24 rfl rfl
theorem dksL_law_71 : cL_law.data.toList.drop 1782 = dktL_law_71 := dk_seg dksL_law_70 24 rfl rfl
theorem dksL_law_72 : cL_law.data.toList.drop 1806 = dktL_law_72 := dk_seg dksL_law_71 24 rfl rfl
theorem dksL_law_73 : cL_law.data.toList.drop 1830 = dktL_law_73 := dk_seg dksL_law_72 24 rfl rfl
theorem dksL_law_74 : cL_law.data.toList.drop 1854 = dktL_law_74 := dk_seg dksL_law_73 24 rfl rfl
theorem dksL_law_75 : cL_law.data.toList.drop 1878 = dktL_law_75 := dk_seg dksL_law_74 24 rfl rfl
theorem dksL_law_76 : cL_law.data.toList.drop 1900 = dktL_law_76 := dk_seg dksL_law_75 22 rfl rfl
theorem dksL_law_77 : cL_law.data.toList.drop 1924 = dktL_law_77 := dk_seg dksL_law_76 24 rfl rfl
theorem dksL_law_78 : cL_law.data.toList.drop 1947 = dktL_law_78 := dk_seg dksL_law_77 23 rfl rfl
theorem dksL_law_79 : cL_law.data.toList.drop 1971 = dktL_law_79 := dk_seg dksL_law_78 24 rfl rfl
theorem dksL_law_80 : cL_law.data.toList.drop 1995 = dktL_law_80 := dk_seg dksL_law_79 24 rfl rfl
theorem dksL_law_81 : cL_law.data.toList.drop 2019 = dktL_law_81 := dk_seg dksL_law_80 24 rfl rfl
theorem dksL_law_82 : cL_law.data.toList.drop 2041 = dktL_law_82 := dk_seg dksL_law_81 22 rfl rfl
theorem dksL_law_83 : cL_law.data.toList.drop 2065 = dktL_law_83 := dk_seg dksL_law_82 24 rfl rfl
theorem dksL_law_84 : cL_law.data.toList.drop 2089 = dktL_law_84 := dk_seg dksL_law_83 24 rfl rfl
theorem dksL_law_85 : cL_law.data.toList.drop 2113 = dktL_law_85 := dk_seg dksL_law_84 24 rfl rfl
theorem dksL_law_86 : cL_law.data.toList.drop 2137 = dktL_law_86 := dk_seg dksL_law_85 24 rfl rfl
theorem dL_law_0 : decode cL_law 0 = .ok (.new 8, 3) := dk_187 0 8 (dk_at dksL_law_0 0 rfl rfl)
theorem dL_law_3 : decode cL_law 3 = .ok (.dup, 1) := dk_89 (dk_at dksL_law_0 3 rfl rfl)
theorem dL_law_4 : decode cL_law 4 = .ok (.invokespecial 95, 3) := dk_183 0 95 (dk_at dksL_law_0 4 rfl rfl)
theorem dL_law_7 : decode cL_law 7 = .ok (.astore_n 1, 1) := dk_76 (dk_at dksL_law_0 7 rfl rfl)
theorem dL_law_8 : decode cL_law 8 = .ok (.new 96, 3) := dk_187 0 96 (dk_at dksL_law_0 8 rfl rfl)
theorem dL_law_11 : decode cL_law 11 = .ok (.dup, 1) := dk_89 (dk_at dksL_law_0 11 rfl rfl)
theorem dL_law_12 : decode cL_law 12 = .ok (.invokespecial 98, 3) := dk_183 0 98 (dk_at dksL_law_0 12 rfl rfl)
theorem dL_law_15 : decode cL_law 15 = .ok (.astore_n 2, 1) := dk_77 (dk_at dksL_law_0 15 rfl rfl)
theorem dL_law_16 : decode cL_law 16 = .ok (.iconst 1, 1) := dk_4 (dk_at dksL_law_0 16 rfl rfl)
theorem dL_law_17 : decode cL_law 17 = .ok (.newarray .long, 2) := dk_188_11 (dk_at dksL_law_0 17 rfl rfl)
theorem dL_law_19 : decode cL_law 19 = .ok (.astore_n 3, 1) := dk_78 (dk_at dksL_law_0 19 rfl rfl)
theorem dL_law_20 : decode cL_law 20 = .ok (.iconst 0, 1) := dk_3 (dk_at dksL_law_0 20 rfl rfl)
theorem dL_law_21 : decode cL_law 21 = .ok (.istore 4, 2) := dk_54 4 (dk_at dksL_law_0 21 rfl rfl)
theorem dL_law_23 : decode cL_law 23 = .ok (.iload 4, 2) := dk_21 4 (dk_at dksL_law_1 0 rfl rfl)
theorem dL_law_25 : decode cL_law 25 = .ok (.aload_n 0, 1) := dk_42 (dk_at dksL_law_1 2 rfl rfl)
theorem dL_law_26 : decode cL_law 26 = .ok (.arraylength, 1) := dk_190 (dk_at dksL_law_1 3 rfl rfl)
theorem dL_law_27 : decode cL_law 27 = .ok (.bipush 6, 2) := dk_16 6 (dk_at dksL_law_1 4 rfl rfl)
theorem dL_law_29 : decode cL_law 29 = .ok (.isub, 1) := dk_100 (dk_at dksL_law_1 6 rfl rfl)
theorem dL_law_30 : decode cL_law 30 = .ok (.if_icmp .gt 2107, 3) := dk_163 8 59 (dk_at dksL_law_1 7 rfl rfl)
theorem dL_law_33 : decode cL_law 33 = .ok (.aload_n 0, 1) := dk_42 (dk_at dksL_law_1 10 rfl rfl)
theorem dL_law_34 : decode cL_law 34 = .ok (.iload 4, 2) := dk_21 4 (dk_at dksL_law_1 11 rfl rfl)
theorem dL_law_36 : decode cL_law 36 = .ok (.iaload, 1) := dk_46 (dk_at dksL_law_1 13 rfl rfl)
theorem dL_law_37 : decode cL_law 37 = .ok (.bipush 63, 2) := dk_16 63 (dk_at dksL_law_1 14 rfl rfl)
theorem dL_law_39 : decode cL_law 39 = .ok (.iand, 1) := dk_126 (dk_at dksL_law_1 16 rfl rfl)
theorem dL_law_40 : decode cL_law 40 = .ok (.tableswitch 2091 0 36 #[164, 237, 262, 275, 288, 301, 314, 370, 426, 494, 562, 630, 698, 766, 834, 930, 998, 1066, 1146, 1226, 1294, 1350, 1418, 1431, 1444, 1485, 1528, 1636, 1692, 1760, 1828, 1896, 1940, 1953, 2009, 2034, 2047], 164) := by decide +kernel
theorem dL_law_204 : decode cL_law 204 = .ok (.aload_n 1, 1) := dk_43 (dk_at dksL_law_3 0 rfl rfl)
theorem dL_law_205 : decode cL_law 205 = .ok (.aload_n 0, 1) := dk_42 (dk_at dksL_law_3 1 rfl rfl)
theorem dL_law_206 : decode cL_law 206 = .ok (.iload 4, 2) := dk_21 4 (dk_at dksL_law_3 2 rfl rfl)
theorem dL_law_208 : decode cL_law 208 = .ok (.iconst 1, 1) := dk_4 (dk_at dksL_law_3 4 rfl rfl)
theorem dL_law_209 : decode cL_law 209 = .ok (.iadd, 1) := dk_96 (dk_at dksL_law_3 5 rfl rfl)
theorem dL_law_210 : decode cL_law 210 = .ok (.iaload, 1) := dk_46 (dk_at dksL_law_3 6 rfl rfl)
theorem dL_law_211 : decode cL_law 211 = .ok (.aload_n 0, 1) := dk_42 (dk_at dksL_law_3 7 rfl rfl)
theorem dL_law_212 : decode cL_law 212 = .ok (.iload 4, 2) := dk_21 4 (dk_at dksL_law_3 8 rfl rfl)
theorem dL_law_214 : decode cL_law 214 = .ok (.iconst 2, 1) := dk_5 (dk_at dksL_law_3 10 rfl rfl)
theorem dL_law_215 : decode cL_law 215 = .ok (.iadd, 1) := dk_96 (dk_at dksL_law_3 11 rfl rfl)
theorem dL_law_216 : decode cL_law 216 = .ok (.iaload, 1) := dk_46 (dk_at dksL_law_3 12 rfl rfl)
theorem dL_law_217 : decode cL_law 217 = .ok (.aload_n 0, 1) := dk_42 (dk_at dksL_law_3 13 rfl rfl)
theorem dL_law_218 : decode cL_law 218 = .ok (.iload 4, 2) := dk_21 4 (dk_at dksL_law_3 14 rfl rfl)
theorem dL_law_220 : decode cL_law 220 = .ok (.iconst 3, 1) := dk_6 (dk_at dksL_law_3 16 rfl rfl)
theorem dL_law_221 : decode cL_law 221 = .ok (.iadd, 1) := dk_96 (dk_at dksL_law_3 17 rfl rfl)
theorem dL_law_222 : decode cL_law 222 = .ok (.iaload, 1) := dk_46 (dk_at dksL_law_3 18 rfl rfl)
theorem dL_law_223 : decode cL_law 223 = .ok (.aload_n 0, 1) := dk_42 (dk_at dksL_law_3 19 rfl rfl)
theorem dL_law_224 : decode cL_law 224 = .ok (.iload 4, 2) := dk_21 4 (dk_at dksL_law_3 20 rfl rfl)
theorem dL_law_226 : decode cL_law 226 = .ok (.iconst 4, 1) := dk_7 (dk_at dksL_law_3 22 rfl rfl)
theorem dL_law_227 : decode cL_law 227 = .ok (.iadd, 1) := dk_96 (dk_at dksL_law_3 23 rfl rfl)
theorem dL_law_228 : decode cL_law 228 = .ok (.iaload, 1) := dk_46 (dk_at dksL_law_4 0 rfl rfl)
theorem dL_law_229 : decode cL_law 229 = .ok (.aload_n 0, 1) := dk_42 (dk_at dksL_law_4 1 rfl rfl)
theorem dL_law_230 : decode cL_law 230 = .ok (.iload 4, 2) := dk_21 4 (dk_at dksL_law_4 2 rfl rfl)
theorem dL_law_232 : decode cL_law 232 = .ok (.iconst 5, 1) := dk_8 (dk_at dksL_law_4 4 rfl rfl)
theorem dL_law_233 : decode cL_law 233 = .ok (.iadd, 1) := dk_96 (dk_at dksL_law_4 5 rfl rfl)
theorem dL_law_234 : decode cL_law 234 = .ok (.iaload, 1) := dk_46 (dk_at dksL_law_4 6 rfl rfl)
theorem dL_law_235 : decode cL_law 235 = .ok (.invokevirtual 99, 3) := dk_182 0 99 (dk_at dksL_law_4 7 rfl rfl)
theorem dL_law_238 : decode cL_law 238 = .ok (.aload_n 2, 1) := dk_44 (dk_at dksL_law_4 10 rfl rfl)
theorem dL_law_239 : decode cL_law 239 = .ok (.aload_n 0, 1) := dk_42 (dk_at dksL_law_4 11 rfl rfl)
theorem dL_law_240 : decode cL_law 240 = .ok (.iload 4, 2) := dk_21 4 (dk_at dksL_law_4 12 rfl rfl)
theorem dL_law_242 : decode cL_law 242 = .ok (.iconst 1, 1) := dk_4 (dk_at dksL_law_4 14 rfl rfl)
theorem dL_law_243 : decode cL_law 243 = .ok (.iadd, 1) := dk_96 (dk_at dksL_law_4 15 rfl rfl)
theorem dL_law_244 : decode cL_law 244 = .ok (.iaload, 1) := dk_46 (dk_at dksL_law_4 16 rfl rfl)
theorem dL_law_245 : decode cL_law 245 = .ok (.aload_n 0, 1) := dk_42 (dk_at dksL_law_4 17 rfl rfl)
theorem dL_law_246 : decode cL_law 246 = .ok (.iload 4, 2) := dk_21 4 (dk_at dksL_law_4 18 rfl rfl)
theorem dL_law_248 : decode cL_law 248 = .ok (.iconst 2, 1) := dk_5 (dk_at dksL_law_4 20 rfl rfl)
theorem dL_law_249 : decode cL_law 249 = .ok (.iadd, 1) := dk_96 (dk_at dksL_law_4 21 rfl rfl)
theorem dL_law_250 : decode cL_law 250 = .ok (.iaload, 1) := dk_46 (dk_at dksL_law_4 22 rfl rfl)
theorem dL_law_251 : decode cL_law 251 = .ok (.aload_n 0, 1) := dk_42 (dk_at dksL_law_4 23 rfl rfl)
theorem dL_law_252 : decode cL_law 252 = .ok (.iload 4, 2) := dk_21 4 (dk_at dksL_law_5 0 rfl rfl)
theorem dL_law_254 : decode cL_law 254 = .ok (.iconst 3, 1) := dk_6 (dk_at dksL_law_5 2 rfl rfl)
theorem dL_law_255 : decode cL_law 255 = .ok (.iadd, 1) := dk_96 (dk_at dksL_law_5 3 rfl rfl)
theorem dL_law_256 : decode cL_law 256 = .ok (.iaload, 1) := dk_46 (dk_at dksL_law_5 4 rfl rfl)
theorem dL_law_257 : decode cL_law 257 = .ok (.aload_n 0, 1) := dk_42 (dk_at dksL_law_5 5 rfl rfl)
theorem dL_law_258 : decode cL_law 258 = .ok (.iload 4, 2) := dk_21 4 (dk_at dksL_law_5 6 rfl rfl)
theorem dL_law_260 : decode cL_law 260 = .ok (.iconst 4, 1) := dk_7 (dk_at dksL_law_5 8 rfl rfl)
theorem dL_law_261 : decode cL_law 261 = .ok (.iadd, 1) := dk_96 (dk_at dksL_law_5 9 rfl rfl)
theorem dL_law_262 : decode cL_law 262 = .ok (.iaload, 1) := dk_46 (dk_at dksL_law_5 10 rfl rfl)
theorem dL_law_263 : decode cL_law 263 = .ok (.aload_n 0, 1) := dk_42 (dk_at dksL_law_5 11 rfl rfl)
theorem dL_law_264 : decode cL_law 264 = .ok (.iload 4, 2) := dk_21 4 (dk_at dksL_law_5 12 rfl rfl)
theorem dL_law_266 : decode cL_law 266 = .ok (.iconst 5, 1) := dk_8 (dk_at dksL_law_5 14 rfl rfl)
theorem dL_law_267 : decode cL_law 267 = .ok (.iadd, 1) := dk_96 (dk_at dksL_law_5 15 rfl rfl)
theorem dL_law_268 : decode cL_law 268 = .ok (.iaload, 1) := dk_46 (dk_at dksL_law_5 16 rfl rfl)
theorem dL_law_269 : decode cL_law 269 = .ok (.invokevirtual 103, 3) := dk_182 0 103 (dk_at dksL_law_5 17 rfl rfl)
theorem dL_law_272 : decode cL_law 272 = .ok (.if_icmp .eq 1859, 3) := dk_159 7 67 (dk_at dksL_law_5 20 rfl rfl)
theorem dL_law_275 : decode cL_law 275 = .ok (.iconst 0, 1) := dk_3 (dk_at dksL_law_5 23 rfl rfl)
theorem dL_law_276 : decode cL_law 276 = .ok (.ireturn, 1) := dk_172 (dk_at dksL_law_6 0 rfl rfl)
theorem dL_law_277 : decode cL_law 277 = .ok (.aload_n 1, 1) := dk_43 (dk_at dksL_law_6 1 rfl rfl)
theorem dL_law_278 : decode cL_law 278 = .ok (.aload_n 0, 1) := dk_42 (dk_at dksL_law_6 2 rfl rfl)
theorem dL_law_279 : decode cL_law 279 = .ok (.iload 4, 2) := dk_21 4 (dk_at dksL_law_6 3 rfl rfl)
theorem dL_law_281 : decode cL_law 281 = .ok (.iconst 1, 1) := dk_4 (dk_at dksL_law_6 5 rfl rfl)
theorem dL_law_282 : decode cL_law 282 = .ok (.iadd, 1) := dk_96 (dk_at dksL_law_6 6 rfl rfl)
theorem dL_law_283 : decode cL_law 283 = .ok (.iaload, 1) := dk_46 (dk_at dksL_law_6 7 rfl rfl)
theorem dL_law_284 : decode cL_law 284 = .ok (.invokevirtual 104, 3) := dk_182 0 104 (dk_at dksL_law_6 8 rfl rfl)
theorem dL_law_287 : decode cL_law 287 = .ok (.aload_n 2, 1) := dk_44 (dk_at dksL_law_6 11 rfl rfl)
theorem dL_law_288 : decode cL_law 288 = .ok (.aload_n 0, 1) := dk_42 (dk_at dksL_law_6 12 rfl rfl)
theorem dL_law_289 : decode cL_law 289 = .ok (.iload 4, 2) := dk_21 4 (dk_at dksL_law_6 13 rfl rfl)
theorem dL_law_291 : decode cL_law 291 = .ok (.iconst 1, 1) := dk_4 (dk_at dksL_law_6 15 rfl rfl)
theorem dL_law_292 : decode cL_law 292 = .ok (.iadd, 1) := dk_96 (dk_at dksL_law_6 16 rfl rfl)
theorem dL_law_293 : decode cL_law 293 = .ok (.iaload, 1) := dk_46 (dk_at dksL_law_6 17 rfl rfl)
theorem dL_law_294 : decode cL_law 294 = .ok (.invokevirtual 108, 3) := dk_182 0 108 (dk_at dksL_law_6 18 rfl rfl)
theorem dL_law_297 : decode cL_law 297 = .ok (.if_icmp .eq 1834, 3) := dk_159 7 42 (dk_at dksL_law_6 21 rfl rfl)
theorem dL_law_300 : decode cL_law 300 = .ok (.iconst 0, 1) := dk_3 (dk_at dksL_law_7 0 rfl rfl)
theorem dL_law_301 : decode cL_law 301 = .ok (.ireturn, 1) := dk_172 (dk_at dksL_law_7 1 rfl rfl)
theorem dL_law_302 : decode cL_law 302 = .ok (.aload_n 1, 1) := dk_43 (dk_at dksL_law_7 2 rfl rfl)
theorem dL_law_303 : decode cL_law 303 = .ok (.invokevirtual 109, 3) := dk_182 0 109 (dk_at dksL_law_7 3 rfl rfl)
theorem dL_law_306 : decode cL_law 306 = .ok (.aload_n 2, 1) := dk_44 (dk_at dksL_law_7 6 rfl rfl)
theorem dL_law_307 : decode cL_law 307 = .ok (.invokevirtual 112, 3) := dk_182 0 112 (dk_at dksL_law_7 7 rfl rfl)
theorem dL_law_310 : decode cL_law 310 = .ok (.if_icmp .eq 1821, 3) := dk_159 7 29 (dk_at dksL_law_7 10 rfl rfl)
theorem dL_law_313 : decode cL_law 313 = .ok (.iconst 0, 1) := dk_3 (dk_at dksL_law_7 13 rfl rfl)
theorem dL_law_314 : decode cL_law 314 = .ok (.ireturn, 1) := dk_172 (dk_at dksL_law_7 14 rfl rfl)
theorem dL_law_315 : decode cL_law 315 = .ok (.aload_n 1, 1) := dk_43 (dk_at dksL_law_7 15 rfl rfl)
theorem dL_law_316 : decode cL_law 316 = .ok (.invokevirtual 113, 3) := dk_182 0 113 (dk_at dksL_law_7 16 rfl rfl)
theorem dL_law_319 : decode cL_law 319 = .ok (.aload_n 2, 1) := dk_44 (dk_at dksL_law_7 19 rfl rfl)
theorem dL_law_320 : decode cL_law 320 = .ok (.invokevirtual 116, 3) := dk_182 0 116 (dk_at dksL_law_7 20 rfl rfl)
theorem dL_law_323 : decode cL_law 323 = .ok (.if_icmp .eq 1808, 3) := dk_159 7 16 (dk_at dksL_law_8 0 rfl rfl)
theorem dL_law_326 : decode cL_law 326 = .ok (.iconst 0, 1) := dk_3 (dk_at dksL_law_8 3 rfl rfl)
theorem dL_law_327 : decode cL_law 327 = .ok (.ireturn, 1) := dk_172 (dk_at dksL_law_8 4 rfl rfl)
theorem dL_law_328 : decode cL_law 328 = .ok (.aload_n 1, 1) := dk_43 (dk_at dksL_law_8 5 rfl rfl)
theorem dL_law_329 : decode cL_law 329 = .ok (.invokevirtual 117, 3) := dk_182 0 117 (dk_at dksL_law_8 6 rfl rfl)
theorem dL_law_332 : decode cL_law 332 = .ok (.aload_n 2, 1) := dk_44 (dk_at dksL_law_8 9 rfl rfl)
theorem dL_law_333 : decode cL_law 333 = .ok (.invokevirtual 120, 3) := dk_182 0 120 (dk_at dksL_law_8 10 rfl rfl)
theorem dL_law_336 : decode cL_law 336 = .ok (.if_icmp .eq 1795, 3) := dk_159 7 3 (dk_at dksL_law_8 13 rfl rfl)
theorem dL_law_339 : decode cL_law 339 = .ok (.iconst 0, 1) := dk_3 (dk_at dksL_law_8 16 rfl rfl)
theorem dL_law_340 : decode cL_law 340 = .ok (.ireturn, 1) := dk_172 (dk_at dksL_law_8 17 rfl rfl)
theorem dL_law_341 : decode cL_law 341 = .ok (.aload_n 1, 1) := dk_43 (dk_at dksL_law_8 18 rfl rfl)
theorem dL_law_342 : decode cL_law 342 = .ok (.invokevirtual 121, 3) := dk_182 0 121 (dk_at dksL_law_8 19 rfl rfl)
theorem dL_law_345 : decode cL_law 345 = .ok (.aload_n 2, 1) := dk_44 (dk_at dksL_law_8 22 rfl rfl)
theorem dL_law_346 : decode cL_law 346 = .ok (.invokevirtual 124, 3) := dk_182 0 124 (dk_at dksL_law_9 0 rfl rfl)
theorem dL_law_349 : decode cL_law 349 = .ok (.if_icmp .eq 1782, 3) := dk_159 6 246 (dk_at dksL_law_9 3 rfl rfl)
theorem dL_law_352 : decode cL_law 352 = .ok (.iconst 0, 1) := dk_3 (dk_at dksL_law_9 6 rfl rfl)
theorem dL_law_353 : decode cL_law 353 = .ok (.ireturn, 1) := dk_172 (dk_at dksL_law_9 7 rfl rfl)
theorem dL_law_354 : decode cL_law 354 = .ok (.aload_n 1, 1) := dk_43 (dk_at dksL_law_9 8 rfl rfl)
theorem dL_law_355 : decode cL_law 355 = .ok (.aload_n 0, 1) := dk_42 (dk_at dksL_law_9 9 rfl rfl)
theorem dL_law_356 : decode cL_law 356 = .ok (.iload 4, 2) := dk_21 4 (dk_at dksL_law_9 10 rfl rfl)
theorem dL_law_358 : decode cL_law 358 = .ok (.iconst 1, 1) := dk_4 (dk_at dksL_law_9 12 rfl rfl)
theorem dL_law_359 : decode cL_law 359 = .ok (.iadd, 1) := dk_96 (dk_at dksL_law_9 13 rfl rfl)
theorem dL_law_360 : decode cL_law 360 = .ok (.iaload, 1) := dk_46 (dk_at dksL_law_9 14 rfl rfl)
theorem dL_law_361 : decode cL_law 361 = .ok (.aload_n 3, 1) := dk_45 (dk_at dksL_law_9 15 rfl rfl)
theorem dL_law_362 : decode cL_law 362 = .ok (.invokestatic 125, 3) := dk_184 0 125 (dk_at dksL_law_9 16 rfl rfl)
theorem dL_law_365 : decode cL_law 365 = .ok (.istore 5, 2) := dk_54 5 (dk_at dksL_law_9 19 rfl rfl)
theorem dL_law_367 : decode cL_law 367 = .ok (.aload_n 2, 1) := dk_44 (dk_at dksL_law_9 21 rfl rfl)
theorem dL_law_368 : decode cL_law 368 = .ok (.aload_n 0, 1) := dk_42 (dk_at dksL_law_9 22 rfl rfl)
theorem dL_law_369 : decode cL_law 369 = .ok (.iload 4, 2) := dk_21 4 (dk_at dksL_law_10 0 rfl rfl)
theorem dL_law_371 : decode cL_law 371 = .ok (.iconst 1, 1) := dk_4 (dk_at dksL_law_10 2 rfl rfl)
theorem dL_law_372 : decode cL_law 372 = .ok (.iadd, 1) := dk_96 (dk_at dksL_law_10 3 rfl rfl)
theorem dL_law_373 : decode cL_law 373 = .ok (.iaload, 1) := dk_46 (dk_at dksL_law_10 4 rfl rfl)
theorem dL_law_374 : decode cL_law 374 = .ok (.invokevirtual 130, 3) := dk_182 0 130 (dk_at dksL_law_10 5 rfl rfl)
theorem dL_law_377 : decode cL_law 377 = .ok (.istore 6, 2) := dk_54 6 (dk_at dksL_law_10 8 rfl rfl)
theorem dL_law_379 : decode cL_law 379 = .ok (.aload_n 2, 1) := dk_44 (dk_at dksL_law_10 10 rfl rfl)
theorem dL_law_380 : decode cL_law 380 = .ok (.invokevirtual 131, 3) := dk_182 0 131 (dk_at dksL_law_10 11 rfl rfl)
theorem dL_law_383 : decode cL_law 383 = .ok (.iload 5, 2) := dk_21 5 (dk_at dksL_law_10 14 rfl rfl)
theorem dL_law_385 : decode cL_law 385 = .ok (.if_icmp .eq 5, 3) := dk_159 0 5 (dk_at dksL_law_10 16 rfl rfl)
theorem dL_law_388 : decode cL_law 388 = .ok (.iconst 0, 1) := dk_3 (dk_at dksL_law_10 19 rfl rfl)
theorem dL_law_389 : decode cL_law 389 = .ok (.ireturn, 1) := dk_172 (dk_at dksL_law_10 20 rfl rfl)
theorem dL_law_390 : decode cL_law 390 = .ok (.iload 5, 2) := dk_21 5 (dk_at dksL_law_10 21 rfl rfl)
theorem dL_law_392 : decode cL_law 392 = .ok (.ifCond .ne 15, 3) := dk_154 0 15 (dk_at dksL_law_11 0 rfl rfl)
theorem dL_law_395 : decode cL_law 395 = .ok (.aload_n 3, 1) := dk_45 (dk_at dksL_law_11 3 rfl rfl)
theorem dL_law_396 : decode cL_law 396 = .ok (.iconst 0, 1) := dk_3 (dk_at dksL_law_11 4 rfl rfl)
theorem dL_law_397 : decode cL_law 397 = .ok (.laload, 1) := dk_47 (dk_at dksL_law_11 5 rfl rfl)
theorem dL_law_398 : decode cL_law 398 = .ok (.iload 6, 2) := dk_21 6 (dk_at dksL_law_11 6 rfl rfl)
theorem dL_law_400 : decode cL_law 400 = .ok (.i2l, 1) := dk_133 (dk_at dksL_law_11 8 rfl rfl)
theorem dL_law_401 : decode cL_law 401 = .ok (.lcmp, 1) := dk_148 (dk_at dksL_law_11 9 rfl rfl)
theorem dL_law_402 : decode cL_law 402 = .ok (.ifCond .eq 5, 3) := dk_153 0 5 (dk_at dksL_law_11 10 rfl rfl)
theorem dL_law_405 : decode cL_law 405 = .ok (.iconst 0, 1) := dk_3 (dk_at dksL_law_11 13 rfl rfl)
theorem dL_law_406 : decode cL_law 406 = .ok (.ireturn, 1) := dk_172 (dk_at dksL_law_11 14 rfl rfl)
theorem dL_law_407 : decode cL_law 407 = .ok (.goto 1724, 3) := dk_167 6 188 (dk_at dksL_law_11 15 rfl rfl)
theorem dL_law_410 : decode cL_law 410 = .ok (.aload_n 1, 1) := dk_43 (dk_at dksL_law_11 18 rfl rfl)
theorem dL_law_411 : decode cL_law 411 = .ok (.aload_n 0, 1) := dk_42 (dk_at dksL_law_11 19 rfl rfl)
theorem dL_law_412 : decode cL_law 412 = .ok (.iload 4, 2) := dk_21 4 (dk_at dksL_law_11 20 rfl rfl)
theorem dL_law_414 : decode cL_law 414 = .ok (.iconst 1, 1) := dk_4 (dk_at dksL_law_11 22 rfl rfl)
theorem dL_law_415 : decode cL_law 415 = .ok (.iadd, 1) := dk_96 (dk_at dksL_law_11 23 rfl rfl)
theorem dL_law_416 : decode cL_law 416 = .ok (.iaload, 1) := dk_46 (dk_at dksL_law_12 0 rfl rfl)
theorem dL_law_417 : decode cL_law 417 = .ok (.aload_n 3, 1) := dk_45 (dk_at dksL_law_12 1 rfl rfl)
theorem dL_law_418 : decode cL_law 418 = .ok (.invokestatic 134, 3) := dk_184 0 134 (dk_at dksL_law_12 2 rfl rfl)
theorem dL_law_421 : decode cL_law 421 = .ok (.istore 5, 2) := dk_54 5 (dk_at dksL_law_12 5 rfl rfl)
theorem dL_law_423 : decode cL_law 423 = .ok (.aload_n 2, 1) := dk_44 (dk_at dksL_law_12 7 rfl rfl)
theorem dL_law_424 : decode cL_law 424 = .ok (.aload_n 0, 1) := dk_42 (dk_at dksL_law_12 8 rfl rfl)
theorem dL_law_425 : decode cL_law 425 = .ok (.iload 4, 2) := dk_21 4 (dk_at dksL_law_12 9 rfl rfl)
theorem dL_law_427 : decode cL_law 427 = .ok (.iconst 1, 1) := dk_4 (dk_at dksL_law_12 11 rfl rfl)
theorem dL_law_428 : decode cL_law 428 = .ok (.iadd, 1) := dk_96 (dk_at dksL_law_12 12 rfl rfl)
theorem dL_law_429 : decode cL_law 429 = .ok (.iaload, 1) := dk_46 (dk_at dksL_law_12 13 rfl rfl)
theorem dL_law_430 : decode cL_law 430 = .ok (.invokevirtual 136, 3) := dk_182 0 136 (dk_at dksL_law_12 14 rfl rfl)
theorem dL_law_433 : decode cL_law 433 = .ok (.istore 6, 2) := dk_54 6 (dk_at dksL_law_12 17 rfl rfl)
theorem dL_law_435 : decode cL_law 435 = .ok (.aload_n 2, 1) := dk_44 (dk_at dksL_law_12 19 rfl rfl)
theorem dL_law_436 : decode cL_law 436 = .ok (.invokevirtual 131, 3) := dk_182 0 131 (dk_at dksL_law_12 20 rfl rfl)
theorem dL_law_439 : decode cL_law 439 = .ok (.iload 5, 2) := dk_21 5 (dk_at dksL_law_13 0 rfl rfl)
theorem dL_law_441 : decode cL_law 441 = .ok (.if_icmp .eq 5, 3) := dk_159 0 5 (dk_at dksL_law_13 2 rfl rfl)
theorem dL_law_444 : decode cL_law 444 = .ok (.iconst 0, 1) := dk_3 (dk_at dksL_law_13 5 rfl rfl)
theorem dL_law_445 : decode cL_law 445 = .ok (.ireturn, 1) := dk_172 (dk_at dksL_law_13 6 rfl rfl)
theorem dL_law_446 : decode cL_law 446 = .ok (.iload 5, 2) := dk_21 5 (dk_at dksL_law_13 7 rfl rfl)
theorem dL_law_448 : decode cL_law 448 = .ok (.ifCond .ne 15, 3) := dk_154 0 15 (dk_at dksL_law_13 9 rfl rfl)
theorem dL_law_451 : decode cL_law 451 = .ok (.aload_n 3, 1) := dk_45 (dk_at dksL_law_13 12 rfl rfl)
theorem dL_law_452 : decode cL_law 452 = .ok (.iconst 0, 1) := dk_3 (dk_at dksL_law_13 13 rfl rfl)
theorem dL_law_453 : decode cL_law 453 = .ok (.laload, 1) := dk_47 (dk_at dksL_law_13 14 rfl rfl)
theorem dL_law_454 : decode cL_law 454 = .ok (.iload 6, 2) := dk_21 6 (dk_at dksL_law_13 15 rfl rfl)
theorem dL_law_456 : decode cL_law 456 = .ok (.i2l, 1) := dk_133 (dk_at dksL_law_13 17 rfl rfl)
theorem dL_law_457 : decode cL_law 457 = .ok (.lcmp, 1) := dk_148 (dk_at dksL_law_13 18 rfl rfl)
theorem dL_law_458 : decode cL_law 458 = .ok (.ifCond .eq 5, 3) := dk_153 0 5 (dk_at dksL_law_13 19 rfl rfl)
theorem dL_law_461 : decode cL_law 461 = .ok (.iconst 0, 1) := dk_3 (dk_at dksL_law_13 22 rfl rfl)
theorem dL_law_462 : decode cL_law 462 = .ok (.ireturn, 1) := dk_172 (dk_at dksL_law_13 23 rfl rfl)
theorem dL_law_463 : decode cL_law 463 = .ok (.goto 1668, 3) := dk_167 6 132 (dk_at dksL_law_14 0 rfl rfl)
theorem dL_law_466 : decode cL_law 466 = .ok (.aload_n 1, 1) := dk_43 (dk_at dksL_law_14 3 rfl rfl)
theorem dL_law_467 : decode cL_law 467 = .ok (.aload_n 0, 1) := dk_42 (dk_at dksL_law_14 4 rfl rfl)
theorem dL_law_468 : decode cL_law 468 = .ok (.iload 4, 2) := dk_21 4 (dk_at dksL_law_14 5 rfl rfl)
theorem dL_law_470 : decode cL_law 470 = .ok (.iconst 1, 1) := dk_4 (dk_at dksL_law_14 7 rfl rfl)
theorem dL_law_471 : decode cL_law 471 = .ok (.iadd, 1) := dk_96 (dk_at dksL_law_14 8 rfl rfl)
theorem dL_law_472 : decode cL_law 472 = .ok (.iaload, 1) := dk_46 (dk_at dksL_law_14 9 rfl rfl)
theorem dL_law_473 : decode cL_law 473 = .ok (.aload_n 0, 1) := dk_42 (dk_at dksL_law_14 10 rfl rfl)
theorem dL_law_474 : decode cL_law 474 = .ok (.iload 4, 2) := dk_21 4 (dk_at dksL_law_14 11 rfl rfl)
theorem dL_law_476 : decode cL_law 476 = .ok (.iconst 2, 1) := dk_5 (dk_at dksL_law_14 13 rfl rfl)
theorem dL_law_477 : decode cL_law 477 = .ok (.iadd, 1) := dk_96 (dk_at dksL_law_14 14 rfl rfl)
theorem dL_law_478 : decode cL_law 478 = .ok (.iaload, 1) := dk_46 (dk_at dksL_law_14 15 rfl rfl)
theorem dL_law_479 : decode cL_law 479 = .ok (.aload_n 3, 1) := dk_45 (dk_at dksL_law_14 16 rfl rfl)
theorem dL_law_480 : decode cL_law 480 = .ok (.invokestatic 137, 3) := dk_184 0 137 (dk_at dksL_law_14 17 rfl rfl)
theorem dL_law_483 : decode cL_law 483 = .ok (.istore 5, 2) := dk_54 5 (dk_at dksL_law_14 20 rfl rfl)
theorem dL_law_485 : decode cL_law 485 = .ok (.aload_n 2, 1) := dk_44 (dk_at dksL_law_14 22 rfl rfl)
theorem dL_law_486 : decode cL_law 486 = .ok (.aload_n 0, 1) := dk_42 (dk_at dksL_law_14 23 rfl rfl)
theorem dL_law_487 : decode cL_law 487 = .ok (.iload 4, 2) := dk_21 4 (dk_at dksL_law_15 0 rfl rfl)
theorem dL_law_489 : decode cL_law 489 = .ok (.iconst 1, 1) := dk_4 (dk_at dksL_law_15 2 rfl rfl)
theorem dL_law_490 : decode cL_law 490 = .ok (.iadd, 1) := dk_96 (dk_at dksL_law_15 3 rfl rfl)
theorem dL_law_491 : decode cL_law 491 = .ok (.iaload, 1) := dk_46 (dk_at dksL_law_15 4 rfl rfl)
theorem dL_law_492 : decode cL_law 492 = .ok (.aload_n 0, 1) := dk_42 (dk_at dksL_law_15 5 rfl rfl)
theorem dL_law_493 : decode cL_law 493 = .ok (.iload 4, 2) := dk_21 4 (dk_at dksL_law_15 6 rfl rfl)
theorem dL_law_495 : decode cL_law 495 = .ok (.iconst 2, 1) := dk_5 (dk_at dksL_law_15 8 rfl rfl)
theorem dL_law_496 : decode cL_law 496 = .ok (.iadd, 1) := dk_96 (dk_at dksL_law_15 9 rfl rfl)
theorem dL_law_497 : decode cL_law 497 = .ok (.iaload, 1) := dk_46 (dk_at dksL_law_15 10 rfl rfl)
theorem dL_law_498 : decode cL_law 498 = .ok (.invokevirtual 140, 3) := dk_182 0 140 (dk_at dksL_law_15 11 rfl rfl)
theorem dL_law_501 : decode cL_law 501 = .ok (.istore 6, 2) := dk_54 6 (dk_at dksL_law_15 14 rfl rfl)
theorem dL_law_503 : decode cL_law 503 = .ok (.aload_n 2, 1) := dk_44 (dk_at dksL_law_15 16 rfl rfl)
theorem dL_law_504 : decode cL_law 504 = .ok (.invokevirtual 131, 3) := dk_182 0 131 (dk_at dksL_law_15 17 rfl rfl)
theorem dL_law_507 : decode cL_law 507 = .ok (.iload 5, 2) := dk_21 5 (dk_at dksL_law_15 20 rfl rfl)
theorem dL_law_509 : decode cL_law 509 = .ok (.if_icmp .eq 5, 3) := dk_159 0 5 (dk_at dksL_law_16 0 rfl rfl)
theorem dL_law_512 : decode cL_law 512 = .ok (.iconst 0, 1) := dk_3 (dk_at dksL_law_16 3 rfl rfl)
theorem dL_law_513 : decode cL_law 513 = .ok (.ireturn, 1) := dk_172 (dk_at dksL_law_16 4 rfl rfl)
theorem dL_law_514 : decode cL_law 514 = .ok (.iload 5, 2) := dk_21 5 (dk_at dksL_law_16 5 rfl rfl)
theorem dL_law_516 : decode cL_law 516 = .ok (.ifCond .ne 15, 3) := dk_154 0 15 (dk_at dksL_law_16 7 rfl rfl)
theorem dL_law_519 : decode cL_law 519 = .ok (.aload_n 3, 1) := dk_45 (dk_at dksL_law_16 10 rfl rfl)
theorem dL_law_520 : decode cL_law 520 = .ok (.iconst 0, 1) := dk_3 (dk_at dksL_law_16 11 rfl rfl)
theorem dL_law_521 : decode cL_law 521 = .ok (.laload, 1) := dk_47 (dk_at dksL_law_16 12 rfl rfl)
theorem dL_law_522 : decode cL_law 522 = .ok (.iload 6, 2) := dk_21 6 (dk_at dksL_law_16 13 rfl rfl)
theorem dL_law_524 : decode cL_law 524 = .ok (.i2l, 1) := dk_133 (dk_at dksL_law_16 15 rfl rfl)
theorem dL_law_525 : decode cL_law 525 = .ok (.lcmp, 1) := dk_148 (dk_at dksL_law_16 16 rfl rfl)
theorem dL_law_526 : decode cL_law 526 = .ok (.ifCond .eq 5, 3) := dk_153 0 5 (dk_at dksL_law_16 17 rfl rfl)
theorem dL_law_529 : decode cL_law 529 = .ok (.iconst 0, 1) := dk_3 (dk_at dksL_law_16 20 rfl rfl)
theorem dL_law_530 : decode cL_law 530 = .ok (.ireturn, 1) := dk_172 (dk_at dksL_law_16 21 rfl rfl)
theorem dL_law_531 : decode cL_law 531 = .ok (.goto 1600, 3) := dk_167 6 64 (dk_at dksL_law_17 0 rfl rfl)
theorem dL_law_534 : decode cL_law 534 = .ok (.aload_n 1, 1) := dk_43 (dk_at dksL_law_17 3 rfl rfl)
theorem dL_law_535 : decode cL_law 535 = .ok (.aload_n 0, 1) := dk_42 (dk_at dksL_law_17 4 rfl rfl)
theorem dL_law_536 : decode cL_law 536 = .ok (.iload 4, 2) := dk_21 4 (dk_at dksL_law_17 5 rfl rfl)
theorem dL_law_538 : decode cL_law 538 = .ok (.iconst 1, 1) := dk_4 (dk_at dksL_law_17 7 rfl rfl)
theorem dL_law_539 : decode cL_law 539 = .ok (.iadd, 1) := dk_96 (dk_at dksL_law_17 8 rfl rfl)
theorem dL_law_540 : decode cL_law 540 = .ok (.iaload, 1) := dk_46 (dk_at dksL_law_17 9 rfl rfl)
theorem dL_law_541 : decode cL_law 541 = .ok (.aload_n 0, 1) := dk_42 (dk_at dksL_law_17 10 rfl rfl)
theorem dL_law_542 : decode cL_law 542 = .ok (.iload 4, 2) := dk_21 4 (dk_at dksL_law_17 11 rfl rfl)
theorem dL_law_544 : decode cL_law 544 = .ok (.iconst 2, 1) := dk_5 (dk_at dksL_law_17 13 rfl rfl)
theorem dL_law_545 : decode cL_law 545 = .ok (.iadd, 1) := dk_96 (dk_at dksL_law_17 14 rfl rfl)
theorem dL_law_546 : decode cL_law 546 = .ok (.iaload, 1) := dk_46 (dk_at dksL_law_17 15 rfl rfl)
theorem dL_law_547 : decode cL_law 547 = .ok (.aload_n 3, 1) := dk_45 (dk_at dksL_law_17 16 rfl rfl)
theorem dL_law_548 : decode cL_law 548 = .ok (.invokestatic 141, 3) := dk_184 0 141 (dk_at dksL_law_17 17 rfl rfl)
theorem dL_law_551 : decode cL_law 551 = .ok (.istore 5, 2) := dk_54 5 (dk_at dksL_law_17 20 rfl rfl)
theorem dL_law_553 : decode cL_law 553 = .ok (.aload_n 2, 1) := dk_44 (dk_at dksL_law_17 22 rfl rfl)
theorem dL_law_554 : decode cL_law 554 = .ok (.aload_n 0, 1) := dk_42 (dk_at dksL_law_17 23 rfl rfl)
theorem dL_law_555 : decode cL_law 555 = .ok (.iload 4, 2) := dk_21 4 (dk_at dksL_law_18 0 rfl rfl)
theorem dL_law_557 : decode cL_law 557 = .ok (.iconst 1, 1) := dk_4 (dk_at dksL_law_18 2 rfl rfl)
theorem dL_law_558 : decode cL_law 558 = .ok (.iadd, 1) := dk_96 (dk_at dksL_law_18 3 rfl rfl)
theorem dL_law_559 : decode cL_law 559 = .ok (.iaload, 1) := dk_46 (dk_at dksL_law_18 4 rfl rfl)
theorem dL_law_560 : decode cL_law 560 = .ok (.aload_n 0, 1) := dk_42 (dk_at dksL_law_18 5 rfl rfl)
theorem dL_law_561 : decode cL_law 561 = .ok (.iload 4, 2) := dk_21 4 (dk_at dksL_law_18 6 rfl rfl)
theorem dL_law_563 : decode cL_law 563 = .ok (.iconst 2, 1) := dk_5 (dk_at dksL_law_18 8 rfl rfl)
theorem dL_law_564 : decode cL_law 564 = .ok (.iadd, 1) := dk_96 (dk_at dksL_law_18 9 rfl rfl)
theorem dL_law_565 : decode cL_law 565 = .ok (.iaload, 1) := dk_46 (dk_at dksL_law_18 10 rfl rfl)
theorem dL_law_566 : decode cL_law 566 = .ok (.invokevirtual 143, 3) := dk_182 0 143 (dk_at dksL_law_18 11 rfl rfl)
theorem dL_law_569 : decode cL_law 569 = .ok (.istore 6, 2) := dk_54 6 (dk_at dksL_law_18 14 rfl rfl)
theorem dL_law_571 : decode cL_law 571 = .ok (.aload_n 2, 1) := dk_44 (dk_at dksL_law_18 16 rfl rfl)
theorem dL_law_572 : decode cL_law 572 = .ok (.invokevirtual 131, 3) := dk_182 0 131 (dk_at dksL_law_18 17 rfl rfl)
theorem dL_law_575 : decode cL_law 575 = .ok (.iload 5, 2) := dk_21 5 (dk_at dksL_law_18 20 rfl rfl)
theorem dL_law_577 : decode cL_law 577 = .ok (.if_icmp .eq 5, 3) := dk_159 0 5 (dk_at dksL_law_19 0 rfl rfl)
theorem dL_law_580 : decode cL_law 580 = .ok (.iconst 0, 1) := dk_3 (dk_at dksL_law_19 3 rfl rfl)
theorem dL_law_581 : decode cL_law 581 = .ok (.ireturn, 1) := dk_172 (dk_at dksL_law_19 4 rfl rfl)
theorem dL_law_582 : decode cL_law 582 = .ok (.iload 5, 2) := dk_21 5 (dk_at dksL_law_19 5 rfl rfl)
theorem dL_law_584 : decode cL_law 584 = .ok (.ifCond .ne 15, 3) := dk_154 0 15 (dk_at dksL_law_19 7 rfl rfl)
theorem dL_law_587 : decode cL_law 587 = .ok (.aload_n 3, 1) := dk_45 (dk_at dksL_law_19 10 rfl rfl)
theorem dL_law_588 : decode cL_law 588 = .ok (.iconst 0, 1) := dk_3 (dk_at dksL_law_19 11 rfl rfl)
theorem dL_law_589 : decode cL_law 589 = .ok (.laload, 1) := dk_47 (dk_at dksL_law_19 12 rfl rfl)
theorem dL_law_590 : decode cL_law 590 = .ok (.iload 6, 2) := dk_21 6 (dk_at dksL_law_19 13 rfl rfl)
theorem dL_law_592 : decode cL_law 592 = .ok (.i2l, 1) := dk_133 (dk_at dksL_law_19 15 rfl rfl)
theorem dL_law_593 : decode cL_law 593 = .ok (.lcmp, 1) := dk_148 (dk_at dksL_law_19 16 rfl rfl)
theorem dL_law_594 : decode cL_law 594 = .ok (.ifCond .eq 5, 3) := dk_153 0 5 (dk_at dksL_law_19 17 rfl rfl)
theorem dL_law_597 : decode cL_law 597 = .ok (.iconst 0, 1) := dk_3 (dk_at dksL_law_19 20 rfl rfl)
theorem dL_law_598 : decode cL_law 598 = .ok (.ireturn, 1) := dk_172 (dk_at dksL_law_19 21 rfl rfl)
theorem dL_law_599 : decode cL_law 599 = .ok (.goto 1532, 3) := dk_167 5 252 (dk_at dksL_law_20 0 rfl rfl)
theorem dL_law_602 : decode cL_law 602 = .ok (.aload_n 1, 1) := dk_43 (dk_at dksL_law_20 3 rfl rfl)
theorem dL_law_603 : decode cL_law 603 = .ok (.aload_n 0, 1) := dk_42 (dk_at dksL_law_20 4 rfl rfl)
theorem dL_law_604 : decode cL_law 604 = .ok (.iload 4, 2) := dk_21 4 (dk_at dksL_law_20 5 rfl rfl)
theorem dL_law_606 : decode cL_law 606 = .ok (.iconst 1, 1) := dk_4 (dk_at dksL_law_20 7 rfl rfl)
theorem dL_law_607 : decode cL_law 607 = .ok (.iadd, 1) := dk_96 (dk_at dksL_law_20 8 rfl rfl)
theorem dL_law_608 : decode cL_law 608 = .ok (.iaload, 1) := dk_46 (dk_at dksL_law_20 9 rfl rfl)
theorem dL_law_609 : decode cL_law 609 = .ok (.aload_n 0, 1) := dk_42 (dk_at dksL_law_20 10 rfl rfl)
theorem dL_law_610 : decode cL_law 610 = .ok (.iload 4, 2) := dk_21 4 (dk_at dksL_law_20 11 rfl rfl)
theorem dL_law_612 : decode cL_law 612 = .ok (.iconst 2, 1) := dk_5 (dk_at dksL_law_20 13 rfl rfl)
theorem dL_law_613 : decode cL_law 613 = .ok (.iadd, 1) := dk_96 (dk_at dksL_law_20 14 rfl rfl)
theorem dL_law_614 : decode cL_law 614 = .ok (.iaload, 1) := dk_46 (dk_at dksL_law_20 15 rfl rfl)
theorem dL_law_615 : decode cL_law 615 = .ok (.aload_n 3, 1) := dk_45 (dk_at dksL_law_20 16 rfl rfl)
theorem dL_law_616 : decode cL_law 616 = .ok (.invokestatic 144, 3) := dk_184 0 144 (dk_at dksL_law_20 17 rfl rfl)
theorem dL_law_619 : decode cL_law 619 = .ok (.istore 5, 2) := dk_54 5 (dk_at dksL_law_20 20 rfl rfl)
theorem dL_law_621 : decode cL_law 621 = .ok (.aload_n 2, 1) := dk_44 (dk_at dksL_law_20 22 rfl rfl)
theorem dL_law_622 : decode cL_law 622 = .ok (.aload_n 0, 1) := dk_42 (dk_at dksL_law_20 23 rfl rfl)
theorem dL_law_623 : decode cL_law 623 = .ok (.iload 4, 2) := dk_21 4 (dk_at dksL_law_21 0 rfl rfl)
theorem dL_law_625 : decode cL_law 625 = .ok (.iconst 1, 1) := dk_4 (dk_at dksL_law_21 2 rfl rfl)
theorem dL_law_626 : decode cL_law 626 = .ok (.iadd, 1) := dk_96 (dk_at dksL_law_21 3 rfl rfl)
theorem dL_law_627 : decode cL_law 627 = .ok (.iaload, 1) := dk_46 (dk_at dksL_law_21 4 rfl rfl)
theorem dL_law_628 : decode cL_law 628 = .ok (.aload_n 0, 1) := dk_42 (dk_at dksL_law_21 5 rfl rfl)
theorem dL_law_629 : decode cL_law 629 = .ok (.iload 4, 2) := dk_21 4 (dk_at dksL_law_21 6 rfl rfl)
theorem dL_law_631 : decode cL_law 631 = .ok (.iconst 2, 1) := dk_5 (dk_at dksL_law_21 8 rfl rfl)
theorem dL_law_632 : decode cL_law 632 = .ok (.iadd, 1) := dk_96 (dk_at dksL_law_21 9 rfl rfl)
theorem dL_law_633 : decode cL_law 633 = .ok (.iaload, 1) := dk_46 (dk_at dksL_law_21 10 rfl rfl)
theorem dL_law_634 : decode cL_law 634 = .ok (.invokevirtual 146, 3) := dk_182 0 146 (dk_at dksL_law_21 11 rfl rfl)
theorem dL_law_637 : decode cL_law 637 = .ok (.istore 6, 2) := dk_54 6 (dk_at dksL_law_21 14 rfl rfl)
theorem dL_law_639 : decode cL_law 639 = .ok (.aload_n 2, 1) := dk_44 (dk_at dksL_law_21 16 rfl rfl)
theorem dL_law_640 : decode cL_law 640 = .ok (.invokevirtual 131, 3) := dk_182 0 131 (dk_at dksL_law_21 17 rfl rfl)
theorem dL_law_643 : decode cL_law 643 = .ok (.iload 5, 2) := dk_21 5 (dk_at dksL_law_21 20 rfl rfl)
theorem dL_law_645 : decode cL_law 645 = .ok (.if_icmp .eq 5, 3) := dk_159 0 5 (dk_at dksL_law_22 0 rfl rfl)
theorem dL_law_648 : decode cL_law 648 = .ok (.iconst 0, 1) := dk_3 (dk_at dksL_law_22 3 rfl rfl)
theorem dL_law_649 : decode cL_law 649 = .ok (.ireturn, 1) := dk_172 (dk_at dksL_law_22 4 rfl rfl)
theorem dL_law_650 : decode cL_law 650 = .ok (.iload 5, 2) := dk_21 5 (dk_at dksL_law_22 5 rfl rfl)
theorem dL_law_652 : decode cL_law 652 = .ok (.ifCond .ne 15, 3) := dk_154 0 15 (dk_at dksL_law_22 7 rfl rfl)
theorem dL_law_655 : decode cL_law 655 = .ok (.aload_n 3, 1) := dk_45 (dk_at dksL_law_22 10 rfl rfl)
theorem dL_law_656 : decode cL_law 656 = .ok (.iconst 0, 1) := dk_3 (dk_at dksL_law_22 11 rfl rfl)
theorem dL_law_657 : decode cL_law 657 = .ok (.laload, 1) := dk_47 (dk_at dksL_law_22 12 rfl rfl)
theorem dL_law_658 : decode cL_law 658 = .ok (.iload 6, 2) := dk_21 6 (dk_at dksL_law_22 13 rfl rfl)
theorem dL_law_660 : decode cL_law 660 = .ok (.i2l, 1) := dk_133 (dk_at dksL_law_22 15 rfl rfl)
theorem dL_law_661 : decode cL_law 661 = .ok (.lcmp, 1) := dk_148 (dk_at dksL_law_22 16 rfl rfl)
theorem dL_law_662 : decode cL_law 662 = .ok (.ifCond .eq 5, 3) := dk_153 0 5 (dk_at dksL_law_22 17 rfl rfl)
theorem dL_law_665 : decode cL_law 665 = .ok (.iconst 0, 1) := dk_3 (dk_at dksL_law_22 20 rfl rfl)
theorem dL_law_666 : decode cL_law 666 = .ok (.ireturn, 1) := dk_172 (dk_at dksL_law_22 21 rfl rfl)
theorem dL_law_667 : decode cL_law 667 = .ok (.goto 1464, 3) := dk_167 5 184 (dk_at dksL_law_23 0 rfl rfl)
theorem dL_law_670 : decode cL_law 670 = .ok (.aload_n 1, 1) := dk_43 (dk_at dksL_law_23 3 rfl rfl)
theorem dL_law_671 : decode cL_law 671 = .ok (.aload_n 0, 1) := dk_42 (dk_at dksL_law_23 4 rfl rfl)
theorem dL_law_672 : decode cL_law 672 = .ok (.iload 4, 2) := dk_21 4 (dk_at dksL_law_23 5 rfl rfl)
theorem dL_law_674 : decode cL_law 674 = .ok (.iconst 1, 1) := dk_4 (dk_at dksL_law_23 7 rfl rfl)
theorem dL_law_675 : decode cL_law 675 = .ok (.iadd, 1) := dk_96 (dk_at dksL_law_23 8 rfl rfl)
theorem dL_law_676 : decode cL_law 676 = .ok (.iaload, 1) := dk_46 (dk_at dksL_law_23 9 rfl rfl)
theorem dL_law_677 : decode cL_law 677 = .ok (.aload_n 0, 1) := dk_42 (dk_at dksL_law_23 10 rfl rfl)
theorem dL_law_678 : decode cL_law 678 = .ok (.iload 4, 2) := dk_21 4 (dk_at dksL_law_23 11 rfl rfl)
theorem dL_law_680 : decode cL_law 680 = .ok (.iconst 2, 1) := dk_5 (dk_at dksL_law_23 13 rfl rfl)
theorem dL_law_681 : decode cL_law 681 = .ok (.iadd, 1) := dk_96 (dk_at dksL_law_23 14 rfl rfl)
theorem dL_law_682 : decode cL_law 682 = .ok (.iaload, 1) := dk_46 (dk_at dksL_law_23 15 rfl rfl)
theorem dL_law_683 : decode cL_law 683 = .ok (.aload_n 3, 1) := dk_45 (dk_at dksL_law_23 16 rfl rfl)
theorem dL_law_684 : decode cL_law 684 = .ok (.invokestatic 147, 3) := dk_184 0 147 (dk_at dksL_law_23 17 rfl rfl)
theorem dL_law_687 : decode cL_law 687 = .ok (.istore 5, 2) := dk_54 5 (dk_at dksL_law_23 20 rfl rfl)
theorem dL_law_689 : decode cL_law 689 = .ok (.aload_n 2, 1) := dk_44 (dk_at dksL_law_23 22 rfl rfl)
theorem dL_law_690 : decode cL_law 690 = .ok (.aload_n 0, 1) := dk_42 (dk_at dksL_law_23 23 rfl rfl)
theorem dL_law_691 : decode cL_law 691 = .ok (.iload 4, 2) := dk_21 4 (dk_at dksL_law_24 0 rfl rfl)
theorem dL_law_693 : decode cL_law 693 = .ok (.iconst 1, 1) := dk_4 (dk_at dksL_law_24 2 rfl rfl)
theorem dL_law_694 : decode cL_law 694 = .ok (.iadd, 1) := dk_96 (dk_at dksL_law_24 3 rfl rfl)
theorem dL_law_695 : decode cL_law 695 = .ok (.iaload, 1) := dk_46 (dk_at dksL_law_24 4 rfl rfl)
theorem dL_law_696 : decode cL_law 696 = .ok (.aload_n 0, 1) := dk_42 (dk_at dksL_law_24 5 rfl rfl)
theorem dL_law_697 : decode cL_law 697 = .ok (.iload 4, 2) := dk_21 4 (dk_at dksL_law_24 6 rfl rfl)
theorem dL_law_699 : decode cL_law 699 = .ok (.iconst 2, 1) := dk_5 (dk_at dksL_law_24 8 rfl rfl)
theorem dL_law_700 : decode cL_law 700 = .ok (.iadd, 1) := dk_96 (dk_at dksL_law_24 9 rfl rfl)
theorem dL_law_701 : decode cL_law 701 = .ok (.iaload, 1) := dk_46 (dk_at dksL_law_24 10 rfl rfl)
theorem dL_law_702 : decode cL_law 702 = .ok (.invokevirtual 149, 3) := dk_182 0 149 (dk_at dksL_law_24 11 rfl rfl)
theorem dL_law_705 : decode cL_law 705 = .ok (.istore 6, 2) := dk_54 6 (dk_at dksL_law_24 14 rfl rfl)
theorem dL_law_707 : decode cL_law 707 = .ok (.aload_n 2, 1) := dk_44 (dk_at dksL_law_24 16 rfl rfl)
theorem dL_law_708 : decode cL_law 708 = .ok (.invokevirtual 131, 3) := dk_182 0 131 (dk_at dksL_law_24 17 rfl rfl)
theorem dL_law_711 : decode cL_law 711 = .ok (.iload 5, 2) := dk_21 5 (dk_at dksL_law_24 20 rfl rfl)
theorem dL_law_713 : decode cL_law 713 = .ok (.if_icmp .eq 5, 3) := dk_159 0 5 (dk_at dksL_law_25 0 rfl rfl)
theorem dL_law_716 : decode cL_law 716 = .ok (.iconst 0, 1) := dk_3 (dk_at dksL_law_25 3 rfl rfl)
theorem dL_law_717 : decode cL_law 717 = .ok (.ireturn, 1) := dk_172 (dk_at dksL_law_25 4 rfl rfl)
theorem dL_law_718 : decode cL_law 718 = .ok (.iload 5, 2) := dk_21 5 (dk_at dksL_law_25 5 rfl rfl)
theorem dL_law_720 : decode cL_law 720 = .ok (.ifCond .ne 15, 3) := dk_154 0 15 (dk_at dksL_law_25 7 rfl rfl)
theorem dL_law_723 : decode cL_law 723 = .ok (.aload_n 3, 1) := dk_45 (dk_at dksL_law_25 10 rfl rfl)
theorem dL_law_724 : decode cL_law 724 = .ok (.iconst 0, 1) := dk_3 (dk_at dksL_law_25 11 rfl rfl)
theorem dL_law_725 : decode cL_law 725 = .ok (.laload, 1) := dk_47 (dk_at dksL_law_25 12 rfl rfl)
theorem dL_law_726 : decode cL_law 726 = .ok (.iload 6, 2) := dk_21 6 (dk_at dksL_law_25 13 rfl rfl)
theorem dL_law_728 : decode cL_law 728 = .ok (.i2l, 1) := dk_133 (dk_at dksL_law_25 15 rfl rfl)
theorem dL_law_729 : decode cL_law 729 = .ok (.lcmp, 1) := dk_148 (dk_at dksL_law_25 16 rfl rfl)
theorem dL_law_730 : decode cL_law 730 = .ok (.ifCond .eq 5, 3) := dk_153 0 5 (dk_at dksL_law_25 17 rfl rfl)
theorem dL_law_733 : decode cL_law 733 = .ok (.iconst 0, 1) := dk_3 (dk_at dksL_law_25 20 rfl rfl)
theorem dL_law_734 : decode cL_law 734 = .ok (.ireturn, 1) := dk_172 (dk_at dksL_law_25 21 rfl rfl)
theorem dL_law_735 : decode cL_law 735 = .ok (.goto 1396, 3) := dk_167 5 116 (dk_at dksL_law_26 0 rfl rfl)
theorem dL_law_738 : decode cL_law 738 = .ok (.aload_n 1, 1) := dk_43 (dk_at dksL_law_26 3 rfl rfl)
theorem dL_law_739 : decode cL_law 739 = .ok (.aload_n 0, 1) := dk_42 (dk_at dksL_law_26 4 rfl rfl)
theorem dL_law_740 : decode cL_law 740 = .ok (.iload 4, 2) := dk_21 4 (dk_at dksL_law_26 5 rfl rfl)
theorem dL_law_742 : decode cL_law 742 = .ok (.iconst 1, 1) := dk_4 (dk_at dksL_law_26 7 rfl rfl)
theorem dL_law_743 : decode cL_law 743 = .ok (.iadd, 1) := dk_96 (dk_at dksL_law_26 8 rfl rfl)
theorem dL_law_744 : decode cL_law 744 = .ok (.iaload, 1) := dk_46 (dk_at dksL_law_26 9 rfl rfl)
theorem dL_law_745 : decode cL_law 745 = .ok (.aload_n 0, 1) := dk_42 (dk_at dksL_law_26 10 rfl rfl)
theorem dL_law_746 : decode cL_law 746 = .ok (.iload 4, 2) := dk_21 4 (dk_at dksL_law_26 11 rfl rfl)
theorem dL_law_748 : decode cL_law 748 = .ok (.iconst 2, 1) := dk_5 (dk_at dksL_law_26 13 rfl rfl)
theorem dL_law_749 : decode cL_law 749 = .ok (.iadd, 1) := dk_96 (dk_at dksL_law_26 14 rfl rfl)
theorem dL_law_750 : decode cL_law 750 = .ok (.iaload, 1) := dk_46 (dk_at dksL_law_26 15 rfl rfl)
theorem dL_law_751 : decode cL_law 751 = .ok (.aload_n 3, 1) := dk_45 (dk_at dksL_law_26 16 rfl rfl)
theorem dL_law_752 : decode cL_law 752 = .ok (.invokestatic 150, 3) := dk_184 0 150 (dk_at dksL_law_26 17 rfl rfl)
theorem dL_law_755 : decode cL_law 755 = .ok (.istore 5, 2) := dk_54 5 (dk_at dksL_law_26 20 rfl rfl)
theorem dL_law_757 : decode cL_law 757 = .ok (.aload_n 2, 1) := dk_44 (dk_at dksL_law_26 22 rfl rfl)
theorem dL_law_758 : decode cL_law 758 = .ok (.aload_n 0, 1) := dk_42 (dk_at dksL_law_26 23 rfl rfl)
theorem dL_law_759 : decode cL_law 759 = .ok (.iload 4, 2) := dk_21 4 (dk_at dksL_law_27 0 rfl rfl)
theorem dL_law_761 : decode cL_law 761 = .ok (.iconst 1, 1) := dk_4 (dk_at dksL_law_27 2 rfl rfl)
theorem dL_law_762 : decode cL_law 762 = .ok (.iadd, 1) := dk_96 (dk_at dksL_law_27 3 rfl rfl)
theorem dL_law_763 : decode cL_law 763 = .ok (.iaload, 1) := dk_46 (dk_at dksL_law_27 4 rfl rfl)
theorem dL_law_764 : decode cL_law 764 = .ok (.aload_n 0, 1) := dk_42 (dk_at dksL_law_27 5 rfl rfl)
theorem dL_law_765 : decode cL_law 765 = .ok (.iload 4, 2) := dk_21 4 (dk_at dksL_law_27 6 rfl rfl)
theorem dL_law_767 : decode cL_law 767 = .ok (.iconst 2, 1) := dk_5 (dk_at dksL_law_27 8 rfl rfl)
theorem dL_law_768 : decode cL_law 768 = .ok (.iadd, 1) := dk_96 (dk_at dksL_law_27 9 rfl rfl)
theorem dL_law_769 : decode cL_law 769 = .ok (.iaload, 1) := dk_46 (dk_at dksL_law_27 10 rfl rfl)
theorem dL_law_770 : decode cL_law 770 = .ok (.invokevirtual 152, 3) := dk_182 0 152 (dk_at dksL_law_27 11 rfl rfl)
theorem dL_law_773 : decode cL_law 773 = .ok (.istore 6, 2) := dk_54 6 (dk_at dksL_law_27 14 rfl rfl)
theorem dL_law_775 : decode cL_law 775 = .ok (.aload_n 2, 1) := dk_44 (dk_at dksL_law_27 16 rfl rfl)
theorem dL_law_776 : decode cL_law 776 = .ok (.invokevirtual 131, 3) := dk_182 0 131 (dk_at dksL_law_27 17 rfl rfl)
theorem dL_law_779 : decode cL_law 779 = .ok (.iload 5, 2) := dk_21 5 (dk_at dksL_law_27 20 rfl rfl)
theorem dL_law_781 : decode cL_law 781 = .ok (.if_icmp .eq 5, 3) := dk_159 0 5 (dk_at dksL_law_28 0 rfl rfl)
theorem dL_law_784 : decode cL_law 784 = .ok (.iconst 0, 1) := dk_3 (dk_at dksL_law_28 3 rfl rfl)
theorem dL_law_785 : decode cL_law 785 = .ok (.ireturn, 1) := dk_172 (dk_at dksL_law_28 4 rfl rfl)
theorem dL_law_786 : decode cL_law 786 = .ok (.iload 5, 2) := dk_21 5 (dk_at dksL_law_28 5 rfl rfl)
theorem dL_law_788 : decode cL_law 788 = .ok (.ifCond .ne 15, 3) := dk_154 0 15 (dk_at dksL_law_28 7 rfl rfl)
theorem dL_law_791 : decode cL_law 791 = .ok (.aload_n 3, 1) := dk_45 (dk_at dksL_law_28 10 rfl rfl)
theorem dL_law_792 : decode cL_law 792 = .ok (.iconst 0, 1) := dk_3 (dk_at dksL_law_28 11 rfl rfl)
theorem dL_law_793 : decode cL_law 793 = .ok (.laload, 1) := dk_47 (dk_at dksL_law_28 12 rfl rfl)
theorem dL_law_794 : decode cL_law 794 = .ok (.iload 6, 2) := dk_21 6 (dk_at dksL_law_28 13 rfl rfl)
theorem dL_law_796 : decode cL_law 796 = .ok (.i2l, 1) := dk_133 (dk_at dksL_law_28 15 rfl rfl)
theorem dL_law_797 : decode cL_law 797 = .ok (.lcmp, 1) := dk_148 (dk_at dksL_law_28 16 rfl rfl)
theorem dL_law_798 : decode cL_law 798 = .ok (.ifCond .eq 5, 3) := dk_153 0 5 (dk_at dksL_law_28 17 rfl rfl)
theorem dL_law_801 : decode cL_law 801 = .ok (.iconst 0, 1) := dk_3 (dk_at dksL_law_28 20 rfl rfl)
theorem dL_law_802 : decode cL_law 802 = .ok (.ireturn, 1) := dk_172 (dk_at dksL_law_28 21 rfl rfl)
theorem dL_law_803 : decode cL_law 803 = .ok (.goto 1328, 3) := dk_167 5 48 (dk_at dksL_law_29 0 rfl rfl)
theorem dL_law_806 : decode cL_law 806 = .ok (.aload_n 1, 1) := dk_43 (dk_at dksL_law_29 3 rfl rfl)
theorem dL_law_807 : decode cL_law 807 = .ok (.aload_n 0, 1) := dk_42 (dk_at dksL_law_29 4 rfl rfl)
theorem dL_law_808 : decode cL_law 808 = .ok (.iload 4, 2) := dk_21 4 (dk_at dksL_law_29 5 rfl rfl)
theorem dL_law_810 : decode cL_law 810 = .ok (.iconst 1, 1) := dk_4 (dk_at dksL_law_29 7 rfl rfl)
theorem dL_law_811 : decode cL_law 811 = .ok (.iadd, 1) := dk_96 (dk_at dksL_law_29 8 rfl rfl)
theorem dL_law_812 : decode cL_law 812 = .ok (.iaload, 1) := dk_46 (dk_at dksL_law_29 9 rfl rfl)
theorem dL_law_813 : decode cL_law 813 = .ok (.aload_n 0, 1) := dk_42 (dk_at dksL_law_29 10 rfl rfl)
theorem dL_law_814 : decode cL_law 814 = .ok (.iload 4, 2) := dk_21 4 (dk_at dksL_law_29 11 rfl rfl)
theorem dL_law_816 : decode cL_law 816 = .ok (.iconst 2, 1) := dk_5 (dk_at dksL_law_29 13 rfl rfl)
theorem dL_law_817 : decode cL_law 817 = .ok (.iadd, 1) := dk_96 (dk_at dksL_law_29 14 rfl rfl)
theorem dL_law_818 : decode cL_law 818 = .ok (.iaload, 1) := dk_46 (dk_at dksL_law_29 15 rfl rfl)
theorem dL_law_819 : decode cL_law 819 = .ok (.aload_n 3, 1) := dk_45 (dk_at dksL_law_29 16 rfl rfl)
theorem dL_law_820 : decode cL_law 820 = .ok (.invokestatic 153, 3) := dk_184 0 153 (dk_at dksL_law_29 17 rfl rfl)
theorem dL_law_823 : decode cL_law 823 = .ok (.istore 5, 2) := dk_54 5 (dk_at dksL_law_29 20 rfl rfl)
theorem dL_law_825 : decode cL_law 825 = .ok (.aload_n 2, 1) := dk_44 (dk_at dksL_law_29 22 rfl rfl)
theorem dL_law_826 : decode cL_law 826 = .ok (.aload_n 0, 1) := dk_42 (dk_at dksL_law_29 23 rfl rfl)
theorem dL_law_827 : decode cL_law 827 = .ok (.iload 4, 2) := dk_21 4 (dk_at dksL_law_30 0 rfl rfl)
theorem dL_law_829 : decode cL_law 829 = .ok (.iconst 1, 1) := dk_4 (dk_at dksL_law_30 2 rfl rfl)
theorem dL_law_830 : decode cL_law 830 = .ok (.iadd, 1) := dk_96 (dk_at dksL_law_30 3 rfl rfl)
theorem dL_law_831 : decode cL_law 831 = .ok (.iaload, 1) := dk_46 (dk_at dksL_law_30 4 rfl rfl)
theorem dL_law_832 : decode cL_law 832 = .ok (.aload_n 0, 1) := dk_42 (dk_at dksL_law_30 5 rfl rfl)
theorem dL_law_833 : decode cL_law 833 = .ok (.iload 4, 2) := dk_21 4 (dk_at dksL_law_30 6 rfl rfl)
theorem dL_law_835 : decode cL_law 835 = .ok (.iconst 2, 1) := dk_5 (dk_at dksL_law_30 8 rfl rfl)
theorem dL_law_836 : decode cL_law 836 = .ok (.iadd, 1) := dk_96 (dk_at dksL_law_30 9 rfl rfl)
theorem dL_law_837 : decode cL_law 837 = .ok (.iaload, 1) := dk_46 (dk_at dksL_law_30 10 rfl rfl)
theorem dL_law_838 : decode cL_law 838 = .ok (.invokevirtual 155, 3) := dk_182 0 155 (dk_at dksL_law_30 11 rfl rfl)
theorem dL_law_841 : decode cL_law 841 = .ok (.istore 6, 2) := dk_54 6 (dk_at dksL_law_30 14 rfl rfl)
theorem dL_law_843 : decode cL_law 843 = .ok (.aload_n 2, 1) := dk_44 (dk_at dksL_law_30 16 rfl rfl)
theorem dL_law_844 : decode cL_law 844 = .ok (.invokevirtual 131, 3) := dk_182 0 131 (dk_at dksL_law_30 17 rfl rfl)
theorem dL_law_847 : decode cL_law 847 = .ok (.iload 5, 2) := dk_21 5 (dk_at dksL_law_30 20 rfl rfl)
theorem dL_law_849 : decode cL_law 849 = .ok (.if_icmp .eq 5, 3) := dk_159 0 5 (dk_at dksL_law_31 0 rfl rfl)
theorem dL_law_852 : decode cL_law 852 = .ok (.iconst 0, 1) := dk_3 (dk_at dksL_law_31 3 rfl rfl)
theorem dL_law_853 : decode cL_law 853 = .ok (.ireturn, 1) := dk_172 (dk_at dksL_law_31 4 rfl rfl)
theorem dL_law_854 : decode cL_law 854 = .ok (.iload 5, 2) := dk_21 5 (dk_at dksL_law_31 5 rfl rfl)
theorem dL_law_856 : decode cL_law 856 = .ok (.ifCond .ne 15, 3) := dk_154 0 15 (dk_at dksL_law_31 7 rfl rfl)
theorem dL_law_859 : decode cL_law 859 = .ok (.aload_n 3, 1) := dk_45 (dk_at dksL_law_31 10 rfl rfl)
theorem dL_law_860 : decode cL_law 860 = .ok (.iconst 0, 1) := dk_3 (dk_at dksL_law_31 11 rfl rfl)
theorem dL_law_861 : decode cL_law 861 = .ok (.laload, 1) := dk_47 (dk_at dksL_law_31 12 rfl rfl)
theorem dL_law_862 : decode cL_law 862 = .ok (.iload 6, 2) := dk_21 6 (dk_at dksL_law_31 13 rfl rfl)
theorem dL_law_864 : decode cL_law 864 = .ok (.i2l, 1) := dk_133 (dk_at dksL_law_31 15 rfl rfl)
theorem dL_law_865 : decode cL_law 865 = .ok (.lcmp, 1) := dk_148 (dk_at dksL_law_31 16 rfl rfl)
theorem dL_law_866 : decode cL_law 866 = .ok (.ifCond .eq 5, 3) := dk_153 0 5 (dk_at dksL_law_31 17 rfl rfl)
theorem dL_law_869 : decode cL_law 869 = .ok (.iconst 0, 1) := dk_3 (dk_at dksL_law_31 20 rfl rfl)
theorem dL_law_870 : decode cL_law 870 = .ok (.ireturn, 1) := dk_172 (dk_at dksL_law_31 21 rfl rfl)
theorem dL_law_871 : decode cL_law 871 = .ok (.goto 1260, 3) := dk_167 4 236 (dk_at dksL_law_32 0 rfl rfl)
theorem dL_law_874 : decode cL_law 874 = .ok (.aload_n 1, 1) := dk_43 (dk_at dksL_law_32 3 rfl rfl)
theorem dL_law_875 : decode cL_law 875 = .ok (.aload_n 0, 1) := dk_42 (dk_at dksL_law_32 4 rfl rfl)
theorem dL_law_876 : decode cL_law 876 = .ok (.iload 4, 2) := dk_21 4 (dk_at dksL_law_32 5 rfl rfl)
theorem dL_law_878 : decode cL_law 878 = .ok (.iconst 1, 1) := dk_4 (dk_at dksL_law_32 7 rfl rfl)
theorem dL_law_879 : decode cL_law 879 = .ok (.iadd, 1) := dk_96 (dk_at dksL_law_32 8 rfl rfl)
theorem dL_law_880 : decode cL_law 880 = .ok (.iaload, 1) := dk_46 (dk_at dksL_law_32 9 rfl rfl)
theorem dL_law_881 : decode cL_law 881 = .ok (.aload_n 0, 1) := dk_42 (dk_at dksL_law_32 10 rfl rfl)
theorem dL_law_882 : decode cL_law 882 = .ok (.iload 4, 2) := dk_21 4 (dk_at dksL_law_32 11 rfl rfl)
theorem dL_law_884 : decode cL_law 884 = .ok (.iconst 2, 1) := dk_5 (dk_at dksL_law_32 13 rfl rfl)
theorem dL_law_885 : decode cL_law 885 = .ok (.iadd, 1) := dk_96 (dk_at dksL_law_32 14 rfl rfl)
theorem dL_law_886 : decode cL_law 886 = .ok (.iaload, 1) := dk_46 (dk_at dksL_law_32 15 rfl rfl)
theorem dL_law_887 : decode cL_law 887 = .ok (.aload_n 0, 1) := dk_42 (dk_at dksL_law_32 16 rfl rfl)
theorem dL_law_888 : decode cL_law 888 = .ok (.iload 4, 2) := dk_21 4 (dk_at dksL_law_32 17 rfl rfl)
theorem dL_law_890 : decode cL_law 890 = .ok (.iconst 3, 1) := dk_6 (dk_at dksL_law_32 19 rfl rfl)
theorem dL_law_891 : decode cL_law 891 = .ok (.iadd, 1) := dk_96 (dk_at dksL_law_32 20 rfl rfl)
theorem dL_law_892 : decode cL_law 892 = .ok (.iaload, 1) := dk_46 (dk_at dksL_law_32 21 rfl rfl)
theorem dL_law_893 : decode cL_law 893 = .ok (.ifCond .eq 7, 3) := dk_153 0 7 (dk_at dksL_law_33 0 rfl rfl)
theorem dL_law_896 : decode cL_law 896 = .ok (.iconst 1, 1) := dk_4 (dk_at dksL_law_33 3 rfl rfl)
theorem dL_law_897 : decode cL_law 897 = .ok (.goto 4, 3) := dk_167 0 4 (dk_at dksL_law_33 4 rfl rfl)
theorem dL_law_900 : decode cL_law 900 = .ok (.iconst 0, 1) := dk_3 (dk_at dksL_law_33 7 rfl rfl)
theorem dL_law_901 : decode cL_law 901 = .ok (.aload_n 3, 1) := dk_45 (dk_at dksL_law_33 8 rfl rfl)
theorem dL_law_902 : decode cL_law 902 = .ok (.invokestatic 156, 3) := dk_184 0 156 (dk_at dksL_law_33 9 rfl rfl)
theorem dL_law_905 : decode cL_law 905 = .ok (.istore 5, 2) := dk_54 5 (dk_at dksL_law_33 12 rfl rfl)
theorem dL_law_907 : decode cL_law 907 = .ok (.aload_n 2, 1) := dk_44 (dk_at dksL_law_33 14 rfl rfl)
theorem dL_law_908 : decode cL_law 908 = .ok (.aload_n 0, 1) := dk_42 (dk_at dksL_law_33 15 rfl rfl)
theorem dL_law_909 : decode cL_law 909 = .ok (.iload 4, 2) := dk_21 4 (dk_at dksL_law_33 16 rfl rfl)
theorem dL_law_911 : decode cL_law 911 = .ok (.iconst 1, 1) := dk_4 (dk_at dksL_law_33 18 rfl rfl)
theorem dL_law_912 : decode cL_law 912 = .ok (.iadd, 1) := dk_96 (dk_at dksL_law_33 19 rfl rfl)
theorem dL_law_913 : decode cL_law 913 = .ok (.iaload, 1) := dk_46 (dk_at dksL_law_33 20 rfl rfl)
theorem dL_law_914 : decode cL_law 914 = .ok (.aload_n 0, 1) := dk_42 (dk_at dksL_law_33 21 rfl rfl)
theorem dL_law_915 : decode cL_law 915 = .ok (.iload 4, 2) := dk_21 4 (dk_at dksL_law_33 22 rfl rfl)
theorem dL_law_917 : decode cL_law 917 = .ok (.iconst 2, 1) := dk_5 (dk_at dksL_law_34 0 rfl rfl)
theorem dL_law_918 : decode cL_law 918 = .ok (.iadd, 1) := dk_96 (dk_at dksL_law_34 1 rfl rfl)
theorem dL_law_919 : decode cL_law 919 = .ok (.iaload, 1) := dk_46 (dk_at dksL_law_34 2 rfl rfl)
theorem dL_law_920 : decode cL_law 920 = .ok (.aload_n 0, 1) := dk_42 (dk_at dksL_law_34 3 rfl rfl)
theorem dL_law_921 : decode cL_law 921 = .ok (.iload 4, 2) := dk_21 4 (dk_at dksL_law_34 4 rfl rfl)
theorem dL_law_923 : decode cL_law 923 = .ok (.iconst 3, 1) := dk_6 (dk_at dksL_law_34 6 rfl rfl)
theorem dL_law_924 : decode cL_law 924 = .ok (.iadd, 1) := dk_96 (dk_at dksL_law_34 7 rfl rfl)
theorem dL_law_925 : decode cL_law 925 = .ok (.iaload, 1) := dk_46 (dk_at dksL_law_34 8 rfl rfl)
theorem dL_law_926 : decode cL_law 926 = .ok (.ifCond .eq 7, 3) := dk_153 0 7 (dk_at dksL_law_34 9 rfl rfl)
theorem dL_law_929 : decode cL_law 929 = .ok (.iconst 1, 1) := dk_4 (dk_at dksL_law_34 12 rfl rfl)
theorem dL_law_930 : decode cL_law 930 = .ok (.goto 4, 3) := dk_167 0 4 (dk_at dksL_law_34 13 rfl rfl)
theorem dL_law_933 : decode cL_law 933 = .ok (.iconst 0, 1) := dk_3 (dk_at dksL_law_34 16 rfl rfl)
theorem dL_law_934 : decode cL_law 934 = .ok (.invokevirtual 159, 3) := dk_182 0 159 (dk_at dksL_law_34 17 rfl rfl)
theorem dL_law_937 : decode cL_law 937 = .ok (.istore 6, 2) := dk_54 6 (dk_at dksL_law_34 20 rfl rfl)
theorem dL_law_939 : decode cL_law 939 = .ok (.aload_n 2, 1) := dk_44 (dk_at dksL_law_34 22 rfl rfl)
theorem dL_law_940 : decode cL_law 940 = .ok (.invokevirtual 131, 3) := dk_182 0 131 (dk_at dksL_law_35 0 rfl rfl)
theorem dL_law_943 : decode cL_law 943 = .ok (.iload 5, 2) := dk_21 5 (dk_at dksL_law_35 3 rfl rfl)
theorem dL_law_945 : decode cL_law 945 = .ok (.if_icmp .eq 5, 3) := dk_159 0 5 (dk_at dksL_law_35 5 rfl rfl)
theorem dL_law_948 : decode cL_law 948 = .ok (.iconst 0, 1) := dk_3 (dk_at dksL_law_35 8 rfl rfl)
theorem dL_law_949 : decode cL_law 949 = .ok (.ireturn, 1) := dk_172 (dk_at dksL_law_35 9 rfl rfl)
theorem dL_law_950 : decode cL_law 950 = .ok (.iload 5, 2) := dk_21 5 (dk_at dksL_law_35 10 rfl rfl)
theorem dL_law_952 : decode cL_law 952 = .ok (.ifCond .ne 15, 3) := dk_154 0 15 (dk_at dksL_law_35 12 rfl rfl)
theorem dL_law_955 : decode cL_law 955 = .ok (.aload_n 3, 1) := dk_45 (dk_at dksL_law_35 15 rfl rfl)
theorem dL_law_956 : decode cL_law 956 = .ok (.iconst 0, 1) := dk_3 (dk_at dksL_law_35 16 rfl rfl)
theorem dL_law_957 : decode cL_law 957 = .ok (.laload, 1) := dk_47 (dk_at dksL_law_35 17 rfl rfl)
theorem dL_law_958 : decode cL_law 958 = .ok (.iload 6, 2) := dk_21 6 (dk_at dksL_law_35 18 rfl rfl)
theorem dL_law_960 : decode cL_law 960 = .ok (.i2l, 1) := dk_133 (dk_at dksL_law_35 20 rfl rfl)
theorem dL_law_961 : decode cL_law 961 = .ok (.lcmp, 1) := dk_148 (dk_at dksL_law_35 21 rfl rfl)
theorem dL_law_962 : decode cL_law 962 = .ok (.ifCond .eq 5, 3) := dk_153 0 5 (dk_at dksL_law_36 0 rfl rfl)
theorem dL_law_965 : decode cL_law 965 = .ok (.iconst 0, 1) := dk_3 (dk_at dksL_law_36 3 rfl rfl)
theorem dL_law_966 : decode cL_law 966 = .ok (.ireturn, 1) := dk_172 (dk_at dksL_law_36 4 rfl rfl)
theorem dL_law_967 : decode cL_law 967 = .ok (.goto 1164, 3) := dk_167 4 140 (dk_at dksL_law_36 5 rfl rfl)
theorem dL_law_970 : decode cL_law 970 = .ok (.aload_n 1, 1) := dk_43 (dk_at dksL_law_36 8 rfl rfl)
theorem dL_law_971 : decode cL_law 971 = .ok (.aload_n 0, 1) := dk_42 (dk_at dksL_law_36 9 rfl rfl)
theorem dL_law_972 : decode cL_law 972 = .ok (.iload 4, 2) := dk_21 4 (dk_at dksL_law_36 10 rfl rfl)
theorem dL_law_974 : decode cL_law 974 = .ok (.iconst 1, 1) := dk_4 (dk_at dksL_law_36 12 rfl rfl)
theorem dL_law_975 : decode cL_law 975 = .ok (.iadd, 1) := dk_96 (dk_at dksL_law_36 13 rfl rfl)
theorem dL_law_976 : decode cL_law 976 = .ok (.iaload, 1) := dk_46 (dk_at dksL_law_36 14 rfl rfl)
theorem dL_law_977 : decode cL_law 977 = .ok (.aload_n 0, 1) := dk_42 (dk_at dksL_law_36 15 rfl rfl)
theorem dL_law_978 : decode cL_law 978 = .ok (.iload 4, 2) := dk_21 4 (dk_at dksL_law_36 16 rfl rfl)
theorem dL_law_980 : decode cL_law 980 = .ok (.iconst 2, 1) := dk_5 (dk_at dksL_law_36 18 rfl rfl)
theorem dL_law_981 : decode cL_law 981 = .ok (.iadd, 1) := dk_96 (dk_at dksL_law_36 19 rfl rfl)
theorem dL_law_982 : decode cL_law 982 = .ok (.iaload, 1) := dk_46 (dk_at dksL_law_36 20 rfl rfl)
theorem dL_law_983 : decode cL_law 983 = .ok (.aload_n 3, 1) := dk_45 (dk_at dksL_law_36 21 rfl rfl)
theorem dL_law_984 : decode cL_law 984 = .ok (.invokestatic 160, 3) := dk_184 0 160 (dk_at dksL_law_37 0 rfl rfl)
theorem dL_law_987 : decode cL_law 987 = .ok (.istore 5, 2) := dk_54 5 (dk_at dksL_law_37 3 rfl rfl)
theorem dL_law_989 : decode cL_law 989 = .ok (.aload_n 2, 1) := dk_44 (dk_at dksL_law_37 5 rfl rfl)
theorem dL_law_990 : decode cL_law 990 = .ok (.aload_n 0, 1) := dk_42 (dk_at dksL_law_37 6 rfl rfl)
theorem dL_law_991 : decode cL_law 991 = .ok (.iload 4, 2) := dk_21 4 (dk_at dksL_law_37 7 rfl rfl)
theorem dL_law_993 : decode cL_law 993 = .ok (.iconst 1, 1) := dk_4 (dk_at dksL_law_37 9 rfl rfl)
theorem dL_law_994 : decode cL_law 994 = .ok (.iadd, 1) := dk_96 (dk_at dksL_law_37 10 rfl rfl)
theorem dL_law_995 : decode cL_law 995 = .ok (.iaload, 1) := dk_46 (dk_at dksL_law_37 11 rfl rfl)
theorem dL_law_996 : decode cL_law 996 = .ok (.aload_n 0, 1) := dk_42 (dk_at dksL_law_37 12 rfl rfl)
theorem dL_law_997 : decode cL_law 997 = .ok (.iload 4, 2) := dk_21 4 (dk_at dksL_law_37 13 rfl rfl)
theorem dL_law_999 : decode cL_law 999 = .ok (.iconst 2, 1) := dk_5 (dk_at dksL_law_37 15 rfl rfl)
theorem dL_law_1000 : decode cL_law 1000 = .ok (.iadd, 1) := dk_96 (dk_at dksL_law_37 16 rfl rfl)
theorem dL_law_1001 : decode cL_law 1001 = .ok (.iaload, 1) := dk_46 (dk_at dksL_law_37 17 rfl rfl)
theorem dL_law_1002 : decode cL_law 1002 = .ok (.invokevirtual 162, 3) := dk_182 0 162 (dk_at dksL_law_37 18 rfl rfl)
theorem dL_law_1005 : decode cL_law 1005 = .ok (.istore 6, 2) := dk_54 6 (dk_at dksL_law_37 21 rfl rfl)
theorem dL_law_1007 : decode cL_law 1007 = .ok (.aload_n 2, 1) := dk_44 (dk_at dksL_law_37 23 rfl rfl)
theorem dL_law_1008 : decode cL_law 1008 = .ok (.invokevirtual 131, 3) := dk_182 0 131 (dk_at dksL_law_38 0 rfl rfl)
theorem dL_law_1011 : decode cL_law 1011 = .ok (.iload 5, 2) := dk_21 5 (dk_at dksL_law_38 3 rfl rfl)
theorem dL_law_1013 : decode cL_law 1013 = .ok (.if_icmp .eq 5, 3) := dk_159 0 5 (dk_at dksL_law_38 5 rfl rfl)
theorem dL_law_1016 : decode cL_law 1016 = .ok (.iconst 0, 1) := dk_3 (dk_at dksL_law_38 8 rfl rfl)
theorem dL_law_1017 : decode cL_law 1017 = .ok (.ireturn, 1) := dk_172 (dk_at dksL_law_38 9 rfl rfl)
theorem dL_law_1018 : decode cL_law 1018 = .ok (.iload 5, 2) := dk_21 5 (dk_at dksL_law_38 10 rfl rfl)
theorem dL_law_1020 : decode cL_law 1020 = .ok (.ifCond .ne 15, 3) := dk_154 0 15 (dk_at dksL_law_38 12 rfl rfl)
theorem dL_law_1023 : decode cL_law 1023 = .ok (.aload_n 3, 1) := dk_45 (dk_at dksL_law_38 15 rfl rfl)
theorem dL_law_1024 : decode cL_law 1024 = .ok (.iconst 0, 1) := dk_3 (dk_at dksL_law_38 16 rfl rfl)
theorem dL_law_1025 : decode cL_law 1025 = .ok (.laload, 1) := dk_47 (dk_at dksL_law_38 17 rfl rfl)
theorem dL_law_1026 : decode cL_law 1026 = .ok (.iload 6, 2) := dk_21 6 (dk_at dksL_law_38 18 rfl rfl)
theorem dL_law_1028 : decode cL_law 1028 = .ok (.i2l, 1) := dk_133 (dk_at dksL_law_38 20 rfl rfl)
theorem dL_law_1029 : decode cL_law 1029 = .ok (.lcmp, 1) := dk_148 (dk_at dksL_law_38 21 rfl rfl)
theorem dL_law_1030 : decode cL_law 1030 = .ok (.ifCond .eq 5, 3) := dk_153 0 5 (dk_at dksL_law_39 0 rfl rfl)
theorem dL_law_1033 : decode cL_law 1033 = .ok (.iconst 0, 1) := dk_3 (dk_at dksL_law_39 3 rfl rfl)
theorem dL_law_1034 : decode cL_law 1034 = .ok (.ireturn, 1) := dk_172 (dk_at dksL_law_39 4 rfl rfl)
theorem dL_law_1035 : decode cL_law 1035 = .ok (.goto 1096, 3) := dk_167 4 72 (dk_at dksL_law_39 5 rfl rfl)
theorem dL_law_1038 : decode cL_law 1038 = .ok (.aload_n 1, 1) := dk_43 (dk_at dksL_law_39 8 rfl rfl)
theorem dL_law_1039 : decode cL_law 1039 = .ok (.aload_n 0, 1) := dk_42 (dk_at dksL_law_39 9 rfl rfl)
theorem dL_law_1040 : decode cL_law 1040 = .ok (.iload 4, 2) := dk_21 4 (dk_at dksL_law_39 10 rfl rfl)
theorem dL_law_1042 : decode cL_law 1042 = .ok (.iconst 1, 1) := dk_4 (dk_at dksL_law_39 12 rfl rfl)
theorem dL_law_1043 : decode cL_law 1043 = .ok (.iadd, 1) := dk_96 (dk_at dksL_law_39 13 rfl rfl)
theorem dL_law_1044 : decode cL_law 1044 = .ok (.iaload, 1) := dk_46 (dk_at dksL_law_39 14 rfl rfl)
theorem dL_law_1045 : decode cL_law 1045 = .ok (.aload_n 0, 1) := dk_42 (dk_at dksL_law_39 15 rfl rfl)
theorem dL_law_1046 : decode cL_law 1046 = .ok (.iload 4, 2) := dk_21 4 (dk_at dksL_law_39 16 rfl rfl)
theorem dL_law_1048 : decode cL_law 1048 = .ok (.iconst 2, 1) := dk_5 (dk_at dksL_law_39 18 rfl rfl)
theorem dL_law_1049 : decode cL_law 1049 = .ok (.iadd, 1) := dk_96 (dk_at dksL_law_39 19 rfl rfl)
theorem dL_law_1050 : decode cL_law 1050 = .ok (.iaload, 1) := dk_46 (dk_at dksL_law_39 20 rfl rfl)
theorem dL_law_1051 : decode cL_law 1051 = .ok (.aload_n 3, 1) := dk_45 (dk_at dksL_law_39 21 rfl rfl)
theorem dL_law_1052 : decode cL_law 1052 = .ok (.invokestatic 163, 3) := dk_184 0 163 (dk_at dksL_law_40 0 rfl rfl)
theorem dL_law_1055 : decode cL_law 1055 = .ok (.istore 5, 2) := dk_54 5 (dk_at dksL_law_40 3 rfl rfl)
theorem dL_law_1057 : decode cL_law 1057 = .ok (.aload_n 2, 1) := dk_44 (dk_at dksL_law_40 5 rfl rfl)
theorem dL_law_1058 : decode cL_law 1058 = .ok (.aload_n 0, 1) := dk_42 (dk_at dksL_law_40 6 rfl rfl)
theorem dL_law_1059 : decode cL_law 1059 = .ok (.iload 4, 2) := dk_21 4 (dk_at dksL_law_40 7 rfl rfl)
theorem dL_law_1061 : decode cL_law 1061 = .ok (.iconst 1, 1) := dk_4 (dk_at dksL_law_40 9 rfl rfl)
theorem dL_law_1062 : decode cL_law 1062 = .ok (.iadd, 1) := dk_96 (dk_at dksL_law_40 10 rfl rfl)
theorem dL_law_1063 : decode cL_law 1063 = .ok (.iaload, 1) := dk_46 (dk_at dksL_law_40 11 rfl rfl)
theorem dL_law_1064 : decode cL_law 1064 = .ok (.aload_n 0, 1) := dk_42 (dk_at dksL_law_40 12 rfl rfl)
theorem dL_law_1065 : decode cL_law 1065 = .ok (.iload 4, 2) := dk_21 4 (dk_at dksL_law_40 13 rfl rfl)
theorem dL_law_1067 : decode cL_law 1067 = .ok (.iconst 2, 1) := dk_5 (dk_at dksL_law_40 15 rfl rfl)
theorem dL_law_1068 : decode cL_law 1068 = .ok (.iadd, 1) := dk_96 (dk_at dksL_law_40 16 rfl rfl)
theorem dL_law_1069 : decode cL_law 1069 = .ok (.iaload, 1) := dk_46 (dk_at dksL_law_40 17 rfl rfl)
theorem dL_law_1070 : decode cL_law 1070 = .ok (.invokevirtual 165, 3) := dk_182 0 165 (dk_at dksL_law_40 18 rfl rfl)
theorem dL_law_1073 : decode cL_law 1073 = .ok (.istore 6, 2) := dk_54 6 (dk_at dksL_law_40 21 rfl rfl)
theorem dL_law_1075 : decode cL_law 1075 = .ok (.aload_n 2, 1) := dk_44 (dk_at dksL_law_40 23 rfl rfl)
theorem dL_law_1076 : decode cL_law 1076 = .ok (.invokevirtual 131, 3) := dk_182 0 131 (dk_at dksL_law_41 0 rfl rfl)
theorem dL_law_1079 : decode cL_law 1079 = .ok (.iload 5, 2) := dk_21 5 (dk_at dksL_law_41 3 rfl rfl)
theorem dL_law_1081 : decode cL_law 1081 = .ok (.if_icmp .eq 5, 3) := dk_159 0 5 (dk_at dksL_law_41 5 rfl rfl)
theorem dL_law_1084 : decode cL_law 1084 = .ok (.iconst 0, 1) := dk_3 (dk_at dksL_law_41 8 rfl rfl)
theorem dL_law_1085 : decode cL_law 1085 = .ok (.ireturn, 1) := dk_172 (dk_at dksL_law_41 9 rfl rfl)
theorem dL_law_1086 : decode cL_law 1086 = .ok (.iload 5, 2) := dk_21 5 (dk_at dksL_law_41 10 rfl rfl)
theorem dL_law_1088 : decode cL_law 1088 = .ok (.ifCond .ne 15, 3) := dk_154 0 15 (dk_at dksL_law_41 12 rfl rfl)
theorem dL_law_1091 : decode cL_law 1091 = .ok (.aload_n 3, 1) := dk_45 (dk_at dksL_law_41 15 rfl rfl)
theorem dL_law_1092 : decode cL_law 1092 = .ok (.iconst 0, 1) := dk_3 (dk_at dksL_law_41 16 rfl rfl)
theorem dL_law_1093 : decode cL_law 1093 = .ok (.laload, 1) := dk_47 (dk_at dksL_law_41 17 rfl rfl)
theorem dL_law_1094 : decode cL_law 1094 = .ok (.iload 6, 2) := dk_21 6 (dk_at dksL_law_41 18 rfl rfl)
theorem dL_law_1096 : decode cL_law 1096 = .ok (.i2l, 1) := dk_133 (dk_at dksL_law_41 20 rfl rfl)
theorem dL_law_1097 : decode cL_law 1097 = .ok (.lcmp, 1) := dk_148 (dk_at dksL_law_41 21 rfl rfl)
theorem dL_law_1098 : decode cL_law 1098 = .ok (.ifCond .eq 5, 3) := dk_153 0 5 (dk_at dksL_law_42 0 rfl rfl)
theorem dL_law_1101 : decode cL_law 1101 = .ok (.iconst 0, 1) := dk_3 (dk_at dksL_law_42 3 rfl rfl)
theorem dL_law_1102 : decode cL_law 1102 = .ok (.ireturn, 1) := dk_172 (dk_at dksL_law_42 4 rfl rfl)
theorem dL_law_1103 : decode cL_law 1103 = .ok (.goto 1028, 3) := dk_167 4 4 (dk_at dksL_law_42 5 rfl rfl)
theorem dL_law_1106 : decode cL_law 1106 = .ok (.aload_n 1, 1) := dk_43 (dk_at dksL_law_42 8 rfl rfl)
theorem dL_law_1107 : decode cL_law 1107 = .ok (.aload_n 0, 1) := dk_42 (dk_at dksL_law_42 9 rfl rfl)
theorem dL_law_1108 : decode cL_law 1108 = .ok (.iload 4, 2) := dk_21 4 (dk_at dksL_law_42 10 rfl rfl)
theorem dL_law_1110 : decode cL_law 1110 = .ok (.iconst 1, 1) := dk_4 (dk_at dksL_law_42 12 rfl rfl)
theorem dL_law_1111 : decode cL_law 1111 = .ok (.iadd, 1) := dk_96 (dk_at dksL_law_42 13 rfl rfl)
theorem dL_law_1112 : decode cL_law 1112 = .ok (.iaload, 1) := dk_46 (dk_at dksL_law_42 14 rfl rfl)
theorem dL_law_1113 : decode cL_law 1113 = .ok (.aload_n 0, 1) := dk_42 (dk_at dksL_law_42 15 rfl rfl)
theorem dL_law_1114 : decode cL_law 1114 = .ok (.iload 4, 2) := dk_21 4 (dk_at dksL_law_42 16 rfl rfl)
theorem dL_law_1116 : decode cL_law 1116 = .ok (.iconst 2, 1) := dk_5 (dk_at dksL_law_42 18 rfl rfl)
theorem dL_law_1117 : decode cL_law 1117 = .ok (.iadd, 1) := dk_96 (dk_at dksL_law_42 19 rfl rfl)
theorem dL_law_1118 : decode cL_law 1118 = .ok (.iaload, 1) := dk_46 (dk_at dksL_law_42 20 rfl rfl)
theorem dL_law_1119 : decode cL_law 1119 = .ok (.aload_n 0, 1) := dk_42 (dk_at dksL_law_42 21 rfl rfl)
theorem dL_law_1120 : decode cL_law 1120 = .ok (.iload 4, 2) := dk_21 4 (dk_at dksL_law_42 22 rfl rfl)
theorem dL_law_1122 : decode cL_law 1122 = .ok (.iconst 3, 1) := dk_6 (dk_at dksL_law_43 0 rfl rfl)
theorem dL_law_1123 : decode cL_law 1123 = .ok (.iadd, 1) := dk_96 (dk_at dksL_law_43 1 rfl rfl)
theorem dL_law_1124 : decode cL_law 1124 = .ok (.iaload, 1) := dk_46 (dk_at dksL_law_43 2 rfl rfl)
theorem dL_law_1125 : decode cL_law 1125 = .ok (.aload_n 3, 1) := dk_45 (dk_at dksL_law_43 3 rfl rfl)
theorem dL_law_1126 : decode cL_law 1126 = .ok (.invokestatic 166, 3) := dk_184 0 166 (dk_at dksL_law_43 4 rfl rfl)
theorem dL_law_1129 : decode cL_law 1129 = .ok (.istore 5, 2) := dk_54 5 (dk_at dksL_law_43 7 rfl rfl)
theorem dL_law_1131 : decode cL_law 1131 = .ok (.aload_n 2, 1) := dk_44 (dk_at dksL_law_43 9 rfl rfl)
theorem dL_law_1132 : decode cL_law 1132 = .ok (.aload_n 0, 1) := dk_42 (dk_at dksL_law_43 10 rfl rfl)
theorem dL_law_1133 : decode cL_law 1133 = .ok (.iload 4, 2) := dk_21 4 (dk_at dksL_law_43 11 rfl rfl)
theorem dL_law_1135 : decode cL_law 1135 = .ok (.iconst 1, 1) := dk_4 (dk_at dksL_law_43 13 rfl rfl)
theorem dL_law_1136 : decode cL_law 1136 = .ok (.iadd, 1) := dk_96 (dk_at dksL_law_43 14 rfl rfl)
theorem dL_law_1137 : decode cL_law 1137 = .ok (.iaload, 1) := dk_46 (dk_at dksL_law_43 15 rfl rfl)
theorem dL_law_1138 : decode cL_law 1138 = .ok (.aload_n 0, 1) := dk_42 (dk_at dksL_law_43 16 rfl rfl)
theorem dL_law_1139 : decode cL_law 1139 = .ok (.iload 4, 2) := dk_21 4 (dk_at dksL_law_43 17 rfl rfl)
theorem dL_law_1141 : decode cL_law 1141 = .ok (.iconst 2, 1) := dk_5 (dk_at dksL_law_43 19 rfl rfl)
theorem dL_law_1142 : decode cL_law 1142 = .ok (.iadd, 1) := dk_96 (dk_at dksL_law_43 20 rfl rfl)
theorem dL_law_1143 : decode cL_law 1143 = .ok (.iaload, 1) := dk_46 (dk_at dksL_law_43 21 rfl rfl)
theorem dL_law_1144 : decode cL_law 1144 = .ok (.aload_n 0, 1) := dk_42 (dk_at dksL_law_43 22 rfl rfl)
theorem dL_law_1145 : decode cL_law 1145 = .ok (.iload 4, 2) := dk_21 4 (dk_at dksL_law_44 0 rfl rfl)
theorem dL_law_1147 : decode cL_law 1147 = .ok (.iconst 3, 1) := dk_6 (dk_at dksL_law_44 2 rfl rfl)
theorem dL_law_1148 : decode cL_law 1148 = .ok (.iadd, 1) := dk_96 (dk_at dksL_law_44 3 rfl rfl)
theorem dL_law_1149 : decode cL_law 1149 = .ok (.iaload, 1) := dk_46 (dk_at dksL_law_44 4 rfl rfl)
theorem dL_law_1150 : decode cL_law 1150 = .ok (.invokevirtual 169, 3) := dk_182 0 169 (dk_at dksL_law_44 5 rfl rfl)
theorem dL_law_1153 : decode cL_law 1153 = .ok (.istore 6, 2) := dk_54 6 (dk_at dksL_law_44 8 rfl rfl)
theorem dL_law_1155 : decode cL_law 1155 = .ok (.aload_n 2, 1) := dk_44 (dk_at dksL_law_44 10 rfl rfl)
theorem dL_law_1156 : decode cL_law 1156 = .ok (.invokevirtual 131, 3) := dk_182 0 131 (dk_at dksL_law_44 11 rfl rfl)
theorem dL_law_1159 : decode cL_law 1159 = .ok (.iload 5, 2) := dk_21 5 (dk_at dksL_law_44 14 rfl rfl)
theorem dL_law_1161 : decode cL_law 1161 = .ok (.if_icmp .eq 5, 3) := dk_159 0 5 (dk_at dksL_law_44 16 rfl rfl)
theorem dL_law_1164 : decode cL_law 1164 = .ok (.iconst 0, 1) := dk_3 (dk_at dksL_law_44 19 rfl rfl)
theorem dL_law_1165 : decode cL_law 1165 = .ok (.ireturn, 1) := dk_172 (dk_at dksL_law_44 20 rfl rfl)
theorem dL_law_1166 : decode cL_law 1166 = .ok (.iload 5, 2) := dk_21 5 (dk_at dksL_law_44 21 rfl rfl)
theorem dL_law_1168 : decode cL_law 1168 = .ok (.ifCond .ne 15, 3) := dk_154 0 15 (dk_at dksL_law_45 0 rfl rfl)
theorem dL_law_1171 : decode cL_law 1171 = .ok (.aload_n 3, 1) := dk_45 (dk_at dksL_law_45 3 rfl rfl)
theorem dL_law_1172 : decode cL_law 1172 = .ok (.iconst 0, 1) := dk_3 (dk_at dksL_law_45 4 rfl rfl)
theorem dL_law_1173 : decode cL_law 1173 = .ok (.laload, 1) := dk_47 (dk_at dksL_law_45 5 rfl rfl)
theorem dL_law_1174 : decode cL_law 1174 = .ok (.iload 6, 2) := dk_21 6 (dk_at dksL_law_45 6 rfl rfl)
theorem dL_law_1176 : decode cL_law 1176 = .ok (.i2l, 1) := dk_133 (dk_at dksL_law_45 8 rfl rfl)
theorem dL_law_1177 : decode cL_law 1177 = .ok (.lcmp, 1) := dk_148 (dk_at dksL_law_45 9 rfl rfl)
theorem dL_law_1178 : decode cL_law 1178 = .ok (.ifCond .eq 5, 3) := dk_153 0 5 (dk_at dksL_law_45 10 rfl rfl)
theorem dL_law_1181 : decode cL_law 1181 = .ok (.iconst 0, 1) := dk_3 (dk_at dksL_law_45 13 rfl rfl)
theorem dL_law_1182 : decode cL_law 1182 = .ok (.ireturn, 1) := dk_172 (dk_at dksL_law_45 14 rfl rfl)
theorem dL_law_1183 : decode cL_law 1183 = .ok (.goto 948, 3) := dk_167 3 180 (dk_at dksL_law_45 15 rfl rfl)
theorem dL_law_1186 : decode cL_law 1186 = .ok (.aload_n 1, 1) := dk_43 (dk_at dksL_law_45 18 rfl rfl)
theorem dL_law_1187 : decode cL_law 1187 = .ok (.aload_n 0, 1) := dk_42 (dk_at dksL_law_45 19 rfl rfl)
theorem dL_law_1188 : decode cL_law 1188 = .ok (.iload 4, 2) := dk_21 4 (dk_at dksL_law_45 20 rfl rfl)
theorem dL_law_1190 : decode cL_law 1190 = .ok (.iconst 1, 1) := dk_4 (dk_at dksL_law_45 22 rfl rfl)
theorem dL_law_1191 : decode cL_law 1191 = .ok (.iadd, 1) := dk_96 (dk_at dksL_law_45 23 rfl rfl)
theorem dL_law_1192 : decode cL_law 1192 = .ok (.iaload, 1) := dk_46 (dk_at dksL_law_46 0 rfl rfl)
theorem dL_law_1193 : decode cL_law 1193 = .ok (.aload_n 0, 1) := dk_42 (dk_at dksL_law_46 1 rfl rfl)
theorem dL_law_1194 : decode cL_law 1194 = .ok (.iload 4, 2) := dk_21 4 (dk_at dksL_law_46 2 rfl rfl)
theorem dL_law_1196 : decode cL_law 1196 = .ok (.iconst 2, 1) := dk_5 (dk_at dksL_law_46 4 rfl rfl)
theorem dL_law_1197 : decode cL_law 1197 = .ok (.iadd, 1) := dk_96 (dk_at dksL_law_46 5 rfl rfl)
theorem dL_law_1198 : decode cL_law 1198 = .ok (.iaload, 1) := dk_46 (dk_at dksL_law_46 6 rfl rfl)
theorem dL_law_1199 : decode cL_law 1199 = .ok (.aload_n 0, 1) := dk_42 (dk_at dksL_law_46 7 rfl rfl)
theorem dL_law_1200 : decode cL_law 1200 = .ok (.iload 4, 2) := dk_21 4 (dk_at dksL_law_46 8 rfl rfl)
theorem dL_law_1202 : decode cL_law 1202 = .ok (.iconst 3, 1) := dk_6 (dk_at dksL_law_46 10 rfl rfl)
theorem dL_law_1203 : decode cL_law 1203 = .ok (.iadd, 1) := dk_96 (dk_at dksL_law_46 11 rfl rfl)
theorem dL_law_1204 : decode cL_law 1204 = .ok (.iaload, 1) := dk_46 (dk_at dksL_law_46 12 rfl rfl)
theorem dL_law_1205 : decode cL_law 1205 = .ok (.aload_n 3, 1) := dk_45 (dk_at dksL_law_46 13 rfl rfl)
theorem dL_law_1206 : decode cL_law 1206 = .ok (.invokestatic 170, 3) := dk_184 0 170 (dk_at dksL_law_46 14 rfl rfl)
theorem dL_law_1209 : decode cL_law 1209 = .ok (.istore 5, 2) := dk_54 5 (dk_at dksL_law_46 17 rfl rfl)
theorem dL_law_1211 : decode cL_law 1211 = .ok (.aload_n 2, 1) := dk_44 (dk_at dksL_law_46 19 rfl rfl)
theorem dL_law_1212 : decode cL_law 1212 = .ok (.aload_n 0, 1) := dk_42 (dk_at dksL_law_46 20 rfl rfl)
theorem dL_law_1213 : decode cL_law 1213 = .ok (.iload 4, 2) := dk_21 4 (dk_at dksL_law_46 21 rfl rfl)
theorem dL_law_1215 : decode cL_law 1215 = .ok (.iconst 1, 1) := dk_4 (dk_at dksL_law_46 23 rfl rfl)
theorem dL_law_1216 : decode cL_law 1216 = .ok (.iadd, 1) := dk_96 (dk_at dksL_law_47 0 rfl rfl)
theorem dL_law_1217 : decode cL_law 1217 = .ok (.iaload, 1) := dk_46 (dk_at dksL_law_47 1 rfl rfl)
theorem dL_law_1218 : decode cL_law 1218 = .ok (.aload_n 0, 1) := dk_42 (dk_at dksL_law_47 2 rfl rfl)
theorem dL_law_1219 : decode cL_law 1219 = .ok (.iload 4, 2) := dk_21 4 (dk_at dksL_law_47 3 rfl rfl)
theorem dL_law_1221 : decode cL_law 1221 = .ok (.iconst 2, 1) := dk_5 (dk_at dksL_law_47 5 rfl rfl)
theorem dL_law_1222 : decode cL_law 1222 = .ok (.iadd, 1) := dk_96 (dk_at dksL_law_47 6 rfl rfl)
theorem dL_law_1223 : decode cL_law 1223 = .ok (.iaload, 1) := dk_46 (dk_at dksL_law_47 7 rfl rfl)
theorem dL_law_1224 : decode cL_law 1224 = .ok (.aload_n 0, 1) := dk_42 (dk_at dksL_law_47 8 rfl rfl)
theorem dL_law_1225 : decode cL_law 1225 = .ok (.iload 4, 2) := dk_21 4 (dk_at dksL_law_47 9 rfl rfl)
theorem dL_law_1227 : decode cL_law 1227 = .ok (.iconst 3, 1) := dk_6 (dk_at dksL_law_47 11 rfl rfl)
theorem dL_law_1228 : decode cL_law 1228 = .ok (.iadd, 1) := dk_96 (dk_at dksL_law_47 12 rfl rfl)
theorem dL_law_1229 : decode cL_law 1229 = .ok (.iaload, 1) := dk_46 (dk_at dksL_law_47 13 rfl rfl)
theorem dL_law_1230 : decode cL_law 1230 = .ok (.invokevirtual 172, 3) := dk_182 0 172 (dk_at dksL_law_47 14 rfl rfl)
theorem dL_law_1233 : decode cL_law 1233 = .ok (.istore 6, 2) := dk_54 6 (dk_at dksL_law_47 17 rfl rfl)
theorem dL_law_1235 : decode cL_law 1235 = .ok (.aload_n 2, 1) := dk_44 (dk_at dksL_law_47 19 rfl rfl)
theorem dL_law_1236 : decode cL_law 1236 = .ok (.invokevirtual 131, 3) := dk_182 0 131 (dk_at dksL_law_47 20 rfl rfl)
theorem dL_law_1239 : decode cL_law 1239 = .ok (.iload 5, 2) := dk_21 5 (dk_at dksL_law_48 0 rfl rfl)
theorem dL_law_1241 : decode cL_law 1241 = .ok (.if_icmp .eq 5, 3) := dk_159 0 5 (dk_at dksL_law_48 2 rfl rfl)
theorem dL_law_1244 : decode cL_law 1244 = .ok (.iconst 0, 1) := dk_3 (dk_at dksL_law_48 5 rfl rfl)
theorem dL_law_1245 : decode cL_law 1245 = .ok (.ireturn, 1) := dk_172 (dk_at dksL_law_48 6 rfl rfl)
theorem dL_law_1246 : decode cL_law 1246 = .ok (.iload 5, 2) := dk_21 5 (dk_at dksL_law_48 7 rfl rfl)
theorem dL_law_1248 : decode cL_law 1248 = .ok (.ifCond .ne 15, 3) := dk_154 0 15 (dk_at dksL_law_48 9 rfl rfl)
theorem dL_law_1251 : decode cL_law 1251 = .ok (.aload_n 3, 1) := dk_45 (dk_at dksL_law_48 12 rfl rfl)
theorem dL_law_1252 : decode cL_law 1252 = .ok (.iconst 0, 1) := dk_3 (dk_at dksL_law_48 13 rfl rfl)
theorem dL_law_1253 : decode cL_law 1253 = .ok (.laload, 1) := dk_47 (dk_at dksL_law_48 14 rfl rfl)
theorem dL_law_1254 : decode cL_law 1254 = .ok (.iload 6, 2) := dk_21 6 (dk_at dksL_law_48 15 rfl rfl)
theorem dL_law_1256 : decode cL_law 1256 = .ok (.i2l, 1) := dk_133 (dk_at dksL_law_48 17 rfl rfl)
theorem dL_law_1257 : decode cL_law 1257 = .ok (.lcmp, 1) := dk_148 (dk_at dksL_law_48 18 rfl rfl)
theorem dL_law_1258 : decode cL_law 1258 = .ok (.ifCond .eq 5, 3) := dk_153 0 5 (dk_at dksL_law_48 19 rfl rfl)
theorem dL_law_1261 : decode cL_law 1261 = .ok (.iconst 0, 1) := dk_3 (dk_at dksL_law_48 22 rfl rfl)
theorem dL_law_1262 : decode cL_law 1262 = .ok (.ireturn, 1) := dk_172 (dk_at dksL_law_48 23 rfl rfl)
theorem dL_law_1263 : decode cL_law 1263 = .ok (.goto 868, 3) := dk_167 3 100 (dk_at dksL_law_49 0 rfl rfl)
theorem dL_law_1266 : decode cL_law 1266 = .ok (.aload_n 1, 1) := dk_43 (dk_at dksL_law_49 3 rfl rfl)
theorem dL_law_1267 : decode cL_law 1267 = .ok (.aload_n 0, 1) := dk_42 (dk_at dksL_law_49 4 rfl rfl)
theorem dL_law_1268 : decode cL_law 1268 = .ok (.iload 4, 2) := dk_21 4 (dk_at dksL_law_49 5 rfl rfl)
theorem dL_law_1270 : decode cL_law 1270 = .ok (.iconst 1, 1) := dk_4 (dk_at dksL_law_49 7 rfl rfl)
theorem dL_law_1271 : decode cL_law 1271 = .ok (.iadd, 1) := dk_96 (dk_at dksL_law_49 8 rfl rfl)
theorem dL_law_1272 : decode cL_law 1272 = .ok (.iaload, 1) := dk_46 (dk_at dksL_law_49 9 rfl rfl)
theorem dL_law_1273 : decode cL_law 1273 = .ok (.aload_n 0, 1) := dk_42 (dk_at dksL_law_49 10 rfl rfl)
theorem dL_law_1274 : decode cL_law 1274 = .ok (.iload 4, 2) := dk_21 4 (dk_at dksL_law_49 11 rfl rfl)
theorem dL_law_1276 : decode cL_law 1276 = .ok (.iconst 2, 1) := dk_5 (dk_at dksL_law_49 13 rfl rfl)
theorem dL_law_1277 : decode cL_law 1277 = .ok (.iadd, 1) := dk_96 (dk_at dksL_law_49 14 rfl rfl)
theorem dL_law_1278 : decode cL_law 1278 = .ok (.iaload, 1) := dk_46 (dk_at dksL_law_49 15 rfl rfl)
theorem dL_law_1279 : decode cL_law 1279 = .ok (.aload_n 3, 1) := dk_45 (dk_at dksL_law_49 16 rfl rfl)
theorem dL_law_1280 : decode cL_law 1280 = .ok (.invokestatic 173, 3) := dk_184 0 173 (dk_at dksL_law_49 17 rfl rfl)
theorem dL_law_1283 : decode cL_law 1283 = .ok (.istore 5, 2) := dk_54 5 (dk_at dksL_law_49 20 rfl rfl)
theorem dL_law_1285 : decode cL_law 1285 = .ok (.aload_n 2, 1) := dk_44 (dk_at dksL_law_49 22 rfl rfl)
theorem dL_law_1286 : decode cL_law 1286 = .ok (.aload_n 0, 1) := dk_42 (dk_at dksL_law_49 23 rfl rfl)
theorem dL_law_1287 : decode cL_law 1287 = .ok (.iload 4, 2) := dk_21 4 (dk_at dksL_law_50 0 rfl rfl)
theorem dL_law_1289 : decode cL_law 1289 = .ok (.iconst 1, 1) := dk_4 (dk_at dksL_law_50 2 rfl rfl)
theorem dL_law_1290 : decode cL_law 1290 = .ok (.iadd, 1) := dk_96 (dk_at dksL_law_50 3 rfl rfl)
theorem dL_law_1291 : decode cL_law 1291 = .ok (.iaload, 1) := dk_46 (dk_at dksL_law_50 4 rfl rfl)
theorem dL_law_1292 : decode cL_law 1292 = .ok (.aload_n 0, 1) := dk_42 (dk_at dksL_law_50 5 rfl rfl)
theorem dL_law_1293 : decode cL_law 1293 = .ok (.iload 4, 2) := dk_21 4 (dk_at dksL_law_50 6 rfl rfl)
theorem dL_law_1295 : decode cL_law 1295 = .ok (.iconst 2, 1) := dk_5 (dk_at dksL_law_50 8 rfl rfl)
theorem dL_law_1296 : decode cL_law 1296 = .ok (.iadd, 1) := dk_96 (dk_at dksL_law_50 9 rfl rfl)
theorem dL_law_1297 : decode cL_law 1297 = .ok (.iaload, 1) := dk_46 (dk_at dksL_law_50 10 rfl rfl)
theorem dL_law_1298 : decode cL_law 1298 = .ok (.invokevirtual 175, 3) := dk_182 0 175 (dk_at dksL_law_50 11 rfl rfl)
theorem dL_law_1301 : decode cL_law 1301 = .ok (.istore 6, 2) := dk_54 6 (dk_at dksL_law_50 14 rfl rfl)
theorem dL_law_1303 : decode cL_law 1303 = .ok (.aload_n 2, 1) := dk_44 (dk_at dksL_law_50 16 rfl rfl)
theorem dL_law_1304 : decode cL_law 1304 = .ok (.invokevirtual 131, 3) := dk_182 0 131 (dk_at dksL_law_50 17 rfl rfl)
theorem dL_law_1307 : decode cL_law 1307 = .ok (.iload 5, 2) := dk_21 5 (dk_at dksL_law_50 20 rfl rfl)
theorem dL_law_1309 : decode cL_law 1309 = .ok (.if_icmp .eq 5, 3) := dk_159 0 5 (dk_at dksL_law_51 0 rfl rfl)
theorem dL_law_1312 : decode cL_law 1312 = .ok (.iconst 0, 1) := dk_3 (dk_at dksL_law_51 3 rfl rfl)
theorem dL_law_1313 : decode cL_law 1313 = .ok (.ireturn, 1) := dk_172 (dk_at dksL_law_51 4 rfl rfl)
theorem dL_law_1314 : decode cL_law 1314 = .ok (.iload 5, 2) := dk_21 5 (dk_at dksL_law_51 5 rfl rfl)
theorem dL_law_1316 : decode cL_law 1316 = .ok (.ifCond .ne 15, 3) := dk_154 0 15 (dk_at dksL_law_51 7 rfl rfl)
theorem dL_law_1319 : decode cL_law 1319 = .ok (.aload_n 3, 1) := dk_45 (dk_at dksL_law_51 10 rfl rfl)
theorem dL_law_1320 : decode cL_law 1320 = .ok (.iconst 0, 1) := dk_3 (dk_at dksL_law_51 11 rfl rfl)
theorem dL_law_1321 : decode cL_law 1321 = .ok (.laload, 1) := dk_47 (dk_at dksL_law_51 12 rfl rfl)
theorem dL_law_1322 : decode cL_law 1322 = .ok (.iload 6, 2) := dk_21 6 (dk_at dksL_law_51 13 rfl rfl)
theorem dL_law_1324 : decode cL_law 1324 = .ok (.i2l, 1) := dk_133 (dk_at dksL_law_51 15 rfl rfl)
theorem dL_law_1325 : decode cL_law 1325 = .ok (.lcmp, 1) := dk_148 (dk_at dksL_law_51 16 rfl rfl)
theorem dL_law_1326 : decode cL_law 1326 = .ok (.ifCond .eq 5, 3) := dk_153 0 5 (dk_at dksL_law_51 17 rfl rfl)
theorem dL_law_1329 : decode cL_law 1329 = .ok (.iconst 0, 1) := dk_3 (dk_at dksL_law_51 20 rfl rfl)
theorem dL_law_1330 : decode cL_law 1330 = .ok (.ireturn, 1) := dk_172 (dk_at dksL_law_51 21 rfl rfl)
theorem dL_law_1331 : decode cL_law 1331 = .ok (.goto 800, 3) := dk_167 3 32 (dk_at dksL_law_52 0 rfl rfl)
theorem dL_law_1334 : decode cL_law 1334 = .ok (.aload_n 1, 1) := dk_43 (dk_at dksL_law_52 3 rfl rfl)
theorem dL_law_1335 : decode cL_law 1335 = .ok (.aload_n 0, 1) := dk_42 (dk_at dksL_law_52 4 rfl rfl)
theorem dL_law_1336 : decode cL_law 1336 = .ok (.iload 4, 2) := dk_21 4 (dk_at dksL_law_52 5 rfl rfl)
theorem dL_law_1338 : decode cL_law 1338 = .ok (.iconst 1, 1) := dk_4 (dk_at dksL_law_52 7 rfl rfl)
theorem dL_law_1339 : decode cL_law 1339 = .ok (.iadd, 1) := dk_96 (dk_at dksL_law_52 8 rfl rfl)
theorem dL_law_1340 : decode cL_law 1340 = .ok (.iaload, 1) := dk_46 (dk_at dksL_law_52 9 rfl rfl)
theorem dL_law_1341 : decode cL_law 1341 = .ok (.aload_n 3, 1) := dk_45 (dk_at dksL_law_52 10 rfl rfl)
theorem dL_law_1342 : decode cL_law 1342 = .ok (.invokestatic 176, 3) := dk_184 0 176 (dk_at dksL_law_52 11 rfl rfl)
theorem dL_law_1345 : decode cL_law 1345 = .ok (.istore 5, 2) := dk_54 5 (dk_at dksL_law_52 14 rfl rfl)
theorem dL_law_1347 : decode cL_law 1347 = .ok (.aload_n 2, 1) := dk_44 (dk_at dksL_law_52 16 rfl rfl)
theorem dL_law_1348 : decode cL_law 1348 = .ok (.aload_n 0, 1) := dk_42 (dk_at dksL_law_52 17 rfl rfl)
theorem dL_law_1349 : decode cL_law 1349 = .ok (.iload 4, 2) := dk_21 4 (dk_at dksL_law_52 18 rfl rfl)
theorem dL_law_1351 : decode cL_law 1351 = .ok (.iconst 1, 1) := dk_4 (dk_at dksL_law_52 20 rfl rfl)
theorem dL_law_1352 : decode cL_law 1352 = .ok (.iadd, 1) := dk_96 (dk_at dksL_law_52 21 rfl rfl)
theorem dL_law_1353 : decode cL_law 1353 = .ok (.iaload, 1) := dk_46 (dk_at dksL_law_52 22 rfl rfl)
theorem dL_law_1354 : decode cL_law 1354 = .ok (.invokevirtual 178, 3) := dk_182 0 178 (dk_at dksL_law_53 0 rfl rfl)
theorem dL_law_1357 : decode cL_law 1357 = .ok (.istore 6, 2) := dk_54 6 (dk_at dksL_law_53 3 rfl rfl)
theorem dL_law_1359 : decode cL_law 1359 = .ok (.aload_n 2, 1) := dk_44 (dk_at dksL_law_53 5 rfl rfl)
theorem dL_law_1360 : decode cL_law 1360 = .ok (.invokevirtual 131, 3) := dk_182 0 131 (dk_at dksL_law_53 6 rfl rfl)
theorem dL_law_1363 : decode cL_law 1363 = .ok (.iload 5, 2) := dk_21 5 (dk_at dksL_law_53 9 rfl rfl)
theorem dL_law_1365 : decode cL_law 1365 = .ok (.if_icmp .eq 5, 3) := dk_159 0 5 (dk_at dksL_law_53 11 rfl rfl)
theorem dL_law_1368 : decode cL_law 1368 = .ok (.iconst 0, 1) := dk_3 (dk_at dksL_law_53 14 rfl rfl)
theorem dL_law_1369 : decode cL_law 1369 = .ok (.ireturn, 1) := dk_172 (dk_at dksL_law_53 15 rfl rfl)
theorem dL_law_1370 : decode cL_law 1370 = .ok (.iload 5, 2) := dk_21 5 (dk_at dksL_law_53 16 rfl rfl)
theorem dL_law_1372 : decode cL_law 1372 = .ok (.ifCond .ne 15, 3) := dk_154 0 15 (dk_at dksL_law_53 18 rfl rfl)
theorem dL_law_1375 : decode cL_law 1375 = .ok (.aload_n 3, 1) := dk_45 (dk_at dksL_law_53 21 rfl rfl)
theorem dL_law_1376 : decode cL_law 1376 = .ok (.iconst 0, 1) := dk_3 (dk_at dksL_law_53 22 rfl rfl)
theorem dL_law_1377 : decode cL_law 1377 = .ok (.laload, 1) := dk_47 (dk_at dksL_law_53 23 rfl rfl)
theorem dL_law_1378 : decode cL_law 1378 = .ok (.iload 6, 2) := dk_21 6 (dk_at dksL_law_54 0 rfl rfl)
theorem dL_law_1380 : decode cL_law 1380 = .ok (.i2l, 1) := dk_133 (dk_at dksL_law_54 2 rfl rfl)
theorem dL_law_1381 : decode cL_law 1381 = .ok (.lcmp, 1) := dk_148 (dk_at dksL_law_54 3 rfl rfl)
theorem dL_law_1382 : decode cL_law 1382 = .ok (.ifCond .eq 5, 3) := dk_153 0 5 (dk_at dksL_law_54 4 rfl rfl)
theorem dL_law_1385 : decode cL_law 1385 = .ok (.iconst 0, 1) := dk_3 (dk_at dksL_law_54 7 rfl rfl)
theorem dL_law_1386 : decode cL_law 1386 = .ok (.ireturn, 1) := dk_172 (dk_at dksL_law_54 8 rfl rfl)
theorem dL_law_1387 : decode cL_law 1387 = .ok (.goto 744, 3) := dk_167 2 232 (dk_at dksL_law_54 9 rfl rfl)
theorem dL_law_1390 : decode cL_law 1390 = .ok (.aload_n 1, 1) := dk_43 (dk_at dksL_law_54 12 rfl rfl)
theorem dL_law_1391 : decode cL_law 1391 = .ok (.aload_n 0, 1) := dk_42 (dk_at dksL_law_54 13 rfl rfl)
theorem dL_law_1392 : decode cL_law 1392 = .ok (.iload 4, 2) := dk_21 4 (dk_at dksL_law_54 14 rfl rfl)
theorem dL_law_1394 : decode cL_law 1394 = .ok (.iconst 1, 1) := dk_4 (dk_at dksL_law_54 16 rfl rfl)
theorem dL_law_1395 : decode cL_law 1395 = .ok (.iadd, 1) := dk_96 (dk_at dksL_law_54 17 rfl rfl)
theorem dL_law_1396 : decode cL_law 1396 = .ok (.iaload, 1) := dk_46 (dk_at dksL_law_54 18 rfl rfl)
theorem dL_law_1397 : decode cL_law 1397 = .ok (.aload_n 0, 1) := dk_42 (dk_at dksL_law_54 19 rfl rfl)
theorem dL_law_1398 : decode cL_law 1398 = .ok (.iload 4, 2) := dk_21 4 (dk_at dksL_law_54 20 rfl rfl)
theorem dL_law_1400 : decode cL_law 1400 = .ok (.iconst 2, 1) := dk_5 (dk_at dksL_law_54 22 rfl rfl)
theorem dL_law_1401 : decode cL_law 1401 = .ok (.iadd, 1) := dk_96 (dk_at dksL_law_54 23 rfl rfl)
theorem dL_law_1402 : decode cL_law 1402 = .ok (.iaload, 1) := dk_46 (dk_at dksL_law_55 0 rfl rfl)
theorem dL_law_1403 : decode cL_law 1403 = .ok (.aload_n 3, 1) := dk_45 (dk_at dksL_law_55 1 rfl rfl)
theorem dL_law_1404 : decode cL_law 1404 = .ok (.invokestatic 179, 3) := dk_184 0 179 (dk_at dksL_law_55 2 rfl rfl)
theorem dL_law_1407 : decode cL_law 1407 = .ok (.istore 5, 2) := dk_54 5 (dk_at dksL_law_55 5 rfl rfl)
theorem dL_law_1409 : decode cL_law 1409 = .ok (.aload_n 2, 1) := dk_44 (dk_at dksL_law_55 7 rfl rfl)
theorem dL_law_1410 : decode cL_law 1410 = .ok (.aload_n 0, 1) := dk_42 (dk_at dksL_law_55 8 rfl rfl)
theorem dL_law_1411 : decode cL_law 1411 = .ok (.iload 4, 2) := dk_21 4 (dk_at dksL_law_55 9 rfl rfl)
theorem dL_law_1413 : decode cL_law 1413 = .ok (.iconst 1, 1) := dk_4 (dk_at dksL_law_55 11 rfl rfl)
theorem dL_law_1414 : decode cL_law 1414 = .ok (.iadd, 1) := dk_96 (dk_at dksL_law_55 12 rfl rfl)
theorem dL_law_1415 : decode cL_law 1415 = .ok (.iaload, 1) := dk_46 (dk_at dksL_law_55 13 rfl rfl)
theorem dL_law_1416 : decode cL_law 1416 = .ok (.aload_n 0, 1) := dk_42 (dk_at dksL_law_55 14 rfl rfl)
theorem dL_law_1417 : decode cL_law 1417 = .ok (.iload 4, 2) := dk_21 4 (dk_at dksL_law_55 15 rfl rfl)
theorem dL_law_1419 : decode cL_law 1419 = .ok (.iconst 2, 1) := dk_5 (dk_at dksL_law_55 17 rfl rfl)
theorem dL_law_1420 : decode cL_law 1420 = .ok (.iadd, 1) := dk_96 (dk_at dksL_law_55 18 rfl rfl)
theorem dL_law_1421 : decode cL_law 1421 = .ok (.iaload, 1) := dk_46 (dk_at dksL_law_55 19 rfl rfl)
theorem dL_law_1422 : decode cL_law 1422 = .ok (.invokevirtual 181, 3) := dk_182 0 181 (dk_at dksL_law_55 20 rfl rfl)
theorem dL_law_1425 : decode cL_law 1425 = .ok (.istore 6, 2) := dk_54 6 (dk_at dksL_law_56 0 rfl rfl)
theorem dL_law_1427 : decode cL_law 1427 = .ok (.aload_n 2, 1) := dk_44 (dk_at dksL_law_56 2 rfl rfl)
theorem dL_law_1428 : decode cL_law 1428 = .ok (.invokevirtual 131, 3) := dk_182 0 131 (dk_at dksL_law_56 3 rfl rfl)
theorem dL_law_1431 : decode cL_law 1431 = .ok (.iload 5, 2) := dk_21 5 (dk_at dksL_law_56 6 rfl rfl)
theorem dL_law_1433 : decode cL_law 1433 = .ok (.if_icmp .eq 5, 3) := dk_159 0 5 (dk_at dksL_law_56 8 rfl rfl)
theorem dL_law_1436 : decode cL_law 1436 = .ok (.iconst 0, 1) := dk_3 (dk_at dksL_law_56 11 rfl rfl)
theorem dL_law_1437 : decode cL_law 1437 = .ok (.ireturn, 1) := dk_172 (dk_at dksL_law_56 12 rfl rfl)
theorem dL_law_1438 : decode cL_law 1438 = .ok (.iload 5, 2) := dk_21 5 (dk_at dksL_law_56 13 rfl rfl)
theorem dL_law_1440 : decode cL_law 1440 = .ok (.ifCond .ne 15, 3) := dk_154 0 15 (dk_at dksL_law_56 15 rfl rfl)
theorem dL_law_1443 : decode cL_law 1443 = .ok (.aload_n 3, 1) := dk_45 (dk_at dksL_law_56 18 rfl rfl)
theorem dL_law_1444 : decode cL_law 1444 = .ok (.iconst 0, 1) := dk_3 (dk_at dksL_law_56 19 rfl rfl)
theorem dL_law_1445 : decode cL_law 1445 = .ok (.laload, 1) := dk_47 (dk_at dksL_law_56 20 rfl rfl)
theorem dL_law_1446 : decode cL_law 1446 = .ok (.iload 6, 2) := dk_21 6 (dk_at dksL_law_56 21 rfl rfl)
theorem dL_law_1448 : decode cL_law 1448 = .ok (.i2l, 1) := dk_133 (dk_at dksL_law_56 23 rfl rfl)
theorem dL_law_1449 : decode cL_law 1449 = .ok (.lcmp, 1) := dk_148 (dk_at dksL_law_57 0 rfl rfl)
theorem dL_law_1450 : decode cL_law 1450 = .ok (.ifCond .eq 5, 3) := dk_153 0 5 (dk_at dksL_law_57 1 rfl rfl)
theorem dL_law_1453 : decode cL_law 1453 = .ok (.iconst 0, 1) := dk_3 (dk_at dksL_law_57 4 rfl rfl)
theorem dL_law_1454 : decode cL_law 1454 = .ok (.ireturn, 1) := dk_172 (dk_at dksL_law_57 5 rfl rfl)
theorem dL_law_1455 : decode cL_law 1455 = .ok (.goto 676, 3) := dk_167 2 164 (dk_at dksL_law_57 6 rfl rfl)
theorem dL_law_1458 : decode cL_law 1458 = .ok (.aload_n 1, 1) := dk_43 (dk_at dksL_law_57 9 rfl rfl)
theorem dL_law_1459 : decode cL_law 1459 = .ok (.invokevirtual 182, 3) := dk_182 0 182 (dk_at dksL_law_57 10 rfl rfl)
theorem dL_law_1462 : decode cL_law 1462 = .ok (.aload_n 2, 1) := dk_44 (dk_at dksL_law_57 13 rfl rfl)
theorem dL_law_1463 : decode cL_law 1463 = .ok (.invokevirtual 185, 3) := dk_182 0 185 (dk_at dksL_law_57 14 rfl rfl)
theorem dL_law_1466 : decode cL_law 1466 = .ok (.if_icmp .eq 665, 3) := dk_159 2 153 (dk_at dksL_law_57 17 rfl rfl)
theorem dL_law_1469 : decode cL_law 1469 = .ok (.iconst 0, 1) := dk_3 (dk_at dksL_law_57 20 rfl rfl)
theorem dL_law_1470 : decode cL_law 1470 = .ok (.ireturn, 1) := dk_172 (dk_at dksL_law_57 21 rfl rfl)
theorem dL_law_1471 : decode cL_law 1471 = .ok (.aload_n 1, 1) := dk_43 (dk_at dksL_law_57 22 rfl rfl)
theorem dL_law_1472 : decode cL_law 1472 = .ok (.invokevirtual 186, 3) := dk_182 0 186 (dk_at dksL_law_58 0 rfl rfl)
theorem dL_law_1475 : decode cL_law 1475 = .ok (.aload_n 2, 1) := dk_44 (dk_at dksL_law_58 3 rfl rfl)
theorem dL_law_1476 : decode cL_law 1476 = .ok (.invokevirtual 190, 3) := dk_182 0 190 (dk_at dksL_law_58 4 rfl rfl)
theorem dL_law_1479 : decode cL_law 1479 = .ok (.if_icmp .eq 652, 3) := dk_159 2 140 (dk_at dksL_law_58 7 rfl rfl)
theorem dL_law_1482 : decode cL_law 1482 = .ok (.iconst 0, 1) := dk_3 (dk_at dksL_law_58 10 rfl rfl)
theorem dL_law_1483 : decode cL_law 1483 = .ok (.ireturn, 1) := dk_172 (dk_at dksL_law_58 11 rfl rfl)
theorem dL_law_1484 : decode cL_law 1484 = .ok (.aload_n 1, 1) := dk_43 (dk_at dksL_law_58 12 rfl rfl)
theorem dL_law_1485 : decode cL_law 1485 = .ok (.invokevirtual 191, 3) := dk_182 0 191 (dk_at dksL_law_58 13 rfl rfl)
theorem dL_law_1488 : decode cL_law 1488 = .ok (.dstore 5, 2) := dk_57 5 (dk_at dksL_law_58 16 rfl rfl)
theorem dL_law_1490 : decode cL_law 1490 = .ok (.aload_n 2, 1) := dk_44 (dk_at dksL_law_58 18 rfl rfl)
theorem dL_law_1491 : decode cL_law 1491 = .ok (.invokevirtual 195, 3) := dk_182 0 195 (dk_at dksL_law_58 19 rfl rfl)
theorem dL_law_1494 : decode cL_law 1494 = .ok (.dstore 7, 2) := dk_57 7 (dk_at dksL_law_58 22 rfl rfl)
theorem dL_law_1496 : decode cL_law 1496 = .ok (.dload 5, 2) := dk_24 5 (dk_at dksL_law_59 0 rfl rfl)
theorem dL_law_1498 : decode cL_law 1498 = .ok (.dload 7, 2) := dk_24 7 (dk_at dksL_law_59 2 rfl rfl)
theorem dL_law_1500 : decode cL_law 1500 = .ok (.dcmp .l, 1) := dk_151 (dk_at dksL_law_59 4 rfl rfl)
theorem dL_law_1501 : decode cL_law 1501 = .ok (.ifCond .eq 21, 3) := dk_153 0 21 (dk_at dksL_law_59 5 rfl rfl)
theorem dL_law_1504 : decode cL_law 1504 = .ok (.dload 5, 2) := dk_24 5 (dk_at dksL_law_59 8 rfl rfl)
theorem dL_law_1506 : decode cL_law 1506 = .ok (.dload 5, 2) := dk_24 5 (dk_at dksL_law_59 10 rfl rfl)
theorem dL_law_1508 : decode cL_law 1508 = .ok (.dcmp .l, 1) := dk_151 (dk_at dksL_law_59 12 rfl rfl)
theorem dL_law_1509 : decode cL_law 1509 = .ok (.ifCond .eq 11, 3) := dk_153 0 11 (dk_at dksL_law_59 13 rfl rfl)
theorem dL_law_1512 : decode cL_law 1512 = .ok (.dload 7, 2) := dk_24 7 (dk_at dksL_law_59 16 rfl rfl)
theorem dL_law_1514 : decode cL_law 1514 = .ok (.dload 7, 2) := dk_24 7 (dk_at dksL_law_59 18 rfl rfl)
theorem dL_law_1516 : decode cL_law 1516 = .ok (.dcmp .l, 1) := dk_151 (dk_at dksL_law_59 20 rfl rfl)
theorem dL_law_1517 : decode cL_law 1517 = .ok (.ifCond .ne 5, 3) := dk_154 0 5 (dk_at dksL_law_59 21 rfl rfl)
theorem dL_law_1520 : decode cL_law 1520 = .ok (.iconst 0, 1) := dk_3 (dk_at dksL_law_60 0 rfl rfl)
theorem dL_law_1521 : decode cL_law 1521 = .ok (.ireturn, 1) := dk_172 (dk_at dksL_law_60 1 rfl rfl)
theorem dL_law_1522 : decode cL_law 1522 = .ok (.goto 609, 3) := dk_167 2 97 (dk_at dksL_law_60 2 rfl rfl)
theorem dL_law_1525 : decode cL_law 1525 = .ok (.aload_n 1, 1) := dk_43 (dk_at dksL_law_60 5 rfl rfl)
theorem dL_law_1526 : decode cL_law 1526 = .ok (.invokevirtual 196, 3) := dk_182 0 196 (dk_at dksL_law_60 6 rfl rfl)
theorem dL_law_1529 : decode cL_law 1529 = .ok (.f2d, 1) := dk_141 (dk_at dksL_law_60 9 rfl rfl)
theorem dL_law_1530 : decode cL_law 1530 = .ok (.dstore 5, 2) := dk_57 5 (dk_at dksL_law_60 10 rfl rfl)
theorem dL_law_1532 : decode cL_law 1532 = .ok (.aload_n 2, 1) := dk_44 (dk_at dksL_law_60 12 rfl rfl)
theorem dL_law_1533 : decode cL_law 1533 = .ok (.invokevirtual 200, 3) := dk_182 0 200 (dk_at dksL_law_60 13 rfl rfl)
theorem dL_law_1536 : decode cL_law 1536 = .ok (.f2d, 1) := dk_141 (dk_at dksL_law_60 16 rfl rfl)
theorem dL_law_1537 : decode cL_law 1537 = .ok (.dstore 7, 2) := dk_57 7 (dk_at dksL_law_60 17 rfl rfl)
theorem dL_law_1539 : decode cL_law 1539 = .ok (.dload 5, 2) := dk_24 5 (dk_at dksL_law_60 19 rfl rfl)
theorem dL_law_1541 : decode cL_law 1541 = .ok (.dload 7, 2) := dk_24 7 (dk_at dksL_law_60 21 rfl rfl)
theorem dL_law_1543 : decode cL_law 1543 = .ok (.dcmp .l, 1) := dk_151 (dk_at dksL_law_60 23 rfl rfl)
theorem dL_law_1544 : decode cL_law 1544 = .ok (.ifCond .eq 21, 3) := dk_153 0 21 (dk_at dksL_law_61 0 rfl rfl)
theorem dL_law_1547 : decode cL_law 1547 = .ok (.dload 5, 2) := dk_24 5 (dk_at dksL_law_61 3 rfl rfl)
theorem dL_law_1549 : decode cL_law 1549 = .ok (.dload 5, 2) := dk_24 5 (dk_at dksL_law_61 5 rfl rfl)
theorem dL_law_1551 : decode cL_law 1551 = .ok (.dcmp .l, 1) := dk_151 (dk_at dksL_law_61 7 rfl rfl)
theorem dL_law_1552 : decode cL_law 1552 = .ok (.ifCond .eq 11, 3) := dk_153 0 11 (dk_at dksL_law_61 8 rfl rfl)
theorem dL_law_1555 : decode cL_law 1555 = .ok (.dload 7, 2) := dk_24 7 (dk_at dksL_law_61 11 rfl rfl)
theorem dL_law_1557 : decode cL_law 1557 = .ok (.dload 7, 2) := dk_24 7 (dk_at dksL_law_61 13 rfl rfl)
theorem dL_law_1559 : decode cL_law 1559 = .ok (.dcmp .l, 1) := dk_151 (dk_at dksL_law_61 15 rfl rfl)
theorem dL_law_1560 : decode cL_law 1560 = .ok (.ifCond .ne 5, 3) := dk_154 0 5 (dk_at dksL_law_61 16 rfl rfl)
theorem dL_law_1563 : decode cL_law 1563 = .ok (.iconst 0, 1) := dk_3 (dk_at dksL_law_61 19 rfl rfl)
theorem dL_law_1564 : decode cL_law 1564 = .ok (.ireturn, 1) := dk_172 (dk_at dksL_law_61 20 rfl rfl)
theorem dL_law_1565 : decode cL_law 1565 = .ok (.goto 566, 3) := dk_167 2 54 (dk_at dksL_law_61 21 rfl rfl)
theorem dL_law_1568 : decode cL_law 1568 = .ok (.aload_n 1, 1) := dk_43 (dk_at dksL_law_62 0 rfl rfl)
theorem dL_law_1569 : decode cL_law 1569 = .ok (.aload_n 0, 1) := dk_42 (dk_at dksL_law_62 1 rfl rfl)
theorem dL_law_1570 : decode cL_law 1570 = .ok (.iload 4, 2) := dk_21 4 (dk_at dksL_law_62 2 rfl rfl)
theorem dL_law_1572 : decode cL_law 1572 = .ok (.iconst 1, 1) := dk_4 (dk_at dksL_law_62 4 rfl rfl)
theorem dL_law_1573 : decode cL_law 1573 = .ok (.iadd, 1) := dk_96 (dk_at dksL_law_62 5 rfl rfl)
theorem dL_law_1574 : decode cL_law 1574 = .ok (.iaload, 1) := dk_46 (dk_at dksL_law_62 6 rfl rfl)
theorem dL_law_1575 : decode cL_law 1575 = .ok (.aload_n 0, 1) := dk_42 (dk_at dksL_law_62 7 rfl rfl)
theorem dL_law_1576 : decode cL_law 1576 = .ok (.iload 4, 2) := dk_21 4 (dk_at dksL_law_62 8 rfl rfl)
theorem dL_law_1578 : decode cL_law 1578 = .ok (.iconst 2, 1) := dk_5 (dk_at dksL_law_62 10 rfl rfl)
theorem dL_law_1579 : decode cL_law 1579 = .ok (.iadd, 1) := dk_96 (dk_at dksL_law_62 11 rfl rfl)
theorem dL_law_1580 : decode cL_law 1580 = .ok (.iaload, 1) := dk_46 (dk_at dksL_law_62 12 rfl rfl)
theorem dL_law_1581 : decode cL_law 1581 = .ok (.aload_n 0, 1) := dk_42 (dk_at dksL_law_62 13 rfl rfl)
theorem dL_law_1582 : decode cL_law 1582 = .ok (.iload 4, 2) := dk_21 4 (dk_at dksL_law_62 14 rfl rfl)
theorem dL_law_1584 : decode cL_law 1584 = .ok (.iconst 3, 1) := dk_6 (dk_at dksL_law_62 16 rfl rfl)
theorem dL_law_1585 : decode cL_law 1585 = .ok (.iadd, 1) := dk_96 (dk_at dksL_law_62 17 rfl rfl)
theorem dL_law_1586 : decode cL_law 1586 = .ok (.iaload, 1) := dk_46 (dk_at dksL_law_62 18 rfl rfl)
theorem dL_law_1587 : decode cL_law 1587 = .ok (.aload_n 0, 1) := dk_42 (dk_at dksL_law_62 19 rfl rfl)
theorem dL_law_1588 : decode cL_law 1588 = .ok (.iload 4, 2) := dk_21 4 (dk_at dksL_law_62 20 rfl rfl)
theorem dL_law_1590 : decode cL_law 1590 = .ok (.iconst 4, 1) := dk_7 (dk_at dksL_law_62 22 rfl rfl)
theorem dL_law_1591 : decode cL_law 1591 = .ok (.iadd, 1) := dk_96 (dk_at dksL_law_62 23 rfl rfl)
theorem dL_law_1592 : decode cL_law 1592 = .ok (.iaload, 1) := dk_46 (dk_at dksL_law_63 0 rfl rfl)
theorem dL_law_1593 : decode cL_law 1593 = .ok (.ifCond .eq 7, 3) := dk_153 0 7 (dk_at dksL_law_63 1 rfl rfl)
theorem dL_law_1596 : decode cL_law 1596 = .ok (.iconst 1, 1) := dk_4 (dk_at dksL_law_63 4 rfl rfl)
theorem dL_law_1597 : decode cL_law 1597 = .ok (.goto 4, 3) := dk_167 0 4 (dk_at dksL_law_63 5 rfl rfl)
theorem dL_law_1600 : decode cL_law 1600 = .ok (.iconst 0, 1) := dk_3 (dk_at dksL_law_63 8 rfl rfl)
theorem dL_law_1601 : decode cL_law 1601 = .ok (.aload_n 3, 1) := dk_45 (dk_at dksL_law_63 9 rfl rfl)
theorem dL_law_1602 : decode cL_law 1602 = .ok (.invokestatic 201, 3) := dk_184 0 201 (dk_at dksL_law_63 10 rfl rfl)
theorem dL_law_1605 : decode cL_law 1605 = .ok (.istore 5, 2) := dk_54 5 (dk_at dksL_law_63 13 rfl rfl)
theorem dL_law_1607 : decode cL_law 1607 = .ok (.aload_n 2, 1) := dk_44 (dk_at dksL_law_63 15 rfl rfl)
theorem dL_law_1608 : decode cL_law 1608 = .ok (.aload_n 0, 1) := dk_42 (dk_at dksL_law_63 16 rfl rfl)
theorem dL_law_1609 : decode cL_law 1609 = .ok (.iload 4, 2) := dk_21 4 (dk_at dksL_law_63 17 rfl rfl)
theorem dL_law_1611 : decode cL_law 1611 = .ok (.iconst 1, 1) := dk_4 (dk_at dksL_law_63 19 rfl rfl)
theorem dL_law_1612 : decode cL_law 1612 = .ok (.iadd, 1) := dk_96 (dk_at dksL_law_63 20 rfl rfl)
theorem dL_law_1613 : decode cL_law 1613 = .ok (.iaload, 1) := dk_46 (dk_at dksL_law_63 21 rfl rfl)
theorem dL_law_1614 : decode cL_law 1614 = .ok (.aload_n 0, 1) := dk_42 (dk_at dksL_law_63 22 rfl rfl)
theorem dL_law_1615 : decode cL_law 1615 = .ok (.iload 4, 2) := dk_21 4 (dk_at dksL_law_64 0 rfl rfl)
theorem dL_law_1617 : decode cL_law 1617 = .ok (.iconst 2, 1) := dk_5 (dk_at dksL_law_64 2 rfl rfl)
theorem dL_law_1618 : decode cL_law 1618 = .ok (.iadd, 1) := dk_96 (dk_at dksL_law_64 3 rfl rfl)
theorem dL_law_1619 : decode cL_law 1619 = .ok (.iaload, 1) := dk_46 (dk_at dksL_law_64 4 rfl rfl)
theorem dL_law_1620 : decode cL_law 1620 = .ok (.aload_n 0, 1) := dk_42 (dk_at dksL_law_64 5 rfl rfl)
theorem dL_law_1621 : decode cL_law 1621 = .ok (.iload 4, 2) := dk_21 4 (dk_at dksL_law_64 6 rfl rfl)
theorem dL_law_1623 : decode cL_law 1623 = .ok (.iconst 3, 1) := dk_6 (dk_at dksL_law_64 8 rfl rfl)
theorem dL_law_1624 : decode cL_law 1624 = .ok (.iadd, 1) := dk_96 (dk_at dksL_law_64 9 rfl rfl)
theorem dL_law_1625 : decode cL_law 1625 = .ok (.iaload, 1) := dk_46 (dk_at dksL_law_64 10 rfl rfl)
theorem dL_law_1626 : decode cL_law 1626 = .ok (.aload_n 0, 1) := dk_42 (dk_at dksL_law_64 11 rfl rfl)
theorem dL_law_1627 : decode cL_law 1627 = .ok (.iload 4, 2) := dk_21 4 (dk_at dksL_law_64 12 rfl rfl)
theorem dL_law_1629 : decode cL_law 1629 = .ok (.iconst 4, 1) := dk_7 (dk_at dksL_law_64 14 rfl rfl)
theorem dL_law_1630 : decode cL_law 1630 = .ok (.iadd, 1) := dk_96 (dk_at dksL_law_64 15 rfl rfl)
theorem dL_law_1631 : decode cL_law 1631 = .ok (.iaload, 1) := dk_46 (dk_at dksL_law_64 16 rfl rfl)
theorem dL_law_1632 : decode cL_law 1632 = .ok (.ifCond .eq 7, 3) := dk_153 0 7 (dk_at dksL_law_64 17 rfl rfl)
theorem dL_law_1635 : decode cL_law 1635 = .ok (.iconst 1, 1) := dk_4 (dk_at dksL_law_64 20 rfl rfl)
theorem dL_law_1636 : decode cL_law 1636 = .ok (.goto 4, 3) := dk_167 0 4 (dk_at dksL_law_64 21 rfl rfl)
theorem dL_law_1639 : decode cL_law 1639 = .ok (.iconst 0, 1) := dk_3 (dk_at dksL_law_65 0 rfl rfl)
theorem dL_law_1640 : decode cL_law 1640 = .ok (.invokevirtual 204, 3) := dk_182 0 204 (dk_at dksL_law_65 1 rfl rfl)
theorem dL_law_1643 : decode cL_law 1643 = .ok (.istore 6, 2) := dk_54 6 (dk_at dksL_law_65 4 rfl rfl)
theorem dL_law_1645 : decode cL_law 1645 = .ok (.aload_n 2, 1) := dk_44 (dk_at dksL_law_65 6 rfl rfl)
theorem dL_law_1646 : decode cL_law 1646 = .ok (.invokevirtual 131, 3) := dk_182 0 131 (dk_at dksL_law_65 7 rfl rfl)
theorem dL_law_1649 : decode cL_law 1649 = .ok (.iload 5, 2) := dk_21 5 (dk_at dksL_law_65 10 rfl rfl)
theorem dL_law_1651 : decode cL_law 1651 = .ok (.if_icmp .eq 5, 3) := dk_159 0 5 (dk_at dksL_law_65 12 rfl rfl)
theorem dL_law_1654 : decode cL_law 1654 = .ok (.iconst 0, 1) := dk_3 (dk_at dksL_law_65 15 rfl rfl)
theorem dL_law_1655 : decode cL_law 1655 = .ok (.ireturn, 1) := dk_172 (dk_at dksL_law_65 16 rfl rfl)
theorem dL_law_1656 : decode cL_law 1656 = .ok (.iload 5, 2) := dk_21 5 (dk_at dksL_law_65 17 rfl rfl)
theorem dL_law_1658 : decode cL_law 1658 = .ok (.ifCond .ne 15, 3) := dk_154 0 15 (dk_at dksL_law_65 19 rfl rfl)
theorem dL_law_1661 : decode cL_law 1661 = .ok (.aload_n 3, 1) := dk_45 (dk_at dksL_law_65 22 rfl rfl)
theorem dL_law_1662 : decode cL_law 1662 = .ok (.iconst 0, 1) := dk_3 (dk_at dksL_law_65 23 rfl rfl)
theorem dL_law_1663 : decode cL_law 1663 = .ok (.laload, 1) := dk_47 (dk_at dksL_law_66 0 rfl rfl)
theorem dL_law_1664 : decode cL_law 1664 = .ok (.iload 6, 2) := dk_21 6 (dk_at dksL_law_66 1 rfl rfl)
theorem dL_law_1666 : decode cL_law 1666 = .ok (.i2l, 1) := dk_133 (dk_at dksL_law_66 3 rfl rfl)
theorem dL_law_1667 : decode cL_law 1667 = .ok (.lcmp, 1) := dk_148 (dk_at dksL_law_66 4 rfl rfl)
theorem dL_law_1668 : decode cL_law 1668 = .ok (.ifCond .eq 5, 3) := dk_153 0 5 (dk_at dksL_law_66 5 rfl rfl)
theorem dL_law_1671 : decode cL_law 1671 = .ok (.iconst 0, 1) := dk_3 (dk_at dksL_law_66 8 rfl rfl)
theorem dL_law_1672 : decode cL_law 1672 = .ok (.ireturn, 1) := dk_172 (dk_at dksL_law_66 9 rfl rfl)
theorem dL_law_1673 : decode cL_law 1673 = .ok (.goto 458, 3) := dk_167 1 202 (dk_at dksL_law_66 10 rfl rfl)
theorem dL_law_1676 : decode cL_law 1676 = .ok (.aload_n 1, 1) := dk_43 (dk_at dksL_law_66 13 rfl rfl)
theorem dL_law_1677 : decode cL_law 1677 = .ok (.aload_n 0, 1) := dk_42 (dk_at dksL_law_66 14 rfl rfl)
theorem dL_law_1678 : decode cL_law 1678 = .ok (.iload 4, 2) := dk_21 4 (dk_at dksL_law_66 15 rfl rfl)
theorem dL_law_1680 : decode cL_law 1680 = .ok (.iconst 1, 1) := dk_4 (dk_at dksL_law_66 17 rfl rfl)
theorem dL_law_1681 : decode cL_law 1681 = .ok (.iadd, 1) := dk_96 (dk_at dksL_law_66 18 rfl rfl)
theorem dL_law_1682 : decode cL_law 1682 = .ok (.iaload, 1) := dk_46 (dk_at dksL_law_66 19 rfl rfl)
theorem dL_law_1683 : decode cL_law 1683 = .ok (.aload_n 3, 1) := dk_45 (dk_at dksL_law_66 20 rfl rfl)
theorem dL_law_1684 : decode cL_law 1684 = .ok (.invokestatic 205, 3) := dk_184 0 205 (dk_at dksL_law_66 21 rfl rfl)
theorem dL_law_1687 : decode cL_law 1687 = .ok (.istore 5, 2) := dk_54 5 (dk_at dksL_law_67 0 rfl rfl)
theorem dL_law_1689 : decode cL_law 1689 = .ok (.aload_n 2, 1) := dk_44 (dk_at dksL_law_67 2 rfl rfl)
theorem dL_law_1690 : decode cL_law 1690 = .ok (.aload_n 0, 1) := dk_42 (dk_at dksL_law_67 3 rfl rfl)
theorem dL_law_1691 : decode cL_law 1691 = .ok (.iload 4, 2) := dk_21 4 (dk_at dksL_law_67 4 rfl rfl)
theorem dL_law_1693 : decode cL_law 1693 = .ok (.iconst 1, 1) := dk_4 (dk_at dksL_law_67 6 rfl rfl)
theorem dL_law_1694 : decode cL_law 1694 = .ok (.iadd, 1) := dk_96 (dk_at dksL_law_67 7 rfl rfl)
theorem dL_law_1695 : decode cL_law 1695 = .ok (.iaload, 1) := dk_46 (dk_at dksL_law_67 8 rfl rfl)
theorem dL_law_1696 : decode cL_law 1696 = .ok (.invokevirtual 207, 3) := dk_182 0 207 (dk_at dksL_law_67 9 rfl rfl)
theorem dL_law_1699 : decode cL_law 1699 = .ok (.istore 6, 2) := dk_54 6 (dk_at dksL_law_67 12 rfl rfl)
theorem dL_law_1701 : decode cL_law 1701 = .ok (.aload_n 2, 1) := dk_44 (dk_at dksL_law_67 14 rfl rfl)
theorem dL_law_1702 : decode cL_law 1702 = .ok (.invokevirtual 131, 3) := dk_182 0 131 (dk_at dksL_law_67 15 rfl rfl)
theorem dL_law_1705 : decode cL_law 1705 = .ok (.iload 5, 2) := dk_21 5 (dk_at dksL_law_67 18 rfl rfl)
theorem dL_law_1707 : decode cL_law 1707 = .ok (.if_icmp .eq 5, 3) := dk_159 0 5 (dk_at dksL_law_67 20 rfl rfl)
theorem dL_law_1710 : decode cL_law 1710 = .ok (.iconst 0, 1) := dk_3 (dk_at dksL_law_67 23 rfl rfl)
theorem dL_law_1711 : decode cL_law 1711 = .ok (.ireturn, 1) := dk_172 (dk_at dksL_law_68 0 rfl rfl)
theorem dL_law_1712 : decode cL_law 1712 = .ok (.iload 5, 2) := dk_21 5 (dk_at dksL_law_68 1 rfl rfl)
theorem dL_law_1714 : decode cL_law 1714 = .ok (.ifCond .ne 15, 3) := dk_154 0 15 (dk_at dksL_law_68 3 rfl rfl)
theorem dL_law_1717 : decode cL_law 1717 = .ok (.aload_n 3, 1) := dk_45 (dk_at dksL_law_68 6 rfl rfl)
theorem dL_law_1718 : decode cL_law 1718 = .ok (.iconst 0, 1) := dk_3 (dk_at dksL_law_68 7 rfl rfl)
theorem dL_law_1719 : decode cL_law 1719 = .ok (.laload, 1) := dk_47 (dk_at dksL_law_68 8 rfl rfl)
theorem dL_law_1720 : decode cL_law 1720 = .ok (.iload 6, 2) := dk_21 6 (dk_at dksL_law_68 9 rfl rfl)
theorem dL_law_1722 : decode cL_law 1722 = .ok (.i2l, 1) := dk_133 (dk_at dksL_law_68 11 rfl rfl)
theorem dL_law_1723 : decode cL_law 1723 = .ok (.lcmp, 1) := dk_148 (dk_at dksL_law_68 12 rfl rfl)
theorem dL_law_1724 : decode cL_law 1724 = .ok (.ifCond .eq 5, 3) := dk_153 0 5 (dk_at dksL_law_68 13 rfl rfl)
theorem dL_law_1727 : decode cL_law 1727 = .ok (.iconst 0, 1) := dk_3 (dk_at dksL_law_68 16 rfl rfl)
theorem dL_law_1728 : decode cL_law 1728 = .ok (.ireturn, 1) := dk_172 (dk_at dksL_law_68 17 rfl rfl)
theorem dL_law_1729 : decode cL_law 1729 = .ok (.goto 402, 3) := dk_167 1 146 (dk_at dksL_law_68 18 rfl rfl)
theorem dL_law_1732 : decode cL_law 1732 = .ok (.aload_n 1, 1) := dk_43 (dk_at dksL_law_68 21 rfl rfl)
theorem dL_law_1733 : decode cL_law 1733 = .ok (.aload_n 0, 1) := dk_42 (dk_at dksL_law_68 22 rfl rfl)
theorem dL_law_1734 : decode cL_law 1734 = .ok (.iload 4, 2) := dk_21 4 (dk_at dksL_law_69 0 rfl rfl)
theorem dL_law_1736 : decode cL_law 1736 = .ok (.iconst 1, 1) := dk_4 (dk_at dksL_law_69 2 rfl rfl)
theorem dL_law_1737 : decode cL_law 1737 = .ok (.iadd, 1) := dk_96 (dk_at dksL_law_69 3 rfl rfl)
theorem dL_law_1738 : decode cL_law 1738 = .ok (.iaload, 1) := dk_46 (dk_at dksL_law_69 4 rfl rfl)
theorem dL_law_1739 : decode cL_law 1739 = .ok (.aload_n 0, 1) := dk_42 (dk_at dksL_law_69 5 rfl rfl)
theorem dL_law_1740 : decode cL_law 1740 = .ok (.iload 4, 2) := dk_21 4 (dk_at dksL_law_69 6 rfl rfl)
theorem dL_law_1742 : decode cL_law 1742 = .ok (.iconst 2, 1) := dk_5 (dk_at dksL_law_69 8 rfl rfl)
theorem dL_law_1743 : decode cL_law 1743 = .ok (.iadd, 1) := dk_96 (dk_at dksL_law_69 9 rfl rfl)
theorem dL_law_1744 : decode cL_law 1744 = .ok (.iaload, 1) := dk_46 (dk_at dksL_law_69 10 rfl rfl)
theorem dL_law_1745 : decode cL_law 1745 = .ok (.aload_n 3, 1) := dk_45 (dk_at dksL_law_69 11 rfl rfl)
theorem dL_law_1746 : decode cL_law 1746 = .ok (.invokestatic 208, 3) := dk_184 0 208 (dk_at dksL_law_69 12 rfl rfl)
theorem dL_law_1749 : decode cL_law 1749 = .ok (.istore 5, 2) := dk_54 5 (dk_at dksL_law_69 15 rfl rfl)
theorem dL_law_1751 : decode cL_law 1751 = .ok (.aload_n 2, 1) := dk_44 (dk_at dksL_law_69 17 rfl rfl)
theorem dL_law_1752 : decode cL_law 1752 = .ok (.aload_n 0, 1) := dk_42 (dk_at dksL_law_69 18 rfl rfl)
theorem dL_law_1753 : decode cL_law 1753 = .ok (.iload 4, 2) := dk_21 4 (dk_at dksL_law_69 19 rfl rfl)
theorem dL_law_1755 : decode cL_law 1755 = .ok (.iconst 1, 1) := dk_4 (dk_at dksL_law_69 21 rfl rfl)
theorem dL_law_1756 : decode cL_law 1756 = .ok (.iadd, 1) := dk_96 (dk_at dksL_law_69 22 rfl rfl)
theorem dL_law_1757 : decode cL_law 1757 = .ok (.iaload, 1) := dk_46 (dk_at dksL_law_69 23 rfl rfl)
theorem dL_law_1758 : decode cL_law 1758 = .ok (.aload_n 0, 1) := dk_42 (dk_at dksL_law_70 0 rfl rfl)
theorem dL_law_1759 : decode cL_law 1759 = .ok (.iload 4, 2) := dk_21 4 (dk_at dksL_law_70 1 rfl rfl)
theorem dL_law_1761 : decode cL_law 1761 = .ok (.iconst 2, 1) := dk_5 (dk_at dksL_law_70 3 rfl rfl)
theorem dL_law_1762 : decode cL_law 1762 = .ok (.iadd, 1) := dk_96 (dk_at dksL_law_70 4 rfl rfl)
theorem dL_law_1763 : decode cL_law 1763 = .ok (.iaload, 1) := dk_46 (dk_at dksL_law_70 5 rfl rfl)
theorem dL_law_1764 : decode cL_law 1764 = .ok (.invokevirtual 210, 3) := dk_182 0 210 (dk_at dksL_law_70 6 rfl rfl)
theorem dL_law_1767 : decode cL_law 1767 = .ok (.istore 6, 2) := dk_54 6 (dk_at dksL_law_70 9 rfl rfl)
theorem dL_law_1769 : decode cL_law 1769 = .ok (.aload_n 2, 1) := dk_44 (dk_at dksL_law_70 11 rfl rfl)
theorem dL_law_1770 : decode cL_law 1770 = .ok (.invokevirtual 131, 3) := dk_182 0 131 (dk_at dksL_law_70 12 rfl rfl)
theorem dL_law_1773 : decode cL_law 1773 = .ok (.iload 5, 2) := dk_21 5 (dk_at dksL_law_70 15 rfl rfl)
theorem dL_law_1775 : decode cL_law 1775 = .ok (.if_icmp .eq 5, 3) := dk_159 0 5 (dk_at dksL_law_70 17 rfl rfl)
theorem dL_law_1778 : decode cL_law 1778 = .ok (.iconst 0, 1) := dk_3 (dk_at dksL_law_70 20 rfl rfl)
theorem dL_law_1779 : decode cL_law 1779 = .ok (.ireturn, 1) := dk_172 (dk_at dksL_law_70 21 rfl rfl)
theorem dL_law_1780 : decode cL_law 1780 = .ok (.iload 5, 2) := dk_21 5 (dk_at dksL_law_70 22 rfl rfl)
theorem dL_law_1782 : decode cL_law 1782 = .ok (.ifCond .ne 15, 3) := dk_154 0 15 (dk_at dksL_law_71 0 rfl rfl)
theorem dL_law_1785 : decode cL_law 1785 = .ok (.aload_n 3, 1) := dk_45 (dk_at dksL_law_71 3 rfl rfl)
theorem dL_law_1786 : decode cL_law 1786 = .ok (.iconst 0, 1) := dk_3 (dk_at dksL_law_71 4 rfl rfl)
theorem dL_law_1787 : decode cL_law 1787 = .ok (.laload, 1) := dk_47 (dk_at dksL_law_71 5 rfl rfl)
theorem dL_law_1788 : decode cL_law 1788 = .ok (.iload 6, 2) := dk_21 6 (dk_at dksL_law_71 6 rfl rfl)
theorem dL_law_1790 : decode cL_law 1790 = .ok (.i2l, 1) := dk_133 (dk_at dksL_law_71 8 rfl rfl)
theorem dL_law_1791 : decode cL_law 1791 = .ok (.lcmp, 1) := dk_148 (dk_at dksL_law_71 9 rfl rfl)
theorem dL_law_1792 : decode cL_law 1792 = .ok (.ifCond .eq 5, 3) := dk_153 0 5 (dk_at dksL_law_71 10 rfl rfl)
theorem dL_law_1795 : decode cL_law 1795 = .ok (.iconst 0, 1) := dk_3 (dk_at dksL_law_71 13 rfl rfl)
theorem dL_law_1796 : decode cL_law 1796 = .ok (.ireturn, 1) := dk_172 (dk_at dksL_law_71 14 rfl rfl)
theorem dL_law_1797 : decode cL_law 1797 = .ok (.goto 334, 3) := dk_167 1 78 (dk_at dksL_law_71 15 rfl rfl)
theorem dL_law_1800 : decode cL_law 1800 = .ok (.aload_n 1, 1) := dk_43 (dk_at dksL_law_71 18 rfl rfl)
theorem dL_law_1801 : decode cL_law 1801 = .ok (.aload_n 0, 1) := dk_42 (dk_at dksL_law_71 19 rfl rfl)
theorem dL_law_1802 : decode cL_law 1802 = .ok (.iload 4, 2) := dk_21 4 (dk_at dksL_law_71 20 rfl rfl)
theorem dL_law_1804 : decode cL_law 1804 = .ok (.iconst 1, 1) := dk_4 (dk_at dksL_law_71 22 rfl rfl)
theorem dL_law_1805 : decode cL_law 1805 = .ok (.iadd, 1) := dk_96 (dk_at dksL_law_71 23 rfl rfl)
theorem dL_law_1806 : decode cL_law 1806 = .ok (.iaload, 1) := dk_46 (dk_at dksL_law_72 0 rfl rfl)
theorem dL_law_1807 : decode cL_law 1807 = .ok (.aload_n 0, 1) := dk_42 (dk_at dksL_law_72 1 rfl rfl)
theorem dL_law_1808 : decode cL_law 1808 = .ok (.iload 4, 2) := dk_21 4 (dk_at dksL_law_72 2 rfl rfl)
theorem dL_law_1810 : decode cL_law 1810 = .ok (.iconst 2, 1) := dk_5 (dk_at dksL_law_72 4 rfl rfl)
theorem dL_law_1811 : decode cL_law 1811 = .ok (.iadd, 1) := dk_96 (dk_at dksL_law_72 5 rfl rfl)
theorem dL_law_1812 : decode cL_law 1812 = .ok (.iaload, 1) := dk_46 (dk_at dksL_law_72 6 rfl rfl)
theorem dL_law_1813 : decode cL_law 1813 = .ok (.aload_n 3, 1) := dk_45 (dk_at dksL_law_72 7 rfl rfl)
theorem dL_law_1814 : decode cL_law 1814 = .ok (.invokestatic 211, 3) := dk_184 0 211 (dk_at dksL_law_72 8 rfl rfl)
theorem dL_law_1817 : decode cL_law 1817 = .ok (.istore 5, 2) := dk_54 5 (dk_at dksL_law_72 11 rfl rfl)
theorem dL_law_1819 : decode cL_law 1819 = .ok (.aload_n 2, 1) := dk_44 (dk_at dksL_law_72 13 rfl rfl)
theorem dL_law_1820 : decode cL_law 1820 = .ok (.aload_n 0, 1) := dk_42 (dk_at dksL_law_72 14 rfl rfl)
theorem dL_law_1821 : decode cL_law 1821 = .ok (.iload 4, 2) := dk_21 4 (dk_at dksL_law_72 15 rfl rfl)
theorem dL_law_1823 : decode cL_law 1823 = .ok (.iconst 1, 1) := dk_4 (dk_at dksL_law_72 17 rfl rfl)
theorem dL_law_1824 : decode cL_law 1824 = .ok (.iadd, 1) := dk_96 (dk_at dksL_law_72 18 rfl rfl)
theorem dL_law_1825 : decode cL_law 1825 = .ok (.iaload, 1) := dk_46 (dk_at dksL_law_72 19 rfl rfl)
theorem dL_law_1826 : decode cL_law 1826 = .ok (.aload_n 0, 1) := dk_42 (dk_at dksL_law_72 20 rfl rfl)
theorem dL_law_1827 : decode cL_law 1827 = .ok (.iload 4, 2) := dk_21 4 (dk_at dksL_law_72 21 rfl rfl)
theorem dL_law_1829 : decode cL_law 1829 = .ok (.iconst 2, 1) := dk_5 (dk_at dksL_law_72 23 rfl rfl)
theorem dL_law_1830 : decode cL_law 1830 = .ok (.iadd, 1) := dk_96 (dk_at dksL_law_73 0 rfl rfl)
theorem dL_law_1831 : decode cL_law 1831 = .ok (.iaload, 1) := dk_46 (dk_at dksL_law_73 1 rfl rfl)
theorem dL_law_1832 : decode cL_law 1832 = .ok (.invokevirtual 213, 3) := dk_182 0 213 (dk_at dksL_law_73 2 rfl rfl)
theorem dL_law_1835 : decode cL_law 1835 = .ok (.istore 6, 2) := dk_54 6 (dk_at dksL_law_73 5 rfl rfl)
theorem dL_law_1837 : decode cL_law 1837 = .ok (.aload_n 2, 1) := dk_44 (dk_at dksL_law_73 7 rfl rfl)
theorem dL_law_1838 : decode cL_law 1838 = .ok (.invokevirtual 131, 3) := dk_182 0 131 (dk_at dksL_law_73 8 rfl rfl)
theorem dL_law_1841 : decode cL_law 1841 = .ok (.iload 5, 2) := dk_21 5 (dk_at dksL_law_73 11 rfl rfl)
theorem dL_law_1843 : decode cL_law 1843 = .ok (.if_icmp .eq 5, 3) := dk_159 0 5 (dk_at dksL_law_73 13 rfl rfl)
theorem dL_law_1846 : decode cL_law 1846 = .ok (.iconst 0, 1) := dk_3 (dk_at dksL_law_73 16 rfl rfl)
theorem dL_law_1847 : decode cL_law 1847 = .ok (.ireturn, 1) := dk_172 (dk_at dksL_law_73 17 rfl rfl)
theorem dL_law_1848 : decode cL_law 1848 = .ok (.iload 5, 2) := dk_21 5 (dk_at dksL_law_73 18 rfl rfl)
theorem dL_law_1850 : decode cL_law 1850 = .ok (.ifCond .ne 15, 3) := dk_154 0 15 (dk_at dksL_law_73 20 rfl rfl)
theorem dL_law_1853 : decode cL_law 1853 = .ok (.aload_n 3, 1) := dk_45 (dk_at dksL_law_73 23 rfl rfl)
theorem dL_law_1854 : decode cL_law 1854 = .ok (.iconst 0, 1) := dk_3 (dk_at dksL_law_74 0 rfl rfl)
theorem dL_law_1855 : decode cL_law 1855 = .ok (.laload, 1) := dk_47 (dk_at dksL_law_74 1 rfl rfl)
theorem dL_law_1856 : decode cL_law 1856 = .ok (.iload 6, 2) := dk_21 6 (dk_at dksL_law_74 2 rfl rfl)
theorem dL_law_1858 : decode cL_law 1858 = .ok (.i2l, 1) := dk_133 (dk_at dksL_law_74 4 rfl rfl)
theorem dL_law_1859 : decode cL_law 1859 = .ok (.lcmp, 1) := dk_148 (dk_at dksL_law_74 5 rfl rfl)
theorem dL_law_1860 : decode cL_law 1860 = .ok (.ifCond .eq 5, 3) := dk_153 0 5 (dk_at dksL_law_74 6 rfl rfl)
theorem dL_law_1863 : decode cL_law 1863 = .ok (.iconst 0, 1) := dk_3 (dk_at dksL_law_74 9 rfl rfl)
theorem dL_law_1864 : decode cL_law 1864 = .ok (.ireturn, 1) := dk_172 (dk_at dksL_law_74 10 rfl rfl)
theorem dL_law_1865 : decode cL_law 1865 = .ok (.goto 266, 3) := dk_167 1 10 (dk_at dksL_law_74 11 rfl rfl)
theorem dL_law_1868 : decode cL_law 1868 = .ok (.aload_n 1, 1) := dk_43 (dk_at dksL_law_74 14 rfl rfl)
theorem dL_law_1869 : decode cL_law 1869 = .ok (.aload_n 0, 1) := dk_42 (dk_at dksL_law_74 15 rfl rfl)
theorem dL_law_1870 : decode cL_law 1870 = .ok (.iload 4, 2) := dk_21 4 (dk_at dksL_law_74 16 rfl rfl)
theorem dL_law_1872 : decode cL_law 1872 = .ok (.iconst 1, 1) := dk_4 (dk_at dksL_law_74 18 rfl rfl)
theorem dL_law_1873 : decode cL_law 1873 = .ok (.iadd, 1) := dk_96 (dk_at dksL_law_74 19 rfl rfl)
theorem dL_law_1874 : decode cL_law 1874 = .ok (.iaload, 1) := dk_46 (dk_at dksL_law_74 20 rfl rfl)
theorem dL_law_1875 : decode cL_law 1875 = .ok (.aload_n 0, 1) := dk_42 (dk_at dksL_law_74 21 rfl rfl)
theorem dL_law_1876 : decode cL_law 1876 = .ok (.iload 4, 2) := dk_21 4 (dk_at dksL_law_74 22 rfl rfl)
theorem dL_law_1878 : decode cL_law 1878 = .ok (.iconst 2, 1) := dk_5 (dk_at dksL_law_75 0 rfl rfl)
theorem dL_law_1879 : decode cL_law 1879 = .ok (.iadd, 1) := dk_96 (dk_at dksL_law_75 1 rfl rfl)
theorem dL_law_1880 : decode cL_law 1880 = .ok (.iaload, 1) := dk_46 (dk_at dksL_law_75 2 rfl rfl)
theorem dL_law_1881 : decode cL_law 1881 = .ok (.aload_n 3, 1) := dk_45 (dk_at dksL_law_75 3 rfl rfl)
theorem dL_law_1882 : decode cL_law 1882 = .ok (.invokestatic 214, 3) := dk_184 0 214 (dk_at dksL_law_75 4 rfl rfl)
theorem dL_law_1885 : decode cL_law 1885 = .ok (.istore 5, 2) := dk_54 5 (dk_at dksL_law_75 7 rfl rfl)
theorem dL_law_1887 : decode cL_law 1887 = .ok (.aload_n 2, 1) := dk_44 (dk_at dksL_law_75 9 rfl rfl)
theorem dL_law_1888 : decode cL_law 1888 = .ok (.aload_n 0, 1) := dk_42 (dk_at dksL_law_75 10 rfl rfl)
theorem dL_law_1889 : decode cL_law 1889 = .ok (.iload 4, 2) := dk_21 4 (dk_at dksL_law_75 11 rfl rfl)
theorem dL_law_1891 : decode cL_law 1891 = .ok (.iconst 1, 1) := dk_4 (dk_at dksL_law_75 13 rfl rfl)
theorem dL_law_1892 : decode cL_law 1892 = .ok (.iadd, 1) := dk_96 (dk_at dksL_law_75 14 rfl rfl)
theorem dL_law_1893 : decode cL_law 1893 = .ok (.iaload, 1) := dk_46 (dk_at dksL_law_75 15 rfl rfl)
theorem dL_law_1894 : decode cL_law 1894 = .ok (.aload_n 0, 1) := dk_42 (dk_at dksL_law_75 16 rfl rfl)
theorem dL_law_1895 : decode cL_law 1895 = .ok (.iload 4, 2) := dk_21 4 (dk_at dksL_law_75 17 rfl rfl)
theorem dL_law_1897 : decode cL_law 1897 = .ok (.iconst 2, 1) := dk_5 (dk_at dksL_law_75 19 rfl rfl)
theorem dL_law_1898 : decode cL_law 1898 = .ok (.iadd, 1) := dk_96 (dk_at dksL_law_75 20 rfl rfl)
theorem dL_law_1899 : decode cL_law 1899 = .ok (.iaload, 1) := dk_46 (dk_at dksL_law_75 21 rfl rfl)
theorem dL_law_1900 : decode cL_law 1900 = .ok (.invokevirtual 216, 3) := dk_182 0 216 (dk_at dksL_law_76 0 rfl rfl)
theorem dL_law_1903 : decode cL_law 1903 = .ok (.istore 6, 2) := dk_54 6 (dk_at dksL_law_76 3 rfl rfl)
theorem dL_law_1905 : decode cL_law 1905 = .ok (.aload_n 2, 1) := dk_44 (dk_at dksL_law_76 5 rfl rfl)
theorem dL_law_1906 : decode cL_law 1906 = .ok (.invokevirtual 131, 3) := dk_182 0 131 (dk_at dksL_law_76 6 rfl rfl)
theorem dL_law_1909 : decode cL_law 1909 = .ok (.iload 5, 2) := dk_21 5 (dk_at dksL_law_76 9 rfl rfl)
theorem dL_law_1911 : decode cL_law 1911 = .ok (.if_icmp .eq 5, 3) := dk_159 0 5 (dk_at dksL_law_76 11 rfl rfl)
theorem dL_law_1914 : decode cL_law 1914 = .ok (.iconst 0, 1) := dk_3 (dk_at dksL_law_76 14 rfl rfl)
theorem dL_law_1915 : decode cL_law 1915 = .ok (.ireturn, 1) := dk_172 (dk_at dksL_law_76 15 rfl rfl)
theorem dL_law_1916 : decode cL_law 1916 = .ok (.iload 5, 2) := dk_21 5 (dk_at dksL_law_76 16 rfl rfl)
theorem dL_law_1918 : decode cL_law 1918 = .ok (.ifCond .ne 15, 3) := dk_154 0 15 (dk_at dksL_law_76 18 rfl rfl)
theorem dL_law_1921 : decode cL_law 1921 = .ok (.aload_n 3, 1) := dk_45 (dk_at dksL_law_76 21 rfl rfl)
theorem dL_law_1922 : decode cL_law 1922 = .ok (.iconst 0, 1) := dk_3 (dk_at dksL_law_76 22 rfl rfl)
theorem dL_law_1923 : decode cL_law 1923 = .ok (.laload, 1) := dk_47 (dk_at dksL_law_76 23 rfl rfl)
theorem dL_law_1924 : decode cL_law 1924 = .ok (.iload 6, 2) := dk_21 6 (dk_at dksL_law_77 0 rfl rfl)
theorem dL_law_1926 : decode cL_law 1926 = .ok (.i2l, 1) := dk_133 (dk_at dksL_law_77 2 rfl rfl)
theorem dL_law_1927 : decode cL_law 1927 = .ok (.lcmp, 1) := dk_148 (dk_at dksL_law_77 3 rfl rfl)
theorem dL_law_1928 : decode cL_law 1928 = .ok (.ifCond .eq 5, 3) := dk_153 0 5 (dk_at dksL_law_77 4 rfl rfl)
theorem dL_law_1931 : decode cL_law 1931 = .ok (.iconst 0, 1) := dk_3 (dk_at dksL_law_77 7 rfl rfl)
theorem dL_law_1932 : decode cL_law 1932 = .ok (.ireturn, 1) := dk_172 (dk_at dksL_law_77 8 rfl rfl)
theorem dL_law_1933 : decode cL_law 1933 = .ok (.goto 198, 3) := dk_167 0 198 (dk_at dksL_law_77 9 rfl rfl)
theorem dL_law_1936 : decode cL_law 1936 = .ok (.aload_n 1, 1) := dk_43 (dk_at dksL_law_77 12 rfl rfl)
theorem dL_law_1937 : decode cL_law 1937 = .ok (.aload_n 3, 1) := dk_45 (dk_at dksL_law_77 13 rfl rfl)
theorem dL_law_1938 : decode cL_law 1938 = .ok (.invokestatic 217, 3) := dk_184 0 217 (dk_at dksL_law_77 14 rfl rfl)
theorem dL_law_1941 : decode cL_law 1941 = .ok (.istore 5, 2) := dk_54 5 (dk_at dksL_law_77 17 rfl rfl)
theorem dL_law_1943 : decode cL_law 1943 = .ok (.aload_n 2, 1) := dk_44 (dk_at dksL_law_77 19 rfl rfl)
theorem dL_law_1944 : decode cL_law 1944 = .ok (.invokevirtual 220, 3) := dk_182 0 220 (dk_at dksL_law_77 20 rfl rfl)
theorem dL_law_1947 : decode cL_law 1947 = .ok (.istore 6, 2) := dk_54 6 (dk_at dksL_law_78 0 rfl rfl)
theorem dL_law_1949 : decode cL_law 1949 = .ok (.aload_n 2, 1) := dk_44 (dk_at dksL_law_78 2 rfl rfl)
theorem dL_law_1950 : decode cL_law 1950 = .ok (.invokevirtual 131, 3) := dk_182 0 131 (dk_at dksL_law_78 3 rfl rfl)
theorem dL_law_1953 : decode cL_law 1953 = .ok (.iload 5, 2) := dk_21 5 (dk_at dksL_law_78 6 rfl rfl)
theorem dL_law_1955 : decode cL_law 1955 = .ok (.if_icmp .eq 5, 3) := dk_159 0 5 (dk_at dksL_law_78 8 rfl rfl)
theorem dL_law_1958 : decode cL_law 1958 = .ok (.iconst 0, 1) := dk_3 (dk_at dksL_law_78 11 rfl rfl)
theorem dL_law_1959 : decode cL_law 1959 = .ok (.ireturn, 1) := dk_172 (dk_at dksL_law_78 12 rfl rfl)
theorem dL_law_1960 : decode cL_law 1960 = .ok (.iload 5, 2) := dk_21 5 (dk_at dksL_law_78 13 rfl rfl)
theorem dL_law_1962 : decode cL_law 1962 = .ok (.ifCond .ne 15, 3) := dk_154 0 15 (dk_at dksL_law_78 15 rfl rfl)
theorem dL_law_1965 : decode cL_law 1965 = .ok (.aload_n 3, 1) := dk_45 (dk_at dksL_law_78 18 rfl rfl)
theorem dL_law_1966 : decode cL_law 1966 = .ok (.iconst 0, 1) := dk_3 (dk_at dksL_law_78 19 rfl rfl)
theorem dL_law_1967 : decode cL_law 1967 = .ok (.laload, 1) := dk_47 (dk_at dksL_law_78 20 rfl rfl)
theorem dL_law_1968 : decode cL_law 1968 = .ok (.iload 6, 2) := dk_21 6 (dk_at dksL_law_78 21 rfl rfl)
theorem dL_law_1970 : decode cL_law 1970 = .ok (.i2l, 1) := dk_133 (dk_at dksL_law_78 23 rfl rfl)
theorem dL_law_1971 : decode cL_law 1971 = .ok (.lcmp, 1) := dk_148 (dk_at dksL_law_79 0 rfl rfl)
theorem dL_law_1972 : decode cL_law 1972 = .ok (.ifCond .eq 5, 3) := dk_153 0 5 (dk_at dksL_law_79 1 rfl rfl)
theorem dL_law_1975 : decode cL_law 1975 = .ok (.iconst 0, 1) := dk_3 (dk_at dksL_law_79 4 rfl rfl)
theorem dL_law_1976 : decode cL_law 1976 = .ok (.ireturn, 1) := dk_172 (dk_at dksL_law_79 5 rfl rfl)
theorem dL_law_1977 : decode cL_law 1977 = .ok (.goto 154, 3) := dk_167 0 154 (dk_at dksL_law_79 6 rfl rfl)
theorem dL_law_1980 : decode cL_law 1980 = .ok (.aload_n 1, 1) := dk_43 (dk_at dksL_law_79 9 rfl rfl)
theorem dL_law_1981 : decode cL_law 1981 = .ok (.invokevirtual 221, 3) := dk_182 0 221 (dk_at dksL_law_79 10 rfl rfl)
theorem dL_law_1984 : decode cL_law 1984 = .ok (.aload_n 2, 1) := dk_44 (dk_at dksL_law_79 13 rfl rfl)
theorem dL_law_1985 : decode cL_law 1985 = .ok (.invokevirtual 224, 3) := dk_182 0 224 (dk_at dksL_law_79 14 rfl rfl)
theorem dL_law_1988 : decode cL_law 1988 = .ok (.if_icmp .eq 143, 3) := dk_159 0 143 (dk_at dksL_law_79 17 rfl rfl)
theorem dL_law_1991 : decode cL_law 1991 = .ok (.iconst 0, 1) := dk_3 (dk_at dksL_law_79 20 rfl rfl)
theorem dL_law_1992 : decode cL_law 1992 = .ok (.ireturn, 1) := dk_172 (dk_at dksL_law_79 21 rfl rfl)
theorem dL_law_1993 : decode cL_law 1993 = .ok (.aload_n 1, 1) := dk_43 (dk_at dksL_law_79 22 rfl rfl)
theorem dL_law_1994 : decode cL_law 1994 = .ok (.aload_n 0, 1) := dk_42 (dk_at dksL_law_79 23 rfl rfl)
theorem dL_law_1995 : decode cL_law 1995 = .ok (.iload 4, 2) := dk_21 4 (dk_at dksL_law_80 0 rfl rfl)
theorem dL_law_1997 : decode cL_law 1997 = .ok (.iconst 1, 1) := dk_4 (dk_at dksL_law_80 2 rfl rfl)
theorem dL_law_1998 : decode cL_law 1998 = .ok (.iadd, 1) := dk_96 (dk_at dksL_law_80 3 rfl rfl)
theorem dL_law_1999 : decode cL_law 1999 = .ok (.iaload, 1) := dk_46 (dk_at dksL_law_80 4 rfl rfl)
theorem dL_law_2000 : decode cL_law 2000 = .ok (.aload_n 3, 1) := dk_45 (dk_at dksL_law_80 5 rfl rfl)
theorem dL_law_2001 : decode cL_law 2001 = .ok (.invokestatic 225, 3) := dk_184 0 225 (dk_at dksL_law_80 6 rfl rfl)
theorem dL_law_2004 : decode cL_law 2004 = .ok (.istore 5, 2) := dk_54 5 (dk_at dksL_law_80 9 rfl rfl)
theorem dL_law_2006 : decode cL_law 2006 = .ok (.aload_n 2, 1) := dk_44 (dk_at dksL_law_80 11 rfl rfl)
theorem dL_law_2007 : decode cL_law 2007 = .ok (.aload_n 0, 1) := dk_42 (dk_at dksL_law_80 12 rfl rfl)
theorem dL_law_2008 : decode cL_law 2008 = .ok (.iload 4, 2) := dk_21 4 (dk_at dksL_law_80 13 rfl rfl)
theorem dL_law_2010 : decode cL_law 2010 = .ok (.iconst 1, 1) := dk_4 (dk_at dksL_law_80 15 rfl rfl)
theorem dL_law_2011 : decode cL_law 2011 = .ok (.iadd, 1) := dk_96 (dk_at dksL_law_80 16 rfl rfl)
theorem dL_law_2012 : decode cL_law 2012 = .ok (.iaload, 1) := dk_46 (dk_at dksL_law_80 17 rfl rfl)
theorem dL_law_2013 : decode cL_law 2013 = .ok (.invokevirtual 227, 3) := dk_182 0 227 (dk_at dksL_law_80 18 rfl rfl)
theorem dL_law_2016 : decode cL_law 2016 = .ok (.istore 6, 2) := dk_54 6 (dk_at dksL_law_80 21 rfl rfl)
theorem dL_law_2018 : decode cL_law 2018 = .ok (.aload_n 2, 1) := dk_44 (dk_at dksL_law_80 23 rfl rfl)
theorem dL_law_2019 : decode cL_law 2019 = .ok (.invokevirtual 131, 3) := dk_182 0 131 (dk_at dksL_law_81 0 rfl rfl)
theorem dL_law_2022 : decode cL_law 2022 = .ok (.iload 5, 2) := dk_21 5 (dk_at dksL_law_81 3 rfl rfl)
theorem dL_law_2024 : decode cL_law 2024 = .ok (.if_icmp .eq 5, 3) := dk_159 0 5 (dk_at dksL_law_81 5 rfl rfl)
theorem dL_law_2027 : decode cL_law 2027 = .ok (.iconst 0, 1) := dk_3 (dk_at dksL_law_81 8 rfl rfl)
theorem dL_law_2028 : decode cL_law 2028 = .ok (.ireturn, 1) := dk_172 (dk_at dksL_law_81 9 rfl rfl)
theorem dL_law_2029 : decode cL_law 2029 = .ok (.iload 5, 2) := dk_21 5 (dk_at dksL_law_81 10 rfl rfl)
theorem dL_law_2031 : decode cL_law 2031 = .ok (.ifCond .ne 15, 3) := dk_154 0 15 (dk_at dksL_law_81 12 rfl rfl)
theorem dL_law_2034 : decode cL_law 2034 = .ok (.aload_n 3, 1) := dk_45 (dk_at dksL_law_81 15 rfl rfl)
theorem dL_law_2035 : decode cL_law 2035 = .ok (.iconst 0, 1) := dk_3 (dk_at dksL_law_81 16 rfl rfl)
theorem dL_law_2036 : decode cL_law 2036 = .ok (.laload, 1) := dk_47 (dk_at dksL_law_81 17 rfl rfl)
theorem dL_law_2037 : decode cL_law 2037 = .ok (.iload 6, 2) := dk_21 6 (dk_at dksL_law_81 18 rfl rfl)
theorem dL_law_2039 : decode cL_law 2039 = .ok (.i2l, 1) := dk_133 (dk_at dksL_law_81 20 rfl rfl)
theorem dL_law_2040 : decode cL_law 2040 = .ok (.lcmp, 1) := dk_148 (dk_at dksL_law_81 21 rfl rfl)
theorem dL_law_2041 : decode cL_law 2041 = .ok (.ifCond .eq 5, 3) := dk_153 0 5 (dk_at dksL_law_82 0 rfl rfl)
theorem dL_law_2044 : decode cL_law 2044 = .ok (.iconst 0, 1) := dk_3 (dk_at dksL_law_82 3 rfl rfl)
theorem dL_law_2045 : decode cL_law 2045 = .ok (.ireturn, 1) := dk_172 (dk_at dksL_law_82 4 rfl rfl)
theorem dL_law_2046 : decode cL_law 2046 = .ok (.goto 85, 3) := dk_167 0 85 (dk_at dksL_law_82 5 rfl rfl)
theorem dL_law_2049 : decode cL_law 2049 = .ok (.aload_n 1, 1) := dk_43 (dk_at dksL_law_82 8 rfl rfl)
theorem dL_law_2050 : decode cL_law 2050 = .ok (.aload_n 0, 1) := dk_42 (dk_at dksL_law_82 9 rfl rfl)
theorem dL_law_2051 : decode cL_law 2051 = .ok (.iload 4, 2) := dk_21 4 (dk_at dksL_law_82 10 rfl rfl)
theorem dL_law_2053 : decode cL_law 2053 = .ok (.iconst 1, 1) := dk_4 (dk_at dksL_law_82 12 rfl rfl)
theorem dL_law_2054 : decode cL_law 2054 = .ok (.iadd, 1) := dk_96 (dk_at dksL_law_82 13 rfl rfl)
theorem dL_law_2055 : decode cL_law 2055 = .ok (.iaload, 1) := dk_46 (dk_at dksL_law_82 14 rfl rfl)
theorem dL_law_2056 : decode cL_law 2056 = .ok (.invokevirtual 228, 3) := dk_182 0 228 (dk_at dksL_law_82 15 rfl rfl)
theorem dL_law_2059 : decode cL_law 2059 = .ok (.aload_n 2, 1) := dk_44 (dk_at dksL_law_82 18 rfl rfl)
theorem dL_law_2060 : decode cL_law 2060 = .ok (.aload_n 0, 1) := dk_42 (dk_at dksL_law_82 19 rfl rfl)
theorem dL_law_2061 : decode cL_law 2061 = .ok (.iload 4, 2) := dk_21 4 (dk_at dksL_law_82 20 rfl rfl)
theorem dL_law_2063 : decode cL_law 2063 = .ok (.iconst 1, 1) := dk_4 (dk_at dksL_law_82 22 rfl rfl)
theorem dL_law_2064 : decode cL_law 2064 = .ok (.iadd, 1) := dk_96 (dk_at dksL_law_82 23 rfl rfl)
theorem dL_law_2065 : decode cL_law 2065 = .ok (.iaload, 1) := dk_46 (dk_at dksL_law_83 0 rfl rfl)
theorem dL_law_2066 : decode cL_law 2066 = .ok (.invokevirtual 231, 3) := dk_182 0 231 (dk_at dksL_law_83 1 rfl rfl)
theorem dL_law_2069 : decode cL_law 2069 = .ok (.if_icmp .eq 62, 3) := dk_159 0 62 (dk_at dksL_law_83 4 rfl rfl)
theorem dL_law_2072 : decode cL_law 2072 = .ok (.iconst 0, 1) := dk_3 (dk_at dksL_law_83 7 rfl rfl)
theorem dL_law_2073 : decode cL_law 2073 = .ok (.ireturn, 1) := dk_172 (dk_at dksL_law_83 8 rfl rfl)
theorem dL_law_2074 : decode cL_law 2074 = .ok (.aload_n 1, 1) := dk_43 (dk_at dksL_law_83 9 rfl rfl)
theorem dL_law_2075 : decode cL_law 2075 = .ok (.invokevirtual 232, 3) := dk_182 0 232 (dk_at dksL_law_83 10 rfl rfl)
theorem dL_law_2078 : decode cL_law 2078 = .ok (.aload_n 2, 1) := dk_44 (dk_at dksL_law_83 13 rfl rfl)
theorem dL_law_2079 : decode cL_law 2079 = .ok (.invokevirtual 235, 3) := dk_182 0 235 (dk_at dksL_law_83 14 rfl rfl)
theorem dL_law_2082 : decode cL_law 2082 = .ok (.if_icmp .eq 49, 3) := dk_159 0 49 (dk_at dksL_law_83 17 rfl rfl)
theorem dL_law_2085 : decode cL_law 2085 = .ok (.iconst 0, 1) := dk_3 (dk_at dksL_law_83 20 rfl rfl)
theorem dL_law_2086 : decode cL_law 2086 = .ok (.ireturn, 1) := dk_172 (dk_at dksL_law_83 21 rfl rfl)
theorem dL_law_2087 : decode cL_law 2087 = .ok (.aload_n 1, 1) := dk_43 (dk_at dksL_law_83 22 rfl rfl)
theorem dL_law_2088 : decode cL_law 2088 = .ok (.aload_n 3, 1) := dk_45 (dk_at dksL_law_83 23 rfl rfl)
theorem dL_law_2089 : decode cL_law 2089 = .ok (.invokestatic 236, 3) := dk_184 0 236 (dk_at dksL_law_84 0 rfl rfl)
theorem dL_law_2092 : decode cL_law 2092 = .ok (.istore 5, 2) := dk_54 5 (dk_at dksL_law_84 3 rfl rfl)
theorem dL_law_2094 : decode cL_law 2094 = .ok (.aload_n 2, 1) := dk_44 (dk_at dksL_law_84 5 rfl rfl)
theorem dL_law_2095 : decode cL_law 2095 = .ok (.invokevirtual 238, 3) := dk_182 0 238 (dk_at dksL_law_84 6 rfl rfl)
theorem dL_law_2098 : decode cL_law 2098 = .ok (.istore 6, 2) := dk_54 6 (dk_at dksL_law_84 9 rfl rfl)
theorem dL_law_2100 : decode cL_law 2100 = .ok (.aload_n 2, 1) := dk_44 (dk_at dksL_law_84 11 rfl rfl)
theorem dL_law_2101 : decode cL_law 2101 = .ok (.invokevirtual 131, 3) := dk_182 0 131 (dk_at dksL_law_84 12 rfl rfl)
theorem dL_law_2104 : decode cL_law 2104 = .ok (.iload 5, 2) := dk_21 5 (dk_at dksL_law_84 15 rfl rfl)
theorem dL_law_2106 : decode cL_law 2106 = .ok (.if_icmp .eq 5, 3) := dk_159 0 5 (dk_at dksL_law_84 17 rfl rfl)
theorem dL_law_2109 : decode cL_law 2109 = .ok (.iconst 0, 1) := dk_3 (dk_at dksL_law_84 20 rfl rfl)
theorem dL_law_2110 : decode cL_law 2110 = .ok (.ireturn, 1) := dk_172 (dk_at dksL_law_84 21 rfl rfl)
theorem dL_law_2111 : decode cL_law 2111 = .ok (.iload 5, 2) := dk_21 5 (dk_at dksL_law_84 22 rfl rfl)
theorem dL_law_2113 : decode cL_law 2113 = .ok (.ifCond .ne 15, 3) := dk_154 0 15 (dk_at dksL_law_85 0 rfl rfl)
theorem dL_law_2116 : decode cL_law 2116 = .ok (.aload_n 3, 1) := dk_45 (dk_at dksL_law_85 3 rfl rfl)
theorem dL_law_2117 : decode cL_law 2117 = .ok (.iconst 0, 1) := dk_3 (dk_at dksL_law_85 4 rfl rfl)
theorem dL_law_2118 : decode cL_law 2118 = .ok (.laload, 1) := dk_47 (dk_at dksL_law_85 5 rfl rfl)
theorem dL_law_2119 : decode cL_law 2119 = .ok (.iload 6, 2) := dk_21 6 (dk_at dksL_law_85 6 rfl rfl)
theorem dL_law_2121 : decode cL_law 2121 = .ok (.i2l, 1) := dk_133 (dk_at dksL_law_85 8 rfl rfl)
theorem dL_law_2122 : decode cL_law 2122 = .ok (.lcmp, 1) := dk_148 (dk_at dksL_law_85 9 rfl rfl)
theorem dL_law_2123 : decode cL_law 2123 = .ok (.ifCond .eq 5, 3) := dk_153 0 5 (dk_at dksL_law_85 10 rfl rfl)
theorem dL_law_2126 : decode cL_law 2126 = .ok (.iconst 0, 1) := dk_3 (dk_at dksL_law_85 13 rfl rfl)
theorem dL_law_2127 : decode cL_law 2127 = .ok (.ireturn, 1) := dk_172 (dk_at dksL_law_85 14 rfl rfl)
theorem dL_law_2128 : decode cL_law 2128 = .ok (.goto 3, 3) := dk_167 0 3 (dk_at dksL_law_85 15 rfl rfl)
theorem dL_law_2131 : decode cL_law 2131 = .ok (.iinc 4 6, 3) := dk_132 4 6 (dk_at dksL_law_85 18 rfl rfl)
theorem dL_law_2134 : decode cL_law 2134 = .ok (.goto (-2111), 3) := dk_167 247 193 (dk_at dksL_law_85 21 rfl rfl)
theorem dL_law_2137 : decode cL_law 2137 = .ok (.iconst 1, 1) := dk_4 (dk_at dksL_law_86 0 rfl rfl)
theorem dL_law_2138 : decode cL_law 2138 = .ok (.ireturn, 1) := dk_172 (dk_at dksL_law_86 1 rfl rfl)

def RX0 : String := "WhistlePostsLaw"
abbrev cX0_count : ByteArray := method_3_code
def yX0_count : MethodName := ⟨RX0, "count", "(LWhistlePosts;I[J)I"⟩
def dkwX0_count_0 : List UInt8 := [44, 3, 42, 27, 182, 0, 7, 133, 80, 167, 0, 6, 78, 4, 172, 3, 172]
abbrev dktX0_count_0 : List UInt8 := dkwX0_count_0 ++ []
theorem dksX0_count_0 : cX0_count.data.toList.drop 0 = dktX0_count_0 := by decide +kernel
theorem dX0_count_0 : decode cX0_count 0 = .ok (.aload_n 2, 1) := dk_44 (dk_at dksX0_count_0 0 rfl rfl)
theorem dX0_count_1 : decode cX0_count 1 = .ok (.iconst 0, 1) := dk_3 (dk_at dksX0_count_0 1 rfl rfl)
theorem dX0_count_2 : decode cX0_count 2 = .ok (.aload_n 0, 1) := dk_42 (dk_at dksX0_count_0 2 rfl rfl)
theorem dX0_count_3 : decode cX0_count 3 = .ok (.iload_n 1, 1) := dk_27 (dk_at dksX0_count_0 3 rfl rfl)
theorem dX0_count_4 : decode cX0_count 4 = .ok (.invokevirtual 7, 3) := dk_182 0 7 (dk_at dksX0_count_0 4 rfl rfl)
theorem dX0_count_7 : decode cX0_count 7 = .ok (.i2l, 1) := dk_133 (dk_at dksX0_count_0 7 rfl rfl)
theorem dX0_count_8 : decode cX0_count 8 = .ok (.lastore, 1) := dk_80 (dk_at dksX0_count_0 8 rfl rfl)
theorem dX0_count_9 : decode cX0_count 9 = .ok (.goto 6, 3) := dk_167 0 6 (dk_at dksX0_count_0 9 rfl rfl)
theorem dX0_count_12 : decode cX0_count 12 = .ok (.astore_n 3, 1) := dk_78 (dk_at dksX0_count_0 12 rfl rfl)
theorem dX0_count_13 : decode cX0_count 13 = .ok (.iconst 1, 1) := dk_4 (dk_at dksX0_count_0 13 rfl rfl)
theorem dX0_count_14 : decode cX0_count 14 = .ok (.ireturn, 1) := dk_172 (dk_at dksX0_count_0 14 rfl rfl)
theorem dX0_count_15 : decode cX0_count 15 = .ok (.iconst 0, 1) := dk_3 (dk_at dksX0_count_0 15 rfl rfl)
theorem dX0_count_16 : decode cX0_count 16 = .ok (.ireturn, 1) := dk_172 (dk_at dksX0_count_0 16 rfl rfl)
abbrev cX0_account : ByteArray := method_4_code
def yX0_account : MethodName := ⟨RX0, "account", "(LWhistlePosts;I[J)I"⟩
def dkwX0_account_0 : List UInt8 := [44, 3, 42, 27, 182, 0, 15, 133, 80, 167, 0, 6, 78, 4, 172, 3, 172]
abbrev dktX0_account_0 : List UInt8 := dkwX0_account_0 ++ []
theorem dksX0_account_0 : cX0_account.data.toList.drop 0 = dktX0_account_0 := by decide +kernel
theorem dX0_account_0 : decode cX0_account 0 = .ok (.aload_n 2, 1) := dk_44 (dk_at dksX0_account_0 0 rfl rfl)
theorem dX0_account_1 : decode cX0_account 1 = .ok (.iconst 0, 1) := dk_3 (dk_at dksX0_account_0 1 rfl rfl)
theorem dX0_account_2 : decode cX0_account 2 = .ok (.aload_n 0, 1) := dk_42 (dk_at dksX0_account_0 2 rfl rfl)
theorem dX0_account_3 : decode cX0_account 3 = .ok (.iload_n 1, 1) := dk_27 (dk_at dksX0_account_0 3 rfl rfl)
theorem dX0_account_4 : decode cX0_account 4 = .ok (.invokevirtual 15, 3) := dk_182 0 15 (dk_at dksX0_account_0 4 rfl rfl)
theorem dX0_account_7 : decode cX0_account 7 = .ok (.i2l, 1) := dk_133 (dk_at dksX0_account_0 7 rfl rfl)
theorem dX0_account_8 : decode cX0_account 8 = .ok (.lastore, 1) := dk_80 (dk_at dksX0_account_0 8 rfl rfl)
theorem dX0_account_9 : decode cX0_account 9 = .ok (.goto 6, 3) := dk_167 0 6 (dk_at dksX0_account_0 9 rfl rfl)
theorem dX0_account_12 : decode cX0_account 12 = .ok (.astore_n 3, 1) := dk_78 (dk_at dksX0_account_0 12 rfl rfl)
theorem dX0_account_13 : decode cX0_account 13 = .ok (.iconst 1, 1) := dk_4 (dk_at dksX0_account_0 13 rfl rfl)
theorem dX0_account_14 : decode cX0_account 14 = .ok (.ireturn, 1) := dk_172 (dk_at dksX0_account_0 14 rfl rfl)
theorem dX0_account_15 : decode cX0_account 15 = .ok (.iconst 0, 1) := dk_3 (dk_at dksX0_account_0 15 rfl rfl)
theorem dX0_account_16 : decode cX0_account 16 = .ok (.ireturn, 1) := dk_172 (dk_at dksX0_account_0 16 rfl rfl)
abbrev cX0_nameByte : ByteArray := method_5_code
def yX0_nameByte : MethodName := ⟨RX0, "nameByte", "(LWhistlePosts;II[J)I"⟩
def dkwX0_nameByte_0 : List UInt8 := [45, 3, 42, 27, 28, 182, 0, 18, 133, 80, 167, 0, 7, 58, 4, 4, 172, 3, 172]
abbrev dktX0_nameByte_0 : List UInt8 := dkwX0_nameByte_0 ++ []
theorem dksX0_nameByte_0 : cX0_nameByte.data.toList.drop 0 = dktX0_nameByte_0 := by decide +kernel
theorem dX0_nameByte_0 : decode cX0_nameByte 0 = .ok (.aload_n 3, 1) := dk_45 (dk_at dksX0_nameByte_0 0 rfl rfl)
theorem dX0_nameByte_1 : decode cX0_nameByte 1 = .ok (.iconst 0, 1) := dk_3 (dk_at dksX0_nameByte_0 1 rfl rfl)
theorem dX0_nameByte_2 : decode cX0_nameByte 2 = .ok (.aload_n 0, 1) := dk_42 (dk_at dksX0_nameByte_0 2 rfl rfl)
theorem dX0_nameByte_3 : decode cX0_nameByte 3 = .ok (.iload_n 1, 1) := dk_27 (dk_at dksX0_nameByte_0 3 rfl rfl)
theorem dX0_nameByte_4 : decode cX0_nameByte 4 = .ok (.iload_n 2, 1) := dk_28 (dk_at dksX0_nameByte_0 4 rfl rfl)
theorem dX0_nameByte_5 : decode cX0_nameByte 5 = .ok (.invokevirtual 18, 3) := dk_182 0 18 (dk_at dksX0_nameByte_0 5 rfl rfl)
theorem dX0_nameByte_8 : decode cX0_nameByte 8 = .ok (.i2l, 1) := dk_133 (dk_at dksX0_nameByte_0 8 rfl rfl)
theorem dX0_nameByte_9 : decode cX0_nameByte 9 = .ok (.lastore, 1) := dk_80 (dk_at dksX0_nameByte_0 9 rfl rfl)
theorem dX0_nameByte_10 : decode cX0_nameByte 10 = .ok (.goto 7, 3) := dk_167 0 7 (dk_at dksX0_nameByte_0 10 rfl rfl)
theorem dX0_nameByte_13 : decode cX0_nameByte 13 = .ok (.astore 4, 2) := dk_58 4 (dk_at dksX0_nameByte_0 13 rfl rfl)
theorem dX0_nameByte_15 : decode cX0_nameByte 15 = .ok (.iconst 1, 1) := dk_4 (dk_at dksX0_nameByte_0 15 rfl rfl)
theorem dX0_nameByte_16 : decode cX0_nameByte 16 = .ok (.ireturn, 1) := dk_172 (dk_at dksX0_nameByte_0 16 rfl rfl)
theorem dX0_nameByte_17 : decode cX0_nameByte 17 = .ok (.iconst 0, 1) := dk_3 (dk_at dksX0_nameByte_0 17 rfl rfl)
theorem dX0_nameByte_18 : decode cX0_nameByte 18 = .ok (.ireturn, 1) := dk_172 (dk_at dksX0_nameByte_0 18 rfl rfl)
abbrev cX0_roof : ByteArray := method_6_code
def yX0_roof : MethodName := ⟨RX0, "roof", "(LWhistlePosts;II[J)I"⟩
def dkwX0_roof_0 : List UInt8 := [45, 3, 42, 27, 28, 182, 0, 24, 133, 80, 167, 0, 11, 58, 4, 4, 172, 58, 4, 5, 172, 3, 172]
abbrev dktX0_roof_0 : List UInt8 := dkwX0_roof_0 ++ []
theorem dksX0_roof_0 : cX0_roof.data.toList.drop 0 = dktX0_roof_0 := by decide +kernel
theorem dX0_roof_0 : decode cX0_roof 0 = .ok (.aload_n 3, 1) := dk_45 (dk_at dksX0_roof_0 0 rfl rfl)
theorem dX0_roof_1 : decode cX0_roof 1 = .ok (.iconst 0, 1) := dk_3 (dk_at dksX0_roof_0 1 rfl rfl)
theorem dX0_roof_2 : decode cX0_roof 2 = .ok (.aload_n 0, 1) := dk_42 (dk_at dksX0_roof_0 2 rfl rfl)
theorem dX0_roof_3 : decode cX0_roof 3 = .ok (.iload_n 1, 1) := dk_27 (dk_at dksX0_roof_0 3 rfl rfl)
theorem dX0_roof_4 : decode cX0_roof 4 = .ok (.iload_n 2, 1) := dk_28 (dk_at dksX0_roof_0 4 rfl rfl)
theorem dX0_roof_5 : decode cX0_roof 5 = .ok (.invokevirtual 24, 3) := dk_182 0 24 (dk_at dksX0_roof_0 5 rfl rfl)
theorem dX0_roof_8 : decode cX0_roof 8 = .ok (.i2l, 1) := dk_133 (dk_at dksX0_roof_0 8 rfl rfl)
theorem dX0_roof_9 : decode cX0_roof 9 = .ok (.lastore, 1) := dk_80 (dk_at dksX0_roof_0 9 rfl rfl)
theorem dX0_roof_10 : decode cX0_roof 10 = .ok (.goto 11, 3) := dk_167 0 11 (dk_at dksX0_roof_0 10 rfl rfl)
theorem dX0_roof_13 : decode cX0_roof 13 = .ok (.astore 4, 2) := dk_58 4 (dk_at dksX0_roof_0 13 rfl rfl)
theorem dX0_roof_15 : decode cX0_roof 15 = .ok (.iconst 1, 1) := dk_4 (dk_at dksX0_roof_0 15 rfl rfl)
theorem dX0_roof_16 : decode cX0_roof 16 = .ok (.ireturn, 1) := dk_172 (dk_at dksX0_roof_0 16 rfl rfl)
theorem dX0_roof_17 : decode cX0_roof 17 = .ok (.astore 4, 2) := dk_58 4 (dk_at dksX0_roof_0 17 rfl rfl)
theorem dX0_roof_19 : decode cX0_roof 19 = .ok (.iconst 2, 1) := dk_5 (dk_at dksX0_roof_0 19 rfl rfl)
theorem dX0_roof_20 : decode cX0_roof 20 = .ok (.ireturn, 1) := dk_172 (dk_at dksX0_roof_0 20 rfl rfl)
theorem dX0_roof_21 : decode cX0_roof 21 = .ok (.iconst 0, 1) := dk_3 (dk_at dksX0_roof_0 21 rfl rfl)
theorem dX0_roof_22 : decode cX0_roof 22 = .ok (.ireturn, 1) := dk_172 (dk_at dksX0_roof_0 22 rfl rfl)
abbrev cX0_way : ByteArray := method_7_code
def yX0_way : MethodName := ⟨RX0, "way", "(LWhistlePosts;II[J)I"⟩
def dkwX0_way_0 : List UInt8 := [45, 3, 42, 27, 28, 182, 0, 27, 133, 80, 167, 0, 11, 58, 4, 4, 172, 58, 4, 5, 172, 3, 172]
abbrev dktX0_way_0 : List UInt8 := dkwX0_way_0 ++ []
theorem dksX0_way_0 : cX0_way.data.toList.drop 0 = dktX0_way_0 := by decide +kernel
theorem dX0_way_0 : decode cX0_way 0 = .ok (.aload_n 3, 1) := dk_45 (dk_at dksX0_way_0 0 rfl rfl)
theorem dX0_way_1 : decode cX0_way 1 = .ok (.iconst 0, 1) := dk_3 (dk_at dksX0_way_0 1 rfl rfl)
theorem dX0_way_2 : decode cX0_way 2 = .ok (.aload_n 0, 1) := dk_42 (dk_at dksX0_way_0 2 rfl rfl)
theorem dX0_way_3 : decode cX0_way 3 = .ok (.iload_n 1, 1) := dk_27 (dk_at dksX0_way_0 3 rfl rfl)
theorem dX0_way_4 : decode cX0_way 4 = .ok (.iload_n 2, 1) := dk_28 (dk_at dksX0_way_0 4 rfl rfl)
theorem dX0_way_5 : decode cX0_way 5 = .ok (.invokevirtual 27, 3) := dk_182 0 27 (dk_at dksX0_way_0 5 rfl rfl)
theorem dX0_way_8 : decode cX0_way 8 = .ok (.i2l, 1) := dk_133 (dk_at dksX0_way_0 8 rfl rfl)
theorem dX0_way_9 : decode cX0_way 9 = .ok (.lastore, 1) := dk_80 (dk_at dksX0_way_0 9 rfl rfl)
theorem dX0_way_10 : decode cX0_way 10 = .ok (.goto 11, 3) := dk_167 0 11 (dk_at dksX0_way_0 10 rfl rfl)
theorem dX0_way_13 : decode cX0_way 13 = .ok (.astore 4, 2) := dk_58 4 (dk_at dksX0_way_0 13 rfl rfl)
theorem dX0_way_15 : decode cX0_way 15 = .ok (.iconst 1, 1) := dk_4 (dk_at dksX0_way_0 15 rfl rfl)
theorem dX0_way_16 : decode cX0_way 16 = .ok (.ireturn, 1) := dk_172 (dk_at dksX0_way_0 16 rfl rfl)
theorem dX0_way_17 : decode cX0_way 17 = .ok (.astore 4, 2) := dk_58 4 (dk_at dksX0_way_0 17 rfl rfl)
theorem dX0_way_19 : decode cX0_way 19 = .ok (.iconst 2, 1) := dk_5 (dk_at dksX0_way_0 19 rfl rfl)
theorem dX0_way_20 : decode cX0_way 20 = .ok (.ireturn, 1) := dk_172 (dk_at dksX0_way_0 20 rfl rfl)
theorem dX0_way_21 : decode cX0_way 21 = .ok (.iconst 0, 1) := dk_3 (dk_at dksX0_way_0 21 rfl rfl)
theorem dX0_way_22 : decode cX0_way 22 = .ok (.ireturn, 1) := dk_172 (dk_at dksX0_way_0 22 rfl rfl)
abbrev cX0_route : ByteArray := method_8_code
def yX0_route : MethodName := ⟨RX0, "route", "(LWhistlePosts;II[J)I"⟩
def dkwX0_route_0 : List UInt8 := [45, 3, 42, 27, 28, 182, 0, 30, 133, 80, 167, 0, 7, 58, 4, 4, 172, 3, 172]
abbrev dktX0_route_0 : List UInt8 := dkwX0_route_0 ++ []
theorem dksX0_route_0 : cX0_route.data.toList.drop 0 = dktX0_route_0 := by decide +kernel
theorem dX0_route_0 : decode cX0_route 0 = .ok (.aload_n 3, 1) := dk_45 (dk_at dksX0_route_0 0 rfl rfl)
theorem dX0_route_1 : decode cX0_route 1 = .ok (.iconst 0, 1) := dk_3 (dk_at dksX0_route_0 1 rfl rfl)
theorem dX0_route_2 : decode cX0_route 2 = .ok (.aload_n 0, 1) := dk_42 (dk_at dksX0_route_0 2 rfl rfl)
theorem dX0_route_3 : decode cX0_route 3 = .ok (.iload_n 1, 1) := dk_27 (dk_at dksX0_route_0 3 rfl rfl)
theorem dX0_route_4 : decode cX0_route 4 = .ok (.iload_n 2, 1) := dk_28 (dk_at dksX0_route_0 4 rfl rfl)
theorem dX0_route_5 : decode cX0_route 5 = .ok (.invokevirtual 30, 3) := dk_182 0 30 (dk_at dksX0_route_0 5 rfl rfl)
theorem dX0_route_8 : decode cX0_route 8 = .ok (.i2l, 1) := dk_133 (dk_at dksX0_route_0 8 rfl rfl)
theorem dX0_route_9 : decode cX0_route 9 = .ok (.lastore, 1) := dk_80 (dk_at dksX0_route_0 9 rfl rfl)
theorem dX0_route_10 : decode cX0_route 10 = .ok (.goto 7, 3) := dk_167 0 7 (dk_at dksX0_route_0 10 rfl rfl)
theorem dX0_route_13 : decode cX0_route 13 = .ok (.astore 4, 2) := dk_58 4 (dk_at dksX0_route_0 13 rfl rfl)
theorem dX0_route_15 : decode cX0_route 15 = .ok (.iconst 1, 1) := dk_4 (dk_at dksX0_route_0 15 rfl rfl)
theorem dX0_route_16 : decode cX0_route 16 = .ok (.ireturn, 1) := dk_172 (dk_at dksX0_route_0 16 rfl rfl)
theorem dX0_route_17 : decode cX0_route 17 = .ok (.iconst 0, 1) := dk_3 (dk_at dksX0_route_0 17 rfl rfl)
theorem dX0_route_18 : decode cX0_route 18 = .ok (.ireturn, 1) := dk_172 (dk_at dksX0_route_0 18 rfl rfl)
abbrev cX0_next : ByteArray := method_9_code
def yX0_next : MethodName := ⟨RX0, "next", "(LWhistlePosts;II[J)I"⟩
def dkwX0_next_0 : List UInt8 := [45, 3, 42, 27, 28, 182, 0, 33, 133, 80, 167, 0, 7, 58, 4, 4, 172, 3, 172]
abbrev dktX0_next_0 : List UInt8 := dkwX0_next_0 ++ []
theorem dksX0_next_0 : cX0_next.data.toList.drop 0 = dktX0_next_0 := by decide +kernel
theorem dX0_next_0 : decode cX0_next 0 = .ok (.aload_n 3, 1) := dk_45 (dk_at dksX0_next_0 0 rfl rfl)
theorem dX0_next_1 : decode cX0_next 1 = .ok (.iconst 0, 1) := dk_3 (dk_at dksX0_next_0 1 rfl rfl)
theorem dX0_next_2 : decode cX0_next 2 = .ok (.aload_n 0, 1) := dk_42 (dk_at dksX0_next_0 2 rfl rfl)
theorem dX0_next_3 : decode cX0_next 3 = .ok (.iload_n 1, 1) := dk_27 (dk_at dksX0_next_0 3 rfl rfl)
theorem dX0_next_4 : decode cX0_next 4 = .ok (.iload_n 2, 1) := dk_28 (dk_at dksX0_next_0 4 rfl rfl)
theorem dX0_next_5 : decode cX0_next 5 = .ok (.invokevirtual 33, 3) := dk_182 0 33 (dk_at dksX0_next_0 5 rfl rfl)
theorem dX0_next_8 : decode cX0_next 8 = .ok (.i2l, 1) := dk_133 (dk_at dksX0_next_0 8 rfl rfl)
theorem dX0_next_9 : decode cX0_next 9 = .ok (.lastore, 1) := dk_80 (dk_at dksX0_next_0 9 rfl rfl)
theorem dX0_next_10 : decode cX0_next 10 = .ok (.goto 7, 3) := dk_167 0 7 (dk_at dksX0_next_0 10 rfl rfl)
theorem dX0_next_13 : decode cX0_next 13 = .ok (.astore 4, 2) := dk_58 4 (dk_at dksX0_next_0 13 rfl rfl)
theorem dX0_next_15 : decode cX0_next 15 = .ok (.iconst 1, 1) := dk_4 (dk_at dksX0_next_0 15 rfl rfl)
theorem dX0_next_16 : decode cX0_next 16 = .ok (.ireturn, 1) := dk_172 (dk_at dksX0_next_0 16 rfl rfl)
theorem dX0_next_17 : decode cX0_next 17 = .ok (.iconst 0, 1) := dk_3 (dk_at dksX0_next_0 17 rfl rfl)
theorem dX0_next_18 : decode cX0_next 18 = .ok (.ireturn, 1) := dk_172 (dk_at dksX0_next_0 18 rfl rfl)
abbrev cX0_tune : ByteArray := method_10_code
def yX0_tune : MethodName := ⟨RX0, "tune", "(LWhistlePosts;II[J)I"⟩
def dkwX0_tune_0 : List UInt8 := [45, 3, 42, 27, 28, 182, 0, 36, 133, 80, 167, 0, 11, 58, 4, 4, 172, 58, 4, 5, 172, 3, 172]
abbrev dktX0_tune_0 : List UInt8 := dkwX0_tune_0 ++ []
theorem dksX0_tune_0 : cX0_tune.data.toList.drop 0 = dktX0_tune_0 := by decide +kernel
theorem dX0_tune_0 : decode cX0_tune 0 = .ok (.aload_n 3, 1) := dk_45 (dk_at dksX0_tune_0 0 rfl rfl)
theorem dX0_tune_1 : decode cX0_tune 1 = .ok (.iconst 0, 1) := dk_3 (dk_at dksX0_tune_0 1 rfl rfl)
theorem dX0_tune_2 : decode cX0_tune 2 = .ok (.aload_n 0, 1) := dk_42 (dk_at dksX0_tune_0 2 rfl rfl)
theorem dX0_tune_3 : decode cX0_tune 3 = .ok (.iload_n 1, 1) := dk_27 (dk_at dksX0_tune_0 3 rfl rfl)
theorem dX0_tune_4 : decode cX0_tune 4 = .ok (.iload_n 2, 1) := dk_28 (dk_at dksX0_tune_0 4 rfl rfl)
theorem dX0_tune_5 : decode cX0_tune 5 = .ok (.invokevirtual 36, 3) := dk_182 0 36 (dk_at dksX0_tune_0 5 rfl rfl)
theorem dX0_tune_8 : decode cX0_tune 8 = .ok (.i2l, 1) := dk_133 (dk_at dksX0_tune_0 8 rfl rfl)
theorem dX0_tune_9 : decode cX0_tune 9 = .ok (.lastore, 1) := dk_80 (dk_at dksX0_tune_0 9 rfl rfl)
theorem dX0_tune_10 : decode cX0_tune 10 = .ok (.goto 11, 3) := dk_167 0 11 (dk_at dksX0_tune_0 10 rfl rfl)
theorem dX0_tune_13 : decode cX0_tune 13 = .ok (.astore 4, 2) := dk_58 4 (dk_at dksX0_tune_0 13 rfl rfl)
theorem dX0_tune_15 : decode cX0_tune 15 = .ok (.iconst 1, 1) := dk_4 (dk_at dksX0_tune_0 15 rfl rfl)
theorem dX0_tune_16 : decode cX0_tune 16 = .ok (.ireturn, 1) := dk_172 (dk_at dksX0_tune_0 16 rfl rfl)
theorem dX0_tune_17 : decode cX0_tune 17 = .ok (.astore 4, 2) := dk_58 4 (dk_at dksX0_tune_0 17 rfl rfl)
theorem dX0_tune_19 : decode cX0_tune 19 = .ok (.iconst 2, 1) := dk_5 (dk_at dksX0_tune_0 19 rfl rfl)
theorem dX0_tune_20 : decode cX0_tune 20 = .ok (.ireturn, 1) := dk_172 (dk_at dksX0_tune_0 20 rfl rfl)
theorem dX0_tune_21 : decode cX0_tune 21 = .ok (.iconst 0, 1) := dk_3 (dk_at dksX0_tune_0 21 rfl rfl)
theorem dX0_tune_22 : decode cX0_tune 22 = .ok (.ireturn, 1) := dk_172 (dk_at dksX0_tune_0 22 rfl rfl)
abbrev cX0_note : ByteArray := method_11_code
def yX0_note : MethodName := ⟨RX0, "note", "(LWhistlePosts;IIZ[J)I"⟩
def dkwX0_note_0 : List UInt8 := [25, 4, 3, 42, 27, 28, 29, 182, 0, 39, 133, 80, 167, 0, 7, 58, 5, 4, 172, 3, 172]
abbrev dktX0_note_0 : List UInt8 := dkwX0_note_0 ++ []
theorem dksX0_note_0 : cX0_note.data.toList.drop 0 = dktX0_note_0 := by decide +kernel
theorem dX0_note_0 : decode cX0_note 0 = .ok (.aload 4, 2) := dk_25 4 (dk_at dksX0_note_0 0 rfl rfl)
theorem dX0_note_2 : decode cX0_note 2 = .ok (.iconst 0, 1) := dk_3 (dk_at dksX0_note_0 2 rfl rfl)
theorem dX0_note_3 : decode cX0_note 3 = .ok (.aload_n 0, 1) := dk_42 (dk_at dksX0_note_0 3 rfl rfl)
theorem dX0_note_4 : decode cX0_note 4 = .ok (.iload_n 1, 1) := dk_27 (dk_at dksX0_note_0 4 rfl rfl)
theorem dX0_note_5 : decode cX0_note 5 = .ok (.iload_n 2, 1) := dk_28 (dk_at dksX0_note_0 5 rfl rfl)
theorem dX0_note_6 : decode cX0_note 6 = .ok (.iload_n 3, 1) := dk_29 (dk_at dksX0_note_0 6 rfl rfl)
theorem dX0_note_7 : decode cX0_note 7 = .ok (.invokevirtual 39, 3) := dk_182 0 39 (dk_at dksX0_note_0 7 rfl rfl)
theorem dX0_note_10 : decode cX0_note 10 = .ok (.i2l, 1) := dk_133 (dk_at dksX0_note_0 10 rfl rfl)
theorem dX0_note_11 : decode cX0_note 11 = .ok (.lastore, 1) := dk_80 (dk_at dksX0_note_0 11 rfl rfl)
theorem dX0_note_12 : decode cX0_note 12 = .ok (.goto 7, 3) := dk_167 0 7 (dk_at dksX0_note_0 12 rfl rfl)
theorem dX0_note_15 : decode cX0_note 15 = .ok (.astore 5, 2) := dk_58 5 (dk_at dksX0_note_0 15 rfl rfl)
theorem dX0_note_17 : decode cX0_note 17 = .ok (.iconst 1, 1) := dk_4 (dk_at dksX0_note_0 17 rfl rfl)
theorem dX0_note_18 : decode cX0_note 18 = .ok (.ireturn, 1) := dk_172 (dk_at dksX0_note_0 18 rfl rfl)
theorem dX0_note_19 : decode cX0_note 19 = .ok (.iconst 0, 1) := dk_3 (dk_at dksX0_note_0 19 rfl rfl)
theorem dX0_note_20 : decode cX0_note 20 = .ok (.ireturn, 1) := dk_172 (dk_at dksX0_note_0 20 rfl rfl)
abbrev cX0_waiting : ByteArray := method_12_code
def yX0_waiting : MethodName := ⟨RX0, "waiting", "(LWhistlePosts;II[J)I"⟩
def dkwX0_waiting_0 : List UInt8 := [45, 3, 42, 27, 28, 182, 0, 43, 133, 80, 167, 0, 7, 58, 4, 4, 172, 3, 172]
abbrev dktX0_waiting_0 : List UInt8 := dkwX0_waiting_0 ++ []
theorem dksX0_waiting_0 : cX0_waiting.data.toList.drop 0 = dktX0_waiting_0 := by decide +kernel
theorem dX0_waiting_0 : decode cX0_waiting 0 = .ok (.aload_n 3, 1) := dk_45 (dk_at dksX0_waiting_0 0 rfl rfl)
theorem dX0_waiting_1 : decode cX0_waiting 1 = .ok (.iconst 0, 1) := dk_3 (dk_at dksX0_waiting_0 1 rfl rfl)
theorem dX0_waiting_2 : decode cX0_waiting 2 = .ok (.aload_n 0, 1) := dk_42 (dk_at dksX0_waiting_0 2 rfl rfl)
theorem dX0_waiting_3 : decode cX0_waiting 3 = .ok (.iload_n 1, 1) := dk_27 (dk_at dksX0_waiting_0 3 rfl rfl)
theorem dX0_waiting_4 : decode cX0_waiting 4 = .ok (.iload_n 2, 1) := dk_28 (dk_at dksX0_waiting_0 4 rfl rfl)
theorem dX0_waiting_5 : decode cX0_waiting 5 = .ok (.invokevirtual 43, 3) := dk_182 0 43 (dk_at dksX0_waiting_0 5 rfl rfl)
theorem dX0_waiting_8 : decode cX0_waiting 8 = .ok (.i2l, 1) := dk_133 (dk_at dksX0_waiting_0 8 rfl rfl)
theorem dX0_waiting_9 : decode cX0_waiting 9 = .ok (.lastore, 1) := dk_80 (dk_at dksX0_waiting_0 9 rfl rfl)
theorem dX0_waiting_10 : decode cX0_waiting 10 = .ok (.goto 7, 3) := dk_167 0 7 (dk_at dksX0_waiting_0 10 rfl rfl)
theorem dX0_waiting_13 : decode cX0_waiting 13 = .ok (.astore 4, 2) := dk_58 4 (dk_at dksX0_waiting_0 13 rfl rfl)
theorem dX0_waiting_15 : decode cX0_waiting 15 = .ok (.iconst 1, 1) := dk_4 (dk_at dksX0_waiting_0 15 rfl rfl)
theorem dX0_waiting_16 : decode cX0_waiting 16 = .ok (.ireturn, 1) := dk_172 (dk_at dksX0_waiting_0 16 rfl rfl)
theorem dX0_waiting_17 : decode cX0_waiting 17 = .ok (.iconst 0, 1) := dk_3 (dk_at dksX0_waiting_0 17 rfl rfl)
theorem dX0_waiting_18 : decode cX0_waiting 18 = .ok (.ireturn, 1) := dk_172 (dk_at dksX0_waiting_0 18 rfl rfl)
abbrev cX0_why : ByteArray := method_13_code
def yX0_why : MethodName := ⟨RX0, "why", "(LWhistlePosts;II[J)I"⟩
def dkwX0_why_0 : List UInt8 := [45, 3, 42, 27, 28, 182, 0, 46, 133, 80, 167, 0, 11, 58, 4, 4, 172, 58, 4, 5, 172, 3, 172]
abbrev dktX0_why_0 : List UInt8 := dkwX0_why_0 ++ []
theorem dksX0_why_0 : cX0_why.data.toList.drop 0 = dktX0_why_0 := by decide +kernel
theorem dX0_why_0 : decode cX0_why 0 = .ok (.aload_n 3, 1) := dk_45 (dk_at dksX0_why_0 0 rfl rfl)
theorem dX0_why_1 : decode cX0_why 1 = .ok (.iconst 0, 1) := dk_3 (dk_at dksX0_why_0 1 rfl rfl)
theorem dX0_why_2 : decode cX0_why 2 = .ok (.aload_n 0, 1) := dk_42 (dk_at dksX0_why_0 2 rfl rfl)
theorem dX0_why_3 : decode cX0_why 3 = .ok (.iload_n 1, 1) := dk_27 (dk_at dksX0_why_0 3 rfl rfl)
theorem dX0_why_4 : decode cX0_why 4 = .ok (.iload_n 2, 1) := dk_28 (dk_at dksX0_why_0 4 rfl rfl)
theorem dX0_why_5 : decode cX0_why 5 = .ok (.invokevirtual 46, 3) := dk_182 0 46 (dk_at dksX0_why_0 5 rfl rfl)
theorem dX0_why_8 : decode cX0_why 8 = .ok (.i2l, 1) := dk_133 (dk_at dksX0_why_0 8 rfl rfl)
theorem dX0_why_9 : decode cX0_why 9 = .ok (.lastore, 1) := dk_80 (dk_at dksX0_why_0 9 rfl rfl)
theorem dX0_why_10 : decode cX0_why 10 = .ok (.goto 11, 3) := dk_167 0 11 (dk_at dksX0_why_0 10 rfl rfl)
theorem dX0_why_13 : decode cX0_why 13 = .ok (.astore 4, 2) := dk_58 4 (dk_at dksX0_why_0 13 rfl rfl)
theorem dX0_why_15 : decode cX0_why 15 = .ok (.iconst 1, 1) := dk_4 (dk_at dksX0_why_0 15 rfl rfl)
theorem dX0_why_16 : decode cX0_why 16 = .ok (.ireturn, 1) := dk_172 (dk_at dksX0_why_0 16 rfl rfl)
theorem dX0_why_17 : decode cX0_why 17 = .ok (.astore 4, 2) := dk_58 4 (dk_at dksX0_why_0 17 rfl rfl)
theorem dX0_why_19 : decode cX0_why 19 = .ok (.iconst 2, 1) := dk_5 (dk_at dksX0_why_0 19 rfl rfl)
theorem dX0_why_20 : decode cX0_why 20 = .ok (.ireturn, 1) := dk_172 (dk_at dksX0_why_0 20 rfl rfl)
theorem dX0_why_21 : decode cX0_why 21 = .ok (.iconst 0, 1) := dk_3 (dk_at dksX0_why_0 21 rfl rfl)
theorem dX0_why_22 : decode cX0_why 22 = .ok (.ireturn, 1) := dk_172 (dk_at dksX0_why_0 22 rfl rfl)
abbrev cX0_costOf : ByteArray := method_14_code
def yX0_costOf : MethodName := ⟨RX0, "costOf", "(LWhistlePosts;III[J)I"⟩
def dkwX0_costOf_1 : List UInt8 := [172]
abbrev dktX0_costOf_1 : List UInt8 := dkwX0_costOf_1 ++ []
def dkwX0_costOf_0 : List UInt8 := [25, 4, 3, 42, 27, 28, 29, 182, 0, 49, 133, 80, 167, 0, 11, 58, 5, 4, 172, 58, 5, 5, 172, 3]
abbrev dktX0_costOf_0 : List UInt8 := dkwX0_costOf_0 ++ dktX0_costOf_1
theorem dksX0_costOf_0 : cX0_costOf.data.toList.drop 0 = dktX0_costOf_0 := by decide +kernel
theorem dksX0_costOf_1 : cX0_costOf.data.toList.drop 24 = dktX0_costOf_1 := dk_seg dksX0_costOf_0 24 rfl rfl
theorem dX0_costOf_0 : decode cX0_costOf 0 = .ok (.aload 4, 2) := dk_25 4 (dk_at dksX0_costOf_0 0 rfl rfl)
theorem dX0_costOf_2 : decode cX0_costOf 2 = .ok (.iconst 0, 1) := dk_3 (dk_at dksX0_costOf_0 2 rfl rfl)
theorem dX0_costOf_3 : decode cX0_costOf 3 = .ok (.aload_n 0, 1) := dk_42 (dk_at dksX0_costOf_0 3 rfl rfl)
theorem dX0_costOf_4 : decode cX0_costOf 4 = .ok (.iload_n 1, 1) := dk_27 (dk_at dksX0_costOf_0 4 rfl rfl)
theorem dX0_costOf_5 : decode cX0_costOf 5 = .ok (.iload_n 2, 1) := dk_28 (dk_at dksX0_costOf_0 5 rfl rfl)
theorem dX0_costOf_6 : decode cX0_costOf 6 = .ok (.iload_n 3, 1) := dk_29 (dk_at dksX0_costOf_0 6 rfl rfl)
theorem dX0_costOf_7 : decode cX0_costOf 7 = .ok (.invokevirtual 49, 3) := dk_182 0 49 (dk_at dksX0_costOf_0 7 rfl rfl)
theorem dX0_costOf_10 : decode cX0_costOf 10 = .ok (.i2l, 1) := dk_133 (dk_at dksX0_costOf_0 10 rfl rfl)
theorem dX0_costOf_11 : decode cX0_costOf 11 = .ok (.lastore, 1) := dk_80 (dk_at dksX0_costOf_0 11 rfl rfl)
theorem dX0_costOf_12 : decode cX0_costOf 12 = .ok (.goto 11, 3) := dk_167 0 11 (dk_at dksX0_costOf_0 12 rfl rfl)
theorem dX0_costOf_15 : decode cX0_costOf 15 = .ok (.astore 5, 2) := dk_58 5 (dk_at dksX0_costOf_0 15 rfl rfl)
theorem dX0_costOf_17 : decode cX0_costOf 17 = .ok (.iconst 1, 1) := dk_4 (dk_at dksX0_costOf_0 17 rfl rfl)
theorem dX0_costOf_18 : decode cX0_costOf 18 = .ok (.ireturn, 1) := dk_172 (dk_at dksX0_costOf_0 18 rfl rfl)
theorem dX0_costOf_19 : decode cX0_costOf 19 = .ok (.astore 5, 2) := dk_58 5 (dk_at dksX0_costOf_0 19 rfl rfl)
theorem dX0_costOf_21 : decode cX0_costOf 21 = .ok (.iconst 2, 1) := dk_5 (dk_at dksX0_costOf_0 21 rfl rfl)
theorem dX0_costOf_22 : decode cX0_costOf 22 = .ok (.ireturn, 1) := dk_172 (dk_at dksX0_costOf_0 22 rfl rfl)
theorem dX0_costOf_23 : decode cX0_costOf 23 = .ok (.iconst 0, 1) := dk_3 (dk_at dksX0_costOf_0 23 rfl rfl)
theorem dX0_costOf_24 : decode cX0_costOf 24 = .ok (.ireturn, 1) := dk_172 (dk_at dksX0_costOf_1 0 rfl rfl)
abbrev cX0_wrongOn : ByteArray := method_15_code
def yX0_wrongOn : MethodName := ⟨RX0, "wrongOn", "(LWhistlePosts;III[J)I"⟩
def dkwX0_wrongOn_1 : List UInt8 := [172]
abbrev dktX0_wrongOn_1 : List UInt8 := dkwX0_wrongOn_1 ++ []
def dkwX0_wrongOn_0 : List UInt8 := [25, 4, 3, 42, 27, 28, 29, 182, 0, 53, 133, 80, 167, 0, 11, 58, 5, 4, 172, 58, 5, 5, 172, 3]
abbrev dktX0_wrongOn_0 : List UInt8 := dkwX0_wrongOn_0 ++ dktX0_wrongOn_1
theorem dksX0_wrongOn_0 : cX0_wrongOn.data.toList.drop 0 = dktX0_wrongOn_0 := by decide +kernel
theorem dksX0_wrongOn_1 : cX0_wrongOn.data.toList.drop 24 = dktX0_wrongOn_1 := dk_seg dksX0_wrongOn_0 24 rfl rfl
theorem dX0_wrongOn_0 : decode cX0_wrongOn 0 = .ok (.aload 4, 2) := dk_25 4 (dk_at dksX0_wrongOn_0 0 rfl rfl)
theorem dX0_wrongOn_2 : decode cX0_wrongOn 2 = .ok (.iconst 0, 1) := dk_3 (dk_at dksX0_wrongOn_0 2 rfl rfl)
theorem dX0_wrongOn_3 : decode cX0_wrongOn 3 = .ok (.aload_n 0, 1) := dk_42 (dk_at dksX0_wrongOn_0 3 rfl rfl)
theorem dX0_wrongOn_4 : decode cX0_wrongOn 4 = .ok (.iload_n 1, 1) := dk_27 (dk_at dksX0_wrongOn_0 4 rfl rfl)
theorem dX0_wrongOn_5 : decode cX0_wrongOn 5 = .ok (.iload_n 2, 1) := dk_28 (dk_at dksX0_wrongOn_0 5 rfl rfl)
theorem dX0_wrongOn_6 : decode cX0_wrongOn 6 = .ok (.iload_n 3, 1) := dk_29 (dk_at dksX0_wrongOn_0 6 rfl rfl)
theorem dX0_wrongOn_7 : decode cX0_wrongOn 7 = .ok (.invokevirtual 53, 3) := dk_182 0 53 (dk_at dksX0_wrongOn_0 7 rfl rfl)
theorem dX0_wrongOn_10 : decode cX0_wrongOn 10 = .ok (.i2l, 1) := dk_133 (dk_at dksX0_wrongOn_0 10 rfl rfl)
theorem dX0_wrongOn_11 : decode cX0_wrongOn 11 = .ok (.lastore, 1) := dk_80 (dk_at dksX0_wrongOn_0 11 rfl rfl)
theorem dX0_wrongOn_12 : decode cX0_wrongOn 12 = .ok (.goto 11, 3) := dk_167 0 11 (dk_at dksX0_wrongOn_0 12 rfl rfl)
theorem dX0_wrongOn_15 : decode cX0_wrongOn 15 = .ok (.astore 5, 2) := dk_58 5 (dk_at dksX0_wrongOn_0 15 rfl rfl)
theorem dX0_wrongOn_17 : decode cX0_wrongOn 17 = .ok (.iconst 1, 1) := dk_4 (dk_at dksX0_wrongOn_0 17 rfl rfl)
theorem dX0_wrongOn_18 : decode cX0_wrongOn 18 = .ok (.ireturn, 1) := dk_172 (dk_at dksX0_wrongOn_0 18 rfl rfl)
theorem dX0_wrongOn_19 : decode cX0_wrongOn 19 = .ok (.astore 5, 2) := dk_58 5 (dk_at dksX0_wrongOn_0 19 rfl rfl)
theorem dX0_wrongOn_21 : decode cX0_wrongOn 21 = .ok (.iconst 2, 1) := dk_5 (dk_at dksX0_wrongOn_0 21 rfl rfl)
theorem dX0_wrongOn_22 : decode cX0_wrongOn 22 = .ok (.ireturn, 1) := dk_172 (dk_at dksX0_wrongOn_0 22 rfl rfl)
theorem dX0_wrongOn_23 : decode cX0_wrongOn 23 = .ok (.iconst 0, 1) := dk_3 (dk_at dksX0_wrongOn_0 23 rfl rfl)
theorem dX0_wrongOn_24 : decode cX0_wrongOn 24 = .ok (.ireturn, 1) := dk_172 (dk_at dksX0_wrongOn_1 0 rfl rfl)
abbrev cX0_calmest : ByteArray := method_16_code
def yX0_calmest : MethodName := ⟨RX0, "calmest", "(LWhistlePosts;II[J)I"⟩
def dkwX0_calmest_0 : List UInt8 := [45, 3, 42, 27, 28, 182, 0, 56, 133, 80, 167, 0, 7, 58, 4, 4, 172, 3, 172]
abbrev dktX0_calmest_0 : List UInt8 := dkwX0_calmest_0 ++ []
theorem dksX0_calmest_0 : cX0_calmest.data.toList.drop 0 = dktX0_calmest_0 := by decide +kernel
theorem dX0_calmest_0 : decode cX0_calmest 0 = .ok (.aload_n 3, 1) := dk_45 (dk_at dksX0_calmest_0 0 rfl rfl)
theorem dX0_calmest_1 : decode cX0_calmest 1 = .ok (.iconst 0, 1) := dk_3 (dk_at dksX0_calmest_0 1 rfl rfl)
theorem dX0_calmest_2 : decode cX0_calmest 2 = .ok (.aload_n 0, 1) := dk_42 (dk_at dksX0_calmest_0 2 rfl rfl)
theorem dX0_calmest_3 : decode cX0_calmest 3 = .ok (.iload_n 1, 1) := dk_27 (dk_at dksX0_calmest_0 3 rfl rfl)
theorem dX0_calmest_4 : decode cX0_calmest 4 = .ok (.iload_n 2, 1) := dk_28 (dk_at dksX0_calmest_0 4 rfl rfl)
theorem dX0_calmest_5 : decode cX0_calmest 5 = .ok (.invokevirtual 56, 3) := dk_182 0 56 (dk_at dksX0_calmest_0 5 rfl rfl)
theorem dX0_calmest_8 : decode cX0_calmest 8 = .ok (.i2l, 1) := dk_133 (dk_at dksX0_calmest_0 8 rfl rfl)
theorem dX0_calmest_9 : decode cX0_calmest 9 = .ok (.lastore, 1) := dk_80 (dk_at dksX0_calmest_0 9 rfl rfl)
theorem dX0_calmest_10 : decode cX0_calmest 10 = .ok (.goto 7, 3) := dk_167 0 7 (dk_at dksX0_calmest_0 10 rfl rfl)
theorem dX0_calmest_13 : decode cX0_calmest 13 = .ok (.astore 4, 2) := dk_58 4 (dk_at dksX0_calmest_0 13 rfl rfl)
theorem dX0_calmest_15 : decode cX0_calmest 15 = .ok (.iconst 1, 1) := dk_4 (dk_at dksX0_calmest_0 15 rfl rfl)
theorem dX0_calmest_16 : decode cX0_calmest 16 = .ok (.ireturn, 1) := dk_172 (dk_at dksX0_calmest_0 16 rfl rfl)
theorem dX0_calmest_17 : decode cX0_calmest 17 = .ok (.iconst 0, 1) := dk_3 (dk_at dksX0_calmest_0 17 rfl rfl)
theorem dX0_calmest_18 : decode cX0_calmest 18 = .ok (.ireturn, 1) := dk_172 (dk_at dksX0_calmest_0 18 rfl rfl)
abbrev cX0_arrivesIn : ByteArray := method_17_code
def yX0_arrivesIn : MethodName := ⟨RX0, "arrivesIn", "(LWhistlePosts;I[J)I"⟩
def dkwX0_arrivesIn_0 : List UInt8 := [44, 3, 42, 27, 182, 0, 59, 133, 80, 167, 0, 6, 78, 4, 172, 3, 172]
abbrev dktX0_arrivesIn_0 : List UInt8 := dkwX0_arrivesIn_0 ++ []
theorem dksX0_arrivesIn_0 : cX0_arrivesIn.data.toList.drop 0 = dktX0_arrivesIn_0 := by decide +kernel
theorem dX0_arrivesIn_0 : decode cX0_arrivesIn 0 = .ok (.aload_n 2, 1) := dk_44 (dk_at dksX0_arrivesIn_0 0 rfl rfl)
theorem dX0_arrivesIn_1 : decode cX0_arrivesIn 1 = .ok (.iconst 0, 1) := dk_3 (dk_at dksX0_arrivesIn_0 1 rfl rfl)
theorem dX0_arrivesIn_2 : decode cX0_arrivesIn 2 = .ok (.aload_n 0, 1) := dk_42 (dk_at dksX0_arrivesIn_0 2 rfl rfl)
theorem dX0_arrivesIn_3 : decode cX0_arrivesIn 3 = .ok (.iload_n 1, 1) := dk_27 (dk_at dksX0_arrivesIn_0 3 rfl rfl)
theorem dX0_arrivesIn_4 : decode cX0_arrivesIn 4 = .ok (.invokevirtual 59, 3) := dk_182 0 59 (dk_at dksX0_arrivesIn_0 4 rfl rfl)
theorem dX0_arrivesIn_7 : decode cX0_arrivesIn 7 = .ok (.i2l, 1) := dk_133 (dk_at dksX0_arrivesIn_0 7 rfl rfl)
theorem dX0_arrivesIn_8 : decode cX0_arrivesIn 8 = .ok (.lastore, 1) := dk_80 (dk_at dksX0_arrivesIn_0 8 rfl rfl)
theorem dX0_arrivesIn_9 : decode cX0_arrivesIn 9 = .ok (.goto 6, 3) := dk_167 0 6 (dk_at dksX0_arrivesIn_0 9 rfl rfl)
theorem dX0_arrivesIn_12 : decode cX0_arrivesIn 12 = .ok (.astore_n 3, 1) := dk_78 (dk_at dksX0_arrivesIn_0 12 rfl rfl)
theorem dX0_arrivesIn_13 : decode cX0_arrivesIn 13 = .ok (.iconst 1, 1) := dk_4 (dk_at dksX0_arrivesIn_0 13 rfl rfl)
theorem dX0_arrivesIn_14 : decode cX0_arrivesIn 14 = .ok (.ireturn, 1) := dk_172 (dk_at dksX0_arrivesIn_0 14 rfl rfl)
theorem dX0_arrivesIn_15 : decode cX0_arrivesIn 15 = .ok (.iconst 0, 1) := dk_3 (dk_at dksX0_arrivesIn_0 15 rfl rfl)
theorem dX0_arrivesIn_16 : decode cX0_arrivesIn 16 = .ok (.ireturn, 1) := dk_172 (dk_at dksX0_arrivesIn_0 16 rfl rfl)
abbrev cX0_growsBy : ByteArray := method_18_code
def yX0_growsBy : MethodName := ⟨RX0, "growsBy", "(LWhistlePosts;II[J)I"⟩
def dkwX0_growsBy_0 : List UInt8 := [45, 3, 42, 27, 28, 182, 0, 62, 133, 80, 167, 0, 7, 58, 4, 4, 172, 3, 172]
abbrev dktX0_growsBy_0 : List UInt8 := dkwX0_growsBy_0 ++ []
theorem dksX0_growsBy_0 : cX0_growsBy.data.toList.drop 0 = dktX0_growsBy_0 := by decide +kernel
theorem dX0_growsBy_0 : decode cX0_growsBy 0 = .ok (.aload_n 3, 1) := dk_45 (dk_at dksX0_growsBy_0 0 rfl rfl)
theorem dX0_growsBy_1 : decode cX0_growsBy 1 = .ok (.iconst 0, 1) := dk_3 (dk_at dksX0_growsBy_0 1 rfl rfl)
theorem dX0_growsBy_2 : decode cX0_growsBy 2 = .ok (.aload_n 0, 1) := dk_42 (dk_at dksX0_growsBy_0 2 rfl rfl)
theorem dX0_growsBy_3 : decode cX0_growsBy 3 = .ok (.iload_n 1, 1) := dk_27 (dk_at dksX0_growsBy_0 3 rfl rfl)
theorem dX0_growsBy_4 : decode cX0_growsBy 4 = .ok (.iload_n 2, 1) := dk_28 (dk_at dksX0_growsBy_0 4 rfl rfl)
theorem dX0_growsBy_5 : decode cX0_growsBy 5 = .ok (.invokevirtual 62, 3) := dk_182 0 62 (dk_at dksX0_growsBy_0 5 rfl rfl)
theorem dX0_growsBy_8 : decode cX0_growsBy 8 = .ok (.i2l, 1) := dk_133 (dk_at dksX0_growsBy_0 8 rfl rfl)
theorem dX0_growsBy_9 : decode cX0_growsBy 9 = .ok (.lastore, 1) := dk_80 (dk_at dksX0_growsBy_0 9 rfl rfl)
theorem dX0_growsBy_10 : decode cX0_growsBy 10 = .ok (.goto 7, 3) := dk_167 0 7 (dk_at dksX0_growsBy_0 10 rfl rfl)
theorem dX0_growsBy_13 : decode cX0_growsBy 13 = .ok (.astore 4, 2) := dk_58 4 (dk_at dksX0_growsBy_0 13 rfl rfl)
theorem dX0_growsBy_15 : decode cX0_growsBy 15 = .ok (.iconst 1, 1) := dk_4 (dk_at dksX0_growsBy_0 15 rfl rfl)
theorem dX0_growsBy_16 : decode cX0_growsBy 16 = .ok (.ireturn, 1) := dk_172 (dk_at dksX0_growsBy_0 16 rfl rfl)
theorem dX0_growsBy_17 : decode cX0_growsBy 17 = .ok (.iconst 0, 1) := dk_3 (dk_at dksX0_growsBy_0 17 rfl rfl)
theorem dX0_growsBy_18 : decode cX0_growsBy 18 = .ok (.ireturn, 1) := dk_172 (dk_at dksX0_growsBy_0 18 rfl rfl)
abbrev cX0_send : ByteArray := method_19_code
def yX0_send : MethodName := ⟨RX0, "send", "(LWhistlePosts;IIIZ[J)I"⟩
def dkwX0_send_1 : List UInt8 := [172, 58, 6, 6, 172, 3, 172]
abbrev dktX0_send_1 : List UInt8 := dkwX0_send_1 ++ []
def dkwX0_send_0 : List UInt8 := [25, 5, 3, 42, 27, 28, 29, 21, 4, 182, 0, 65, 133, 80, 167, 0, 15, 58, 6, 4, 172, 58, 6, 5]
abbrev dktX0_send_0 : List UInt8 := dkwX0_send_0 ++ dktX0_send_1
theorem dksX0_send_0 : cX0_send.data.toList.drop 0 = dktX0_send_0 := by decide +kernel
theorem dksX0_send_1 : cX0_send.data.toList.drop 24 = dktX0_send_1 := dk_seg dksX0_send_0 24 rfl rfl
theorem dX0_send_0 : decode cX0_send 0 = .ok (.aload 5, 2) := dk_25 5 (dk_at dksX0_send_0 0 rfl rfl)
theorem dX0_send_2 : decode cX0_send 2 = .ok (.iconst 0, 1) := dk_3 (dk_at dksX0_send_0 2 rfl rfl)
theorem dX0_send_3 : decode cX0_send 3 = .ok (.aload_n 0, 1) := dk_42 (dk_at dksX0_send_0 3 rfl rfl)
theorem dX0_send_4 : decode cX0_send 4 = .ok (.iload_n 1, 1) := dk_27 (dk_at dksX0_send_0 4 rfl rfl)
theorem dX0_send_5 : decode cX0_send 5 = .ok (.iload_n 2, 1) := dk_28 (dk_at dksX0_send_0 5 rfl rfl)
theorem dX0_send_6 : decode cX0_send 6 = .ok (.iload_n 3, 1) := dk_29 (dk_at dksX0_send_0 6 rfl rfl)
theorem dX0_send_7 : decode cX0_send 7 = .ok (.iload 4, 2) := dk_21 4 (dk_at dksX0_send_0 7 rfl rfl)
theorem dX0_send_9 : decode cX0_send 9 = .ok (.invokevirtual 65, 3) := dk_182 0 65 (dk_at dksX0_send_0 9 rfl rfl)
theorem dX0_send_12 : decode cX0_send 12 = .ok (.i2l, 1) := dk_133 (dk_at dksX0_send_0 12 rfl rfl)
theorem dX0_send_13 : decode cX0_send 13 = .ok (.lastore, 1) := dk_80 (dk_at dksX0_send_0 13 rfl rfl)
theorem dX0_send_14 : decode cX0_send 14 = .ok (.goto 15, 3) := dk_167 0 15 (dk_at dksX0_send_0 14 rfl rfl)
theorem dX0_send_17 : decode cX0_send 17 = .ok (.astore 6, 2) := dk_58 6 (dk_at dksX0_send_0 17 rfl rfl)
theorem dX0_send_19 : decode cX0_send 19 = .ok (.iconst 1, 1) := dk_4 (dk_at dksX0_send_0 19 rfl rfl)
theorem dX0_send_20 : decode cX0_send 20 = .ok (.ireturn, 1) := dk_172 (dk_at dksX0_send_0 20 rfl rfl)
theorem dX0_send_21 : decode cX0_send 21 = .ok (.astore 6, 2) := dk_58 6 (dk_at dksX0_send_0 21 rfl rfl)
theorem dX0_send_23 : decode cX0_send 23 = .ok (.iconst 2, 1) := dk_5 (dk_at dksX0_send_0 23 rfl rfl)
theorem dX0_send_24 : decode cX0_send 24 = .ok (.ireturn, 1) := dk_172 (dk_at dksX0_send_1 0 rfl rfl)
theorem dX0_send_25 : decode cX0_send 25 = .ok (.astore 6, 2) := dk_58 6 (dk_at dksX0_send_1 1 rfl rfl)
theorem dX0_send_27 : decode cX0_send 27 = .ok (.iconst 3, 1) := dk_6 (dk_at dksX0_send_1 3 rfl rfl)
theorem dX0_send_28 : decode cX0_send 28 = .ok (.ireturn, 1) := dk_172 (dk_at dksX0_send_1 4 rfl rfl)
theorem dX0_send_29 : decode cX0_send 29 = .ok (.iconst 0, 1) := dk_3 (dk_at dksX0_send_1 5 rfl rfl)
theorem dX0_send_30 : decode cX0_send 30 = .ok (.ireturn, 1) := dk_172 (dk_at dksX0_send_1 6 rfl rfl)
abbrev cX0_tick : ByteArray := method_20_code
def yX0_tick : MethodName := ⟨RX0, "tick", "(LWhistlePosts;I[J)I"⟩
def dkwX0_tick_0 : List UInt8 := [44, 3, 42, 27, 182, 0, 71, 133, 80, 167, 0, 9, 78, 4, 172, 78, 5, 172, 3, 172]
abbrev dktX0_tick_0 : List UInt8 := dkwX0_tick_0 ++ []
theorem dksX0_tick_0 : cX0_tick.data.toList.drop 0 = dktX0_tick_0 := by decide +kernel
theorem dX0_tick_0 : decode cX0_tick 0 = .ok (.aload_n 2, 1) := dk_44 (dk_at dksX0_tick_0 0 rfl rfl)
theorem dX0_tick_1 : decode cX0_tick 1 = .ok (.iconst 0, 1) := dk_3 (dk_at dksX0_tick_0 1 rfl rfl)
theorem dX0_tick_2 : decode cX0_tick 2 = .ok (.aload_n 0, 1) := dk_42 (dk_at dksX0_tick_0 2 rfl rfl)
theorem dX0_tick_3 : decode cX0_tick 3 = .ok (.iload_n 1, 1) := dk_27 (dk_at dksX0_tick_0 3 rfl rfl)
theorem dX0_tick_4 : decode cX0_tick 4 = .ok (.invokevirtual 71, 3) := dk_182 0 71 (dk_at dksX0_tick_0 4 rfl rfl)
theorem dX0_tick_7 : decode cX0_tick 7 = .ok (.i2l, 1) := dk_133 (dk_at dksX0_tick_0 7 rfl rfl)
theorem dX0_tick_8 : decode cX0_tick 8 = .ok (.lastore, 1) := dk_80 (dk_at dksX0_tick_0 8 rfl rfl)
theorem dX0_tick_9 : decode cX0_tick 9 = .ok (.goto 9, 3) := dk_167 0 9 (dk_at dksX0_tick_0 9 rfl rfl)
theorem dX0_tick_12 : decode cX0_tick 12 = .ok (.astore_n 3, 1) := dk_78 (dk_at dksX0_tick_0 12 rfl rfl)
theorem dX0_tick_13 : decode cX0_tick 13 = .ok (.iconst 1, 1) := dk_4 (dk_at dksX0_tick_0 13 rfl rfl)
theorem dX0_tick_14 : decode cX0_tick 14 = .ok (.ireturn, 1) := dk_172 (dk_at dksX0_tick_0 14 rfl rfl)
theorem dX0_tick_15 : decode cX0_tick 15 = .ok (.astore_n 3, 1) := dk_78 (dk_at dksX0_tick_0 15 rfl rfl)
theorem dX0_tick_16 : decode cX0_tick 16 = .ok (.iconst 2, 1) := dk_5 (dk_at dksX0_tick_0 16 rfl rfl)
theorem dX0_tick_17 : decode cX0_tick 17 = .ok (.ireturn, 1) := dk_172 (dk_at dksX0_tick_0 17 rfl rfl)
theorem dX0_tick_18 : decode cX0_tick 18 = .ok (.iconst 0, 1) := dk_3 (dk_at dksX0_tick_0 18 rfl rfl)
theorem dX0_tick_19 : decode cX0_tick 19 = .ok (.ireturn, 1) := dk_172 (dk_at dksX0_tick_0 19 rfl rfl)
abbrev cX0_give : ByteArray := method_21_code
def yX0_give : MethodName := ⟨RX0, "give", "(LWhistlePosts;II[J)I"⟩
def dkwX0_give_1 : List UInt8 := [172, 3, 172]
abbrev dktX0_give_1 : List UInt8 := dkwX0_give_1 ++ []
def dkwX0_give_0 : List UInt8 := [45, 3, 42, 27, 28, 182, 0, 74, 133, 80, 167, 0, 15, 58, 4, 4, 172, 58, 4, 5, 172, 58, 4, 6]
abbrev dktX0_give_0 : List UInt8 := dkwX0_give_0 ++ dktX0_give_1
theorem dksX0_give_0 : cX0_give.data.toList.drop 0 = dktX0_give_0 := by decide +kernel
theorem dksX0_give_1 : cX0_give.data.toList.drop 24 = dktX0_give_1 := dk_seg dksX0_give_0 24 rfl rfl
theorem dX0_give_0 : decode cX0_give 0 = .ok (.aload_n 3, 1) := dk_45 (dk_at dksX0_give_0 0 rfl rfl)
theorem dX0_give_1 : decode cX0_give 1 = .ok (.iconst 0, 1) := dk_3 (dk_at dksX0_give_0 1 rfl rfl)
theorem dX0_give_2 : decode cX0_give 2 = .ok (.aload_n 0, 1) := dk_42 (dk_at dksX0_give_0 2 rfl rfl)
theorem dX0_give_3 : decode cX0_give 3 = .ok (.iload_n 1, 1) := dk_27 (dk_at dksX0_give_0 3 rfl rfl)
theorem dX0_give_4 : decode cX0_give 4 = .ok (.iload_n 2, 1) := dk_28 (dk_at dksX0_give_0 4 rfl rfl)
theorem dX0_give_5 : decode cX0_give 5 = .ok (.invokevirtual 74, 3) := dk_182 0 74 (dk_at dksX0_give_0 5 rfl rfl)
theorem dX0_give_8 : decode cX0_give 8 = .ok (.i2l, 1) := dk_133 (dk_at dksX0_give_0 8 rfl rfl)
theorem dX0_give_9 : decode cX0_give 9 = .ok (.lastore, 1) := dk_80 (dk_at dksX0_give_0 9 rfl rfl)
theorem dX0_give_10 : decode cX0_give 10 = .ok (.goto 15, 3) := dk_167 0 15 (dk_at dksX0_give_0 10 rfl rfl)
theorem dX0_give_13 : decode cX0_give 13 = .ok (.astore 4, 2) := dk_58 4 (dk_at dksX0_give_0 13 rfl rfl)
theorem dX0_give_15 : decode cX0_give 15 = .ok (.iconst 1, 1) := dk_4 (dk_at dksX0_give_0 15 rfl rfl)
theorem dX0_give_16 : decode cX0_give 16 = .ok (.ireturn, 1) := dk_172 (dk_at dksX0_give_0 16 rfl rfl)
theorem dX0_give_17 : decode cX0_give 17 = .ok (.astore 4, 2) := dk_58 4 (dk_at dksX0_give_0 17 rfl rfl)
theorem dX0_give_19 : decode cX0_give 19 = .ok (.iconst 2, 1) := dk_5 (dk_at dksX0_give_0 19 rfl rfl)
theorem dX0_give_20 : decode cX0_give 20 = .ok (.ireturn, 1) := dk_172 (dk_at dksX0_give_0 20 rfl rfl)
theorem dX0_give_21 : decode cX0_give 21 = .ok (.astore 4, 2) := dk_58 4 (dk_at dksX0_give_0 21 rfl rfl)
theorem dX0_give_23 : decode cX0_give 23 = .ok (.iconst 3, 1) := dk_6 (dk_at dksX0_give_0 23 rfl rfl)
theorem dX0_give_24 : decode cX0_give 24 = .ok (.ireturn, 1) := dk_172 (dk_at dksX0_give_1 0 rfl rfl)
theorem dX0_give_25 : decode cX0_give 25 = .ok (.iconst 0, 1) := dk_3 (dk_at dksX0_give_1 1 rfl rfl)
theorem dX0_give_26 : decode cX0_give 26 = .ok (.ireturn, 1) := dk_172 (dk_at dksX0_give_1 2 rfl rfl)
abbrev cX0_cut : ByteArray := method_22_code
def yX0_cut : MethodName := ⟨RX0, "cut", "(LWhistlePosts;II[J)I"⟩
def dkwX0_cut_0 : List UInt8 := [45, 3, 42, 27, 28, 182, 0, 77, 133, 80, 167, 0, 11, 58, 4, 4, 172, 58, 4, 5, 172, 3, 172]
abbrev dktX0_cut_0 : List UInt8 := dkwX0_cut_0 ++ []
theorem dksX0_cut_0 : cX0_cut.data.toList.drop 0 = dktX0_cut_0 := by decide +kernel
theorem dX0_cut_0 : decode cX0_cut 0 = .ok (.aload_n 3, 1) := dk_45 (dk_at dksX0_cut_0 0 rfl rfl)
theorem dX0_cut_1 : decode cX0_cut 1 = .ok (.iconst 0, 1) := dk_3 (dk_at dksX0_cut_0 1 rfl rfl)
theorem dX0_cut_2 : decode cX0_cut 2 = .ok (.aload_n 0, 1) := dk_42 (dk_at dksX0_cut_0 2 rfl rfl)
theorem dX0_cut_3 : decode cX0_cut 3 = .ok (.iload_n 1, 1) := dk_27 (dk_at dksX0_cut_0 3 rfl rfl)
theorem dX0_cut_4 : decode cX0_cut 4 = .ok (.iload_n 2, 1) := dk_28 (dk_at dksX0_cut_0 4 rfl rfl)
theorem dX0_cut_5 : decode cX0_cut 5 = .ok (.invokevirtual 77, 3) := dk_182 0 77 (dk_at dksX0_cut_0 5 rfl rfl)
theorem dX0_cut_8 : decode cX0_cut 8 = .ok (.i2l, 1) := dk_133 (dk_at dksX0_cut_0 8 rfl rfl)
theorem dX0_cut_9 : decode cX0_cut 9 = .ok (.lastore, 1) := dk_80 (dk_at dksX0_cut_0 9 rfl rfl)
theorem dX0_cut_10 : decode cX0_cut 10 = .ok (.goto 11, 3) := dk_167 0 11 (dk_at dksX0_cut_0 10 rfl rfl)
theorem dX0_cut_13 : decode cX0_cut 13 = .ok (.astore 4, 2) := dk_58 4 (dk_at dksX0_cut_0 13 rfl rfl)
theorem dX0_cut_15 : decode cX0_cut 15 = .ok (.iconst 1, 1) := dk_4 (dk_at dksX0_cut_0 15 rfl rfl)
theorem dX0_cut_16 : decode cX0_cut 16 = .ok (.ireturn, 1) := dk_172 (dk_at dksX0_cut_0 16 rfl rfl)
theorem dX0_cut_17 : decode cX0_cut 17 = .ok (.astore 4, 2) := dk_58 4 (dk_at dksX0_cut_0 17 rfl rfl)
theorem dX0_cut_19 : decode cX0_cut 19 = .ok (.iconst 2, 1) := dk_5 (dk_at dksX0_cut_0 19 rfl rfl)
theorem dX0_cut_20 : decode cX0_cut 20 = .ok (.ireturn, 1) := dk_172 (dk_at dksX0_cut_0 20 rfl rfl)
theorem dX0_cut_21 : decode cX0_cut 21 = .ok (.iconst 0, 1) := dk_3 (dk_at dksX0_cut_0 21 rfl rfl)
theorem dX0_cut_22 : decode cX0_cut 22 = .ok (.ireturn, 1) := dk_172 (dk_at dksX0_cut_0 22 rfl rfl)
abbrev cX0_set : ByteArray := method_23_code
def yX0_set : MethodName := ⟨RX0, "set", "(LWhistlePosts;II[J)I"⟩
def dkwX0_set_0 : List UInt8 := [45, 3, 42, 27, 28, 182, 0, 80, 133, 80, 167, 0, 7, 58, 4, 4, 172, 3, 172]
abbrev dktX0_set_0 : List UInt8 := dkwX0_set_0 ++ []
theorem dksX0_set_0 : cX0_set.data.toList.drop 0 = dktX0_set_0 := by decide +kernel
theorem dX0_set_0 : decode cX0_set 0 = .ok (.aload_n 3, 1) := dk_45 (dk_at dksX0_set_0 0 rfl rfl)
theorem dX0_set_1 : decode cX0_set 1 = .ok (.iconst 0, 1) := dk_3 (dk_at dksX0_set_0 1 rfl rfl)
theorem dX0_set_2 : decode cX0_set 2 = .ok (.aload_n 0, 1) := dk_42 (dk_at dksX0_set_0 2 rfl rfl)
theorem dX0_set_3 : decode cX0_set 3 = .ok (.iload_n 1, 1) := dk_27 (dk_at dksX0_set_0 3 rfl rfl)
theorem dX0_set_4 : decode cX0_set 4 = .ok (.iload_n 2, 1) := dk_28 (dk_at dksX0_set_0 4 rfl rfl)
theorem dX0_set_5 : decode cX0_set 5 = .ok (.invokevirtual 80, 3) := dk_182 0 80 (dk_at dksX0_set_0 5 rfl rfl)
theorem dX0_set_8 : decode cX0_set 8 = .ok (.i2l, 1) := dk_133 (dk_at dksX0_set_0 8 rfl rfl)
theorem dX0_set_9 : decode cX0_set 9 = .ok (.lastore, 1) := dk_80 (dk_at dksX0_set_0 9 rfl rfl)
theorem dX0_set_10 : decode cX0_set 10 = .ok (.goto 7, 3) := dk_167 0 7 (dk_at dksX0_set_0 10 rfl rfl)
theorem dX0_set_13 : decode cX0_set 13 = .ok (.astore 4, 2) := dk_58 4 (dk_at dksX0_set_0 13 rfl rfl)
theorem dX0_set_15 : decode cX0_set 15 = .ok (.iconst 1, 1) := dk_4 (dk_at dksX0_set_0 15 rfl rfl)
theorem dX0_set_16 : decode cX0_set 16 = .ok (.ireturn, 1) := dk_172 (dk_at dksX0_set_0 16 rfl rfl)
theorem dX0_set_17 : decode cX0_set 17 = .ok (.iconst 0, 1) := dk_3 (dk_at dksX0_set_0 17 rfl rfl)
theorem dX0_set_18 : decode cX0_set 18 = .ok (.ireturn, 1) := dk_172 (dk_at dksX0_set_0 18 rfl rfl)
abbrev cX0_undo : ByteArray := method_24_code
def yX0_undo : MethodName := ⟨RX0, "undo", "(LWhistlePosts;[J)I"⟩
def dkwX0_undo_0 : List UInt8 := [43, 3, 42, 182, 0, 83, 133, 80, 167, 0, 6, 77, 4, 172, 3, 172]
abbrev dktX0_undo_0 : List UInt8 := dkwX0_undo_0 ++ []
theorem dksX0_undo_0 : cX0_undo.data.toList.drop 0 = dktX0_undo_0 := by decide +kernel
theorem dX0_undo_0 : decode cX0_undo 0 = .ok (.aload_n 1, 1) := dk_43 (dk_at dksX0_undo_0 0 rfl rfl)
theorem dX0_undo_1 : decode cX0_undo 1 = .ok (.iconst 0, 1) := dk_3 (dk_at dksX0_undo_0 1 rfl rfl)
theorem dX0_undo_2 : decode cX0_undo 2 = .ok (.aload_n 0, 1) := dk_42 (dk_at dksX0_undo_0 2 rfl rfl)
theorem dX0_undo_3 : decode cX0_undo 3 = .ok (.invokevirtual 83, 3) := dk_182 0 83 (dk_at dksX0_undo_0 3 rfl rfl)
theorem dX0_undo_6 : decode cX0_undo 6 = .ok (.i2l, 1) := dk_133 (dk_at dksX0_undo_0 6 rfl rfl)
theorem dX0_undo_7 : decode cX0_undo 7 = .ok (.lastore, 1) := dk_80 (dk_at dksX0_undo_0 7 rfl rfl)
theorem dX0_undo_8 : decode cX0_undo 8 = .ok (.goto 6, 3) := dk_167 0 6 (dk_at dksX0_undo_0 8 rfl rfl)
theorem dX0_undo_11 : decode cX0_undo 11 = .ok (.astore_n 2, 1) := dk_77 (dk_at dksX0_undo_0 11 rfl rfl)
theorem dX0_undo_12 : decode cX0_undo 12 = .ok (.iconst 1, 1) := dk_4 (dk_at dksX0_undo_0 12 rfl rfl)
theorem dX0_undo_13 : decode cX0_undo 13 = .ok (.ireturn, 1) := dk_172 (dk_at dksX0_undo_0 13 rfl rfl)
theorem dX0_undo_14 : decode cX0_undo 14 = .ok (.iconst 0, 1) := dk_3 (dk_at dksX0_undo_0 14 rfl rfl)
theorem dX0_undo_15 : decode cX0_undo 15 = .ok (.ireturn, 1) := dk_172 (dk_at dksX0_undo_0 15 rfl rfl)
abbrev cX0_printTune : ByteArray := method_25_code
def yX0_printTune : MethodName := ⟨RX0, "printTune", "(LWhistlePosts;I[J)I"⟩
def dkwX0_printTune_0 : List UInt8 := [44, 3, 42, 27, 182, 0, 89, 133, 80, 167, 0, 6, 78, 4, 172, 3, 172]
abbrev dktX0_printTune_0 : List UInt8 := dkwX0_printTune_0 ++ []
theorem dksX0_printTune_0 : cX0_printTune.data.toList.drop 0 = dktX0_printTune_0 := by decide +kernel
theorem dX0_printTune_0 : decode cX0_printTune 0 = .ok (.aload_n 2, 1) := dk_44 (dk_at dksX0_printTune_0 0 rfl rfl)
theorem dX0_printTune_1 : decode cX0_printTune 1 = .ok (.iconst 0, 1) := dk_3 (dk_at dksX0_printTune_0 1 rfl rfl)
theorem dX0_printTune_2 : decode cX0_printTune 2 = .ok (.aload_n 0, 1) := dk_42 (dk_at dksX0_printTune_0 2 rfl rfl)
theorem dX0_printTune_3 : decode cX0_printTune 3 = .ok (.iload_n 1, 1) := dk_27 (dk_at dksX0_printTune_0 3 rfl rfl)
theorem dX0_printTune_4 : decode cX0_printTune 4 = .ok (.invokevirtual 89, 3) := dk_182 0 89 (dk_at dksX0_printTune_0 4 rfl rfl)
theorem dX0_printTune_7 : decode cX0_printTune 7 = .ok (.i2l, 1) := dk_133 (dk_at dksX0_printTune_0 7 rfl rfl)
theorem dX0_printTune_8 : decode cX0_printTune 8 = .ok (.lastore, 1) := dk_80 (dk_at dksX0_printTune_0 8 rfl rfl)
theorem dX0_printTune_9 : decode cX0_printTune 9 = .ok (.goto 6, 3) := dk_167 0 6 (dk_at dksX0_printTune_0 9 rfl rfl)
theorem dX0_printTune_12 : decode cX0_printTune 12 = .ok (.astore_n 3, 1) := dk_78 (dk_at dksX0_printTune_0 12 rfl rfl)
theorem dX0_printTune_13 : decode cX0_printTune 13 = .ok (.iconst 1, 1) := dk_4 (dk_at dksX0_printTune_0 13 rfl rfl)
theorem dX0_printTune_14 : decode cX0_printTune 14 = .ok (.ireturn, 1) := dk_172 (dk_at dksX0_printTune_0 14 rfl rfl)
theorem dX0_printTune_15 : decode cX0_printTune 15 = .ok (.iconst 0, 1) := dk_3 (dk_at dksX0_printTune_0 15 rfl rfl)
theorem dX0_printTune_16 : decode cX0_printTune 16 = .ok (.ireturn, 1) := dk_172 (dk_at dksX0_printTune_0 16 rfl rfl)
abbrev cX0_restoreState : ByteArray := method_26_code
def yX0_restoreState : MethodName := ⟨RX0, "restoreState", "(LWhistlePosts;[J)I"⟩
def dkwX0_restoreState_0 : List UInt8 := [43, 3, 42, 182, 0, 92, 133, 80, 167, 0, 6, 77, 4, 172, 3, 172]
abbrev dktX0_restoreState_0 : List UInt8 := dkwX0_restoreState_0 ++ []
theorem dksX0_restoreState_0 : cX0_restoreState.data.toList.drop 0 = dktX0_restoreState_0 := by decide +kernel
theorem dX0_restoreState_0 : decode cX0_restoreState 0 = .ok (.aload_n 1, 1) := dk_43 (dk_at dksX0_restoreState_0 0 rfl rfl)
theorem dX0_restoreState_1 : decode cX0_restoreState 1 = .ok (.iconst 0, 1) := dk_3 (dk_at dksX0_restoreState_0 1 rfl rfl)
theorem dX0_restoreState_2 : decode cX0_restoreState 2 = .ok (.aload_n 0, 1) := dk_42 (dk_at dksX0_restoreState_0 2 rfl rfl)
theorem dX0_restoreState_3 : decode cX0_restoreState 3 = .ok (.invokevirtual 92, 3) := dk_182 0 92 (dk_at dksX0_restoreState_0 3 rfl rfl)
theorem dX0_restoreState_6 : decode cX0_restoreState 6 = .ok (.i2l, 1) := dk_133 (dk_at dksX0_restoreState_0 6 rfl rfl)
theorem dX0_restoreState_7 : decode cX0_restoreState 7 = .ok (.lastore, 1) := dk_80 (dk_at dksX0_restoreState_0 7 rfl rfl)
theorem dX0_restoreState_8 : decode cX0_restoreState 8 = .ok (.goto 6, 3) := dk_167 0 6 (dk_at dksX0_restoreState_0 8 rfl rfl)
theorem dX0_restoreState_11 : decode cX0_restoreState 11 = .ok (.astore_n 2, 1) := dk_77 (dk_at dksX0_restoreState_0 11 rfl rfl)
theorem dX0_restoreState_12 : decode cX0_restoreState 12 = .ok (.iconst 1, 1) := dk_4 (dk_at dksX0_restoreState_0 12 rfl rfl)
theorem dX0_restoreState_13 : decode cX0_restoreState 13 = .ok (.ireturn, 1) := dk_172 (dk_at dksX0_restoreState_0 13 rfl rfl)
theorem dX0_restoreState_14 : decode cX0_restoreState 14 = .ok (.iconst 0, 1) := dk_3 (dk_at dksX0_restoreState_0 14 rfl rfl)
theorem dX0_restoreState_15 : decode cX0_restoreState 15 = .ok (.ireturn, 1) := dk_172 (dk_at dksX0_restoreState_0 15 rfl rfl)
theorem q150 : (Jvm.Cond.initialized "WhistlePostsLaw") ∈ lw_all := lw_g (lw_at lw_m1 0 rfl) rfl
theorem q205 : (Jvm.Cond.classLink "WhistlePostsLaw" (8 : Nat) "WhistlePosts") ∈ lw_all := lw_g (lw_at lw_m1 55 rfl) rfl
theorem q207 : (Jvm.Cond.methodLink "WhistlePostsLaw" (95 : Nat) ({ cls := "WhistlePosts", name := "<init>", desc := "()V" } : Jvm.MethodName)) ∈ lw_all := lw_g (lw_at lw_m1 57 rfl) rfl
theorem q854 : (Jvm.Cond.methodLink "WhistlePostsLaw" (99 : Nat) ({ cls := "WhistlePosts", name := "appendInput", desc := "(IIIII)I" } : Jvm.MethodName)) ∈ lw_all := lw_g (lw_at lw_m3 224 rfl) rfl
theorem q862 : (Jvm.Cond.methodLink "WhistlePostsLaw" (104 : Nat) ({ cls := "WhistlePosts", name := "truncateInput", desc := "(I)Z" } : Jvm.MethodName)) ∈ lw_all := lw_g (lw_at lw_m3 232 rfl) rfl
theorem q869 : (Jvm.Cond.methodLink "WhistlePostsLaw" (109 : Nat) ({ cls := "WhistlePosts", name := "loadPost", desc := "()I" } : Jvm.MethodName)) ∈ lw_all := lw_g (lw_at lw_m3 239 rfl) rfl
theorem q1474 : (Jvm.Cond.methodLink "WhistlePostsLaw" (113 : Nat) ({ cls := "WhistlePosts", name := "playScript", desc := "()I" } : Jvm.MethodName)) ∈ lw_all := lw_g (lw_at lw_m6 124 rfl) rfl
theorem q2241 : (Jvm.Cond.methodLink "WhistlePostsLaw" (117 : Nat) ({ cls := "WhistlePosts", name := "errorCode", desc := "()I" } : Jvm.MethodName)) ∈ lw_all := lw_g (lw_at lw_m9 171 rfl) rfl
theorem q2245 : (Jvm.Cond.methodLink "WhistlePostsLaw" (121 : Nat) ({ cls := "WhistlePosts", name := "errorOffset", desc := "()I" } : Jvm.MethodName)) ∈ lw_all := lw_g (lw_at lw_m9 175 rfl) rfl
theorem q2249 : (Jvm.Cond.methodLink "WhistlePostsLaw" (182 : Nat) ({ cls := "WhistlePosts", name := "dearestWay", desc := "()I" } : Jvm.MethodName)) ∈ lw_all := lw_g (lw_at lw_m9 179 rfl) rfl
theorem q2348 : (Jvm.Cond.methodLink "WhistlePostsLaw" (186 : Nat) ({ cls := "WhistlePosts", name := "agree", desc := "()Z" } : Jvm.MethodName)) ∈ lw_all := lw_g (lw_at lw_m10 38 rfl) rfl
theorem q2363 : (Jvm.Cond.methodLink "WhistlePostsLaw" (191 : Nat) ({ cls := "WhistlePosts", name := "meanPurse", desc := "()D" } : Jvm.MethodName)) ∈ lw_all := lw_g (lw_at lw_m10 53 rfl) rfl
theorem q2393 : (Jvm.Cond.methodLink "WhistlePostsLaw" (196 : Nat) ({ cls := "WhistlePosts", name := "rightPart", desc := "()F" } : Jvm.MethodName)) ∈ lw_all := lw_g (lw_at lw_m10 83 rfl) rfl
theorem q2397 : (Jvm.Cond.methodLink "WhistlePostsLaw" (221 : Nat) ({ cls := "WhistlePosts", name := "printRoofs", desc := "()I" } : Jvm.MethodName)) ∈ lw_all := lw_g (lw_at lw_m10 87 rfl) rfl
theorem q2507 : (Jvm.Cond.methodLink "WhistlePostsLaw" (228 : Nat) ({ cls := "WhistlePosts", name := "outputByte", desc := "(I)I" } : Jvm.MethodName)) ∈ lw_all := lw_g (lw_at lw_m10 197 rfl) rfl
theorem q2521 : (Jvm.Cond.methodLink "WhistlePostsLaw" (232 : Nat) ({ cls := "WhistlePosts", name := "saveState", desc := "()I" } : Jvm.MethodName)) ∈ lw_all := lw_g (lw_at lw_m10 211 rfl) rfl
theorem q2525 : (Jvm.Cond.methodLink "WhistlePostsLaw" (125 : Nat) ({ cls := "WhistlePostsLaw", name := "count", desc := "(LWhistlePosts;I[J)I" } : Jvm.MethodName)) ∈ lw_all := lw_g (lw_at lw_m10 215 rfl) rfl
theorem q2526 : (Jvm.Cond.static ({ cls := "WhistlePostsLaw", name := "count", desc := "(LWhistlePosts;I[J)I" } : Jvm.MethodName)) ∈ lw_all := lw_g (lw_at lw_m10 216 rfl) rfl
theorem q2527 : (Jvm.Cond.codeWith ({ cls := "WhistlePostsLaw", name := "count", desc := "(LWhistlePosts;I[J)I" } : Jvm.MethodName) method_3_code (4 : Nat) (Option.some Jvm.ClassFile.FieldType.int) [((0 : Nat), (9 : Nat), (12 : Nat), (13 : Nat))]) ∈ lw_all := lw_g (lw_at lw_m10 217 rfl) rfl
theorem q2528 : (Jvm.Cond.classLink "WhistlePostsLaw" (13 : Nat) "java/lang/IllegalArgumentException") ∈ lw_all := lw_g (lw_at lw_m10 218 rfl) rfl
theorem q2529 : (Jvm.Cond.methodLink "WhistlePostsLaw" (7 : Nat) ({ cls := "WhistlePosts", name := "count", desc := "(I)I" } : Jvm.MethodName)) ∈ lw_all := lw_g (lw_at lw_m10 219 rfl) rfl
theorem q2539 : (Jvm.Cond.methodLink "WhistlePostsLaw" (134 : Nat) ({ cls := "WhistlePostsLaw", name := "account", desc := "(LWhistlePosts;I[J)I" } : Jvm.MethodName)) ∈ lw_all := lw_g (lw_at lw_m10 229 rfl) rfl
theorem q2540 : (Jvm.Cond.static ({ cls := "WhistlePostsLaw", name := "account", desc := "(LWhistlePosts;I[J)I" } : Jvm.MethodName)) ∈ lw_all := lw_g (lw_at lw_m10 230 rfl) rfl
theorem q2541 : (Jvm.Cond.codeWith ({ cls := "WhistlePostsLaw", name := "account", desc := "(LWhistlePosts;I[J)I" } : Jvm.MethodName) method_4_code (4 : Nat) (Option.some Jvm.ClassFile.FieldType.int) [((0 : Nat), (9 : Nat), (12 : Nat), (13 : Nat))]) ∈ lw_all := lw_g (lw_at lw_m10 231 rfl) rfl
theorem q2542 : (Jvm.Cond.methodLink "WhistlePostsLaw" (15 : Nat) ({ cls := "WhistlePosts", name := "account", desc := "(I)I" } : Jvm.MethodName)) ∈ lw_all := lw_g (lw_at lw_m10 232 rfl) rfl
theorem q2550 : (Jvm.Cond.methodLink "WhistlePostsLaw" (137 : Nat) ({ cls := "WhistlePostsLaw", name := "nameByte", desc := "(LWhistlePosts;II[J)I" } : Jvm.MethodName)) ∈ lw_all := lw_g (lw_at lw_m11 0 rfl) rfl
theorem q2551 : (Jvm.Cond.static ({ cls := "WhistlePostsLaw", name := "nameByte", desc := "(LWhistlePosts;II[J)I" } : Jvm.MethodName)) ∈ lw_all := lw_g (lw_at lw_m11 1 rfl) rfl
theorem q2552 : (Jvm.Cond.codeWith ({ cls := "WhistlePostsLaw", name := "nameByte", desc := "(LWhistlePosts;II[J)I" } : Jvm.MethodName) method_5_code (5 : Nat) (Option.some Jvm.ClassFile.FieldType.int) [((0 : Nat), (10 : Nat), (13 : Nat), (22 : Nat))]) ∈ lw_all := lw_g (lw_at lw_m11 2 rfl) rfl
theorem q2553 : (Jvm.Cond.classLink "WhistlePostsLaw" (22 : Nat) "java/lang/IndexOutOfBoundsException") ∈ lw_all := lw_g (lw_at lw_m11 3 rfl) rfl
theorem q2556 : (Jvm.Cond.methodLink "WhistlePostsLaw" (18 : Nat) ({ cls := "WhistlePosts", name := "nameByte", desc := "(II)I" } : Jvm.MethodName)) ∈ lw_all := lw_g (lw_at lw_m11 6 rfl) rfl
theorem q2572 : (Jvm.Cond.methodLink "WhistlePostsLaw" (141 : Nat) ({ cls := "WhistlePostsLaw", name := "roof", desc := "(LWhistlePosts;II[J)I" } : Jvm.MethodName)) ∈ lw_all := lw_g (lw_at lw_m11 22 rfl) rfl
theorem q2573 : (Jvm.Cond.static ({ cls := "WhistlePostsLaw", name := "roof", desc := "(LWhistlePosts;II[J)I" } : Jvm.MethodName)) ∈ lw_all := lw_g (lw_at lw_m11 23 rfl) rfl
theorem q2574 : (Jvm.Cond.codeWith ({ cls := "WhistlePostsLaw", name := "roof", desc := "(LWhistlePosts;II[J)I" } : Jvm.MethodName) method_6_code (5 : Nat) (Option.some Jvm.ClassFile.FieldType.int) [((0 : Nat), (10 : Nat), (13 : Nat), (22 : Nat)), ((0 : Nat), (10 : Nat), (17 : Nat), (13 : Nat))]) ∈ lw_all := lw_g (lw_at lw_m11 24 rfl) rfl
theorem q2575 : (Jvm.Cond.methodLink "WhistlePostsLaw" (24 : Nat) ({ cls := "WhistlePosts", name := "roof", desc := "(II)I" } : Jvm.MethodName)) ∈ lw_all := lw_g (lw_at lw_m11 25 rfl) rfl
theorem q2576 : (Jvm.Cond.methodLink "WhistlePostsLaw" (144 : Nat) ({ cls := "WhistlePostsLaw", name := "way", desc := "(LWhistlePosts;II[J)I" } : Jvm.MethodName)) ∈ lw_all := lw_g (lw_at lw_m11 26 rfl) rfl
theorem q2577 : (Jvm.Cond.static ({ cls := "WhistlePostsLaw", name := "way", desc := "(LWhistlePosts;II[J)I" } : Jvm.MethodName)) ∈ lw_all := lw_g (lw_at lw_m11 27 rfl) rfl
theorem q2578 : (Jvm.Cond.codeWith ({ cls := "WhistlePostsLaw", name := "way", desc := "(LWhistlePosts;II[J)I" } : Jvm.MethodName) method_7_code (5 : Nat) (Option.some Jvm.ClassFile.FieldType.int) [((0 : Nat), (10 : Nat), (13 : Nat), (22 : Nat)), ((0 : Nat), (10 : Nat), (17 : Nat), (13 : Nat))]) ∈ lw_all := lw_g (lw_at lw_m11 28 rfl) rfl
theorem q2579 : (Jvm.Cond.methodLink "WhistlePostsLaw" (27 : Nat) ({ cls := "WhistlePosts", name := "way", desc := "(II)I" } : Jvm.MethodName)) ∈ lw_all := lw_g (lw_at lw_m11 29 rfl) rfl
theorem q2587 : (Jvm.Cond.methodLink "WhistlePostsLaw" (147 : Nat) ({ cls := "WhistlePostsLaw", name := "route", desc := "(LWhistlePosts;II[J)I" } : Jvm.MethodName)) ∈ lw_all := lw_g (lw_at lw_m11 37 rfl) rfl
theorem q2588 : (Jvm.Cond.static ({ cls := "WhistlePostsLaw", name := "route", desc := "(LWhistlePosts;II[J)I" } : Jvm.MethodName)) ∈ lw_all := lw_g (lw_at lw_m11 38 rfl) rfl
theorem q2589 : (Jvm.Cond.codeWith ({ cls := "WhistlePostsLaw", name := "route", desc := "(LWhistlePosts;II[J)I" } : Jvm.MethodName) method_8_code (5 : Nat) (Option.some Jvm.ClassFile.FieldType.int) [((0 : Nat), (10 : Nat), (13 : Nat), (22 : Nat))]) ∈ lw_all := lw_g (lw_at lw_m11 39 rfl) rfl
theorem q2590 : (Jvm.Cond.methodLink "WhistlePostsLaw" (30 : Nat) ({ cls := "WhistlePosts", name := "route", desc := "(II)I" } : Jvm.MethodName)) ∈ lw_all := lw_g (lw_at lw_m11 40 rfl) rfl
theorem q2595 : (Jvm.Cond.methodLink "WhistlePostsLaw" (150 : Nat) ({ cls := "WhistlePostsLaw", name := "next", desc := "(LWhistlePosts;II[J)I" } : Jvm.MethodName)) ∈ lw_all := lw_g (lw_at lw_m11 45 rfl) rfl
theorem q2596 : (Jvm.Cond.static ({ cls := "WhistlePostsLaw", name := "next", desc := "(LWhistlePosts;II[J)I" } : Jvm.MethodName)) ∈ lw_all := lw_g (lw_at lw_m11 46 rfl) rfl
theorem q2597 : (Jvm.Cond.codeWith ({ cls := "WhistlePostsLaw", name := "next", desc := "(LWhistlePosts;II[J)I" } : Jvm.MethodName) method_9_code (5 : Nat) (Option.some Jvm.ClassFile.FieldType.int) [((0 : Nat), (10 : Nat), (13 : Nat), (22 : Nat))]) ∈ lw_all := lw_g (lw_at lw_m11 47 rfl) rfl
theorem q2598 : (Jvm.Cond.methodLink "WhistlePostsLaw" (33 : Nat) ({ cls := "WhistlePosts", name := "next", desc := "(II)I" } : Jvm.MethodName)) ∈ lw_all := lw_g (lw_at lw_m11 48 rfl) rfl
theorem q2603 : (Jvm.Cond.methodLink "WhistlePostsLaw" (153 : Nat) ({ cls := "WhistlePostsLaw", name := "tune", desc := "(LWhistlePosts;II[J)I" } : Jvm.MethodName)) ∈ lw_all := lw_g (lw_at lw_m11 53 rfl) rfl
theorem q2604 : (Jvm.Cond.static ({ cls := "WhistlePostsLaw", name := "tune", desc := "(LWhistlePosts;II[J)I" } : Jvm.MethodName)) ∈ lw_all := lw_g (lw_at lw_m11 54 rfl) rfl
theorem q2605 : (Jvm.Cond.codeWith ({ cls := "WhistlePostsLaw", name := "tune", desc := "(LWhistlePosts;II[J)I" } : Jvm.MethodName) method_10_code (5 : Nat) (Option.some Jvm.ClassFile.FieldType.int) [((0 : Nat), (10 : Nat), (13 : Nat), (22 : Nat)), ((0 : Nat), (10 : Nat), (17 : Nat), (13 : Nat))]) ∈ lw_all := lw_g (lw_at lw_m11 55 rfl) rfl
theorem q2606 : (Jvm.Cond.methodLink "WhistlePostsLaw" (36 : Nat) ({ cls := "WhistlePosts", name := "tune", desc := "(II)I" } : Jvm.MethodName)) ∈ lw_all := lw_g (lw_at lw_m11 56 rfl) rfl
theorem q2617 : (Jvm.Cond.methodLink "WhistlePostsLaw" (156 : Nat) ({ cls := "WhistlePostsLaw", name := "note", desc := "(LWhistlePosts;IIZ[J)I" } : Jvm.MethodName)) ∈ lw_all := lw_g (lw_at lw_m11 67 rfl) rfl
theorem q2618 : (Jvm.Cond.static ({ cls := "WhistlePostsLaw", name := "note", desc := "(LWhistlePosts;IIZ[J)I" } : Jvm.MethodName)) ∈ lw_all := lw_g (lw_at lw_m11 68 rfl) rfl
theorem q2619 : (Jvm.Cond.codeWith ({ cls := "WhistlePostsLaw", name := "note", desc := "(LWhistlePosts;IIZ[J)I" } : Jvm.MethodName) method_11_code (6 : Nat) (Option.some Jvm.ClassFile.FieldType.int) [((0 : Nat), (12 : Nat), (15 : Nat), (22 : Nat))]) ∈ lw_all := lw_g (lw_at lw_m11 69 rfl) rfl
theorem q2620 : (Jvm.Cond.methodLink "WhistlePostsLaw" (39 : Nat) ({ cls := "WhistlePosts", name := "note", desc := "(IIZ)I" } : Jvm.MethodName)) ∈ lw_all := lw_g (lw_at lw_m11 70 rfl) rfl
theorem q2624 : (Jvm.Cond.methodLink "WhistlePostsLaw" (160 : Nat) ({ cls := "WhistlePostsLaw", name := "waiting", desc := "(LWhistlePosts;II[J)I" } : Jvm.MethodName)) ∈ lw_all := lw_g (lw_at lw_m11 74 rfl) rfl
theorem q2625 : (Jvm.Cond.static ({ cls := "WhistlePostsLaw", name := "waiting", desc := "(LWhistlePosts;II[J)I" } : Jvm.MethodName)) ∈ lw_all := lw_g (lw_at lw_m11 75 rfl) rfl
theorem q2626 : (Jvm.Cond.codeWith ({ cls := "WhistlePostsLaw", name := "waiting", desc := "(LWhistlePosts;II[J)I" } : Jvm.MethodName) method_12_code (5 : Nat) (Option.some Jvm.ClassFile.FieldType.int) [((0 : Nat), (10 : Nat), (13 : Nat), (22 : Nat))]) ∈ lw_all := lw_g (lw_at lw_m11 76 rfl) rfl
theorem q2627 : (Jvm.Cond.methodLink "WhistlePostsLaw" (43 : Nat) ({ cls := "WhistlePosts", name := "waiting", desc := "(II)I" } : Jvm.MethodName)) ∈ lw_all := lw_g (lw_at lw_m11 77 rfl) rfl
theorem q2648 : (Jvm.Cond.methodLink "WhistlePostsLaw" (163 : Nat) ({ cls := "WhistlePostsLaw", name := "why", desc := "(LWhistlePosts;II[J)I" } : Jvm.MethodName)) ∈ lw_all := lw_g (lw_at lw_m11 98 rfl) rfl
theorem q2649 : (Jvm.Cond.static ({ cls := "WhistlePostsLaw", name := "why", desc := "(LWhistlePosts;II[J)I" } : Jvm.MethodName)) ∈ lw_all := lw_g (lw_at lw_m11 99 rfl) rfl
theorem q2650 : (Jvm.Cond.codeWith ({ cls := "WhistlePostsLaw", name := "why", desc := "(LWhistlePosts;II[J)I" } : Jvm.MethodName) method_13_code (5 : Nat) (Option.some Jvm.ClassFile.FieldType.int) [((0 : Nat), (10 : Nat), (13 : Nat), (22 : Nat)), ((0 : Nat), (10 : Nat), (17 : Nat), (13 : Nat))]) ∈ lw_all := lw_g (lw_at lw_m11 100 rfl) rfl
theorem q2651 : (Jvm.Cond.methodLink "WhistlePostsLaw" (46 : Nat) ({ cls := "WhistlePosts", name := "why", desc := "(II)I" } : Jvm.MethodName)) ∈ lw_all := lw_g (lw_at lw_m11 101 rfl) rfl
theorem q2666 : (Jvm.Cond.methodLink "WhistlePostsLaw" (166 : Nat) ({ cls := "WhistlePostsLaw", name := "costOf", desc := "(LWhistlePosts;III[J)I" } : Jvm.MethodName)) ∈ lw_all := lw_g (lw_at lw_m11 116 rfl) rfl
theorem q2667 : (Jvm.Cond.static ({ cls := "WhistlePostsLaw", name := "costOf", desc := "(LWhistlePosts;III[J)I" } : Jvm.MethodName)) ∈ lw_all := lw_g (lw_at lw_m11 117 rfl) rfl
theorem q2668 : (Jvm.Cond.codeWith ({ cls := "WhistlePostsLaw", name := "costOf", desc := "(LWhistlePosts;III[J)I" } : Jvm.MethodName) method_14_code (6 : Nat) (Option.some Jvm.ClassFile.FieldType.int) [((0 : Nat), (12 : Nat), (15 : Nat), (22 : Nat)), ((0 : Nat), (12 : Nat), (19 : Nat), (13 : Nat))]) ∈ lw_all := lw_g (lw_at lw_m11 118 rfl) rfl
theorem q2669 : (Jvm.Cond.methodLink "WhistlePostsLaw" (49 : Nat) ({ cls := "WhistlePosts", name := "costOf", desc := "(III)I" } : Jvm.MethodName)) ∈ lw_all := lw_g (lw_at lw_m11 119 rfl) rfl
theorem q2685 : (Jvm.Cond.methodLink "WhistlePostsLaw" (170 : Nat) ({ cls := "WhistlePostsLaw", name := "wrongOn", desc := "(LWhistlePosts;III[J)I" } : Jvm.MethodName)) ∈ lw_all := lw_g (lw_at lw_m11 135 rfl) rfl
theorem q2686 : (Jvm.Cond.static ({ cls := "WhistlePostsLaw", name := "wrongOn", desc := "(LWhistlePosts;III[J)I" } : Jvm.MethodName)) ∈ lw_all := lw_g (lw_at lw_m11 136 rfl) rfl
theorem q2687 : (Jvm.Cond.codeWith ({ cls := "WhistlePostsLaw", name := "wrongOn", desc := "(LWhistlePosts;III[J)I" } : Jvm.MethodName) method_15_code (6 : Nat) (Option.some Jvm.ClassFile.FieldType.int) [((0 : Nat), (12 : Nat), (15 : Nat), (22 : Nat)), ((0 : Nat), (12 : Nat), (19 : Nat), (13 : Nat))]) ∈ lw_all := lw_g (lw_at lw_m11 137 rfl) rfl
theorem q2688 : (Jvm.Cond.methodLink "WhistlePostsLaw" (53 : Nat) ({ cls := "WhistlePosts", name := "wrongOn", desc := "(III)I" } : Jvm.MethodName)) ∈ lw_all := lw_g (lw_at lw_m11 138 rfl) rfl
theorem q2701 : (Jvm.Cond.methodLink "WhistlePostsLaw" (173 : Nat) ({ cls := "WhistlePostsLaw", name := "calmest", desc := "(LWhistlePosts;II[J)I" } : Jvm.MethodName)) ∈ lw_all := lw_g (lw_at lw_m11 151 rfl) rfl
theorem q2702 : (Jvm.Cond.static ({ cls := "WhistlePostsLaw", name := "calmest", desc := "(LWhistlePosts;II[J)I" } : Jvm.MethodName)) ∈ lw_all := lw_g (lw_at lw_m11 152 rfl) rfl
theorem q2703 : (Jvm.Cond.codeWith ({ cls := "WhistlePostsLaw", name := "calmest", desc := "(LWhistlePosts;II[J)I" } : Jvm.MethodName) method_16_code (5 : Nat) (Option.some Jvm.ClassFile.FieldType.int) [((0 : Nat), (10 : Nat), (13 : Nat), (22 : Nat))]) ∈ lw_all := lw_g (lw_at lw_m11 153 rfl) rfl
theorem q2704 : (Jvm.Cond.methodLink "WhistlePostsLaw" (56 : Nat) ({ cls := "WhistlePosts", name := "calmest", desc := "(II)I" } : Jvm.MethodName)) ∈ lw_all := lw_g (lw_at lw_m11 154 rfl) rfl
theorem q2708 : (Jvm.Cond.methodLink "WhistlePostsLaw" (176 : Nat) ({ cls := "WhistlePostsLaw", name := "arrivesIn", desc := "(LWhistlePosts;I[J)I" } : Jvm.MethodName)) ∈ lw_all := lw_g (lw_at lw_m11 158 rfl) rfl
theorem q2709 : (Jvm.Cond.static ({ cls := "WhistlePostsLaw", name := "arrivesIn", desc := "(LWhistlePosts;I[J)I" } : Jvm.MethodName)) ∈ lw_all := lw_g (lw_at lw_m11 159 rfl) rfl
theorem q2710 : (Jvm.Cond.codeWith ({ cls := "WhistlePostsLaw", name := "arrivesIn", desc := "(LWhistlePosts;I[J)I" } : Jvm.MethodName) method_17_code (4 : Nat) (Option.some Jvm.ClassFile.FieldType.int) [((0 : Nat), (9 : Nat), (12 : Nat), (22 : Nat))]) ∈ lw_all := lw_g (lw_at lw_m11 160 rfl) rfl
theorem q2711 : (Jvm.Cond.methodLink "WhistlePostsLaw" (59 : Nat) ({ cls := "WhistlePosts", name := "arrivesIn", desc := "(I)I" } : Jvm.MethodName)) ∈ lw_all := lw_g (lw_at lw_m11 161 rfl) rfl
theorem q2716 : (Jvm.Cond.methodLink "WhistlePostsLaw" (179 : Nat) ({ cls := "WhistlePostsLaw", name := "growsBy", desc := "(LWhistlePosts;II[J)I" } : Jvm.MethodName)) ∈ lw_all := lw_g (lw_at lw_m11 166 rfl) rfl
theorem q2717 : (Jvm.Cond.static ({ cls := "WhistlePostsLaw", name := "growsBy", desc := "(LWhistlePosts;II[J)I" } : Jvm.MethodName)) ∈ lw_all := lw_g (lw_at lw_m11 167 rfl) rfl
theorem q2718 : (Jvm.Cond.codeWith ({ cls := "WhistlePostsLaw", name := "growsBy", desc := "(LWhistlePosts;II[J)I" } : Jvm.MethodName) method_18_code (5 : Nat) (Option.some Jvm.ClassFile.FieldType.int) [((0 : Nat), (10 : Nat), (13 : Nat), (13 : Nat))]) ∈ lw_all := lw_g (lw_at lw_m11 168 rfl) rfl
theorem q2719 : (Jvm.Cond.methodLink "WhistlePostsLaw" (62 : Nat) ({ cls := "WhistlePosts", name := "growsBy", desc := "(II)I" } : Jvm.MethodName)) ∈ lw_all := lw_g (lw_at lw_m11 169 rfl) rfl
theorem q2725 : (Jvm.Cond.methodLink "WhistlePostsLaw" (201 : Nat) ({ cls := "WhistlePostsLaw", name := "send", desc := "(LWhistlePosts;IIIZ[J)I" } : Jvm.MethodName)) ∈ lw_all := lw_g (lw_at lw_m11 175 rfl) rfl
theorem q2726 : (Jvm.Cond.static ({ cls := "WhistlePostsLaw", name := "send", desc := "(LWhistlePosts;IIIZ[J)I" } : Jvm.MethodName)) ∈ lw_all := lw_g (lw_at lw_m11 176 rfl) rfl
theorem q2727 : (Jvm.Cond.codeWith ({ cls := "WhistlePostsLaw", name := "send", desc := "(LWhistlePosts;IIIZ[J)I" } : Jvm.MethodName) method_19_code (7 : Nat) (Option.some Jvm.ClassFile.FieldType.int) [((0 : Nat), (14 : Nat), (17 : Nat), (22 : Nat)), ((0 : Nat), (14 : Nat), (21 : Nat), (13 : Nat)), ((0 : Nat), (14 : Nat), (25 : Nat), (69 : Nat))]) ∈ lw_all := lw_g (lw_at lw_m11 177 rfl) rfl
theorem q2728 : (Jvm.Cond.classLink "WhistlePostsLaw" (69 : Nat) "java/lang/IllegalStateException") ∈ lw_all := lw_g (lw_at lw_m11 178 rfl) rfl
theorem q2729 : (Jvm.Cond.methodLink "WhistlePostsLaw" (65 : Nat) ({ cls := "WhistlePosts", name := "send", desc := "(IIIZ)I" } : Jvm.MethodName)) ∈ lw_all := lw_g (lw_at lw_m11 179 rfl) rfl
theorem q2747 : (Jvm.Cond.methodLink "WhistlePostsLaw" (205 : Nat) ({ cls := "WhistlePostsLaw", name := "tick", desc := "(LWhistlePosts;I[J)I" } : Jvm.MethodName)) ∈ lw_all := lw_g (lw_at lw_m11 197 rfl) rfl
theorem q2748 : (Jvm.Cond.static ({ cls := "WhistlePostsLaw", name := "tick", desc := "(LWhistlePosts;I[J)I" } : Jvm.MethodName)) ∈ lw_all := lw_g (lw_at lw_m11 198 rfl) rfl
theorem q2749 : (Jvm.Cond.codeWith ({ cls := "WhistlePostsLaw", name := "tick", desc := "(LWhistlePosts;I[J)I" } : Jvm.MethodName) method_20_code (4 : Nat) (Option.some Jvm.ClassFile.FieldType.int) [((0 : Nat), (9 : Nat), (12 : Nat), (13 : Nat)), ((0 : Nat), (9 : Nat), (15 : Nat), (69 : Nat))]) ∈ lw_all := lw_g (lw_at lw_m11 199 rfl) rfl
theorem q2750 : (Jvm.Cond.methodLink "WhistlePostsLaw" (71 : Nat) ({ cls := "WhistlePosts", name := "tick", desc := "(I)I" } : Jvm.MethodName)) ∈ lw_all := lw_g (lw_at lw_m11 200 rfl) rfl
theorem q2757 : (Jvm.Cond.methodLink "WhistlePostsLaw" (208 : Nat) ({ cls := "WhistlePostsLaw", name := "give", desc := "(LWhistlePosts;II[J)I" } : Jvm.MethodName)) ∈ lw_all := lw_g (lw_at lw_m11 207 rfl) rfl
theorem q2758 : (Jvm.Cond.static ({ cls := "WhistlePostsLaw", name := "give", desc := "(LWhistlePosts;II[J)I" } : Jvm.MethodName)) ∈ lw_all := lw_g (lw_at lw_m11 208 rfl) rfl
theorem q2759 : (Jvm.Cond.codeWith ({ cls := "WhistlePostsLaw", name := "give", desc := "(LWhistlePosts;II[J)I" } : Jvm.MethodName) method_21_code (5 : Nat) (Option.some Jvm.ClassFile.FieldType.int) [((0 : Nat), (10 : Nat), (13 : Nat), (22 : Nat)), ((0 : Nat), (10 : Nat), (17 : Nat), (13 : Nat)), ((0 : Nat), (10 : Nat), (21 : Nat), (69 : Nat))]) ∈ lw_all := lw_g (lw_at lw_m11 209 rfl) rfl
theorem q2760 : (Jvm.Cond.methodLink "WhistlePostsLaw" (74 : Nat) ({ cls := "WhistlePosts", name := "give", desc := "(II)I" } : Jvm.MethodName)) ∈ lw_all := lw_g (lw_at lw_m11 210 rfl) rfl
theorem q2768 : (Jvm.Cond.methodLink "WhistlePostsLaw" (211 : Nat) ({ cls := "WhistlePostsLaw", name := "cut", desc := "(LWhistlePosts;II[J)I" } : Jvm.MethodName)) ∈ lw_all := lw_g (lw_at lw_m11 218 rfl) rfl
theorem q2769 : (Jvm.Cond.static ({ cls := "WhistlePostsLaw", name := "cut", desc := "(LWhistlePosts;II[J)I" } : Jvm.MethodName)) ∈ lw_all := lw_g (lw_at lw_m11 219 rfl) rfl
theorem q2770 : (Jvm.Cond.codeWith ({ cls := "WhistlePostsLaw", name := "cut", desc := "(LWhistlePosts;II[J)I" } : Jvm.MethodName) method_22_code (5 : Nat) (Option.some Jvm.ClassFile.FieldType.int) [((0 : Nat), (10 : Nat), (13 : Nat), (22 : Nat)), ((0 : Nat), (10 : Nat), (17 : Nat), (69 : Nat))]) ∈ lw_all := lw_g (lw_at lw_m11 220 rfl) rfl
theorem q2771 : (Jvm.Cond.methodLink "WhistlePostsLaw" (77 : Nat) ({ cls := "WhistlePosts", name := "cut", desc := "(II)I" } : Jvm.MethodName)) ∈ lw_all := lw_g (lw_at lw_m11 221 rfl) rfl
theorem q2778 : (Jvm.Cond.methodLink "WhistlePostsLaw" (214 : Nat) ({ cls := "WhistlePostsLaw", name := "set", desc := "(LWhistlePosts;II[J)I" } : Jvm.MethodName)) ∈ lw_all := lw_g (lw_at lw_m11 228 rfl) rfl
theorem q2779 : (Jvm.Cond.static ({ cls := "WhistlePostsLaw", name := "set", desc := "(LWhistlePosts;II[J)I" } : Jvm.MethodName)) ∈ lw_all := lw_g (lw_at lw_m11 229 rfl) rfl
theorem q2780 : (Jvm.Cond.codeWith ({ cls := "WhistlePostsLaw", name := "set", desc := "(LWhistlePosts;II[J)I" } : Jvm.MethodName) method_23_code (5 : Nat) (Option.some Jvm.ClassFile.FieldType.int) [((0 : Nat), (10 : Nat), (13 : Nat), (13 : Nat))]) ∈ lw_all := lw_g (lw_at lw_m11 230 rfl) rfl
theorem q2781 : (Jvm.Cond.methodLink "WhistlePostsLaw" (80 : Nat) ({ cls := "WhistlePosts", name := "set", desc := "(II)I" } : Jvm.MethodName)) ∈ lw_all := lw_g (lw_at lw_m11 231 rfl) rfl
theorem q2790 : (Jvm.Cond.methodLink "WhistlePostsLaw" (217 : Nat) ({ cls := "WhistlePostsLaw", name := "undo", desc := "(LWhistlePosts;[J)I" } : Jvm.MethodName)) ∈ lw_all := lw_g (lw_at lw_m12 0 rfl) rfl
theorem q2791 : (Jvm.Cond.static ({ cls := "WhistlePostsLaw", name := "undo", desc := "(LWhistlePosts;[J)I" } : Jvm.MethodName)) ∈ lw_all := lw_g (lw_at lw_m12 1 rfl) rfl
theorem q2792 : (Jvm.Cond.codeWith ({ cls := "WhistlePostsLaw", name := "undo", desc := "(LWhistlePosts;[J)I" } : Jvm.MethodName) method_24_code (3 : Nat) (Option.some Jvm.ClassFile.FieldType.int) [((0 : Nat), (8 : Nat), (11 : Nat), (87 : Nat))]) ∈ lw_all := lw_g (lw_at lw_m12 2 rfl) rfl
theorem q2793 : (Jvm.Cond.classLink "WhistlePostsLaw" (87 : Nat) "java/util/NoSuchElementException") ∈ lw_all := lw_g (lw_at lw_m12 3 rfl) rfl
theorem q2794 : (Jvm.Cond.methodLink "WhistlePostsLaw" (83 : Nat) ({ cls := "WhistlePosts", name := "undo", desc := "()I" } : Jvm.MethodName)) ∈ lw_all := lw_g (lw_at lw_m12 4 rfl) rfl
theorem q2818 : (Jvm.Cond.methodLink "WhistlePostsLaw" (225 : Nat) ({ cls := "WhistlePostsLaw", name := "printTune", desc := "(LWhistlePosts;I[J)I" } : Jvm.MethodName)) ∈ lw_all := lw_g (lw_at lw_m12 28 rfl) rfl
theorem q2819 : (Jvm.Cond.static ({ cls := "WhistlePostsLaw", name := "printTune", desc := "(LWhistlePosts;I[J)I" } : Jvm.MethodName)) ∈ lw_all := lw_g (lw_at lw_m12 29 rfl) rfl
theorem q2820 : (Jvm.Cond.codeWith ({ cls := "WhistlePostsLaw", name := "printTune", desc := "(LWhistlePosts;I[J)I" } : Jvm.MethodName) method_25_code (4 : Nat) (Option.some Jvm.ClassFile.FieldType.int) [((0 : Nat), (9 : Nat), (12 : Nat), (22 : Nat))]) ∈ lw_all := lw_g (lw_at lw_m12 30 rfl) rfl
theorem q2821 : (Jvm.Cond.methodLink "WhistlePostsLaw" (89 : Nat) ({ cls := "WhistlePosts", name := "printTune", desc := "(I)I" } : Jvm.MethodName)) ∈ lw_all := lw_g (lw_at lw_m12 31 rfl) rfl
theorem q2825 : (Jvm.Cond.methodLink "WhistlePostsLaw" (236 : Nat) ({ cls := "WhistlePostsLaw", name := "restoreState", desc := "(LWhistlePosts;[J)I" } : Jvm.MethodName)) ∈ lw_all := lw_g (lw_at lw_m12 35 rfl) rfl
theorem q2826 : (Jvm.Cond.static ({ cls := "WhistlePostsLaw", name := "restoreState", desc := "(LWhistlePosts;[J)I" } : Jvm.MethodName)) ∈ lw_all := lw_g (lw_at lw_m12 36 rfl) rfl
theorem q2827 : (Jvm.Cond.codeWith ({ cls := "WhistlePostsLaw", name := "restoreState", desc := "(LWhistlePosts;[J)I" } : Jvm.MethodName) method_26_code (3 : Nat) (Option.some Jvm.ClassFile.FieldType.int) [((0 : Nat), (8 : Nat), (11 : Nat), (87 : Nat))]) ∈ lw_all := lw_g (lw_at lw_m12 37 rfl) rfl
theorem q2828 : (Jvm.Cond.methodLink "WhistlePostsLaw" (92 : Nat) ({ cls := "WhistlePosts", name := "restoreState", desc := "()I" } : Jvm.MethodName)) ∈ lw_all := lw_g (lw_at lw_m12 38 rfl) rfl
theorem q2832 : (Jvm.Cond.classLink "WhistlePostsLaw" (96 : Nat) "WhistlePostsModel") ∈ lw_all := lw_g (lw_at lw_m12 42 rfl) rfl
theorem q2834 : (Jvm.Cond.methodLink "WhistlePostsLaw" (98 : Nat) ({ cls := "WhistlePostsModel", name := "<init>", desc := "()V" } : Jvm.MethodName)) ∈ lw_all := lw_g (lw_at lw_m12 44 rfl) rfl
theorem q2945 : (Jvm.Cond.methodLink "WhistlePostsLaw" (131 : Nat) ({ cls := "WhistlePostsModel", name := "thrown", desc := "()I" } : Jvm.MethodName)) ∈ lw_all := lw_g (lw_at lw_m12 155 rfl) rfl
theorem q2949 : (Jvm.Cond.methodLink "WhistlePostsLaw" (103 : Nat) ({ cls := "WhistlePostsModel", name := "appendInput", desc := "(IIIII)I" } : Jvm.MethodName)) ∈ lw_all := lw_g (lw_at lw_m12 159 rfl) rfl
theorem q2957 : (Jvm.Cond.methodLink "WhistlePostsLaw" (108 : Nat) ({ cls := "WhistlePostsModel", name := "truncateInput", desc := "(I)Z" } : Jvm.MethodName)) ∈ lw_all := lw_g (lw_at lw_m12 167 rfl) rfl
theorem q2964 : (Jvm.Cond.methodLink "WhistlePostsLaw" (120 : Nat) ({ cls := "WhistlePostsModel", name := "errorCode", desc := "()I" } : Jvm.MethodName)) ∈ lw_all := lw_g (lw_at lw_m12 174 rfl) rfl
theorem q2968 : (Jvm.Cond.methodLink "WhistlePostsLaw" (124 : Nat) ({ cls := "WhistlePostsModel", name := "errorOffset", desc := "()I" } : Jvm.MethodName)) ∈ lw_all := lw_g (lw_at lw_m12 178 rfl) rfl
theorem q2972 : (Jvm.Cond.methodLink "WhistlePostsLaw" (112 : Nat) ({ cls := "WhistlePostsModel", name := "loadPost", desc := "()I" } : Jvm.MethodName)) ∈ lw_all := lw_g (lw_at lw_m12 182 rfl) rfl
theorem q3084 : (Jvm.Cond.methodLink "WhistlePostsLaw" (116 : Nat) ({ cls := "WhistlePostsModel", name := "playScript", desc := "()I" } : Jvm.MethodName)) ∈ lw_all := lw_g (lw_at lw_m13 54 rfl) rfl
theorem q3236 : (Jvm.Cond.methodLink "WhistlePostsLaw" (130 : Nat) ({ cls := "WhistlePostsModel", name := "count", desc := "(I)I" } : Jvm.MethodName)) ∈ lw_all := lw_g (lw_at lw_m13 206 rfl) rfl
theorem q3257 : (Jvm.Cond.methodLink "WhistlePostsLaw" (136 : Nat) ({ cls := "WhistlePostsModel", name := "account", desc := "(I)I" } : Jvm.MethodName)) ∈ lw_all := lw_g (lw_at lw_m13 227 rfl) rfl
theorem q3262 : (Jvm.Cond.methodLink "WhistlePostsLaw" (140 : Nat) ({ cls := "WhistlePostsModel", name := "nameByte", desc := "(II)I" } : Jvm.MethodName)) ∈ lw_all := lw_g (lw_at lw_m13 232 rfl) rfl
theorem q3270 : (Jvm.Cond.methodLink "WhistlePostsLaw" (143 : Nat) ({ cls := "WhistlePostsModel", name := "roof", desc := "(II)I" } : Jvm.MethodName)) ∈ lw_all := lw_g (lw_at lw_m14 0 rfl) rfl
theorem q3283 : (Jvm.Cond.methodLink "WhistlePostsLaw" (146 : Nat) ({ cls := "WhistlePostsModel", name := "way", desc := "(II)I" } : Jvm.MethodName)) ∈ lw_all := lw_g (lw_at lw_m14 13 rfl) rfl
theorem q3288 : (Jvm.Cond.methodLink "WhistlePostsLaw" (149 : Nat) ({ cls := "WhistlePostsModel", name := "route", desc := "(II)I" } : Jvm.MethodName)) ∈ lw_all := lw_g (lw_at lw_m14 18 rfl) rfl
theorem q3296 : (Jvm.Cond.methodLink "WhistlePostsLaw" (152 : Nat) ({ cls := "WhistlePostsModel", name := "next", desc := "(II)I" } : Jvm.MethodName)) ∈ lw_all := lw_g (lw_at lw_m14 26 rfl) rfl
theorem q3300 : (Jvm.Cond.methodLink "WhistlePostsLaw" (155 : Nat) ({ cls := "WhistlePostsModel", name := "tune", desc := "(II)I" } : Jvm.MethodName)) ∈ lw_all := lw_g (lw_at lw_m14 30 rfl) rfl
theorem q3309 : (Jvm.Cond.methodLink "WhistlePostsLaw" (159 : Nat) ({ cls := "WhistlePostsModel", name := "note", desc := "(IIZ)I" } : Jvm.MethodName)) ∈ lw_all := lw_g (lw_at lw_m14 39 rfl) rfl
theorem q3313 : (Jvm.Cond.methodLink "WhistlePostsLaw" (162 : Nat) ({ cls := "WhistlePostsModel", name := "waiting", desc := "(II)I" } : Jvm.MethodName)) ∈ lw_all := lw_g (lw_at lw_m14 43 rfl) rfl
theorem q3321 : (Jvm.Cond.methodLink "WhistlePostsLaw" (165 : Nat) ({ cls := "WhistlePostsModel", name := "why", desc := "(II)I" } : Jvm.MethodName)) ∈ lw_all := lw_g (lw_at lw_m14 51 rfl) rfl
theorem q3333 : (Jvm.Cond.methodLink "WhistlePostsLaw" (169 : Nat) ({ cls := "WhistlePostsModel", name := "costOf", desc := "(III)I" } : Jvm.MethodName)) ∈ lw_all := lw_g (lw_at lw_m14 63 rfl) rfl
theorem q3338 : (Jvm.Cond.methodLink "WhistlePostsLaw" (172 : Nat) ({ cls := "WhistlePostsModel", name := "wrongOn", desc := "(III)I" } : Jvm.MethodName)) ∈ lw_all := lw_g (lw_at lw_m14 68 rfl) rfl
theorem q3346 : (Jvm.Cond.methodLink "WhistlePostsLaw" (175 : Nat) ({ cls := "WhistlePostsModel", name := "calmest", desc := "(II)I" } : Jvm.MethodName)) ∈ lw_all := lw_g (lw_at lw_m14 76 rfl) rfl
theorem q3350 : (Jvm.Cond.methodLink "WhistlePostsLaw" (178 : Nat) ({ cls := "WhistlePostsModel", name := "arrivesIn", desc := "(I)I" } : Jvm.MethodName)) ∈ lw_all := lw_g (lw_at lw_m14 80 rfl) rfl
theorem q3354 : (Jvm.Cond.methodLink "WhistlePostsLaw" (181 : Nat) ({ cls := "WhistlePostsModel", name := "growsBy", desc := "(II)I" } : Jvm.MethodName)) ∈ lw_all := lw_g (lw_at lw_m14 84 rfl) rfl
theorem q3359 : (Jvm.Cond.methodLink "WhistlePostsLaw" (185 : Nat) ({ cls := "WhistlePostsModel", name := "dearestWay", desc := "()I" } : Jvm.MethodName)) ∈ lw_all := lw_g (lw_at lw_m14 89 rfl) rfl
theorem q3367 : (Jvm.Cond.methodLink "WhistlePostsLaw" (190 : Nat) ({ cls := "WhistlePostsModel", name := "agree", desc := "()Z" } : Jvm.MethodName)) ∈ lw_all := lw_g (lw_at lw_m14 97 rfl) rfl
theorem q3387 : (Jvm.Cond.methodLink "WhistlePostsLaw" (195 : Nat) ({ cls := "WhistlePostsModel", name := "meanPurse", desc := "()D" } : Jvm.MethodName)) ∈ lw_all := lw_g (lw_at lw_m14 117 rfl) rfl
theorem q3391 : (Jvm.Cond.methodLink "WhistlePostsLaw" (200 : Nat) ({ cls := "WhistlePostsModel", name := "rightPart", desc := "()F" } : Jvm.MethodName)) ∈ lw_all := lw_g (lw_at lw_m14 121 rfl) rfl
theorem q3395 : (Jvm.Cond.methodLink "WhistlePostsLaw" (204 : Nat) ({ cls := "WhistlePostsModel", name := "send", desc := "(IIIZ)I" } : Jvm.MethodName)) ∈ lw_all := lw_g (lw_at lw_m14 125 rfl) rfl
theorem q3404 : (Jvm.Cond.methodLink "WhistlePostsLaw" (207 : Nat) ({ cls := "WhistlePostsModel", name := "tick", desc := "(I)I" } : Jvm.MethodName)) ∈ lw_all := lw_g (lw_at lw_m14 134 rfl) rfl
theorem q3409 : (Jvm.Cond.methodLink "WhistlePostsLaw" (210 : Nat) ({ cls := "WhistlePostsModel", name := "give", desc := "(II)I" } : Jvm.MethodName)) ∈ lw_all := lw_g (lw_at lw_m14 139 rfl) rfl
theorem q3414 : (Jvm.Cond.methodLink "WhistlePostsLaw" (213 : Nat) ({ cls := "WhistlePostsModel", name := "cut", desc := "(II)I" } : Jvm.MethodName)) ∈ lw_all := lw_g (lw_at lw_m14 144 rfl) rfl
theorem q3418 : (Jvm.Cond.methodLink "WhistlePostsLaw" (216 : Nat) ({ cls := "WhistlePostsModel", name := "set", desc := "(II)I" } : Jvm.MethodName)) ∈ lw_all := lw_g (lw_at lw_m14 148 rfl) rfl
theorem q3422 : (Jvm.Cond.methodLink "WhistlePostsLaw" (220 : Nat) ({ cls := "WhistlePostsModel", name := "undo", desc := "()I" } : Jvm.MethodName)) ∈ lw_all := lw_g (lw_at lw_m14 152 rfl) rfl
theorem q3426 : (Jvm.Cond.methodLink "WhistlePostsLaw" (224 : Nat) ({ cls := "WhistlePostsModel", name := "printRoofs", desc := "()I" } : Jvm.MethodName)) ∈ lw_all := lw_g (lw_at lw_m14 156 rfl) rfl
theorem q3446 : (Jvm.Cond.methodLink "WhistlePostsLaw" (227 : Nat) ({ cls := "WhistlePostsModel", name := "printTune", desc := "(I)I" } : Jvm.MethodName)) ∈ lw_all := lw_g (lw_at lw_m14 176 rfl) rfl
theorem q3450 : (Jvm.Cond.methodLink "WhistlePostsLaw" (231 : Nat) ({ cls := "WhistlePostsModel", name := "outputByte", desc := "(I)I" } : Jvm.MethodName)) ∈ lw_all := lw_g (lw_at lw_m14 180 rfl) rfl
theorem q3454 : (Jvm.Cond.methodLink "WhistlePostsLaw" (235 : Nat) ({ cls := "WhistlePostsModel", name := "saveState", desc := "()I" } : Jvm.MethodName)) ∈ lw_all := lw_g (lw_at lw_m14 184 rfl) rfl
theorem q3458 : (Jvm.Cond.methodLink "WhistlePostsLaw" (238 : Nat) ({ cls := "WhistlePostsModel", name := "restoreState", desc := "()I" } : Jvm.MethodName)) ∈ lw_all := lw_g (lw_at lw_m14 188 rfl) rfl

theorem q2239 : (Jvm.Cond.interfaceMethod "WhistlePosts$Deed" "WhistlePosts$Deed" "does" "(LWhistlePosts$World;)I") ∈ lw_tbl := lw_at lw_m9 169 rfl
theorem q2240 : (Jvm.Cond.declares ({ cls := "WhistlePosts$Deed", name := "does", desc := "(LWhistlePosts$World;)I" } : Jvm.MethodName)) ∈ lw_tbl := lw_at lw_m9 170 rfl
theorem q3490 : (Jvm.Cond.castable "WhistlePosts$Deed" "java/lang/Object") ∈ lw_tbl := lw_at lw_m14 220 rfl

theorem q2683 : (Jvm.Cond.interfaceMethod "WhistlePosts$Hop" "WhistlePosts$Hop" "of" "(II)I") ∈ lw_tbl := lw_at lw_m11 133 rfl
theorem q2684 : (Jvm.Cond.declares ({ cls := "WhistlePosts$Hop", name := "of", desc := "(II)I" } : Jvm.MethodName)) ∈ lw_tbl := lw_at lw_m11 134 rfl

theorem q2496 : (Jvm.Cond.interfaceMethod "WhistlePosts$Test" "WhistlePosts$Test" "is" "(LWhistlePosts$Tune;)Z") ∈ lw_tbl := lw_at lw_m10 186 rfl
theorem q2497 : (Jvm.Cond.declares ({ cls := "WhistlePosts$Test", name := "is", desc := "(LWhistlePosts$Tune;)Z" } : Jvm.MethodName)) ∈ lw_tbl := lw_at lw_m10 187 rfl

theorem q352 : (Jvm.Cond.sameMethod "[B" "java/lang/Object" "clone" "()Ljava/lang/Object;") ∈ lw_all := lw_g (lw_at lw_m1 202 rfl) rfl
theorem q355 : (Jvm.Cond.selects "[B" ({ cls := "[B", name := "clone", desc := "()Ljava/lang/Object;" } : Jvm.MethodName) ({ cls := "java/lang/Object", name := "clone", desc := "()Ljava/lang/Object;" } : Jvm.MethodName)) ∈ lw_all := lw_g (lw_at lw_m1 205 rfl) rfl
theorem q356 : (Jvm.Cond.castable "[B" "java/lang/Cloneable") ∈ lw_tbl := lw_at lw_m1 206 rfl
theorem q3529 : (Jvm.Cond.castable "[B" "java/lang/Object") ∈ lw_tbl := lw_at lw_m15 19 rfl

theorem q3530 : (Jvm.Cond.castable "[I" "java/lang/Object") ∈ lw_tbl := lw_at lw_m15 20 rfl

theorem q2315 : (Jvm.Cond.sameMethod "[J" "java/lang/Object" "clone" "()Ljava/lang/Object;") ∈ lw_all := lw_g (lw_at lw_m10 5 rfl) rfl
theorem q2316 : (Jvm.Cond.selects "[J" ({ cls := "[J", name := "clone", desc := "()Ljava/lang/Object;" } : Jvm.MethodName) ({ cls := "java/lang/Object", name := "clone", desc := "()Ljava/lang/Object;" } : Jvm.MethodName)) ∈ lw_all := lw_g (lw_at lw_m10 6 rfl) rfl
theorem q2317 : (Jvm.Cond.castable "[J" "java/lang/Cloneable") ∈ lw_tbl := lw_at lw_m10 7 rfl
theorem q3532 : (Jvm.Cond.castable "[J" "java/lang/Object") ∈ lw_tbl := lw_at lw_m15 22 rfl

theorem q3531 : (Jvm.Cond.castable "[LWhistlePosts$Deed;" "java/lang/Object") ∈ lw_tbl := lw_at lw_m15 21 rfl

theorem q3525 : (Jvm.Cond.sameMethod "[Ljava/lang/Object;" "java/lang/Object" "getClass" "()Ljava/lang/Class;") ∈ lw_all := lw_g (lw_at lw_m15 15 rfl) rfl
theorem q3526 : (Jvm.Cond.selects "[Ljava/lang/Object;" ({ cls := "java/lang/Object", name := "getClass", desc := "()Ljava/lang/Class;" } : Jvm.MethodName) ({ cls := "java/lang/Object", name := "getClass", desc := "()Ljava/lang/Class;" } : Jvm.MethodName)) ∈ lw_all := lw_g (lw_at lw_m15 16 rfl) rfl
theorem q3528 : (Jvm.Cond.castable "[Ljava/lang/Object;" "java/lang/Object") ∈ lw_tbl := lw_at lw_m15 18 rfl

theorem q3533 : (Jvm.Cond.castable "[Z" "java/lang/Object") ∈ lw_tbl := lw_at lw_m15 23 rfl

theorem q1845 : (Jvm.Cond.interfaceMethod "java/lang/Comparable" "java/lang/Comparable" "compareTo" "(Ljava/lang/Object;)I") ∈ lw_tbl := lw_at lw_m8 15 rfl
theorem q1846 : (Jvm.Cond.declares ({ cls := "java/lang/Comparable", name := "compareTo", desc := "(Ljava/lang/Object;)I" } : Jvm.MethodName)) ∈ lw_tbl := lw_at lw_m8 16 rfl

theorem q190 : (Jvm.Cond.initialized "java/lang/Integer$IntegerCache") ∈ lw_all := lw_g (lw_at lw_m1 40 rfl) rfl
theorem q1507 : (Jvm.Cond.laysStatic "java/lang/Integer$IntegerCache" "high" "I") ∈ lw_tbl := lw_at lw_m6 157 rfl
theorem q1509 : (Jvm.Cond.laysStatic "java/lang/Integer$IntegerCache" "cache" "[Ljava/lang/Integer;") ∈ lw_tbl := lw_at lw_m6 159 rfl

theorem q167 : (Jvm.Cond.initialized "java/lang/System") ∈ lw_all := lw_g (lw_at lw_m1 17 rfl) rfl
theorem q362 : (Jvm.Cond.static ({ cls := "java/lang/System", name := "arraycopy", desc := "(Ljava/lang/Object;ILjava/lang/Object;II)V" } : Jvm.MethodName)) ∈ lw_all := lw_g (lw_at lw_m1 212 rfl) rfl
theorem q363 : (Jvm.Cond.native ({ cls := "java/lang/System", name := "arraycopy", desc := "(Ljava/lang/Object;ILjava/lang/Object;II)V" } : Jvm.MethodName)) ∈ lw_all := lw_g (lw_at lw_m1 213 rfl) rfl

theorem q185 : (Jvm.Cond.initialized "java/util/AbstractList$ListItr") ∈ lw_all := lw_g (lw_at lw_m1 35 rfl) rfl
theorem q730 : (Jvm.Cond.selects "java/util/AbstractList$ListItr" ({ cls := "java/lang/Object", name := "getClass", desc := "()Ljava/lang/Class;" } : Jvm.MethodName) ({ cls := "java/lang/Object", name := "getClass", desc := "()Ljava/lang/Class;" } : Jvm.MethodName)) ∈ lw_all := lw_g (lw_at lw_m3 100 rfl) rfl
theorem q1286 : (Jvm.Cond.castable "java/util/AbstractList$ListItr" "java/util/Iterator") ∈ lw_tbl := lw_at lw_m5 176 rfl
theorem q1287 : (Jvm.Cond.selects "java/util/AbstractList$ListItr" ({ cls := "java/util/Iterator", name := "hasNext", desc := "()Z" } : Jvm.MethodName) ({ cls := "java/util/AbstractList$Itr", name := "hasNext", desc := "()Z" } : Jvm.MethodName)) ∈ lw_all := lw_g (lw_at lw_m5 177 rfl) rfl
theorem q1288 : (Jvm.Cond.unhidden "java/util/AbstractList$ListItr" "hasNext" "()Z") ∈ lw_tbl := lw_at lw_m5 178 rfl
theorem q1316 : (Jvm.Cond.selects "java/util/AbstractList$ListItr" ({ cls := "java/util/Iterator", name := "next", desc := "()Ljava/lang/Object;" } : Jvm.MethodName) ({ cls := "java/util/AbstractList$Itr", name := "next", desc := "()Ljava/lang/Object;" } : Jvm.MethodName)) ∈ lw_all := lw_g (lw_at lw_m5 206 rfl) rfl
theorem q1317 : (Jvm.Cond.unhidden "java/util/AbstractList$ListItr" "next" "()Ljava/lang/Object;") ∈ lw_tbl := lw_at lw_m5 207 rfl
theorem q1324 : (Jvm.Cond.selects "java/util/AbstractList$ListItr" ({ cls := "java/util/AbstractList$Itr", name := "checkForComodification", desc := "()V" } : Jvm.MethodName) ({ cls := "java/util/AbstractList$Itr", name := "checkForComodification", desc := "()V" } : Jvm.MethodName)) ∈ lw_all := lw_g (lw_at lw_m5 214 rfl) rfl
theorem q2104 : (Jvm.Cond.selects "java/util/AbstractList$ListItr" ({ cls := "java/util/Iterator", name := "remove", desc := "()V" } : Jvm.MethodName) ({ cls := "java/util/AbstractList$Itr", name := "remove", desc := "()V" } : Jvm.MethodName)) ∈ lw_all := lw_g (lw_at lw_m9 34 rfl) rfl
theorem q2105 : (Jvm.Cond.unhidden "java/util/AbstractList$ListItr" "remove" "()V") ∈ lw_tbl := lw_at lw_m9 35 rfl
theorem q3507 : (Jvm.Cond.castable "java/util/AbstractList$ListItr" "java/lang/Object") ∈ lw_tbl := lw_at lw_m14 237 rfl
theorem q3536 : (Jvm.Cond.fieldLink "java/util/AbstractList$ListItr" (1 : Nat) "java/util/AbstractList$ListItr" "this$0" "Ljava/util/AbstractList;") ∈ lw_all := lw_g (lw_at lw_m15 26 rfl) rfl
theorem q3541 : (Jvm.Cond.fieldLink "java/util/AbstractList$ListItr" (13 : Nat) "java/util/AbstractList$ListItr" "cursor" "I") ∈ lw_all := lw_g (lw_at lw_m15 31 rfl) rfl
theorem q3542 : (Jvm.Cond.sameField "java/util/AbstractList$ListItr" "java/util/AbstractList$Itr" "cursor" "I") ∈ lw_all := lw_g (lw_at lw_m15 32 rfl) rfl

theorem q1799 : (Jvm.Cond.interfaceMethod "java/util/Comparator" "java/util/Comparator" "compare" "(Ljava/lang/Object;Ljava/lang/Object;)I") ∈ lw_tbl := lw_at lw_m7 209 rfl
theorem q1800 : (Jvm.Cond.declares ({ cls := "java/util/Comparator", name := "compare", desc := "(Ljava/lang/Object;Ljava/lang/Object;)I" } : Jvm.MethodName)) ∈ lw_tbl := lw_at lw_m7 210 rfl

theorem q1284 : (Jvm.Cond.interfaceMethod "java/util/Iterator" "java/util/Iterator" "hasNext" "()Z") ∈ lw_tbl := lw_at lw_m5 174 rfl
theorem q1285 : (Jvm.Cond.declares ({ cls := "java/util/Iterator", name := "hasNext", desc := "()Z" } : Jvm.MethodName)) ∈ lw_tbl := lw_at lw_m5 175 rfl
theorem q1314 : (Jvm.Cond.interfaceMethod "java/util/Iterator" "java/util/Iterator" "next" "()Ljava/lang/Object;") ∈ lw_tbl := lw_at lw_m5 204 rfl
theorem q1315 : (Jvm.Cond.declares ({ cls := "java/util/Iterator", name := "next", desc := "()Ljava/lang/Object;" } : Jvm.MethodName)) ∈ lw_tbl := lw_at lw_m5 205 rfl
theorem q2102 : (Jvm.Cond.interfaceMethod "java/util/Iterator" "java/util/Iterator" "remove" "()V") ∈ lw_tbl := lw_at lw_m9 32 rfl
theorem q2103 : (Jvm.Cond.declares ({ cls := "java/util/Iterator", name := "remove", desc := "()V" } : Jvm.MethodName)) ∈ lw_tbl := lw_at lw_m9 33 rfl

theorem q681 : (Jvm.Cond.interfaceMethod "java/util/List" "java/util/List" "add" "(Ljava/lang/Object;)Z") ∈ lw_tbl := lw_at lw_m3 51 rfl
theorem q682 : (Jvm.Cond.declares ({ cls := "java/util/List", name := "add", desc := "(Ljava/lang/Object;)Z" } : Jvm.MethodName)) ∈ lw_tbl := lw_at lw_m3 52 rfl
theorem q1041 : (Jvm.Cond.interfaceMethod "java/util/List" "java/util/List" "size" "()I") ∈ lw_tbl := lw_at lw_m4 171 rfl
theorem q1042 : (Jvm.Cond.declares ({ cls := "java/util/List", name := "size", desc := "()I" } : Jvm.MethodName)) ∈ lw_tbl := lw_at lw_m4 172 rfl
theorem q1102 : (Jvm.Cond.interfaceMethod "java/util/List" "java/util/List" "get" "(I)Ljava/lang/Object;") ∈ lw_tbl := lw_at lw_m4 232 rfl
theorem q1103 : (Jvm.Cond.declares ({ cls := "java/util/List", name := "get", desc := "(I)Ljava/lang/Object;" } : Jvm.MethodName)) ∈ lw_tbl := lw_at lw_m4 233 rfl
theorem q2373 : (Jvm.Cond.interfaceMethod "java/util/List" "java/util/List" "iterator" "()Ljava/util/Iterator;") ∈ lw_tbl := lw_at lw_m10 63 rfl
theorem q2374 : (Jvm.Cond.declares ({ cls := "java/util/List", name := "iterator", desc := "()Ljava/util/Iterator;" } : Jvm.MethodName)) ∈ lw_tbl := lw_at lw_m10 64 rfl

theorem q989 : (Jvm.Cond.interfaceMethod "jdk/internal/access/JavaLangAccess" "jdk/internal/access/JavaLangAccess" "getUTF16Char" "([BI)C") ∈ lw_tbl := lw_at lw_m4 119 rfl
theorem q990 : (Jvm.Cond.declares ({ cls := "jdk/internal/access/JavaLangAccess", name := "getUTF16Char", desc := "([BI)C" } : Jvm.MethodName)) ∈ lw_tbl := lw_at lw_m4 120 rfl

theorem q198 : (Jvm.Cond.initialized "jdk/internal/misc/UnsafeConstants") ∈ lw_all := lw_g (lw_at lw_m1 48 rfl) rfl
theorem q1915 : (Jvm.Cond.laysStatic "jdk/internal/misc/UnsafeConstants" "BIG_ENDIAN" "Z") ∈ lw_tbl := lw_at lw_m8 85 rfl

theorem q235 : (Jvm.Cond.arrayOver (Jvm.ClassFile.FieldType.object "java/lang/Object")) ∈ lw_tbl := lw_at lw_m1 85 rfl
theorem q316 : (Jvm.Cond.arrayClass Jvm.ClassFile.FieldType.byte) ∈ lw_all := lw_g (lw_at lw_m1 166 rfl) rfl
theorem q631 : (Jvm.Cond.arrayClass Jvm.ClassFile.FieldType.int) ∈ lw_all := lw_g (lw_at lw_m3 1 rfl) rfl
theorem q1483 : (Jvm.Cond.arrayOver (Jvm.ClassFile.FieldType.object "WhistlePosts$Deed")) ∈ lw_tbl := lw_at lw_m6 133 rfl
theorem q2289 : (Jvm.Cond.arrayClass Jvm.ClassFile.FieldType.long) ∈ lw_all := lw_g (lw_at lw_m9 219 rfl) rfl
theorem q2944 : (Jvm.Cond.arrayClass Jvm.ClassFile.FieldType.boolean) ∈ lw_all := lw_g (lw_at lw_m12 154 rfl) rfl
theorem q3534 : (Jvm.Cond.arrayClass Jvm.ClassFile.FieldType.char) ∈ lw_all := lw_g (lw_at lw_m15 24 rfl) rfl
theorem q3535 : (Jvm.Cond.arrayClass Jvm.ClassFile.FieldType.short) ∈ lw_all := lw_g (lw_at lw_m15 25 rfl) rfl

