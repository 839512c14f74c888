/-! the law's own entry -/
set_option maxRecDepth 100000
abbrev cL_law : ByteArray := code
def dkwL_law_116 : List UInt8 := [167, 244, 190, 4, 172]
abbrev dktL_law_116 : List UInt8 := dkwL_law_116 ++ []
def dkwL_law_115 : List UInt8 := [46, 182, 1, 94, 44, 42, 21, 4, 4, 96, 46, 182, 1, 97, 159, 0, 5, 3, 172, 132, 4, 6]
abbrev dktL_law_115 : List UInt8 := dkwL_law_115 ++ dktL_law_116
def dkwL_law_114 : List UInt8 := [154, 0, 15, 45, 3, 47, 21, 6, 133, 148, 153, 0, 5, 3, 172, 167, 0, 28, 43, 42, 21, 4, 4, 96]
abbrev dktL_law_114 : List UInt8 := dkwL_law_114 ++ dktL_law_115
def dkwL_law_113 : List UInt8 := [21, 4, 4, 96, 46, 182, 1, 93, 54, 6, 44, 182, 0, 155, 21, 5, 159, 0, 5, 3, 172, 21, 5]
abbrev dktL_law_113 : List UInt8 := dkwL_law_113 ++ dktL_law_114
def dkwL_law_112 : List UInt8 := [153, 0, 5, 3, 172, 167, 0, 84, 43, 42, 21, 4, 4, 96, 46, 45, 184, 1, 91, 54, 5, 44, 42]
abbrev dktL_law_112 : List UInt8 := dkwL_law_112 ++ dktL_law_113
def dkwL_law_111 : List UInt8 := [182, 0, 155, 21, 5, 159, 0, 5, 3, 172, 21, 5, 154, 0, 15, 45, 3, 47, 21, 6, 133, 148]
abbrev dktL_law_111 : List UInt8 := dkwL_law_111 ++ dktL_law_112
def dkwL_law_110 : List UInt8 := [184, 1, 88, 54, 5, 44, 42, 21, 4, 4, 96, 46, 42, 21, 4, 5, 96, 46, 182, 1, 90, 54, 6, 44]
abbrev dktL_law_110 : List UInt8 := dkwL_law_110 ++ dktL_law_111
def dkwL_law_109 : List UInt8 := [153, 0, 5, 3, 172, 167, 0, 152, 43, 42, 21, 4, 4, 96, 46, 42, 21, 4, 5, 96, 46, 45]
abbrev dktL_law_109 : List UInt8 := dkwL_law_109 ++ dktL_law_110
def dkwL_law_108 : List UInt8 := [182, 0, 155, 21, 5, 159, 0, 5, 3, 172, 21, 5, 154, 0, 15, 45, 3, 47, 21, 6, 133, 148]
abbrev dktL_law_108 : List UInt8 := dkwL_law_108 ++ dktL_law_109
def dkwL_law_107 : List UInt8 := [21, 4, 4, 96, 46, 45, 184, 1, 85, 54, 5, 44, 42, 21, 4, 4, 96, 46, 182, 1, 87, 54, 6, 44]
abbrev dktL_law_107 : List UInt8 := dkwL_law_107 ++ dktL_law_108
def dkwL_law_106 : List UInt8 := [182, 1, 80, 159, 0, 223, 3, 172, 43, 182, 1, 81, 44, 182, 1, 84, 159, 0, 210, 3, 172, 43, 42]
abbrev dktL_law_106 : List UInt8 := dkwL_law_106 ++ dktL_law_107
def dkwL_law_105 : List UInt8 := [154, 0, 15, 45, 3, 47, 21, 6, 133, 148, 153, 0, 5, 3, 172, 167, 0, 234, 43, 182, 1, 77, 44]
abbrev dktL_law_105 : List UInt8 := dkwL_law_105 ++ dktL_law_106
def dkwL_law_104 : List UInt8 := [184, 1, 74, 54, 5, 44, 182, 1, 76, 54, 6, 44, 182, 0, 155, 21, 5, 159, 0, 5, 3, 172, 21, 5]
abbrev dktL_law_104 : List UInt8 := dkwL_law_104 ++ dktL_law_105
def dkwL_law_103 : List UInt8 := [172, 21, 5, 154, 0, 15, 45, 3, 47, 21, 6, 133, 148, 153, 0, 5, 3, 172, 167, 1, 22, 43, 45]
abbrev dktL_law_103 : List UInt8 := dkwL_law_103 ++ dktL_law_104
def dkwL_law_102 : List UInt8 := [172, 43, 45, 184, 1, 71, 54, 5, 44, 182, 1, 73, 54, 6, 44, 182, 0, 155, 21, 5, 159, 0, 5, 3]
abbrev dktL_law_102 : List UInt8 := dkwL_law_102 ++ dktL_law_103
def dkwL_law_101 : List UInt8 := [182, 1, 63, 44, 182, 1, 66, 159, 1, 81, 3, 172, 43, 182, 1, 67, 44, 182, 1, 70, 159, 1, 68, 3]
abbrev dktL_law_101 : List UInt8 := dkwL_law_101 ++ dktL_law_102
def dkwL_law_100 : List UInt8 := [172, 21, 5, 154, 0, 15, 45, 3, 47, 21, 6, 133, 148, 153, 0, 5, 3, 172, 167, 1, 92, 43]
abbrev dktL_law_100 : List UInt8 := dkwL_law_100 ++ dktL_law_101
def dkwL_law_99 : List UInt8 := [54, 5, 44, 42, 21, 4, 4, 96, 46, 182, 1, 62, 54, 6, 44, 182, 0, 155, 21, 5, 159, 0, 5, 3]
abbrev dktL_law_99 : List UInt8 := dkwL_law_99 ++ dktL_law_100
def dkwL_law_98 : List UInt8 := [21, 6, 133, 148, 153, 0, 5, 3, 172, 167, 1, 148, 43, 42, 21, 4, 4, 96, 46, 45, 184, 1, 60]
abbrev dktL_law_98 : List UInt8 := dkwL_law_98 ++ dktL_law_99
def dkwL_law_97 : List UInt8 := [182, 1, 59, 54, 6, 44, 182, 0, 155, 21, 5, 159, 0, 5, 3, 172, 21, 5, 154, 0, 15, 45, 3, 47]
abbrev dktL_law_97 : List UInt8 := dkwL_law_97 ++ dktL_law_98
def dkwL_law_96 : List UInt8 := [5, 96, 46, 45, 184, 1, 57, 54, 5, 44, 42, 21, 4, 4, 96, 46, 42, 21, 4, 5, 96, 46]
abbrev dktL_law_96 : List UInt8 := dkwL_law_96 ++ dktL_law_97
def dkwL_law_95 : List UInt8 := [3, 47, 21, 6, 133, 148, 153, 0, 5, 3, 172, 167, 1, 216, 43, 42, 21, 4, 4, 96, 46, 42, 21, 4]
abbrev dktL_law_95 : List UInt8 := dkwL_law_95 ++ dktL_law_96
def dkwL_law_94 : List UInt8 := [96, 46, 182, 1, 56, 54, 6, 44, 182, 0, 155, 21, 5, 159, 0, 5, 3, 172, 21, 5, 154, 0, 15, 45]
abbrev dktL_law_94 : List UInt8 := dkwL_law_94 ++ dktL_law_95
def dkwL_law_93 : List UInt8 := [46, 42, 21, 4, 5, 96, 46, 45, 184, 1, 54, 54, 5, 44, 42, 21, 4, 4, 96, 46, 42, 21, 4, 5]
abbrev dktL_law_93 : List UInt8 := dkwL_law_93 ++ dktL_law_94
def dkwL_law_92 : List UInt8 := [154, 0, 15, 45, 3, 47, 21, 6, 133, 148, 153, 0, 5, 3, 172, 167, 2, 28, 43, 42, 21, 4, 4, 96]
abbrev dktL_law_92 : List UInt8 := dkwL_law_92 ++ dktL_law_93
def dkwL_law_91 : List UInt8 := [42, 21, 4, 5, 96, 46, 182, 1, 53, 54, 6, 44, 182, 0, 155, 21, 5, 159, 0, 5, 3, 172, 21, 5]
abbrev dktL_law_91 : List UInt8 := dkwL_law_91 ++ dktL_law_92
def dkwL_law_90 : List UInt8 := [21, 4, 4, 96, 46, 42, 21, 4, 5, 96, 46, 45, 184, 1, 51, 54, 5, 44, 42, 21, 4, 4, 96, 46]
abbrev dktL_law_90 : List UInt8 := dkwL_law_90 ++ dktL_law_91
def dkwL_law_89 : List UInt8 := [182, 1, 46, 159, 2, 111, 3, 172, 43, 182, 1, 47, 44, 182, 1, 50, 159, 2, 98, 3, 172, 43, 42]
abbrev dktL_law_89 : List UInt8 := dkwL_law_89 ++ dktL_law_90
def dkwL_law_88 : List UInt8 := [159, 2, 137, 3, 172, 43, 182, 1, 39, 44, 182, 1, 42, 159, 2, 124, 3, 172, 43, 182, 1, 43, 44]
abbrev dktL_law_88 : List UInt8 := dkwL_law_88 ++ dktL_law_89
def dkwL_law_87 : List UInt8 := [167, 2, 160, 43, 42, 21, 4, 4, 96, 46, 182, 1, 35, 44, 42, 21, 4, 4, 96, 46, 182, 1, 38]
abbrev dktL_law_87 : List UInt8 := dkwL_law_87 ++ dktL_law_88
def dkwL_law_86 : List UInt8 := [159, 0, 5, 3, 172, 21, 5, 154, 0, 15, 45, 3, 47, 21, 6, 133, 148, 153, 0, 5, 3, 172]
abbrev dktL_law_86 : List UInt8 := dkwL_law_86 ++ dktL_law_87
def dkwL_law_85 : List UInt8 := [44, 42, 21, 4, 4, 96, 46, 42, 21, 4, 5, 96, 46, 182, 1, 34, 54, 6, 44, 182, 0, 155, 21, 5]
abbrev dktL_law_85 : List UInt8 := dkwL_law_85 ++ dktL_law_86
def dkwL_law_84 : List UInt8 := [159, 2, 230, 3, 172, 43, 42, 21, 4, 4, 96, 46, 42, 21, 4, 5, 96, 46, 45, 184, 1, 32, 54, 5]
abbrev dktL_law_84 : List UInt8 := dkwL_law_84 ++ dktL_law_85
def dkwL_law_83 : List UInt8 := [3, 47, 21, 6, 133, 148, 153, 0, 5, 3, 172, 167, 2, 241, 43, 182, 1, 28, 44, 182, 1, 31]
abbrev dktL_law_83 : List UInt8 := dkwL_law_83 ++ dktL_law_84
def dkwL_law_82 : List UInt8 := [96, 46, 182, 1, 27, 54, 6, 44, 182, 0, 155, 21, 5, 159, 0, 5, 3, 172, 21, 5, 154, 0, 15, 45]
abbrev dktL_law_82 : List UInt8 := dkwL_law_82 ++ dktL_law_83
def dkwL_law_81 : List UInt8 := [46, 42, 21, 4, 5, 96, 46, 45, 184, 1, 25, 54, 5, 44, 42, 21, 4, 4, 96, 46, 42, 21, 4, 5]
abbrev dktL_law_81 : List UInt8 := dkwL_law_81 ++ dktL_law_82
def dkwL_law_80 : List UInt8 := [154, 0, 15, 45, 3, 47, 21, 6, 133, 148, 153, 0, 5, 3, 172, 167, 3, 53, 43, 42, 21, 4, 4, 96]
abbrev dktL_law_80 : List UInt8 := dkwL_law_80 ++ dktL_law_81
def dkwL_law_79 : List UInt8 := [21, 4, 4, 96, 46, 182, 1, 24, 54, 6, 44, 182, 0, 155, 21, 5, 159, 0, 5, 3, 172, 21, 5]
abbrev dktL_law_79 : List UInt8 := dkwL_law_79 ++ dktL_law_80
def dkwL_law_78 : List UInt8 := [44, 182, 1, 21, 159, 3, 111, 3, 172, 43, 42, 21, 4, 4, 96, 46, 45, 184, 1, 22, 54, 5, 44, 42]
abbrev dktL_law_78 : List UInt8 := dkwL_law_78 ++ dktL_law_79
def dkwL_law_77 : List UInt8 := [21, 5, 154, 0, 15, 45, 3, 47, 21, 6, 133, 148, 153, 0, 5, 3, 172, 167, 3, 122, 43, 182, 1, 18]
abbrev dktL_law_77 : List UInt8 := dkwL_law_77 ++ dktL_law_78
def dkwL_law_76 : List UInt8 := [96, 46, 42, 21, 4, 6, 96, 46, 182, 1, 17, 54, 6, 44, 182, 0, 155, 21, 5, 159, 0, 5, 3, 172]
abbrev dktL_law_76 : List UInt8 := dkwL_law_76 ++ dktL_law_77
def dkwL_law_75 : List UInt8 := [46, 42, 21, 4, 6, 96, 46, 45, 184, 1, 14, 54, 5, 44, 42, 21, 4, 4, 96, 46, 42, 21, 4, 5]
abbrev dktL_law_75 : List UInt8 := dkwL_law_75 ++ dktL_law_76
def dkwL_law_74 : List UInt8 := [21, 6, 133, 148, 153, 0, 5, 3, 172, 167, 3, 202, 43, 42, 21, 4, 4, 96, 46, 42, 21, 4, 5, 96]
abbrev dktL_law_74 : List UInt8 := dkwL_law_74 ++ dktL_law_75
def dkwL_law_73 : List UInt8 := [182, 1, 13, 54, 6, 44, 182, 0, 155, 21, 5, 159, 0, 5, 3, 172, 21, 5, 154, 0, 15, 45, 3, 47]
abbrev dktL_law_73 : List UInt8 := dkwL_law_73 ++ dktL_law_74
def dkwL_law_72 : List UInt8 := [3, 172, 43, 42, 21, 4, 4, 96, 46, 45, 184, 1, 11, 54, 5, 44, 42, 21, 4, 4, 96, 46]
abbrev dktL_law_72 : List UInt8 := dkwL_law_72 ++ dktL_law_73
def dkwL_law_71 : List UInt8 := [21, 4, 4, 96, 46, 182, 1, 6, 159, 4, 17, 3, 172, 43, 182, 1, 7, 44, 182, 1, 10, 159, 4, 4]
abbrev dktL_law_71 : List UInt8 := dkwL_law_71 ++ dktL_law_72
def dkwL_law_70 : List UInt8 := [182, 0, 255, 44, 182, 1, 2, 159, 4, 42, 3, 172, 43, 42, 21, 4, 4, 96, 46, 182, 1, 3, 44, 42]
abbrev dktL_law_70 : List UInt8 := dkwL_law_70 ++ dktL_law_71
def dkwL_law_69 : List UInt8 := [153, 0, 5, 3, 172, 167, 4, 66, 43, 182, 0, 251, 44, 182, 0, 254, 159, 4, 55, 3, 172, 43]
abbrev dktL_law_69 : List UInt8 := dkwL_law_69 ++ dktL_law_70
def dkwL_law_68 : List UInt8 := [182, 0, 155, 21, 5, 159, 0, 5, 3, 172, 21, 5, 154, 0, 15, 45, 3, 47, 21, 6, 133, 148]
abbrev dktL_law_68 : List UInt8 := dkwL_law_68 ++ dktL_law_69
def dkwL_law_67 : List UInt8 := [184, 0, 248, 54, 5, 44, 42, 21, 4, 4, 96, 46, 42, 21, 4, 5, 96, 46, 182, 0, 250, 54, 6, 44]
abbrev dktL_law_67 : List UInt8 := dkwL_law_67 ++ dktL_law_68
def dkwL_law_66 : List UInt8 := [153, 0, 5, 3, 172, 167, 4, 134, 43, 42, 21, 4, 4, 96, 46, 42, 21, 4, 5, 96, 46, 45]
abbrev dktL_law_66 : List UInt8 := dkwL_law_66 ++ dktL_law_67
def dkwL_law_65 : List UInt8 := [182, 0, 155, 21, 5, 159, 0, 5, 3, 172, 21, 5, 154, 0, 15, 45, 3, 47, 21, 6, 133, 148]
abbrev dktL_law_65 : List UInt8 := dkwL_law_65 ++ dktL_law_66
def dkwL_law_64 : List UInt8 := [184, 0, 245, 54, 5, 44, 42, 21, 4, 4, 96, 46, 42, 21, 4, 5, 96, 46, 182, 0, 247, 54, 6, 44]
abbrev dktL_law_64 : List UInt8 := dkwL_law_64 ++ dktL_law_65
def dkwL_law_63 : List UInt8 := [153, 0, 5, 3, 172, 167, 4, 202, 43, 42, 21, 4, 4, 96, 46, 42, 21, 4, 5, 96, 46, 45]
abbrev dktL_law_63 : List UInt8 := dkwL_law_63 ++ dktL_law_64
def dkwL_law_62 : List UInt8 := [182, 0, 155, 21, 5, 159, 0, 5, 3, 172, 21, 5, 154, 0, 15, 45, 3, 47, 21, 6, 133, 148]
abbrev dktL_law_62 : List UInt8 := dkwL_law_62 ++ dktL_law_63
def dkwL_law_61 : List UInt8 := [184, 0, 242, 54, 5, 44, 42, 21, 4, 4, 96, 46, 42, 21, 4, 5, 96, 46, 182, 0, 244, 54, 6, 44]
abbrev dktL_law_61 : List UInt8 := dkwL_law_61 ++ dktL_law_62
def dkwL_law_60 : List UInt8 := [153, 0, 5, 3, 172, 167, 5, 14, 43, 42, 21, 4, 4, 96, 46, 42, 21, 4, 5, 96, 46, 45]
abbrev dktL_law_60 : List UInt8 := dkwL_law_60 ++ dktL_law_61
def dkwL_law_59 : List UInt8 := [182, 0, 155, 21, 5, 159, 0, 5, 3, 172, 21, 5, 154, 0, 15, 45, 3, 47, 21, 6, 133, 148]
abbrev dktL_law_59 : List UInt8 := dkwL_law_59 ++ dktL_law_60
def dkwL_law_58 : List UInt8 := [184, 0, 239, 54, 5, 44, 42, 21, 4, 4, 96, 46, 42, 21, 4, 5, 96, 46, 182, 0, 241, 54, 6, 44]
abbrev dktL_law_58 : List UInt8 := dkwL_law_58 ++ dktL_law_59
def dkwL_law_57 : List UInt8 := [153, 0, 5, 3, 172, 167, 5, 82, 43, 42, 21, 4, 4, 96, 46, 42, 21, 4, 5, 96, 46, 45]
abbrev dktL_law_57 : List UInt8 := dkwL_law_57 ++ dktL_law_58
def dkwL_law_56 : List UInt8 := [182, 0, 155, 21, 5, 159, 0, 5, 3, 172, 21, 5, 154, 0, 15, 45, 3, 47, 21, 6, 133, 148]
abbrev dktL_law_56 : List UInt8 := dkwL_law_56 ++ dktL_law_57
def dkwL_law_55 : List UInt8 := [184, 0, 236, 54, 5, 44, 42, 21, 4, 4, 96, 46, 42, 21, 4, 5, 96, 46, 182, 0, 238, 54, 6, 44]
abbrev dktL_law_55 : List UInt8 := dkwL_law_55 ++ dktL_law_56
def dkwL_law_54 : List UInt8 := [153, 0, 5, 3, 172, 167, 5, 150, 43, 42, 21, 4, 4, 96, 46, 42, 21, 4, 5, 96, 46, 45]
abbrev dktL_law_54 : List UInt8 := dkwL_law_54 ++ dktL_law_55
def dkwL_law_53 : List UInt8 := [182, 0, 155, 21, 5, 159, 0, 5, 3, 172, 21, 5, 154, 0, 15, 45, 3, 47, 21, 6, 133, 148]
abbrev dktL_law_53 : List UInt8 := dkwL_law_53 ++ dktL_law_54
def dkwL_law_52 : List UInt8 := [184, 0, 233, 54, 5, 44, 42, 21, 4, 4, 96, 46, 42, 21, 4, 5, 96, 46, 182, 0, 235, 54, 6, 44]
abbrev dktL_law_52 : List UInt8 := dkwL_law_52 ++ dktL_law_53
def dkwL_law_51 : List UInt8 := [153, 0, 5, 3, 172, 167, 5, 218, 43, 42, 21, 4, 4, 96, 46, 42, 21, 4, 5, 96, 46, 45]
abbrev dktL_law_51 : List UInt8 := dkwL_law_51 ++ dktL_law_52
def dkwL_law_50 : List UInt8 := [182, 0, 155, 21, 5, 159, 0, 5, 3, 172, 21, 5, 154, 0, 15, 45, 3, 47, 21, 6, 133, 148]
abbrev dktL_law_50 : List UInt8 := dkwL_law_50 ++ dktL_law_51
def dkwL_law_49 : List UInt8 := [182, 0, 229, 159, 6, 8, 3, 172, 43, 45, 184, 0, 230, 54, 5, 44, 182, 0, 232, 54, 6, 44]
abbrev dktL_law_49 : List UInt8 := dkwL_law_49 ++ dktL_law_50
def dkwL_law_48 : List UInt8 := [154, 0, 15, 45, 3, 47, 21, 6, 133, 148, 153, 0, 5, 3, 172, 167, 6, 19, 43, 182, 0, 226, 44]
abbrev dktL_law_48 : List UInt8 := dkwL_law_48 ++ dktL_law_49
def dkwL_law_47 : List UInt8 := [21, 4, 4, 96, 46, 182, 0, 225, 54, 6, 44, 182, 0, 155, 21, 5, 159, 0, 5, 3, 172, 21, 5]
abbrev dktL_law_47 : List UInt8 := dkwL_law_47 ++ dktL_law_48
def dkwL_law_46 : List UInt8 := [153, 0, 5, 3, 172, 167, 6, 75, 43, 42, 21, 4, 4, 96, 46, 45, 184, 0, 223, 54, 5, 44, 42]
abbrev dktL_law_46 : List UInt8 := dkwL_law_46 ++ dktL_law_47
def dkwL_law_45 : List UInt8 := [182, 0, 155, 21, 5, 159, 0, 5, 3, 172, 21, 5, 154, 0, 15, 45, 3, 47, 21, 6, 133, 148]
abbrev dktL_law_45 : List UInt8 := dkwL_law_45 ++ dktL_law_46
def dkwL_law_44 : List UInt8 := [153, 0, 5, 3, 172, 167, 6, 119, 43, 45, 184, 0, 220, 54, 5, 44, 182, 0, 222, 54, 6, 44]
abbrev dktL_law_44 : List UInt8 := dkwL_law_44 ++ dktL_law_45
def dkwL_law_43 : List UInt8 := [182, 0, 155, 21, 5, 159, 0, 5, 3, 172, 21, 5, 154, 0, 15, 45, 3, 47, 21, 6, 133, 148]
abbrev dktL_law_43 : List UInt8 := dkwL_law_43 ++ dktL_law_44
def dkwL_law_42 : List UInt8 := [153, 0, 5, 3, 172, 167, 6, 163, 43, 45, 184, 0, 217, 54, 5, 44, 182, 0, 219, 54, 6, 44]
abbrev dktL_law_42 : List UInt8 := dkwL_law_42 ++ dktL_law_43
def dkwL_law_41 : List UInt8 := [182, 0, 155, 21, 5, 159, 0, 5, 3, 172, 21, 5, 154, 0, 15, 45, 3, 47, 21, 6, 133, 148]
abbrev dktL_law_41 : List UInt8 := dkwL_law_41 ++ dktL_law_42
def dkwL_law_40 : List UInt8 := [153, 0, 5, 3, 172, 167, 6, 207, 43, 45, 184, 0, 214, 54, 5, 44, 182, 0, 216, 54, 6, 44]
abbrev dktL_law_40 : List UInt8 := dkwL_law_40 ++ dktL_law_41
def dkwL_law_39 : List UInt8 := [182, 0, 155, 21, 5, 159, 0, 5, 3, 172, 21, 5, 154, 0, 15, 45, 3, 47, 21, 6, 133, 148]
abbrev dktL_law_39 : List UInt8 := dkwL_law_39 ++ dktL_law_40
def dkwL_law_38 : List UInt8 := [21, 4, 4, 96, 46, 45, 184, 0, 211, 54, 5, 44, 42, 21, 4, 4, 96, 46, 182, 0, 213, 54, 6, 44]
abbrev dktL_law_38 : List UInt8 := dkwL_law_38 ++ dktL_law_39
def dkwL_law_37 : List UInt8 := [153, 0, 5, 3, 172, 167, 7, 20, 43, 182, 0, 206, 44, 182, 0, 210, 159, 7, 9, 3, 172, 43, 42]
abbrev dktL_law_37 : List UInt8 := dkwL_law_37 ++ dktL_law_38
def dkwL_law_36 : List UInt8 := [182, 0, 155, 21, 5, 159, 0, 5, 3, 172, 21, 5, 154, 0, 15, 45, 3, 47, 21, 6, 133, 148]
abbrev dktL_law_36 : List UInt8 := dkwL_law_36 ++ dktL_law_37
def dkwL_law_35 : List UInt8 := [148, 153, 0, 5, 3, 172, 167, 7, 64, 43, 45, 184, 0, 203, 54, 5, 44, 182, 0, 205, 54, 6, 44]
abbrev dktL_law_35 : List UInt8 := dkwL_law_35 ++ dktL_law_36
def dkwL_law_34 : List UInt8 := [54, 6, 44, 182, 0, 155, 21, 5, 159, 0, 5, 3, 172, 21, 5, 154, 0, 15, 45, 3, 47, 21, 6, 133]
abbrev dktL_law_34 : List UInt8 := dkwL_law_34 ++ dktL_law_35
def dkwL_law_33 : List UInt8 := [21, 6, 133, 148, 153, 0, 5, 3, 172, 167, 7, 108, 43, 45, 184, 0, 200, 54, 5, 44, 182, 0, 202]
abbrev dktL_law_33 : List UInt8 := dkwL_law_33 ++ dktL_law_34
def dkwL_law_32 : List UInt8 := [182, 0, 199, 54, 6, 44, 182, 0, 155, 21, 5, 159, 0, 5, 3, 172, 21, 5, 154, 0, 15, 45, 3, 47]
abbrev dktL_law_32 : List UInt8 := dkwL_law_32 ++ dktL_law_33
def dkwL_law_31 : List UInt8 := [167, 7, 164, 43, 42, 21, 4, 4, 96, 46, 45, 184, 0, 197, 54, 5, 44, 42, 21, 4, 4, 96, 46]
abbrev dktL_law_31 : List UInt8 := dkwL_law_31 ++ dktL_law_32
def dkwL_law_30 : List UInt8 := [159, 0, 5, 3, 172, 21, 5, 154, 0, 15, 45, 3, 47, 21, 6, 133, 148, 153, 0, 5, 3, 172]
abbrev dktL_law_30 : List UInt8 := dkwL_law_30 ++ dktL_law_31
def dkwL_law_29 : List UInt8 := [167, 7, 208, 43, 45, 184, 0, 194, 54, 5, 44, 182, 0, 196, 54, 6, 44, 182, 0, 155, 21, 5]
abbrev dktL_law_29 : List UInt8 := dkwL_law_29 ++ dktL_law_30
def dkwL_law_28 : List UInt8 := [21, 5, 159, 0, 5, 3, 172, 21, 5, 154, 0, 15, 45, 3, 47, 21, 6, 133, 148, 153, 0, 5, 3, 172]
abbrev dktL_law_28 : List UInt8 := dkwL_law_28 ++ dktL_law_29
def dkwL_law_27 : List UInt8 := [46, 45, 184, 0, 191, 54, 5, 44, 42, 21, 4, 4, 96, 46, 182, 0, 193, 54, 6, 44, 182, 0, 155]
abbrev dktL_law_27 : List UInt8 := dkwL_law_27 ++ dktL_law_28
def dkwL_law_26 : List UInt8 := [154, 0, 15, 45, 3, 47, 21, 6, 133, 148, 153, 0, 5, 3, 172, 167, 8, 8, 43, 42, 21, 4, 4, 96]
abbrev dktL_law_26 : List UInt8 := dkwL_law_26 ++ dktL_law_27
def dkwL_law_25 : List UInt8 := [21, 4, 4, 96, 46, 182, 0, 190, 54, 6, 44, 182, 0, 155, 21, 5, 159, 0, 5, 3, 172, 21, 5]
abbrev dktL_law_25 : List UInt8 := dkwL_law_25 ++ dktL_law_26
def dkwL_law_24 : List UInt8 := [153, 0, 5, 3, 172, 167, 8, 64, 43, 42, 21, 4, 4, 96, 46, 45, 184, 0, 188, 54, 5, 44, 42]
abbrev dktL_law_24 : List UInt8 := dkwL_law_24 ++ dktL_law_25
def dkwL_law_23 : List UInt8 := [182, 0, 155, 21, 5, 159, 0, 5, 3, 172, 21, 5, 154, 0, 15, 45, 3, 47, 21, 6, 133, 148]
abbrev dktL_law_23 : List UInt8 := dkwL_law_23 ++ dktL_law_24
def dkwL_law_22 : List UInt8 := [153, 0, 5, 3, 172, 167, 8, 108, 43, 45, 184, 0, 185, 54, 5, 44, 182, 0, 187, 54, 6, 44]
abbrev dktL_law_22 : List UInt8 := dkwL_law_22 ++ dktL_law_23
def dkwL_law_21 : List UInt8 := [182, 0, 155, 21, 5, 159, 0, 5, 3, 172, 21, 5, 154, 0, 15, 45, 3, 47, 21, 6, 133, 148]
abbrev dktL_law_21 : List UInt8 := dkwL_law_21 ++ dktL_law_22
def dkwL_law_20 : List UInt8 := [182, 0, 181, 159, 8, 154, 3, 172, 43, 45, 184, 0, 182, 54, 5, 44, 182, 0, 184, 54, 6, 44]
abbrev dktL_law_20 : List UInt8 := dkwL_law_20 ++ dktL_law_21
def dkwL_law_19 : List UInt8 := [154, 0, 15, 45, 3, 47, 21, 6, 133, 148, 153, 0, 5, 3, 172, 167, 8, 165, 43, 182, 0, 178, 44]
abbrev dktL_law_19 : List UInt8 := dkwL_law_19 ++ dktL_law_20
def dkwL_law_18 : List UInt8 := [21, 4, 4, 96, 46, 182, 0, 177, 54, 6, 44, 182, 0, 155, 21, 5, 159, 0, 5, 3, 172, 21, 5]
abbrev dktL_law_18 : List UInt8 := dkwL_law_18 ++ dktL_law_19
def dkwL_law_17 : List UInt8 := [153, 0, 5, 3, 172, 167, 8, 221, 43, 42, 21, 4, 4, 96, 46, 45, 184, 0, 174, 54, 5, 44, 42]
abbrev dktL_law_17 : List UInt8 := dkwL_law_17 ++ dktL_law_18
def dkwL_law_16 : List UInt8 := [182, 0, 155, 21, 5, 159, 0, 5, 3, 172, 21, 5, 154, 0, 15, 45, 3, 47, 21, 6, 133, 148]
abbrev dktL_law_16 : List UInt8 := dkwL_law_16 ++ dktL_law_17
def dkwL_law_15 : List UInt8 := [184, 0, 170, 54, 5, 44, 42, 21, 4, 4, 96, 46, 42, 21, 4, 5, 96, 46, 182, 0, 173, 54, 6, 44]
abbrev dktL_law_15 : List UInt8 := dkwL_law_15 ++ dktL_law_16
def dkwL_law_14 : List UInt8 := [148, 153, 0, 5, 3, 172, 167, 9, 33, 43, 42, 21, 4, 4, 96, 46, 42, 21, 4, 5, 96, 46, 45]
abbrev dktL_law_14 : List UInt8 := dkwL_law_14 ++ dktL_law_15
def dkwL_law_13 : List UInt8 := [54, 6, 44, 182, 0, 155, 21, 5, 159, 0, 5, 3, 172, 21, 5, 154, 0, 15, 45, 3, 47, 21, 6, 133]
abbrev dktL_law_13 : List UInt8 := dkwL_law_13 ++ dktL_law_14
def dkwL_law_12 : List UInt8 := [5, 96, 46, 42, 21, 4, 6, 96, 46, 42, 21, 4, 7, 96, 46, 42, 21, 4, 8, 96, 46, 182, 0, 169]
abbrev dktL_law_12 : List UInt8 := dkwL_law_12 ++ dktL_law_13
def dkwL_law_11 : List UInt8 := [96, 46, 42, 21, 4, 8, 96, 46, 45, 184, 0, 166, 54, 5, 44, 42, 21, 4, 4, 96, 46, 42, 21, 4]
abbrev dktL_law_11 : List UInt8 := dkwL_law_11 ++ dktL_law_12
def dkwL_law_10 : List UInt8 := [172, 43, 42, 21, 4, 4, 96, 46, 42, 21, 4, 5, 96, 46, 42, 21, 4, 6, 96, 46, 42, 21, 4, 7]
abbrev dktL_law_10 : List UInt8 := dkwL_law_10 ++ dktL_law_11
def dkwL_law_9 : List UInt8 := [182, 0, 158, 44, 182, 0, 161, 159, 9, 152, 3, 172, 43, 182, 0, 162, 44, 182, 0, 165, 159, 9, 139, 3]
abbrev dktL_law_9 : List UInt8 := dkwL_law_9 ++ dktL_law_10
def dkwL_law_8 : List UInt8 := [3, 172, 21, 5, 154, 0, 15, 45, 3, 47, 21, 6, 133, 148, 153, 0, 5, 3, 172, 167, 9, 163, 43]
abbrev dktL_law_8 : List UInt8 := dkwL_law_8 ++ dktL_law_9
def dkwL_law_7 : List UInt8 := [3, 172, 43, 45, 184, 0, 149, 54, 5, 44, 182, 0, 154, 54, 6, 44, 182, 0, 155, 21, 5, 159, 0, 5]
abbrev dktL_law_7 : List UInt8 := dkwL_law_7 ++ dktL_law_8
def dkwL_law_6 : List UInt8 := [172, 43, 42, 21, 4, 4, 96, 46, 182, 0, 144, 44, 42, 21, 4, 4, 96, 46, 182, 0, 148, 159, 9, 209]
abbrev dktL_law_6 : List UInt8 := dkwL_law_6 ++ dktL_law_7
def dkwL_law_5 : List UInt8 := [21, 4, 6, 96, 46, 42, 21, 4, 7, 96, 46, 42, 21, 4, 8, 96, 46, 182, 0, 143, 159, 9, 234, 3]
abbrev dktL_law_5 : List UInt8 := dkwL_law_5 ++ dktL_law_6
def dkwL_law_4 : List UInt8 := [46, 42, 21, 4, 8, 96, 46, 182, 0, 140, 44, 42, 21, 4, 4, 96, 46, 42, 21, 4, 5, 96, 46, 42]
abbrev dktL_law_4 : List UInt8 := dkwL_law_4 ++ dktL_law_5
def dkwL_law_3 : List UInt8 := [43, 42, 21, 4, 4, 96, 46, 42, 21, 4, 5, 96, 46, 42, 21, 4, 6, 96, 46, 42, 21, 4, 7, 96]
abbrev dktL_law_3 : List UInt8 := dkwL_law_3 ++ dktL_law_4
def dkwL_law_2 : List UInt8 := [170, 0, 0, 0, 0, 0, 11, 46, 0, 0, 0, 0, 0, 0, 0, 59, 0, 0, 1, 0, 0, 0, 1, 73, 0, 0, 1, 98, 0, 0, 1, 142, 0, 0, 1, 155, 0, 0, 1, 168, 0, 0, 2, 16, 0, 0, 2, 84, 0, 0, 2, 140, 0, 0, 2, 153, 0, 0, 2, 197, 0, 0, 2, 241, 0, 0, 3, 41, 0, 0, 3, 97, 0, 0, 3, 141, 0, 0, 3, 197, 0, 0, 3, 241, 0, 0, 4, 29, 0, 0, 4, 42, 0, 0, 4, 98, 0, 0, 4, 142, 0, 0, 4, 186, 0, 0, 4, 230, 0, 0, 5, 30, 0, 0, 5, 43, 0, 0, 5, 87, 0, 0, 5, 155, 0, 0, 5, 223, 0, 0, 6, 35, 0, 0, 6, 103, 0, 0, 6, 171, 0, 0, 6, 239, 0, 0, 6, 252, 0, 0, 7, 9, 0, 0, 7, 34, 0, 0, 7, 47, 0, 0, 7, 103, 0, 0, 7, 183, 0, 0, 7, 196, 0, 0, 7, 252, 0, 0, 8, 64, 0, 0, 8, 77, 0, 0, 8, 145, 0, 0, 8, 170, 0, 0, 8, 183, 0, 0, 8, 196, 0, 0, 8, 209, 0, 0, 9, 21, 0, 0, 9, 89, 0, 0, 9, 157, 0, 0, 9, 213, 0, 0, 9, 226, 0, 0, 9, 239, 0, 0, 10, 27, 0, 0, 10, 71, 0, 0, 10, 84, 0, 0, 10, 97, 0, 0, 10, 153, 0, 0, 10, 221, 0, 0, 11, 21]
abbrev dktL_law_2 : List UInt8 := dkwL_law_2 ++ dktL_law_3
def dkwL_law_1 : List UInt8 := [21, 4, 42, 190, 16, 6, 100, 163, 11, 62, 42, 21, 4, 46, 16, 63, 126]
abbrev dktL_law_1 : List UInt8 := dkwL_law_1 ++ dktL_law_2
def dkwL_law_0 : List UInt8 := [187, 0, 8, 89, 183, 0, 136, 76, 187, 0, 137, 89, 183, 0, 139, 77, 4, 188, 11, 78, 3, 54, 4]
abbrev dktL_law_0 : List UInt8 := dkwL_law_0 ++ dktL_law_1
theorem dksL_law_0 : cL_law.data.toList.drop 0 = dktL_law_0 := sorry
theorem dksL_law_1 : cL_law.data.toList.drop 23 = dktL_law_1 := sorry
theorem dksL_law_2 : cL_law.data.toList.drop 40 = dktL_law_2 := sorry
theorem dksL_law_3 : cL_law.data.toList.drop 296 = dktL_law_3 := sorry
theorem dksL_law_4 : cL_law.data.toList.drop 320 = dktL_law_4 := sorry
theorem dksL_law_5 : cL_law.data.toList.drop 344 = dktL_law_5 := sorry
theorem dksL_law_6 : cL_law.data.toList.drop 368 = dktL_law_6 := sorry
theorem dksL_law_7 : cL_law.data.toList.drop 392 = dktL_law_7 := sorry
theorem dksL_law_8 : cL_law.data.toList.drop 416 = dktL_law_8 := sorry
theorem dksL_law_9 : cL_law.data.toList.drop 439 = dktL_law_9 := sorry
theorem dksL_law_10 : cL_law.data.toList.drop 463 = dktL_law_10 := sorry
theorem dksL_law_11 : cL_law.data.toList.drop 487 = dktL_law_11 := sorry
theorem dksL_law_12 : cL_law.data.toList.drop 511 = dktL_law_12 := sorry
theorem dksL_law_13 : cL_law.data.toList.drop 535 = dktL_law_13 := sorry
theorem dksL_law_14 : cL_law.data.toList.drop 559 = dktL_law_14 := sorry
theorem dksL_law_15 : cL_law.data.toList.drop 582 = dktL_law_15 := sorry
theorem dksL_law_16 : cL_law.data.toList.drop 606 = dktL_law_16 := sorry
theorem dksL_law_17 : cL_law.data.toList.drop 628 = dktL_law_17 := sorry
theorem dksL_law_18 : cL_law.data.toList.drop 651 = dktL_law_18 := sorry
theorem dksL_law_19 : cL_law.data.toList.drop 674 = dktL_law_19 := sorry
theorem dksL_law_20 : cL_law.data.toList.drop 697 = dktL_law_20 := sorry
theorem dksL_law_21 : cL_law.data.toList.drop 719 = dktL_law_21 := sorry
theorem dksL_law_22 : cL_law.data.toList.drop 741 = dktL_law_22 := sorry
theorem dksL_law_23 : cL_law.data.toList.drop 763 = dktL_law_23 := sorry
theorem dksL_law_24 : cL_law.data.toList.drop 785 = dktL_law_24 := sorry
theorem dksL_law_25 : cL_law.data.toList.drop 808 = dktL_law_25 := sorry
theorem dksL_law_26 : cL_law.data.toList.drop 831 = dktL_law_26 := sorry
theorem dksL_law_27 : cL_law.data.toList.drop 855 = dktL_law_27 := sorry
theorem dksL_law_28 : cL_law.data.toList.drop 878 = dktL_law_28 := sorry
theorem dksL_law_29 : cL_law.data.toList.drop 902 = dktL_law_29 := sorry
theorem dksL_law_30 : cL_law.data.toList.drop 924 = dktL_law_30 := sorry
theorem dksL_law_31 : cL_law.data.toList.drop 946 = dktL_law_31 := sorry
theorem dksL_law_32 : cL_law.data.toList.drop 969 = dktL_law_32 := sorry
theorem dksL_law_33 : cL_law.data.toList.drop 993 = dktL_law_33 := sorry
theorem dksL_law_34 : cL_law.data.toList.drop 1016 = dktL_law_34 := sorry
theorem dksL_law_35 : cL_law.data.toList.drop 1040 = dktL_law_35 := sorry
theorem dksL_law_36 : cL_law.data.toList.drop 1063 = dktL_law_36 := sorry
theorem dksL_law_37 : cL_law.data.toList.drop 1085 = dktL_law_37 := sorry
theorem dksL_law_38 : cL_law.data.toList.drop 1108 = dktL_law_38 := sorry
theorem dksL_law_39 : cL_law.data.toList.drop 1132 = dktL_law_39 := sorry
theorem dksL_law_40 : cL_law.data.toList.drop 1154 = dktL_law_40 := sorry
theorem dksL_law_41 : cL_law.data.toList.drop 1176 = dktL_law_41 := sorry
theorem dksL_law_42 : cL_law.data.toList.drop 1198 = dktL_law_42 := sorry
theorem dksL_law_43 : cL_law.data.toList.drop 1220 = dktL_law_43 := sorry
theorem dksL_law_44 : cL_law.data.toList.drop 1242 = dktL_law_44 := sorry
theorem dksL_law_45 : cL_law.data.toList.drop 1264 = dktL_law_45 := sorry
theorem dksL_law_46 : cL_law.data.toList.drop 1286 = dktL_law_46 := sorry
theorem dksL_law_47 : cL_law.data.toList.drop 1309 = dktL_law_47 := sorry
theorem dksL_law_48 : cL_law.data.toList.drop 1332 = dktL_law_48 := sorry
theorem dksL_law_49 : cL_law.data.toList.drop 1355 = dktL_law_49 := sorry
theorem dksL_law_50 : cL_law.data.toList.drop 1377 = dktL_law_50 := sorry
theorem dksL_law_51 : cL_law.data.toList.drop 1399 = dktL_law_51 := sorry
theorem dksL_law_52 : cL_law.data.toList.drop 1421 = dktL_law_52 := sorry
theorem dksL_law_53 : cL_law.data.toList.drop 1445 = dktL_law_53 := sorry
theorem dksL_law_54 : cL_law.data.toList.drop 1467 = dktL_law_54 := sorry
theorem dksL_law_55 : cL_law.data.toList.drop 1489 = dktL_law_55 := sorry
theorem dksL_law_56 : cL_law.data.toList.drop 1513 = dktL_law_56 := sorry
theorem dksL_law_57 : cL_law.data.toList.drop 1535 = dktL_law_57 := sorry
theorem dksL_law_58 : cL_law.data.toList.drop 1557 = dktL_law_58 := sorry
theorem dksL_law_59 : cL_law.data.toList.drop 1581 = dktL_law_59 := sorry
theorem dksL_law_60 : cL_law.data.toList.drop 1603 = dktL_law_60 := sorry
theorem dksL_law_61 : cL_law.data.toList.drop 1625 = dktL_law_61 := sorry
theorem dksL_law_62 : cL_law.data.toList.drop 1649 = dktL_law_62 := sorry
theorem dksL_law_63 : cL_law.data.toList.drop 1671 = dktL_law_63 := sorry
theorem dksL_law_64 : cL_law.data.toList.drop 1693 = dktL_law_64 := sorry
theorem dksL_law_65 : cL_law.data.toList.drop 1717 = dktL_law_65 := sorry
theorem dksL_law_66 : cL_law.data.toList.drop 1739 = dktL_law_66 := sorry
theorem dksL_law_67 : cL_law.data.toList.drop 1761 = dktL_law_67 := sorry
theorem dksL_law_68 : cL_law.data.toList.drop 1785 = dktL_law_68 := sorry
theorem dksL_law_69 : cL_law.data.toList.drop 1807 = dktL_law_69 := sorry
theorem dksL_law_70 : cL_law.data.toList.drop 1829 = dktL_law_70 := sorry
theorem dksL_law_71 : cL_law.data.toList.drop 1853 = dktL_law_71 := sorry
theorem dksL_law_72 : cL_law.data.toList.drop 1877 = dktL_law_72 := sorry
theorem dksL_law_73 : cL_law.data.toList.drop 1899 = dktL_law_73 := sorry
theorem dksL_law_74 : cL_law.data.toList.drop 1923 = dktL_law_74 := sorry
theorem dksL_law_75 : cL_law.data.toList.drop 1947 = dktL_law_75 := sorry
theorem dksL_law_76 : cL_law.data.toList.drop 1971 = dktL_law_76 := sorry
theorem dksL_law_77 : cL_law.data.toList.drop 1995 = dktL_law_77 := sorry
theorem dksL_law_78 : cL_law.data.toList.drop 2019 = dktL_law_78 := sorry
theorem dksL_law_79 : cL_law.data.toList.drop 2043 = dktL_law_79 := sorry
theorem dksL_law_80 : cL_law.data.toList.drop 2066 = dktL_law_80 := sorry
theorem dksL_law_81 : cL_law.data.toList.drop 2090 = dktL_law_81 := sorry
theorem dksL_law_82 : cL_law.data.toList.drop 2114 = dktL_law_82 := sorry
theorem dksL_law_83 : cL_law.data.toList.drop 2138 = dktL_law_83 := sorry
theorem dksL_law_84 : cL_law.data.toList.drop 2160 = dktL_law_84 := sorry
theorem dksL_law_85 : cL_law.data.toList.drop 2184 = dktL_law_85 := sorry
theorem dksL_law_86 : cL_law.data.toList.drop 2208 = dktL_law_86 := sorry
theorem dksL_law_87 : cL_law.data.toList.drop 2230 = dktL_law_87 := sorry
theorem dksL_law_88 : cL_law.data.toList.drop 2253 = dktL_law_88 := sorry
theorem dksL_law_89 : cL_law.data.toList.drop 2276 = dktL_law_89 := sorry
theorem dksL_law_90 : cL_law.data.toList.drop 2299 = dktL_law_90 := sorry
theorem dksL_law_91 : cL_law.data.toList.drop 2323 = dktL_law_91 := sorry
theorem dksL_law_92 : cL_law.data.toList.drop 2347 = dktL_law_92 := sorry
theorem dksL_law_93 : cL_law.data.toList.drop 2371 = dktL_law_93 := sorry
theorem dksL_law_94 : cL_law.data.toList.drop 2395 = dktL_law_94 := sorry
theorem dksL_law_95 : cL_law.data.toList.drop 2419 = dktL_law_95 := sorry
theorem dksL_law_96 : cL_law.data.toList.drop 2443 = dktL_law_96 := sorry
theorem dksL_law_97 : cL_law.data.toList.drop 2465 = dktL_law_97 := sorry
theorem dksL_law_98 : cL_law.data.toList.drop 2489 = dktL_law_98 := sorry
theorem dksL_law_99 : cL_law.data.toList.drop 2512 = dktL_law_99 := sorry
theorem dksL_law_100 : cL_law.data.toList.drop 2536 = dktL_law_100 := sorry
theorem dksL_law_101 : cL_law.data.toList.drop 2558 = dktL_law_101 := sorry
theorem dksL_law_102 : cL_law.data.toList.drop 2582 = dktL_law_102 := sorry
theorem dksL_law_103 : cL_law.data.toList.drop 2606 = dktL_law_103 := sorry
theorem dksL_law_104 : cL_law.data.toList.drop 2629 = dktL_law_104 := sorry
theorem dksL_law_105 : cL_law.data.toList.drop 2653 = dktL_law_105 := sorry
theorem dksL_law_106 : cL_law.data.toList.drop 2676 = dktL_law_106 := sorry
theorem dksL_law_107 : cL_law.data.toList.drop 2699 = dktL_law_107 := sorry
theorem dksL_law_108 : cL_law.data.toList.drop 2723 = dktL_law_108 := sorry
theorem dksL_law_109 : cL_law.data.toList.drop 2745 = dktL_law_109 := sorry
theorem dksL_law_110 : cL_law.data.toList.drop 2767 = dktL_law_110 := sorry
theorem dksL_law_111 : cL_law.data.toList.drop 2791 = dktL_law_111 := sorry
theorem dksL_law_112 : cL_law.data.toList.drop 2813 = dktL_law_112 := sorry
theorem dksL_law_113 : cL_law.data.toList.drop 2836 = dktL_law_113 := sorry
theorem dksL_law_114 : cL_law.data.toList.drop 2859 = dktL_law_114 := sorry
theorem dksL_law_115 : cL_law.data.toList.drop 2883 = dktL_law_115 := sorry
theorem dksL_law_116 : cL_law.data.toList.drop 2905 = dktL_law_116 := sorry
theorem dL_law_0 : decode cL_law 0 = .ok (.new 8, 3) := sorry
theorem dL_law_3 : decode cL_law 3 = .ok (.dup, 1) := sorry
theorem dL_law_4 : decode cL_law 4 = .ok (.invokespecial 136, 3) := sorry
theorem dL_law_7 : decode cL_law 7 = .ok (.astore_n 1, 1) := sorry
theorem dL_law_8 : decode cL_law 8 = .ok (.new 137, 3) := sorry
theorem dL_law_11 : decode cL_law 11 = .ok (.dup, 1) := sorry
theorem dL_law_12 : decode cL_law 12 = .ok (.invokespecial 139, 3) := sorry
theorem dL_law_15 : decode cL_law 15 = .ok (.astore_n 2, 1) := sorry
theorem dL_law_16 : decode cL_law 16 = .ok (.iconst 1, 1) := sorry
theorem dL_law_17 : decode cL_law 17 = .ok (.newarray .long, 2) := sorry
theorem dL_law_19 : decode cL_law 19 = .ok (.astore_n 3, 1) := sorry
theorem dL_law_20 : decode cL_law 20 = .ok (.iconst 0, 1) := sorry
theorem dL_law_21 : decode cL_law 21 = .ok (.istore 4, 2) := sorry
theorem dL_law_23 : decode cL_law 23 = .ok (.iload 4, 2) := sorry
theorem dL_law_25 : decode cL_law 25 = .ok (.aload_n 0, 1) := sorry
theorem dL_law_26 : decode cL_law 26 = .ok (.arraylength, 1) := sorry
theorem dL_law_27 : decode cL_law 27 = .ok (.bipush 6, 2) := sorry
theorem dL_law_29 : decode cL_law 29 = .ok (.isub, 1) := sorry
theorem dL_law_30 : decode cL_law 30 = .ok (.if_icmp .gt 2878, 3) := sorry
theorem dL_law_33 : decode cL_law 33 = .ok (.aload_n 0, 1) := sorry
theorem dL_law_34 : decode cL_law 34 = .ok (.iload 4, 2) := sorry
theorem dL_law_36 : decode cL_law 36 = .ok (.iaload, 1) := sorry
theorem dL_law_37 : decode cL_law 37 = .ok (.bipush 63, 2) := sorry
theorem dL_law_39 : decode cL_law 39 = .ok (.iand, 1) := sorry
theorem dL_law_40 : decode cL_law 40 = .ok (.tableswitch 2862 0 59 #[256, 329, 354, 398, 411, 424, 528, 596, 652, 665, 709, 753, 809, 865, 909, 965, 1009, 1053, 1066, 1122, 1166, 1210, 1254, 1310, 1323, 1367, 1435, 1503, 1571, 1639, 1707, 1775, 1788, 1801, 1826, 1839, 1895, 1975, 1988, 2044, 2112, 2125, 2193, 2218, 2231, 2244, 2257, 2325, 2393, 2461, 2517, 2530, 2543, 2587, 2631, 2644, 2657, 2713, 2781, 2837], 256) := sorry
theorem dL_law_296 : decode cL_law 296 = .ok (.aload_n 1, 1) := sorry
theorem dL_law_297 : decode cL_law 297 = .ok (.aload_n 0, 1) := sorry
theorem dL_law_298 : decode cL_law 298 = .ok (.iload 4, 2) := sorry
theorem dL_law_300 : decode cL_law 300 = .ok (.iconst 1, 1) := sorry
theorem dL_law_301 : decode cL_law 301 = .ok (.iadd, 1) := sorry
theorem dL_law_302 : decode cL_law 302 = .ok (.iaload, 1) := sorry
theorem dL_law_303 : decode cL_law 303 = .ok (.aload_n 0, 1) := sorry
theorem dL_law_304 : decode cL_law 304 = .ok (.iload 4, 2) := sorry
theorem dL_law_306 : decode cL_law 306 = .ok (.iconst 2, 1) := sorry
theorem dL_law_307 : decode cL_law 307 = .ok (.iadd, 1) := sorry
theorem dL_law_308 : decode cL_law 308 = .ok (.iaload, 1) := sorry
theorem dL_law_309 : decode cL_law 309 = .ok (.aload_n 0, 1) := sorry
theorem dL_law_310 : decode cL_law 310 = .ok (.iload 4, 2) := sorry
theorem dL_law_312 : decode cL_law 312 = .ok (.iconst 3, 1) := sorry
theorem dL_law_313 : decode cL_law 313 = .ok (.iadd, 1) := sorry
theorem dL_law_314 : decode cL_law 314 = .ok (.iaload, 1) := sorry
theorem dL_law_315 : decode cL_law 315 = .ok (.aload_n 0, 1) := sorry
theorem dL_law_316 : decode cL_law 316 = .ok (.iload 4, 2) := sorry
theorem dL_law_318 : decode cL_law 318 = .ok (.iconst 4, 1) := sorry
theorem dL_law_319 : decode cL_law 319 = .ok (.iadd, 1) := sorry
theorem dL_law_320 : decode cL_law 320 = .ok (.iaload, 1) := sorry
theorem dL_law_321 : decode cL_law 321 = .ok (.aload_n 0, 1) := sorry
theorem dL_law_322 : decode cL_law 322 = .ok (.iload 4, 2) := sorry
theorem dL_law_324 : decode cL_law 324 = .ok (.iconst 5, 1) := sorry
theorem dL_law_325 : decode cL_law 325 = .ok (.iadd, 1) := sorry
theorem dL_law_326 : decode cL_law 326 = .ok (.iaload, 1) := sorry
theorem dL_law_327 : decode cL_law 327 = .ok (.invokevirtual 140, 3) := sorry
theorem dL_law_330 : decode cL_law 330 = .ok (.aload_n 2, 1) := sorry
theorem dL_law_331 : decode cL_law 331 = .ok (.aload_n 0, 1) := sorry
theorem dL_law_332 : decode cL_law 332 = .ok (.iload 4, 2) := sorry
theorem dL_law_334 : decode cL_law 334 = .ok (.iconst 1, 1) := sorry
theorem dL_law_335 : decode cL_law 335 = .ok (.iadd, 1) := sorry
theorem dL_law_336 : decode cL_law 336 = .ok (.iaload, 1) := sorry
theorem dL_law_337 : decode cL_law 337 = .ok (.aload_n 0, 1) := sorry
theorem dL_law_338 : decode cL_law 338 = .ok (.iload 4, 2) := sorry
theorem dL_law_340 : decode cL_law 340 = .ok (.iconst 2, 1) := sorry
theorem dL_law_341 : decode cL_law 341 = .ok (.iadd, 1) := sorry
theorem dL_law_342 : decode cL_law 342 = .ok (.iaload, 1) := sorry
theorem dL_law_343 : decode cL_law 343 = .ok (.aload_n 0, 1) := sorry
theorem dL_law_344 : decode cL_law 344 = .ok (.iload 4, 2) := sorry
theorem dL_law_346 : decode cL_law 346 = .ok (.iconst 3, 1) := sorry
theorem dL_law_347 : decode cL_law 347 = .ok (.iadd, 1) := sorry
theorem dL_law_348 : decode cL_law 348 = .ok (.iaload, 1) := sorry
theorem dL_law_349 : decode cL_law 349 = .ok (.aload_n 0, 1) := sorry
theorem dL_law_350 : decode cL_law 350 = .ok (.iload 4, 2) := sorry
theorem dL_law_352 : decode cL_law 352 = .ok (.iconst 4, 1) := sorry
theorem dL_law_353 : decode cL_law 353 = .ok (.iadd, 1) := sorry
theorem dL_law_354 : decode cL_law 354 = .ok (.iaload, 1) := sorry
theorem dL_law_355 : decode cL_law 355 = .ok (.aload_n 0, 1) := sorry
theorem dL_law_356 : decode cL_law 356 = .ok (.iload 4, 2) := sorry
theorem dL_law_358 : decode cL_law 358 = .ok (.iconst 5, 1) := sorry
theorem dL_law_359 : decode cL_law 359 = .ok (.iadd, 1) := sorry
theorem dL_law_360 : decode cL_law 360 = .ok (.iaload, 1) := sorry
theorem dL_law_361 : decode cL_law 361 = .ok (.invokevirtual 143, 3) := sorry
theorem dL_law_364 : decode cL_law 364 = .ok (.if_icmp .eq 2538, 3) := sorry
theorem dL_law_367 : decode cL_law 367 = .ok (.iconst 0, 1) := sorry
theorem dL_law_368 : decode cL_law 368 = .ok (.ireturn, 1) := sorry
theorem dL_law_369 : decode cL_law 369 = .ok (.aload_n 1, 1) := sorry
theorem dL_law_370 : decode cL_law 370 = .ok (.aload_n 0, 1) := sorry
theorem dL_law_371 : decode cL_law 371 = .ok (.iload 4, 2) := sorry
theorem dL_law_373 : decode cL_law 373 = .ok (.iconst 1, 1) := sorry
theorem dL_law_374 : decode cL_law 374 = .ok (.iadd, 1) := sorry
theorem dL_law_375 : decode cL_law 375 = .ok (.iaload, 1) := sorry
theorem dL_law_376 : decode cL_law 376 = .ok (.invokevirtual 144, 3) := sorry
theorem dL_law_379 : decode cL_law 379 = .ok (.aload_n 2, 1) := sorry
theorem dL_law_380 : decode cL_law 380 = .ok (.aload_n 0, 1) := sorry
theorem dL_law_381 : decode cL_law 381 = .ok (.iload 4, 2) := sorry
theorem dL_law_383 : decode cL_law 383 = .ok (.iconst 1, 1) := sorry
theorem dL_law_384 : decode cL_law 384 = .ok (.iadd, 1) := sorry
theorem dL_law_385 : decode cL_law 385 = .ok (.iaload, 1) := sorry
theorem dL_law_386 : decode cL_law 386 = .ok (.invokevirtual 148, 3) := sorry
theorem dL_law_389 : decode cL_law 389 = .ok (.if_icmp .eq 2513, 3) := sorry
theorem dL_law_392 : decode cL_law 392 = .ok (.iconst 0, 1) := sorry
theorem dL_law_393 : decode cL_law 393 = .ok (.ireturn, 1) := sorry
theorem dL_law_394 : decode cL_law 394 = .ok (.aload_n 1, 1) := sorry
theorem dL_law_395 : decode cL_law 395 = .ok (.aload_n 3, 1) := sorry
theorem dL_law_396 : decode cL_law 396 = .ok (.invokestatic 149, 3) := sorry
theorem dL_law_399 : decode cL_law 399 = .ok (.istore 5, 2) := sorry
theorem dL_law_401 : decode cL_law 401 = .ok (.aload_n 2, 1) := sorry
theorem dL_law_402 : decode cL_law 402 = .ok (.invokevirtual 154, 3) := sorry
theorem dL_law_405 : decode cL_law 405 = .ok (.istore 6, 2) := sorry
theorem dL_law_407 : decode cL_law 407 = .ok (.aload_n 2, 1) := sorry
theorem dL_law_408 : decode cL_law 408 = .ok (.invokevirtual 155, 3) := sorry
theorem dL_law_411 : decode cL_law 411 = .ok (.iload 5, 2) := sorry
theorem dL_law_413 : decode cL_law 413 = .ok (.if_icmp .eq 5, 3) := sorry
theorem dL_law_416 : decode cL_law 416 = .ok (.iconst 0, 1) := sorry
theorem dL_law_417 : decode cL_law 417 = .ok (.ireturn, 1) := sorry
theorem dL_law_418 : decode cL_law 418 = .ok (.iload 5, 2) := sorry
theorem dL_law_420 : decode cL_law 420 = .ok (.ifCond .ne 15, 3) := sorry
theorem dL_law_423 : decode cL_law 423 = .ok (.aload_n 3, 1) := sorry
theorem dL_law_424 : decode cL_law 424 = .ok (.iconst 0, 1) := sorry
theorem dL_law_425 : decode cL_law 425 = .ok (.laload, 1) := sorry
theorem dL_law_426 : decode cL_law 426 = .ok (.iload 6, 2) := sorry
theorem dL_law_428 : decode cL_law 428 = .ok (.i2l, 1) := sorry
theorem dL_law_429 : decode cL_law 429 = .ok (.lcmp, 1) := sorry
theorem dL_law_430 : decode cL_law 430 = .ok (.ifCond .eq 5, 3) := sorry
theorem dL_law_433 : decode cL_law 433 = .ok (.iconst 0, 1) := sorry
theorem dL_law_434 : decode cL_law 434 = .ok (.ireturn, 1) := sorry
theorem dL_law_435 : decode cL_law 435 = .ok (.goto 2467, 3) := sorry
theorem dL_law_438 : decode cL_law 438 = .ok (.aload_n 1, 1) := sorry
theorem dL_law_439 : decode cL_law 439 = .ok (.invokevirtual 158, 3) := sorry
theorem dL_law_442 : decode cL_law 442 = .ok (.aload_n 2, 1) := sorry
theorem dL_law_443 : decode cL_law 443 = .ok (.invokevirtual 161, 3) := sorry
theorem dL_law_446 : decode cL_law 446 = .ok (.if_icmp .eq 2456, 3) := sorry
theorem dL_law_449 : decode cL_law 449 = .ok (.iconst 0, 1) := sorry
theorem dL_law_450 : decode cL_law 450 = .ok (.ireturn, 1) := sorry
theorem dL_law_451 : decode cL_law 451 = .ok (.aload_n 1, 1) := sorry
theorem dL_law_452 : decode cL_law 452 = .ok (.invokevirtual 162, 3) := sorry
theorem dL_law_455 : decode cL_law 455 = .ok (.aload_n 2, 1) := sorry
theorem dL_law_456 : decode cL_law 456 = .ok (.invokevirtual 165, 3) := sorry
theorem dL_law_459 : decode cL_law 459 = .ok (.if_icmp .eq 2443, 3) := sorry
theorem dL_law_462 : decode cL_law 462 = .ok (.iconst 0, 1) := sorry
theorem dL_law_463 : decode cL_law 463 = .ok (.ireturn, 1) := sorry
theorem dL_law_464 : decode cL_law 464 = .ok (.aload_n 1, 1) := sorry
theorem dL_law_465 : decode cL_law 465 = .ok (.aload_n 0, 1) := sorry
theorem dL_law_466 : decode cL_law 466 = .ok (.iload 4, 2) := sorry
theorem dL_law_468 : decode cL_law 468 = .ok (.iconst 1, 1) := sorry
theorem dL_law_469 : decode cL_law 469 = .ok (.iadd, 1) := sorry
theorem dL_law_470 : decode cL_law 470 = .ok (.iaload, 1) := sorry
theorem dL_law_471 : decode cL_law 471 = .ok (.aload_n 0, 1) := sorry
theorem dL_law_472 : decode cL_law 472 = .ok (.iload 4, 2) := sorry
theorem dL_law_474 : decode cL_law 474 = .ok (.iconst 2, 1) := sorry
theorem dL_law_475 : decode cL_law 475 = .ok (.iadd, 1) := sorry
theorem dL_law_476 : decode cL_law 476 = .ok (.iaload, 1) := sorry
theorem dL_law_477 : decode cL_law 477 = .ok (.aload_n 0, 1) := sorry
theorem dL_law_478 : decode cL_law 478 = .ok (.iload 4, 2) := sorry
theorem dL_law_480 : decode cL_law 480 = .ok (.iconst 3, 1) := sorry
theorem dL_law_481 : decode cL_law 481 = .ok (.iadd, 1) := sorry
theorem dL_law_482 : decode cL_law 482 = .ok (.iaload, 1) := sorry
theorem dL_law_483 : decode cL_law 483 = .ok (.aload_n 0, 1) := sorry
theorem dL_law_484 : decode cL_law 484 = .ok (.iload 4, 2) := sorry
theorem dL_law_486 : decode cL_law 486 = .ok (.iconst 4, 1) := sorry
theorem dL_law_487 : decode cL_law 487 = .ok (.iadd, 1) := sorry
theorem dL_law_488 : decode cL_law 488 = .ok (.iaload, 1) := sorry
theorem dL_law_489 : decode cL_law 489 = .ok (.aload_n 0, 1) := sorry
theorem dL_law_490 : decode cL_law 490 = .ok (.iload 4, 2) := sorry
theorem dL_law_492 : decode cL_law 492 = .ok (.iconst 5, 1) := sorry
theorem dL_law_493 : decode cL_law 493 = .ok (.iadd, 1) := sorry
theorem dL_law_494 : decode cL_law 494 = .ok (.iaload, 1) := sorry
theorem dL_law_495 : decode cL_law 495 = .ok (.aload_n 3, 1) := sorry
theorem dL_law_496 : decode cL_law 496 = .ok (.invokestatic 166, 3) := sorry
theorem dL_law_499 : decode cL_law 499 = .ok (.istore 5, 2) := sorry
theorem dL_law_501 : decode cL_law 501 = .ok (.aload_n 2, 1) := sorry
theorem dL_law_502 : decode cL_law 502 = .ok (.aload_n 0, 1) := sorry
theorem dL_law_503 : decode cL_law 503 = .ok (.iload 4, 2) := sorry
theorem dL_law_505 : decode cL_law 505 = .ok (.iconst 1, 1) := sorry
theorem dL_law_506 : decode cL_law 506 = .ok (.iadd, 1) := sorry
theorem dL_law_507 : decode cL_law 507 = .ok (.iaload, 1) := sorry
theorem dL_law_508 : decode cL_law 508 = .ok (.aload_n 0, 1) := sorry
theorem dL_law_509 : decode cL_law 509 = .ok (.iload 4, 2) := sorry
theorem dL_law_511 : decode cL_law 511 = .ok (.iconst 2, 1) := sorry
theorem dL_law_512 : decode cL_law 512 = .ok (.iadd, 1) := sorry
theorem dL_law_513 : decode cL_law 513 = .ok (.iaload, 1) := sorry
theorem dL_law_514 : decode cL_law 514 = .ok (.aload_n 0, 1) := sorry
theorem dL_law_515 : decode cL_law 515 = .ok (.iload 4, 2) := sorry
theorem dL_law_517 : decode cL_law 517 = .ok (.iconst 3, 1) := sorry
theorem dL_law_518 : decode cL_law 518 = .ok (.iadd, 1) := sorry
theorem dL_law_519 : decode cL_law 519 = .ok (.iaload, 1) := sorry
theorem dL_law_520 : decode cL_law 520 = .ok (.aload_n 0, 1) := sorry
theorem dL_law_521 : decode cL_law 521 = .ok (.iload 4, 2) := sorry
theorem dL_law_523 : decode cL_law 523 = .ok (.iconst 4, 1) := sorry
theorem dL_law_524 : decode cL_law 524 = .ok (.iadd, 1) := sorry
theorem dL_law_525 : decode cL_law 525 = .ok (.iaload, 1) := sorry
theorem dL_law_526 : decode cL_law 526 = .ok (.aload_n 0, 1) := sorry
theorem dL_law_527 : decode cL_law 527 = .ok (.iload 4, 2) := sorry
theorem dL_law_529 : decode cL_law 529 = .ok (.iconst 5, 1) := sorry
theorem dL_law_530 : decode cL_law 530 = .ok (.iadd, 1) := sorry
theorem dL_law_531 : decode cL_law 531 = .ok (.iaload, 1) := sorry
theorem dL_law_532 : decode cL_law 532 = .ok (.invokevirtual 169, 3) := sorry
theorem dL_law_535 : decode cL_law 535 = .ok (.istore 6, 2) := sorry
theorem dL_law_537 : decode cL_law 537 = .ok (.aload_n 2, 1) := sorry
theorem dL_law_538 : decode cL_law 538 = .ok (.invokevirtual 155, 3) := sorry
theorem dL_law_541 : decode cL_law 541 = .ok (.iload 5, 2) := sorry
theorem dL_law_543 : decode cL_law 543 = .ok (.if_icmp .eq 5, 3) := sorry
theorem dL_law_546 : decode cL_law 546 = .ok (.iconst 0, 1) := sorry
theorem dL_law_547 : decode cL_law 547 = .ok (.ireturn, 1) := sorry
theorem dL_law_548 : decode cL_law 548 = .ok (.iload 5, 2) := sorry
theorem dL_law_550 : decode cL_law 550 = .ok (.ifCond .ne 15, 3) := sorry
theorem dL_law_553 : decode cL_law 553 = .ok (.aload_n 3, 1) := sorry
theorem dL_law_554 : decode cL_law 554 = .ok (.iconst 0, 1) := sorry
theorem dL_law_555 : decode cL_law 555 = .ok (.laload, 1) := sorry
theorem dL_law_556 : decode cL_law 556 = .ok (.iload 6, 2) := sorry
theorem dL_law_558 : decode cL_law 558 = .ok (.i2l, 1) := sorry
theorem dL_law_559 : decode cL_law 559 = .ok (.lcmp, 1) := sorry
theorem dL_law_560 : decode cL_law 560 = .ok (.ifCond .eq 5, 3) := sorry
theorem dL_law_563 : decode cL_law 563 = .ok (.iconst 0, 1) := sorry
theorem dL_law_564 : decode cL_law 564 = .ok (.ireturn, 1) := sorry
theorem dL_law_565 : decode cL_law 565 = .ok (.goto 2337, 3) := sorry
theorem dL_law_568 : decode cL_law 568 = .ok (.aload_n 1, 1) := sorry
theorem dL_law_569 : decode cL_law 569 = .ok (.aload_n 0, 1) := sorry
theorem dL_law_570 : decode cL_law 570 = .ok (.iload 4, 2) := sorry
theorem dL_law_572 : decode cL_law 572 = .ok (.iconst 1, 1) := sorry
theorem dL_law_573 : decode cL_law 573 = .ok (.iadd, 1) := sorry
theorem dL_law_574 : decode cL_law 574 = .ok (.iaload, 1) := sorry
theorem dL_law_575 : decode cL_law 575 = .ok (.aload_n 0, 1) := sorry
theorem dL_law_576 : decode cL_law 576 = .ok (.iload 4, 2) := sorry
theorem dL_law_578 : decode cL_law 578 = .ok (.iconst 2, 1) := sorry
theorem dL_law_579 : decode cL_law 579 = .ok (.iadd, 1) := sorry
theorem dL_law_580 : decode cL_law 580 = .ok (.iaload, 1) := sorry
theorem dL_law_581 : decode cL_law 581 = .ok (.aload_n 3, 1) := sorry
theorem dL_law_582 : decode cL_law 582 = .ok (.invokestatic 170, 3) := sorry
theorem dL_law_585 : decode cL_law 585 = .ok (.istore 5, 2) := sorry
theorem dL_law_587 : decode cL_law 587 = .ok (.aload_n 2, 1) := sorry
theorem dL_law_588 : decode cL_law 588 = .ok (.aload_n 0, 1) := sorry
theorem dL_law_589 : decode cL_law 589 = .ok (.iload 4, 2) := sorry
theorem dL_law_591 : decode cL_law 591 = .ok (.iconst 1, 1) := sorry
theorem dL_law_592 : decode cL_law 592 = .ok (.iadd, 1) := sorry
theorem dL_law_593 : decode cL_law 593 = .ok (.iaload, 1) := sorry
theorem dL_law_594 : decode cL_law 594 = .ok (.aload_n 0, 1) := sorry
theorem dL_law_595 : decode cL_law 595 = .ok (.iload 4, 2) := sorry
theorem dL_law_597 : decode cL_law 597 = .ok (.iconst 2, 1) := sorry
theorem dL_law_598 : decode cL_law 598 = .ok (.iadd, 1) := sorry
theorem dL_law_599 : decode cL_law 599 = .ok (.iaload, 1) := sorry
theorem dL_law_600 : decode cL_law 600 = .ok (.invokevirtual 173, 3) := sorry
theorem dL_law_603 : decode cL_law 603 = .ok (.istore 6, 2) := sorry
theorem dL_law_605 : decode cL_law 605 = .ok (.aload_n 2, 1) := sorry
theorem dL_law_606 : decode cL_law 606 = .ok (.invokevirtual 155, 3) := sorry
theorem dL_law_609 : decode cL_law 609 = .ok (.iload 5, 2) := sorry
theorem dL_law_611 : decode cL_law 611 = .ok (.if_icmp .eq 5, 3) := sorry
theorem dL_law_614 : decode cL_law 614 = .ok (.iconst 0, 1) := sorry
theorem dL_law_615 : decode cL_law 615 = .ok (.ireturn, 1) := sorry
theorem dL_law_616 : decode cL_law 616 = .ok (.iload 5, 2) := sorry
theorem dL_law_618 : decode cL_law 618 = .ok (.ifCond .ne 15, 3) := sorry
theorem dL_law_621 : decode cL_law 621 = .ok (.aload_n 3, 1) := sorry
theorem dL_law_622 : decode cL_law 622 = .ok (.iconst 0, 1) := sorry
theorem dL_law_623 : decode cL_law 623 = .ok (.laload, 1) := sorry
theorem dL_law_624 : decode cL_law 624 = .ok (.iload 6, 2) := sorry
theorem dL_law_626 : decode cL_law 626 = .ok (.i2l, 1) := sorry
theorem dL_law_627 : decode cL_law 627 = .ok (.lcmp, 1) := sorry
theorem dL_law_628 : decode cL_law 628 = .ok (.ifCond .eq 5, 3) := sorry
theorem dL_law_631 : decode cL_law 631 = .ok (.iconst 0, 1) := sorry
theorem dL_law_632 : decode cL_law 632 = .ok (.ireturn, 1) := sorry
theorem dL_law_633 : decode cL_law 633 = .ok (.goto 2269, 3) := sorry
theorem dL_law_636 : decode cL_law 636 = .ok (.aload_n 1, 1) := sorry
theorem dL_law_637 : decode cL_law 637 = .ok (.aload_n 0, 1) := sorry
theorem dL_law_638 : decode cL_law 638 = .ok (.iload 4, 2) := sorry
theorem dL_law_640 : decode cL_law 640 = .ok (.iconst 1, 1) := sorry
theorem dL_law_641 : decode cL_law 641 = .ok (.iadd, 1) := sorry
theorem dL_law_642 : decode cL_law 642 = .ok (.iaload, 1) := sorry
theorem dL_law_643 : decode cL_law 643 = .ok (.aload_n 3, 1) := sorry
theorem dL_law_644 : decode cL_law 644 = .ok (.invokestatic 174, 3) := sorry
theorem dL_law_647 : decode cL_law 647 = .ok (.istore 5, 2) := sorry
theorem dL_law_649 : decode cL_law 649 = .ok (.aload_n 2, 1) := sorry
theorem dL_law_650 : decode cL_law 650 = .ok (.aload_n 0, 1) := sorry
theorem dL_law_651 : decode cL_law 651 = .ok (.iload 4, 2) := sorry
theorem dL_law_653 : decode cL_law 653 = .ok (.iconst 1, 1) := sorry
theorem dL_law_654 : decode cL_law 654 = .ok (.iadd, 1) := sorry
theorem dL_law_655 : decode cL_law 655 = .ok (.iaload, 1) := sorry
theorem dL_law_656 : decode cL_law 656 = .ok (.invokevirtual 177, 3) := sorry
theorem dL_law_659 : decode cL_law 659 = .ok (.istore 6, 2) := sorry
theorem dL_law_661 : decode cL_law 661 = .ok (.aload_n 2, 1) := sorry
theorem dL_law_662 : decode cL_law 662 = .ok (.invokevirtual 155, 3) := sorry
theorem dL_law_665 : decode cL_law 665 = .ok (.iload 5, 2) := sorry
theorem dL_law_667 : decode cL_law 667 = .ok (.if_icmp .eq 5, 3) := sorry
theorem dL_law_670 : decode cL_law 670 = .ok (.iconst 0, 1) := sorry
theorem dL_law_671 : decode cL_law 671 = .ok (.ireturn, 1) := sorry
theorem dL_law_672 : decode cL_law 672 = .ok (.iload 5, 2) := sorry
theorem dL_law_674 : decode cL_law 674 = .ok (.ifCond .ne 15, 3) := sorry
theorem dL_law_677 : decode cL_law 677 = .ok (.aload_n 3, 1) := sorry
theorem dL_law_678 : decode cL_law 678 = .ok (.iconst 0, 1) := sorry
theorem dL_law_679 : decode cL_law 679 = .ok (.laload, 1) := sorry
theorem dL_law_680 : decode cL_law 680 = .ok (.iload 6, 2) := sorry
theorem dL_law_682 : decode cL_law 682 = .ok (.i2l, 1) := sorry
theorem dL_law_683 : decode cL_law 683 = .ok (.lcmp, 1) := sorry
theorem dL_law_684 : decode cL_law 684 = .ok (.ifCond .eq 5, 3) := sorry
theorem dL_law_687 : decode cL_law 687 = .ok (.iconst 0, 1) := sorry
theorem dL_law_688 : decode cL_law 688 = .ok (.ireturn, 1) := sorry
theorem dL_law_689 : decode cL_law 689 = .ok (.goto 2213, 3) := sorry
theorem dL_law_692 : decode cL_law 692 = .ok (.aload_n 1, 1) := sorry
theorem dL_law_693 : decode cL_law 693 = .ok (.invokevirtual 178, 3) := sorry
theorem dL_law_696 : decode cL_law 696 = .ok (.aload_n 2, 1) := sorry
theorem dL_law_697 : decode cL_law 697 = .ok (.invokevirtual 181, 3) := sorry
theorem dL_law_700 : decode cL_law 700 = .ok (.if_icmp .eq 2202, 3) := sorry
theorem dL_law_703 : decode cL_law 703 = .ok (.iconst 0, 1) := sorry
theorem dL_law_704 : decode cL_law 704 = .ok (.ireturn, 1) := sorry
theorem dL_law_705 : decode cL_law 705 = .ok (.aload_n 1, 1) := sorry
theorem dL_law_706 : decode cL_law 706 = .ok (.aload_n 3, 1) := sorry
theorem dL_law_707 : decode cL_law 707 = .ok (.invokestatic 182, 3) := sorry
theorem dL_law_710 : decode cL_law 710 = .ok (.istore 5, 2) := sorry
theorem dL_law_712 : decode cL_law 712 = .ok (.aload_n 2, 1) := sorry
theorem dL_law_713 : decode cL_law 713 = .ok (.invokevirtual 184, 3) := sorry
theorem dL_law_716 : decode cL_law 716 = .ok (.istore 6, 2) := sorry
theorem dL_law_718 : decode cL_law 718 = .ok (.aload_n 2, 1) := sorry
theorem dL_law_719 : decode cL_law 719 = .ok (.invokevirtual 155, 3) := sorry
theorem dL_law_722 : decode cL_law 722 = .ok (.iload 5, 2) := sorry
theorem dL_law_724 : decode cL_law 724 = .ok (.if_icmp .eq 5, 3) := sorry
theorem dL_law_727 : decode cL_law 727 = .ok (.iconst 0, 1) := sorry
theorem dL_law_728 : decode cL_law 728 = .ok (.ireturn, 1) := sorry
theorem dL_law_729 : decode cL_law 729 = .ok (.iload 5, 2) := sorry
theorem dL_law_731 : decode cL_law 731 = .ok (.ifCond .ne 15, 3) := sorry
theorem dL_law_734 : decode cL_law 734 = .ok (.aload_n 3, 1) := sorry
theorem dL_law_735 : decode cL_law 735 = .ok (.iconst 0, 1) := sorry
theorem dL_law_736 : decode cL_law 736 = .ok (.laload, 1) := sorry
theorem dL_law_737 : decode cL_law 737 = .ok (.iload 6, 2) := sorry
theorem dL_law_739 : decode cL_law 739 = .ok (.i2l, 1) := sorry
theorem dL_law_740 : decode cL_law 740 = .ok (.lcmp, 1) := sorry
theorem dL_law_741 : decode cL_law 741 = .ok (.ifCond .eq 5, 3) := sorry
theorem dL_law_744 : decode cL_law 744 = .ok (.iconst 0, 1) := sorry
theorem dL_law_745 : decode cL_law 745 = .ok (.ireturn, 1) := sorry
theorem dL_law_746 : decode cL_law 746 = .ok (.goto 2156, 3) := sorry
theorem dL_law_749 : decode cL_law 749 = .ok (.aload_n 1, 1) := sorry
theorem dL_law_750 : decode cL_law 750 = .ok (.aload_n 3, 1) := sorry
theorem dL_law_751 : decode cL_law 751 = .ok (.invokestatic 185, 3) := sorry
theorem dL_law_754 : decode cL_law 754 = .ok (.istore 5, 2) := sorry
theorem dL_law_756 : decode cL_law 756 = .ok (.aload_n 2, 1) := sorry
theorem dL_law_757 : decode cL_law 757 = .ok (.invokevirtual 187, 3) := sorry
theorem dL_law_760 : decode cL_law 760 = .ok (.istore 6, 2) := sorry
theorem dL_law_762 : decode cL_law 762 = .ok (.aload_n 2, 1) := sorry
theorem dL_law_763 : decode cL_law 763 = .ok (.invokevirtual 155, 3) := sorry
theorem dL_law_766 : decode cL_law 766 = .ok (.iload 5, 2) := sorry
theorem dL_law_768 : decode cL_law 768 = .ok (.if_icmp .eq 5, 3) := sorry
theorem dL_law_771 : decode cL_law 771 = .ok (.iconst 0, 1) := sorry
theorem dL_law_772 : decode cL_law 772 = .ok (.ireturn, 1) := sorry
theorem dL_law_773 : decode cL_law 773 = .ok (.iload 5, 2) := sorry
theorem dL_law_775 : decode cL_law 775 = .ok (.ifCond .ne 15, 3) := sorry
theorem dL_law_778 : decode cL_law 778 = .ok (.aload_n 3, 1) := sorry
theorem dL_law_779 : decode cL_law 779 = .ok (.iconst 0, 1) := sorry
theorem dL_law_780 : decode cL_law 780 = .ok (.laload, 1) := sorry
theorem dL_law_781 : decode cL_law 781 = .ok (.iload 6, 2) := sorry
theorem dL_law_783 : decode cL_law 783 = .ok (.i2l, 1) := sorry
theorem dL_law_784 : decode cL_law 784 = .ok (.lcmp, 1) := sorry
theorem dL_law_785 : decode cL_law 785 = .ok (.ifCond .eq 5, 3) := sorry
theorem dL_law_788 : decode cL_law 788 = .ok (.iconst 0, 1) := sorry
theorem dL_law_789 : decode cL_law 789 = .ok (.ireturn, 1) := sorry
theorem dL_law_790 : decode cL_law 790 = .ok (.goto 2112, 3) := sorry
theorem dL_law_793 : decode cL_law 793 = .ok (.aload_n 1, 1) := sorry
theorem dL_law_794 : decode cL_law 794 = .ok (.aload_n 0, 1) := sorry
theorem dL_law_795 : decode cL_law 795 = .ok (.iload 4, 2) := sorry
theorem dL_law_797 : decode cL_law 797 = .ok (.iconst 1, 1) := sorry
theorem dL_law_798 : decode cL_law 798 = .ok (.iadd, 1) := sorry
theorem dL_law_799 : decode cL_law 799 = .ok (.iaload, 1) := sorry
theorem dL_law_800 : decode cL_law 800 = .ok (.aload_n 3, 1) := sorry
theorem dL_law_801 : decode cL_law 801 = .ok (.invokestatic 188, 3) := sorry
theorem dL_law_804 : decode cL_law 804 = .ok (.istore 5, 2) := sorry
theorem dL_law_806 : decode cL_law 806 = .ok (.aload_n 2, 1) := sorry
theorem dL_law_807 : decode cL_law 807 = .ok (.aload_n 0, 1) := sorry
theorem dL_law_808 : decode cL_law 808 = .ok (.iload 4, 2) := sorry
theorem dL_law_810 : decode cL_law 810 = .ok (.iconst 1, 1) := sorry
theorem dL_law_811 : decode cL_law 811 = .ok (.iadd, 1) := sorry
theorem dL_law_812 : decode cL_law 812 = .ok (.iaload, 1) := sorry
theorem dL_law_813 : decode cL_law 813 = .ok (.invokevirtual 190, 3) := sorry
theorem dL_law_816 : decode cL_law 816 = .ok (.istore 6, 2) := sorry
theorem dL_law_818 : decode cL_law 818 = .ok (.aload_n 2, 1) := sorry
theorem dL_law_819 : decode cL_law 819 = .ok (.invokevirtual 155, 3) := sorry
theorem dL_law_822 : decode cL_law 822 = .ok (.iload 5, 2) := sorry
theorem dL_law_824 : decode cL_law 824 = .ok (.if_icmp .eq 5, 3) := sorry
theorem dL_law_827 : decode cL_law 827 = .ok (.iconst 0, 1) := sorry
theorem dL_law_828 : decode cL_law 828 = .ok (.ireturn, 1) := sorry
theorem dL_law_829 : decode cL_law 829 = .ok (.iload 5, 2) := sorry
theorem dL_law_831 : decode cL_law 831 = .ok (.ifCond .ne 15, 3) := sorry
theorem dL_law_834 : decode cL_law 834 = .ok (.aload_n 3, 1) := sorry
theorem dL_law_835 : decode cL_law 835 = .ok (.iconst 0, 1) := sorry
theorem dL_law_836 : decode cL_law 836 = .ok (.laload, 1) := sorry
theorem dL_law_837 : decode cL_law 837 = .ok (.iload 6, 2) := sorry
theorem dL_law_839 : decode cL_law 839 = .ok (.i2l, 1) := sorry
theorem dL_law_840 : decode cL_law 840 = .ok (.lcmp, 1) := sorry
theorem dL_law_841 : decode cL_law 841 = .ok (.ifCond .eq 5, 3) := sorry
theorem dL_law_844 : decode cL_law 844 = .ok (.iconst 0, 1) := sorry
theorem dL_law_845 : decode cL_law 845 = .ok (.ireturn, 1) := sorry
theorem dL_law_846 : decode cL_law 846 = .ok (.goto 2056, 3) := sorry
theorem dL_law_849 : decode cL_law 849 = .ok (.aload_n 1, 1) := sorry
theorem dL_law_850 : decode cL_law 850 = .ok (.aload_n 0, 1) := sorry
theorem dL_law_851 : decode cL_law 851 = .ok (.iload 4, 2) := sorry
theorem dL_law_853 : decode cL_law 853 = .ok (.iconst 1, 1) := sorry
theorem dL_law_854 : decode cL_law 854 = .ok (.iadd, 1) := sorry
theorem dL_law_855 : decode cL_law 855 = .ok (.iaload, 1) := sorry
theorem dL_law_856 : decode cL_law 856 = .ok (.aload_n 3, 1) := sorry
theorem dL_law_857 : decode cL_law 857 = .ok (.invokestatic 191, 3) := sorry
theorem dL_law_860 : decode cL_law 860 = .ok (.istore 5, 2) := sorry
theorem dL_law_862 : decode cL_law 862 = .ok (.aload_n 2, 1) := sorry
theorem dL_law_863 : decode cL_law 863 = .ok (.aload_n 0, 1) := sorry
theorem dL_law_864 : decode cL_law 864 = .ok (.iload 4, 2) := sorry
theorem dL_law_866 : decode cL_law 866 = .ok (.iconst 1, 1) := sorry
theorem dL_law_867 : decode cL_law 867 = .ok (.iadd, 1) := sorry
theorem dL_law_868 : decode cL_law 868 = .ok (.iaload, 1) := sorry
theorem dL_law_869 : decode cL_law 869 = .ok (.invokevirtual 193, 3) := sorry
theorem dL_law_872 : decode cL_law 872 = .ok (.istore 6, 2) := sorry
theorem dL_law_874 : decode cL_law 874 = .ok (.aload_n 2, 1) := sorry
theorem dL_law_875 : decode cL_law 875 = .ok (.invokevirtual 155, 3) := sorry
theorem dL_law_878 : decode cL_law 878 = .ok (.iload 5, 2) := sorry
theorem dL_law_880 : decode cL_law 880 = .ok (.if_icmp .eq 5, 3) := sorry
theorem dL_law_883 : decode cL_law 883 = .ok (.iconst 0, 1) := sorry
theorem dL_law_884 : decode cL_law 884 = .ok (.ireturn, 1) := sorry
theorem dL_law_885 : decode cL_law 885 = .ok (.iload 5, 2) := sorry
theorem dL_law_887 : decode cL_law 887 = .ok (.ifCond .ne 15, 3) := sorry
theorem dL_law_890 : decode cL_law 890 = .ok (.aload_n 3, 1) := sorry
theorem dL_law_891 : decode cL_law 891 = .ok (.iconst 0, 1) := sorry
theorem dL_law_892 : decode cL_law 892 = .ok (.laload, 1) := sorry
theorem dL_law_893 : decode cL_law 893 = .ok (.iload 6, 2) := sorry
theorem dL_law_895 : decode cL_law 895 = .ok (.i2l, 1) := sorry
theorem dL_law_896 : decode cL_law 896 = .ok (.lcmp, 1) := sorry
theorem dL_law_897 : decode cL_law 897 = .ok (.ifCond .eq 5, 3) := sorry
theorem dL_law_900 : decode cL_law 900 = .ok (.iconst 0, 1) := sorry
theorem dL_law_901 : decode cL_law 901 = .ok (.ireturn, 1) := sorry
theorem dL_law_902 : decode cL_law 902 = .ok (.goto 2000, 3) := sorry
theorem dL_law_905 : decode cL_law 905 = .ok (.aload_n 1, 1) := sorry
theorem dL_law_906 : decode cL_law 906 = .ok (.aload_n 3, 1) := sorry
theorem dL_law_907 : decode cL_law 907 = .ok (.invokestatic 194, 3) := sorry
theorem dL_law_910 : decode cL_law 910 = .ok (.istore 5, 2) := sorry
theorem dL_law_912 : decode cL_law 912 = .ok (.aload_n 2, 1) := sorry
theorem dL_law_913 : decode cL_law 913 = .ok (.invokevirtual 196, 3) := sorry
theorem dL_law_916 : decode cL_law 916 = .ok (.istore 6, 2) := sorry
theorem dL_law_918 : decode cL_law 918 = .ok (.aload_n 2, 1) := sorry
theorem dL_law_919 : decode cL_law 919 = .ok (.invokevirtual 155, 3) := sorry
theorem dL_law_922 : decode cL_law 922 = .ok (.iload 5, 2) := sorry
theorem dL_law_924 : decode cL_law 924 = .ok (.if_icmp .eq 5, 3) := sorry
theorem dL_law_927 : decode cL_law 927 = .ok (.iconst 0, 1) := sorry
theorem dL_law_928 : decode cL_law 928 = .ok (.ireturn, 1) := sorry
theorem dL_law_929 : decode cL_law 929 = .ok (.iload 5, 2) := sorry
theorem dL_law_931 : decode cL_law 931 = .ok (.ifCond .ne 15, 3) := sorry
theorem dL_law_934 : decode cL_law 934 = .ok (.aload_n 3, 1) := sorry
theorem dL_law_935 : decode cL_law 935 = .ok (.iconst 0, 1) := sorry
theorem dL_law_936 : decode cL_law 936 = .ok (.laload, 1) := sorry
theorem dL_law_937 : decode cL_law 937 = .ok (.iload 6, 2) := sorry
theorem dL_law_939 : decode cL_law 939 = .ok (.i2l, 1) := sorry
theorem dL_law_940 : decode cL_law 940 = .ok (.lcmp, 1) := sorry
theorem dL_law_941 : decode cL_law 941 = .ok (.ifCond .eq 5, 3) := sorry
theorem dL_law_944 : decode cL_law 944 = .ok (.iconst 0, 1) := sorry
theorem dL_law_945 : decode cL_law 945 = .ok (.ireturn, 1) := sorry
theorem dL_law_946 : decode cL_law 946 = .ok (.goto 1956, 3) := sorry
theorem dL_law_949 : decode cL_law 949 = .ok (.aload_n 1, 1) := sorry
theorem dL_law_950 : decode cL_law 950 = .ok (.aload_n 0, 1) := sorry
theorem dL_law_951 : decode cL_law 951 = .ok (.iload 4, 2) := sorry
theorem dL_law_953 : decode cL_law 953 = .ok (.iconst 1, 1) := sorry
theorem dL_law_954 : decode cL_law 954 = .ok (.iadd, 1) := sorry
theorem dL_law_955 : decode cL_law 955 = .ok (.iaload, 1) := sorry
theorem dL_law_956 : decode cL_law 956 = .ok (.aload_n 3, 1) := sorry
theorem dL_law_957 : decode cL_law 957 = .ok (.invokestatic 197, 3) := sorry
theorem dL_law_960 : decode cL_law 960 = .ok (.istore 5, 2) := sorry
theorem dL_law_962 : decode cL_law 962 = .ok (.aload_n 2, 1) := sorry
theorem dL_law_963 : decode cL_law 963 = .ok (.aload_n 0, 1) := sorry
theorem dL_law_964 : decode cL_law 964 = .ok (.iload 4, 2) := sorry
theorem dL_law_966 : decode cL_law 966 = .ok (.iconst 1, 1) := sorry
theorem dL_law_967 : decode cL_law 967 = .ok (.iadd, 1) := sorry
theorem dL_law_968 : decode cL_law 968 = .ok (.iaload, 1) := sorry
theorem dL_law_969 : decode cL_law 969 = .ok (.invokevirtual 199, 3) := sorry
theorem dL_law_972 : decode cL_law 972 = .ok (.istore 6, 2) := sorry
theorem dL_law_974 : decode cL_law 974 = .ok (.aload_n 2, 1) := sorry
theorem dL_law_975 : decode cL_law 975 = .ok (.invokevirtual 155, 3) := sorry
theorem dL_law_978 : decode cL_law 978 = .ok (.iload 5, 2) := sorry
theorem dL_law_980 : decode cL_law 980 = .ok (.if_icmp .eq 5, 3) := sorry
theorem dL_law_983 : decode cL_law 983 = .ok (.iconst 0, 1) := sorry
theorem dL_law_984 : decode cL_law 984 = .ok (.ireturn, 1) := sorry
theorem dL_law_985 : decode cL_law 985 = .ok (.iload 5, 2) := sorry
theorem dL_law_987 : decode cL_law 987 = .ok (.ifCond .ne 15, 3) := sorry
theorem dL_law_990 : decode cL_law 990 = .ok (.aload_n 3, 1) := sorry
theorem dL_law_991 : decode cL_law 991 = .ok (.iconst 0, 1) := sorry
theorem dL_law_992 : decode cL_law 992 = .ok (.laload, 1) := sorry
theorem dL_law_993 : decode cL_law 993 = .ok (.iload 6, 2) := sorry
theorem dL_law_995 : decode cL_law 995 = .ok (.i2l, 1) := sorry
theorem dL_law_996 : decode cL_law 996 = .ok (.lcmp, 1) := sorry
theorem dL_law_997 : decode cL_law 997 = .ok (.ifCond .eq 5, 3) := sorry
theorem dL_law_1000 : decode cL_law 1000 = .ok (.iconst 0, 1) := sorry
theorem dL_law_1001 : decode cL_law 1001 = .ok (.ireturn, 1) := sorry
theorem dL_law_1002 : decode cL_law 1002 = .ok (.goto 1900, 3) := sorry
theorem dL_law_1005 : decode cL_law 1005 = .ok (.aload_n 1, 1) := sorry
theorem dL_law_1006 : decode cL_law 1006 = .ok (.aload_n 3, 1) := sorry
theorem dL_law_1007 : decode cL_law 1007 = .ok (.invokestatic 200, 3) := sorry
theorem dL_law_1010 : decode cL_law 1010 = .ok (.istore 5, 2) := sorry
theorem dL_law_1012 : decode cL_law 1012 = .ok (.aload_n 2, 1) := sorry
theorem dL_law_1013 : decode cL_law 1013 = .ok (.invokevirtual 202, 3) := sorry
theorem dL_law_1016 : decode cL_law 1016 = .ok (.istore 6, 2) := sorry
theorem dL_law_1018 : decode cL_law 1018 = .ok (.aload_n 2, 1) := sorry
theorem dL_law_1019 : decode cL_law 1019 = .ok (.invokevirtual 155, 3) := sorry
theorem dL_law_1022 : decode cL_law 1022 = .ok (.iload 5, 2) := sorry
theorem dL_law_1024 : decode cL_law 1024 = .ok (.if_icmp .eq 5, 3) := sorry
theorem dL_law_1027 : decode cL_law 1027 = .ok (.iconst 0, 1) := sorry
theorem dL_law_1028 : decode cL_law 1028 = .ok (.ireturn, 1) := sorry
theorem dL_law_1029 : decode cL_law 1029 = .ok (.iload 5, 2) := sorry
theorem dL_law_1031 : decode cL_law 1031 = .ok (.ifCond .ne 15, 3) := sorry
theorem dL_law_1034 : decode cL_law 1034 = .ok (.aload_n 3, 1) := sorry
theorem dL_law_1035 : decode cL_law 1035 = .ok (.iconst 0, 1) := sorry
theorem dL_law_1036 : decode cL_law 1036 = .ok (.laload, 1) := sorry
theorem dL_law_1037 : decode cL_law 1037 = .ok (.iload 6, 2) := sorry
theorem dL_law_1039 : decode cL_law 1039 = .ok (.i2l, 1) := sorry
theorem dL_law_1040 : decode cL_law 1040 = .ok (.lcmp, 1) := sorry
theorem dL_law_1041 : decode cL_law 1041 = .ok (.ifCond .eq 5, 3) := sorry
theorem dL_law_1044 : decode cL_law 1044 = .ok (.iconst 0, 1) := sorry
theorem dL_law_1045 : decode cL_law 1045 = .ok (.ireturn, 1) := sorry
theorem dL_law_1046 : decode cL_law 1046 = .ok (.goto 1856, 3) := sorry
theorem dL_law_1049 : decode cL_law 1049 = .ok (.aload_n 1, 1) := sorry
theorem dL_law_1050 : decode cL_law 1050 = .ok (.aload_n 3, 1) := sorry
theorem dL_law_1051 : decode cL_law 1051 = .ok (.invokestatic 203, 3) := sorry
theorem dL_law_1054 : decode cL_law 1054 = .ok (.istore 5, 2) := sorry
theorem dL_law_1056 : decode cL_law 1056 = .ok (.aload_n 2, 1) := sorry
theorem dL_law_1057 : decode cL_law 1057 = .ok (.invokevirtual 205, 3) := sorry
theorem dL_law_1060 : decode cL_law 1060 = .ok (.istore 6, 2) := sorry
theorem dL_law_1062 : decode cL_law 1062 = .ok (.aload_n 2, 1) := sorry
theorem dL_law_1063 : decode cL_law 1063 = .ok (.invokevirtual 155, 3) := sorry
theorem dL_law_1066 : decode cL_law 1066 = .ok (.iload 5, 2) := sorry
theorem dL_law_1068 : decode cL_law 1068 = .ok (.if_icmp .eq 5, 3) := sorry
theorem dL_law_1071 : decode cL_law 1071 = .ok (.iconst 0, 1) := sorry
theorem dL_law_1072 : decode cL_law 1072 = .ok (.ireturn, 1) := sorry
theorem dL_law_1073 : decode cL_law 1073 = .ok (.iload 5, 2) := sorry
theorem dL_law_1075 : decode cL_law 1075 = .ok (.ifCond .ne 15, 3) := sorry
theorem dL_law_1078 : decode cL_law 1078 = .ok (.aload_n 3, 1) := sorry
theorem dL_law_1079 : decode cL_law 1079 = .ok (.iconst 0, 1) := sorry
theorem dL_law_1080 : decode cL_law 1080 = .ok (.laload, 1) := sorry
theorem dL_law_1081 : decode cL_law 1081 = .ok (.iload 6, 2) := sorry
theorem dL_law_1083 : decode cL_law 1083 = .ok (.i2l, 1) := sorry
theorem dL_law_1084 : decode cL_law 1084 = .ok (.lcmp, 1) := sorry
theorem dL_law_1085 : decode cL_law 1085 = .ok (.ifCond .eq 5, 3) := sorry
theorem dL_law_1088 : decode cL_law 1088 = .ok (.iconst 0, 1) := sorry
theorem dL_law_1089 : decode cL_law 1089 = .ok (.ireturn, 1) := sorry
theorem dL_law_1090 : decode cL_law 1090 = .ok (.goto 1812, 3) := sorry
theorem dL_law_1093 : decode cL_law 1093 = .ok (.aload_n 1, 1) := sorry
theorem dL_law_1094 : decode cL_law 1094 = .ok (.invokevirtual 206, 3) := sorry
theorem dL_law_1097 : decode cL_law 1097 = .ok (.aload_n 2, 1) := sorry
theorem dL_law_1098 : decode cL_law 1098 = .ok (.invokevirtual 210, 3) := sorry
theorem dL_law_1101 : decode cL_law 1101 = .ok (.if_icmp .eq 1801, 3) := sorry
theorem dL_law_1104 : decode cL_law 1104 = .ok (.iconst 0, 1) := sorry
theorem dL_law_1105 : decode cL_law 1105 = .ok (.ireturn, 1) := sorry
theorem dL_law_1106 : decode cL_law 1106 = .ok (.aload_n 1, 1) := sorry
theorem dL_law_1107 : decode cL_law 1107 = .ok (.aload_n 0, 1) := sorry
theorem dL_law_1108 : decode cL_law 1108 = .ok (.iload 4, 2) := sorry
theorem dL_law_1110 : decode cL_law 1110 = .ok (.iconst 1, 1) := sorry
theorem dL_law_1111 : decode cL_law 1111 = .ok (.iadd, 1) := sorry
theorem dL_law_1112 : decode cL_law 1112 = .ok (.iaload, 1) := sorry
theorem dL_law_1113 : decode cL_law 1113 = .ok (.aload_n 3, 1) := sorry
theorem dL_law_1114 : decode cL_law 1114 = .ok (.invokestatic 211, 3) := sorry
theorem dL_law_1117 : decode cL_law 1117 = .ok (.istore 5, 2) := sorry
theorem dL_law_1119 : decode cL_law 1119 = .ok (.aload_n 2, 1) := sorry
theorem dL_law_1120 : decode cL_law 1120 = .ok (.aload_n 0, 1) := sorry
theorem dL_law_1121 : decode cL_law 1121 = .ok (.iload 4, 2) := sorry
theorem dL_law_1123 : decode cL_law 1123 = .ok (.iconst 1, 1) := sorry
theorem dL_law_1124 : decode cL_law 1124 = .ok (.iadd, 1) := sorry
theorem dL_law_1125 : decode cL_law 1125 = .ok (.iaload, 1) := sorry
theorem dL_law_1126 : decode cL_law 1126 = .ok (.invokevirtual 213, 3) := sorry
theorem dL_law_1129 : decode cL_law 1129 = .ok (.istore 6, 2) := sorry
theorem dL_law_1131 : decode cL_law 1131 = .ok (.aload_n 2, 1) := sorry
theorem dL_law_1132 : decode cL_law 1132 = .ok (.invokevirtual 155, 3) := sorry
theorem dL_law_1135 : decode cL_law 1135 = .ok (.iload 5, 2) := sorry
theorem dL_law_1137 : decode cL_law 1137 = .ok (.if_icmp .eq 5, 3) := sorry
theorem dL_law_1140 : decode cL_law 1140 = .ok (.iconst 0, 1) := sorry
theorem dL_law_1141 : decode cL_law 1141 = .ok (.ireturn, 1) := sorry
theorem dL_law_1142 : decode cL_law 1142 = .ok (.iload 5, 2) := sorry
theorem dL_law_1144 : decode cL_law 1144 = .ok (.ifCond .ne 15, 3) := sorry
theorem dL_law_1147 : decode cL_law 1147 = .ok (.aload_n 3, 1) := sorry
theorem dL_law_1148 : decode cL_law 1148 = .ok (.iconst 0, 1) := sorry
theorem dL_law_1149 : decode cL_law 1149 = .ok (.laload, 1) := sorry
theorem dL_law_1150 : decode cL_law 1150 = .ok (.iload 6, 2) := sorry
theorem dL_law_1152 : decode cL_law 1152 = .ok (.i2l, 1) := sorry
theorem dL_law_1153 : decode cL_law 1153 = .ok (.lcmp, 1) := sorry
theorem dL_law_1154 : decode cL_law 1154 = .ok (.ifCond .eq 5, 3) := sorry
theorem dL_law_1157 : decode cL_law 1157 = .ok (.iconst 0, 1) := sorry
theorem dL_law_1158 : decode cL_law 1158 = .ok (.ireturn, 1) := sorry
theorem dL_law_1159 : decode cL_law 1159 = .ok (.goto 1743, 3) := sorry
theorem dL_law_1162 : decode cL_law 1162 = .ok (.aload_n 1, 1) := sorry
theorem dL_law_1163 : decode cL_law 1163 = .ok (.aload_n 3, 1) := sorry
theorem dL_law_1164 : decode cL_law 1164 = .ok (.invokestatic 214, 3) := sorry
theorem dL_law_1167 : decode cL_law 1167 = .ok (.istore 5, 2) := sorry
theorem dL_law_1169 : decode cL_law 1169 = .ok (.aload_n 2, 1) := sorry
theorem dL_law_1170 : decode cL_law 1170 = .ok (.invokevirtual 216, 3) := sorry
theorem dL_law_1173 : decode cL_law 1173 = .ok (.istore 6, 2) := sorry
theorem dL_law_1175 : decode cL_law 1175 = .ok (.aload_n 2, 1) := sorry
theorem dL_law_1176 : decode cL_law 1176 = .ok (.invokevirtual 155, 3) := sorry
theorem dL_law_1179 : decode cL_law 1179 = .ok (.iload 5, 2) := sorry
theorem dL_law_1181 : decode cL_law 1181 = .ok (.if_icmp .eq 5, 3) := sorry
theorem dL_law_1184 : decode cL_law 1184 = .ok (.iconst 0, 1) := sorry
theorem dL_law_1185 : decode cL_law 1185 = .ok (.ireturn, 1) := sorry
theorem dL_law_1186 : decode cL_law 1186 = .ok (.iload 5, 2) := sorry
theorem dL_law_1188 : decode cL_law 1188 = .ok (.ifCond .ne 15, 3) := sorry
theorem dL_law_1191 : decode cL_law 1191 = .ok (.aload_n 3, 1) := sorry
theorem dL_law_1192 : decode cL_law 1192 = .ok (.iconst 0, 1) := sorry
theorem dL_law_1193 : decode cL_law 1193 = .ok (.laload, 1) := sorry
theorem dL_law_1194 : decode cL_law 1194 = .ok (.iload 6, 2) := sorry
theorem dL_law_1196 : decode cL_law 1196 = .ok (.i2l, 1) := sorry
theorem dL_law_1197 : decode cL_law 1197 = .ok (.lcmp, 1) := sorry
theorem dL_law_1198 : decode cL_law 1198 = .ok (.ifCond .eq 5, 3) := sorry
theorem dL_law_1201 : decode cL_law 1201 = .ok (.iconst 0, 1) := sorry
theorem dL_law_1202 : decode cL_law 1202 = .ok (.ireturn, 1) := sorry
theorem dL_law_1203 : decode cL_law 1203 = .ok (.goto 1699, 3) := sorry
theorem dL_law_1206 : decode cL_law 1206 = .ok (.aload_n 1, 1) := sorry
theorem dL_law_1207 : decode cL_law 1207 = .ok (.aload_n 3, 1) := sorry
theorem dL_law_1208 : decode cL_law 1208 = .ok (.invokestatic 217, 3) := sorry
theorem dL_law_1211 : decode cL_law 1211 = .ok (.istore 5, 2) := sorry
theorem dL_law_1213 : decode cL_law 1213 = .ok (.aload_n 2, 1) := sorry
theorem dL_law_1214 : decode cL_law 1214 = .ok (.invokevirtual 219, 3) := sorry
theorem dL_law_1217 : decode cL_law 1217 = .ok (.istore 6, 2) := sorry
theorem dL_law_1219 : decode cL_law 1219 = .ok (.aload_n 2, 1) := sorry
theorem dL_law_1220 : decode cL_law 1220 = .ok (.invokevirtual 155, 3) := sorry
theorem dL_law_1223 : decode cL_law 1223 = .ok (.iload 5, 2) := sorry
theorem dL_law_1225 : decode cL_law 1225 = .ok (.if_icmp .eq 5, 3) := sorry
theorem dL_law_1228 : decode cL_law 1228 = .ok (.iconst 0, 1) := sorry
theorem dL_law_1229 : decode cL_law 1229 = .ok (.ireturn, 1) := sorry
theorem dL_law_1230 : decode cL_law 1230 = .ok (.iload 5, 2) := sorry
theorem dL_law_1232 : decode cL_law 1232 = .ok (.ifCond .ne 15, 3) := sorry
theorem dL_law_1235 : decode cL_law 1235 = .ok (.aload_n 3, 1) := sorry
theorem dL_law_1236 : decode cL_law 1236 = .ok (.iconst 0, 1) := sorry
theorem dL_law_1237 : decode cL_law 1237 = .ok (.laload, 1) := sorry
theorem dL_law_1238 : decode cL_law 1238 = .ok (.iload 6, 2) := sorry
theorem dL_law_1240 : decode cL_law 1240 = .ok (.i2l, 1) := sorry
theorem dL_law_1241 : decode cL_law 1241 = .ok (.lcmp, 1) := sorry
theorem dL_law_1242 : decode cL_law 1242 = .ok (.ifCond .eq 5, 3) := sorry
theorem dL_law_1245 : decode cL_law 1245 = .ok (.iconst 0, 1) := sorry
theorem dL_law_1246 : decode cL_law 1246 = .ok (.ireturn, 1) := sorry
theorem dL_law_1247 : decode cL_law 1247 = .ok (.goto 1655, 3) := sorry
theorem dL_law_1250 : decode cL_law 1250 = .ok (.aload_n 1, 1) := sorry
theorem dL_law_1251 : decode cL_law 1251 = .ok (.aload_n 3, 1) := sorry
theorem dL_law_1252 : decode cL_law 1252 = .ok (.invokestatic 220, 3) := sorry
theorem dL_law_1255 : decode cL_law 1255 = .ok (.istore 5, 2) := sorry
theorem dL_law_1257 : decode cL_law 1257 = .ok (.aload_n 2, 1) := sorry
theorem dL_law_1258 : decode cL_law 1258 = .ok (.invokevirtual 222, 3) := sorry
theorem dL_law_1261 : decode cL_law 1261 = .ok (.istore 6, 2) := sorry
theorem dL_law_1263 : decode cL_law 1263 = .ok (.aload_n 2, 1) := sorry
theorem dL_law_1264 : decode cL_law 1264 = .ok (.invokevirtual 155, 3) := sorry
theorem dL_law_1267 : decode cL_law 1267 = .ok (.iload 5, 2) := sorry
theorem dL_law_1269 : decode cL_law 1269 = .ok (.if_icmp .eq 5, 3) := sorry
theorem dL_law_1272 : decode cL_law 1272 = .ok (.iconst 0, 1) := sorry
theorem dL_law_1273 : decode cL_law 1273 = .ok (.ireturn, 1) := sorry
theorem dL_law_1274 : decode cL_law 1274 = .ok (.iload 5, 2) := sorry
theorem dL_law_1276 : decode cL_law 1276 = .ok (.ifCond .ne 15, 3) := sorry
theorem dL_law_1279 : decode cL_law 1279 = .ok (.aload_n 3, 1) := sorry
theorem dL_law_1280 : decode cL_law 1280 = .ok (.iconst 0, 1) := sorry
theorem dL_law_1281 : decode cL_law 1281 = .ok (.laload, 1) := sorry
theorem dL_law_1282 : decode cL_law 1282 = .ok (.iload 6, 2) := sorry
theorem dL_law_1284 : decode cL_law 1284 = .ok (.i2l, 1) := sorry
theorem dL_law_1285 : decode cL_law 1285 = .ok (.lcmp, 1) := sorry
theorem dL_law_1286 : decode cL_law 1286 = .ok (.ifCond .eq 5, 3) := sorry
theorem dL_law_1289 : decode cL_law 1289 = .ok (.iconst 0, 1) := sorry
theorem dL_law_1290 : decode cL_law 1290 = .ok (.ireturn, 1) := sorry
theorem dL_law_1291 : decode cL_law 1291 = .ok (.goto 1611, 3) := sorry
theorem dL_law_1294 : decode cL_law 1294 = .ok (.aload_n 1, 1) := sorry
theorem dL_law_1295 : decode cL_law 1295 = .ok (.aload_n 0, 1) := sorry
theorem dL_law_1296 : decode cL_law 1296 = .ok (.iload 4, 2) := sorry
theorem dL_law_1298 : decode cL_law 1298 = .ok (.iconst 1, 1) := sorry
theorem dL_law_1299 : decode cL_law 1299 = .ok (.iadd, 1) := sorry
theorem dL_law_1300 : decode cL_law 1300 = .ok (.iaload, 1) := sorry
theorem dL_law_1301 : decode cL_law 1301 = .ok (.aload_n 3, 1) := sorry
theorem dL_law_1302 : decode cL_law 1302 = .ok (.invokestatic 223, 3) := sorry
theorem dL_law_1305 : decode cL_law 1305 = .ok (.istore 5, 2) := sorry
theorem dL_law_1307 : decode cL_law 1307 = .ok (.aload_n 2, 1) := sorry
theorem dL_law_1308 : decode cL_law 1308 = .ok (.aload_n 0, 1) := sorry
theorem dL_law_1309 : decode cL_law 1309 = .ok (.iload 4, 2) := sorry
theorem dL_law_1311 : decode cL_law 1311 = .ok (.iconst 1, 1) := sorry
theorem dL_law_1312 : decode cL_law 1312 = .ok (.iadd, 1) := sorry
theorem dL_law_1313 : decode cL_law 1313 = .ok (.iaload, 1) := sorry
theorem dL_law_1314 : decode cL_law 1314 = .ok (.invokevirtual 225, 3) := sorry
theorem dL_law_1317 : decode cL_law 1317 = .ok (.istore 6, 2) := sorry
theorem dL_law_1319 : decode cL_law 1319 = .ok (.aload_n 2, 1) := sorry
theorem dL_law_1320 : decode cL_law 1320 = .ok (.invokevirtual 155, 3) := sorry
theorem dL_law_1323 : decode cL_law 1323 = .ok (.iload 5, 2) := sorry
theorem dL_law_1325 : decode cL_law 1325 = .ok (.if_icmp .eq 5, 3) := sorry
theorem dL_law_1328 : decode cL_law 1328 = .ok (.iconst 0, 1) := sorry
theorem dL_law_1329 : decode cL_law 1329 = .ok (.ireturn, 1) := sorry
theorem dL_law_1330 : decode cL_law 1330 = .ok (.iload 5, 2) := sorry
theorem dL_law_1332 : decode cL_law 1332 = .ok (.ifCond .ne 15, 3) := sorry
theorem dL_law_1335 : decode cL_law 1335 = .ok (.aload_n 3, 1) := sorry
theorem dL_law_1336 : decode cL_law 1336 = .ok (.iconst 0, 1) := sorry
theorem dL_law_1337 : decode cL_law 1337 = .ok (.laload, 1) := sorry
theorem dL_law_1338 : decode cL_law 1338 = .ok (.iload 6, 2) := sorry
theorem dL_law_1340 : decode cL_law 1340 = .ok (.i2l, 1) := sorry
theorem dL_law_1341 : decode cL_law 1341 = .ok (.lcmp, 1) := sorry
theorem dL_law_1342 : decode cL_law 1342 = .ok (.ifCond .eq 5, 3) := sorry
theorem dL_law_1345 : decode cL_law 1345 = .ok (.iconst 0, 1) := sorry
theorem dL_law_1346 : decode cL_law 1346 = .ok (.ireturn, 1) := sorry
theorem dL_law_1347 : decode cL_law 1347 = .ok (.goto 1555, 3) := sorry
theorem dL_law_1350 : decode cL_law 1350 = .ok (.aload_n 1, 1) := sorry
theorem dL_law_1351 : decode cL_law 1351 = .ok (.invokevirtual 226, 3) := sorry
theorem dL_law_1354 : decode cL_law 1354 = .ok (.aload_n 2, 1) := sorry
theorem dL_law_1355 : decode cL_law 1355 = .ok (.invokevirtual 229, 3) := sorry
theorem dL_law_1358 : decode cL_law 1358 = .ok (.if_icmp .eq 1544, 3) := sorry
theorem dL_law_1361 : decode cL_law 1361 = .ok (.iconst 0, 1) := sorry
theorem dL_law_1362 : decode cL_law 1362 = .ok (.ireturn, 1) := sorry
theorem dL_law_1363 : decode cL_law 1363 = .ok (.aload_n 1, 1) := sorry
theorem dL_law_1364 : decode cL_law 1364 = .ok (.aload_n 3, 1) := sorry
theorem dL_law_1365 : decode cL_law 1365 = .ok (.invokestatic 230, 3) := sorry
theorem dL_law_1368 : decode cL_law 1368 = .ok (.istore 5, 2) := sorry
theorem dL_law_1370 : decode cL_law 1370 = .ok (.aload_n 2, 1) := sorry
theorem dL_law_1371 : decode cL_law 1371 = .ok (.invokevirtual 232, 3) := sorry
theorem dL_law_1374 : decode cL_law 1374 = .ok (.istore 6, 2) := sorry
theorem dL_law_1376 : decode cL_law 1376 = .ok (.aload_n 2, 1) := sorry
theorem dL_law_1377 : decode cL_law 1377 = .ok (.invokevirtual 155, 3) := sorry
theorem dL_law_1380 : decode cL_law 1380 = .ok (.iload 5, 2) := sorry
theorem dL_law_1382 : decode cL_law 1382 = .ok (.if_icmp .eq 5, 3) := sorry
theorem dL_law_1385 : decode cL_law 1385 = .ok (.iconst 0, 1) := sorry
theorem dL_law_1386 : decode cL_law 1386 = .ok (.ireturn, 1) := sorry
theorem dL_law_1387 : decode cL_law 1387 = .ok (.iload 5, 2) := sorry
theorem dL_law_1389 : decode cL_law 1389 = .ok (.ifCond .ne 15, 3) := sorry
theorem dL_law_1392 : decode cL_law 1392 = .ok (.aload_n 3, 1) := sorry
theorem dL_law_1393 : decode cL_law 1393 = .ok (.iconst 0, 1) := sorry
theorem dL_law_1394 : decode cL_law 1394 = .ok (.laload, 1) := sorry
theorem dL_law_1395 : decode cL_law 1395 = .ok (.iload 6, 2) := sorry
theorem dL_law_1397 : decode cL_law 1397 = .ok (.i2l, 1) := sorry
theorem dL_law_1398 : decode cL_law 1398 = .ok (.lcmp, 1) := sorry
theorem dL_law_1399 : decode cL_law 1399 = .ok (.ifCond .eq 5, 3) := sorry
theorem dL_law_1402 : decode cL_law 1402 = .ok (.iconst 0, 1) := sorry
theorem dL_law_1403 : decode cL_law 1403 = .ok (.ireturn, 1) := sorry
theorem dL_law_1404 : decode cL_law 1404 = .ok (.goto 1498, 3) := sorry
theorem dL_law_1407 : decode cL_law 1407 = .ok (.aload_n 1, 1) := sorry
theorem dL_law_1408 : decode cL_law 1408 = .ok (.aload_n 0, 1) := sorry
theorem dL_law_1409 : decode cL_law 1409 = .ok (.iload 4, 2) := sorry
theorem dL_law_1411 : decode cL_law 1411 = .ok (.iconst 1, 1) := sorry
theorem dL_law_1412 : decode cL_law 1412 = .ok (.iadd, 1) := sorry
theorem dL_law_1413 : decode cL_law 1413 = .ok (.iaload, 1) := sorry
theorem dL_law_1414 : decode cL_law 1414 = .ok (.aload_n 0, 1) := sorry
theorem dL_law_1415 : decode cL_law 1415 = .ok (.iload 4, 2) := sorry
theorem dL_law_1417 : decode cL_law 1417 = .ok (.iconst 2, 1) := sorry
theorem dL_law_1418 : decode cL_law 1418 = .ok (.iadd, 1) := sorry
theorem dL_law_1419 : decode cL_law 1419 = .ok (.iaload, 1) := sorry
theorem dL_law_1420 : decode cL_law 1420 = .ok (.aload_n 3, 1) := sorry
theorem dL_law_1421 : decode cL_law 1421 = .ok (.invokestatic 233, 3) := sorry
theorem dL_law_1424 : decode cL_law 1424 = .ok (.istore 5, 2) := sorry
theorem dL_law_1426 : decode cL_law 1426 = .ok (.aload_n 2, 1) := sorry
theorem dL_law_1427 : decode cL_law 1427 = .ok (.aload_n 0, 1) := sorry
theorem dL_law_1428 : decode cL_law 1428 = .ok (.iload 4, 2) := sorry
theorem dL_law_1430 : decode cL_law 1430 = .ok (.iconst 1, 1) := sorry
theorem dL_law_1431 : decode cL_law 1431 = .ok (.iadd, 1) := sorry
theorem dL_law_1432 : decode cL_law 1432 = .ok (.iaload, 1) := sorry
theorem dL_law_1433 : decode cL_law 1433 = .ok (.aload_n 0, 1) := sorry
theorem dL_law_1434 : decode cL_law 1434 = .ok (.iload 4, 2) := sorry
theorem dL_law_1436 : decode cL_law 1436 = .ok (.iconst 2, 1) := sorry
theorem dL_law_1437 : decode cL_law 1437 = .ok (.iadd, 1) := sorry
theorem dL_law_1438 : decode cL_law 1438 = .ok (.iaload, 1) := sorry
theorem dL_law_1439 : decode cL_law 1439 = .ok (.invokevirtual 235, 3) := sorry
theorem dL_law_1442 : decode cL_law 1442 = .ok (.istore 6, 2) := sorry
theorem dL_law_1444 : decode cL_law 1444 = .ok (.aload_n 2, 1) := sorry
theorem dL_law_1445 : decode cL_law 1445 = .ok (.invokevirtual 155, 3) := sorry
theorem dL_law_1448 : decode cL_law 1448 = .ok (.iload 5, 2) := sorry
theorem dL_law_1450 : decode cL_law 1450 = .ok (.if_icmp .eq 5, 3) := sorry
theorem dL_law_1453 : decode cL_law 1453 = .ok (.iconst 0, 1) := sorry
theorem dL_law_1454 : decode cL_law 1454 = .ok (.ireturn, 1) := sorry
theorem dL_law_1455 : decode cL_law 1455 = .ok (.iload 5, 2) := sorry
theorem dL_law_1457 : decode cL_law 1457 = .ok (.ifCond .ne 15, 3) := sorry
theorem dL_law_1460 : decode cL_law 1460 = .ok (.aload_n 3, 1) := sorry
theorem dL_law_1461 : decode cL_law 1461 = .ok (.iconst 0, 1) := sorry
theorem dL_law_1462 : decode cL_law 1462 = .ok (.laload, 1) := sorry
theorem dL_law_1463 : decode cL_law 1463 = .ok (.iload 6, 2) := sorry
theorem dL_law_1465 : decode cL_law 1465 = .ok (.i2l, 1) := sorry
theorem dL_law_1466 : decode cL_law 1466 = .ok (.lcmp, 1) := sorry
theorem dL_law_1467 : decode cL_law 1467 = .ok (.ifCond .eq 5, 3) := sorry
theorem dL_law_1470 : decode cL_law 1470 = .ok (.iconst 0, 1) := sorry
theorem dL_law_1471 : decode cL_law 1471 = .ok (.ireturn, 1) := sorry
theorem dL_law_1472 : decode cL_law 1472 = .ok (.goto 1430, 3) := sorry
theorem dL_law_1475 : decode cL_law 1475 = .ok (.aload_n 1, 1) := sorry
theorem dL_law_1476 : decode cL_law 1476 = .ok (.aload_n 0, 1) := sorry
theorem dL_law_1477 : decode cL_law 1477 = .ok (.iload 4, 2) := sorry
theorem dL_law_1479 : decode cL_law 1479 = .ok (.iconst 1, 1) := sorry
theorem dL_law_1480 : decode cL_law 1480 = .ok (.iadd, 1) := sorry
theorem dL_law_1481 : decode cL_law 1481 = .ok (.iaload, 1) := sorry
theorem dL_law_1482 : decode cL_law 1482 = .ok (.aload_n 0, 1) := sorry
theorem dL_law_1483 : decode cL_law 1483 = .ok (.iload 4, 2) := sorry
theorem dL_law_1485 : decode cL_law 1485 = .ok (.iconst 2, 1) := sorry
theorem dL_law_1486 : decode cL_law 1486 = .ok (.iadd, 1) := sorry
theorem dL_law_1487 : decode cL_law 1487 = .ok (.iaload, 1) := sorry
theorem dL_law_1488 : decode cL_law 1488 = .ok (.aload_n 3, 1) := sorry
theorem dL_law_1489 : decode cL_law 1489 = .ok (.invokestatic 236, 3) := sorry
theorem dL_law_1492 : decode cL_law 1492 = .ok (.istore 5, 2) := sorry
theorem dL_law_1494 : decode cL_law 1494 = .ok (.aload_n 2, 1) := sorry
theorem dL_law_1495 : decode cL_law 1495 = .ok (.aload_n 0, 1) := sorry
theorem dL_law_1496 : decode cL_law 1496 = .ok (.iload 4, 2) := sorry
theorem dL_law_1498 : decode cL_law 1498 = .ok (.iconst 1, 1) := sorry
theorem dL_law_1499 : decode cL_law 1499 = .ok (.iadd, 1) := sorry
theorem dL_law_1500 : decode cL_law 1500 = .ok (.iaload, 1) := sorry
theorem dL_law_1501 : decode cL_law 1501 = .ok (.aload_n 0, 1) := sorry
theorem dL_law_1502 : decode cL_law 1502 = .ok (.iload 4, 2) := sorry
theorem dL_law_1504 : decode cL_law 1504 = .ok (.iconst 2, 1) := sorry
theorem dL_law_1505 : decode cL_law 1505 = .ok (.iadd, 1) := sorry
theorem dL_law_1506 : decode cL_law 1506 = .ok (.iaload, 1) := sorry
theorem dL_law_1507 : decode cL_law 1507 = .ok (.invokevirtual 238, 3) := sorry
theorem dL_law_1510 : decode cL_law 1510 = .ok (.istore 6, 2) := sorry
theorem dL_law_1512 : decode cL_law 1512 = .ok (.aload_n 2, 1) := sorry
theorem dL_law_1513 : decode cL_law 1513 = .ok (.invokevirtual 155, 3) := sorry
theorem dL_law_1516 : decode cL_law 1516 = .ok (.iload 5, 2) := sorry
theorem dL_law_1518 : decode cL_law 1518 = .ok (.if_icmp .eq 5, 3) := sorry
theorem dL_law_1521 : decode cL_law 1521 = .ok (.iconst 0, 1) := sorry
theorem dL_law_1522 : decode cL_law 1522 = .ok (.ireturn, 1) := sorry
theorem dL_law_1523 : decode cL_law 1523 = .ok (.iload 5, 2) := sorry
theorem dL_law_1525 : decode cL_law 1525 = .ok (.ifCond .ne 15, 3) := sorry
theorem dL_law_1528 : decode cL_law 1528 = .ok (.aload_n 3, 1) := sorry
theorem dL_law_1529 : decode cL_law 1529 = .ok (.iconst 0, 1) := sorry
theorem dL_law_1530 : decode cL_law 1530 = .ok (.laload, 1) := sorry
theorem dL_law_1531 : decode cL_law 1531 = .ok (.iload 6, 2) := sorry
theorem dL_law_1533 : decode cL_law 1533 = .ok (.i2l, 1) := sorry
theorem dL_law_1534 : decode cL_law 1534 = .ok (.lcmp, 1) := sorry
theorem dL_law_1535 : decode cL_law 1535 = .ok (.ifCond .eq 5, 3) := sorry
theorem dL_law_1538 : decode cL_law 1538 = .ok (.iconst 0, 1) := sorry
theorem dL_law_1539 : decode cL_law 1539 = .ok (.ireturn, 1) := sorry
theorem dL_law_1540 : decode cL_law 1540 = .ok (.goto 1362, 3) := sorry
theorem dL_law_1543 : decode cL_law 1543 = .ok (.aload_n 1, 1) := sorry
theorem dL_law_1544 : decode cL_law 1544 = .ok (.aload_n 0, 1) := sorry
theorem dL_law_1545 : decode cL_law 1545 = .ok (.iload 4, 2) := sorry
theorem dL_law_1547 : decode cL_law 1547 = .ok (.iconst 1, 1) := sorry
theorem dL_law_1548 : decode cL_law 1548 = .ok (.iadd, 1) := sorry
theorem dL_law_1549 : decode cL_law 1549 = .ok (.iaload, 1) := sorry
theorem dL_law_1550 : decode cL_law 1550 = .ok (.aload_n 0, 1) := sorry
theorem dL_law_1551 : decode cL_law 1551 = .ok (.iload 4, 2) := sorry
theorem dL_law_1553 : decode cL_law 1553 = .ok (.iconst 2, 1) := sorry
theorem dL_law_1554 : decode cL_law 1554 = .ok (.iadd, 1) := sorry
theorem dL_law_1555 : decode cL_law 1555 = .ok (.iaload, 1) := sorry
theorem dL_law_1556 : decode cL_law 1556 = .ok (.aload_n 3, 1) := sorry
theorem dL_law_1557 : decode cL_law 1557 = .ok (.invokestatic 239, 3) := sorry
theorem dL_law_1560 : decode cL_law 1560 = .ok (.istore 5, 2) := sorry
theorem dL_law_1562 : decode cL_law 1562 = .ok (.aload_n 2, 1) := sorry
theorem dL_law_1563 : decode cL_law 1563 = .ok (.aload_n 0, 1) := sorry
theorem dL_law_1564 : decode cL_law 1564 = .ok (.iload 4, 2) := sorry
theorem dL_law_1566 : decode cL_law 1566 = .ok (.iconst 1, 1) := sorry
theorem dL_law_1567 : decode cL_law 1567 = .ok (.iadd, 1) := sorry
theorem dL_law_1568 : decode cL_law 1568 = .ok (.iaload, 1) := sorry
theorem dL_law_1569 : decode cL_law 1569 = .ok (.aload_n 0, 1) := sorry
theorem dL_law_1570 : decode cL_law 1570 = .ok (.iload 4, 2) := sorry
theorem dL_law_1572 : decode cL_law 1572 = .ok (.iconst 2, 1) := sorry
theorem dL_law_1573 : decode cL_law 1573 = .ok (.iadd, 1) := sorry
theorem dL_law_1574 : decode cL_law 1574 = .ok (.iaload, 1) := sorry
theorem dL_law_1575 : decode cL_law 1575 = .ok (.invokevirtual 241, 3) := sorry
theorem dL_law_1578 : decode cL_law 1578 = .ok (.istore 6, 2) := sorry
theorem dL_law_1580 : decode cL_law 1580 = .ok (.aload_n 2, 1) := sorry
theorem dL_law_1581 : decode cL_law 1581 = .ok (.invokevirtual 155, 3) := sorry
theorem dL_law_1584 : decode cL_law 1584 = .ok (.iload 5, 2) := sorry
theorem dL_law_1586 : decode cL_law 1586 = .ok (.if_icmp .eq 5, 3) := sorry
theorem dL_law_1589 : decode cL_law 1589 = .ok (.iconst 0, 1) := sorry
theorem dL_law_1590 : decode cL_law 1590 = .ok (.ireturn, 1) := sorry
theorem dL_law_1591 : decode cL_law 1591 = .ok (.iload 5, 2) := sorry
theorem dL_law_1593 : decode cL_law 1593 = .ok (.ifCond .ne 15, 3) := sorry
theorem dL_law_1596 : decode cL_law 1596 = .ok (.aload_n 3, 1) := sorry
theorem dL_law_1597 : decode cL_law 1597 = .ok (.iconst 0, 1) := sorry
theorem dL_law_1598 : decode cL_law 1598 = .ok (.laload, 1) := sorry
theorem dL_law_1599 : decode cL_law 1599 = .ok (.iload 6, 2) := sorry
theorem dL_law_1601 : decode cL_law 1601 = .ok (.i2l, 1) := sorry
theorem dL_law_1602 : decode cL_law 1602 = .ok (.lcmp, 1) := sorry
theorem dL_law_1603 : decode cL_law 1603 = .ok (.ifCond .eq 5, 3) := sorry
theorem dL_law_1606 : decode cL_law 1606 = .ok (.iconst 0, 1) := sorry
theorem dL_law_1607 : decode cL_law 1607 = .ok (.ireturn, 1) := sorry
theorem dL_law_1608 : decode cL_law 1608 = .ok (.goto 1294, 3) := sorry
theorem dL_law_1611 : decode cL_law 1611 = .ok (.aload_n 1, 1) := sorry
theorem dL_law_1612 : decode cL_law 1612 = .ok (.aload_n 0, 1) := sorry
theorem dL_law_1613 : decode cL_law 1613 = .ok (.iload 4, 2) := sorry
theorem dL_law_1615 : decode cL_law 1615 = .ok (.iconst 1, 1) := sorry
theorem dL_law_1616 : decode cL_law 1616 = .ok (.iadd, 1) := sorry
theorem dL_law_1617 : decode cL_law 1617 = .ok (.iaload, 1) := sorry
theorem dL_law_1618 : decode cL_law 1618 = .ok (.aload_n 0, 1) := sorry
theorem dL_law_1619 : decode cL_law 1619 = .ok (.iload 4, 2) := sorry
theorem dL_law_1621 : decode cL_law 1621 = .ok (.iconst 2, 1) := sorry
theorem dL_law_1622 : decode cL_law 1622 = .ok (.iadd, 1) := sorry
theorem dL_law_1623 : decode cL_law 1623 = .ok (.iaload, 1) := sorry
theorem dL_law_1624 : decode cL_law 1624 = .ok (.aload_n 3, 1) := sorry
theorem dL_law_1625 : decode cL_law 1625 = .ok (.invokestatic 242, 3) := sorry
theorem dL_law_1628 : decode cL_law 1628 = .ok (.istore 5, 2) := sorry
theorem dL_law_1630 : decode cL_law 1630 = .ok (.aload_n 2, 1) := sorry
theorem dL_law_1631 : decode cL_law 1631 = .ok (.aload_n 0, 1) := sorry
theorem dL_law_1632 : decode cL_law 1632 = .ok (.iload 4, 2) := sorry
theorem dL_law_1634 : decode cL_law 1634 = .ok (.iconst 1, 1) := sorry
theorem dL_law_1635 : decode cL_law 1635 = .ok (.iadd, 1) := sorry
theorem dL_law_1636 : decode cL_law 1636 = .ok (.iaload, 1) := sorry
theorem dL_law_1637 : decode cL_law 1637 = .ok (.aload_n 0, 1) := sorry
theorem dL_law_1638 : decode cL_law 1638 = .ok (.iload 4, 2) := sorry
theorem dL_law_1640 : decode cL_law 1640 = .ok (.iconst 2, 1) := sorry
theorem dL_law_1641 : decode cL_law 1641 = .ok (.iadd, 1) := sorry
theorem dL_law_1642 : decode cL_law 1642 = .ok (.iaload, 1) := sorry
theorem dL_law_1643 : decode cL_law 1643 = .ok (.invokevirtual 244, 3) := sorry
theorem dL_law_1646 : decode cL_law 1646 = .ok (.istore 6, 2) := sorry
theorem dL_law_1648 : decode cL_law 1648 = .ok (.aload_n 2, 1) := sorry
theorem dL_law_1649 : decode cL_law 1649 = .ok (.invokevirtual 155, 3) := sorry
theorem dL_law_1652 : decode cL_law 1652 = .ok (.iload 5, 2) := sorry
theorem dL_law_1654 : decode cL_law 1654 = .ok (.if_icmp .eq 5, 3) := sorry
theorem dL_law_1657 : decode cL_law 1657 = .ok (.iconst 0, 1) := sorry
theorem dL_law_1658 : decode cL_law 1658 = .ok (.ireturn, 1) := sorry
theorem dL_law_1659 : decode cL_law 1659 = .ok (.iload 5, 2) := sorry
theorem dL_law_1661 : decode cL_law 1661 = .ok (.ifCond .ne 15, 3) := sorry
theorem dL_law_1664 : decode cL_law 1664 = .ok (.aload_n 3, 1) := sorry
theorem dL_law_1665 : decode cL_law 1665 = .ok (.iconst 0, 1) := sorry
theorem dL_law_1666 : decode cL_law 1666 = .ok (.laload, 1) := sorry
theorem dL_law_1667 : decode cL_law 1667 = .ok (.iload 6, 2) := sorry
theorem dL_law_1669 : decode cL_law 1669 = .ok (.i2l, 1) := sorry
theorem dL_law_1670 : decode cL_law 1670 = .ok (.lcmp, 1) := sorry
theorem dL_law_1671 : decode cL_law 1671 = .ok (.ifCond .eq 5, 3) := sorry
theorem dL_law_1674 : decode cL_law 1674 = .ok (.iconst 0, 1) := sorry
theorem dL_law_1675 : decode cL_law 1675 = .ok (.ireturn, 1) := sorry
theorem dL_law_1676 : decode cL_law 1676 = .ok (.goto 1226, 3) := sorry
theorem dL_law_1679 : decode cL_law 1679 = .ok (.aload_n 1, 1) := sorry
theorem dL_law_1680 : decode cL_law 1680 = .ok (.aload_n 0, 1) := sorry
theorem dL_law_1681 : decode cL_law 1681 = .ok (.iload 4, 2) := sorry
theorem dL_law_1683 : decode cL_law 1683 = .ok (.iconst 1, 1) := sorry
theorem dL_law_1684 : decode cL_law 1684 = .ok (.iadd, 1) := sorry
theorem dL_law_1685 : decode cL_law 1685 = .ok (.iaload, 1) := sorry
theorem dL_law_1686 : decode cL_law 1686 = .ok (.aload_n 0, 1) := sorry
theorem dL_law_1687 : decode cL_law 1687 = .ok (.iload 4, 2) := sorry
theorem dL_law_1689 : decode cL_law 1689 = .ok (.iconst 2, 1) := sorry
theorem dL_law_1690 : decode cL_law 1690 = .ok (.iadd, 1) := sorry
theorem dL_law_1691 : decode cL_law 1691 = .ok (.iaload, 1) := sorry
theorem dL_law_1692 : decode cL_law 1692 = .ok (.aload_n 3, 1) := sorry
theorem dL_law_1693 : decode cL_law 1693 = .ok (.invokestatic 245, 3) := sorry
theorem dL_law_1696 : decode cL_law 1696 = .ok (.istore 5, 2) := sorry
theorem dL_law_1698 : decode cL_law 1698 = .ok (.aload_n 2, 1) := sorry
theorem dL_law_1699 : decode cL_law 1699 = .ok (.aload_n 0, 1) := sorry
theorem dL_law_1700 : decode cL_law 1700 = .ok (.iload 4, 2) := sorry
theorem dL_law_1702 : decode cL_law 1702 = .ok (.iconst 1, 1) := sorry
theorem dL_law_1703 : decode cL_law 1703 = .ok (.iadd, 1) := sorry
theorem dL_law_1704 : decode cL_law 1704 = .ok (.iaload, 1) := sorry
theorem dL_law_1705 : decode cL_law 1705 = .ok (.aload_n 0, 1) := sorry
theorem dL_law_1706 : decode cL_law 1706 = .ok (.iload 4, 2) := sorry
theorem dL_law_1708 : decode cL_law 1708 = .ok (.iconst 2, 1) := sorry
theorem dL_law_1709 : decode cL_law 1709 = .ok (.iadd, 1) := sorry
theorem dL_law_1710 : decode cL_law 1710 = .ok (.iaload, 1) := sorry
theorem dL_law_1711 : decode cL_law 1711 = .ok (.invokevirtual 247, 3) := sorry
theorem dL_law_1714 : decode cL_law 1714 = .ok (.istore 6, 2) := sorry
theorem dL_law_1716 : decode cL_law 1716 = .ok (.aload_n 2, 1) := sorry
theorem dL_law_1717 : decode cL_law 1717 = .ok (.invokevirtual 155, 3) := sorry
theorem dL_law_1720 : decode cL_law 1720 = .ok (.iload 5, 2) := sorry
theorem dL_law_1722 : decode cL_law 1722 = .ok (.if_icmp .eq 5, 3) := sorry
theorem dL_law_1725 : decode cL_law 1725 = .ok (.iconst 0, 1) := sorry
theorem dL_law_1726 : decode cL_law 1726 = .ok (.ireturn, 1) := sorry
theorem dL_law_1727 : decode cL_law 1727 = .ok (.iload 5, 2) := sorry
theorem dL_law_1729 : decode cL_law 1729 = .ok (.ifCond .ne 15, 3) := sorry
theorem dL_law_1732 : decode cL_law 1732 = .ok (.aload_n 3, 1) := sorry
theorem dL_law_1733 : decode cL_law 1733 = .ok (.iconst 0, 1) := sorry
theorem dL_law_1734 : decode cL_law 1734 = .ok (.laload, 1) := sorry
theorem dL_law_1735 : decode cL_law 1735 = .ok (.iload 6, 2) := sorry
theorem dL_law_1737 : decode cL_law 1737 = .ok (.i2l, 1) := sorry
theorem dL_law_1738 : decode cL_law 1738 = .ok (.lcmp, 1) := sorry
theorem dL_law_1739 : decode cL_law 1739 = .ok (.ifCond .eq 5, 3) := sorry
theorem dL_law_1742 : decode cL_law 1742 = .ok (.iconst 0, 1) := sorry
theorem dL_law_1743 : decode cL_law 1743 = .ok (.ireturn, 1) := sorry
theorem dL_law_1744 : decode cL_law 1744 = .ok (.goto 1158, 3) := sorry
theorem dL_law_1747 : decode cL_law 1747 = .ok (.aload_n 1, 1) := sorry
theorem dL_law_1748 : decode cL_law 1748 = .ok (.aload_n 0, 1) := sorry
theorem dL_law_1749 : decode cL_law 1749 = .ok (.iload 4, 2) := sorry
theorem dL_law_1751 : decode cL_law 1751 = .ok (.iconst 1, 1) := sorry
theorem dL_law_1752 : decode cL_law 1752 = .ok (.iadd, 1) := sorry
theorem dL_law_1753 : decode cL_law 1753 = .ok (.iaload, 1) := sorry
theorem dL_law_1754 : decode cL_law 1754 = .ok (.aload_n 0, 1) := sorry
theorem dL_law_1755 : decode cL_law 1755 = .ok (.iload 4, 2) := sorry
theorem dL_law_1757 : decode cL_law 1757 = .ok (.iconst 2, 1) := sorry
theorem dL_law_1758 : decode cL_law 1758 = .ok (.iadd, 1) := sorry
theorem dL_law_1759 : decode cL_law 1759 = .ok (.iaload, 1) := sorry
theorem dL_law_1760 : decode cL_law 1760 = .ok (.aload_n 3, 1) := sorry
theorem dL_law_1761 : decode cL_law 1761 = .ok (.invokestatic 248, 3) := sorry
theorem dL_law_1764 : decode cL_law 1764 = .ok (.istore 5, 2) := sorry
theorem dL_law_1766 : decode cL_law 1766 = .ok (.aload_n 2, 1) := sorry
theorem dL_law_1767 : decode cL_law 1767 = .ok (.aload_n 0, 1) := sorry
theorem dL_law_1768 : decode cL_law 1768 = .ok (.iload 4, 2) := sorry
theorem dL_law_1770 : decode cL_law 1770 = .ok (.iconst 1, 1) := sorry
theorem dL_law_1771 : decode cL_law 1771 = .ok (.iadd, 1) := sorry
theorem dL_law_1772 : decode cL_law 1772 = .ok (.iaload, 1) := sorry
theorem dL_law_1773 : decode cL_law 1773 = .ok (.aload_n 0, 1) := sorry
theorem dL_law_1774 : decode cL_law 1774 = .ok (.iload 4, 2) := sorry
theorem dL_law_1776 : decode cL_law 1776 = .ok (.iconst 2, 1) := sorry
theorem dL_law_1777 : decode cL_law 1777 = .ok (.iadd, 1) := sorry
theorem dL_law_1778 : decode cL_law 1778 = .ok (.iaload, 1) := sorry
theorem dL_law_1779 : decode cL_law 1779 = .ok (.invokevirtual 250, 3) := sorry
theorem dL_law_1782 : decode cL_law 1782 = .ok (.istore 6, 2) := sorry
theorem dL_law_1784 : decode cL_law 1784 = .ok (.aload_n 2, 1) := sorry
theorem dL_law_1785 : decode cL_law 1785 = .ok (.invokevirtual 155, 3) := sorry
theorem dL_law_1788 : decode cL_law 1788 = .ok (.iload 5, 2) := sorry
theorem dL_law_1790 : decode cL_law 1790 = .ok (.if_icmp .eq 5, 3) := sorry
theorem dL_law_1793 : decode cL_law 1793 = .ok (.iconst 0, 1) := sorry
theorem dL_law_1794 : decode cL_law 1794 = .ok (.ireturn, 1) := sorry
theorem dL_law_1795 : decode cL_law 1795 = .ok (.iload 5, 2) := sorry
theorem dL_law_1797 : decode cL_law 1797 = .ok (.ifCond .ne 15, 3) := sorry
theorem dL_law_1800 : decode cL_law 1800 = .ok (.aload_n 3, 1) := sorry
theorem dL_law_1801 : decode cL_law 1801 = .ok (.iconst 0, 1) := sorry
theorem dL_law_1802 : decode cL_law 1802 = .ok (.laload, 1) := sorry
theorem dL_law_1803 : decode cL_law 1803 = .ok (.iload 6, 2) := sorry
theorem dL_law_1805 : decode cL_law 1805 = .ok (.i2l, 1) := sorry
theorem dL_law_1806 : decode cL_law 1806 = .ok (.lcmp, 1) := sorry
theorem dL_law_1807 : decode cL_law 1807 = .ok (.ifCond .eq 5, 3) := sorry
theorem dL_law_1810 : decode cL_law 1810 = .ok (.iconst 0, 1) := sorry
theorem dL_law_1811 : decode cL_law 1811 = .ok (.ireturn, 1) := sorry
theorem dL_law_1812 : decode cL_law 1812 = .ok (.goto 1090, 3) := sorry
theorem dL_law_1815 : decode cL_law 1815 = .ok (.aload_n 1, 1) := sorry
theorem dL_law_1816 : decode cL_law 1816 = .ok (.invokevirtual 251, 3) := sorry
theorem dL_law_1819 : decode cL_law 1819 = .ok (.aload_n 2, 1) := sorry
theorem dL_law_1820 : decode cL_law 1820 = .ok (.invokevirtual 254, 3) := sorry
theorem dL_law_1823 : decode cL_law 1823 = .ok (.if_icmp .eq 1079, 3) := sorry
theorem dL_law_1826 : decode cL_law 1826 = .ok (.iconst 0, 1) := sorry
theorem dL_law_1827 : decode cL_law 1827 = .ok (.ireturn, 1) := sorry
theorem dL_law_1828 : decode cL_law 1828 = .ok (.aload_n 1, 1) := sorry
theorem dL_law_1829 : decode cL_law 1829 = .ok (.invokevirtual 255, 3) := sorry
theorem dL_law_1832 : decode cL_law 1832 = .ok (.aload_n 2, 1) := sorry
theorem dL_law_1833 : decode cL_law 1833 = .ok (.invokevirtual 258, 3) := sorry
theorem dL_law_1836 : decode cL_law 1836 = .ok (.if_icmp .eq 1066, 3) := sorry
theorem dL_law_1839 : decode cL_law 1839 = .ok (.iconst 0, 1) := sorry
theorem dL_law_1840 : decode cL_law 1840 = .ok (.ireturn, 1) := sorry
theorem dL_law_1841 : decode cL_law 1841 = .ok (.aload_n 1, 1) := sorry
theorem dL_law_1842 : decode cL_law 1842 = .ok (.aload_n 0, 1) := sorry
theorem dL_law_1843 : decode cL_law 1843 = .ok (.iload 4, 2) := sorry
theorem dL_law_1845 : decode cL_law 1845 = .ok (.iconst 1, 1) := sorry
theorem dL_law_1846 : decode cL_law 1846 = .ok (.iadd, 1) := sorry
theorem dL_law_1847 : decode cL_law 1847 = .ok (.iaload, 1) := sorry
theorem dL_law_1848 : decode cL_law 1848 = .ok (.invokevirtual 259, 3) := sorry
theorem dL_law_1851 : decode cL_law 1851 = .ok (.aload_n 2, 1) := sorry
theorem dL_law_1852 : decode cL_law 1852 = .ok (.aload_n 0, 1) := sorry
theorem dL_law_1853 : decode cL_law 1853 = .ok (.iload 4, 2) := sorry
theorem dL_law_1855 : decode cL_law 1855 = .ok (.iconst 1, 1) := sorry
theorem dL_law_1856 : decode cL_law 1856 = .ok (.iadd, 1) := sorry
theorem dL_law_1857 : decode cL_law 1857 = .ok (.iaload, 1) := sorry
theorem dL_law_1858 : decode cL_law 1858 = .ok (.invokevirtual 262, 3) := sorry
theorem dL_law_1861 : decode cL_law 1861 = .ok (.if_icmp .eq 1041, 3) := sorry
theorem dL_law_1864 : decode cL_law 1864 = .ok (.iconst 0, 1) := sorry
theorem dL_law_1865 : decode cL_law 1865 = .ok (.ireturn, 1) := sorry
theorem dL_law_1866 : decode cL_law 1866 = .ok (.aload_n 1, 1) := sorry
theorem dL_law_1867 : decode cL_law 1867 = .ok (.invokevirtual 263, 3) := sorry
theorem dL_law_1870 : decode cL_law 1870 = .ok (.aload_n 2, 1) := sorry
theorem dL_law_1871 : decode cL_law 1871 = .ok (.invokevirtual 266, 3) := sorry
theorem dL_law_1874 : decode cL_law 1874 = .ok (.if_icmp .eq 1028, 3) := sorry
theorem dL_law_1877 : decode cL_law 1877 = .ok (.iconst 0, 1) := sorry
theorem dL_law_1878 : decode cL_law 1878 = .ok (.ireturn, 1) := sorry
theorem dL_law_1879 : decode cL_law 1879 = .ok (.aload_n 1, 1) := sorry
theorem dL_law_1880 : decode cL_law 1880 = .ok (.aload_n 0, 1) := sorry
theorem dL_law_1881 : decode cL_law 1881 = .ok (.iload 4, 2) := sorry
theorem dL_law_1883 : decode cL_law 1883 = .ok (.iconst 1, 1) := sorry
theorem dL_law_1884 : decode cL_law 1884 = .ok (.iadd, 1) := sorry
theorem dL_law_1885 : decode cL_law 1885 = .ok (.iaload, 1) := sorry
theorem dL_law_1886 : decode cL_law 1886 = .ok (.aload_n 3, 1) := sorry
theorem dL_law_1887 : decode cL_law 1887 = .ok (.invokestatic 267, 3) := sorry
theorem dL_law_1890 : decode cL_law 1890 = .ok (.istore 5, 2) := sorry
theorem dL_law_1892 : decode cL_law 1892 = .ok (.aload_n 2, 1) := sorry
theorem dL_law_1893 : decode cL_law 1893 = .ok (.aload_n 0, 1) := sorry
theorem dL_law_1894 : decode cL_law 1894 = .ok (.iload 4, 2) := sorry
theorem dL_law_1896 : decode cL_law 1896 = .ok (.iconst 1, 1) := sorry
theorem dL_law_1897 : decode cL_law 1897 = .ok (.iadd, 1) := sorry
theorem dL_law_1898 : decode cL_law 1898 = .ok (.iaload, 1) := sorry
theorem dL_law_1899 : decode cL_law 1899 = .ok (.invokevirtual 269, 3) := sorry
theorem dL_law_1902 : decode cL_law 1902 = .ok (.istore 6, 2) := sorry
theorem dL_law_1904 : decode cL_law 1904 = .ok (.aload_n 2, 1) := sorry
theorem dL_law_1905 : decode cL_law 1905 = .ok (.invokevirtual 155, 3) := sorry
theorem dL_law_1908 : decode cL_law 1908 = .ok (.iload 5, 2) := sorry
theorem dL_law_1910 : decode cL_law 1910 = .ok (.if_icmp .eq 5, 3) := sorry
theorem dL_law_1913 : decode cL_law 1913 = .ok (.iconst 0, 1) := sorry
theorem dL_law_1914 : decode cL_law 1914 = .ok (.ireturn, 1) := sorry
theorem dL_law_1915 : decode cL_law 1915 = .ok (.iload 5, 2) := sorry
theorem dL_law_1917 : decode cL_law 1917 = .ok (.ifCond .ne 15, 3) := sorry
theorem dL_law_1920 : decode cL_law 1920 = .ok (.aload_n 3, 1) := sorry
theorem dL_law_1921 : decode cL_law 1921 = .ok (.iconst 0, 1) := sorry
theorem dL_law_1922 : decode cL_law 1922 = .ok (.laload, 1) := sorry
theorem dL_law_1923 : decode cL_law 1923 = .ok (.iload 6, 2) := sorry
theorem dL_law_1925 : decode cL_law 1925 = .ok (.i2l, 1) := sorry
theorem dL_law_1926 : decode cL_law 1926 = .ok (.lcmp, 1) := sorry
theorem dL_law_1927 : decode cL_law 1927 = .ok (.ifCond .eq 5, 3) := sorry
theorem dL_law_1930 : decode cL_law 1930 = .ok (.iconst 0, 1) := sorry
theorem dL_law_1931 : decode cL_law 1931 = .ok (.ireturn, 1) := sorry
theorem dL_law_1932 : decode cL_law 1932 = .ok (.goto 970, 3) := sorry
theorem dL_law_1935 : decode cL_law 1935 = .ok (.aload_n 1, 1) := sorry
theorem dL_law_1936 : decode cL_law 1936 = .ok (.aload_n 0, 1) := sorry
theorem dL_law_1937 : decode cL_law 1937 = .ok (.iload 4, 2) := sorry
theorem dL_law_1939 : decode cL_law 1939 = .ok (.iconst 1, 1) := sorry
theorem dL_law_1940 : decode cL_law 1940 = .ok (.iadd, 1) := sorry
theorem dL_law_1941 : decode cL_law 1941 = .ok (.iaload, 1) := sorry
theorem dL_law_1942 : decode cL_law 1942 = .ok (.aload_n 0, 1) := sorry
theorem dL_law_1943 : decode cL_law 1943 = .ok (.iload 4, 2) := sorry
theorem dL_law_1945 : decode cL_law 1945 = .ok (.iconst 2, 1) := sorry
theorem dL_law_1946 : decode cL_law 1946 = .ok (.iadd, 1) := sorry
theorem dL_law_1947 : decode cL_law 1947 = .ok (.iaload, 1) := sorry
theorem dL_law_1948 : decode cL_law 1948 = .ok (.aload_n 0, 1) := sorry
theorem dL_law_1949 : decode cL_law 1949 = .ok (.iload 4, 2) := sorry
theorem dL_law_1951 : decode cL_law 1951 = .ok (.iconst 3, 1) := sorry
theorem dL_law_1952 : decode cL_law 1952 = .ok (.iadd, 1) := sorry
theorem dL_law_1953 : decode cL_law 1953 = .ok (.iaload, 1) := sorry
theorem dL_law_1954 : decode cL_law 1954 = .ok (.aload_n 3, 1) := sorry
theorem dL_law_1955 : decode cL_law 1955 = .ok (.invokestatic 270, 3) := sorry
theorem dL_law_1958 : decode cL_law 1958 = .ok (.istore 5, 2) := sorry
theorem dL_law_1960 : decode cL_law 1960 = .ok (.aload_n 2, 1) := sorry
theorem dL_law_1961 : decode cL_law 1961 = .ok (.aload_n 0, 1) := sorry
theorem dL_law_1962 : decode cL_law 1962 = .ok (.iload 4, 2) := sorry
theorem dL_law_1964 : decode cL_law 1964 = .ok (.iconst 1, 1) := sorry
theorem dL_law_1965 : decode cL_law 1965 = .ok (.iadd, 1) := sorry
theorem dL_law_1966 : decode cL_law 1966 = .ok (.iaload, 1) := sorry
theorem dL_law_1967 : decode cL_law 1967 = .ok (.aload_n 0, 1) := sorry
theorem dL_law_1968 : decode cL_law 1968 = .ok (.iload 4, 2) := sorry
theorem dL_law_1970 : decode cL_law 1970 = .ok (.iconst 2, 1) := sorry
theorem dL_law_1971 : decode cL_law 1971 = .ok (.iadd, 1) := sorry
theorem dL_law_1972 : decode cL_law 1972 = .ok (.iaload, 1) := sorry
theorem dL_law_1973 : decode cL_law 1973 = .ok (.aload_n 0, 1) := sorry
theorem dL_law_1974 : decode cL_law 1974 = .ok (.iload 4, 2) := sorry
theorem dL_law_1976 : decode cL_law 1976 = .ok (.iconst 3, 1) := sorry
theorem dL_law_1977 : decode cL_law 1977 = .ok (.iadd, 1) := sorry
theorem dL_law_1978 : decode cL_law 1978 = .ok (.iaload, 1) := sorry
theorem dL_law_1979 : decode cL_law 1979 = .ok (.invokevirtual 273, 3) := sorry
theorem dL_law_1982 : decode cL_law 1982 = .ok (.istore 6, 2) := sorry
theorem dL_law_1984 : decode cL_law 1984 = .ok (.aload_n 2, 1) := sorry
theorem dL_law_1985 : decode cL_law 1985 = .ok (.invokevirtual 155, 3) := sorry
theorem dL_law_1988 : decode cL_law 1988 = .ok (.iload 5, 2) := sorry
theorem dL_law_1990 : decode cL_law 1990 = .ok (.if_icmp .eq 5, 3) := sorry
theorem dL_law_1993 : decode cL_law 1993 = .ok (.iconst 0, 1) := sorry
theorem dL_law_1994 : decode cL_law 1994 = .ok (.ireturn, 1) := sorry
theorem dL_law_1995 : decode cL_law 1995 = .ok (.iload 5, 2) := sorry
theorem dL_law_1997 : decode cL_law 1997 = .ok (.ifCond .ne 15, 3) := sorry
theorem dL_law_2000 : decode cL_law 2000 = .ok (.aload_n 3, 1) := sorry
theorem dL_law_2001 : decode cL_law 2001 = .ok (.iconst 0, 1) := sorry
theorem dL_law_2002 : decode cL_law 2002 = .ok (.laload, 1) := sorry
theorem dL_law_2003 : decode cL_law 2003 = .ok (.iload 6, 2) := sorry
theorem dL_law_2005 : decode cL_law 2005 = .ok (.i2l, 1) := sorry
theorem dL_law_2006 : decode cL_law 2006 = .ok (.lcmp, 1) := sorry
theorem dL_law_2007 : decode cL_law 2007 = .ok (.ifCond .eq 5, 3) := sorry
theorem dL_law_2010 : decode cL_law 2010 = .ok (.iconst 0, 1) := sorry
theorem dL_law_2011 : decode cL_law 2011 = .ok (.ireturn, 1) := sorry
theorem dL_law_2012 : decode cL_law 2012 = .ok (.goto 890, 3) := sorry
theorem dL_law_2015 : decode cL_law 2015 = .ok (.aload_n 1, 1) := sorry
theorem dL_law_2016 : decode cL_law 2016 = .ok (.invokevirtual 274, 3) := sorry
theorem dL_law_2019 : decode cL_law 2019 = .ok (.aload_n 2, 1) := sorry
theorem dL_law_2020 : decode cL_law 2020 = .ok (.invokevirtual 277, 3) := sorry
theorem dL_law_2023 : decode cL_law 2023 = .ok (.if_icmp .eq 879, 3) := sorry
theorem dL_law_2026 : decode cL_law 2026 = .ok (.iconst 0, 1) := sorry
theorem dL_law_2027 : decode cL_law 2027 = .ok (.ireturn, 1) := sorry
theorem dL_law_2028 : decode cL_law 2028 = .ok (.aload_n 1, 1) := sorry
theorem dL_law_2029 : decode cL_law 2029 = .ok (.aload_n 0, 1) := sorry
theorem dL_law_2030 : decode cL_law 2030 = .ok (.iload 4, 2) := sorry
theorem dL_law_2032 : decode cL_law 2032 = .ok (.iconst 1, 1) := sorry
theorem dL_law_2033 : decode cL_law 2033 = .ok (.iadd, 1) := sorry
theorem dL_law_2034 : decode cL_law 2034 = .ok (.iaload, 1) := sorry
theorem dL_law_2035 : decode cL_law 2035 = .ok (.aload_n 3, 1) := sorry
theorem dL_law_2036 : decode cL_law 2036 = .ok (.invokestatic 278, 3) := sorry
theorem dL_law_2039 : decode cL_law 2039 = .ok (.istore 5, 2) := sorry
theorem dL_law_2041 : decode cL_law 2041 = .ok (.aload_n 2, 1) := sorry
theorem dL_law_2042 : decode cL_law 2042 = .ok (.aload_n 0, 1) := sorry
theorem dL_law_2043 : decode cL_law 2043 = .ok (.iload 4, 2) := sorry
theorem dL_law_2045 : decode cL_law 2045 = .ok (.iconst 1, 1) := sorry
theorem dL_law_2046 : decode cL_law 2046 = .ok (.iadd, 1) := sorry
theorem dL_law_2047 : decode cL_law 2047 = .ok (.iaload, 1) := sorry
theorem dL_law_2048 : decode cL_law 2048 = .ok (.invokevirtual 280, 3) := sorry
theorem dL_law_2051 : decode cL_law 2051 = .ok (.istore 6, 2) := sorry
theorem dL_law_2053 : decode cL_law 2053 = .ok (.aload_n 2, 1) := sorry
theorem dL_law_2054 : decode cL_law 2054 = .ok (.invokevirtual 155, 3) := sorry
theorem dL_law_2057 : decode cL_law 2057 = .ok (.iload 5, 2) := sorry
theorem dL_law_2059 : decode cL_law 2059 = .ok (.if_icmp .eq 5, 3) := sorry
theorem dL_law_2062 : decode cL_law 2062 = .ok (.iconst 0, 1) := sorry
theorem dL_law_2063 : decode cL_law 2063 = .ok (.ireturn, 1) := sorry
theorem dL_law_2064 : decode cL_law 2064 = .ok (.iload 5, 2) := sorry
theorem dL_law_2066 : decode cL_law 2066 = .ok (.ifCond .ne 15, 3) := sorry
theorem dL_law_2069 : decode cL_law 2069 = .ok (.aload_n 3, 1) := sorry
theorem dL_law_2070 : decode cL_law 2070 = .ok (.iconst 0, 1) := sorry
theorem dL_law_2071 : decode cL_law 2071 = .ok (.laload, 1) := sorry
theorem dL_law_2072 : decode cL_law 2072 = .ok (.iload 6, 2) := sorry
theorem dL_law_2074 : decode cL_law 2074 = .ok (.i2l, 1) := sorry
theorem dL_law_2075 : decode cL_law 2075 = .ok (.lcmp, 1) := sorry
theorem dL_law_2076 : decode cL_law 2076 = .ok (.ifCond .eq 5, 3) := sorry
theorem dL_law_2079 : decode cL_law 2079 = .ok (.iconst 0, 1) := sorry
theorem dL_law_2080 : decode cL_law 2080 = .ok (.ireturn, 1) := sorry
theorem dL_law_2081 : decode cL_law 2081 = .ok (.goto 821, 3) := sorry
theorem dL_law_2084 : decode cL_law 2084 = .ok (.aload_n 1, 1) := sorry
theorem dL_law_2085 : decode cL_law 2085 = .ok (.aload_n 0, 1) := sorry
theorem dL_law_2086 : decode cL_law 2086 = .ok (.iload 4, 2) := sorry
theorem dL_law_2088 : decode cL_law 2088 = .ok (.iconst 1, 1) := sorry
theorem dL_law_2089 : decode cL_law 2089 = .ok (.iadd, 1) := sorry
theorem dL_law_2090 : decode cL_law 2090 = .ok (.iaload, 1) := sorry
theorem dL_law_2091 : decode cL_law 2091 = .ok (.aload_n 0, 1) := sorry
theorem dL_law_2092 : decode cL_law 2092 = .ok (.iload 4, 2) := sorry
theorem dL_law_2094 : decode cL_law 2094 = .ok (.iconst 2, 1) := sorry
theorem dL_law_2095 : decode cL_law 2095 = .ok (.iadd, 1) := sorry
theorem dL_law_2096 : decode cL_law 2096 = .ok (.iaload, 1) := sorry
theorem dL_law_2097 : decode cL_law 2097 = .ok (.aload_n 3, 1) := sorry
theorem dL_law_2098 : decode cL_law 2098 = .ok (.invokestatic 281, 3) := sorry
theorem dL_law_2101 : decode cL_law 2101 = .ok (.istore 5, 2) := sorry
theorem dL_law_2103 : decode cL_law 2103 = .ok (.aload_n 2, 1) := sorry
theorem dL_law_2104 : decode cL_law 2104 = .ok (.aload_n 0, 1) := sorry
theorem dL_law_2105 : decode cL_law 2105 = .ok (.iload 4, 2) := sorry
theorem dL_law_2107 : decode cL_law 2107 = .ok (.iconst 1, 1) := sorry
theorem dL_law_2108 : decode cL_law 2108 = .ok (.iadd, 1) := sorry
theorem dL_law_2109 : decode cL_law 2109 = .ok (.iaload, 1) := sorry
theorem dL_law_2110 : decode cL_law 2110 = .ok (.aload_n 0, 1) := sorry
theorem dL_law_2111 : decode cL_law 2111 = .ok (.iload 4, 2) := sorry
theorem dL_law_2113 : decode cL_law 2113 = .ok (.iconst 2, 1) := sorry
theorem dL_law_2114 : decode cL_law 2114 = .ok (.iadd, 1) := sorry
theorem dL_law_2115 : decode cL_law 2115 = .ok (.iaload, 1) := sorry
theorem dL_law_2116 : decode cL_law 2116 = .ok (.invokevirtual 283, 3) := sorry
theorem dL_law_2119 : decode cL_law 2119 = .ok (.istore 6, 2) := sorry
theorem dL_law_2121 : decode cL_law 2121 = .ok (.aload_n 2, 1) := sorry
theorem dL_law_2122 : decode cL_law 2122 = .ok (.invokevirtual 155, 3) := sorry
theorem dL_law_2125 : decode cL_law 2125 = .ok (.iload 5, 2) := sorry
theorem dL_law_2127 : decode cL_law 2127 = .ok (.if_icmp .eq 5, 3) := sorry
theorem dL_law_2130 : decode cL_law 2130 = .ok (.iconst 0, 1) := sorry
theorem dL_law_2131 : decode cL_law 2131 = .ok (.ireturn, 1) := sorry
theorem dL_law_2132 : decode cL_law 2132 = .ok (.iload 5, 2) := sorry
theorem dL_law_2134 : decode cL_law 2134 = .ok (.ifCond .ne 15, 3) := sorry
theorem dL_law_2137 : decode cL_law 2137 = .ok (.aload_n 3, 1) := sorry
theorem dL_law_2138 : decode cL_law 2138 = .ok (.iconst 0, 1) := sorry
theorem dL_law_2139 : decode cL_law 2139 = .ok (.laload, 1) := sorry
theorem dL_law_2140 : decode cL_law 2140 = .ok (.iload 6, 2) := sorry
theorem dL_law_2142 : decode cL_law 2142 = .ok (.i2l, 1) := sorry
theorem dL_law_2143 : decode cL_law 2143 = .ok (.lcmp, 1) := sorry
theorem dL_law_2144 : decode cL_law 2144 = .ok (.ifCond .eq 5, 3) := sorry
theorem dL_law_2147 : decode cL_law 2147 = .ok (.iconst 0, 1) := sorry
theorem dL_law_2148 : decode cL_law 2148 = .ok (.ireturn, 1) := sorry
theorem dL_law_2149 : decode cL_law 2149 = .ok (.goto 753, 3) := sorry
theorem dL_law_2152 : decode cL_law 2152 = .ok (.aload_n 1, 1) := sorry
theorem dL_law_2153 : decode cL_law 2153 = .ok (.invokevirtual 284, 3) := sorry
theorem dL_law_2156 : decode cL_law 2156 = .ok (.aload_n 2, 1) := sorry
theorem dL_law_2157 : decode cL_law 2157 = .ok (.invokevirtual 287, 3) := sorry
theorem dL_law_2160 : decode cL_law 2160 = .ok (.if_icmp .eq 742, 3) := sorry
theorem dL_law_2163 : decode cL_law 2163 = .ok (.iconst 0, 1) := sorry
theorem dL_law_2164 : decode cL_law 2164 = .ok (.ireturn, 1) := sorry
theorem dL_law_2165 : decode cL_law 2165 = .ok (.aload_n 1, 1) := sorry
theorem dL_law_2166 : decode cL_law 2166 = .ok (.aload_n 0, 1) := sorry
theorem dL_law_2167 : decode cL_law 2167 = .ok (.iload 4, 2) := sorry
theorem dL_law_2169 : decode cL_law 2169 = .ok (.iconst 1, 1) := sorry
theorem dL_law_2170 : decode cL_law 2170 = .ok (.iadd, 1) := sorry
theorem dL_law_2171 : decode cL_law 2171 = .ok (.iaload, 1) := sorry
theorem dL_law_2172 : decode cL_law 2172 = .ok (.aload_n 0, 1) := sorry
theorem dL_law_2173 : decode cL_law 2173 = .ok (.iload 4, 2) := sorry
theorem dL_law_2175 : decode cL_law 2175 = .ok (.iconst 2, 1) := sorry
theorem dL_law_2176 : decode cL_law 2176 = .ok (.iadd, 1) := sorry
theorem dL_law_2177 : decode cL_law 2177 = .ok (.iaload, 1) := sorry
theorem dL_law_2178 : decode cL_law 2178 = .ok (.aload_n 3, 1) := sorry
theorem dL_law_2179 : decode cL_law 2179 = .ok (.invokestatic 288, 3) := sorry
theorem dL_law_2182 : decode cL_law 2182 = .ok (.istore 5, 2) := sorry
theorem dL_law_2184 : decode cL_law 2184 = .ok (.aload_n 2, 1) := sorry
theorem dL_law_2185 : decode cL_law 2185 = .ok (.aload_n 0, 1) := sorry
theorem dL_law_2186 : decode cL_law 2186 = .ok (.iload 4, 2) := sorry
theorem dL_law_2188 : decode cL_law 2188 = .ok (.iconst 1, 1) := sorry
theorem dL_law_2189 : decode cL_law 2189 = .ok (.iadd, 1) := sorry
theorem dL_law_2190 : decode cL_law 2190 = .ok (.iaload, 1) := sorry
theorem dL_law_2191 : decode cL_law 2191 = .ok (.aload_n 0, 1) := sorry
theorem dL_law_2192 : decode cL_law 2192 = .ok (.iload 4, 2) := sorry
theorem dL_law_2194 : decode cL_law 2194 = .ok (.iconst 2, 1) := sorry
theorem dL_law_2195 : decode cL_law 2195 = .ok (.iadd, 1) := sorry
theorem dL_law_2196 : decode cL_law 2196 = .ok (.iaload, 1) := sorry
theorem dL_law_2197 : decode cL_law 2197 = .ok (.invokevirtual 290, 3) := sorry
theorem dL_law_2200 : decode cL_law 2200 = .ok (.istore 6, 2) := sorry
theorem dL_law_2202 : decode cL_law 2202 = .ok (.aload_n 2, 1) := sorry
theorem dL_law_2203 : decode cL_law 2203 = .ok (.invokevirtual 155, 3) := sorry
theorem dL_law_2206 : decode cL_law 2206 = .ok (.iload 5, 2) := sorry
theorem dL_law_2208 : decode cL_law 2208 = .ok (.if_icmp .eq 5, 3) := sorry
theorem dL_law_2211 : decode cL_law 2211 = .ok (.iconst 0, 1) := sorry
theorem dL_law_2212 : decode cL_law 2212 = .ok (.ireturn, 1) := sorry
theorem dL_law_2213 : decode cL_law 2213 = .ok (.iload 5, 2) := sorry
theorem dL_law_2215 : decode cL_law 2215 = .ok (.ifCond .ne 15, 3) := sorry
theorem dL_law_2218 : decode cL_law 2218 = .ok (.aload_n 3, 1) := sorry
theorem dL_law_2219 : decode cL_law 2219 = .ok (.iconst 0, 1) := sorry
theorem dL_law_2220 : decode cL_law 2220 = .ok (.laload, 1) := sorry
theorem dL_law_2221 : decode cL_law 2221 = .ok (.iload 6, 2) := sorry
theorem dL_law_2223 : decode cL_law 2223 = .ok (.i2l, 1) := sorry
theorem dL_law_2224 : decode cL_law 2224 = .ok (.lcmp, 1) := sorry
theorem dL_law_2225 : decode cL_law 2225 = .ok (.ifCond .eq 5, 3) := sorry
theorem dL_law_2228 : decode cL_law 2228 = .ok (.iconst 0, 1) := sorry
theorem dL_law_2229 : decode cL_law 2229 = .ok (.ireturn, 1) := sorry
theorem dL_law_2230 : decode cL_law 2230 = .ok (.goto 672, 3) := sorry
theorem dL_law_2233 : decode cL_law 2233 = .ok (.aload_n 1, 1) := sorry
theorem dL_law_2234 : decode cL_law 2234 = .ok (.aload_n 0, 1) := sorry
theorem dL_law_2235 : decode cL_law 2235 = .ok (.iload 4, 2) := sorry
theorem dL_law_2237 : decode cL_law 2237 = .ok (.iconst 1, 1) := sorry
theorem dL_law_2238 : decode cL_law 2238 = .ok (.iadd, 1) := sorry
theorem dL_law_2239 : decode cL_law 2239 = .ok (.iaload, 1) := sorry
theorem dL_law_2240 : decode cL_law 2240 = .ok (.invokevirtual 291, 3) := sorry
theorem dL_law_2243 : decode cL_law 2243 = .ok (.aload_n 2, 1) := sorry
theorem dL_law_2244 : decode cL_law 2244 = .ok (.aload_n 0, 1) := sorry
theorem dL_law_2245 : decode cL_law 2245 = .ok (.iload 4, 2) := sorry
theorem dL_law_2247 : decode cL_law 2247 = .ok (.iconst 1, 1) := sorry
theorem dL_law_2248 : decode cL_law 2248 = .ok (.iadd, 1) := sorry
theorem dL_law_2249 : decode cL_law 2249 = .ok (.iaload, 1) := sorry
theorem dL_law_2250 : decode cL_law 2250 = .ok (.invokevirtual 294, 3) := sorry
theorem dL_law_2253 : decode cL_law 2253 = .ok (.if_icmp .eq 649, 3) := sorry
theorem dL_law_2256 : decode cL_law 2256 = .ok (.iconst 0, 1) := sorry
theorem dL_law_2257 : decode cL_law 2257 = .ok (.ireturn, 1) := sorry
theorem dL_law_2258 : decode cL_law 2258 = .ok (.aload_n 1, 1) := sorry
theorem dL_law_2259 : decode cL_law 2259 = .ok (.invokevirtual 295, 3) := sorry
theorem dL_law_2262 : decode cL_law 2262 = .ok (.aload_n 2, 1) := sorry
theorem dL_law_2263 : decode cL_law 2263 = .ok (.invokevirtual 298, 3) := sorry
theorem dL_law_2266 : decode cL_law 2266 = .ok (.if_icmp .eq 636, 3) := sorry
theorem dL_law_2269 : decode cL_law 2269 = .ok (.iconst 0, 1) := sorry
theorem dL_law_2270 : decode cL_law 2270 = .ok (.ireturn, 1) := sorry
theorem dL_law_2271 : decode cL_law 2271 = .ok (.aload_n 1, 1) := sorry
theorem dL_law_2272 : decode cL_law 2272 = .ok (.invokevirtual 299, 3) := sorry
theorem dL_law_2275 : decode cL_law 2275 = .ok (.aload_n 2, 1) := sorry
theorem dL_law_2276 : decode cL_law 2276 = .ok (.invokevirtual 302, 3) := sorry
theorem dL_law_2279 : decode cL_law 2279 = .ok (.if_icmp .eq 623, 3) := sorry
theorem dL_law_2282 : decode cL_law 2282 = .ok (.iconst 0, 1) := sorry
theorem dL_law_2283 : decode cL_law 2283 = .ok (.ireturn, 1) := sorry
theorem dL_law_2284 : decode cL_law 2284 = .ok (.aload_n 1, 1) := sorry
theorem dL_law_2285 : decode cL_law 2285 = .ok (.invokevirtual 303, 3) := sorry
theorem dL_law_2288 : decode cL_law 2288 = .ok (.aload_n 2, 1) := sorry
theorem dL_law_2289 : decode cL_law 2289 = .ok (.invokevirtual 306, 3) := sorry
theorem dL_law_2292 : decode cL_law 2292 = .ok (.if_icmp .eq 610, 3) := sorry
theorem dL_law_2295 : decode cL_law 2295 = .ok (.iconst 0, 1) := sorry
theorem dL_law_2296 : decode cL_law 2296 = .ok (.ireturn, 1) := sorry
theorem dL_law_2297 : decode cL_law 2297 = .ok (.aload_n 1, 1) := sorry
theorem dL_law_2298 : decode cL_law 2298 = .ok (.aload_n 0, 1) := sorry
theorem dL_law_2299 : decode cL_law 2299 = .ok (.iload 4, 2) := sorry
theorem dL_law_2301 : decode cL_law 2301 = .ok (.iconst 1, 1) := sorry
theorem dL_law_2302 : decode cL_law 2302 = .ok (.iadd, 1) := sorry
theorem dL_law_2303 : decode cL_law 2303 = .ok (.iaload, 1) := sorry
theorem dL_law_2304 : decode cL_law 2304 = .ok (.aload_n 0, 1) := sorry
theorem dL_law_2305 : decode cL_law 2305 = .ok (.iload 4, 2) := sorry
theorem dL_law_2307 : decode cL_law 2307 = .ok (.iconst 2, 1) := sorry
theorem dL_law_2308 : decode cL_law 2308 = .ok (.iadd, 1) := sorry
theorem dL_law_2309 : decode cL_law 2309 = .ok (.iaload, 1) := sorry
theorem dL_law_2310 : decode cL_law 2310 = .ok (.aload_n 3, 1) := sorry
theorem dL_law_2311 : decode cL_law 2311 = .ok (.invokestatic 307, 3) := sorry
theorem dL_law_2314 : decode cL_law 2314 = .ok (.istore 5, 2) := sorry
theorem dL_law_2316 : decode cL_law 2316 = .ok (.aload_n 2, 1) := sorry
theorem dL_law_2317 : decode cL_law 2317 = .ok (.aload_n 0, 1) := sorry
theorem dL_law_2318 : decode cL_law 2318 = .ok (.iload 4, 2) := sorry
theorem dL_law_2320 : decode cL_law 2320 = .ok (.iconst 1, 1) := sorry
theorem dL_law_2321 : decode cL_law 2321 = .ok (.iadd, 1) := sorry
theorem dL_law_2322 : decode cL_law 2322 = .ok (.iaload, 1) := sorry
theorem dL_law_2323 : decode cL_law 2323 = .ok (.aload_n 0, 1) := sorry
theorem dL_law_2324 : decode cL_law 2324 = .ok (.iload 4, 2) := sorry
theorem dL_law_2326 : decode cL_law 2326 = .ok (.iconst 2, 1) := sorry
theorem dL_law_2327 : decode cL_law 2327 = .ok (.iadd, 1) := sorry
theorem dL_law_2328 : decode cL_law 2328 = .ok (.iaload, 1) := sorry
theorem dL_law_2329 : decode cL_law 2329 = .ok (.invokevirtual 309, 3) := sorry
theorem dL_law_2332 : decode cL_law 2332 = .ok (.istore 6, 2) := sorry
theorem dL_law_2334 : decode cL_law 2334 = .ok (.aload_n 2, 1) := sorry
theorem dL_law_2335 : decode cL_law 2335 = .ok (.invokevirtual 155, 3) := sorry
theorem dL_law_2338 : decode cL_law 2338 = .ok (.iload 5, 2) := sorry
theorem dL_law_2340 : decode cL_law 2340 = .ok (.if_icmp .eq 5, 3) := sorry
theorem dL_law_2343 : decode cL_law 2343 = .ok (.iconst 0, 1) := sorry
theorem dL_law_2344 : decode cL_law 2344 = .ok (.ireturn, 1) := sorry
theorem dL_law_2345 : decode cL_law 2345 = .ok (.iload 5, 2) := sorry
theorem dL_law_2347 : decode cL_law 2347 = .ok (.ifCond .ne 15, 3) := sorry
theorem dL_law_2350 : decode cL_law 2350 = .ok (.aload_n 3, 1) := sorry
theorem dL_law_2351 : decode cL_law 2351 = .ok (.iconst 0, 1) := sorry
theorem dL_law_2352 : decode cL_law 2352 = .ok (.laload, 1) := sorry
theorem dL_law_2353 : decode cL_law 2353 = .ok (.iload 6, 2) := sorry
theorem dL_law_2355 : decode cL_law 2355 = .ok (.i2l, 1) := sorry
theorem dL_law_2356 : decode cL_law 2356 = .ok (.lcmp, 1) := sorry
theorem dL_law_2357 : decode cL_law 2357 = .ok (.ifCond .eq 5, 3) := sorry
theorem dL_law_2360 : decode cL_law 2360 = .ok (.iconst 0, 1) := sorry
theorem dL_law_2361 : decode cL_law 2361 = .ok (.ireturn, 1) := sorry
theorem dL_law_2362 : decode cL_law 2362 = .ok (.goto 540, 3) := sorry
theorem dL_law_2365 : decode cL_law 2365 = .ok (.aload_n 1, 1) := sorry
theorem dL_law_2366 : decode cL_law 2366 = .ok (.aload_n 0, 1) := sorry
theorem dL_law_2367 : decode cL_law 2367 = .ok (.iload 4, 2) := sorry
theorem dL_law_2369 : decode cL_law 2369 = .ok (.iconst 1, 1) := sorry
theorem dL_law_2370 : decode cL_law 2370 = .ok (.iadd, 1) := sorry
theorem dL_law_2371 : decode cL_law 2371 = .ok (.iaload, 1) := sorry
theorem dL_law_2372 : decode cL_law 2372 = .ok (.aload_n 0, 1) := sorry
theorem dL_law_2373 : decode cL_law 2373 = .ok (.iload 4, 2) := sorry
theorem dL_law_2375 : decode cL_law 2375 = .ok (.iconst 2, 1) := sorry
theorem dL_law_2376 : decode cL_law 2376 = .ok (.iadd, 1) := sorry
theorem dL_law_2377 : decode cL_law 2377 = .ok (.iaload, 1) := sorry
theorem dL_law_2378 : decode cL_law 2378 = .ok (.aload_n 3, 1) := sorry
theorem dL_law_2379 : decode cL_law 2379 = .ok (.invokestatic 310, 3) := sorry
theorem dL_law_2382 : decode cL_law 2382 = .ok (.istore 5, 2) := sorry
theorem dL_law_2384 : decode cL_law 2384 = .ok (.aload_n 2, 1) := sorry
theorem dL_law_2385 : decode cL_law 2385 = .ok (.aload_n 0, 1) := sorry
theorem dL_law_2386 : decode cL_law 2386 = .ok (.iload 4, 2) := sorry
theorem dL_law_2388 : decode cL_law 2388 = .ok (.iconst 1, 1) := sorry
theorem dL_law_2389 : decode cL_law 2389 = .ok (.iadd, 1) := sorry
theorem dL_law_2390 : decode cL_law 2390 = .ok (.iaload, 1) := sorry
theorem dL_law_2391 : decode cL_law 2391 = .ok (.aload_n 0, 1) := sorry
theorem dL_law_2392 : decode cL_law 2392 = .ok (.iload 4, 2) := sorry
theorem dL_law_2394 : decode cL_law 2394 = .ok (.iconst 2, 1) := sorry
theorem dL_law_2395 : decode cL_law 2395 = .ok (.iadd, 1) := sorry
theorem dL_law_2396 : decode cL_law 2396 = .ok (.iaload, 1) := sorry
theorem dL_law_2397 : decode cL_law 2397 = .ok (.invokevirtual 312, 3) := sorry
theorem dL_law_2400 : decode cL_law 2400 = .ok (.istore 6, 2) := sorry
theorem dL_law_2402 : decode cL_law 2402 = .ok (.aload_n 2, 1) := sorry
theorem dL_law_2403 : decode cL_law 2403 = .ok (.invokevirtual 155, 3) := sorry
theorem dL_law_2406 : decode cL_law 2406 = .ok (.iload 5, 2) := sorry
theorem dL_law_2408 : decode cL_law 2408 = .ok (.if_icmp .eq 5, 3) := sorry
theorem dL_law_2411 : decode cL_law 2411 = .ok (.iconst 0, 1) := sorry
theorem dL_law_2412 : decode cL_law 2412 = .ok (.ireturn, 1) := sorry
theorem dL_law_2413 : decode cL_law 2413 = .ok (.iload 5, 2) := sorry
theorem dL_law_2415 : decode cL_law 2415 = .ok (.ifCond .ne 15, 3) := sorry
theorem dL_law_2418 : decode cL_law 2418 = .ok (.aload_n 3, 1) := sorry
theorem dL_law_2419 : decode cL_law 2419 = .ok (.iconst 0, 1) := sorry
theorem dL_law_2420 : decode cL_law 2420 = .ok (.laload, 1) := sorry
theorem dL_law_2421 : decode cL_law 2421 = .ok (.iload 6, 2) := sorry
theorem dL_law_2423 : decode cL_law 2423 = .ok (.i2l, 1) := sorry
theorem dL_law_2424 : decode cL_law 2424 = .ok (.lcmp, 1) := sorry
theorem dL_law_2425 : decode cL_law 2425 = .ok (.ifCond .eq 5, 3) := sorry
theorem dL_law_2428 : decode cL_law 2428 = .ok (.iconst 0, 1) := sorry
theorem dL_law_2429 : decode cL_law 2429 = .ok (.ireturn, 1) := sorry
theorem dL_law_2430 : decode cL_law 2430 = .ok (.goto 472, 3) := sorry
theorem dL_law_2433 : decode cL_law 2433 = .ok (.aload_n 1, 1) := sorry
theorem dL_law_2434 : decode cL_law 2434 = .ok (.aload_n 0, 1) := sorry
theorem dL_law_2435 : decode cL_law 2435 = .ok (.iload 4, 2) := sorry
theorem dL_law_2437 : decode cL_law 2437 = .ok (.iconst 1, 1) := sorry
theorem dL_law_2438 : decode cL_law 2438 = .ok (.iadd, 1) := sorry
theorem dL_law_2439 : decode cL_law 2439 = .ok (.iaload, 1) := sorry
theorem dL_law_2440 : decode cL_law 2440 = .ok (.aload_n 0, 1) := sorry
theorem dL_law_2441 : decode cL_law 2441 = .ok (.iload 4, 2) := sorry
theorem dL_law_2443 : decode cL_law 2443 = .ok (.iconst 2, 1) := sorry
theorem dL_law_2444 : decode cL_law 2444 = .ok (.iadd, 1) := sorry
theorem dL_law_2445 : decode cL_law 2445 = .ok (.iaload, 1) := sorry
theorem dL_law_2446 : decode cL_law 2446 = .ok (.aload_n 3, 1) := sorry
theorem dL_law_2447 : decode cL_law 2447 = .ok (.invokestatic 313, 3) := sorry
theorem dL_law_2450 : decode cL_law 2450 = .ok (.istore 5, 2) := sorry
theorem dL_law_2452 : decode cL_law 2452 = .ok (.aload_n 2, 1) := sorry
theorem dL_law_2453 : decode cL_law 2453 = .ok (.aload_n 0, 1) := sorry
theorem dL_law_2454 : decode cL_law 2454 = .ok (.iload 4, 2) := sorry
theorem dL_law_2456 : decode cL_law 2456 = .ok (.iconst 1, 1) := sorry
theorem dL_law_2457 : decode cL_law 2457 = .ok (.iadd, 1) := sorry
theorem dL_law_2458 : decode cL_law 2458 = .ok (.iaload, 1) := sorry
theorem dL_law_2459 : decode cL_law 2459 = .ok (.aload_n 0, 1) := sorry
theorem dL_law_2460 : decode cL_law 2460 = .ok (.iload 4, 2) := sorry
theorem dL_law_2462 : decode cL_law 2462 = .ok (.iconst 2, 1) := sorry
theorem dL_law_2463 : decode cL_law 2463 = .ok (.iadd, 1) := sorry
theorem dL_law_2464 : decode cL_law 2464 = .ok (.iaload, 1) := sorry
theorem dL_law_2465 : decode cL_law 2465 = .ok (.invokevirtual 315, 3) := sorry
theorem dL_law_2468 : decode cL_law 2468 = .ok (.istore 6, 2) := sorry
theorem dL_law_2470 : decode cL_law 2470 = .ok (.aload_n 2, 1) := sorry
theorem dL_law_2471 : decode cL_law 2471 = .ok (.invokevirtual 155, 3) := sorry
theorem dL_law_2474 : decode cL_law 2474 = .ok (.iload 5, 2) := sorry
theorem dL_law_2476 : decode cL_law 2476 = .ok (.if_icmp .eq 5, 3) := sorry
theorem dL_law_2479 : decode cL_law 2479 = .ok (.iconst 0, 1) := sorry
theorem dL_law_2480 : decode cL_law 2480 = .ok (.ireturn, 1) := sorry
theorem dL_law_2481 : decode cL_law 2481 = .ok (.iload 5, 2) := sorry
theorem dL_law_2483 : decode cL_law 2483 = .ok (.ifCond .ne 15, 3) := sorry
theorem dL_law_2486 : decode cL_law 2486 = .ok (.aload_n 3, 1) := sorry
theorem dL_law_2487 : decode cL_law 2487 = .ok (.iconst 0, 1) := sorry
theorem dL_law_2488 : decode cL_law 2488 = .ok (.laload, 1) := sorry
theorem dL_law_2489 : decode cL_law 2489 = .ok (.iload 6, 2) := sorry
theorem dL_law_2491 : decode cL_law 2491 = .ok (.i2l, 1) := sorry
theorem dL_law_2492 : decode cL_law 2492 = .ok (.lcmp, 1) := sorry
theorem dL_law_2493 : decode cL_law 2493 = .ok (.ifCond .eq 5, 3) := sorry
theorem dL_law_2496 : decode cL_law 2496 = .ok (.iconst 0, 1) := sorry
theorem dL_law_2497 : decode cL_law 2497 = .ok (.ireturn, 1) := sorry
theorem dL_law_2498 : decode cL_law 2498 = .ok (.goto 404, 3) := sorry
theorem dL_law_2501 : decode cL_law 2501 = .ok (.aload_n 1, 1) := sorry
theorem dL_law_2502 : decode cL_law 2502 = .ok (.aload_n 0, 1) := sorry
theorem dL_law_2503 : decode cL_law 2503 = .ok (.iload 4, 2) := sorry
theorem dL_law_2505 : decode cL_law 2505 = .ok (.iconst 1, 1) := sorry
theorem dL_law_2506 : decode cL_law 2506 = .ok (.iadd, 1) := sorry
theorem dL_law_2507 : decode cL_law 2507 = .ok (.iaload, 1) := sorry
theorem dL_law_2508 : decode cL_law 2508 = .ok (.aload_n 3, 1) := sorry
theorem dL_law_2509 : decode cL_law 2509 = .ok (.invokestatic 316, 3) := sorry
theorem dL_law_2512 : decode cL_law 2512 = .ok (.istore 5, 2) := sorry
theorem dL_law_2514 : decode cL_law 2514 = .ok (.aload_n 2, 1) := sorry
theorem dL_law_2515 : decode cL_law 2515 = .ok (.aload_n 0, 1) := sorry
theorem dL_law_2516 : decode cL_law 2516 = .ok (.iload 4, 2) := sorry
theorem dL_law_2518 : decode cL_law 2518 = .ok (.iconst 1, 1) := sorry
theorem dL_law_2519 : decode cL_law 2519 = .ok (.iadd, 1) := sorry
theorem dL_law_2520 : decode cL_law 2520 = .ok (.iaload, 1) := sorry
theorem dL_law_2521 : decode cL_law 2521 = .ok (.invokevirtual 318, 3) := sorry
theorem dL_law_2524 : decode cL_law 2524 = .ok (.istore 6, 2) := sorry
theorem dL_law_2526 : decode cL_law 2526 = .ok (.aload_n 2, 1) := sorry
theorem dL_law_2527 : decode cL_law 2527 = .ok (.invokevirtual 155, 3) := sorry
theorem dL_law_2530 : decode cL_law 2530 = .ok (.iload 5, 2) := sorry
theorem dL_law_2532 : decode cL_law 2532 = .ok (.if_icmp .eq 5, 3) := sorry
theorem dL_law_2535 : decode cL_law 2535 = .ok (.iconst 0, 1) := sorry
theorem dL_law_2536 : decode cL_law 2536 = .ok (.ireturn, 1) := sorry
theorem dL_law_2537 : decode cL_law 2537 = .ok (.iload 5, 2) := sorry
theorem dL_law_2539 : decode cL_law 2539 = .ok (.ifCond .ne 15, 3) := sorry
theorem dL_law_2542 : decode cL_law 2542 = .ok (.aload_n 3, 1) := sorry
theorem dL_law_2543 : decode cL_law 2543 = .ok (.iconst 0, 1) := sorry
theorem dL_law_2544 : decode cL_law 2544 = .ok (.laload, 1) := sorry
theorem dL_law_2545 : decode cL_law 2545 = .ok (.iload 6, 2) := sorry
theorem dL_law_2547 : decode cL_law 2547 = .ok (.i2l, 1) := sorry
theorem dL_law_2548 : decode cL_law 2548 = .ok (.lcmp, 1) := sorry
theorem dL_law_2549 : decode cL_law 2549 = .ok (.ifCond .eq 5, 3) := sorry
theorem dL_law_2552 : decode cL_law 2552 = .ok (.iconst 0, 1) := sorry
theorem dL_law_2553 : decode cL_law 2553 = .ok (.ireturn, 1) := sorry
theorem dL_law_2554 : decode cL_law 2554 = .ok (.goto 348, 3) := sorry
theorem dL_law_2557 : decode cL_law 2557 = .ok (.aload_n 1, 1) := sorry
theorem dL_law_2558 : decode cL_law 2558 = .ok (.invokevirtual 319, 3) := sorry
theorem dL_law_2561 : decode cL_law 2561 = .ok (.aload_n 2, 1) := sorry
theorem dL_law_2562 : decode cL_law 2562 = .ok (.invokevirtual 322, 3) := sorry
theorem dL_law_2565 : decode cL_law 2565 = .ok (.if_icmp .eq 337, 3) := sorry
theorem dL_law_2568 : decode cL_law 2568 = .ok (.iconst 0, 1) := sorry
theorem dL_law_2569 : decode cL_law 2569 = .ok (.ireturn, 1) := sorry
theorem dL_law_2570 : decode cL_law 2570 = .ok (.aload_n 1, 1) := sorry
theorem dL_law_2571 : decode cL_law 2571 = .ok (.invokevirtual 323, 3) := sorry
theorem dL_law_2574 : decode cL_law 2574 = .ok (.aload_n 2, 1) := sorry
theorem dL_law_2575 : decode cL_law 2575 = .ok (.invokevirtual 326, 3) := sorry
theorem dL_law_2578 : decode cL_law 2578 = .ok (.if_icmp .eq 324, 3) := sorry
theorem dL_law_2581 : decode cL_law 2581 = .ok (.iconst 0, 1) := sorry
theorem dL_law_2582 : decode cL_law 2582 = .ok (.ireturn, 1) := sorry
theorem dL_law_2583 : decode cL_law 2583 = .ok (.aload_n 1, 1) := sorry
theorem dL_law_2584 : decode cL_law 2584 = .ok (.aload_n 3, 1) := sorry
theorem dL_law_2585 : decode cL_law 2585 = .ok (.invokestatic 327, 3) := sorry
theorem dL_law_2588 : decode cL_law 2588 = .ok (.istore 5, 2) := sorry
theorem dL_law_2590 : decode cL_law 2590 = .ok (.aload_n 2, 1) := sorry
theorem dL_law_2591 : decode cL_law 2591 = .ok (.invokevirtual 329, 3) := sorry
theorem dL_law_2594 : decode cL_law 2594 = .ok (.istore 6, 2) := sorry
theorem dL_law_2596 : decode cL_law 2596 = .ok (.aload_n 2, 1) := sorry
theorem dL_law_2597 : decode cL_law 2597 = .ok (.invokevirtual 155, 3) := sorry
theorem dL_law_2600 : decode cL_law 2600 = .ok (.iload 5, 2) := sorry
theorem dL_law_2602 : decode cL_law 2602 = .ok (.if_icmp .eq 5, 3) := sorry
theorem dL_law_2605 : decode cL_law 2605 = .ok (.iconst 0, 1) := sorry
theorem dL_law_2606 : decode cL_law 2606 = .ok (.ireturn, 1) := sorry
theorem dL_law_2607 : decode cL_law 2607 = .ok (.iload 5, 2) := sorry
theorem dL_law_2609 : decode cL_law 2609 = .ok (.ifCond .ne 15, 3) := sorry
theorem dL_law_2612 : decode cL_law 2612 = .ok (.aload_n 3, 1) := sorry
theorem dL_law_2613 : decode cL_law 2613 = .ok (.iconst 0, 1) := sorry
theorem dL_law_2614 : decode cL_law 2614 = .ok (.laload, 1) := sorry
theorem dL_law_2615 : decode cL_law 2615 = .ok (.iload 6, 2) := sorry
theorem dL_law_2617 : decode cL_law 2617 = .ok (.i2l, 1) := sorry
theorem dL_law_2618 : decode cL_law 2618 = .ok (.lcmp, 1) := sorry
theorem dL_law_2619 : decode cL_law 2619 = .ok (.ifCond .eq 5, 3) := sorry
theorem dL_law_2622 : decode cL_law 2622 = .ok (.iconst 0, 1) := sorry
theorem dL_law_2623 : decode cL_law 2623 = .ok (.ireturn, 1) := sorry
theorem dL_law_2624 : decode cL_law 2624 = .ok (.goto 278, 3) := sorry
theorem dL_law_2627 : decode cL_law 2627 = .ok (.aload_n 1, 1) := sorry
theorem dL_law_2628 : decode cL_law 2628 = .ok (.aload_n 3, 1) := sorry
theorem dL_law_2629 : decode cL_law 2629 = .ok (.invokestatic 330, 3) := sorry
theorem dL_law_2632 : decode cL_law 2632 = .ok (.istore 5, 2) := sorry
theorem dL_law_2634 : decode cL_law 2634 = .ok (.aload_n 2, 1) := sorry
theorem dL_law_2635 : decode cL_law 2635 = .ok (.invokevirtual 332, 3) := sorry
theorem dL_law_2638 : decode cL_law 2638 = .ok (.istore 6, 2) := sorry
theorem dL_law_2640 : decode cL_law 2640 = .ok (.aload_n 2, 1) := sorry
theorem dL_law_2641 : decode cL_law 2641 = .ok (.invokevirtual 155, 3) := sorry
theorem dL_law_2644 : decode cL_law 2644 = .ok (.iload 5, 2) := sorry
theorem dL_law_2646 : decode cL_law 2646 = .ok (.if_icmp .eq 5, 3) := sorry
theorem dL_law_2649 : decode cL_law 2649 = .ok (.iconst 0, 1) := sorry
theorem dL_law_2650 : decode cL_law 2650 = .ok (.ireturn, 1) := sorry
theorem dL_law_2651 : decode cL_law 2651 = .ok (.iload 5, 2) := sorry
theorem dL_law_2653 : decode cL_law 2653 = .ok (.ifCond .ne 15, 3) := sorry
theorem dL_law_2656 : decode cL_law 2656 = .ok (.aload_n 3, 1) := sorry
theorem dL_law_2657 : decode cL_law 2657 = .ok (.iconst 0, 1) := sorry
theorem dL_law_2658 : decode cL_law 2658 = .ok (.laload, 1) := sorry
theorem dL_law_2659 : decode cL_law 2659 = .ok (.iload 6, 2) := sorry
theorem dL_law_2661 : decode cL_law 2661 = .ok (.i2l, 1) := sorry
theorem dL_law_2662 : decode cL_law 2662 = .ok (.lcmp, 1) := sorry
theorem dL_law_2663 : decode cL_law 2663 = .ok (.ifCond .eq 5, 3) := sorry
theorem dL_law_2666 : decode cL_law 2666 = .ok (.iconst 0, 1) := sorry
theorem dL_law_2667 : decode cL_law 2667 = .ok (.ireturn, 1) := sorry
theorem dL_law_2668 : decode cL_law 2668 = .ok (.goto 234, 3) := sorry
theorem dL_law_2671 : decode cL_law 2671 = .ok (.aload_n 1, 1) := sorry
theorem dL_law_2672 : decode cL_law 2672 = .ok (.invokevirtual 333, 3) := sorry
theorem dL_law_2675 : decode cL_law 2675 = .ok (.aload_n 2, 1) := sorry
theorem dL_law_2676 : decode cL_law 2676 = .ok (.invokevirtual 336, 3) := sorry
theorem dL_law_2679 : decode cL_law 2679 = .ok (.if_icmp .eq 223, 3) := sorry
theorem dL_law_2682 : decode cL_law 2682 = .ok (.iconst 0, 1) := sorry
theorem dL_law_2683 : decode cL_law 2683 = .ok (.ireturn, 1) := sorry
theorem dL_law_2684 : decode cL_law 2684 = .ok (.aload_n 1, 1) := sorry
theorem dL_law_2685 : decode cL_law 2685 = .ok (.invokevirtual 337, 3) := sorry
theorem dL_law_2688 : decode cL_law 2688 = .ok (.aload_n 2, 1) := sorry
theorem dL_law_2689 : decode cL_law 2689 = .ok (.invokevirtual 340, 3) := sorry
theorem dL_law_2692 : decode cL_law 2692 = .ok (.if_icmp .eq 210, 3) := sorry
theorem dL_law_2695 : decode cL_law 2695 = .ok (.iconst 0, 1) := sorry
theorem dL_law_2696 : decode cL_law 2696 = .ok (.ireturn, 1) := sorry
theorem dL_law_2697 : decode cL_law 2697 = .ok (.aload_n 1, 1) := sorry
theorem dL_law_2698 : decode cL_law 2698 = .ok (.aload_n 0, 1) := sorry
theorem dL_law_2699 : decode cL_law 2699 = .ok (.iload 4, 2) := sorry
theorem dL_law_2701 : decode cL_law 2701 = .ok (.iconst 1, 1) := sorry
theorem dL_law_2702 : decode cL_law 2702 = .ok (.iadd, 1) := sorry
theorem dL_law_2703 : decode cL_law 2703 = .ok (.iaload, 1) := sorry
theorem dL_law_2704 : decode cL_law 2704 = .ok (.aload_n 3, 1) := sorry
theorem dL_law_2705 : decode cL_law 2705 = .ok (.invokestatic 341, 3) := sorry
theorem dL_law_2708 : decode cL_law 2708 = .ok (.istore 5, 2) := sorry
theorem dL_law_2710 : decode cL_law 2710 = .ok (.aload_n 2, 1) := sorry
theorem dL_law_2711 : decode cL_law 2711 = .ok (.aload_n 0, 1) := sorry
theorem dL_law_2712 : decode cL_law 2712 = .ok (.iload 4, 2) := sorry
theorem dL_law_2714 : decode cL_law 2714 = .ok (.iconst 1, 1) := sorry
theorem dL_law_2715 : decode cL_law 2715 = .ok (.iadd, 1) := sorry
theorem dL_law_2716 : decode cL_law 2716 = .ok (.iaload, 1) := sorry
theorem dL_law_2717 : decode cL_law 2717 = .ok (.invokevirtual 343, 3) := sorry
theorem dL_law_2720 : decode cL_law 2720 = .ok (.istore 6, 2) := sorry
theorem dL_law_2722 : decode cL_law 2722 = .ok (.aload_n 2, 1) := sorry
theorem dL_law_2723 : decode cL_law 2723 = .ok (.invokevirtual 155, 3) := sorry
theorem dL_law_2726 : decode cL_law 2726 = .ok (.iload 5, 2) := sorry
theorem dL_law_2728 : decode cL_law 2728 = .ok (.if_icmp .eq 5, 3) := sorry
theorem dL_law_2731 : decode cL_law 2731 = .ok (.iconst 0, 1) := sorry
theorem dL_law_2732 : decode cL_law 2732 = .ok (.ireturn, 1) := sorry
theorem dL_law_2733 : decode cL_law 2733 = .ok (.iload 5, 2) := sorry
theorem dL_law_2735 : decode cL_law 2735 = .ok (.ifCond .ne 15, 3) := sorry
theorem dL_law_2738 : decode cL_law 2738 = .ok (.aload_n 3, 1) := sorry
theorem dL_law_2739 : decode cL_law 2739 = .ok (.iconst 0, 1) := sorry
theorem dL_law_2740 : decode cL_law 2740 = .ok (.laload, 1) := sorry
theorem dL_law_2741 : decode cL_law 2741 = .ok (.iload 6, 2) := sorry
theorem dL_law_2743 : decode cL_law 2743 = .ok (.i2l, 1) := sorry
theorem dL_law_2744 : decode cL_law 2744 = .ok (.lcmp, 1) := sorry
theorem dL_law_2745 : decode cL_law 2745 = .ok (.ifCond .eq 5, 3) := sorry
theorem dL_law_2748 : decode cL_law 2748 = .ok (.iconst 0, 1) := sorry
theorem dL_law_2749 : decode cL_law 2749 = .ok (.ireturn, 1) := sorry
theorem dL_law_2750 : decode cL_law 2750 = .ok (.goto 152, 3) := sorry
theorem dL_law_2753 : decode cL_law 2753 = .ok (.aload_n 1, 1) := sorry
theorem dL_law_2754 : decode cL_law 2754 = .ok (.aload_n 0, 1) := sorry
theorem dL_law_2755 : decode cL_law 2755 = .ok (.iload 4, 2) := sorry
theorem dL_law_2757 : decode cL_law 2757 = .ok (.iconst 1, 1) := sorry
theorem dL_law_2758 : decode cL_law 2758 = .ok (.iadd, 1) := sorry
theorem dL_law_2759 : decode cL_law 2759 = .ok (.iaload, 1) := sorry
theorem dL_law_2760 : decode cL_law 2760 = .ok (.aload_n 0, 1) := sorry
theorem dL_law_2761 : decode cL_law 2761 = .ok (.iload 4, 2) := sorry
theorem dL_law_2763 : decode cL_law 2763 = .ok (.iconst 2, 1) := sorry
theorem dL_law_2764 : decode cL_law 2764 = .ok (.iadd, 1) := sorry
theorem dL_law_2765 : decode cL_law 2765 = .ok (.iaload, 1) := sorry
theorem dL_law_2766 : decode cL_law 2766 = .ok (.aload_n 3, 1) := sorry
theorem dL_law_2767 : decode cL_law 2767 = .ok (.invokestatic 344, 3) := sorry
theorem dL_law_2770 : decode cL_law 2770 = .ok (.istore 5, 2) := sorry
theorem dL_law_2772 : decode cL_law 2772 = .ok (.aload_n 2, 1) := sorry
theorem dL_law_2773 : decode cL_law 2773 = .ok (.aload_n 0, 1) := sorry
theorem dL_law_2774 : decode cL_law 2774 = .ok (.iload 4, 2) := sorry
theorem dL_law_2776 : decode cL_law 2776 = .ok (.iconst 1, 1) := sorry
theorem dL_law_2777 : decode cL_law 2777 = .ok (.iadd, 1) := sorry
theorem dL_law_2778 : decode cL_law 2778 = .ok (.iaload, 1) := sorry
theorem dL_law_2779 : decode cL_law 2779 = .ok (.aload_n 0, 1) := sorry
theorem dL_law_2780 : decode cL_law 2780 = .ok (.iload 4, 2) := sorry
theorem dL_law_2782 : decode cL_law 2782 = .ok (.iconst 2, 1) := sorry
theorem dL_law_2783 : decode cL_law 2783 = .ok (.iadd, 1) := sorry
theorem dL_law_2784 : decode cL_law 2784 = .ok (.iaload, 1) := sorry
theorem dL_law_2785 : decode cL_law 2785 = .ok (.invokevirtual 346, 3) := sorry
theorem dL_law_2788 : decode cL_law 2788 = .ok (.istore 6, 2) := sorry
theorem dL_law_2790 : decode cL_law 2790 = .ok (.aload_n 2, 1) := sorry
theorem dL_law_2791 : decode cL_law 2791 = .ok (.invokevirtual 155, 3) := sorry
theorem dL_law_2794 : decode cL_law 2794 = .ok (.iload 5, 2) := sorry
theorem dL_law_2796 : decode cL_law 2796 = .ok (.if_icmp .eq 5, 3) := sorry
theorem dL_law_2799 : decode cL_law 2799 = .ok (.iconst 0, 1) := sorry
theorem dL_law_2800 : decode cL_law 2800 = .ok (.ireturn, 1) := sorry
theorem dL_law_2801 : decode cL_law 2801 = .ok (.iload 5, 2) := sorry
theorem dL_law_2803 : decode cL_law 2803 = .ok (.ifCond .ne 15, 3) := sorry
theorem dL_law_2806 : decode cL_law 2806 = .ok (.aload_n 3, 1) := sorry
theorem dL_law_2807 : decode cL_law 2807 = .ok (.iconst 0, 1) := sorry
theorem dL_law_2808 : decode cL_law 2808 = .ok (.laload, 1) := sorry
theorem dL_law_2809 : decode cL_law 2809 = .ok (.iload 6, 2) := sorry
theorem dL_law_2811 : decode cL_law 2811 = .ok (.i2l, 1) := sorry
theorem dL_law_2812 : decode cL_law 2812 = .ok (.lcmp, 1) := sorry
theorem dL_law_2813 : decode cL_law 2813 = .ok (.ifCond .eq 5, 3) := sorry
theorem dL_law_2816 : decode cL_law 2816 = .ok (.iconst 0, 1) := sorry
theorem dL_law_2817 : decode cL_law 2817 = .ok (.ireturn, 1) := sorry
theorem dL_law_2818 : decode cL_law 2818 = .ok (.goto 84, 3) := sorry
theorem dL_law_2821 : decode cL_law 2821 = .ok (.aload_n 1, 1) := sorry
theorem dL_law_2822 : decode cL_law 2822 = .ok (.aload_n 0, 1) := sorry
theorem dL_law_2823 : decode cL_law 2823 = .ok (.iload 4, 2) := sorry
theorem dL_law_2825 : decode cL_law 2825 = .ok (.iconst 1, 1) := sorry
theorem dL_law_2826 : decode cL_law 2826 = .ok (.iadd, 1) := sorry
theorem dL_law_2827 : decode cL_law 2827 = .ok (.iaload, 1) := sorry
theorem dL_law_2828 : decode cL_law 2828 = .ok (.aload_n 3, 1) := sorry
theorem dL_law_2829 : decode cL_law 2829 = .ok (.invokestatic 347, 3) := sorry
theorem dL_law_2832 : decode cL_law 2832 = .ok (.istore 5, 2) := sorry
theorem dL_law_2834 : decode cL_law 2834 = .ok (.aload_n 2, 1) := sorry
theorem dL_law_2835 : decode cL_law 2835 = .ok (.aload_n 0, 1) := sorry
theorem dL_law_2836 : decode cL_law 2836 = .ok (.iload 4, 2) := sorry
theorem dL_law_2838 : decode cL_law 2838 = .ok (.iconst 1, 1) := sorry
theorem dL_law_2839 : decode cL_law 2839 = .ok (.iadd, 1) := sorry
theorem dL_law_2840 : decode cL_law 2840 = .ok (.iaload, 1) := sorry
theorem dL_law_2841 : decode cL_law 2841 = .ok (.invokevirtual 349, 3) := sorry
theorem dL_law_2844 : decode cL_law 2844 = .ok (.istore 6, 2) := sorry
theorem dL_law_2846 : decode cL_law 2846 = .ok (.aload_n 2, 1) := sorry
theorem dL_law_2847 : decode cL_law 2847 = .ok (.invokevirtual 155, 3) := sorry
theorem dL_law_2850 : decode cL_law 2850 = .ok (.iload 5, 2) := sorry
theorem dL_law_2852 : decode cL_law 2852 = .ok (.if_icmp .eq 5, 3) := sorry
theorem dL_law_2855 : decode cL_law 2855 = .ok (.iconst 0, 1) := sorry
theorem dL_law_2856 : decode cL_law 2856 = .ok (.ireturn, 1) := sorry
theorem dL_law_2857 : decode cL_law 2857 = .ok (.iload 5, 2) := sorry
theorem dL_law_2859 : decode cL_law 2859 = .ok (.ifCond .ne 15, 3) := sorry
theorem dL_law_2862 : decode cL_law 2862 = .ok (.aload_n 3, 1) := sorry
theorem dL_law_2863 : decode cL_law 2863 = .ok (.iconst 0, 1) := sorry
theorem dL_law_2864 : decode cL_law 2864 = .ok (.laload, 1) := sorry
theorem dL_law_2865 : decode cL_law 2865 = .ok (.iload 6, 2) := sorry
theorem dL_law_2867 : decode cL_law 2867 = .ok (.i2l, 1) := sorry
theorem dL_law_2868 : decode cL_law 2868 = .ok (.lcmp, 1) := sorry
theorem dL_law_2869 : decode cL_law 2869 = .ok (.ifCond .eq 5, 3) := sorry
theorem dL_law_2872 : decode cL_law 2872 = .ok (.iconst 0, 1) := sorry
theorem dL_law_2873 : decode cL_law 2873 = .ok (.ireturn, 1) := sorry
theorem dL_law_2874 : decode cL_law 2874 = .ok (.goto 28, 3) := sorry
theorem dL_law_2877 : decode cL_law 2877 = .ok (.aload_n 1, 1) := sorry
theorem dL_law_2878 : decode cL_law 2878 = .ok (.aload_n 0, 1) := sorry
theorem dL_law_2879 : decode cL_law 2879 = .ok (.iload 4, 2) := sorry
theorem dL_law_2881 : decode cL_law 2881 = .ok (.iconst 1, 1) := sorry
theorem dL_law_2882 : decode cL_law 2882 = .ok (.iadd, 1) := sorry
theorem dL_law_2883 : decode cL_law 2883 = .ok (.iaload, 1) := sorry
theorem dL_law_2884 : decode cL_law 2884 = .ok (.invokevirtual 350, 3) := sorry
theorem dL_law_2887 : decode cL_law 2887 = .ok (.aload_n 2, 1) := sorry
theorem dL_law_2888 : decode cL_law 2888 = .ok (.aload_n 0, 1) := sorry
theorem dL_law_2889 : decode cL_law 2889 = .ok (.iload 4, 2) := sorry
theorem dL_law_2891 : decode cL_law 2891 = .ok (.iconst 1, 1) := sorry
theorem dL_law_2892 : decode cL_law 2892 = .ok (.iadd, 1) := sorry
theorem dL_law_2893 : decode cL_law 2893 = .ok (.iaload, 1) := sorry
theorem dL_law_2894 : decode cL_law 2894 = .ok (.invokevirtual 353, 3) := sorry
theorem dL_law_2897 : decode cL_law 2897 = .ok (.if_icmp .eq 5, 3) := sorry
theorem dL_law_2900 : decode cL_law 2900 = .ok (.iconst 0, 1) := sorry
theorem dL_law_2901 : decode cL_law 2901 = .ok (.ireturn, 1) := sorry
theorem dL_law_2902 : decode cL_law 2902 = .ok (.iinc 4 6, 3) := sorry
theorem dL_law_2905 : decode cL_law 2905 = .ok (.goto (-2882), 3) := sorry
theorem dL_law_2908 : decode cL_law 2908 = .ok (.iconst 1, 1) := sorry
theorem dL_law_2909 : decode cL_law 2909 = .ok (.ireturn, 1) := sorry
