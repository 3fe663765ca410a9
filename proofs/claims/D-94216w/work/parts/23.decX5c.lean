set_option maxRecDepth 100000
def dkwX5_hands_5 : List UInt8 := [42, 180, 0, 140, 6, 27, 96, 28, 79, 21, 5, 172]
abbrev dktX5_hands_5 : List UInt8 := dkwX5_hands_5 ++ []
def dkwX5_hands_4 : List UInt8 := [16, 6, 21, 4, 104, 28, 96, 46, 100, 104, 16, 10, 108, 79, 42, 180, 0, 140, 5, 92, 46, 4, 96, 79]
abbrev dktX5_hands_4 : List UInt8 := dkwX5_hands_4 ++ dktX5_hands_5
def dkwX5_hands_3 : List UInt8 := [42, 180, 0, 140, 16, 67, 42, 180, 0, 140, 5, 46, 96, 42, 180, 0, 111, 16, 10, 42, 180, 0, 60]
abbrev dktX5_hands_3 : List UInt8 := dkwX5_hands_3 ++ dktX5_hands_4
def dkwX5_hands_2 : List UInt8 := [42, 180, 0, 140, 16, 51, 27, 96, 92, 46, 4, 96, 79, 42, 180, 0, 140, 5, 46, 16, 60, 162, 0, 50]
abbrev dktX5_hands_2 : List UInt8 := dkwX5_hands_2 ++ dktX5_hands_3
def dkwX5_hands_1 : List UInt8 := [16, 11, 27, 96, 92, 46, 21, 5, 96, 79, 42, 180, 0, 140, 16, 59, 27, 96, 92, 46, 21, 5, 96, 79]
abbrev dktX5_hands_1 : List UInt8 := dkwX5_hands_1 ++ dktX5_hands_2
def dkwX5_hands_0 : List UInt8 := [42, 180, 0, 140, 6, 27, 96, 46, 54, 4, 42, 21, 4, 28, 29, 182, 0, 132, 54, 5, 42, 180, 0, 140]
abbrev dktX5_hands_0 : List UInt8 := dkwX5_hands_0 ++ dktX5_hands_1
theorem dksX5_hands_0 : cX5_hands.data.toList.drop 0 = dktX5_hands_0 := by decide +kernel
theorem dksX5_hands_1 : cX5_hands.data.toList.drop 24 = dktX5_hands_1 := dk_seg dksX5_hands_0 24 rfl rfl
theorem dksX5_hands_2 : cX5_hands.data.toList.drop 48 = dktX5_hands_2 := dk_seg dksX5_hands_1 24 rfl rfl
theorem dksX5_hands_3 : cX5_hands.data.toList.drop 72 = dktX5_hands_3 := dk_seg dksX5_hands_2 24 rfl rfl
theorem dksX5_hands_4 : cX5_hands.data.toList.drop 95 = dktX5_hands_4 := dk_seg dksX5_hands_3 23 rfl rfl
theorem dksX5_hands_5 : cX5_hands.data.toList.drop 119 = dktX5_hands_5 := dk_seg dksX5_hands_4 24 rfl rfl
theorem dX5_hands_0 : decode cX5_hands 0 = .ok (.aload_n 0, 1) := dk_42 (dk_at dksX5_hands_0 0 rfl rfl)
theorem dX5_hands_1 : decode cX5_hands 1 = .ok (.getfield 140, 3) := dk_180 0 140 (dk_at dksX5_hands_0 1 rfl rfl)
theorem dX5_hands_4 : decode cX5_hands 4 = .ok (.iconst 3, 1) := dk_6 (dk_at dksX5_hands_0 4 rfl rfl)
theorem dX5_hands_5 : decode cX5_hands 5 = .ok (.iload_n 1, 1) := dk_27 (dk_at dksX5_hands_0 5 rfl rfl)
theorem dX5_hands_6 : decode cX5_hands 6 = .ok (.iadd, 1) := dk_96 (dk_at dksX5_hands_0 6 rfl rfl)
theorem dX5_hands_7 : decode cX5_hands 7 = .ok (.iaload, 1) := dk_46 (dk_at dksX5_hands_0 7 rfl rfl)
theorem dX5_hands_8 : decode cX5_hands 8 = .ok (.istore 4, 2) := dk_54 4 (dk_at dksX5_hands_0 8 rfl rfl)
theorem dX5_hands_10 : decode cX5_hands 10 = .ok (.aload_n 0, 1) := dk_42 (dk_at dksX5_hands_0 10 rfl rfl)
theorem dX5_hands_11 : decode cX5_hands 11 = .ok (.iload 4, 2) := dk_21 4 (dk_at dksX5_hands_0 11 rfl rfl)
theorem dX5_hands_13 : decode cX5_hands 13 = .ok (.iload_n 2, 1) := dk_28 (dk_at dksX5_hands_0 13 rfl rfl)
theorem dX5_hands_14 : decode cX5_hands 14 = .ok (.iload_n 3, 1) := dk_29 (dk_at dksX5_hands_0 14 rfl rfl)
theorem dX5_hands_15 : decode cX5_hands 15 = .ok (.invokevirtual 132, 3) := dk_182 0 132 (dk_at dksX5_hands_0 15 rfl rfl)
theorem dX5_hands_18 : decode cX5_hands 18 = .ok (.istore 5, 2) := dk_54 5 (dk_at dksX5_hands_0 18 rfl rfl)
theorem dX5_hands_20 : decode cX5_hands 20 = .ok (.aload_n 0, 1) := dk_42 (dk_at dksX5_hands_0 20 rfl rfl)
theorem dX5_hands_21 : decode cX5_hands 21 = .ok (.getfield 140, 3) := dk_180 0 140 (dk_at dksX5_hands_0 21 rfl rfl)
theorem dX5_hands_24 : decode cX5_hands 24 = .ok (.bipush 11, 2) := dk_16 11 (dk_at dksX5_hands_1 0 rfl rfl)
theorem dX5_hands_26 : decode cX5_hands 26 = .ok (.iload_n 1, 1) := dk_27 (dk_at dksX5_hands_1 2 rfl rfl)
theorem dX5_hands_27 : decode cX5_hands 27 = .ok (.iadd, 1) := dk_96 (dk_at dksX5_hands_1 3 rfl rfl)
theorem dX5_hands_28 : decode cX5_hands 28 = .ok (.dup2, 1) := dk_92 (dk_at dksX5_hands_1 4 rfl rfl)
theorem dX5_hands_29 : decode cX5_hands 29 = .ok (.iaload, 1) := dk_46 (dk_at dksX5_hands_1 5 rfl rfl)
theorem dX5_hands_30 : decode cX5_hands 30 = .ok (.iload 5, 2) := dk_21 5 (dk_at dksX5_hands_1 6 rfl rfl)
theorem dX5_hands_32 : decode cX5_hands 32 = .ok (.iadd, 1) := dk_96 (dk_at dksX5_hands_1 8 rfl rfl)
theorem dX5_hands_33 : decode cX5_hands 33 = .ok (.iastore, 1) := dk_79 (dk_at dksX5_hands_1 9 rfl rfl)
theorem dX5_hands_34 : decode cX5_hands 34 = .ok (.aload_n 0, 1) := dk_42 (dk_at dksX5_hands_1 10 rfl rfl)
theorem dX5_hands_35 : decode cX5_hands 35 = .ok (.getfield 140, 3) := dk_180 0 140 (dk_at dksX5_hands_1 11 rfl rfl)
theorem dX5_hands_38 : decode cX5_hands 38 = .ok (.bipush 59, 2) := dk_16 59 (dk_at dksX5_hands_1 14 rfl rfl)
theorem dX5_hands_40 : decode cX5_hands 40 = .ok (.iload_n 1, 1) := dk_27 (dk_at dksX5_hands_1 16 rfl rfl)
theorem dX5_hands_41 : decode cX5_hands 41 = .ok (.iadd, 1) := dk_96 (dk_at dksX5_hands_1 17 rfl rfl)
theorem dX5_hands_42 : decode cX5_hands 42 = .ok (.dup2, 1) := dk_92 (dk_at dksX5_hands_1 18 rfl rfl)
theorem dX5_hands_43 : decode cX5_hands 43 = .ok (.iaload, 1) := dk_46 (dk_at dksX5_hands_1 19 rfl rfl)
theorem dX5_hands_44 : decode cX5_hands 44 = .ok (.iload 5, 2) := dk_21 5 (dk_at dksX5_hands_1 20 rfl rfl)
theorem dX5_hands_46 : decode cX5_hands 46 = .ok (.iadd, 1) := dk_96 (dk_at dksX5_hands_1 22 rfl rfl)
theorem dX5_hands_47 : decode cX5_hands 47 = .ok (.iastore, 1) := dk_79 (dk_at dksX5_hands_1 23 rfl rfl)
theorem dX5_hands_48 : decode cX5_hands 48 = .ok (.aload_n 0, 1) := dk_42 (dk_at dksX5_hands_2 0 rfl rfl)
theorem dX5_hands_49 : decode cX5_hands 49 = .ok (.getfield 140, 3) := dk_180 0 140 (dk_at dksX5_hands_2 1 rfl rfl)
theorem dX5_hands_52 : decode cX5_hands 52 = .ok (.bipush 51, 2) := dk_16 51 (dk_at dksX5_hands_2 4 rfl rfl)
theorem dX5_hands_54 : decode cX5_hands 54 = .ok (.iload_n 1, 1) := dk_27 (dk_at dksX5_hands_2 6 rfl rfl)
theorem dX5_hands_55 : decode cX5_hands 55 = .ok (.iadd, 1) := dk_96 (dk_at dksX5_hands_2 7 rfl rfl)
theorem dX5_hands_56 : decode cX5_hands 56 = .ok (.dup2, 1) := dk_92 (dk_at dksX5_hands_2 8 rfl rfl)
theorem dX5_hands_57 : decode cX5_hands 57 = .ok (.iaload, 1) := dk_46 (dk_at dksX5_hands_2 9 rfl rfl)
theorem dX5_hands_58 : decode cX5_hands 58 = .ok (.iconst 1, 1) := dk_4 (dk_at dksX5_hands_2 10 rfl rfl)
theorem dX5_hands_59 : decode cX5_hands 59 = .ok (.iadd, 1) := dk_96 (dk_at dksX5_hands_2 11 rfl rfl)
theorem dX5_hands_60 : decode cX5_hands 60 = .ok (.iastore, 1) := dk_79 (dk_at dksX5_hands_2 12 rfl rfl)
theorem dX5_hands_61 : decode cX5_hands 61 = .ok (.aload_n 0, 1) := dk_42 (dk_at dksX5_hands_2 13 rfl rfl)
theorem dX5_hands_62 : decode cX5_hands 62 = .ok (.getfield 140, 3) := dk_180 0 140 (dk_at dksX5_hands_2 14 rfl rfl)
theorem dX5_hands_65 : decode cX5_hands 65 = .ok (.iconst 2, 1) := dk_5 (dk_at dksX5_hands_2 17 rfl rfl)
theorem dX5_hands_66 : decode cX5_hands 66 = .ok (.iaload, 1) := dk_46 (dk_at dksX5_hands_2 18 rfl rfl)
theorem dX5_hands_67 : decode cX5_hands 67 = .ok (.bipush 60, 2) := dk_16 60 (dk_at dksX5_hands_2 19 rfl rfl)
theorem dX5_hands_69 : decode cX5_hands 69 = .ok (.if_icmp .ge 50, 3) := dk_162 0 50 (dk_at dksX5_hands_2 21 rfl rfl)
theorem dX5_hands_72 : decode cX5_hands 72 = .ok (.aload_n 0, 1) := dk_42 (dk_at dksX5_hands_3 0 rfl rfl)
theorem dX5_hands_73 : decode cX5_hands 73 = .ok (.getfield 140, 3) := dk_180 0 140 (dk_at dksX5_hands_3 1 rfl rfl)
theorem dX5_hands_76 : decode cX5_hands 76 = .ok (.bipush 67, 2) := dk_16 67 (dk_at dksX5_hands_3 4 rfl rfl)
theorem dX5_hands_78 : decode cX5_hands 78 = .ok (.aload_n 0, 1) := dk_42 (dk_at dksX5_hands_3 6 rfl rfl)
theorem dX5_hands_79 : decode cX5_hands 79 = .ok (.getfield 140, 3) := dk_180 0 140 (dk_at dksX5_hands_3 7 rfl rfl)
theorem dX5_hands_82 : decode cX5_hands 82 = .ok (.iconst 2, 1) := dk_5 (dk_at dksX5_hands_3 10 rfl rfl)
theorem dX5_hands_83 : decode cX5_hands 83 = .ok (.iaload, 1) := dk_46 (dk_at dksX5_hands_3 11 rfl rfl)
theorem dX5_hands_84 : decode cX5_hands 84 = .ok (.iadd, 1) := dk_96 (dk_at dksX5_hands_3 12 rfl rfl)
theorem dX5_hands_85 : decode cX5_hands 85 = .ok (.aload_n 0, 1) := dk_42 (dk_at dksX5_hands_3 13 rfl rfl)
theorem dX5_hands_86 : decode cX5_hands 86 = .ok (.getfield 111, 3) := dk_180 0 111 (dk_at dksX5_hands_3 14 rfl rfl)
theorem dX5_hands_89 : decode cX5_hands 89 = .ok (.bipush 10, 2) := dk_16 10 (dk_at dksX5_hands_3 17 rfl rfl)
theorem dX5_hands_91 : decode cX5_hands 91 = .ok (.aload_n 0, 1) := dk_42 (dk_at dksX5_hands_3 19 rfl rfl)
theorem dX5_hands_92 : decode cX5_hands 92 = .ok (.getfield 60, 3) := dk_180 0 60 (dk_at dksX5_hands_3 20 rfl rfl)
theorem dX5_hands_95 : decode cX5_hands 95 = .ok (.bipush 6, 2) := dk_16 6 (dk_at dksX5_hands_4 0 rfl rfl)
theorem dX5_hands_97 : decode cX5_hands 97 = .ok (.iload 4, 2) := dk_21 4 (dk_at dksX5_hands_4 2 rfl rfl)
theorem dX5_hands_99 : decode cX5_hands 99 = .ok (.imul, 1) := dk_104 (dk_at dksX5_hands_4 4 rfl rfl)
theorem dX5_hands_100 : decode cX5_hands 100 = .ok (.iload_n 2, 1) := dk_28 (dk_at dksX5_hands_4 5 rfl rfl)
theorem dX5_hands_101 : decode cX5_hands 101 = .ok (.iadd, 1) := dk_96 (dk_at dksX5_hands_4 6 rfl rfl)
theorem dX5_hands_102 : decode cX5_hands 102 = .ok (.iaload, 1) := dk_46 (dk_at dksX5_hands_4 7 rfl rfl)
theorem dX5_hands_103 : decode cX5_hands 103 = .ok (.isub, 1) := dk_100 (dk_at dksX5_hands_4 8 rfl rfl)
theorem dX5_hands_104 : decode cX5_hands 104 = .ok (.imul, 1) := dk_104 (dk_at dksX5_hands_4 9 rfl rfl)
theorem dX5_hands_105 : decode cX5_hands 105 = .ok (.bipush 10, 2) := dk_16 10 (dk_at dksX5_hands_4 10 rfl rfl)
theorem dX5_hands_107 : decode cX5_hands 107 = .ok (.idiv, 1) := dk_108 (dk_at dksX5_hands_4 12 rfl rfl)
theorem dX5_hands_108 : decode cX5_hands 108 = .ok (.iastore, 1) := dk_79 (dk_at dksX5_hands_4 13 rfl rfl)
theorem dX5_hands_109 : decode cX5_hands 109 = .ok (.aload_n 0, 1) := dk_42 (dk_at dksX5_hands_4 14 rfl rfl)
theorem dX5_hands_110 : decode cX5_hands 110 = .ok (.getfield 140, 3) := dk_180 0 140 (dk_at dksX5_hands_4 15 rfl rfl)
theorem dX5_hands_113 : decode cX5_hands 113 = .ok (.iconst 2, 1) := dk_5 (dk_at dksX5_hands_4 18 rfl rfl)
theorem dX5_hands_114 : decode cX5_hands 114 = .ok (.dup2, 1) := dk_92 (dk_at dksX5_hands_4 19 rfl rfl)
theorem dX5_hands_115 : decode cX5_hands 115 = .ok (.iaload, 1) := dk_46 (dk_at dksX5_hands_4 20 rfl rfl)
theorem dX5_hands_116 : decode cX5_hands 116 = .ok (.iconst 1, 1) := dk_4 (dk_at dksX5_hands_4 21 rfl rfl)
theorem dX5_hands_117 : decode cX5_hands 117 = .ok (.iadd, 1) := dk_96 (dk_at dksX5_hands_4 22 rfl rfl)
theorem dX5_hands_118 : decode cX5_hands 118 = .ok (.iastore, 1) := dk_79 (dk_at dksX5_hands_4 23 rfl rfl)
theorem dX5_hands_119 : decode cX5_hands 119 = .ok (.aload_n 0, 1) := dk_42 (dk_at dksX5_hands_5 0 rfl rfl)
theorem dX5_hands_120 : decode cX5_hands 120 = .ok (.getfield 140, 3) := dk_180 0 140 (dk_at dksX5_hands_5 1 rfl rfl)
theorem dX5_hands_123 : decode cX5_hands 123 = .ok (.iconst 3, 1) := dk_6 (dk_at dksX5_hands_5 4 rfl rfl)
theorem dX5_hands_124 : decode cX5_hands 124 = .ok (.iload_n 1, 1) := dk_27 (dk_at dksX5_hands_5 5 rfl rfl)
theorem dX5_hands_125 : decode cX5_hands 125 = .ok (.iadd, 1) := dk_96 (dk_at dksX5_hands_5 6 rfl rfl)
theorem dX5_hands_126 : decode cX5_hands 126 = .ok (.iload_n 2, 1) := dk_28 (dk_at dksX5_hands_5 7 rfl rfl)
theorem dX5_hands_127 : decode cX5_hands 127 = .ok (.iastore, 1) := dk_79 (dk_at dksX5_hands_5 8 rfl rfl)
theorem dX5_hands_128 : decode cX5_hands 128 = .ok (.iload 5, 2) := dk_21 5 (dk_at dksX5_hands_5 9 rfl rfl)
theorem dX5_hands_130 : decode cX5_hands 130 = .ok (.ireturn, 1) := dk_172 (dk_at dksX5_hands_5 11 rfl rfl)
def dkwX5_of_6 : List UInt8 := [180, 0, 140, 16, 59, 27, 96, 46, 172, 42, 27, 182, 1, 12, 184, 0, 124, 172]
abbrev dktX5_of_6 : List UInt8 := dkwX5_of_6 ++ []
def dkwX5_of_5 : List UInt8 := [46, 172, 42, 180, 0, 140, 16, 43, 27, 96, 46, 172, 42, 180, 0, 140, 16, 51, 27, 96, 46, 172, 42]
abbrev dktX5_of_5 : List UInt8 := dkwX5_of_5 ++ dktX5_of_6
def dkwX5_of_4 : List UInt8 := [16, 19, 27, 96, 46, 172, 42, 180, 0, 140, 16, 27, 27, 96, 46, 172, 42, 180, 0, 140, 16, 35, 27, 96]
abbrev dktX5_of_4 : List UInt8 := dkwX5_of_4 ++ dktX5_of_5
def dkwX5_of_3 : List UInt8 := [42, 180, 0, 140, 6, 27, 96, 46, 172, 42, 180, 0, 140, 16, 11, 27, 96, 46, 172, 42, 180, 0, 140]
abbrev dktX5_of_3 : List UInt8 := dkwX5_of_3 ++ dktX5_of_4
def dkwX5_of_2 : List UInt8 := [170, 0, 0, 0, 124, 0, 0, 0, 0, 0, 0, 0, 7, 0, 0, 0, 45, 0, 0, 0, 54, 0, 0, 0, 64, 0, 0, 0, 74, 0, 0, 0, 84, 0, 0, 0, 94, 0, 0, 0, 104, 0, 0, 0, 114]
abbrev dktX5_of_2 : List UInt8 := dkwX5_of_2 ++ dktX5_of_3
def dkwX5_of_1 : List UInt8 := [154, 0, 8, 42, 182, 1, 3, 172, 28]
abbrev dktX5_of_1 : List UInt8 := dkwX5_of_1 ++ dktX5_of_2
def dkwX5_of_0 : List UInt8 := [42, 3, 181, 0, 3, 42, 27, 182, 1, 0, 153, 0, 15, 28, 133, 9, 20, 1, 55, 184, 0, 25]
abbrev dktX5_of_0 : List UInt8 := dkwX5_of_0 ++ dktX5_of_1
theorem dksX5_of_0 : cX5_of.data.toList.drop 0 = dktX5_of_0 := by decide +kernel
theorem dksX5_of_1 : cX5_of.data.toList.drop 22 = dktX5_of_1 := dk_seg dksX5_of_0 22 rfl rfl
theorem dksX5_of_2 : cX5_of.data.toList.drop 31 = dktX5_of_2 := dk_seg dksX5_of_1 9 rfl rfl
theorem dksX5_of_3 : cX5_of.data.toList.drop 76 = dktX5_of_3 := dk_seg dksX5_of_2 45 rfl rfl
theorem dksX5_of_4 : cX5_of.data.toList.drop 99 = dktX5_of_4 := dk_seg dksX5_of_3 23 rfl rfl
theorem dksX5_of_5 : cX5_of.data.toList.drop 123 = dktX5_of_5 := dk_seg dksX5_of_4 24 rfl rfl
theorem dksX5_of_6 : cX5_of.data.toList.drop 146 = dktX5_of_6 := dk_seg dksX5_of_5 23 rfl rfl
theorem dX5_of_0 : decode cX5_of 0 = .ok (.aload_n 0, 1) := dk_42 (dk_at dksX5_of_0 0 rfl rfl)
theorem dX5_of_1 : decode cX5_of 1 = .ok (.iconst 0, 1) := dk_3 (dk_at dksX5_of_0 1 rfl rfl)
theorem dX5_of_2 : decode cX5_of 2 = .ok (.putfield 3, 3) := dk_181 0 3 (dk_at dksX5_of_0 2 rfl rfl)
theorem dX5_of_5 : decode cX5_of 5 = .ok (.aload_n 0, 1) := dk_42 (dk_at dksX5_of_0 5 rfl rfl)
theorem dX5_of_6 : decode cX5_of 6 = .ok (.iload_n 1, 1) := dk_27 (dk_at dksX5_of_0 6 rfl rfl)
theorem dX5_of_7 : decode cX5_of 7 = .ok (.invokevirtual 256, 3) := dk_182 1 0 (dk_at dksX5_of_0 7 rfl rfl)
theorem dX5_of_10 : decode cX5_of 10 = .ok (.ifCond .eq 15, 3) := dk_153 0 15 (dk_at dksX5_of_0 10 rfl rfl)
theorem dX5_of_13 : decode cX5_of 13 = .ok (.iload_n 2, 1) := dk_28 (dk_at dksX5_of_0 13 rfl rfl)
theorem dX5_of_14 : decode cX5_of 14 = .ok (.i2l, 1) := dk_133 (dk_at dksX5_of_0 14 rfl rfl)
theorem dX5_of_15 : decode cX5_of 15 = .ok (.lconst 0, 1) := dk_9 (dk_at dksX5_of_0 15 rfl rfl)
theorem dX5_of_16 : decode cX5_of 16 = .ok (.ldc2_w 311, 3) := dk_20 1 55 (dk_at dksX5_of_0 16 rfl rfl)
theorem dX5_of_19 : decode cX5_of 19 = .ok (.invokestatic 25, 3) := dk_184 0 25 (dk_at dksX5_of_0 19 rfl rfl)
theorem dX5_of_22 : decode cX5_of 22 = .ok (.ifCond .ne 8, 3) := dk_154 0 8 (dk_at dksX5_of_1 0 rfl rfl)
theorem dX5_of_25 : decode cX5_of 25 = .ok (.aload_n 0, 1) := dk_42 (dk_at dksX5_of_1 3 rfl rfl)
theorem dX5_of_26 : decode cX5_of 26 = .ok (.invokevirtual 259, 3) := dk_182 1 3 (dk_at dksX5_of_1 4 rfl rfl)
theorem dX5_of_29 : decode cX5_of 29 = .ok (.ireturn, 1) := dk_172 (dk_at dksX5_of_1 7 rfl rfl)
theorem dX5_of_30 : decode cX5_of 30 = .ok (.iload_n 2, 1) := dk_28 (dk_at dksX5_of_1 8 rfl rfl)
theorem dX5_of_31 : decode cX5_of 31 = .ok (.tableswitch 124 0 7 #[45, 54, 64, 74, 84, 94, 104, 114], 45) := by decide +kernel
theorem dX5_of_76 : decode cX5_of 76 = .ok (.aload_n 0, 1) := dk_42 (dk_at dksX5_of_3 0 rfl rfl)
theorem dX5_of_77 : decode cX5_of 77 = .ok (.getfield 140, 3) := dk_180 0 140 (dk_at dksX5_of_3 1 rfl rfl)
theorem dX5_of_80 : decode cX5_of 80 = .ok (.iconst 3, 1) := dk_6 (dk_at dksX5_of_3 4 rfl rfl)
theorem dX5_of_81 : decode cX5_of 81 = .ok (.iload_n 1, 1) := dk_27 (dk_at dksX5_of_3 5 rfl rfl)
theorem dX5_of_82 : decode cX5_of 82 = .ok (.iadd, 1) := dk_96 (dk_at dksX5_of_3 6 rfl rfl)
theorem dX5_of_83 : decode cX5_of 83 = .ok (.iaload, 1) := dk_46 (dk_at dksX5_of_3 7 rfl rfl)
theorem dX5_of_84 : decode cX5_of 84 = .ok (.ireturn, 1) := dk_172 (dk_at dksX5_of_3 8 rfl rfl)
theorem dX5_of_85 : decode cX5_of 85 = .ok (.aload_n 0, 1) := dk_42 (dk_at dksX5_of_3 9 rfl rfl)
theorem dX5_of_86 : decode cX5_of 86 = .ok (.getfield 140, 3) := dk_180 0 140 (dk_at dksX5_of_3 10 rfl rfl)
theorem dX5_of_89 : decode cX5_of 89 = .ok (.bipush 11, 2) := dk_16 11 (dk_at dksX5_of_3 13 rfl rfl)
theorem dX5_of_91 : decode cX5_of 91 = .ok (.iload_n 1, 1) := dk_27 (dk_at dksX5_of_3 15 rfl rfl)
theorem dX5_of_92 : decode cX5_of 92 = .ok (.iadd, 1) := dk_96 (dk_at dksX5_of_3 16 rfl rfl)
theorem dX5_of_93 : decode cX5_of 93 = .ok (.iaload, 1) := dk_46 (dk_at dksX5_of_3 17 rfl rfl)
theorem dX5_of_94 : decode cX5_of 94 = .ok (.ireturn, 1) := dk_172 (dk_at dksX5_of_3 18 rfl rfl)
theorem dX5_of_95 : decode cX5_of 95 = .ok (.aload_n 0, 1) := dk_42 (dk_at dksX5_of_3 19 rfl rfl)
theorem dX5_of_96 : decode cX5_of 96 = .ok (.getfield 140, 3) := dk_180 0 140 (dk_at dksX5_of_3 20 rfl rfl)
theorem dX5_of_99 : decode cX5_of 99 = .ok (.bipush 19, 2) := dk_16 19 (dk_at dksX5_of_4 0 rfl rfl)
theorem dX5_of_101 : decode cX5_of 101 = .ok (.iload_n 1, 1) := dk_27 (dk_at dksX5_of_4 2 rfl rfl)
theorem dX5_of_102 : decode cX5_of 102 = .ok (.iadd, 1) := dk_96 (dk_at dksX5_of_4 3 rfl rfl)
theorem dX5_of_103 : decode cX5_of 103 = .ok (.iaload, 1) := dk_46 (dk_at dksX5_of_4 4 rfl rfl)
theorem dX5_of_104 : decode cX5_of 104 = .ok (.ireturn, 1) := dk_172 (dk_at dksX5_of_4 5 rfl rfl)
theorem dX5_of_105 : decode cX5_of 105 = .ok (.aload_n 0, 1) := dk_42 (dk_at dksX5_of_4 6 rfl rfl)
theorem dX5_of_106 : decode cX5_of 106 = .ok (.getfield 140, 3) := dk_180 0 140 (dk_at dksX5_of_4 7 rfl rfl)
theorem dX5_of_109 : decode cX5_of 109 = .ok (.bipush 27, 2) := dk_16 27 (dk_at dksX5_of_4 10 rfl rfl)
theorem dX5_of_111 : decode cX5_of 111 = .ok (.iload_n 1, 1) := dk_27 (dk_at dksX5_of_4 12 rfl rfl)
theorem dX5_of_112 : decode cX5_of 112 = .ok (.iadd, 1) := dk_96 (dk_at dksX5_of_4 13 rfl rfl)
theorem dX5_of_113 : decode cX5_of 113 = .ok (.iaload, 1) := dk_46 (dk_at dksX5_of_4 14 rfl rfl)
theorem dX5_of_114 : decode cX5_of 114 = .ok (.ireturn, 1) := dk_172 (dk_at dksX5_of_4 15 rfl rfl)
theorem dX5_of_115 : decode cX5_of 115 = .ok (.aload_n 0, 1) := dk_42 (dk_at dksX5_of_4 16 rfl rfl)
theorem dX5_of_116 : decode cX5_of 116 = .ok (.getfield 140, 3) := dk_180 0 140 (dk_at dksX5_of_4 17 rfl rfl)
theorem dX5_of_119 : decode cX5_of 119 = .ok (.bipush 35, 2) := dk_16 35 (dk_at dksX5_of_4 20 rfl rfl)
theorem dX5_of_121 : decode cX5_of 121 = .ok (.iload_n 1, 1) := dk_27 (dk_at dksX5_of_4 22 rfl rfl)
theorem dX5_of_122 : decode cX5_of 122 = .ok (.iadd, 1) := dk_96 (dk_at dksX5_of_4 23 rfl rfl)
theorem dX5_of_123 : decode cX5_of 123 = .ok (.iaload, 1) := dk_46 (dk_at dksX5_of_5 0 rfl rfl)
theorem dX5_of_124 : decode cX5_of 124 = .ok (.ireturn, 1) := dk_172 (dk_at dksX5_of_5 1 rfl rfl)
theorem dX5_of_125 : decode cX5_of 125 = .ok (.aload_n 0, 1) := dk_42 (dk_at dksX5_of_5 2 rfl rfl)
theorem dX5_of_126 : decode cX5_of 126 = .ok (.getfield 140, 3) := dk_180 0 140 (dk_at dksX5_of_5 3 rfl rfl)
theorem dX5_of_129 : decode cX5_of 129 = .ok (.bipush 43, 2) := dk_16 43 (dk_at dksX5_of_5 6 rfl rfl)
theorem dX5_of_131 : decode cX5_of 131 = .ok (.iload_n 1, 1) := dk_27 (dk_at dksX5_of_5 8 rfl rfl)
theorem dX5_of_132 : decode cX5_of 132 = .ok (.iadd, 1) := dk_96 (dk_at dksX5_of_5 9 rfl rfl)
theorem dX5_of_133 : decode cX5_of 133 = .ok (.iaload, 1) := dk_46 (dk_at dksX5_of_5 10 rfl rfl)
theorem dX5_of_134 : decode cX5_of 134 = .ok (.ireturn, 1) := dk_172 (dk_at dksX5_of_5 11 rfl rfl)
theorem dX5_of_135 : decode cX5_of 135 = .ok (.aload_n 0, 1) := dk_42 (dk_at dksX5_of_5 12 rfl rfl)
theorem dX5_of_136 : decode cX5_of 136 = .ok (.getfield 140, 3) := dk_180 0 140 (dk_at dksX5_of_5 13 rfl rfl)
theorem dX5_of_139 : decode cX5_of 139 = .ok (.bipush 51, 2) := dk_16 51 (dk_at dksX5_of_5 16 rfl rfl)
theorem dX5_of_141 : decode cX5_of 141 = .ok (.iload_n 1, 1) := dk_27 (dk_at dksX5_of_5 18 rfl rfl)
theorem dX5_of_142 : decode cX5_of 142 = .ok (.iadd, 1) := dk_96 (dk_at dksX5_of_5 19 rfl rfl)
theorem dX5_of_143 : decode cX5_of 143 = .ok (.iaload, 1) := dk_46 (dk_at dksX5_of_5 20 rfl rfl)
theorem dX5_of_144 : decode cX5_of 144 = .ok (.ireturn, 1) := dk_172 (dk_at dksX5_of_5 21 rfl rfl)
theorem dX5_of_145 : decode cX5_of 145 = .ok (.aload_n 0, 1) := dk_42 (dk_at dksX5_of_5 22 rfl rfl)
theorem dX5_of_146 : decode cX5_of 146 = .ok (.getfield 140, 3) := dk_180 0 140 (dk_at dksX5_of_6 0 rfl rfl)
theorem dX5_of_149 : decode cX5_of 149 = .ok (.bipush 59, 2) := dk_16 59 (dk_at dksX5_of_6 3 rfl rfl)
theorem dX5_of_151 : decode cX5_of 151 = .ok (.iload_n 1, 1) := dk_27 (dk_at dksX5_of_6 5 rfl rfl)
theorem dX5_of_152 : decode cX5_of 152 = .ok (.iadd, 1) := dk_96 (dk_at dksX5_of_6 6 rfl rfl)
theorem dX5_of_153 : decode cX5_of 153 = .ok (.iaload, 1) := dk_46 (dk_at dksX5_of_6 7 rfl rfl)
theorem dX5_of_154 : decode cX5_of 154 = .ok (.ireturn, 1) := dk_172 (dk_at dksX5_of_6 8 rfl rfl)
theorem dX5_of_155 : decode cX5_of 155 = .ok (.aload_n 0, 1) := dk_42 (dk_at dksX5_of_6 9 rfl rfl)
theorem dX5_of_156 : decode cX5_of 156 = .ok (.iload_n 1, 1) := dk_27 (dk_at dksX5_of_6 10 rfl rfl)
theorem dX5_of_157 : decode cX5_of 157 = .ok (.invokevirtual 268, 3) := dk_182 1 12 (dk_at dksX5_of_6 11 rfl rfl)
theorem dX5_of_160 : decode cX5_of 160 = .ok (.invokestatic 124, 3) := dk_184 0 124 (dk_at dksX5_of_6 14 rfl rfl)
theorem dX5_of_163 : decode cX5_of 163 = .ok (.ireturn, 1) := dk_172 (dk_at dksX5_of_6 17 rfl rfl)
def dkwX5_hand_2 : List UInt8 := [180, 0, 140, 3, 46, 182, 1, 38, 172]
abbrev dktX5_hand_2 : List UInt8 := dkwX5_hand_2 ++ []
def dkwX5_hand_1 : List UInt8 := [182, 1, 9, 154, 0, 15, 42, 180, 0, 140, 6, 27, 96, 46, 28, 160, 0, 5, 2, 172, 42, 27, 28, 42]
abbrev dktX5_hand_1 : List UInt8 := dkwX5_hand_1 ++ dktX5_hand_2
def dkwX5_hand_0 : List UInt8 := [42, 3, 181, 0, 3, 42, 27, 182, 1, 0, 153, 0, 31, 42, 28, 182, 0, 77, 153, 0, 23, 42, 27]
abbrev dktX5_hand_0 : List UInt8 := dkwX5_hand_0 ++ dktX5_hand_1
theorem dksX5_hand_0 : cX5_hand.data.toList.drop 0 = dktX5_hand_0 := by decide +kernel
theorem dksX5_hand_1 : cX5_hand.data.toList.drop 23 = dktX5_hand_1 := dk_seg dksX5_hand_0 23 rfl rfl
theorem dksX5_hand_2 : cX5_hand.data.toList.drop 47 = dktX5_hand_2 := dk_seg dksX5_hand_1 24 rfl rfl
theorem dX5_hand_0 : decode cX5_hand 0 = .ok (.aload_n 0, 1) := dk_42 (dk_at dksX5_hand_0 0 rfl rfl)
theorem dX5_hand_1 : decode cX5_hand 1 = .ok (.iconst 0, 1) := dk_3 (dk_at dksX5_hand_0 1 rfl rfl)
theorem dX5_hand_2 : decode cX5_hand 2 = .ok (.putfield 3, 3) := dk_181 0 3 (dk_at dksX5_hand_0 2 rfl rfl)
theorem dX5_hand_5 : decode cX5_hand 5 = .ok (.aload_n 0, 1) := dk_42 (dk_at dksX5_hand_0 5 rfl rfl)
theorem dX5_hand_6 : decode cX5_hand 6 = .ok (.iload_n 1, 1) := dk_27 (dk_at dksX5_hand_0 6 rfl rfl)
theorem dX5_hand_7 : decode cX5_hand 7 = .ok (.invokevirtual 256, 3) := dk_182 1 0 (dk_at dksX5_hand_0 7 rfl rfl)
theorem dX5_hand_10 : decode cX5_hand 10 = .ok (.ifCond .eq 31, 3) := dk_153 0 31 (dk_at dksX5_hand_0 10 rfl rfl)
theorem dX5_hand_13 : decode cX5_hand 13 = .ok (.aload_n 0, 1) := dk_42 (dk_at dksX5_hand_0 13 rfl rfl)
theorem dX5_hand_14 : decode cX5_hand 14 = .ok (.iload_n 2, 1) := dk_28 (dk_at dksX5_hand_0 14 rfl rfl)
theorem dX5_hand_15 : decode cX5_hand 15 = .ok (.invokevirtual 77, 3) := dk_182 0 77 (dk_at dksX5_hand_0 15 rfl rfl)
theorem dX5_hand_18 : decode cX5_hand 18 = .ok (.ifCond .eq 23, 3) := dk_153 0 23 (dk_at dksX5_hand_0 18 rfl rfl)
theorem dX5_hand_21 : decode cX5_hand 21 = .ok (.aload_n 0, 1) := dk_42 (dk_at dksX5_hand_0 21 rfl rfl)
theorem dX5_hand_22 : decode cX5_hand 22 = .ok (.iload_n 1, 1) := dk_27 (dk_at dksX5_hand_0 22 rfl rfl)
theorem dX5_hand_23 : decode cX5_hand 23 = .ok (.invokevirtual 265, 3) := dk_182 1 9 (dk_at dksX5_hand_1 0 rfl rfl)
theorem dX5_hand_26 : decode cX5_hand 26 = .ok (.ifCond .ne 15, 3) := dk_154 0 15 (dk_at dksX5_hand_1 3 rfl rfl)
theorem dX5_hand_29 : decode cX5_hand 29 = .ok (.aload_n 0, 1) := dk_42 (dk_at dksX5_hand_1 6 rfl rfl)
theorem dX5_hand_30 : decode cX5_hand 30 = .ok (.getfield 140, 3) := dk_180 0 140 (dk_at dksX5_hand_1 7 rfl rfl)
theorem dX5_hand_33 : decode cX5_hand 33 = .ok (.iconst 3, 1) := dk_6 (dk_at dksX5_hand_1 10 rfl rfl)
theorem dX5_hand_34 : decode cX5_hand 34 = .ok (.iload_n 1, 1) := dk_27 (dk_at dksX5_hand_1 11 rfl rfl)
theorem dX5_hand_35 : decode cX5_hand 35 = .ok (.iadd, 1) := dk_96 (dk_at dksX5_hand_1 12 rfl rfl)
theorem dX5_hand_36 : decode cX5_hand 36 = .ok (.iaload, 1) := dk_46 (dk_at dksX5_hand_1 13 rfl rfl)
theorem dX5_hand_37 : decode cX5_hand 37 = .ok (.iload_n 2, 1) := dk_28 (dk_at dksX5_hand_1 14 rfl rfl)
theorem dX5_hand_38 : decode cX5_hand 38 = .ok (.if_icmp .ne 5, 3) := dk_160 0 5 (dk_at dksX5_hand_1 15 rfl rfl)
theorem dX5_hand_41 : decode cX5_hand 41 = .ok (.iconst (-1), 1) := dk_2 (dk_at dksX5_hand_1 18 rfl rfl)
theorem dX5_hand_42 : decode cX5_hand 42 = .ok (.ireturn, 1) := dk_172 (dk_at dksX5_hand_1 19 rfl rfl)
theorem dX5_hand_43 : decode cX5_hand 43 = .ok (.aload_n 0, 1) := dk_42 (dk_at dksX5_hand_1 20 rfl rfl)
theorem dX5_hand_44 : decode cX5_hand 44 = .ok (.iload_n 1, 1) := dk_27 (dk_at dksX5_hand_1 21 rfl rfl)
theorem dX5_hand_45 : decode cX5_hand 45 = .ok (.iload_n 2, 1) := dk_28 (dk_at dksX5_hand_1 22 rfl rfl)
theorem dX5_hand_46 : decode cX5_hand 46 = .ok (.aload_n 0, 1) := dk_42 (dk_at dksX5_hand_1 23 rfl rfl)
theorem dX5_hand_47 : decode cX5_hand 47 = .ok (.getfield 140, 3) := dk_180 0 140 (dk_at dksX5_hand_2 0 rfl rfl)
theorem dX5_hand_50 : decode cX5_hand 50 = .ok (.iconst 0, 1) := dk_3 (dk_at dksX5_hand_2 3 rfl rfl)
theorem dX5_hand_51 : decode cX5_hand 51 = .ok (.iaload, 1) := dk_46 (dk_at dksX5_hand_2 4 rfl rfl)
theorem dX5_hand_52 : decode cX5_hand 52 = .ok (.invokevirtual 294, 3) := dk_182 1 38 (dk_at dksX5_hand_2 5 rfl rfl)
theorem dX5_hand_55 : decode cX5_hand 55 = .ok (.ireturn, 1) := dk_172 (dk_at dksX5_hand_2 8 rfl rfl)
def dkwX5_ends_1 : List UInt8 := [182, 1, 73, 60, 42, 42, 180, 1, 66, 182, 1, 76, 27, 172]
abbrev dktX5_ends_1 : List UInt8 := dkwX5_ends_1 ++ []
def dkwX5_ends_0 : List UInt8 := [42, 3, 181, 0, 3, 42, 180, 0, 151, 154, 0, 5, 2, 172, 42, 42, 180, 1, 66, 182, 1, 69, 42]
abbrev dktX5_ends_0 : List UInt8 := dkwX5_ends_0 ++ dktX5_ends_1
theorem dksX5_ends_0 : cX5_ends.data.toList.drop 0 = dktX5_ends_0 := by decide +kernel
theorem dksX5_ends_1 : cX5_ends.data.toList.drop 23 = dktX5_ends_1 := dk_seg dksX5_ends_0 23 rfl rfl
theorem dX5_ends_0 : decode cX5_ends 0 = .ok (.aload_n 0, 1) := dk_42 (dk_at dksX5_ends_0 0 rfl rfl)
theorem dX5_ends_1 : decode cX5_ends 1 = .ok (.iconst 0, 1) := dk_3 (dk_at dksX5_ends_0 1 rfl rfl)
theorem dX5_ends_2 : decode cX5_ends 2 = .ok (.putfield 3, 3) := dk_181 0 3 (dk_at dksX5_ends_0 2 rfl rfl)
theorem dX5_ends_5 : decode cX5_ends 5 = .ok (.aload_n 0, 1) := dk_42 (dk_at dksX5_ends_0 5 rfl rfl)
theorem dX5_ends_6 : decode cX5_ends 6 = .ok (.getfield 151, 3) := dk_180 0 151 (dk_at dksX5_ends_0 6 rfl rfl)
theorem dX5_ends_9 : decode cX5_ends 9 = .ok (.ifCond .ne 5, 3) := dk_154 0 5 (dk_at dksX5_ends_0 9 rfl rfl)
theorem dX5_ends_12 : decode cX5_ends 12 = .ok (.iconst (-1), 1) := dk_2 (dk_at dksX5_ends_0 12 rfl rfl)
theorem dX5_ends_13 : decode cX5_ends 13 = .ok (.ireturn, 1) := dk_172 (dk_at dksX5_ends_0 13 rfl rfl)
theorem dX5_ends_14 : decode cX5_ends 14 = .ok (.aload_n 0, 1) := dk_42 (dk_at dksX5_ends_0 14 rfl rfl)
theorem dX5_ends_15 : decode cX5_ends 15 = .ok (.aload_n 0, 1) := dk_42 (dk_at dksX5_ends_0 15 rfl rfl)
theorem dX5_ends_16 : decode cX5_ends 16 = .ok (.getfield 322, 3) := dk_180 1 66 (dk_at dksX5_ends_0 16 rfl rfl)
theorem dX5_ends_19 : decode cX5_ends 19 = .ok (.invokevirtual 325, 3) := dk_182 1 69 (dk_at dksX5_ends_0 19 rfl rfl)
theorem dX5_ends_22 : decode cX5_ends 22 = .ok (.aload_n 0, 1) := dk_42 (dk_at dksX5_ends_0 22 rfl rfl)
theorem dX5_ends_23 : decode cX5_ends 23 = .ok (.invokevirtual 329, 3) := dk_182 1 73 (dk_at dksX5_ends_1 0 rfl rfl)
theorem dX5_ends_26 : decode cX5_ends 26 = .ok (.istore_n 1, 1) := dk_60 (dk_at dksX5_ends_1 3 rfl rfl)
theorem dX5_ends_27 : decode cX5_ends 27 = .ok (.aload_n 0, 1) := dk_42 (dk_at dksX5_ends_1 4 rfl rfl)
theorem dX5_ends_28 : decode cX5_ends 28 = .ok (.aload_n 0, 1) := dk_42 (dk_at dksX5_ends_1 5 rfl rfl)
theorem dX5_ends_29 : decode cX5_ends 29 = .ok (.getfield 322, 3) := dk_180 1 66 (dk_at dksX5_ends_1 6 rfl rfl)
theorem dX5_ends_32 : decode cX5_ends 32 = .ok (.invokevirtual 332, 3) := dk_182 1 76 (dk_at dksX5_ends_1 9 rfl rfl)
theorem dX5_ends_35 : decode cX5_ends 35 = .ok (.iload_n 1, 1) := dk_27 (dk_at dksX5_ends_1 12 rfl rfl)
theorem dX5_ends_36 : decode cX5_ends 36 = .ok (.ireturn, 1) := dk_172 (dk_at dksX5_ends_1 13 rfl rfl)
def dkwX5_putsBy_0 : List UInt8 := [3, 61, 28, 16, 127, 162, 0, 18, 43, 28, 42, 180, 0, 140, 28, 46, 79, 132, 2, 1, 167, 255, 238, 177]
abbrev dktX5_putsBy_0 : List UInt8 := dkwX5_putsBy_0 ++ []
theorem dksX5_putsBy_0 : cX5_putsBy.data.toList.drop 0 = dktX5_putsBy_0 := by decide +kernel
theorem dX5_putsBy_0 : decode cX5_putsBy 0 = .ok (.iconst 0, 1) := dk_3 (dk_at dksX5_putsBy_0 0 rfl rfl)
theorem dX5_putsBy_1 : decode cX5_putsBy 1 = .ok (.istore_n 2, 1) := dk_61 (dk_at dksX5_putsBy_0 1 rfl rfl)
theorem dX5_putsBy_2 : decode cX5_putsBy 2 = .ok (.iload_n 2, 1) := dk_28 (dk_at dksX5_putsBy_0 2 rfl rfl)
theorem dX5_putsBy_3 : decode cX5_putsBy 3 = .ok (.bipush 127, 2) := dk_16 127 (dk_at dksX5_putsBy_0 3 rfl rfl)
theorem dX5_putsBy_5 : decode cX5_putsBy 5 = .ok (.if_icmp .ge 18, 3) := dk_162 0 18 (dk_at dksX5_putsBy_0 5 rfl rfl)
theorem dX5_putsBy_8 : decode cX5_putsBy 8 = .ok (.aload_n 1, 1) := dk_43 (dk_at dksX5_putsBy_0 8 rfl rfl)
theorem dX5_putsBy_9 : decode cX5_putsBy 9 = .ok (.iload_n 2, 1) := dk_28 (dk_at dksX5_putsBy_0 9 rfl rfl)
theorem dX5_putsBy_10 : decode cX5_putsBy 10 = .ok (.aload_n 0, 1) := dk_42 (dk_at dksX5_putsBy_0 10 rfl rfl)
theorem dX5_putsBy_11 : decode cX5_putsBy 11 = .ok (.getfield 140, 3) := dk_180 0 140 (dk_at dksX5_putsBy_0 11 rfl rfl)
theorem dX5_putsBy_14 : decode cX5_putsBy 14 = .ok (.iload_n 2, 1) := dk_28 (dk_at dksX5_putsBy_0 14 rfl rfl)
theorem dX5_putsBy_15 : decode cX5_putsBy 15 = .ok (.iaload, 1) := dk_46 (dk_at dksX5_putsBy_0 15 rfl rfl)
theorem dX5_putsBy_16 : decode cX5_putsBy 16 = .ok (.iastore, 1) := dk_79 (dk_at dksX5_putsBy_0 16 rfl rfl)
theorem dX5_putsBy_17 : decode cX5_putsBy 17 = .ok (.iinc 2 1, 3) := dk_132 2 1 (dk_at dksX5_putsBy_0 17 rfl rfl)
theorem dX5_putsBy_20 : decode cX5_putsBy 20 = .ok (.goto (-18), 3) := dk_167 255 238 (dk_at dksX5_putsBy_0 20 rfl rfl)
theorem dX5_putsBy_23 : decode cX5_putsBy 23 = .ok (.return_, 1) := dk_177 (dk_at dksX5_putsBy_0 23 rfl rfl)
def dkwX5_tellsEnd_4 : List UInt8 := [100, 133, 182, 0, 18, 42, 42, 180, 0, 140, 4, 46, 29, 100, 133, 182, 0, 18, 21, 4, 172]
abbrev dktX5_tellsEnd_4 : List UInt8 := dkwX5_tellsEnd_4 ++ []
def dkwX5_tellsEnd_3 : List UInt8 := [167, 255, 229, 42, 42, 16, 51, 182, 1, 60, 27, 100, 133, 182, 0, 18, 42, 42, 16, 59, 182, 1, 60, 28]
abbrev dktX5_tellsEnd_3 : List UInt8 := dkwX5_tellsEnd_3 ++ dktX5_tellsEnd_4
def dkwX5_tellsEnd_2 : List UInt8 := [180, 0, 151, 162, 0, 24, 42, 42, 180, 0, 140, 16, 35, 21, 5, 96, 46, 133, 182, 0, 18, 132, 5, 1]
abbrev dktX5_tellsEnd_2 : List UInt8 := dkwX5_tellsEnd_2 ++ dktX5_tellsEnd_3
def dkwX5_tellsEnd_1 : List UInt8 := [182, 1, 63, 54, 4, 21, 4, 156, 0, 6, 16, 254, 172, 42, 3, 181, 0, 11, 3, 54, 5, 21, 5, 42]
abbrev dktX5_tellsEnd_1 : List UInt8 := dkwX5_tellsEnd_1 ++ dktX5_tellsEnd_2
def dkwX5_tellsEnd_0 : List UInt8 := [42, 16, 51, 182, 1, 60, 60, 42, 16, 59, 182, 1, 60, 61, 42, 180, 0, 140, 4, 46, 62, 42]
abbrev dktX5_tellsEnd_0 : List UInt8 := dkwX5_tellsEnd_0 ++ dktX5_tellsEnd_1
theorem dksX5_tellsEnd_0 : cX5_tellsEnd.data.toList.drop 0 = dktX5_tellsEnd_0 := by decide +kernel
theorem dksX5_tellsEnd_1 : cX5_tellsEnd.data.toList.drop 22 = dktX5_tellsEnd_1 := dk_seg dksX5_tellsEnd_0 22 rfl rfl
theorem dksX5_tellsEnd_2 : cX5_tellsEnd.data.toList.drop 46 = dktX5_tellsEnd_2 := dk_seg dksX5_tellsEnd_1 24 rfl rfl
theorem dksX5_tellsEnd_3 : cX5_tellsEnd.data.toList.drop 70 = dktX5_tellsEnd_3 := dk_seg dksX5_tellsEnd_2 24 rfl rfl
theorem dksX5_tellsEnd_4 : cX5_tellsEnd.data.toList.drop 94 = dktX5_tellsEnd_4 := dk_seg dksX5_tellsEnd_3 24 rfl rfl
theorem dX5_tellsEnd_0 : decode cX5_tellsEnd 0 = .ok (.aload_n 0, 1) := dk_42 (dk_at dksX5_tellsEnd_0 0 rfl rfl)
theorem dX5_tellsEnd_1 : decode cX5_tellsEnd 1 = .ok (.bipush 51, 2) := dk_16 51 (dk_at dksX5_tellsEnd_0 1 rfl rfl)
theorem dX5_tellsEnd_3 : decode cX5_tellsEnd 3 = .ok (.invokevirtual 316, 3) := dk_182 1 60 (dk_at dksX5_tellsEnd_0 3 rfl rfl)
theorem dX5_tellsEnd_6 : decode cX5_tellsEnd 6 = .ok (.istore_n 1, 1) := dk_60 (dk_at dksX5_tellsEnd_0 6 rfl rfl)
theorem dX5_tellsEnd_7 : decode cX5_tellsEnd 7 = .ok (.aload_n 0, 1) := dk_42 (dk_at dksX5_tellsEnd_0 7 rfl rfl)
theorem dX5_tellsEnd_8 : decode cX5_tellsEnd 8 = .ok (.bipush 59, 2) := dk_16 59 (dk_at dksX5_tellsEnd_0 8 rfl rfl)
theorem dX5_tellsEnd_10 : decode cX5_tellsEnd 10 = .ok (.invokevirtual 316, 3) := dk_182 1 60 (dk_at dksX5_tellsEnd_0 10 rfl rfl)
theorem dX5_tellsEnd_13 : decode cX5_tellsEnd 13 = .ok (.istore_n 2, 1) := dk_61 (dk_at dksX5_tellsEnd_0 13 rfl rfl)
theorem dX5_tellsEnd_14 : decode cX5_tellsEnd 14 = .ok (.aload_n 0, 1) := dk_42 (dk_at dksX5_tellsEnd_0 14 rfl rfl)
theorem dX5_tellsEnd_15 : decode cX5_tellsEnd 15 = .ok (.getfield 140, 3) := dk_180 0 140 (dk_at dksX5_tellsEnd_0 15 rfl rfl)
theorem dX5_tellsEnd_18 : decode cX5_tellsEnd 18 = .ok (.iconst 1, 1) := dk_4 (dk_at dksX5_tellsEnd_0 18 rfl rfl)
theorem dX5_tellsEnd_19 : decode cX5_tellsEnd 19 = .ok (.iaload, 1) := dk_46 (dk_at dksX5_tellsEnd_0 19 rfl rfl)
theorem dX5_tellsEnd_20 : decode cX5_tellsEnd 20 = .ok (.istore_n 3, 1) := dk_62 (dk_at dksX5_tellsEnd_0 20 rfl rfl)
theorem dX5_tellsEnd_21 : decode cX5_tellsEnd 21 = .ok (.aload_n 0, 1) := dk_42 (dk_at dksX5_tellsEnd_0 21 rfl rfl)
theorem dX5_tellsEnd_22 : decode cX5_tellsEnd 22 = .ok (.invokevirtual 319, 3) := dk_182 1 63 (dk_at dksX5_tellsEnd_1 0 rfl rfl)
theorem dX5_tellsEnd_25 : decode cX5_tellsEnd 25 = .ok (.istore 4, 2) := dk_54 4 (dk_at dksX5_tellsEnd_1 3 rfl rfl)
theorem dX5_tellsEnd_27 : decode cX5_tellsEnd 27 = .ok (.iload 4, 2) := dk_21 4 (dk_at dksX5_tellsEnd_1 5 rfl rfl)
theorem dX5_tellsEnd_29 : decode cX5_tellsEnd 29 = .ok (.ifCond .ge 6, 3) := dk_156 0 6 (dk_at dksX5_tellsEnd_1 7 rfl rfl)
theorem dX5_tellsEnd_32 : decode cX5_tellsEnd 32 = .ok (.bipush (-2), 2) := dk_16 254 (dk_at dksX5_tellsEnd_1 10 rfl rfl)
theorem dX5_tellsEnd_34 : decode cX5_tellsEnd 34 = .ok (.ireturn, 1) := dk_172 (dk_at dksX5_tellsEnd_1 12 rfl rfl)
theorem dX5_tellsEnd_35 : decode cX5_tellsEnd 35 = .ok (.aload_n 0, 1) := dk_42 (dk_at dksX5_tellsEnd_1 13 rfl rfl)
theorem dX5_tellsEnd_36 : decode cX5_tellsEnd 36 = .ok (.iconst 0, 1) := dk_3 (dk_at dksX5_tellsEnd_1 14 rfl rfl)
theorem dX5_tellsEnd_37 : decode cX5_tellsEnd 37 = .ok (.putfield 11, 3) := dk_181 0 11 (dk_at dksX5_tellsEnd_1 15 rfl rfl)
theorem dX5_tellsEnd_40 : decode cX5_tellsEnd 40 = .ok (.iconst 0, 1) := dk_3 (dk_at dksX5_tellsEnd_1 18 rfl rfl)
theorem dX5_tellsEnd_41 : decode cX5_tellsEnd 41 = .ok (.istore 5, 2) := dk_54 5 (dk_at dksX5_tellsEnd_1 19 rfl rfl)
theorem dX5_tellsEnd_43 : decode cX5_tellsEnd 43 = .ok (.iload 5, 2) := dk_21 5 (dk_at dksX5_tellsEnd_1 21 rfl rfl)
theorem dX5_tellsEnd_45 : decode cX5_tellsEnd 45 = .ok (.aload_n 0, 1) := dk_42 (dk_at dksX5_tellsEnd_1 23 rfl rfl)
theorem dX5_tellsEnd_46 : decode cX5_tellsEnd 46 = .ok (.getfield 151, 3) := dk_180 0 151 (dk_at dksX5_tellsEnd_2 0 rfl rfl)
theorem dX5_tellsEnd_49 : decode cX5_tellsEnd 49 = .ok (.if_icmp .ge 24, 3) := dk_162 0 24 (dk_at dksX5_tellsEnd_2 3 rfl rfl)
theorem dX5_tellsEnd_52 : decode cX5_tellsEnd 52 = .ok (.aload_n 0, 1) := dk_42 (dk_at dksX5_tellsEnd_2 6 rfl rfl)
theorem dX5_tellsEnd_53 : decode cX5_tellsEnd 53 = .ok (.aload_n 0, 1) := dk_42 (dk_at dksX5_tellsEnd_2 7 rfl rfl)
theorem dX5_tellsEnd_54 : decode cX5_tellsEnd 54 = .ok (.getfield 140, 3) := dk_180 0 140 (dk_at dksX5_tellsEnd_2 8 rfl rfl)
theorem dX5_tellsEnd_57 : decode cX5_tellsEnd 57 = .ok (.bipush 35, 2) := dk_16 35 (dk_at dksX5_tellsEnd_2 11 rfl rfl)
theorem dX5_tellsEnd_59 : decode cX5_tellsEnd 59 = .ok (.iload 5, 2) := dk_21 5 (dk_at dksX5_tellsEnd_2 13 rfl rfl)
theorem dX5_tellsEnd_61 : decode cX5_tellsEnd 61 = .ok (.iadd, 1) := dk_96 (dk_at dksX5_tellsEnd_2 15 rfl rfl)
theorem dX5_tellsEnd_62 : decode cX5_tellsEnd 62 = .ok (.iaload, 1) := dk_46 (dk_at dksX5_tellsEnd_2 16 rfl rfl)
theorem dX5_tellsEnd_63 : decode cX5_tellsEnd 63 = .ok (.i2l, 1) := dk_133 (dk_at dksX5_tellsEnd_2 17 rfl rfl)
theorem dX5_tellsEnd_64 : decode cX5_tellsEnd 64 = .ok (.invokevirtual 18, 3) := dk_182 0 18 (dk_at dksX5_tellsEnd_2 18 rfl rfl)
theorem dX5_tellsEnd_67 : decode cX5_tellsEnd 67 = .ok (.iinc 5 1, 3) := dk_132 5 1 (dk_at dksX5_tellsEnd_2 21 rfl rfl)
theorem dX5_tellsEnd_70 : decode cX5_tellsEnd 70 = .ok (.goto (-27), 3) := dk_167 255 229 (dk_at dksX5_tellsEnd_3 0 rfl rfl)
theorem dX5_tellsEnd_73 : decode cX5_tellsEnd 73 = .ok (.aload_n 0, 1) := dk_42 (dk_at dksX5_tellsEnd_3 3 rfl rfl)
theorem dX5_tellsEnd_74 : decode cX5_tellsEnd 74 = .ok (.aload_n 0, 1) := dk_42 (dk_at dksX5_tellsEnd_3 4 rfl rfl)
theorem dX5_tellsEnd_75 : decode cX5_tellsEnd 75 = .ok (.bipush 51, 2) := dk_16 51 (dk_at dksX5_tellsEnd_3 5 rfl rfl)
theorem dX5_tellsEnd_77 : decode cX5_tellsEnd 77 = .ok (.invokevirtual 316, 3) := dk_182 1 60 (dk_at dksX5_tellsEnd_3 7 rfl rfl)
theorem dX5_tellsEnd_80 : decode cX5_tellsEnd 80 = .ok (.iload_n 1, 1) := dk_27 (dk_at dksX5_tellsEnd_3 10 rfl rfl)
theorem dX5_tellsEnd_81 : decode cX5_tellsEnd 81 = .ok (.isub, 1) := dk_100 (dk_at dksX5_tellsEnd_3 11 rfl rfl)
theorem dX5_tellsEnd_82 : decode cX5_tellsEnd 82 = .ok (.i2l, 1) := dk_133 (dk_at dksX5_tellsEnd_3 12 rfl rfl)
theorem dX5_tellsEnd_83 : decode cX5_tellsEnd 83 = .ok (.invokevirtual 18, 3) := dk_182 0 18 (dk_at dksX5_tellsEnd_3 13 rfl rfl)
theorem dX5_tellsEnd_86 : decode cX5_tellsEnd 86 = .ok (.aload_n 0, 1) := dk_42 (dk_at dksX5_tellsEnd_3 16 rfl rfl)
theorem dX5_tellsEnd_87 : decode cX5_tellsEnd 87 = .ok (.aload_n 0, 1) := dk_42 (dk_at dksX5_tellsEnd_3 17 rfl rfl)
theorem dX5_tellsEnd_88 : decode cX5_tellsEnd 88 = .ok (.bipush 59, 2) := dk_16 59 (dk_at dksX5_tellsEnd_3 18 rfl rfl)
theorem dX5_tellsEnd_90 : decode cX5_tellsEnd 90 = .ok (.invokevirtual 316, 3) := dk_182 1 60 (dk_at dksX5_tellsEnd_3 20 rfl rfl)
theorem dX5_tellsEnd_93 : decode cX5_tellsEnd 93 = .ok (.iload_n 2, 1) := dk_28 (dk_at dksX5_tellsEnd_3 23 rfl rfl)
theorem dX5_tellsEnd_94 : decode cX5_tellsEnd 94 = .ok (.isub, 1) := dk_100 (dk_at dksX5_tellsEnd_4 0 rfl rfl)
theorem dX5_tellsEnd_95 : decode cX5_tellsEnd 95 = .ok (.i2l, 1) := dk_133 (dk_at dksX5_tellsEnd_4 1 rfl rfl)
theorem dX5_tellsEnd_96 : decode cX5_tellsEnd 96 = .ok (.invokevirtual 18, 3) := dk_182 0 18 (dk_at dksX5_tellsEnd_4 2 rfl rfl)
theorem dX5_tellsEnd_99 : decode cX5_tellsEnd 99 = .ok (.aload_n 0, 1) := dk_42 (dk_at dksX5_tellsEnd_4 5 rfl rfl)
theorem dX5_tellsEnd_100 : decode cX5_tellsEnd 100 = .ok (.aload_n 0, 1) := dk_42 (dk_at dksX5_tellsEnd_4 6 rfl rfl)
theorem dX5_tellsEnd_101 : decode cX5_tellsEnd 101 = .ok (.getfield 140, 3) := dk_180 0 140 (dk_at dksX5_tellsEnd_4 7 rfl rfl)
theorem dX5_tellsEnd_104 : decode cX5_tellsEnd 104 = .ok (.iconst 1, 1) := dk_4 (dk_at dksX5_tellsEnd_4 10 rfl rfl)
theorem dX5_tellsEnd_105 : decode cX5_tellsEnd 105 = .ok (.iaload, 1) := dk_46 (dk_at dksX5_tellsEnd_4 11 rfl rfl)
theorem dX5_tellsEnd_106 : decode cX5_tellsEnd 106 = .ok (.iload_n 3, 1) := dk_29 (dk_at dksX5_tellsEnd_4 12 rfl rfl)
theorem dX5_tellsEnd_107 : decode cX5_tellsEnd 107 = .ok (.isub, 1) := dk_100 (dk_at dksX5_tellsEnd_4 13 rfl rfl)
theorem dX5_tellsEnd_108 : decode cX5_tellsEnd 108 = .ok (.i2l, 1) := dk_133 (dk_at dksX5_tellsEnd_4 14 rfl rfl)
theorem dX5_tellsEnd_109 : decode cX5_tellsEnd 109 = .ok (.invokevirtual 18, 3) := dk_182 0 18 (dk_at dksX5_tellsEnd_4 15 rfl rfl)
theorem dX5_tellsEnd_112 : decode cX5_tellsEnd 112 = .ok (.iload 4, 2) := dk_21 4 (dk_at dksX5_tellsEnd_4 18 rfl rfl)
theorem dX5_tellsEnd_114 : decode cX5_tellsEnd 114 = .ok (.ireturn, 1) := dk_172 (dk_at dksX5_tellsEnd_4 20 rfl rfl)
def dkwX5_sumOf_1 : List UInt8 := [132, 3, 1, 167, 255, 234, 28, 172]
abbrev dktX5_sumOf_1 : List UInt8 := dkwX5_sumOf_1 ++ []
def dkwX5_sumOf_0 : List UInt8 := [3, 61, 3, 62, 29, 42, 180, 0, 151, 162, 0, 20, 28, 42, 180, 0, 140, 27, 29, 96, 46, 96, 61]
abbrev dktX5_sumOf_0 : List UInt8 := dkwX5_sumOf_0 ++ dktX5_sumOf_1
theorem dksX5_sumOf_0 : cX5_sumOf.data.toList.drop 0 = dktX5_sumOf_0 := by decide +kernel
theorem dksX5_sumOf_1 : cX5_sumOf.data.toList.drop 23 = dktX5_sumOf_1 := dk_seg dksX5_sumOf_0 23 rfl rfl
theorem dX5_sumOf_0 : decode cX5_sumOf 0 = .ok (.iconst 0, 1) := dk_3 (dk_at dksX5_sumOf_0 0 rfl rfl)
theorem dX5_sumOf_1 : decode cX5_sumOf 1 = .ok (.istore_n 2, 1) := dk_61 (dk_at dksX5_sumOf_0 1 rfl rfl)
theorem dX5_sumOf_2 : decode cX5_sumOf 2 = .ok (.iconst 0, 1) := dk_3 (dk_at dksX5_sumOf_0 2 rfl rfl)
theorem dX5_sumOf_3 : decode cX5_sumOf 3 = .ok (.istore_n 3, 1) := dk_62 (dk_at dksX5_sumOf_0 3 rfl rfl)
theorem dX5_sumOf_4 : decode cX5_sumOf 4 = .ok (.iload_n 3, 1) := dk_29 (dk_at dksX5_sumOf_0 4 rfl rfl)
theorem dX5_sumOf_5 : decode cX5_sumOf 5 = .ok (.aload_n 0, 1) := dk_42 (dk_at dksX5_sumOf_0 5 rfl rfl)
theorem dX5_sumOf_6 : decode cX5_sumOf 6 = .ok (.getfield 151, 3) := dk_180 0 151 (dk_at dksX5_sumOf_0 6 rfl rfl)
theorem dX5_sumOf_9 : decode cX5_sumOf 9 = .ok (.if_icmp .ge 20, 3) := dk_162 0 20 (dk_at dksX5_sumOf_0 9 rfl rfl)
theorem dX5_sumOf_12 : decode cX5_sumOf 12 = .ok (.iload_n 2, 1) := dk_28 (dk_at dksX5_sumOf_0 12 rfl rfl)
theorem dX5_sumOf_13 : decode cX5_sumOf 13 = .ok (.aload_n 0, 1) := dk_42 (dk_at dksX5_sumOf_0 13 rfl rfl)
theorem dX5_sumOf_14 : decode cX5_sumOf 14 = .ok (.getfield 140, 3) := dk_180 0 140 (dk_at dksX5_sumOf_0 14 rfl rfl)
theorem dX5_sumOf_17 : decode cX5_sumOf 17 = .ok (.iload_n 1, 1) := dk_27 (dk_at dksX5_sumOf_0 17 rfl rfl)
theorem dX5_sumOf_18 : decode cX5_sumOf 18 = .ok (.iload_n 3, 1) := dk_29 (dk_at dksX5_sumOf_0 18 rfl rfl)
theorem dX5_sumOf_19 : decode cX5_sumOf 19 = .ok (.iadd, 1) := dk_96 (dk_at dksX5_sumOf_0 19 rfl rfl)
theorem dX5_sumOf_20 : decode cX5_sumOf 20 = .ok (.iaload, 1) := dk_46 (dk_at dksX5_sumOf_0 20 rfl rfl)
theorem dX5_sumOf_21 : decode cX5_sumOf 21 = .ok (.iadd, 1) := dk_96 (dk_at dksX5_sumOf_0 21 rfl rfl)
theorem dX5_sumOf_22 : decode cX5_sumOf 22 = .ok (.istore_n 2, 1) := dk_61 (dk_at dksX5_sumOf_0 22 rfl rfl)
theorem dX5_sumOf_23 : decode cX5_sumOf 23 = .ok (.iinc 3 1, 3) := dk_132 3 1 (dk_at dksX5_sumOf_1 0 rfl rfl)
theorem dX5_sumOf_26 : decode cX5_sumOf 26 = .ok (.goto (-22), 3) := dk_167 255 234 (dk_at dksX5_sumOf_1 3 rfl rfl)
theorem dX5_sumOf_29 : decode cX5_sumOf 29 = .ok (.iload_n 2, 1) := dk_28 (dk_at dksX5_sumOf_1 6 rfl rfl)
theorem dX5_sumOf_30 : decode cX5_sumOf 30 = .ok (.ireturn, 1) := dk_172 (dk_at dksX5_sumOf_1 7 rfl rfl)
def dkwX5_goesOn_2 : List UInt8 := [3, 46, 172]
abbrev dktX5_goesOn_2 : List UInt8 := dkwX5_goesOn_2 ++ []
def dkwX5_goesOn_1 : List UInt8 := [180, 0, 140, 3, 46, 17, 9, 95, 161, 0, 5, 2, 172, 42, 182, 1, 52, 167, 255, 231, 42, 180, 0, 140]
abbrev dktX5_goesOn_1 : List UInt8 := dkwX5_goesOn_1 ++ dktX5_goesOn_2
def dkwX5_goesOn_0 : List UInt8 := [42, 180, 0, 140, 3, 46, 60, 42, 182, 1, 57, 153, 0, 5, 27, 172, 42, 182, 1, 57, 154, 0, 24, 42]
abbrev dktX5_goesOn_0 : List UInt8 := dkwX5_goesOn_0 ++ dktX5_goesOn_1
theorem dksX5_goesOn_0 : cX5_goesOn.data.toList.drop 0 = dktX5_goesOn_0 := by decide +kernel
theorem dksX5_goesOn_1 : cX5_goesOn.data.toList.drop 24 = dktX5_goesOn_1 := dk_seg dksX5_goesOn_0 24 rfl rfl
theorem dksX5_goesOn_2 : cX5_goesOn.data.toList.drop 48 = dktX5_goesOn_2 := dk_seg dksX5_goesOn_1 24 rfl rfl
theorem dX5_goesOn_0 : decode cX5_goesOn 0 = .ok (.aload_n 0, 1) := dk_42 (dk_at dksX5_goesOn_0 0 rfl rfl)
theorem dX5_goesOn_1 : decode cX5_goesOn 1 = .ok (.getfield 140, 3) := dk_180 0 140 (dk_at dksX5_goesOn_0 1 rfl rfl)
theorem dX5_goesOn_4 : decode cX5_goesOn 4 = .ok (.iconst 0, 1) := dk_3 (dk_at dksX5_goesOn_0 4 rfl rfl)
theorem dX5_goesOn_5 : decode cX5_goesOn 5 = .ok (.iaload, 1) := dk_46 (dk_at dksX5_goesOn_0 5 rfl rfl)
theorem dX5_goesOn_6 : decode cX5_goesOn 6 = .ok (.istore_n 1, 1) := dk_60 (dk_at dksX5_goesOn_0 6 rfl rfl)
theorem dX5_goesOn_7 : decode cX5_goesOn 7 = .ok (.aload_n 0, 1) := dk_42 (dk_at dksX5_goesOn_0 7 rfl rfl)
theorem dX5_goesOn_8 : decode cX5_goesOn 8 = .ok (.invokevirtual 313, 3) := dk_182 1 57 (dk_at dksX5_goesOn_0 8 rfl rfl)
theorem dX5_goesOn_11 : decode cX5_goesOn 11 = .ok (.ifCond .eq 5, 3) := dk_153 0 5 (dk_at dksX5_goesOn_0 11 rfl rfl)
theorem dX5_goesOn_14 : decode cX5_goesOn 14 = .ok (.iload_n 1, 1) := dk_27 (dk_at dksX5_goesOn_0 14 rfl rfl)
theorem dX5_goesOn_15 : decode cX5_goesOn 15 = .ok (.ireturn, 1) := dk_172 (dk_at dksX5_goesOn_0 15 rfl rfl)
theorem dX5_goesOn_16 : decode cX5_goesOn 16 = .ok (.aload_n 0, 1) := dk_42 (dk_at dksX5_goesOn_0 16 rfl rfl)
theorem dX5_goesOn_17 : decode cX5_goesOn 17 = .ok (.invokevirtual 313, 3) := dk_182 1 57 (dk_at dksX5_goesOn_0 17 rfl rfl)
theorem dX5_goesOn_20 : decode cX5_goesOn 20 = .ok (.ifCond .ne 24, 3) := dk_154 0 24 (dk_at dksX5_goesOn_0 20 rfl rfl)
theorem dX5_goesOn_23 : decode cX5_goesOn 23 = .ok (.aload_n 0, 1) := dk_42 (dk_at dksX5_goesOn_0 23 rfl rfl)
theorem dX5_goesOn_24 : decode cX5_goesOn 24 = .ok (.getfield 140, 3) := dk_180 0 140 (dk_at dksX5_goesOn_1 0 rfl rfl)
theorem dX5_goesOn_27 : decode cX5_goesOn 27 = .ok (.iconst 0, 1) := dk_3 (dk_at dksX5_goesOn_1 3 rfl rfl)
theorem dX5_goesOn_28 : decode cX5_goesOn 28 = .ok (.iaload, 1) := dk_46 (dk_at dksX5_goesOn_1 4 rfl rfl)
theorem dX5_goesOn_29 : decode cX5_goesOn 29 = .ok (.sipush 2399, 3) := dk_17 9 95 (dk_at dksX5_goesOn_1 5 rfl rfl)
theorem dX5_goesOn_32 : decode cX5_goesOn 32 = .ok (.if_icmp .lt 5, 3) := dk_161 0 5 (dk_at dksX5_goesOn_1 8 rfl rfl)
theorem dX5_goesOn_35 : decode cX5_goesOn 35 = .ok (.iconst (-1), 1) := dk_2 (dk_at dksX5_goesOn_1 11 rfl rfl)
theorem dX5_goesOn_36 : decode cX5_goesOn 36 = .ok (.ireturn, 1) := dk_172 (dk_at dksX5_goesOn_1 12 rfl rfl)
theorem dX5_goesOn_37 : decode cX5_goesOn 37 = .ok (.aload_n 0, 1) := dk_42 (dk_at dksX5_goesOn_1 13 rfl rfl)
theorem dX5_goesOn_38 : decode cX5_goesOn 38 = .ok (.invokevirtual 308, 3) := dk_182 1 52 (dk_at dksX5_goesOn_1 14 rfl rfl)
theorem dX5_goesOn_41 : decode cX5_goesOn 41 = .ok (.goto (-25), 3) := dk_167 255 231 (dk_at dksX5_goesOn_1 17 rfl rfl)
theorem dX5_goesOn_44 : decode cX5_goesOn 44 = .ok (.aload_n 0, 1) := dk_42 (dk_at dksX5_goesOn_1 20 rfl rfl)
theorem dX5_goesOn_45 : decode cX5_goesOn 45 = .ok (.getfield 140, 3) := dk_180 0 140 (dk_at dksX5_goesOn_1 21 rfl rfl)
theorem dX5_goesOn_48 : decode cX5_goesOn 48 = .ok (.iconst 0, 1) := dk_3 (dk_at dksX5_goesOn_2 0 rfl rfl)
theorem dX5_goesOn_49 : decode cX5_goesOn 49 = .ok (.iaload, 1) := dk_46 (dk_at dksX5_goesOn_2 1 rfl rfl)
theorem dX5_goesOn_50 : decode cX5_goesOn 50 = .ok (.ireturn, 1) := dk_172 (dk_at dksX5_goesOn_2 2 rfl rfl)
def dkwX5_isAllDone_1 : List UInt8 := [4, 167, 0, 4, 3, 60, 132, 2, 1, 167, 255, 227, 27, 172]
abbrev dktX5_isAllDone_1 : List UInt8 := dkwX5_isAllDone_1 ++ []
def dkwX5_isAllDone_0 : List UInt8 := [4, 60, 3, 61, 28, 42, 180, 0, 151, 162, 0, 27, 27, 153, 0, 15, 42, 28, 182, 1, 9, 153, 0, 7]
abbrev dktX5_isAllDone_0 : List UInt8 := dkwX5_isAllDone_0 ++ dktX5_isAllDone_1
theorem dksX5_isAllDone_0 : cX5_isAllDone.data.toList.drop 0 = dktX5_isAllDone_0 := by decide +kernel
theorem dksX5_isAllDone_1 : cX5_isAllDone.data.toList.drop 24 = dktX5_isAllDone_1 := dk_seg dksX5_isAllDone_0 24 rfl rfl
theorem dX5_isAllDone_0 : decode cX5_isAllDone 0 = .ok (.iconst 1, 1) := dk_4 (dk_at dksX5_isAllDone_0 0 rfl rfl)
theorem dX5_isAllDone_1 : decode cX5_isAllDone 1 = .ok (.istore_n 1, 1) := dk_60 (dk_at dksX5_isAllDone_0 1 rfl rfl)
theorem dX5_isAllDone_2 : decode cX5_isAllDone 2 = .ok (.iconst 0, 1) := dk_3 (dk_at dksX5_isAllDone_0 2 rfl rfl)
theorem dX5_isAllDone_3 : decode cX5_isAllDone 3 = .ok (.istore_n 2, 1) := dk_61 (dk_at dksX5_isAllDone_0 3 rfl rfl)
theorem dX5_isAllDone_4 : decode cX5_isAllDone 4 = .ok (.iload_n 2, 1) := dk_28 (dk_at dksX5_isAllDone_0 4 rfl rfl)
theorem dX5_isAllDone_5 : decode cX5_isAllDone 5 = .ok (.aload_n 0, 1) := dk_42 (dk_at dksX5_isAllDone_0 5 rfl rfl)
theorem dX5_isAllDone_6 : decode cX5_isAllDone 6 = .ok (.getfield 151, 3) := dk_180 0 151 (dk_at dksX5_isAllDone_0 6 rfl rfl)
theorem dX5_isAllDone_9 : decode cX5_isAllDone 9 = .ok (.if_icmp .ge 27, 3) := dk_162 0 27 (dk_at dksX5_isAllDone_0 9 rfl rfl)
theorem dX5_isAllDone_12 : decode cX5_isAllDone 12 = .ok (.iload_n 1, 1) := dk_27 (dk_at dksX5_isAllDone_0 12 rfl rfl)
theorem dX5_isAllDone_13 : decode cX5_isAllDone 13 = .ok (.ifCond .eq 15, 3) := dk_153 0 15 (dk_at dksX5_isAllDone_0 13 rfl rfl)
theorem dX5_isAllDone_16 : decode cX5_isAllDone 16 = .ok (.aload_n 0, 1) := dk_42 (dk_at dksX5_isAllDone_0 16 rfl rfl)
theorem dX5_isAllDone_17 : decode cX5_isAllDone 17 = .ok (.iload_n 2, 1) := dk_28 (dk_at dksX5_isAllDone_0 17 rfl rfl)
theorem dX5_isAllDone_18 : decode cX5_isAllDone 18 = .ok (.invokevirtual 265, 3) := dk_182 1 9 (dk_at dksX5_isAllDone_0 18 rfl rfl)
theorem dX5_isAllDone_21 : decode cX5_isAllDone 21 = .ok (.ifCond .eq 7, 3) := dk_153 0 7 (dk_at dksX5_isAllDone_0 21 rfl rfl)
theorem dX5_isAllDone_24 : decode cX5_isAllDone 24 = .ok (.iconst 1, 1) := dk_4 (dk_at dksX5_isAllDone_1 0 rfl rfl)
theorem dX5_isAllDone_25 : decode cX5_isAllDone 25 = .ok (.goto 4, 3) := dk_167 0 4 (dk_at dksX5_isAllDone_1 1 rfl rfl)
theorem dX5_isAllDone_28 : decode cX5_isAllDone 28 = .ok (.iconst 0, 1) := dk_3 (dk_at dksX5_isAllDone_1 4 rfl rfl)
theorem dX5_isAllDone_29 : decode cX5_isAllDone 29 = .ok (.istore_n 1, 1) := dk_60 (dk_at dksX5_isAllDone_1 5 rfl rfl)
theorem dX5_isAllDone_30 : decode cX5_isAllDone 30 = .ok (.iinc 2 1, 3) := dk_132 2 1 (dk_at dksX5_isAllDone_1 6 rfl rfl)
theorem dX5_isAllDone_33 : decode cX5_isAllDone 33 = .ok (.goto (-29), 3) := dk_167 255 227 (dk_at dksX5_isAllDone_1 9 rfl rfl)
theorem dX5_isAllDone_36 : decode cX5_isAllDone 36 = .ok (.iload_n 1, 1) := dk_27 (dk_at dksX5_isAllDone_1 12 rfl rfl)
theorem dX5_isAllDone_37 : decode cX5_isAllDone 37 = .ok (.ireturn, 1) := dk_172 (dk_at dksX5_isAllDone_1 13 rfl rfl)
def dkwX5_takesBack_0 : List UInt8 := [3, 61, 28, 16, 127, 162, 0, 18, 42, 180, 0, 140, 28, 43, 28, 46, 79, 132, 2, 1, 167, 255, 238, 177]
abbrev dktX5_takesBack_0 : List UInt8 := dkwX5_takesBack_0 ++ []
theorem dksX5_takesBack_0 : cX5_takesBack.data.toList.drop 0 = dktX5_takesBack_0 := by decide +kernel
theorem dX5_takesBack_0 : decode cX5_takesBack 0 = .ok (.iconst 0, 1) := dk_3 (dk_at dksX5_takesBack_0 0 rfl rfl)
theorem dX5_takesBack_1 : decode cX5_takesBack 1 = .ok (.istore_n 2, 1) := dk_61 (dk_at dksX5_takesBack_0 1 rfl rfl)
theorem dX5_takesBack_2 : decode cX5_takesBack 2 = .ok (.iload_n 2, 1) := dk_28 (dk_at dksX5_takesBack_0 2 rfl rfl)
theorem dX5_takesBack_3 : decode cX5_takesBack 3 = .ok (.bipush 127, 2) := dk_16 127 (dk_at dksX5_takesBack_0 3 rfl rfl)
theorem dX5_takesBack_5 : decode cX5_takesBack 5 = .ok (.if_icmp .ge 18, 3) := dk_162 0 18 (dk_at dksX5_takesBack_0 5 rfl rfl)
theorem dX5_takesBack_8 : decode cX5_takesBack 8 = .ok (.aload_n 0, 1) := dk_42 (dk_at dksX5_takesBack_0 8 rfl rfl)
theorem dX5_takesBack_9 : decode cX5_takesBack 9 = .ok (.getfield 140, 3) := dk_180 0 140 (dk_at dksX5_takesBack_0 9 rfl rfl)
theorem dX5_takesBack_12 : decode cX5_takesBack 12 = .ok (.iload_n 2, 1) := dk_28 (dk_at dksX5_takesBack_0 12 rfl rfl)
theorem dX5_takesBack_13 : decode cX5_takesBack 13 = .ok (.aload_n 1, 1) := dk_43 (dk_at dksX5_takesBack_0 13 rfl rfl)
theorem dX5_takesBack_14 : decode cX5_takesBack 14 = .ok (.iload_n 2, 1) := dk_28 (dk_at dksX5_takesBack_0 14 rfl rfl)
theorem dX5_takesBack_15 : decode cX5_takesBack 15 = .ok (.iaload, 1) := dk_46 (dk_at dksX5_takesBack_0 15 rfl rfl)
theorem dX5_takesBack_16 : decode cX5_takesBack 16 = .ok (.iastore, 1) := dk_79 (dk_at dksX5_takesBack_0 16 rfl rfl)
theorem dX5_takesBack_17 : decode cX5_takesBack 17 = .ok (.iinc 2 1, 3) := dk_132 2 1 (dk_at dksX5_takesBack_0 17 rfl rfl)
theorem dX5_takesBack_20 : decode cX5_takesBack 20 = .ok (.goto (-18), 3) := dk_167 255 238 (dk_at dksX5_takesBack_0 20 rfl rfl)
theorem dX5_takesBack_23 : decode cX5_takesBack 23 = .ok (.return_, 1) := dk_177 (dk_at dksX5_takesBack_0 23 rfl rfl)
def dkwX5_judge_9 : List UInt8 := [180, 0, 140, 3, 92, 46, 4, 96, 79, 167, 255, 64, 42, 42, 180, 1, 66, 182, 1, 76, 27, 172]
abbrev dktX5_judge_9 : List UInt8 := dkwX5_judge_9 ++ []
def dkwX5_judge_8 : List UInt8 := [21, 4, 133, 182, 0, 18, 132, 4, 1, 167, 255, 174, 132, 3, 1, 167, 255, 117, 42, 182, 1, 44, 42]
abbrev dktX5_judge_8 : List UInt8 := dkwX5_judge_8 ++ dktX5_judge_9
def dkwX5_judge_7 : List UInt8 := [180, 0, 44, 21, 4, 46, 162, 0, 23, 28, 60, 42, 3, 181, 0, 11, 42, 29, 133, 182, 0, 18, 42]
abbrev dktX5_judge_7 : List UInt8 := dkwX5_judge_7 ++ dktX5_judge_8
def dkwX5_judge_6 : List UInt8 := [21, 4, 46, 42, 180, 0, 154, 29, 46, 184, 0, 137, 153, 0, 40, 42, 180, 1, 31, 21, 4, 46, 42]
abbrev dktX5_judge_6 : List UInt8 := dkwX5_judge_6 ++ dktX5_judge_7
def dkwX5_judge_5 : List UInt8 := [180, 0, 22, 162, 0, 79, 27, 156, 0, 75, 42, 21, 4, 28, 182, 0, 120, 153, 0, 59, 42, 180, 0, 47]
abbrev dktX5_judge_5 : List UInt8 := dkwX5_judge_5 ++ dktX5_judge_6
def dkwX5_judge_4 : List UInt8 := [154, 0, 105, 42, 180, 1, 28, 29, 184, 0, 137, 153, 0, 6, 167, 0, 91, 3, 54, 4, 21, 4, 42]
abbrev dktX5_judge_4 : List UInt8 := dkwX5_judge_4 ++ dktX5_judge_5
def dkwX5_judge_3 : List UInt8 := [156, 0, 133, 42, 180, 1, 22, 29, 184, 0, 137, 153, 0, 116, 42, 180, 1, 25, 29, 184, 0, 137]
abbrev dktX5_judge_3 : List UInt8 := dkwX5_judge_3 ++ dktX5_judge_4
def dkwX5_judge_2 : List UInt8 := [42, 180, 0, 140, 3, 46, 61, 42, 182, 1, 40, 3, 62, 29, 42, 180, 0, 151, 162, 0, 137, 27]
abbrev dktX5_judge_2 : List UInt8 := dkwX5_judge_2 ++ dktX5_judge_3
def dkwX5_judge_1 : List UInt8 := [60, 27, 156, 0, 194, 42, 182, 1, 57, 154, 0, 187, 42, 180, 0, 140, 3, 46, 17, 9, 95, 162, 0, 175]
abbrev dktX5_judge_1 : List UInt8 := dkwX5_judge_1 ++ dktX5_judge_2
def dkwX5_judge_0 : List UInt8 := [42, 3, 181, 0, 3, 42, 180, 0, 151, 154, 0, 5, 2, 172, 42, 42, 180, 1, 66, 182, 1, 69, 16, 254]
abbrev dktX5_judge_0 : List UInt8 := dkwX5_judge_0 ++ dktX5_judge_1
theorem dksX5_judge_0 : cX5_judge.data.toList.drop 0 = dktX5_judge_0 := by decide +kernel
theorem dksX5_judge_1 : cX5_judge.data.toList.drop 24 = dktX5_judge_1 := dk_seg dksX5_judge_0 24 rfl rfl
theorem dksX5_judge_2 : cX5_judge.data.toList.drop 48 = dktX5_judge_2 := dk_seg dksX5_judge_1 24 rfl rfl
theorem dksX5_judge_3 : cX5_judge.data.toList.drop 70 = dktX5_judge_3 := dk_seg dksX5_judge_2 22 rfl rfl
theorem dksX5_judge_4 : cX5_judge.data.toList.drop 92 = dktX5_judge_4 := dk_seg dksX5_judge_3 22 rfl rfl
theorem dksX5_judge_5 : cX5_judge.data.toList.drop 115 = dktX5_judge_5 := dk_seg dksX5_judge_4 23 rfl rfl
theorem dksX5_judge_6 : cX5_judge.data.toList.drop 139 = dktX5_judge_6 := dk_seg dksX5_judge_5 24 rfl rfl
theorem dksX5_judge_7 : cX5_judge.data.toList.drop 162 = dktX5_judge_7 := dk_seg dksX5_judge_6 23 rfl rfl
theorem dksX5_judge_8 : cX5_judge.data.toList.drop 185 = dktX5_judge_8 := dk_seg dksX5_judge_7 23 rfl rfl
theorem dksX5_judge_9 : cX5_judge.data.toList.drop 208 = dktX5_judge_9 := dk_seg dksX5_judge_8 23 rfl rfl
theorem dX5_judge_0 : decode cX5_judge 0 = .ok (.aload_n 0, 1) := dk_42 (dk_at dksX5_judge_0 0 rfl rfl)
theorem dX5_judge_1 : decode cX5_judge 1 = .ok (.iconst 0, 1) := dk_3 (dk_at dksX5_judge_0 1 rfl rfl)
theorem dX5_judge_2 : decode cX5_judge 2 = .ok (.putfield 3, 3) := dk_181 0 3 (dk_at dksX5_judge_0 2 rfl rfl)
theorem dX5_judge_5 : decode cX5_judge 5 = .ok (.aload_n 0, 1) := dk_42 (dk_at dksX5_judge_0 5 rfl rfl)
theorem dX5_judge_6 : decode cX5_judge 6 = .ok (.getfield 151, 3) := dk_180 0 151 (dk_at dksX5_judge_0 6 rfl rfl)
theorem dX5_judge_9 : decode cX5_judge 9 = .ok (.ifCond .ne 5, 3) := dk_154 0 5 (dk_at dksX5_judge_0 9 rfl rfl)
theorem dX5_judge_12 : decode cX5_judge 12 = .ok (.iconst (-1), 1) := dk_2 (dk_at dksX5_judge_0 12 rfl rfl)
theorem dX5_judge_13 : decode cX5_judge 13 = .ok (.ireturn, 1) := dk_172 (dk_at dksX5_judge_0 13 rfl rfl)
theorem dX5_judge_14 : decode cX5_judge 14 = .ok (.aload_n 0, 1) := dk_42 (dk_at dksX5_judge_0 14 rfl rfl)
theorem dX5_judge_15 : decode cX5_judge 15 = .ok (.aload_n 0, 1) := dk_42 (dk_at dksX5_judge_0 15 rfl rfl)
theorem dX5_judge_16 : decode cX5_judge 16 = .ok (.getfield 322, 3) := dk_180 1 66 (dk_at dksX5_judge_0 16 rfl rfl)
theorem dX5_judge_19 : decode cX5_judge 19 = .ok (.invokevirtual 325, 3) := dk_182 1 69 (dk_at dksX5_judge_0 19 rfl rfl)
theorem dX5_judge_22 : decode cX5_judge 22 = .ok (.bipush (-2), 2) := dk_16 254 (dk_at dksX5_judge_0 22 rfl rfl)
theorem dX5_judge_24 : decode cX5_judge 24 = .ok (.istore_n 1, 1) := dk_60 (dk_at dksX5_judge_1 0 rfl rfl)
theorem dX5_judge_25 : decode cX5_judge 25 = .ok (.iload_n 1, 1) := dk_27 (dk_at dksX5_judge_1 1 rfl rfl)
theorem dX5_judge_26 : decode cX5_judge 26 = .ok (.ifCond .ge 194, 3) := dk_156 0 194 (dk_at dksX5_judge_1 2 rfl rfl)
theorem dX5_judge_29 : decode cX5_judge 29 = .ok (.aload_n 0, 1) := dk_42 (dk_at dksX5_judge_1 5 rfl rfl)
theorem dX5_judge_30 : decode cX5_judge 30 = .ok (.invokevirtual 313, 3) := dk_182 1 57 (dk_at dksX5_judge_1 6 rfl rfl)
theorem dX5_judge_33 : decode cX5_judge 33 = .ok (.ifCond .ne 187, 3) := dk_154 0 187 (dk_at dksX5_judge_1 9 rfl rfl)
theorem dX5_judge_36 : decode cX5_judge 36 = .ok (.aload_n 0, 1) := dk_42 (dk_at dksX5_judge_1 12 rfl rfl)
theorem dX5_judge_37 : decode cX5_judge 37 = .ok (.getfield 140, 3) := dk_180 0 140 (dk_at dksX5_judge_1 13 rfl rfl)
theorem dX5_judge_40 : decode cX5_judge 40 = .ok (.iconst 0, 1) := dk_3 (dk_at dksX5_judge_1 16 rfl rfl)
theorem dX5_judge_41 : decode cX5_judge 41 = .ok (.iaload, 1) := dk_46 (dk_at dksX5_judge_1 17 rfl rfl)
theorem dX5_judge_42 : decode cX5_judge 42 = .ok (.sipush 2399, 3) := dk_17 9 95 (dk_at dksX5_judge_1 18 rfl rfl)
theorem dX5_judge_45 : decode cX5_judge 45 = .ok (.if_icmp .ge 175, 3) := dk_162 0 175 (dk_at dksX5_judge_1 21 rfl rfl)
theorem dX5_judge_48 : decode cX5_judge 48 = .ok (.aload_n 0, 1) := dk_42 (dk_at dksX5_judge_2 0 rfl rfl)
theorem dX5_judge_49 : decode cX5_judge 49 = .ok (.getfield 140, 3) := dk_180 0 140 (dk_at dksX5_judge_2 1 rfl rfl)
theorem dX5_judge_52 : decode cX5_judge 52 = .ok (.iconst 0, 1) := dk_3 (dk_at dksX5_judge_2 4 rfl rfl)
theorem dX5_judge_53 : decode cX5_judge 53 = .ok (.iaload, 1) := dk_46 (dk_at dksX5_judge_2 5 rfl rfl)
theorem dX5_judge_54 : decode cX5_judge 54 = .ok (.istore_n 2, 1) := dk_61 (dk_at dksX5_judge_2 6 rfl rfl)
theorem dX5_judge_55 : decode cX5_judge 55 = .ok (.aload_n 0, 1) := dk_42 (dk_at dksX5_judge_2 7 rfl rfl)
theorem dX5_judge_56 : decode cX5_judge 56 = .ok (.invokevirtual 296, 3) := dk_182 1 40 (dk_at dksX5_judge_2 8 rfl rfl)
theorem dX5_judge_59 : decode cX5_judge 59 = .ok (.iconst 0, 1) := dk_3 (dk_at dksX5_judge_2 11 rfl rfl)
theorem dX5_judge_60 : decode cX5_judge 60 = .ok (.istore_n 3, 1) := dk_62 (dk_at dksX5_judge_2 12 rfl rfl)
theorem dX5_judge_61 : decode cX5_judge 61 = .ok (.iload_n 3, 1) := dk_29 (dk_at dksX5_judge_2 13 rfl rfl)
theorem dX5_judge_62 : decode cX5_judge 62 = .ok (.aload_n 0, 1) := dk_42 (dk_at dksX5_judge_2 14 rfl rfl)
theorem dX5_judge_63 : decode cX5_judge 63 = .ok (.getfield 151, 3) := dk_180 0 151 (dk_at dksX5_judge_2 15 rfl rfl)
theorem dX5_judge_66 : decode cX5_judge 66 = .ok (.if_icmp .ge 137, 3) := dk_162 0 137 (dk_at dksX5_judge_2 18 rfl rfl)
theorem dX5_judge_69 : decode cX5_judge 69 = .ok (.iload_n 1, 1) := dk_27 (dk_at dksX5_judge_2 21 rfl rfl)
theorem dX5_judge_70 : decode cX5_judge 70 = .ok (.ifCond .ge 133, 3) := dk_156 0 133 (dk_at dksX5_judge_3 0 rfl rfl)
theorem dX5_judge_73 : decode cX5_judge 73 = .ok (.aload_n 0, 1) := dk_42 (dk_at dksX5_judge_3 3 rfl rfl)
theorem dX5_judge_74 : decode cX5_judge 74 = .ok (.getfield 278, 3) := dk_180 1 22 (dk_at dksX5_judge_3 4 rfl rfl)
theorem dX5_judge_77 : decode cX5_judge 77 = .ok (.iload_n 3, 1) := dk_29 (dk_at dksX5_judge_3 7 rfl rfl)
theorem dX5_judge_78 : decode cX5_judge 78 = .ok (.invokestatic 137, 3) := dk_184 0 137 (dk_at dksX5_judge_3 8 rfl rfl)
theorem dX5_judge_81 : decode cX5_judge 81 = .ok (.ifCond .eq 116, 3) := dk_153 0 116 (dk_at dksX5_judge_3 11 rfl rfl)
theorem dX5_judge_84 : decode cX5_judge 84 = .ok (.aload_n 0, 1) := dk_42 (dk_at dksX5_judge_3 14 rfl rfl)
theorem dX5_judge_85 : decode cX5_judge 85 = .ok (.getfield 281, 3) := dk_180 1 25 (dk_at dksX5_judge_3 15 rfl rfl)
theorem dX5_judge_88 : decode cX5_judge 88 = .ok (.iload_n 3, 1) := dk_29 (dk_at dksX5_judge_3 18 rfl rfl)
theorem dX5_judge_89 : decode cX5_judge 89 = .ok (.invokestatic 137, 3) := dk_184 0 137 (dk_at dksX5_judge_3 19 rfl rfl)
theorem dX5_judge_92 : decode cX5_judge 92 = .ok (.ifCond .ne 105, 3) := dk_154 0 105 (dk_at dksX5_judge_4 0 rfl rfl)
theorem dX5_judge_95 : decode cX5_judge 95 = .ok (.aload_n 0, 1) := dk_42 (dk_at dksX5_judge_4 3 rfl rfl)
theorem dX5_judge_96 : decode cX5_judge 96 = .ok (.getfield 284, 3) := dk_180 1 28 (dk_at dksX5_judge_4 4 rfl rfl)
theorem dX5_judge_99 : decode cX5_judge 99 = .ok (.iload_n 3, 1) := dk_29 (dk_at dksX5_judge_4 7 rfl rfl)
theorem dX5_judge_100 : decode cX5_judge 100 = .ok (.invokestatic 137, 3) := dk_184 0 137 (dk_at dksX5_judge_4 8 rfl rfl)
theorem dX5_judge_103 : decode cX5_judge 103 = .ok (.ifCond .eq 6, 3) := dk_153 0 6 (dk_at dksX5_judge_4 11 rfl rfl)
theorem dX5_judge_106 : decode cX5_judge 106 = .ok (.goto 91, 3) := dk_167 0 91 (dk_at dksX5_judge_4 14 rfl rfl)
theorem dX5_judge_109 : decode cX5_judge 109 = .ok (.iconst 0, 1) := dk_3 (dk_at dksX5_judge_4 17 rfl rfl)
theorem dX5_judge_110 : decode cX5_judge 110 = .ok (.istore 4, 2) := dk_54 4 (dk_at dksX5_judge_4 18 rfl rfl)
theorem dX5_judge_112 : decode cX5_judge 112 = .ok (.iload 4, 2) := dk_21 4 (dk_at dksX5_judge_4 20 rfl rfl)
theorem dX5_judge_114 : decode cX5_judge 114 = .ok (.aload_n 0, 1) := dk_42 (dk_at dksX5_judge_4 22 rfl rfl)
theorem dX5_judge_115 : decode cX5_judge 115 = .ok (.getfield 22, 3) := dk_180 0 22 (dk_at dksX5_judge_5 0 rfl rfl)
theorem dX5_judge_118 : decode cX5_judge 118 = .ok (.if_icmp .ge 79, 3) := dk_162 0 79 (dk_at dksX5_judge_5 3 rfl rfl)
theorem dX5_judge_121 : decode cX5_judge 121 = .ok (.iload_n 1, 1) := dk_27 (dk_at dksX5_judge_5 6 rfl rfl)
theorem dX5_judge_122 : decode cX5_judge 122 = .ok (.ifCond .ge 75, 3) := dk_156 0 75 (dk_at dksX5_judge_5 7 rfl rfl)
theorem dX5_judge_125 : decode cX5_judge 125 = .ok (.aload_n 0, 1) := dk_42 (dk_at dksX5_judge_5 10 rfl rfl)
theorem dX5_judge_126 : decode cX5_judge 126 = .ok (.iload 4, 2) := dk_21 4 (dk_at dksX5_judge_5 11 rfl rfl)
theorem dX5_judge_128 : decode cX5_judge 128 = .ok (.iload_n 2, 1) := dk_28 (dk_at dksX5_judge_5 13 rfl rfl)
theorem dX5_judge_129 : decode cX5_judge 129 = .ok (.invokevirtual 120, 3) := dk_182 0 120 (dk_at dksX5_judge_5 14 rfl rfl)
theorem dX5_judge_132 : decode cX5_judge 132 = .ok (.ifCond .eq 59, 3) := dk_153 0 59 (dk_at dksX5_judge_5 17 rfl rfl)
theorem dX5_judge_135 : decode cX5_judge 135 = .ok (.aload_n 0, 1) := dk_42 (dk_at dksX5_judge_5 20 rfl rfl)
theorem dX5_judge_136 : decode cX5_judge 136 = .ok (.getfield 47, 3) := dk_180 0 47 (dk_at dksX5_judge_5 21 rfl rfl)
theorem dX5_judge_139 : decode cX5_judge 139 = .ok (.iload 4, 2) := dk_21 4 (dk_at dksX5_judge_6 0 rfl rfl)
theorem dX5_judge_141 : decode cX5_judge 141 = .ok (.iaload, 1) := dk_46 (dk_at dksX5_judge_6 2 rfl rfl)
theorem dX5_judge_142 : decode cX5_judge 142 = .ok (.aload_n 0, 1) := dk_42 (dk_at dksX5_judge_6 3 rfl rfl)
theorem dX5_judge_143 : decode cX5_judge 143 = .ok (.getfield 154, 3) := dk_180 0 154 (dk_at dksX5_judge_6 4 rfl rfl)
theorem dX5_judge_146 : decode cX5_judge 146 = .ok (.iload_n 3, 1) := dk_29 (dk_at dksX5_judge_6 7 rfl rfl)
theorem dX5_judge_147 : decode cX5_judge 147 = .ok (.iaload, 1) := dk_46 (dk_at dksX5_judge_6 8 rfl rfl)
theorem dX5_judge_148 : decode cX5_judge 148 = .ok (.invokestatic 137, 3) := dk_184 0 137 (dk_at dksX5_judge_6 9 rfl rfl)
theorem dX5_judge_151 : decode cX5_judge 151 = .ok (.ifCond .eq 40, 3) := dk_153 0 40 (dk_at dksX5_judge_6 12 rfl rfl)
theorem dX5_judge_154 : decode cX5_judge 154 = .ok (.aload_n 0, 1) := dk_42 (dk_at dksX5_judge_6 15 rfl rfl)
theorem dX5_judge_155 : decode cX5_judge 155 = .ok (.getfield 287, 3) := dk_180 1 31 (dk_at dksX5_judge_6 16 rfl rfl)
theorem dX5_judge_158 : decode cX5_judge 158 = .ok (.iload 4, 2) := dk_21 4 (dk_at dksX5_judge_6 19 rfl rfl)
theorem dX5_judge_160 : decode cX5_judge 160 = .ok (.iaload, 1) := dk_46 (dk_at dksX5_judge_6 21 rfl rfl)
theorem dX5_judge_161 : decode cX5_judge 161 = .ok (.aload_n 0, 1) := dk_42 (dk_at dksX5_judge_6 22 rfl rfl)
theorem dX5_judge_162 : decode cX5_judge 162 = .ok (.getfield 44, 3) := dk_180 0 44 (dk_at dksX5_judge_7 0 rfl rfl)
theorem dX5_judge_165 : decode cX5_judge 165 = .ok (.iload 4, 2) := dk_21 4 (dk_at dksX5_judge_7 3 rfl rfl)
theorem dX5_judge_167 : decode cX5_judge 167 = .ok (.iaload, 1) := dk_46 (dk_at dksX5_judge_7 5 rfl rfl)
theorem dX5_judge_168 : decode cX5_judge 168 = .ok (.if_icmp .ge 23, 3) := dk_162 0 23 (dk_at dksX5_judge_7 6 rfl rfl)
theorem dX5_judge_171 : decode cX5_judge 171 = .ok (.iload_n 2, 1) := dk_28 (dk_at dksX5_judge_7 9 rfl rfl)
theorem dX5_judge_172 : decode cX5_judge 172 = .ok (.istore_n 1, 1) := dk_60 (dk_at dksX5_judge_7 10 rfl rfl)
theorem dX5_judge_173 : decode cX5_judge 173 = .ok (.aload_n 0, 1) := dk_42 (dk_at dksX5_judge_7 11 rfl rfl)
theorem dX5_judge_174 : decode cX5_judge 174 = .ok (.iconst 0, 1) := dk_3 (dk_at dksX5_judge_7 12 rfl rfl)
theorem dX5_judge_175 : decode cX5_judge 175 = .ok (.putfield 11, 3) := dk_181 0 11 (dk_at dksX5_judge_7 13 rfl rfl)
theorem dX5_judge_178 : decode cX5_judge 178 = .ok (.aload_n 0, 1) := dk_42 (dk_at dksX5_judge_7 16 rfl rfl)
theorem dX5_judge_179 : decode cX5_judge 179 = .ok (.iload_n 3, 1) := dk_29 (dk_at dksX5_judge_7 17 rfl rfl)
theorem dX5_judge_180 : decode cX5_judge 180 = .ok (.i2l, 1) := dk_133 (dk_at dksX5_judge_7 18 rfl rfl)
theorem dX5_judge_181 : decode cX5_judge 181 = .ok (.invokevirtual 18, 3) := dk_182 0 18 (dk_at dksX5_judge_7 19 rfl rfl)
theorem dX5_judge_184 : decode cX5_judge 184 = .ok (.aload_n 0, 1) := dk_42 (dk_at dksX5_judge_7 22 rfl rfl)
theorem dX5_judge_185 : decode cX5_judge 185 = .ok (.iload 4, 2) := dk_21 4 (dk_at dksX5_judge_8 0 rfl rfl)
theorem dX5_judge_187 : decode cX5_judge 187 = .ok (.i2l, 1) := dk_133 (dk_at dksX5_judge_8 2 rfl rfl)
theorem dX5_judge_188 : decode cX5_judge 188 = .ok (.invokevirtual 18, 3) := dk_182 0 18 (dk_at dksX5_judge_8 3 rfl rfl)
theorem dX5_judge_191 : decode cX5_judge 191 = .ok (.iinc 4 1, 3) := dk_132 4 1 (dk_at dksX5_judge_8 6 rfl rfl)
theorem dX5_judge_194 : decode cX5_judge 194 = .ok (.goto (-82), 3) := dk_167 255 174 (dk_at dksX5_judge_8 9 rfl rfl)
theorem dX5_judge_197 : decode cX5_judge 197 = .ok (.iinc 3 1, 3) := dk_132 3 1 (dk_at dksX5_judge_8 12 rfl rfl)
theorem dX5_judge_200 : decode cX5_judge 200 = .ok (.goto (-139), 3) := dk_167 255 117 (dk_at dksX5_judge_8 15 rfl rfl)
theorem dX5_judge_203 : decode cX5_judge 203 = .ok (.aload_n 0, 1) := dk_42 (dk_at dksX5_judge_8 18 rfl rfl)
theorem dX5_judge_204 : decode cX5_judge 204 = .ok (.invokevirtual 300, 3) := dk_182 1 44 (dk_at dksX5_judge_8 19 rfl rfl)
theorem dX5_judge_207 : decode cX5_judge 207 = .ok (.aload_n 0, 1) := dk_42 (dk_at dksX5_judge_8 22 rfl rfl)
theorem dX5_judge_208 : decode cX5_judge 208 = .ok (.getfield 140, 3) := dk_180 0 140 (dk_at dksX5_judge_9 0 rfl rfl)
theorem dX5_judge_211 : decode cX5_judge 211 = .ok (.iconst 0, 1) := dk_3 (dk_at dksX5_judge_9 3 rfl rfl)
theorem dX5_judge_212 : decode cX5_judge 212 = .ok (.dup2, 1) := dk_92 (dk_at dksX5_judge_9 4 rfl rfl)
theorem dX5_judge_213 : decode cX5_judge 213 = .ok (.iaload, 1) := dk_46 (dk_at dksX5_judge_9 5 rfl rfl)
theorem dX5_judge_214 : decode cX5_judge 214 = .ok (.iconst 1, 1) := dk_4 (dk_at dksX5_judge_9 6 rfl rfl)
theorem dX5_judge_215 : decode cX5_judge 215 = .ok (.iadd, 1) := dk_96 (dk_at dksX5_judge_9 7 rfl rfl)
theorem dX5_judge_216 : decode cX5_judge 216 = .ok (.iastore, 1) := dk_79 (dk_at dksX5_judge_9 8 rfl rfl)
theorem dX5_judge_217 : decode cX5_judge 217 = .ok (.goto (-192), 3) := dk_167 255 64 (dk_at dksX5_judge_9 9 rfl rfl)
theorem dX5_judge_220 : decode cX5_judge 220 = .ok (.aload_n 0, 1) := dk_42 (dk_at dksX5_judge_9 12 rfl rfl)
theorem dX5_judge_221 : decode cX5_judge 221 = .ok (.aload_n 0, 1) := dk_42 (dk_at dksX5_judge_9 13 rfl rfl)
theorem dX5_judge_222 : decode cX5_judge 222 = .ok (.getfield 322, 3) := dk_180 1 66 (dk_at dksX5_judge_9 14 rfl rfl)
theorem dX5_judge_225 : decode cX5_judge 225 = .ok (.invokevirtual 332, 3) := dk_182 1 76 (dk_at dksX5_judge_9 17 rfl rfl)
theorem dX5_judge_228 : decode cX5_judge 228 = .ok (.iload_n 1, 1) := dk_27 (dk_at dksX5_judge_9 20 rfl rfl)
theorem dX5_judge_229 : decode cX5_judge 229 = .ok (.ireturn, 1) := dk_172 (dk_at dksX5_judge_9 21 rfl rfl)
def dkwX5_one_3 : List UInt8 := [180, 1, 94, 42, 180, 1, 104, 182, 1, 114, 21, 4, 172]
abbrev dktX5_one_3 : List UInt8 := dkwX5_one_3 ++ []
def dkwX5_one_2 : List UInt8 := [156, 0, 6, 16, 254, 172, 42, 3, 181, 0, 11, 42, 42, 180, 1, 94, 133, 182, 0, 18, 42, 42]
abbrev dktX5_one_2 : List UInt8 := dkwX5_one_2 ++ dktX5_one_3
def dkwX5_one_1 : List UInt8 := [20, 0, 93, 184, 0, 25, 154, 0, 5, 2, 172, 42, 27, 28, 29, 182, 1, 111, 54, 4, 21, 4]
abbrev dktX5_one_1 : List UInt8 := dkwX5_one_1 ++ dktX5_one_2
def dkwX5_one_0 : List UInt8 := [42, 3, 181, 0, 3, 42, 27, 182, 1, 0, 153, 0, 22, 28, 184, 0, 81, 153, 0, 15, 29, 133, 9]
abbrev dktX5_one_0 : List UInt8 := dkwX5_one_0 ++ dktX5_one_1
theorem dksX5_one_0 : cX5_one.data.toList.drop 0 = dktX5_one_0 := by decide +kernel
theorem dksX5_one_1 : cX5_one.data.toList.drop 23 = dktX5_one_1 := dk_seg dksX5_one_0 23 rfl rfl
theorem dksX5_one_2 : cX5_one.data.toList.drop 45 = dktX5_one_2 := dk_seg dksX5_one_1 22 rfl rfl
theorem dksX5_one_3 : cX5_one.data.toList.drop 67 = dktX5_one_3 := dk_seg dksX5_one_2 22 rfl rfl
theorem dX5_one_0 : decode cX5_one 0 = .ok (.aload_n 0, 1) := dk_42 (dk_at dksX5_one_0 0 rfl rfl)
theorem dX5_one_1 : decode cX5_one 1 = .ok (.iconst 0, 1) := dk_3 (dk_at dksX5_one_0 1 rfl rfl)
theorem dX5_one_2 : decode cX5_one 2 = .ok (.putfield 3, 3) := dk_181 0 3 (dk_at dksX5_one_0 2 rfl rfl)
theorem dX5_one_5 : decode cX5_one 5 = .ok (.aload_n 0, 1) := dk_42 (dk_at dksX5_one_0 5 rfl rfl)
theorem dX5_one_6 : decode cX5_one 6 = .ok (.iload_n 1, 1) := dk_27 (dk_at dksX5_one_0 6 rfl rfl)
theorem dX5_one_7 : decode cX5_one 7 = .ok (.invokevirtual 256, 3) := dk_182 1 0 (dk_at dksX5_one_0 7 rfl rfl)
theorem dX5_one_10 : decode cX5_one 10 = .ok (.ifCond .eq 22, 3) := dk_153 0 22 (dk_at dksX5_one_0 10 rfl rfl)
theorem dX5_one_13 : decode cX5_one 13 = .ok (.iload_n 2, 1) := dk_28 (dk_at dksX5_one_0 13 rfl rfl)
theorem dX5_one_14 : decode cX5_one 14 = .ok (.invokestatic 81, 3) := dk_184 0 81 (dk_at dksX5_one_0 14 rfl rfl)
theorem dX5_one_17 : decode cX5_one 17 = .ok (.ifCond .eq 15, 3) := dk_153 0 15 (dk_at dksX5_one_0 17 rfl rfl)
theorem dX5_one_20 : decode cX5_one 20 = .ok (.iload_n 3, 1) := dk_29 (dk_at dksX5_one_0 20 rfl rfl)
theorem dX5_one_21 : decode cX5_one 21 = .ok (.i2l, 1) := dk_133 (dk_at dksX5_one_0 21 rfl rfl)
theorem dX5_one_22 : decode cX5_one 22 = .ok (.lconst 0, 1) := dk_9 (dk_at dksX5_one_0 22 rfl rfl)
theorem dX5_one_23 : decode cX5_one 23 = .ok (.ldc2_w 93, 3) := dk_20 0 93 (dk_at dksX5_one_1 0 rfl rfl)
theorem dX5_one_26 : decode cX5_one 26 = .ok (.invokestatic 25, 3) := dk_184 0 25 (dk_at dksX5_one_1 3 rfl rfl)
theorem dX5_one_29 : decode cX5_one 29 = .ok (.ifCond .ne 5, 3) := dk_154 0 5 (dk_at dksX5_one_1 6 rfl rfl)
theorem dX5_one_32 : decode cX5_one 32 = .ok (.iconst (-1), 1) := dk_2 (dk_at dksX5_one_1 9 rfl rfl)
theorem dX5_one_33 : decode cX5_one 33 = .ok (.ireturn, 1) := dk_172 (dk_at dksX5_one_1 10 rfl rfl)
theorem dX5_one_34 : decode cX5_one 34 = .ok (.aload_n 0, 1) := dk_42 (dk_at dksX5_one_1 11 rfl rfl)
theorem dX5_one_35 : decode cX5_one 35 = .ok (.iload_n 1, 1) := dk_27 (dk_at dksX5_one_1 12 rfl rfl)
theorem dX5_one_36 : decode cX5_one 36 = .ok (.iload_n 2, 1) := dk_28 (dk_at dksX5_one_1 13 rfl rfl)
theorem dX5_one_37 : decode cX5_one 37 = .ok (.iload_n 3, 1) := dk_29 (dk_at dksX5_one_1 14 rfl rfl)
theorem dX5_one_38 : decode cX5_one 38 = .ok (.invokevirtual 367, 3) := dk_182 1 111 (dk_at dksX5_one_1 15 rfl rfl)
theorem dX5_one_41 : decode cX5_one 41 = .ok (.istore 4, 2) := dk_54 4 (dk_at dksX5_one_1 18 rfl rfl)
theorem dX5_one_43 : decode cX5_one 43 = .ok (.iload 4, 2) := dk_21 4 (dk_at dksX5_one_1 20 rfl rfl)
theorem dX5_one_45 : decode cX5_one 45 = .ok (.ifCond .ge 6, 3) := dk_156 0 6 (dk_at dksX5_one_2 0 rfl rfl)
theorem dX5_one_48 : decode cX5_one 48 = .ok (.bipush (-2), 2) := dk_16 254 (dk_at dksX5_one_2 3 rfl rfl)
theorem dX5_one_50 : decode cX5_one 50 = .ok (.ireturn, 1) := dk_172 (dk_at dksX5_one_2 5 rfl rfl)
theorem dX5_one_51 : decode cX5_one 51 = .ok (.aload_n 0, 1) := dk_42 (dk_at dksX5_one_2 6 rfl rfl)
theorem dX5_one_52 : decode cX5_one 52 = .ok (.iconst 0, 1) := dk_3 (dk_at dksX5_one_2 7 rfl rfl)
theorem dX5_one_53 : decode cX5_one 53 = .ok (.putfield 11, 3) := dk_181 0 11 (dk_at dksX5_one_2 8 rfl rfl)
theorem dX5_one_56 : decode cX5_one 56 = .ok (.aload_n 0, 1) := dk_42 (dk_at dksX5_one_2 11 rfl rfl)
theorem dX5_one_57 : decode cX5_one 57 = .ok (.aload_n 0, 1) := dk_42 (dk_at dksX5_one_2 12 rfl rfl)
theorem dX5_one_58 : decode cX5_one 58 = .ok (.getfield 350, 3) := dk_180 1 94 (dk_at dksX5_one_2 13 rfl rfl)
theorem dX5_one_61 : decode cX5_one 61 = .ok (.i2l, 1) := dk_133 (dk_at dksX5_one_2 16 rfl rfl)
theorem dX5_one_62 : decode cX5_one 62 = .ok (.invokevirtual 18, 3) := dk_182 0 18 (dk_at dksX5_one_2 17 rfl rfl)
theorem dX5_one_65 : decode cX5_one 65 = .ok (.aload_n 0, 1) := dk_42 (dk_at dksX5_one_2 20 rfl rfl)
theorem dX5_one_66 : decode cX5_one 66 = .ok (.aload_n 0, 1) := dk_42 (dk_at dksX5_one_2 21 rfl rfl)
theorem dX5_one_67 : decode cX5_one 67 = .ok (.getfield 350, 3) := dk_180 1 94 (dk_at dksX5_one_3 0 rfl rfl)
theorem dX5_one_70 : decode cX5_one 70 = .ok (.aload_n 0, 1) := dk_42 (dk_at dksX5_one_3 3 rfl rfl)
theorem dX5_one_71 : decode cX5_one 71 = .ok (.getfield 360, 3) := dk_180 1 104 (dk_at dksX5_one_3 4 rfl rfl)
theorem dX5_one_74 : decode cX5_one 74 = .ok (.invokevirtual 370, 3) := dk_182 1 114 (dk_at dksX5_one_3 7 rfl rfl)
theorem dX5_one_77 : decode cX5_one 77 = .ok (.iload 4, 2) := dk_21 4 (dk_at dksX5_one_3 10 rfl rfl)
theorem dX5_one_79 : decode cX5_one 79 = .ok (.ireturn, 1) := dk_172 (dk_at dksX5_one_3 12 rfl rfl)
def dkwX5_soonest_10 : List UInt8 := [167, 255, 61, 2, 172]
abbrev dktX5_soonest_10 : List UInt8 := dkwX5_soonest_10 ++ []
def dkwX5_soonest_9 : List UInt8 := [180, 1, 82, 58, 5, 42, 42, 180, 1, 91, 181, 1, 82, 42, 25, 5, 181, 1, 91, 132, 4, 1]
abbrev dktX5_soonest_9 : List UInt8 := dkwX5_soonest_9 ++ dktX5_soonest_10
def dkwX5_soonest_8 : List UInt8 := [167, 255, 150, 132, 5, 1, 167, 255, 135, 42, 180, 1, 94, 155, 0, 8, 21, 4, 4, 96, 172, 42]
abbrev dktX5_soonest_8 : List UInt8 := dkwX5_soonest_8 ++ dktX5_soonest_9
def dkwX5_soonest_7 : List UInt8 := [21, 6, 21, 8, 21, 7, 100, 21, 9, 29, 182, 1, 100, 132, 8, 1, 167, 255, 208, 132, 6, 1]
abbrev dktX5_soonest_7 : List UInt8 := dkwX5_soonest_7 ++ dktX5_soonest_8
def dkwX5_soonest_6 : List UInt8 := [42, 180, 1, 82, 21, 5, 21, 6, 21, 8, 184, 1, 88, 46, 54, 9, 21, 9, 155, 0, 19, 42, 21, 5]
abbrev dktX5_soonest_6 : List UInt8 := dkwX5_soonest_6 ++ dktX5_soonest_7
def dkwX5_soonest_5 : List UInt8 := [153, 0, 7, 4, 167, 0, 4, 3, 184, 0, 124, 54, 7, 4, 54, 8, 21, 8, 17, 0, 128, 162, 0, 46]
abbrev dktX5_soonest_5 : List UInt8 := dkwX5_soonest_5 ++ dktX5_soonest_6
def dkwX5_soonest_4 : List UInt8 := [182, 0, 120, 153, 0, 26, 42, 180, 0, 47, 21, 6, 46, 42, 180, 0, 154, 27, 46, 184, 0, 137]
abbrev dktX5_soonest_4 : List UInt8 := dkwX5_soonest_4 ++ dktX5_soonest_5
def dkwX5_soonest_3 : List UInt8 := [21, 5, 29, 163, 0, 121, 3, 54, 6, 21, 6, 42, 180, 0, 22, 162, 0, 103, 42, 21, 6, 21, 4]
abbrev dktX5_soonest_3 : List UInt8 := dkwX5_soonest_3 ++ dktX5_soonest_4
def dkwX5_soonest_2 : List UInt8 := [182, 1, 85, 42, 2, 181, 1, 94, 29, 158, 0, 11, 42, 21, 4, 4, 96, 182, 1, 97, 3, 54, 5]
abbrev dktX5_soonest_2 : List UInt8 := dkwX5_soonest_2 ++ dktX5_soonest_3
def dkwX5_soonest_1 : List UInt8 := [46, 184, 1, 88, 3, 79, 28, 54, 4, 21, 4, 17, 9, 95, 162, 0, 193, 42, 42, 180, 1, 91]
abbrev dktX5_soonest_1 : List UInt8 := dkwX5_soonest_1 ++ dktX5_soonest_2
def dkwX5_soonest_0 : List UInt8 := [42, 42, 180, 1, 82, 182, 1, 85, 42, 180, 1, 82, 3, 42, 180, 0, 143, 27, 46, 42, 180, 0, 146, 27]
abbrev dktX5_soonest_0 : List UInt8 := dkwX5_soonest_0 ++ dktX5_soonest_1
theorem dksX5_soonest_0 : cX5_soonest.data.toList.drop 0 = dktX5_soonest_0 := by decide +kernel
theorem dksX5_soonest_1 : cX5_soonest.data.toList.drop 24 = dktX5_soonest_1 := dk_seg dksX5_soonest_0 24 rfl rfl
theorem dksX5_soonest_2 : cX5_soonest.data.toList.drop 46 = dktX5_soonest_2 := dk_seg dksX5_soonest_1 22 rfl rfl
theorem dksX5_soonest_3 : cX5_soonest.data.toList.drop 69 = dktX5_soonest_3 := dk_seg dksX5_soonest_2 23 rfl rfl
theorem dksX5_soonest_4 : cX5_soonest.data.toList.drop 92 = dktX5_soonest_4 := dk_seg dksX5_soonest_3 23 rfl rfl
theorem dksX5_soonest_5 : cX5_soonest.data.toList.drop 114 = dktX5_soonest_5 := dk_seg dksX5_soonest_4 22 rfl rfl
theorem dksX5_soonest_6 : cX5_soonest.data.toList.drop 138 = dktX5_soonest_6 := dk_seg dksX5_soonest_5 24 rfl rfl
theorem dksX5_soonest_7 : cX5_soonest.data.toList.drop 162 = dktX5_soonest_7 := dk_seg dksX5_soonest_6 24 rfl rfl
theorem dksX5_soonest_8 : cX5_soonest.data.toList.drop 184 = dktX5_soonest_8 := dk_seg dksX5_soonest_7 22 rfl rfl
theorem dksX5_soonest_9 : cX5_soonest.data.toList.drop 206 = dktX5_soonest_9 := dk_seg dksX5_soonest_8 22 rfl rfl
theorem dksX5_soonest_10 : cX5_soonest.data.toList.drop 228 = dktX5_soonest_10 := dk_seg dksX5_soonest_9 22 rfl rfl
theorem dX5_soonest_0 : decode cX5_soonest 0 = .ok (.aload_n 0, 1) := dk_42 (dk_at dksX5_soonest_0 0 rfl rfl)
theorem dX5_soonest_1 : decode cX5_soonest 1 = .ok (.aload_n 0, 1) := dk_42 (dk_at dksX5_soonest_0 1 rfl rfl)
theorem dX5_soonest_2 : decode cX5_soonest 2 = .ok (.getfield 338, 3) := dk_180 1 82 (dk_at dksX5_soonest_0 2 rfl rfl)
theorem dX5_soonest_5 : decode cX5_soonest 5 = .ok (.invokevirtual 341, 3) := dk_182 1 85 (dk_at dksX5_soonest_0 5 rfl rfl)
theorem dX5_soonest_8 : decode cX5_soonest 8 = .ok (.aload_n 0, 1) := dk_42 (dk_at dksX5_soonest_0 8 rfl rfl)
theorem dX5_soonest_9 : decode cX5_soonest 9 = .ok (.getfield 338, 3) := dk_180 1 82 (dk_at dksX5_soonest_0 9 rfl rfl)
theorem dX5_soonest_12 : decode cX5_soonest 12 = .ok (.iconst 0, 1) := dk_3 (dk_at dksX5_soonest_0 12 rfl rfl)
theorem dX5_soonest_13 : decode cX5_soonest 13 = .ok (.aload_n 0, 1) := dk_42 (dk_at dksX5_soonest_0 13 rfl rfl)
theorem dX5_soonest_14 : decode cX5_soonest 14 = .ok (.getfield 143, 3) := dk_180 0 143 (dk_at dksX5_soonest_0 14 rfl rfl)
theorem dX5_soonest_17 : decode cX5_soonest 17 = .ok (.iload_n 1, 1) := dk_27 (dk_at dksX5_soonest_0 17 rfl rfl)
theorem dX5_soonest_18 : decode cX5_soonest 18 = .ok (.iaload, 1) := dk_46 (dk_at dksX5_soonest_0 18 rfl rfl)
theorem dX5_soonest_19 : decode cX5_soonest 19 = .ok (.aload_n 0, 1) := dk_42 (dk_at dksX5_soonest_0 19 rfl rfl)
theorem dX5_soonest_20 : decode cX5_soonest 20 = .ok (.getfield 146, 3) := dk_180 0 146 (dk_at dksX5_soonest_0 20 rfl rfl)
theorem dX5_soonest_23 : decode cX5_soonest 23 = .ok (.iload_n 1, 1) := dk_27 (dk_at dksX5_soonest_0 23 rfl rfl)
theorem dX5_soonest_24 : decode cX5_soonest 24 = .ok (.iaload, 1) := dk_46 (dk_at dksX5_soonest_1 0 rfl rfl)
theorem dX5_soonest_25 : decode cX5_soonest 25 = .ok (.invokestatic 344, 3) := dk_184 1 88 (dk_at dksX5_soonest_1 1 rfl rfl)
theorem dX5_soonest_28 : decode cX5_soonest 28 = .ok (.iconst 0, 1) := dk_3 (dk_at dksX5_soonest_1 4 rfl rfl)
theorem dX5_soonest_29 : decode cX5_soonest 29 = .ok (.iastore, 1) := dk_79 (dk_at dksX5_soonest_1 5 rfl rfl)
theorem dX5_soonest_30 : decode cX5_soonest 30 = .ok (.iload_n 2, 1) := dk_28 (dk_at dksX5_soonest_1 6 rfl rfl)
theorem dX5_soonest_31 : decode cX5_soonest 31 = .ok (.istore 4, 2) := dk_54 4 (dk_at dksX5_soonest_1 7 rfl rfl)
theorem dX5_soonest_33 : decode cX5_soonest 33 = .ok (.iload 4, 2) := dk_21 4 (dk_at dksX5_soonest_1 9 rfl rfl)
theorem dX5_soonest_35 : decode cX5_soonest 35 = .ok (.sipush 2399, 3) := dk_17 9 95 (dk_at dksX5_soonest_1 11 rfl rfl)
theorem dX5_soonest_38 : decode cX5_soonest 38 = .ok (.if_icmp .ge 193, 3) := dk_162 0 193 (dk_at dksX5_soonest_1 14 rfl rfl)
theorem dX5_soonest_41 : decode cX5_soonest 41 = .ok (.aload_n 0, 1) := dk_42 (dk_at dksX5_soonest_1 17 rfl rfl)
theorem dX5_soonest_42 : decode cX5_soonest 42 = .ok (.aload_n 0, 1) := dk_42 (dk_at dksX5_soonest_1 18 rfl rfl)
theorem dX5_soonest_43 : decode cX5_soonest 43 = .ok (.getfield 347, 3) := dk_180 1 91 (dk_at dksX5_soonest_1 19 rfl rfl)
theorem dX5_soonest_46 : decode cX5_soonest 46 = .ok (.invokevirtual 341, 3) := dk_182 1 85 (dk_at dksX5_soonest_2 0 rfl rfl)
theorem dX5_soonest_49 : decode cX5_soonest 49 = .ok (.aload_n 0, 1) := dk_42 (dk_at dksX5_soonest_2 3 rfl rfl)
theorem dX5_soonest_50 : decode cX5_soonest 50 = .ok (.iconst (-1), 1) := dk_2 (dk_at dksX5_soonest_2 4 rfl rfl)
theorem dX5_soonest_51 : decode cX5_soonest 51 = .ok (.putfield 350, 3) := dk_181 1 94 (dk_at dksX5_soonest_2 5 rfl rfl)
theorem dX5_soonest_54 : decode cX5_soonest 54 = .ok (.iload_n 3, 1) := dk_29 (dk_at dksX5_soonest_2 8 rfl rfl)
theorem dX5_soonest_55 : decode cX5_soonest 55 = .ok (.ifCond .le 11, 3) := dk_158 0 11 (dk_at dksX5_soonest_2 9 rfl rfl)
theorem dX5_soonest_58 : decode cX5_soonest 58 = .ok (.aload_n 0, 1) := dk_42 (dk_at dksX5_soonest_2 12 rfl rfl)
theorem dX5_soonest_59 : decode cX5_soonest 59 = .ok (.iload 4, 2) := dk_21 4 (dk_at dksX5_soonest_2 13 rfl rfl)
theorem dX5_soonest_61 : decode cX5_soonest 61 = .ok (.iconst 1, 1) := dk_4 (dk_at dksX5_soonest_2 15 rfl rfl)
theorem dX5_soonest_62 : decode cX5_soonest 62 = .ok (.iadd, 1) := dk_96 (dk_at dksX5_soonest_2 16 rfl rfl)
theorem dX5_soonest_63 : decode cX5_soonest 63 = .ok (.invokevirtual 353, 3) := dk_182 1 97 (dk_at dksX5_soonest_2 17 rfl rfl)
theorem dX5_soonest_66 : decode cX5_soonest 66 = .ok (.iconst 0, 1) := dk_3 (dk_at dksX5_soonest_2 20 rfl rfl)
theorem dX5_soonest_67 : decode cX5_soonest 67 = .ok (.istore 5, 2) := dk_54 5 (dk_at dksX5_soonest_2 21 rfl rfl)
theorem dX5_soonest_69 : decode cX5_soonest 69 = .ok (.iload 5, 2) := dk_21 5 (dk_at dksX5_soonest_3 0 rfl rfl)
theorem dX5_soonest_71 : decode cX5_soonest 71 = .ok (.iload_n 3, 1) := dk_29 (dk_at dksX5_soonest_3 2 rfl rfl)
theorem dX5_soonest_72 : decode cX5_soonest 72 = .ok (.if_icmp .gt 121, 3) := dk_163 0 121 (dk_at dksX5_soonest_3 3 rfl rfl)
theorem dX5_soonest_75 : decode cX5_soonest 75 = .ok (.iconst 0, 1) := dk_3 (dk_at dksX5_soonest_3 6 rfl rfl)
theorem dX5_soonest_76 : decode cX5_soonest 76 = .ok (.istore 6, 2) := dk_54 6 (dk_at dksX5_soonest_3 7 rfl rfl)
theorem dX5_soonest_78 : decode cX5_soonest 78 = .ok (.iload 6, 2) := dk_21 6 (dk_at dksX5_soonest_3 9 rfl rfl)
theorem dX5_soonest_80 : decode cX5_soonest 80 = .ok (.aload_n 0, 1) := dk_42 (dk_at dksX5_soonest_3 11 rfl rfl)
theorem dX5_soonest_81 : decode cX5_soonest 81 = .ok (.getfield 22, 3) := dk_180 0 22 (dk_at dksX5_soonest_3 12 rfl rfl)
theorem dX5_soonest_84 : decode cX5_soonest 84 = .ok (.if_icmp .ge 103, 3) := dk_162 0 103 (dk_at dksX5_soonest_3 15 rfl rfl)
theorem dX5_soonest_87 : decode cX5_soonest 87 = .ok (.aload_n 0, 1) := dk_42 (dk_at dksX5_soonest_3 18 rfl rfl)
theorem dX5_soonest_88 : decode cX5_soonest 88 = .ok (.iload 6, 2) := dk_21 6 (dk_at dksX5_soonest_3 19 rfl rfl)
theorem dX5_soonest_90 : decode cX5_soonest 90 = .ok (.iload 4, 2) := dk_21 4 (dk_at dksX5_soonest_3 21 rfl rfl)
theorem dX5_soonest_92 : decode cX5_soonest 92 = .ok (.invokevirtual 120, 3) := dk_182 0 120 (dk_at dksX5_soonest_4 0 rfl rfl)
theorem dX5_soonest_95 : decode cX5_soonest 95 = .ok (.ifCond .eq 26, 3) := dk_153 0 26 (dk_at dksX5_soonest_4 3 rfl rfl)
theorem dX5_soonest_98 : decode cX5_soonest 98 = .ok (.aload_n 0, 1) := dk_42 (dk_at dksX5_soonest_4 6 rfl rfl)
theorem dX5_soonest_99 : decode cX5_soonest 99 = .ok (.getfield 47, 3) := dk_180 0 47 (dk_at dksX5_soonest_4 7 rfl rfl)
theorem dX5_soonest_102 : decode cX5_soonest 102 = .ok (.iload 6, 2) := dk_21 6 (dk_at dksX5_soonest_4 10 rfl rfl)
theorem dX5_soonest_104 : decode cX5_soonest 104 = .ok (.iaload, 1) := dk_46 (dk_at dksX5_soonest_4 12 rfl rfl)
theorem dX5_soonest_105 : decode cX5_soonest 105 = .ok (.aload_n 0, 1) := dk_42 (dk_at dksX5_soonest_4 13 rfl rfl)
theorem dX5_soonest_106 : decode cX5_soonest 106 = .ok (.getfield 154, 3) := dk_180 0 154 (dk_at dksX5_soonest_4 14 rfl rfl)
theorem dX5_soonest_109 : decode cX5_soonest 109 = .ok (.iload_n 1, 1) := dk_27 (dk_at dksX5_soonest_4 17 rfl rfl)
theorem dX5_soonest_110 : decode cX5_soonest 110 = .ok (.iaload, 1) := dk_46 (dk_at dksX5_soonest_4 18 rfl rfl)
theorem dX5_soonest_111 : decode cX5_soonest 111 = .ok (.invokestatic 137, 3) := dk_184 0 137 (dk_at dksX5_soonest_4 19 rfl rfl)
theorem dX5_soonest_114 : decode cX5_soonest 114 = .ok (.ifCond .eq 7, 3) := dk_153 0 7 (dk_at dksX5_soonest_5 0 rfl rfl)
theorem dX5_soonest_117 : decode cX5_soonest 117 = .ok (.iconst 1, 1) := dk_4 (dk_at dksX5_soonest_5 3 rfl rfl)
theorem dX5_soonest_118 : decode cX5_soonest 118 = .ok (.goto 4, 3) := dk_167 0 4 (dk_at dksX5_soonest_5 4 rfl rfl)
theorem dX5_soonest_121 : decode cX5_soonest 121 = .ok (.iconst 0, 1) := dk_3 (dk_at dksX5_soonest_5 7 rfl rfl)
theorem dX5_soonest_122 : decode cX5_soonest 122 = .ok (.invokestatic 124, 3) := dk_184 0 124 (dk_at dksX5_soonest_5 8 rfl rfl)
theorem dX5_soonest_125 : decode cX5_soonest 125 = .ok (.istore 7, 2) := dk_54 7 (dk_at dksX5_soonest_5 11 rfl rfl)
theorem dX5_soonest_127 : decode cX5_soonest 127 = .ok (.iconst 1, 1) := dk_4 (dk_at dksX5_soonest_5 13 rfl rfl)
theorem dX5_soonest_128 : decode cX5_soonest 128 = .ok (.istore 8, 2) := dk_54 8 (dk_at dksX5_soonest_5 14 rfl rfl)
theorem dX5_soonest_130 : decode cX5_soonest 130 = .ok (.iload 8, 2) := dk_21 8 (dk_at dksX5_soonest_5 16 rfl rfl)
theorem dX5_soonest_132 : decode cX5_soonest 132 = .ok (.sipush 128, 3) := dk_17 0 128 (dk_at dksX5_soonest_5 18 rfl rfl)
theorem dX5_soonest_135 : decode cX5_soonest 135 = .ok (.if_icmp .ge 46, 3) := dk_162 0 46 (dk_at dksX5_soonest_5 21 rfl rfl)
theorem dX5_soonest_138 : decode cX5_soonest 138 = .ok (.aload_n 0, 1) := dk_42 (dk_at dksX5_soonest_6 0 rfl rfl)
theorem dX5_soonest_139 : decode cX5_soonest 139 = .ok (.getfield 338, 3) := dk_180 1 82 (dk_at dksX5_soonest_6 1 rfl rfl)
theorem dX5_soonest_142 : decode cX5_soonest 142 = .ok (.iload 5, 2) := dk_21 5 (dk_at dksX5_soonest_6 4 rfl rfl)
theorem dX5_soonest_144 : decode cX5_soonest 144 = .ok (.iload 6, 2) := dk_21 6 (dk_at dksX5_soonest_6 6 rfl rfl)
theorem dX5_soonest_146 : decode cX5_soonest 146 = .ok (.iload 8, 2) := dk_21 8 (dk_at dksX5_soonest_6 8 rfl rfl)
theorem dX5_soonest_148 : decode cX5_soonest 148 = .ok (.invokestatic 344, 3) := dk_184 1 88 (dk_at dksX5_soonest_6 10 rfl rfl)
theorem dX5_soonest_151 : decode cX5_soonest 151 = .ok (.iaload, 1) := dk_46 (dk_at dksX5_soonest_6 13 rfl rfl)
theorem dX5_soonest_152 : decode cX5_soonest 152 = .ok (.istore 9, 2) := dk_54 9 (dk_at dksX5_soonest_6 14 rfl rfl)
theorem dX5_soonest_154 : decode cX5_soonest 154 = .ok (.iload 9, 2) := dk_21 9 (dk_at dksX5_soonest_6 16 rfl rfl)
theorem dX5_soonest_156 : decode cX5_soonest 156 = .ok (.ifCond .lt 19, 3) := dk_155 0 19 (dk_at dksX5_soonest_6 18 rfl rfl)
theorem dX5_soonest_159 : decode cX5_soonest 159 = .ok (.aload_n 0, 1) := dk_42 (dk_at dksX5_soonest_6 21 rfl rfl)
theorem dX5_soonest_160 : decode cX5_soonest 160 = .ok (.iload 5, 2) := dk_21 5 (dk_at dksX5_soonest_6 22 rfl rfl)
theorem dX5_soonest_162 : decode cX5_soonest 162 = .ok (.iload 6, 2) := dk_21 6 (dk_at dksX5_soonest_7 0 rfl rfl)
theorem dX5_soonest_164 : decode cX5_soonest 164 = .ok (.iload 8, 2) := dk_21 8 (dk_at dksX5_soonest_7 2 rfl rfl)
theorem dX5_soonest_166 : decode cX5_soonest 166 = .ok (.iload 7, 2) := dk_21 7 (dk_at dksX5_soonest_7 4 rfl rfl)
theorem dX5_soonest_168 : decode cX5_soonest 168 = .ok (.isub, 1) := dk_100 (dk_at dksX5_soonest_7 6 rfl rfl)
theorem dX5_soonest_169 : decode cX5_soonest 169 = .ok (.iload 9, 2) := dk_21 9 (dk_at dksX5_soonest_7 7 rfl rfl)
theorem dX5_soonest_171 : decode cX5_soonest 171 = .ok (.iload_n 3, 1) := dk_29 (dk_at dksX5_soonest_7 9 rfl rfl)
theorem dX5_soonest_172 : decode cX5_soonest 172 = .ok (.invokevirtual 356, 3) := dk_182 1 100 (dk_at dksX5_soonest_7 10 rfl rfl)
theorem dX5_soonest_175 : decode cX5_soonest 175 = .ok (.iinc 8 1, 3) := dk_132 8 1 (dk_at dksX5_soonest_7 13 rfl rfl)
theorem dX5_soonest_178 : decode cX5_soonest 178 = .ok (.goto (-48), 3) := dk_167 255 208 (dk_at dksX5_soonest_7 16 rfl rfl)
theorem dX5_soonest_181 : decode cX5_soonest 181 = .ok (.iinc 6 1, 3) := dk_132 6 1 (dk_at dksX5_soonest_7 19 rfl rfl)
theorem dX5_soonest_184 : decode cX5_soonest 184 = .ok (.goto (-106), 3) := dk_167 255 150 (dk_at dksX5_soonest_8 0 rfl rfl)
theorem dX5_soonest_187 : decode cX5_soonest 187 = .ok (.iinc 5 1, 3) := dk_132 5 1 (dk_at dksX5_soonest_8 3 rfl rfl)
theorem dX5_soonest_190 : decode cX5_soonest 190 = .ok (.goto (-121), 3) := dk_167 255 135 (dk_at dksX5_soonest_8 6 rfl rfl)
theorem dX5_soonest_193 : decode cX5_soonest 193 = .ok (.aload_n 0, 1) := dk_42 (dk_at dksX5_soonest_8 9 rfl rfl)
theorem dX5_soonest_194 : decode cX5_soonest 194 = .ok (.getfield 350, 3) := dk_180 1 94 (dk_at dksX5_soonest_8 10 rfl rfl)
theorem dX5_soonest_197 : decode cX5_soonest 197 = .ok (.ifCond .lt 8, 3) := dk_155 0 8 (dk_at dksX5_soonest_8 13 rfl rfl)
theorem dX5_soonest_200 : decode cX5_soonest 200 = .ok (.iload 4, 2) := dk_21 4 (dk_at dksX5_soonest_8 16 rfl rfl)
theorem dX5_soonest_202 : decode cX5_soonest 202 = .ok (.iconst 1, 1) := dk_4 (dk_at dksX5_soonest_8 18 rfl rfl)
theorem dX5_soonest_203 : decode cX5_soonest 203 = .ok (.iadd, 1) := dk_96 (dk_at dksX5_soonest_8 19 rfl rfl)
theorem dX5_soonest_204 : decode cX5_soonest 204 = .ok (.ireturn, 1) := dk_172 (dk_at dksX5_soonest_8 20 rfl rfl)
theorem dX5_soonest_205 : decode cX5_soonest 205 = .ok (.aload_n 0, 1) := dk_42 (dk_at dksX5_soonest_8 21 rfl rfl)
theorem dX5_soonest_206 : decode cX5_soonest 206 = .ok (.getfield 338, 3) := dk_180 1 82 (dk_at dksX5_soonest_9 0 rfl rfl)
theorem dX5_soonest_209 : decode cX5_soonest 209 = .ok (.astore 5, 2) := dk_58 5 (dk_at dksX5_soonest_9 3 rfl rfl)
theorem dX5_soonest_211 : decode cX5_soonest 211 = .ok (.aload_n 0, 1) := dk_42 (dk_at dksX5_soonest_9 5 rfl rfl)
theorem dX5_soonest_212 : decode cX5_soonest 212 = .ok (.aload_n 0, 1) := dk_42 (dk_at dksX5_soonest_9 6 rfl rfl)
theorem dX5_soonest_213 : decode cX5_soonest 213 = .ok (.getfield 347, 3) := dk_180 1 91 (dk_at dksX5_soonest_9 7 rfl rfl)
theorem dX5_soonest_216 : decode cX5_soonest 216 = .ok (.putfield 338, 3) := dk_181 1 82 (dk_at dksX5_soonest_9 10 rfl rfl)
theorem dX5_soonest_219 : decode cX5_soonest 219 = .ok (.aload_n 0, 1) := dk_42 (dk_at dksX5_soonest_9 13 rfl rfl)
theorem dX5_soonest_220 : decode cX5_soonest 220 = .ok (.aload 5, 2) := dk_25 5 (dk_at dksX5_soonest_9 14 rfl rfl)
theorem dX5_soonest_222 : decode cX5_soonest 222 = .ok (.putfield 347, 3) := dk_181 1 91 (dk_at dksX5_soonest_9 16 rfl rfl)
theorem dX5_soonest_225 : decode cX5_soonest 225 = .ok (.iinc 4 1, 3) := dk_132 4 1 (dk_at dksX5_soonest_9 19 rfl rfl)
theorem dX5_soonest_228 : decode cX5_soonest 228 = .ok (.goto (-195), 3) := dk_167 255 61 (dk_at dksX5_soonest_10 0 rfl rfl)
theorem dX5_soonest_231 : decode cX5_soonest 231 = .ok (.iconst (-1), 1) := dk_2 (dk_at dksX5_soonest_10 3 rfl rfl)
theorem dX5_soonest_232 : decode cX5_soonest 232 = .ok (.ireturn, 1) := dk_172 (dk_at dksX5_soonest_10 4 rfl rfl)
def dkwX5_empties_0 : List UInt8 := [3, 61, 28, 43, 190, 162, 0, 13, 43, 28, 2, 79, 132, 2, 1, 167, 255, 243, 177]
abbrev dktX5_empties_0 : List UInt8 := dkwX5_empties_0 ++ []
theorem dksX5_empties_0 : cX5_empties.data.toList.drop 0 = dktX5_empties_0 := by decide +kernel
theorem dX5_empties_0 : decode cX5_empties 0 = .ok (.iconst 0, 1) := dk_3 (dk_at dksX5_empties_0 0 rfl rfl)
theorem dX5_empties_1 : decode cX5_empties 1 = .ok (.istore_n 2, 1) := dk_61 (dk_at dksX5_empties_0 1 rfl rfl)
theorem dX5_empties_2 : decode cX5_empties 2 = .ok (.iload_n 2, 1) := dk_28 (dk_at dksX5_empties_0 2 rfl rfl)
theorem dX5_empties_3 : decode cX5_empties 3 = .ok (.aload_n 1, 1) := dk_43 (dk_at dksX5_empties_0 3 rfl rfl)
theorem dX5_empties_4 : decode cX5_empties 4 = .ok (.arraylength, 1) := dk_190 (dk_at dksX5_empties_0 4 rfl rfl)
theorem dX5_empties_5 : decode cX5_empties 5 = .ok (.if_icmp .ge 13, 3) := dk_162 0 13 (dk_at dksX5_empties_0 5 rfl rfl)
theorem dX5_empties_8 : decode cX5_empties 8 = .ok (.aload_n 1, 1) := dk_43 (dk_at dksX5_empties_0 8 rfl rfl)
theorem dX5_empties_9 : decode cX5_empties 9 = .ok (.iload_n 2, 1) := dk_28 (dk_at dksX5_empties_0 9 rfl rfl)
theorem dX5_empties_10 : decode cX5_empties 10 = .ok (.iconst (-1), 1) := dk_2 (dk_at dksX5_empties_0 10 rfl rfl)
theorem dX5_empties_11 : decode cX5_empties 11 = .ok (.iastore, 1) := dk_79 (dk_at dksX5_empties_0 11 rfl rfl)
theorem dX5_empties_12 : decode cX5_empties 12 = .ok (.iinc 2 1, 3) := dk_132 2 1 (dk_at dksX5_empties_0 12 rfl rfl)
theorem dX5_empties_15 : decode cX5_empties 15 = .ok (.goto (-13), 3) := dk_167 255 243 (dk_at dksX5_empties_0 15 rfl rfl)
theorem dX5_empties_18 : decode cX5_empties 18 = .ok (.return_, 1) := dk_177 (dk_at dksX5_empties_0 18 rfl rfl)
def dkwX5_placeAt_0 : List UInt8 := [26, 16, 6, 104, 27, 96, 17, 0, 128, 104, 28, 96, 172]
abbrev dktX5_placeAt_0 : List UInt8 := dkwX5_placeAt_0 ++ []
theorem dksX5_placeAt_0 : cX5_placeAt.data.toList.drop 0 = dktX5_placeAt_0 := by decide +kernel
theorem dX5_placeAt_0 : decode cX5_placeAt 0 = .ok (.iload_n 0, 1) := dk_26 (dk_at dksX5_placeAt_0 0 rfl rfl)
theorem dX5_placeAt_1 : decode cX5_placeAt 1 = .ok (.bipush 6, 2) := dk_16 6 (dk_at dksX5_placeAt_0 1 rfl rfl)
theorem dX5_placeAt_3 : decode cX5_placeAt 3 = .ok (.imul, 1) := dk_104 (dk_at dksX5_placeAt_0 3 rfl rfl)
theorem dX5_placeAt_4 : decode cX5_placeAt 4 = .ok (.iload_n 1, 1) := dk_27 (dk_at dksX5_placeAt_0 4 rfl rfl)
theorem dX5_placeAt_5 : decode cX5_placeAt 5 = .ok (.iadd, 1) := dk_96 (dk_at dksX5_placeAt_0 5 rfl rfl)
theorem dX5_placeAt_6 : decode cX5_placeAt 6 = .ok (.sipush 128, 3) := dk_17 0 128 (dk_at dksX5_placeAt_0 6 rfl rfl)
theorem dX5_placeAt_9 : decode cX5_placeAt 9 = .ok (.imul, 1) := dk_104 (dk_at dksX5_placeAt_0 9 rfl rfl)
theorem dX5_placeAt_10 : decode cX5_placeAt 10 = .ok (.iload_n 2, 1) := dk_28 (dk_at dksX5_placeAt_0 10 rfl rfl)
theorem dX5_placeAt_11 : decode cX5_placeAt 11 = .ok (.iadd, 1) := dk_96 (dk_at dksX5_placeAt_0 11 rfl rfl)
theorem dX5_placeAt_12 : decode cX5_placeAt 12 = .ok (.ireturn, 1) := dk_172 (dk_at dksX5_placeAt_0 12 rfl rfl)
def dkwX5_losesAll_2 : List UInt8 := [167, 255, 211, 177]
abbrev dktX5_losesAll_2 : List UInt8 := dkwX5_losesAll_2 ++ []
def dkwX5_losesAll_1 : List UInt8 := [16, 6, 28, 104, 29, 96, 42, 28, 29, 27, 182, 0, 132, 79, 132, 3, 1, 167, 255, 227, 132, 2, 1]
abbrev dktX5_losesAll_1 : List UInt8 := dkwX5_losesAll_1 ++ dktX5_losesAll_2
def dkwX5_losesAll_0 : List UInt8 := [3, 61, 28, 42, 180, 0, 22, 162, 0, 43, 3, 62, 29, 42, 180, 0, 22, 162, 0, 27, 42, 180, 1, 79]
abbrev dktX5_losesAll_0 : List UInt8 := dkwX5_losesAll_0 ++ dktX5_losesAll_1
theorem dksX5_losesAll_0 : cX5_losesAll.data.toList.drop 0 = dktX5_losesAll_0 := by decide +kernel
theorem dksX5_losesAll_1 : cX5_losesAll.data.toList.drop 24 = dktX5_losesAll_1 := dk_seg dksX5_losesAll_0 24 rfl rfl
theorem dksX5_losesAll_2 : cX5_losesAll.data.toList.drop 47 = dktX5_losesAll_2 := dk_seg dksX5_losesAll_1 23 rfl rfl
theorem dX5_losesAll_0 : decode cX5_losesAll 0 = .ok (.iconst 0, 1) := dk_3 (dk_at dksX5_losesAll_0 0 rfl rfl)
theorem dX5_losesAll_1 : decode cX5_losesAll 1 = .ok (.istore_n 2, 1) := dk_61 (dk_at dksX5_losesAll_0 1 rfl rfl)
theorem dX5_losesAll_2 : decode cX5_losesAll 2 = .ok (.iload_n 2, 1) := dk_28 (dk_at dksX5_losesAll_0 2 rfl rfl)
theorem dX5_losesAll_3 : decode cX5_losesAll 3 = .ok (.aload_n 0, 1) := dk_42 (dk_at dksX5_losesAll_0 3 rfl rfl)
theorem dX5_losesAll_4 : decode cX5_losesAll 4 = .ok (.getfield 22, 3) := dk_180 0 22 (dk_at dksX5_losesAll_0 4 rfl rfl)
theorem dX5_losesAll_7 : decode cX5_losesAll 7 = .ok (.if_icmp .ge 43, 3) := dk_162 0 43 (dk_at dksX5_losesAll_0 7 rfl rfl)
theorem dX5_losesAll_10 : decode cX5_losesAll 10 = .ok (.iconst 0, 1) := dk_3 (dk_at dksX5_losesAll_0 10 rfl rfl)
theorem dX5_losesAll_11 : decode cX5_losesAll 11 = .ok (.istore_n 3, 1) := dk_62 (dk_at dksX5_losesAll_0 11 rfl rfl)
theorem dX5_losesAll_12 : decode cX5_losesAll 12 = .ok (.iload_n 3, 1) := dk_29 (dk_at dksX5_losesAll_0 12 rfl rfl)
theorem dX5_losesAll_13 : decode cX5_losesAll 13 = .ok (.aload_n 0, 1) := dk_42 (dk_at dksX5_losesAll_0 13 rfl rfl)
theorem dX5_losesAll_14 : decode cX5_losesAll 14 = .ok (.getfield 22, 3) := dk_180 0 22 (dk_at dksX5_losesAll_0 14 rfl rfl)
theorem dX5_losesAll_17 : decode cX5_losesAll 17 = .ok (.if_icmp .ge 27, 3) := dk_162 0 27 (dk_at dksX5_losesAll_0 17 rfl rfl)
theorem dX5_losesAll_20 : decode cX5_losesAll 20 = .ok (.aload_n 0, 1) := dk_42 (dk_at dksX5_losesAll_0 20 rfl rfl)
theorem dX5_losesAll_21 : decode cX5_losesAll 21 = .ok (.getfield 335, 3) := dk_180 1 79 (dk_at dksX5_losesAll_0 21 rfl rfl)
theorem dX5_losesAll_24 : decode cX5_losesAll 24 = .ok (.bipush 6, 2) := dk_16 6 (dk_at dksX5_losesAll_1 0 rfl rfl)
theorem dX5_losesAll_26 : decode cX5_losesAll 26 = .ok (.iload_n 2, 1) := dk_28 (dk_at dksX5_losesAll_1 2 rfl rfl)
theorem dX5_losesAll_27 : decode cX5_losesAll 27 = .ok (.imul, 1) := dk_104 (dk_at dksX5_losesAll_1 3 rfl rfl)
theorem dX5_losesAll_28 : decode cX5_losesAll 28 = .ok (.iload_n 3, 1) := dk_29 (dk_at dksX5_losesAll_1 4 rfl rfl)
theorem dX5_losesAll_29 : decode cX5_losesAll 29 = .ok (.iadd, 1) := dk_96 (dk_at dksX5_losesAll_1 5 rfl rfl)
theorem dX5_losesAll_30 : decode cX5_losesAll 30 = .ok (.aload_n 0, 1) := dk_42 (dk_at dksX5_losesAll_1 6 rfl rfl)
theorem dX5_losesAll_31 : decode cX5_losesAll 31 = .ok (.iload_n 2, 1) := dk_28 (dk_at dksX5_losesAll_1 7 rfl rfl)
theorem dX5_losesAll_32 : decode cX5_losesAll 32 = .ok (.iload_n 3, 1) := dk_29 (dk_at dksX5_losesAll_1 8 rfl rfl)
theorem dX5_losesAll_33 : decode cX5_losesAll 33 = .ok (.iload_n 1, 1) := dk_27 (dk_at dksX5_losesAll_1 9 rfl rfl)
theorem dX5_losesAll_34 : decode cX5_losesAll 34 = .ok (.invokevirtual 132, 3) := dk_182 0 132 (dk_at dksX5_losesAll_1 10 rfl rfl)
theorem dX5_losesAll_37 : decode cX5_losesAll 37 = .ok (.iastore, 1) := dk_79 (dk_at dksX5_losesAll_1 13 rfl rfl)
theorem dX5_losesAll_38 : decode cX5_losesAll 38 = .ok (.iinc 3 1, 3) := dk_132 3 1 (dk_at dksX5_losesAll_1 14 rfl rfl)
theorem dX5_losesAll_41 : decode cX5_losesAll 41 = .ok (.goto (-29), 3) := dk_167 255 227 (dk_at dksX5_losesAll_1 17 rfl rfl)
theorem dX5_losesAll_44 : decode cX5_losesAll 44 = .ok (.iinc 2 1, 3) := dk_132 2 1 (dk_at dksX5_losesAll_1 20 rfl rfl)
theorem dX5_losesAll_47 : decode cX5_losesAll 47 = .ok (.goto (-45), 3) := dk_167 255 211 (dk_at dksX5_losesAll_2 0 rfl rfl)
theorem dX5_losesAll_50 : decode cX5_losesAll 50 = .ok (.return_, 1) := dk_177 (dk_at dksX5_losesAll_2 3 rfl rfl)
def dkwX5_goesFrom_5 : List UInt8 := [132, 6, 1, 167, 255, 195, 177]
abbrev dktX5_goesFrom_5 : List UInt8 := dkwX5_goesFrom_5 ++ []
def dkwX5_goesFrom_4 : List UInt8 := [16, 6, 28, 104, 21, 6, 96, 46, 96, 184, 1, 88, 16, 8, 21, 4, 104, 21, 6, 96, 184, 1, 107]
abbrev dktX5_goesFrom_4 : List UInt8 := dkwX5_goesFrom_4 ++ dktX5_goesFrom_5
def dkwX5_goesFrom_3 : List UInt8 := [162, 0, 52, 21, 6, 28, 159, 0, 40, 42, 180, 1, 91, 27, 4, 96, 21, 6, 29, 42, 180, 1, 79]
abbrev dktX5_goesFrom_3 : List UInt8 := dkwX5_goesFrom_3 ++ dktX5_goesFrom_4
def dkwX5_goesFrom_2 : List UInt8 := [29, 184, 1, 88, 21, 4, 184, 1, 107, 3, 54, 6, 21, 6, 42, 180, 0, 22, 162, 0, 58, 27, 21, 5]
abbrev dktX5_goesFrom_2 : List UInt8 := dkwX5_goesFrom_2 ++ dktX5_goesFrom_3
def dkwX5_goesFrom_1 : List UInt8 := [180, 1, 104, 162, 0, 14, 42, 27, 181, 1, 94, 42, 21, 4, 181, 1, 104, 177, 42, 180, 1, 91, 27, 28]
abbrev dktX5_goesFrom_1 : List UInt8 := dkwX5_goesFrom_1 ++ dktX5_goesFrom_2
def dkwX5_goesFrom_0 : List UInt8 := [29, 154, 0, 39, 42, 180, 1, 94, 155, 0, 20, 27, 42, 180, 1, 94, 160, 0, 23, 21, 4, 42]
abbrev dktX5_goesFrom_0 : List UInt8 := dkwX5_goesFrom_0 ++ dktX5_goesFrom_1
theorem dksX5_goesFrom_0 : cX5_goesFrom.data.toList.drop 0 = dktX5_goesFrom_0 := by decide +kernel
theorem dksX5_goesFrom_1 : cX5_goesFrom.data.toList.drop 22 = dktX5_goesFrom_1 := dk_seg dksX5_goesFrom_0 22 rfl rfl
theorem dksX5_goesFrom_2 : cX5_goesFrom.data.toList.drop 46 = dktX5_goesFrom_2 := dk_seg dksX5_goesFrom_1 24 rfl rfl
theorem dksX5_goesFrom_3 : cX5_goesFrom.data.toList.drop 70 = dktX5_goesFrom_3 := dk_seg dksX5_goesFrom_2 24 rfl rfl
theorem dksX5_goesFrom_4 : cX5_goesFrom.data.toList.drop 93 = dktX5_goesFrom_4 := dk_seg dksX5_goesFrom_3 23 rfl rfl
theorem dksX5_goesFrom_5 : cX5_goesFrom.data.toList.drop 116 = dktX5_goesFrom_5 := dk_seg dksX5_goesFrom_4 23 rfl rfl
theorem dX5_goesFrom_0 : decode cX5_goesFrom 0 = .ok (.iload_n 3, 1) := dk_29 (dk_at dksX5_goesFrom_0 0 rfl rfl)
theorem dX5_goesFrom_1 : decode cX5_goesFrom 1 = .ok (.ifCond .ne 39, 3) := dk_154 0 39 (dk_at dksX5_goesFrom_0 1 rfl rfl)
theorem dX5_goesFrom_4 : decode cX5_goesFrom 4 = .ok (.aload_n 0, 1) := dk_42 (dk_at dksX5_goesFrom_0 4 rfl rfl)
theorem dX5_goesFrom_5 : decode cX5_goesFrom 5 = .ok (.getfield 350, 3) := dk_180 1 94 (dk_at dksX5_goesFrom_0 5 rfl rfl)
theorem dX5_goesFrom_8 : decode cX5_goesFrom 8 = .ok (.ifCond .lt 20, 3) := dk_155 0 20 (dk_at dksX5_goesFrom_0 8 rfl rfl)
theorem dX5_goesFrom_11 : decode cX5_goesFrom 11 = .ok (.iload_n 1, 1) := dk_27 (dk_at dksX5_goesFrom_0 11 rfl rfl)
theorem dX5_goesFrom_12 : decode cX5_goesFrom 12 = .ok (.aload_n 0, 1) := dk_42 (dk_at dksX5_goesFrom_0 12 rfl rfl)
theorem dX5_goesFrom_13 : decode cX5_goesFrom 13 = .ok (.getfield 350, 3) := dk_180 1 94 (dk_at dksX5_goesFrom_0 13 rfl rfl)
theorem dX5_goesFrom_16 : decode cX5_goesFrom 16 = .ok (.if_icmp .ne 23, 3) := dk_160 0 23 (dk_at dksX5_goesFrom_0 16 rfl rfl)
theorem dX5_goesFrom_19 : decode cX5_goesFrom 19 = .ok (.iload 4, 2) := dk_21 4 (dk_at dksX5_goesFrom_0 19 rfl rfl)
theorem dX5_goesFrom_21 : decode cX5_goesFrom 21 = .ok (.aload_n 0, 1) := dk_42 (dk_at dksX5_goesFrom_0 21 rfl rfl)
theorem dX5_goesFrom_22 : decode cX5_goesFrom 22 = .ok (.getfield 360, 3) := dk_180 1 104 (dk_at dksX5_goesFrom_1 0 rfl rfl)
theorem dX5_goesFrom_25 : decode cX5_goesFrom 25 = .ok (.if_icmp .ge 14, 3) := dk_162 0 14 (dk_at dksX5_goesFrom_1 3 rfl rfl)
theorem dX5_goesFrom_28 : decode cX5_goesFrom 28 = .ok (.aload_n 0, 1) := dk_42 (dk_at dksX5_goesFrom_1 6 rfl rfl)
theorem dX5_goesFrom_29 : decode cX5_goesFrom 29 = .ok (.iload_n 1, 1) := dk_27 (dk_at dksX5_goesFrom_1 7 rfl rfl)
theorem dX5_goesFrom_30 : decode cX5_goesFrom 30 = .ok (.putfield 350, 3) := dk_181 1 94 (dk_at dksX5_goesFrom_1 8 rfl rfl)
theorem dX5_goesFrom_33 : decode cX5_goesFrom 33 = .ok (.aload_n 0, 1) := dk_42 (dk_at dksX5_goesFrom_1 11 rfl rfl)
theorem dX5_goesFrom_34 : decode cX5_goesFrom 34 = .ok (.iload 4, 2) := dk_21 4 (dk_at dksX5_goesFrom_1 12 rfl rfl)
theorem dX5_goesFrom_36 : decode cX5_goesFrom 36 = .ok (.putfield 360, 3) := dk_181 1 104 (dk_at dksX5_goesFrom_1 14 rfl rfl)
theorem dX5_goesFrom_39 : decode cX5_goesFrom 39 = .ok (.return_, 1) := dk_177 (dk_at dksX5_goesFrom_1 17 rfl rfl)
theorem dX5_goesFrom_40 : decode cX5_goesFrom 40 = .ok (.aload_n 0, 1) := dk_42 (dk_at dksX5_goesFrom_1 18 rfl rfl)
theorem dX5_goesFrom_41 : decode cX5_goesFrom 41 = .ok (.getfield 347, 3) := dk_180 1 91 (dk_at dksX5_goesFrom_1 19 rfl rfl)
theorem dX5_goesFrom_44 : decode cX5_goesFrom 44 = .ok (.iload_n 1, 1) := dk_27 (dk_at dksX5_goesFrom_1 22 rfl rfl)
theorem dX5_goesFrom_45 : decode cX5_goesFrom 45 = .ok (.iload_n 2, 1) := dk_28 (dk_at dksX5_goesFrom_1 23 rfl rfl)
theorem dX5_goesFrom_46 : decode cX5_goesFrom 46 = .ok (.iload_n 3, 1) := dk_29 (dk_at dksX5_goesFrom_2 0 rfl rfl)
theorem dX5_goesFrom_47 : decode cX5_goesFrom 47 = .ok (.invokestatic 344, 3) := dk_184 1 88 (dk_at dksX5_goesFrom_2 1 rfl rfl)
theorem dX5_goesFrom_50 : decode cX5_goesFrom 50 = .ok (.iload 4, 2) := dk_21 4 (dk_at dksX5_goesFrom_2 4 rfl rfl)
theorem dX5_goesFrom_52 : decode cX5_goesFrom 52 = .ok (.invokestatic 363, 3) := dk_184 1 107 (dk_at dksX5_goesFrom_2 6 rfl rfl)
theorem dX5_goesFrom_55 : decode cX5_goesFrom 55 = .ok (.iconst 0, 1) := dk_3 (dk_at dksX5_goesFrom_2 9 rfl rfl)
theorem dX5_goesFrom_56 : decode cX5_goesFrom 56 = .ok (.istore 6, 2) := dk_54 6 (dk_at dksX5_goesFrom_2 10 rfl rfl)
theorem dX5_goesFrom_58 : decode cX5_goesFrom 58 = .ok (.iload 6, 2) := dk_21 6 (dk_at dksX5_goesFrom_2 12 rfl rfl)
theorem dX5_goesFrom_60 : decode cX5_goesFrom 60 = .ok (.aload_n 0, 1) := dk_42 (dk_at dksX5_goesFrom_2 14 rfl rfl)
theorem dX5_goesFrom_61 : decode cX5_goesFrom 61 = .ok (.getfield 22, 3) := dk_180 0 22 (dk_at dksX5_goesFrom_2 15 rfl rfl)
theorem dX5_goesFrom_64 : decode cX5_goesFrom 64 = .ok (.if_icmp .ge 58, 3) := dk_162 0 58 (dk_at dksX5_goesFrom_2 18 rfl rfl)
theorem dX5_goesFrom_67 : decode cX5_goesFrom 67 = .ok (.iload_n 1, 1) := dk_27 (dk_at dksX5_goesFrom_2 21 rfl rfl)
theorem dX5_goesFrom_68 : decode cX5_goesFrom 68 = .ok (.iload 5, 2) := dk_21 5 (dk_at dksX5_goesFrom_2 22 rfl rfl)
theorem dX5_goesFrom_70 : decode cX5_goesFrom 70 = .ok (.if_icmp .ge 52, 3) := dk_162 0 52 (dk_at dksX5_goesFrom_3 0 rfl rfl)
theorem dX5_goesFrom_73 : decode cX5_goesFrom 73 = .ok (.iload 6, 2) := dk_21 6 (dk_at dksX5_goesFrom_3 3 rfl rfl)
theorem dX5_goesFrom_75 : decode cX5_goesFrom 75 = .ok (.iload_n 2, 1) := dk_28 (dk_at dksX5_goesFrom_3 5 rfl rfl)
theorem dX5_goesFrom_76 : decode cX5_goesFrom 76 = .ok (.if_icmp .eq 40, 3) := dk_159 0 40 (dk_at dksX5_goesFrom_3 6 rfl rfl)
theorem dX5_goesFrom_79 : decode cX5_goesFrom 79 = .ok (.aload_n 0, 1) := dk_42 (dk_at dksX5_goesFrom_3 9 rfl rfl)
theorem dX5_goesFrom_80 : decode cX5_goesFrom 80 = .ok (.getfield 347, 3) := dk_180 1 91 (dk_at dksX5_goesFrom_3 10 rfl rfl)
theorem dX5_goesFrom_83 : decode cX5_goesFrom 83 = .ok (.iload_n 1, 1) := dk_27 (dk_at dksX5_goesFrom_3 13 rfl rfl)
theorem dX5_goesFrom_84 : decode cX5_goesFrom 84 = .ok (.iconst 1, 1) := dk_4 (dk_at dksX5_goesFrom_3 14 rfl rfl)
theorem dX5_goesFrom_85 : decode cX5_goesFrom 85 = .ok (.iadd, 1) := dk_96 (dk_at dksX5_goesFrom_3 15 rfl rfl)
theorem dX5_goesFrom_86 : decode cX5_goesFrom 86 = .ok (.iload 6, 2) := dk_21 6 (dk_at dksX5_goesFrom_3 16 rfl rfl)
theorem dX5_goesFrom_88 : decode cX5_goesFrom 88 = .ok (.iload_n 3, 1) := dk_29 (dk_at dksX5_goesFrom_3 18 rfl rfl)
theorem dX5_goesFrom_89 : decode cX5_goesFrom 89 = .ok (.aload_n 0, 1) := dk_42 (dk_at dksX5_goesFrom_3 19 rfl rfl)
theorem dX5_goesFrom_90 : decode cX5_goesFrom 90 = .ok (.getfield 335, 3) := dk_180 1 79 (dk_at dksX5_goesFrom_3 20 rfl rfl)
theorem dX5_goesFrom_93 : decode cX5_goesFrom 93 = .ok (.bipush 6, 2) := dk_16 6 (dk_at dksX5_goesFrom_4 0 rfl rfl)
theorem dX5_goesFrom_95 : decode cX5_goesFrom 95 = .ok (.iload_n 2, 1) := dk_28 (dk_at dksX5_goesFrom_4 2 rfl rfl)
theorem dX5_goesFrom_96 : decode cX5_goesFrom 96 = .ok (.imul, 1) := dk_104 (dk_at dksX5_goesFrom_4 3 rfl rfl)
theorem dX5_goesFrom_97 : decode cX5_goesFrom 97 = .ok (.iload 6, 2) := dk_21 6 (dk_at dksX5_goesFrom_4 4 rfl rfl)
theorem dX5_goesFrom_99 : decode cX5_goesFrom 99 = .ok (.iadd, 1) := dk_96 (dk_at dksX5_goesFrom_4 6 rfl rfl)
theorem dX5_goesFrom_100 : decode cX5_goesFrom 100 = .ok (.iaload, 1) := dk_46 (dk_at dksX5_goesFrom_4 7 rfl rfl)
theorem dX5_goesFrom_101 : decode cX5_goesFrom 101 = .ok (.iadd, 1) := dk_96 (dk_at dksX5_goesFrom_4 8 rfl rfl)
theorem dX5_goesFrom_102 : decode cX5_goesFrom 102 = .ok (.invokestatic 344, 3) := dk_184 1 88 (dk_at dksX5_goesFrom_4 9 rfl rfl)
theorem dX5_goesFrom_105 : decode cX5_goesFrom 105 = .ok (.bipush 8, 2) := dk_16 8 (dk_at dksX5_goesFrom_4 12 rfl rfl)
theorem dX5_goesFrom_107 : decode cX5_goesFrom 107 = .ok (.iload 4, 2) := dk_21 4 (dk_at dksX5_goesFrom_4 14 rfl rfl)
theorem dX5_goesFrom_109 : decode cX5_goesFrom 109 = .ok (.imul, 1) := dk_104 (dk_at dksX5_goesFrom_4 16 rfl rfl)
theorem dX5_goesFrom_110 : decode cX5_goesFrom 110 = .ok (.iload 6, 2) := dk_21 6 (dk_at dksX5_goesFrom_4 17 rfl rfl)
theorem dX5_goesFrom_112 : decode cX5_goesFrom 112 = .ok (.iadd, 1) := dk_96 (dk_at dksX5_goesFrom_4 19 rfl rfl)
theorem dX5_goesFrom_113 : decode cX5_goesFrom 113 = .ok (.invokestatic 363, 3) := dk_184 1 107 (dk_at dksX5_goesFrom_4 20 rfl rfl)
theorem dX5_goesFrom_116 : decode cX5_goesFrom 116 = .ok (.iinc 6 1, 3) := dk_132 6 1 (dk_at dksX5_goesFrom_5 0 rfl rfl)
theorem dX5_goesFrom_119 : decode cX5_goesFrom 119 = .ok (.goto (-61), 3) := dk_167 255 195 (dk_at dksX5_goesFrom_5 3 rfl rfl)
theorem dX5_goesFrom_122 : decode cX5_goesFrom 122 = .ok (.return_, 1) := dk_177 (dk_at dksX5_goesFrom_5 6 rfl rfl)
def dkwX5_least_0 : List UInt8 := [42, 27, 42, 27, 46, 156, 0, 7, 28, 167, 0, 10, 42, 27, 46, 28, 184, 0, 95, 79, 177]
abbrev dktX5_least_0 : List UInt8 := dkwX5_least_0 ++ []
theorem dksX5_least_0 : cX5_least.data.toList.drop 0 = dktX5_least_0 := by decide +kernel
theorem dX5_least_0 : decode cX5_least 0 = .ok (.aload_n 0, 1) := dk_42 (dk_at dksX5_least_0 0 rfl rfl)
theorem dX5_least_1 : decode cX5_least 1 = .ok (.iload_n 1, 1) := dk_27 (dk_at dksX5_least_0 1 rfl rfl)
theorem dX5_least_2 : decode cX5_least 2 = .ok (.aload_n 0, 1) := dk_42 (dk_at dksX5_least_0 2 rfl rfl)
theorem dX5_least_3 : decode cX5_least 3 = .ok (.iload_n 1, 1) := dk_27 (dk_at dksX5_least_0 3 rfl rfl)
theorem dX5_least_4 : decode cX5_least 4 = .ok (.iaload, 1) := dk_46 (dk_at dksX5_least_0 4 rfl rfl)
theorem dX5_least_5 : decode cX5_least 5 = .ok (.ifCond .ge 7, 3) := dk_156 0 7 (dk_at dksX5_least_0 5 rfl rfl)
theorem dX5_least_8 : decode cX5_least 8 = .ok (.iload_n 2, 1) := dk_28 (dk_at dksX5_least_0 8 rfl rfl)
theorem dX5_least_9 : decode cX5_least 9 = .ok (.goto 10, 3) := dk_167 0 10 (dk_at dksX5_least_0 9 rfl rfl)
theorem dX5_least_12 : decode cX5_least 12 = .ok (.aload_n 0, 1) := dk_42 (dk_at dksX5_least_0 12 rfl rfl)
theorem dX5_least_13 : decode cX5_least 13 = .ok (.iload_n 1, 1) := dk_27 (dk_at dksX5_least_0 13 rfl rfl)
theorem dX5_least_14 : decode cX5_least 14 = .ok (.iaload, 1) := dk_46 (dk_at dksX5_least_0 14 rfl rfl)
theorem dX5_least_15 : decode cX5_least 15 = .ok (.iload_n 2, 1) := dk_28 (dk_at dksX5_least_0 15 rfl rfl)
theorem dX5_least_16 : decode cX5_least 16 = .ok (.invokestatic 95, 3) := dk_184 0 95 (dk_at dksX5_least_0 16 rfl rfl)
theorem dX5_least_19 : decode cX5_least 19 = .ok (.iastore, 1) := dk_79 (dk_at dksX5_least_0 19 rfl rfl)
theorem dX5_least_20 : decode cX5_least 20 = .ok (.return_, 1) := dk_177 (dk_at dksX5_least_0 20 rfl rfl)
def dkwX5_entersRoute_1 : List UInt8 := [167, 255, 236, 177]
abbrev dktX5_entersRoute_1 : List UInt8 := dkwX5_entersRoute_1 ++ []
def dkwX5_entersRoute_0 : List UInt8 := [27, 4, 100, 62, 29, 155, 0, 22, 42, 28, 6, 29, 104, 122, 16, 7, 126, 133, 182, 0, 18, 132, 3, 255]
abbrev dktX5_entersRoute_0 : List UInt8 := dkwX5_entersRoute_0 ++ dktX5_entersRoute_1
theorem dksX5_entersRoute_0 : cX5_entersRoute.data.toList.drop 0 = dktX5_entersRoute_0 := by decide +kernel
theorem dksX5_entersRoute_1 : cX5_entersRoute.data.toList.drop 24 = dktX5_entersRoute_1 := dk_seg dksX5_entersRoute_0 24 rfl rfl
theorem dX5_entersRoute_0 : decode cX5_entersRoute 0 = .ok (.iload_n 1, 1) := dk_27 (dk_at dksX5_entersRoute_0 0 rfl rfl)
theorem dX5_entersRoute_1 : decode cX5_entersRoute 1 = .ok (.iconst 1, 1) := dk_4 (dk_at dksX5_entersRoute_0 1 rfl rfl)
theorem dX5_entersRoute_2 : decode cX5_entersRoute 2 = .ok (.isub, 1) := dk_100 (dk_at dksX5_entersRoute_0 2 rfl rfl)
theorem dX5_entersRoute_3 : decode cX5_entersRoute 3 = .ok (.istore_n 3, 1) := dk_62 (dk_at dksX5_entersRoute_0 3 rfl rfl)
theorem dX5_entersRoute_4 : decode cX5_entersRoute 4 = .ok (.iload_n 3, 1) := dk_29 (dk_at dksX5_entersRoute_0 4 rfl rfl)
theorem dX5_entersRoute_5 : decode cX5_entersRoute 5 = .ok (.ifCond .lt 22, 3) := dk_155 0 22 (dk_at dksX5_entersRoute_0 5 rfl rfl)
theorem dX5_entersRoute_8 : decode cX5_entersRoute 8 = .ok (.aload_n 0, 1) := dk_42 (dk_at dksX5_entersRoute_0 8 rfl rfl)
theorem dX5_entersRoute_9 : decode cX5_entersRoute 9 = .ok (.iload_n 2, 1) := dk_28 (dk_at dksX5_entersRoute_0 9 rfl rfl)
theorem dX5_entersRoute_10 : decode cX5_entersRoute 10 = .ok (.iconst 3, 1) := dk_6 (dk_at dksX5_entersRoute_0 10 rfl rfl)
theorem dX5_entersRoute_11 : decode cX5_entersRoute 11 = .ok (.iload_n 3, 1) := dk_29 (dk_at dksX5_entersRoute_0 11 rfl rfl)
theorem dX5_entersRoute_12 : decode cX5_entersRoute 12 = .ok (.imul, 1) := dk_104 (dk_at dksX5_entersRoute_0 12 rfl rfl)
theorem dX5_entersRoute_13 : decode cX5_entersRoute 13 = .ok (.ishr, 1) := dk_122 (dk_at dksX5_entersRoute_0 13 rfl rfl)
theorem dX5_entersRoute_14 : decode cX5_entersRoute 14 = .ok (.bipush 7, 2) := dk_16 7 (dk_at dksX5_entersRoute_0 14 rfl rfl)
theorem dX5_entersRoute_16 : decode cX5_entersRoute 16 = .ok (.iand, 1) := dk_126 (dk_at dksX5_entersRoute_0 16 rfl rfl)
theorem dX5_entersRoute_17 : decode cX5_entersRoute 17 = .ok (.i2l, 1) := dk_133 (dk_at dksX5_entersRoute_0 17 rfl rfl)
theorem dX5_entersRoute_18 : decode cX5_entersRoute 18 = .ok (.invokevirtual 18, 3) := dk_182 0 18 (dk_at dksX5_entersRoute_0 18 rfl rfl)
theorem dX5_entersRoute_21 : decode cX5_entersRoute 21 = .ok (.iinc 3 (-1), 3) := dk_132 3 255 (dk_at dksX5_entersRoute_0 21 rfl rfl)
theorem dX5_entersRoute_24 : decode cX5_entersRoute 24 = .ok (.goto (-20), 3) := dk_167 255 236 (dk_at dksX5_entersRoute_1 0 rfl rfl)
theorem dX5_entersRoute_27 : decode cX5_entersRoute 27 = .ok (.return_, 1) := dk_177 (dk_at dksX5_entersRoute_1 3 rfl rfl)
def dkwX5_cheap_15 : List UInt8 := [20, 1, 126, 109, 136, 172]
abbrev dktX5_cheap_15 : List UInt8 := dkwX5_cheap_15 ++ []
def dkwX5_cheap_14 : List UInt8 := [182, 0, 18, 42, 42, 180, 1, 123, 42, 180, 1, 128, 20, 1, 126, 113, 136, 182, 1, 114, 42, 180, 1, 128]
abbrev dktX5_cheap_14 : List UInt8 := dkwX5_cheap_14 ++ dktX5_cheap_15
def dkwX5_cheap_13 : List UInt8 := [167, 255, 51, 42, 180, 1, 123, 156, 0, 6, 16, 254, 172, 42, 3, 181, 0, 11, 42, 42, 180, 1, 123, 133]
abbrev dktX5_cheap_13 : List UInt8 := dkwX5_cheap_13 ++ dktX5_cheap_14
def dkwX5_cheap_12 : List UInt8 := [180, 1, 138, 58, 6, 42, 42, 180, 1, 118, 181, 1, 138, 42, 25, 6, 181, 1, 118, 132, 5, 1]
abbrev dktX5_cheap_12 : List UInt8 := dkwX5_cheap_12 ++ dktX5_cheap_13
def dkwX5_cheap_11 : List UInt8 := [182, 1, 145, 132, 9, 1, 167, 255, 173, 132, 7, 1, 167, 255, 118, 132, 6, 1, 167, 255, 103, 42]
abbrev dktX5_cheap_11 : List UInt8 := dkwX5_cheap_11 ++ dktX5_cheap_12
def dkwX5_cheap_10 : List UInt8 := [21, 7, 21, 9, 4, 100, 22, 10, 42, 180, 0, 41, 21, 7, 46, 133, 20, 1, 126, 105, 97, 29]
abbrev dktX5_cheap_10 : List UInt8 := dkwX5_cheap_10 ++ dktX5_cheap_11
def dkwX5_cheap_9 : List UInt8 := [167, 0, 49, 42, 21, 6, 21, 7, 21, 9, 22, 10, 29, 182, 1, 145, 21, 8, 153, 0, 31, 42, 21, 6]
abbrev dktX5_cheap_9 : List UInt8 := dkwX5_cheap_9 ++ dktX5_cheap_10
def dkwX5_cheap_8 : List UInt8 := [42, 180, 1, 138, 21, 6, 21, 7, 21, 9, 184, 1, 88, 47, 55, 10, 22, 10, 9, 148, 156, 0, 6]
abbrev dktX5_cheap_8 : List UInt8 := dkwX5_cheap_8 ++ dktX5_cheap_9
def dkwX5_cheap_7 : List UInt8 := [184, 0, 137, 153, 0, 7, 4, 167, 0, 4, 3, 54, 8, 4, 54, 9, 21, 9, 17, 0, 128, 162, 0, 81]
abbrev dktX5_cheap_7 : List UInt8 := dkwX5_cheap_7 ++ dktX5_cheap_8
def dkwX5_cheap_6 : List UInt8 := [42, 21, 7, 21, 5, 182, 0, 120, 153, 0, 26, 42, 180, 0, 47, 21, 7, 46, 42, 180, 0, 154, 27, 46]
abbrev dktX5_cheap_6 : List UInt8 := dkwX5_cheap_6 ++ dktX5_cheap_7
def dkwX5_cheap_5 : List UInt8 := [182, 1, 97, 3, 54, 6, 21, 6, 29, 163, 0, 153, 3, 54, 7, 21, 7, 42, 180, 0, 22, 162, 0, 135]
abbrev dktX5_cheap_5 : List UInt8 := dkwX5_cheap_5 ++ dktX5_cheap_6
def dkwX5_cheap_4 : List UInt8 := [54, 5, 21, 5, 21, 4, 162, 0, 204, 42, 42, 180, 1, 118, 182, 1, 141, 42, 21, 5, 4, 96]
abbrev dktX5_cheap_4 : List UInt8 := dkwX5_cheap_4 ++ dktX5_cheap_5
def dkwX5_cheap_3 : List UInt8 := [3, 42, 180, 0, 143, 27, 46, 42, 180, 0, 146, 27, 46, 184, 1, 88, 9, 80, 42, 2, 181, 1, 123, 28]
abbrev dktX5_cheap_3 : List UInt8 := dkwX5_cheap_3 ++ dktX5_cheap_4
def dkwX5_cheap_2 : List UInt8 := [184, 0, 95, 133, 184, 0, 25, 154, 0, 5, 2, 172, 42, 42, 180, 1, 138, 182, 1, 141, 42, 180, 1, 138]
abbrev dktX5_cheap_2 : List UInt8 := dkwX5_cheap_2 ++ dktX5_cheap_3
def dkwX5_cheap_1 : List UInt8 := [20, 1, 136, 184, 0, 25, 153, 0, 26, 21, 4, 133, 28, 133, 17, 9, 95, 28, 17, 1, 144, 96]
abbrev dktX5_cheap_1 : List UInt8 := dkwX5_cheap_1 ++ dktX5_cheap_2
def dkwX5_cheap_0 : List UInt8 := [42, 3, 181, 0, 3, 42, 27, 182, 1, 0, 153, 0, 45, 28, 184, 0, 81, 153, 0, 38, 29, 133, 9]
abbrev dktX5_cheap_0 : List UInt8 := dkwX5_cheap_0 ++ dktX5_cheap_1
theorem dksX5_cheap_0 : cX5_cheap.data.toList.drop 0 = dktX5_cheap_0 := by decide +kernel
theorem dksX5_cheap_1 : cX5_cheap.data.toList.drop 23 = dktX5_cheap_1 := dk_seg dksX5_cheap_0 23 rfl rfl
theorem dksX5_cheap_2 : cX5_cheap.data.toList.drop 45 = dktX5_cheap_2 := dk_seg dksX5_cheap_1 22 rfl rfl
theorem dksX5_cheap_3 : cX5_cheap.data.toList.drop 69 = dktX5_cheap_3 := dk_seg dksX5_cheap_2 24 rfl rfl
theorem dksX5_cheap_4 : cX5_cheap.data.toList.drop 93 = dktX5_cheap_4 := dk_seg dksX5_cheap_3 24 rfl rfl
theorem dksX5_cheap_5 : cX5_cheap.data.toList.drop 115 = dktX5_cheap_5 := dk_seg dksX5_cheap_4 22 rfl rfl
theorem dksX5_cheap_6 : cX5_cheap.data.toList.drop 139 = dktX5_cheap_6 := dk_seg dksX5_cheap_5 24 rfl rfl
theorem dksX5_cheap_7 : cX5_cheap.data.toList.drop 163 = dktX5_cheap_7 := dk_seg dksX5_cheap_6 24 rfl rfl
theorem dksX5_cheap_8 : cX5_cheap.data.toList.drop 187 = dktX5_cheap_8 := dk_seg dksX5_cheap_7 24 rfl rfl
theorem dksX5_cheap_9 : cX5_cheap.data.toList.drop 210 = dktX5_cheap_9 := dk_seg dksX5_cheap_8 23 rfl rfl
theorem dksX5_cheap_10 : cX5_cheap.data.toList.drop 234 = dktX5_cheap_10 := dk_seg dksX5_cheap_9 24 rfl rfl
theorem dksX5_cheap_11 : cX5_cheap.data.toList.drop 256 = dktX5_cheap_11 := dk_seg dksX5_cheap_10 22 rfl rfl
theorem dksX5_cheap_12 : cX5_cheap.data.toList.drop 278 = dktX5_cheap_12 := dk_seg dksX5_cheap_11 22 rfl rfl
theorem dksX5_cheap_13 : cX5_cheap.data.toList.drop 300 = dktX5_cheap_13 := dk_seg dksX5_cheap_12 22 rfl rfl
theorem dksX5_cheap_14 : cX5_cheap.data.toList.drop 324 = dktX5_cheap_14 := dk_seg dksX5_cheap_13 24 rfl rfl
theorem dksX5_cheap_15 : cX5_cheap.data.toList.drop 348 = dktX5_cheap_15 := dk_seg dksX5_cheap_14 24 rfl rfl
theorem dX5_cheap_0 : decode cX5_cheap 0 = .ok (.aload_n 0, 1) := dk_42 (dk_at dksX5_cheap_0 0 rfl rfl)
theorem dX5_cheap_1 : decode cX5_cheap 1 = .ok (.iconst 0, 1) := dk_3 (dk_at dksX5_cheap_0 1 rfl rfl)
theorem dX5_cheap_2 : decode cX5_cheap 2 = .ok (.putfield 3, 3) := dk_181 0 3 (dk_at dksX5_cheap_0 2 rfl rfl)
theorem dX5_cheap_5 : decode cX5_cheap 5 = .ok (.aload_n 0, 1) := dk_42 (dk_at dksX5_cheap_0 5 rfl rfl)
theorem dX5_cheap_6 : decode cX5_cheap 6 = .ok (.iload_n 1, 1) := dk_27 (dk_at dksX5_cheap_0 6 rfl rfl)
theorem dX5_cheap_7 : decode cX5_cheap 7 = .ok (.invokevirtual 256, 3) := dk_182 1 0 (dk_at dksX5_cheap_0 7 rfl rfl)
theorem dX5_cheap_10 : decode cX5_cheap 10 = .ok (.ifCond .eq 45, 3) := dk_153 0 45 (dk_at dksX5_cheap_0 10 rfl rfl)
theorem dX5_cheap_13 : decode cX5_cheap 13 = .ok (.iload_n 2, 1) := dk_28 (dk_at dksX5_cheap_0 13 rfl rfl)
theorem dX5_cheap_14 : decode cX5_cheap 14 = .ok (.invokestatic 81, 3) := dk_184 0 81 (dk_at dksX5_cheap_0 14 rfl rfl)
theorem dX5_cheap_17 : decode cX5_cheap 17 = .ok (.ifCond .eq 38, 3) := dk_153 0 38 (dk_at dksX5_cheap_0 17 rfl rfl)
theorem dX5_cheap_20 : decode cX5_cheap 20 = .ok (.iload_n 3, 1) := dk_29 (dk_at dksX5_cheap_0 20 rfl rfl)
theorem dX5_cheap_21 : decode cX5_cheap 21 = .ok (.i2l, 1) := dk_133 (dk_at dksX5_cheap_0 21 rfl rfl)
theorem dX5_cheap_22 : decode cX5_cheap 22 = .ok (.lconst 0, 1) := dk_9 (dk_at dksX5_cheap_0 22 rfl rfl)
theorem dX5_cheap_23 : decode cX5_cheap 23 = .ok (.ldc2_w 392, 3) := dk_20 1 136 (dk_at dksX5_cheap_1 0 rfl rfl)
theorem dX5_cheap_26 : decode cX5_cheap 26 = .ok (.invokestatic 25, 3) := dk_184 0 25 (dk_at dksX5_cheap_1 3 rfl rfl)
theorem dX5_cheap_29 : decode cX5_cheap 29 = .ok (.ifCond .eq 26, 3) := dk_153 0 26 (dk_at dksX5_cheap_1 6 rfl rfl)
theorem dX5_cheap_32 : decode cX5_cheap 32 = .ok (.iload 4, 2) := dk_21 4 (dk_at dksX5_cheap_1 9 rfl rfl)
theorem dX5_cheap_34 : decode cX5_cheap 34 = .ok (.i2l, 1) := dk_133 (dk_at dksX5_cheap_1 11 rfl rfl)
theorem dX5_cheap_35 : decode cX5_cheap 35 = .ok (.iload_n 2, 1) := dk_28 (dk_at dksX5_cheap_1 12 rfl rfl)
theorem dX5_cheap_36 : decode cX5_cheap 36 = .ok (.i2l, 1) := dk_133 (dk_at dksX5_cheap_1 13 rfl rfl)
theorem dX5_cheap_37 : decode cX5_cheap 37 = .ok (.sipush 2399, 3) := dk_17 9 95 (dk_at dksX5_cheap_1 14 rfl rfl)
theorem dX5_cheap_40 : decode cX5_cheap 40 = .ok (.iload_n 2, 1) := dk_28 (dk_at dksX5_cheap_1 17 rfl rfl)
theorem dX5_cheap_41 : decode cX5_cheap 41 = .ok (.sipush 400, 3) := dk_17 1 144 (dk_at dksX5_cheap_1 18 rfl rfl)
theorem dX5_cheap_44 : decode cX5_cheap 44 = .ok (.iadd, 1) := dk_96 (dk_at dksX5_cheap_1 21 rfl rfl)
theorem dX5_cheap_45 : decode cX5_cheap 45 = .ok (.invokestatic 95, 3) := dk_184 0 95 (dk_at dksX5_cheap_2 0 rfl rfl)
theorem dX5_cheap_48 : decode cX5_cheap 48 = .ok (.i2l, 1) := dk_133 (dk_at dksX5_cheap_2 3 rfl rfl)
theorem dX5_cheap_49 : decode cX5_cheap 49 = .ok (.invokestatic 25, 3) := dk_184 0 25 (dk_at dksX5_cheap_2 4 rfl rfl)
theorem dX5_cheap_52 : decode cX5_cheap 52 = .ok (.ifCond .ne 5, 3) := dk_154 0 5 (dk_at dksX5_cheap_2 7 rfl rfl)
theorem dX5_cheap_55 : decode cX5_cheap 55 = .ok (.iconst (-1), 1) := dk_2 (dk_at dksX5_cheap_2 10 rfl rfl)
theorem dX5_cheap_56 : decode cX5_cheap 56 = .ok (.ireturn, 1) := dk_172 (dk_at dksX5_cheap_2 11 rfl rfl)
theorem dX5_cheap_57 : decode cX5_cheap 57 = .ok (.aload_n 0, 1) := dk_42 (dk_at dksX5_cheap_2 12 rfl rfl)
theorem dX5_cheap_58 : decode cX5_cheap 58 = .ok (.aload_n 0, 1) := dk_42 (dk_at dksX5_cheap_2 13 rfl rfl)
theorem dX5_cheap_59 : decode cX5_cheap 59 = .ok (.getfield 394, 3) := dk_180 1 138 (dk_at dksX5_cheap_2 14 rfl rfl)
theorem dX5_cheap_62 : decode cX5_cheap 62 = .ok (.invokevirtual 397, 3) := dk_182 1 141 (dk_at dksX5_cheap_2 17 rfl rfl)
theorem dX5_cheap_65 : decode cX5_cheap 65 = .ok (.aload_n 0, 1) := dk_42 (dk_at dksX5_cheap_2 20 rfl rfl)
theorem dX5_cheap_66 : decode cX5_cheap 66 = .ok (.getfield 394, 3) := dk_180 1 138 (dk_at dksX5_cheap_2 21 rfl rfl)
theorem dX5_cheap_69 : decode cX5_cheap 69 = .ok (.iconst 0, 1) := dk_3 (dk_at dksX5_cheap_3 0 rfl rfl)
theorem dX5_cheap_70 : decode cX5_cheap 70 = .ok (.aload_n 0, 1) := dk_42 (dk_at dksX5_cheap_3 1 rfl rfl)
theorem dX5_cheap_71 : decode cX5_cheap 71 = .ok (.getfield 143, 3) := dk_180 0 143 (dk_at dksX5_cheap_3 2 rfl rfl)
theorem dX5_cheap_74 : decode cX5_cheap 74 = .ok (.iload_n 1, 1) := dk_27 (dk_at dksX5_cheap_3 5 rfl rfl)
theorem dX5_cheap_75 : decode cX5_cheap 75 = .ok (.iaload, 1) := dk_46 (dk_at dksX5_cheap_3 6 rfl rfl)
theorem dX5_cheap_76 : decode cX5_cheap 76 = .ok (.aload_n 0, 1) := dk_42 (dk_at dksX5_cheap_3 7 rfl rfl)
theorem dX5_cheap_77 : decode cX5_cheap 77 = .ok (.getfield 146, 3) := dk_180 0 146 (dk_at dksX5_cheap_3 8 rfl rfl)
theorem dX5_cheap_80 : decode cX5_cheap 80 = .ok (.iload_n 1, 1) := dk_27 (dk_at dksX5_cheap_3 11 rfl rfl)
theorem dX5_cheap_81 : decode cX5_cheap 81 = .ok (.iaload, 1) := dk_46 (dk_at dksX5_cheap_3 12 rfl rfl)
theorem dX5_cheap_82 : decode cX5_cheap 82 = .ok (.invokestatic 344, 3) := dk_184 1 88 (dk_at dksX5_cheap_3 13 rfl rfl)
theorem dX5_cheap_85 : decode cX5_cheap 85 = .ok (.lconst 0, 1) := dk_9 (dk_at dksX5_cheap_3 16 rfl rfl)
theorem dX5_cheap_86 : decode cX5_cheap 86 = .ok (.lastore, 1) := dk_80 (dk_at dksX5_cheap_3 17 rfl rfl)
theorem dX5_cheap_87 : decode cX5_cheap 87 = .ok (.aload_n 0, 1) := dk_42 (dk_at dksX5_cheap_3 18 rfl rfl)
theorem dX5_cheap_88 : decode cX5_cheap 88 = .ok (.iconst (-1), 1) := dk_2 (dk_at dksX5_cheap_3 19 rfl rfl)
theorem dX5_cheap_89 : decode cX5_cheap 89 = .ok (.putfield 379, 3) := dk_181 1 123 (dk_at dksX5_cheap_3 20 rfl rfl)
theorem dX5_cheap_92 : decode cX5_cheap 92 = .ok (.iload_n 2, 1) := dk_28 (dk_at dksX5_cheap_3 23 rfl rfl)
theorem dX5_cheap_93 : decode cX5_cheap 93 = .ok (.istore 5, 2) := dk_54 5 (dk_at dksX5_cheap_4 0 rfl rfl)
theorem dX5_cheap_95 : decode cX5_cheap 95 = .ok (.iload 5, 2) := dk_21 5 (dk_at dksX5_cheap_4 2 rfl rfl)
theorem dX5_cheap_97 : decode cX5_cheap 97 = .ok (.iload 4, 2) := dk_21 4 (dk_at dksX5_cheap_4 4 rfl rfl)
theorem dX5_cheap_99 : decode cX5_cheap 99 = .ok (.if_icmp .ge 204, 3) := dk_162 0 204 (dk_at dksX5_cheap_4 6 rfl rfl)
theorem dX5_cheap_102 : decode cX5_cheap 102 = .ok (.aload_n 0, 1) := dk_42 (dk_at dksX5_cheap_4 9 rfl rfl)
theorem dX5_cheap_103 : decode cX5_cheap 103 = .ok (.aload_n 0, 1) := dk_42 (dk_at dksX5_cheap_4 10 rfl rfl)
theorem dX5_cheap_104 : decode cX5_cheap 104 = .ok (.getfield 374, 3) := dk_180 1 118 (dk_at dksX5_cheap_4 11 rfl rfl)
theorem dX5_cheap_107 : decode cX5_cheap 107 = .ok (.invokevirtual 397, 3) := dk_182 1 141 (dk_at dksX5_cheap_4 14 rfl rfl)
theorem dX5_cheap_110 : decode cX5_cheap 110 = .ok (.aload_n 0, 1) := dk_42 (dk_at dksX5_cheap_4 17 rfl rfl)
theorem dX5_cheap_111 : decode cX5_cheap 111 = .ok (.iload 5, 2) := dk_21 5 (dk_at dksX5_cheap_4 18 rfl rfl)
theorem dX5_cheap_113 : decode cX5_cheap 113 = .ok (.iconst 1, 1) := dk_4 (dk_at dksX5_cheap_4 20 rfl rfl)
theorem dX5_cheap_114 : decode cX5_cheap 114 = .ok (.iadd, 1) := dk_96 (dk_at dksX5_cheap_4 21 rfl rfl)
theorem dX5_cheap_115 : decode cX5_cheap 115 = .ok (.invokevirtual 353, 3) := dk_182 1 97 (dk_at dksX5_cheap_5 0 rfl rfl)
theorem dX5_cheap_118 : decode cX5_cheap 118 = .ok (.iconst 0, 1) := dk_3 (dk_at dksX5_cheap_5 3 rfl rfl)
theorem dX5_cheap_119 : decode cX5_cheap 119 = .ok (.istore 6, 2) := dk_54 6 (dk_at dksX5_cheap_5 4 rfl rfl)
theorem dX5_cheap_121 : decode cX5_cheap 121 = .ok (.iload 6, 2) := dk_21 6 (dk_at dksX5_cheap_5 6 rfl rfl)
theorem dX5_cheap_123 : decode cX5_cheap 123 = .ok (.iload_n 3, 1) := dk_29 (dk_at dksX5_cheap_5 8 rfl rfl)
theorem dX5_cheap_124 : decode cX5_cheap 124 = .ok (.if_icmp .gt 153, 3) := dk_163 0 153 (dk_at dksX5_cheap_5 9 rfl rfl)
theorem dX5_cheap_127 : decode cX5_cheap 127 = .ok (.iconst 0, 1) := dk_3 (dk_at dksX5_cheap_5 12 rfl rfl)
theorem dX5_cheap_128 : decode cX5_cheap 128 = .ok (.istore 7, 2) := dk_54 7 (dk_at dksX5_cheap_5 13 rfl rfl)
theorem dX5_cheap_130 : decode cX5_cheap 130 = .ok (.iload 7, 2) := dk_21 7 (dk_at dksX5_cheap_5 15 rfl rfl)
theorem dX5_cheap_132 : decode cX5_cheap 132 = .ok (.aload_n 0, 1) := dk_42 (dk_at dksX5_cheap_5 17 rfl rfl)
theorem dX5_cheap_133 : decode cX5_cheap 133 = .ok (.getfield 22, 3) := dk_180 0 22 (dk_at dksX5_cheap_5 18 rfl rfl)
theorem dX5_cheap_136 : decode cX5_cheap 136 = .ok (.if_icmp .ge 135, 3) := dk_162 0 135 (dk_at dksX5_cheap_5 21 rfl rfl)
theorem dX5_cheap_139 : decode cX5_cheap 139 = .ok (.aload_n 0, 1) := dk_42 (dk_at dksX5_cheap_6 0 rfl rfl)
theorem dX5_cheap_140 : decode cX5_cheap 140 = .ok (.iload 7, 2) := dk_21 7 (dk_at dksX5_cheap_6 1 rfl rfl)
theorem dX5_cheap_142 : decode cX5_cheap 142 = .ok (.iload 5, 2) := dk_21 5 (dk_at dksX5_cheap_6 3 rfl rfl)
theorem dX5_cheap_144 : decode cX5_cheap 144 = .ok (.invokevirtual 120, 3) := dk_182 0 120 (dk_at dksX5_cheap_6 5 rfl rfl)
theorem dX5_cheap_147 : decode cX5_cheap 147 = .ok (.ifCond .eq 26, 3) := dk_153 0 26 (dk_at dksX5_cheap_6 8 rfl rfl)
theorem dX5_cheap_150 : decode cX5_cheap 150 = .ok (.aload_n 0, 1) := dk_42 (dk_at dksX5_cheap_6 11 rfl rfl)
theorem dX5_cheap_151 : decode cX5_cheap 151 = .ok (.getfield 47, 3) := dk_180 0 47 (dk_at dksX5_cheap_6 12 rfl rfl)
theorem dX5_cheap_154 : decode cX5_cheap 154 = .ok (.iload 7, 2) := dk_21 7 (dk_at dksX5_cheap_6 15 rfl rfl)
theorem dX5_cheap_156 : decode cX5_cheap 156 = .ok (.iaload, 1) := dk_46 (dk_at dksX5_cheap_6 17 rfl rfl)
theorem dX5_cheap_157 : decode cX5_cheap 157 = .ok (.aload_n 0, 1) := dk_42 (dk_at dksX5_cheap_6 18 rfl rfl)
theorem dX5_cheap_158 : decode cX5_cheap 158 = .ok (.getfield 154, 3) := dk_180 0 154 (dk_at dksX5_cheap_6 19 rfl rfl)
theorem dX5_cheap_161 : decode cX5_cheap 161 = .ok (.iload_n 1, 1) := dk_27 (dk_at dksX5_cheap_6 22 rfl rfl)
theorem dX5_cheap_162 : decode cX5_cheap 162 = .ok (.iaload, 1) := dk_46 (dk_at dksX5_cheap_6 23 rfl rfl)
theorem dX5_cheap_163 : decode cX5_cheap 163 = .ok (.invokestatic 137, 3) := dk_184 0 137 (dk_at dksX5_cheap_7 0 rfl rfl)
theorem dX5_cheap_166 : decode cX5_cheap 166 = .ok (.ifCond .eq 7, 3) := dk_153 0 7 (dk_at dksX5_cheap_7 3 rfl rfl)
theorem dX5_cheap_169 : decode cX5_cheap 169 = .ok (.iconst 1, 1) := dk_4 (dk_at dksX5_cheap_7 6 rfl rfl)
theorem dX5_cheap_170 : decode cX5_cheap 170 = .ok (.goto 4, 3) := dk_167 0 4 (dk_at dksX5_cheap_7 7 rfl rfl)
theorem dX5_cheap_173 : decode cX5_cheap 173 = .ok (.iconst 0, 1) := dk_3 (dk_at dksX5_cheap_7 10 rfl rfl)
theorem dX5_cheap_174 : decode cX5_cheap 174 = .ok (.istore 8, 2) := dk_54 8 (dk_at dksX5_cheap_7 11 rfl rfl)
theorem dX5_cheap_176 : decode cX5_cheap 176 = .ok (.iconst 1, 1) := dk_4 (dk_at dksX5_cheap_7 13 rfl rfl)
theorem dX5_cheap_177 : decode cX5_cheap 177 = .ok (.istore 9, 2) := dk_54 9 (dk_at dksX5_cheap_7 14 rfl rfl)
theorem dX5_cheap_179 : decode cX5_cheap 179 = .ok (.iload 9, 2) := dk_21 9 (dk_at dksX5_cheap_7 16 rfl rfl)
theorem dX5_cheap_181 : decode cX5_cheap 181 = .ok (.sipush 128, 3) := dk_17 0 128 (dk_at dksX5_cheap_7 18 rfl rfl)
theorem dX5_cheap_184 : decode cX5_cheap 184 = .ok (.if_icmp .ge 81, 3) := dk_162 0 81 (dk_at dksX5_cheap_7 21 rfl rfl)
theorem dX5_cheap_187 : decode cX5_cheap 187 = .ok (.aload_n 0, 1) := dk_42 (dk_at dksX5_cheap_8 0 rfl rfl)
theorem dX5_cheap_188 : decode cX5_cheap 188 = .ok (.getfield 394, 3) := dk_180 1 138 (dk_at dksX5_cheap_8 1 rfl rfl)
theorem dX5_cheap_191 : decode cX5_cheap 191 = .ok (.iload 6, 2) := dk_21 6 (dk_at dksX5_cheap_8 4 rfl rfl)
theorem dX5_cheap_193 : decode cX5_cheap 193 = .ok (.iload 7, 2) := dk_21 7 (dk_at dksX5_cheap_8 6 rfl rfl)
theorem dX5_cheap_195 : decode cX5_cheap 195 = .ok (.iload 9, 2) := dk_21 9 (dk_at dksX5_cheap_8 8 rfl rfl)
theorem dX5_cheap_197 : decode cX5_cheap 197 = .ok (.invokestatic 344, 3) := dk_184 1 88 (dk_at dksX5_cheap_8 10 rfl rfl)
theorem dX5_cheap_200 : decode cX5_cheap 200 = .ok (.laload, 1) := dk_47 (dk_at dksX5_cheap_8 13 rfl rfl)
theorem dX5_cheap_201 : decode cX5_cheap 201 = .ok (.lstore 10, 2) := dk_55 10 (dk_at dksX5_cheap_8 14 rfl rfl)
theorem dX5_cheap_203 : decode cX5_cheap 203 = .ok (.lload 10, 2) := dk_22 10 (dk_at dksX5_cheap_8 16 rfl rfl)
theorem dX5_cheap_205 : decode cX5_cheap 205 = .ok (.lconst 0, 1) := dk_9 (dk_at dksX5_cheap_8 18 rfl rfl)
theorem dX5_cheap_206 : decode cX5_cheap 206 = .ok (.lcmp, 1) := dk_148 (dk_at dksX5_cheap_8 19 rfl rfl)
theorem dX5_cheap_207 : decode cX5_cheap 207 = .ok (.ifCond .ge 6, 3) := dk_156 0 6 (dk_at dksX5_cheap_8 20 rfl rfl)
theorem dX5_cheap_210 : decode cX5_cheap 210 = .ok (.goto 49, 3) := dk_167 0 49 (dk_at dksX5_cheap_9 0 rfl rfl)
theorem dX5_cheap_213 : decode cX5_cheap 213 = .ok (.aload_n 0, 1) := dk_42 (dk_at dksX5_cheap_9 3 rfl rfl)
theorem dX5_cheap_214 : decode cX5_cheap 214 = .ok (.iload 6, 2) := dk_21 6 (dk_at dksX5_cheap_9 4 rfl rfl)
theorem dX5_cheap_216 : decode cX5_cheap 216 = .ok (.iload 7, 2) := dk_21 7 (dk_at dksX5_cheap_9 6 rfl rfl)
theorem dX5_cheap_218 : decode cX5_cheap 218 = .ok (.iload 9, 2) := dk_21 9 (dk_at dksX5_cheap_9 8 rfl rfl)
theorem dX5_cheap_220 : decode cX5_cheap 220 = .ok (.lload 10, 2) := dk_22 10 (dk_at dksX5_cheap_9 10 rfl rfl)
theorem dX5_cheap_222 : decode cX5_cheap 222 = .ok (.iload_n 3, 1) := dk_29 (dk_at dksX5_cheap_9 12 rfl rfl)
theorem dX5_cheap_223 : decode cX5_cheap 223 = .ok (.invokevirtual 401, 3) := dk_182 1 145 (dk_at dksX5_cheap_9 13 rfl rfl)
theorem dX5_cheap_226 : decode cX5_cheap 226 = .ok (.iload 8, 2) := dk_21 8 (dk_at dksX5_cheap_9 16 rfl rfl)
theorem dX5_cheap_228 : decode cX5_cheap 228 = .ok (.ifCond .eq 31, 3) := dk_153 0 31 (dk_at dksX5_cheap_9 18 rfl rfl)
theorem dX5_cheap_231 : decode cX5_cheap 231 = .ok (.aload_n 0, 1) := dk_42 (dk_at dksX5_cheap_9 21 rfl rfl)
theorem dX5_cheap_232 : decode cX5_cheap 232 = .ok (.iload 6, 2) := dk_21 6 (dk_at dksX5_cheap_9 22 rfl rfl)
theorem dX5_cheap_234 : decode cX5_cheap 234 = .ok (.iload 7, 2) := dk_21 7 (dk_at dksX5_cheap_10 0 rfl rfl)
theorem dX5_cheap_236 : decode cX5_cheap 236 = .ok (.iload 9, 2) := dk_21 9 (dk_at dksX5_cheap_10 2 rfl rfl)
theorem dX5_cheap_238 : decode cX5_cheap 238 = .ok (.iconst 1, 1) := dk_4 (dk_at dksX5_cheap_10 4 rfl rfl)
theorem dX5_cheap_239 : decode cX5_cheap 239 = .ok (.isub, 1) := dk_100 (dk_at dksX5_cheap_10 5 rfl rfl)
theorem dX5_cheap_240 : decode cX5_cheap 240 = .ok (.lload 10, 2) := dk_22 10 (dk_at dksX5_cheap_10 6 rfl rfl)
theorem dX5_cheap_242 : decode cX5_cheap 242 = .ok (.aload_n 0, 1) := dk_42 (dk_at dksX5_cheap_10 8 rfl rfl)
theorem dX5_cheap_243 : decode cX5_cheap 243 = .ok (.getfield 41, 3) := dk_180 0 41 (dk_at dksX5_cheap_10 9 rfl rfl)
theorem dX5_cheap_246 : decode cX5_cheap 246 = .ok (.iload 7, 2) := dk_21 7 (dk_at dksX5_cheap_10 12 rfl rfl)
theorem dX5_cheap_248 : decode cX5_cheap 248 = .ok (.iaload, 1) := dk_46 (dk_at dksX5_cheap_10 14 rfl rfl)
theorem dX5_cheap_249 : decode cX5_cheap 249 = .ok (.i2l, 1) := dk_133 (dk_at dksX5_cheap_10 15 rfl rfl)
theorem dX5_cheap_250 : decode cX5_cheap 250 = .ok (.ldc2_w 382, 3) := dk_20 1 126 (dk_at dksX5_cheap_10 16 rfl rfl)
theorem dX5_cheap_253 : decode cX5_cheap 253 = .ok (.lmul, 1) := dk_105 (dk_at dksX5_cheap_10 19 rfl rfl)
theorem dX5_cheap_254 : decode cX5_cheap 254 = .ok (.ladd, 1) := dk_97 (dk_at dksX5_cheap_10 20 rfl rfl)
theorem dX5_cheap_255 : decode cX5_cheap 255 = .ok (.iload_n 3, 1) := dk_29 (dk_at dksX5_cheap_10 21 rfl rfl)
theorem dX5_cheap_256 : decode cX5_cheap 256 = .ok (.invokevirtual 401, 3) := dk_182 1 145 (dk_at dksX5_cheap_11 0 rfl rfl)
theorem dX5_cheap_259 : decode cX5_cheap 259 = .ok (.iinc 9 1, 3) := dk_132 9 1 (dk_at dksX5_cheap_11 3 rfl rfl)
theorem dX5_cheap_262 : decode cX5_cheap 262 = .ok (.goto (-83), 3) := dk_167 255 173 (dk_at dksX5_cheap_11 6 rfl rfl)
theorem dX5_cheap_265 : decode cX5_cheap 265 = .ok (.iinc 7 1, 3) := dk_132 7 1 (dk_at dksX5_cheap_11 9 rfl rfl)
theorem dX5_cheap_268 : decode cX5_cheap 268 = .ok (.goto (-138), 3) := dk_167 255 118 (dk_at dksX5_cheap_11 12 rfl rfl)
theorem dX5_cheap_271 : decode cX5_cheap 271 = .ok (.iinc 6 1, 3) := dk_132 6 1 (dk_at dksX5_cheap_11 15 rfl rfl)
theorem dX5_cheap_274 : decode cX5_cheap 274 = .ok (.goto (-153), 3) := dk_167 255 103 (dk_at dksX5_cheap_11 18 rfl rfl)
theorem dX5_cheap_277 : decode cX5_cheap 277 = .ok (.aload_n 0, 1) := dk_42 (dk_at dksX5_cheap_11 21 rfl rfl)
theorem dX5_cheap_278 : decode cX5_cheap 278 = .ok (.getfield 394, 3) := dk_180 1 138 (dk_at dksX5_cheap_12 0 rfl rfl)
theorem dX5_cheap_281 : decode cX5_cheap 281 = .ok (.astore 6, 2) := dk_58 6 (dk_at dksX5_cheap_12 3 rfl rfl)
theorem dX5_cheap_283 : decode cX5_cheap 283 = .ok (.aload_n 0, 1) := dk_42 (dk_at dksX5_cheap_12 5 rfl rfl)
theorem dX5_cheap_284 : decode cX5_cheap 284 = .ok (.aload_n 0, 1) := dk_42 (dk_at dksX5_cheap_12 6 rfl rfl)
theorem dX5_cheap_285 : decode cX5_cheap 285 = .ok (.getfield 374, 3) := dk_180 1 118 (dk_at dksX5_cheap_12 7 rfl rfl)
theorem dX5_cheap_288 : decode cX5_cheap 288 = .ok (.putfield 394, 3) := dk_181 1 138 (dk_at dksX5_cheap_12 10 rfl rfl)
theorem dX5_cheap_291 : decode cX5_cheap 291 = .ok (.aload_n 0, 1) := dk_42 (dk_at dksX5_cheap_12 13 rfl rfl)
theorem dX5_cheap_292 : decode cX5_cheap 292 = .ok (.aload 6, 2) := dk_25 6 (dk_at dksX5_cheap_12 14 rfl rfl)
theorem dX5_cheap_294 : decode cX5_cheap 294 = .ok (.putfield 374, 3) := dk_181 1 118 (dk_at dksX5_cheap_12 16 rfl rfl)
theorem dX5_cheap_297 : decode cX5_cheap 297 = .ok (.iinc 5 1, 3) := dk_132 5 1 (dk_at dksX5_cheap_12 19 rfl rfl)
theorem dX5_cheap_300 : decode cX5_cheap 300 = .ok (.goto (-205), 3) := dk_167 255 51 (dk_at dksX5_cheap_13 0 rfl rfl)
theorem dX5_cheap_303 : decode cX5_cheap 303 = .ok (.aload_n 0, 1) := dk_42 (dk_at dksX5_cheap_13 3 rfl rfl)
theorem dX5_cheap_304 : decode cX5_cheap 304 = .ok (.getfield 379, 3) := dk_180 1 123 (dk_at dksX5_cheap_13 4 rfl rfl)
theorem dX5_cheap_307 : decode cX5_cheap 307 = .ok (.ifCond .ge 6, 3) := dk_156 0 6 (dk_at dksX5_cheap_13 7 rfl rfl)
theorem dX5_cheap_310 : decode cX5_cheap 310 = .ok (.bipush (-2), 2) := dk_16 254 (dk_at dksX5_cheap_13 10 rfl rfl)
theorem dX5_cheap_312 : decode cX5_cheap 312 = .ok (.ireturn, 1) := dk_172 (dk_at dksX5_cheap_13 12 rfl rfl)
theorem dX5_cheap_313 : decode cX5_cheap 313 = .ok (.aload_n 0, 1) := dk_42 (dk_at dksX5_cheap_13 13 rfl rfl)
theorem dX5_cheap_314 : decode cX5_cheap 314 = .ok (.iconst 0, 1) := dk_3 (dk_at dksX5_cheap_13 14 rfl rfl)
theorem dX5_cheap_315 : decode cX5_cheap 315 = .ok (.putfield 11, 3) := dk_181 0 11 (dk_at dksX5_cheap_13 15 rfl rfl)
theorem dX5_cheap_318 : decode cX5_cheap 318 = .ok (.aload_n 0, 1) := dk_42 (dk_at dksX5_cheap_13 18 rfl rfl)
theorem dX5_cheap_319 : decode cX5_cheap 319 = .ok (.aload_n 0, 1) := dk_42 (dk_at dksX5_cheap_13 19 rfl rfl)
theorem dX5_cheap_320 : decode cX5_cheap 320 = .ok (.getfield 379, 3) := dk_180 1 123 (dk_at dksX5_cheap_13 20 rfl rfl)
theorem dX5_cheap_323 : decode cX5_cheap 323 = .ok (.i2l, 1) := dk_133 (dk_at dksX5_cheap_13 23 rfl rfl)
theorem dX5_cheap_324 : decode cX5_cheap 324 = .ok (.invokevirtual 18, 3) := dk_182 0 18 (dk_at dksX5_cheap_14 0 rfl rfl)
theorem dX5_cheap_327 : decode cX5_cheap 327 = .ok (.aload_n 0, 1) := dk_42 (dk_at dksX5_cheap_14 3 rfl rfl)
theorem dX5_cheap_328 : decode cX5_cheap 328 = .ok (.aload_n 0, 1) := dk_42 (dk_at dksX5_cheap_14 4 rfl rfl)
theorem dX5_cheap_329 : decode cX5_cheap 329 = .ok (.getfield 379, 3) := dk_180 1 123 (dk_at dksX5_cheap_14 5 rfl rfl)
theorem dX5_cheap_332 : decode cX5_cheap 332 = .ok (.aload_n 0, 1) := dk_42 (dk_at dksX5_cheap_14 8 rfl rfl)
theorem dX5_cheap_333 : decode cX5_cheap 333 = .ok (.getfield 384, 3) := dk_180 1 128 (dk_at dksX5_cheap_14 9 rfl rfl)
theorem dX5_cheap_336 : decode cX5_cheap 336 = .ok (.ldc2_w 382, 3) := dk_20 1 126 (dk_at dksX5_cheap_14 12 rfl rfl)
theorem dX5_cheap_339 : decode cX5_cheap 339 = .ok (.lrem, 1) := dk_113 (dk_at dksX5_cheap_14 15 rfl rfl)
theorem dX5_cheap_340 : decode cX5_cheap 340 = .ok (.l2i, 1) := dk_136 (dk_at dksX5_cheap_14 16 rfl rfl)
theorem dX5_cheap_341 : decode cX5_cheap 341 = .ok (.invokevirtual 370, 3) := dk_182 1 114 (dk_at dksX5_cheap_14 17 rfl rfl)
theorem dX5_cheap_344 : decode cX5_cheap 344 = .ok (.aload_n 0, 1) := dk_42 (dk_at dksX5_cheap_14 20 rfl rfl)
theorem dX5_cheap_345 : decode cX5_cheap 345 = .ok (.getfield 384, 3) := dk_180 1 128 (dk_at dksX5_cheap_14 21 rfl rfl)
theorem dX5_cheap_348 : decode cX5_cheap 348 = .ok (.ldc2_w 382, 3) := dk_20 1 126 (dk_at dksX5_cheap_15 0 rfl rfl)
theorem dX5_cheap_351 : decode cX5_cheap 351 = .ok (.ldiv, 1) := dk_109 (dk_at dksX5_cheap_15 3 rfl rfl)
theorem dX5_cheap_352 : decode cX5_cheap 352 = .ok (.l2i, 1) := dk_136 (dk_at dksX5_cheap_15 4 rfl rfl)
theorem dX5_cheap_353 : decode cX5_cheap 353 = .ok (.ireturn, 1) := dk_172 (dk_at dksX5_cheap_15 5 rfl rfl)
def dkwX5_emptiesPaid_0 : List UInt8 := [3, 61, 28, 43, 190, 162, 0, 15, 43, 28, 20, 0, 84, 80, 132, 2, 1, 167, 255, 241, 177]
abbrev dktX5_emptiesPaid_0 : List UInt8 := dkwX5_emptiesPaid_0 ++ []
theorem dksX5_emptiesPaid_0 : cX5_emptiesPaid.data.toList.drop 0 = dktX5_emptiesPaid_0 := by decide +kernel
theorem dX5_emptiesPaid_0 : decode cX5_emptiesPaid 0 = .ok (.iconst 0, 1) := dk_3 (dk_at dksX5_emptiesPaid_0 0 rfl rfl)
theorem dX5_emptiesPaid_1 : decode cX5_emptiesPaid 1 = .ok (.istore_n 2, 1) := dk_61 (dk_at dksX5_emptiesPaid_0 1 rfl rfl)
theorem dX5_emptiesPaid_2 : decode cX5_emptiesPaid 2 = .ok (.iload_n 2, 1) := dk_28 (dk_at dksX5_emptiesPaid_0 2 rfl rfl)
theorem dX5_emptiesPaid_3 : decode cX5_emptiesPaid 3 = .ok (.aload_n 1, 1) := dk_43 (dk_at dksX5_emptiesPaid_0 3 rfl rfl)
theorem dX5_emptiesPaid_4 : decode cX5_emptiesPaid 4 = .ok (.arraylength, 1) := dk_190 (dk_at dksX5_emptiesPaid_0 4 rfl rfl)
theorem dX5_emptiesPaid_5 : decode cX5_emptiesPaid 5 = .ok (.if_icmp .ge 15, 3) := dk_162 0 15 (dk_at dksX5_emptiesPaid_0 5 rfl rfl)
theorem dX5_emptiesPaid_8 : decode cX5_emptiesPaid 8 = .ok (.aload_n 1, 1) := dk_43 (dk_at dksX5_emptiesPaid_0 8 rfl rfl)
theorem dX5_emptiesPaid_9 : decode cX5_emptiesPaid 9 = .ok (.iload_n 2, 1) := dk_28 (dk_at dksX5_emptiesPaid_0 9 rfl rfl)
theorem dX5_emptiesPaid_10 : decode cX5_emptiesPaid 10 = .ok (.ldc2_w 84, 3) := dk_20 0 84 (dk_at dksX5_emptiesPaid_0 10 rfl rfl)
theorem dX5_emptiesPaid_13 : decode cX5_emptiesPaid 13 = .ok (.lastore, 1) := dk_80 (dk_at dksX5_emptiesPaid_0 13 rfl rfl)
theorem dX5_emptiesPaid_14 : decode cX5_emptiesPaid 14 = .ok (.iinc 2 1, 3) := dk_132 2 1 (dk_at dksX5_emptiesPaid_0 14 rfl rfl)
theorem dX5_emptiesPaid_17 : decode cX5_emptiesPaid 17 = .ok (.goto (-15), 3) := dk_167 255 241 (dk_at dksX5_emptiesPaid_0 17 rfl rfl)
theorem dX5_emptiesPaid_20 : decode cX5_emptiesPaid 20 = .ok (.return_, 1) := dk_177 (dk_at dksX5_emptiesPaid_0 20 rfl rfl)
