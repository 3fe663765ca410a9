set_option maxRecDepth 100000
theorem dX5_thrown_0 : decode cX5_thrown 0 = .ok (.aload_n 0, 1) := by decide +kernel
theorem dX5_thrown_1 : decode cX5_thrown 1 = .ok (.getfield 3, 3) := by decide +kernel
theorem dX5_thrown_4 : decode cX5_thrown 4 = .ok (.ireturn, 1) := by decide +kernel
def dkwX5_office_5 : List UInt8 := [16, 64, 108, 21, 4, 16, 64, 112, 182, 0, 73, 42, 180, 0, 22, 4, 100, 172]
abbrev dktX5_office_5 : List UInt8 := dkwX5_office_5 ++ []
def dkwX5_office_4 : List UInt8 := [180, 0, 22, 16, 6, 160, 0, 5, 2, 172, 42, 27, 16, 24, 108, 27, 16, 24, 112, 28, 29, 21, 4]
abbrev dktX5_office_4 : List UInt8 := dkwX5_office_4 ++ dktX5_office_5
def dkwX5_office_3 : List UInt8 := [20, 0, 71, 184, 0, 25, 153, 0, 7, 4, 167, 0, 4, 3, 54, 5, 21, 5, 153, 0, 12, 42]
abbrev dktX5_office_3 : List UInt8 := dkwX5_office_3 ++ dktX5_office_4
def dkwX5_office_2 : List UInt8 := [21, 4, 16, 64, 108, 133, 10, 20, 0, 69, 184, 0, 25, 153, 0, 23, 21, 4, 16, 64, 112, 133, 10]
abbrev dktX5_office_2 : List UInt8 := dkwX5_office_2 ++ dktX5_office_3
def dkwX5_office_1 : List UInt8 := [184, 0, 25, 153, 0, 56, 29, 133, 10, 20, 0, 67, 184, 0, 25, 153, 0, 44, 21, 4, 155, 0, 39]
abbrev dktX5_office_1 : List UInt8 := dkwX5_office_1 ++ dktX5_office_2
def dkwX5_office_0 : List UInt8 := [42, 3, 181, 0, 3, 27, 133, 9, 20, 0, 63, 184, 0, 25, 153, 0, 68, 28, 133, 10, 20, 0, 65]
abbrev dktX5_office_0 : List UInt8 := dkwX5_office_0 ++ dktX5_office_1
theorem dksX5_office_0 : cX5_office.data.toList.drop 0 = dktX5_office_0 := by decide +kernel
theorem dksX5_office_1 : cX5_office.data.toList.drop 23 = dktX5_office_1 := dk_seg dksX5_office_0 23 rfl rfl
theorem dksX5_office_2 : cX5_office.data.toList.drop 46 = dktX5_office_2 := dk_seg dksX5_office_1 23 rfl rfl
theorem dksX5_office_3 : cX5_office.data.toList.drop 69 = dktX5_office_3 := dk_seg dksX5_office_2 23 rfl rfl
theorem dksX5_office_4 : cX5_office.data.toList.drop 91 = dktX5_office_4 := dk_seg dksX5_office_3 22 rfl rfl
theorem dksX5_office_5 : cX5_office.data.toList.drop 114 = dktX5_office_5 := dk_seg dksX5_office_4 23 rfl rfl
theorem dX5_office_0 : decode cX5_office 0 = .ok (.aload_n 0, 1) := dk_42 (dk_at dksX5_office_0 0 rfl rfl)
theorem dX5_office_1 : decode cX5_office 1 = .ok (.iconst 0, 1) := dk_3 (dk_at dksX5_office_0 1 rfl rfl)
theorem dX5_office_2 : decode cX5_office 2 = .ok (.putfield 3, 3) := dk_181 0 3 (dk_at dksX5_office_0 2 rfl rfl)
theorem dX5_office_5 : decode cX5_office 5 = .ok (.iload_n 1, 1) := dk_27 (dk_at dksX5_office_0 5 rfl rfl)
theorem dX5_office_6 : decode cX5_office 6 = .ok (.i2l, 1) := dk_133 (dk_at dksX5_office_0 6 rfl rfl)
theorem dX5_office_7 : decode cX5_office 7 = .ok (.lconst 0, 1) := dk_9 (dk_at dksX5_office_0 7 rfl rfl)
theorem dX5_office_8 : decode cX5_office 8 = .ok (.ldc2_w 63, 3) := dk_20 0 63 (dk_at dksX5_office_0 8 rfl rfl)
theorem dX5_office_11 : decode cX5_office 11 = .ok (.invokestatic 25, 3) := dk_184 0 25 (dk_at dksX5_office_0 11 rfl rfl)
theorem dX5_office_14 : decode cX5_office 14 = .ok (.ifCond .eq 68, 3) := dk_153 0 68 (dk_at dksX5_office_0 14 rfl rfl)
theorem dX5_office_17 : decode cX5_office 17 = .ok (.iload_n 2, 1) := dk_28 (dk_at dksX5_office_0 17 rfl rfl)
theorem dX5_office_18 : decode cX5_office 18 = .ok (.i2l, 1) := dk_133 (dk_at dksX5_office_0 18 rfl rfl)
theorem dX5_office_19 : decode cX5_office 19 = .ok (.lconst 1, 1) := dk_10 (dk_at dksX5_office_0 19 rfl rfl)
theorem dX5_office_20 : decode cX5_office 20 = .ok (.ldc2_w 65, 3) := dk_20 0 65 (dk_at dksX5_office_0 20 rfl rfl)
theorem dX5_office_23 : decode cX5_office 23 = .ok (.invokestatic 25, 3) := dk_184 0 25 (dk_at dksX5_office_1 0 rfl rfl)
theorem dX5_office_26 : decode cX5_office 26 = .ok (.ifCond .eq 56, 3) := dk_153 0 56 (dk_at dksX5_office_1 3 rfl rfl)
theorem dX5_office_29 : decode cX5_office 29 = .ok (.iload_n 3, 1) := dk_29 (dk_at dksX5_office_1 6 rfl rfl)
theorem dX5_office_30 : decode cX5_office 30 = .ok (.i2l, 1) := dk_133 (dk_at dksX5_office_1 7 rfl rfl)
theorem dX5_office_31 : decode cX5_office 31 = .ok (.lconst 1, 1) := dk_10 (dk_at dksX5_office_1 8 rfl rfl)
theorem dX5_office_32 : decode cX5_office 32 = .ok (.ldc2_w 67, 3) := dk_20 0 67 (dk_at dksX5_office_1 9 rfl rfl)
theorem dX5_office_35 : decode cX5_office 35 = .ok (.invokestatic 25, 3) := dk_184 0 25 (dk_at dksX5_office_1 12 rfl rfl)
theorem dX5_office_38 : decode cX5_office 38 = .ok (.ifCond .eq 44, 3) := dk_153 0 44 (dk_at dksX5_office_1 15 rfl rfl)
theorem dX5_office_41 : decode cX5_office 41 = .ok (.iload 4, 2) := dk_21 4 (dk_at dksX5_office_1 18 rfl rfl)
theorem dX5_office_43 : decode cX5_office 43 = .ok (.ifCond .lt 39, 3) := dk_155 0 39 (dk_at dksX5_office_1 20 rfl rfl)
theorem dX5_office_46 : decode cX5_office 46 = .ok (.iload 4, 2) := dk_21 4 (dk_at dksX5_office_2 0 rfl rfl)
theorem dX5_office_48 : decode cX5_office 48 = .ok (.bipush 64, 2) := dk_16 64 (dk_at dksX5_office_2 2 rfl rfl)
theorem dX5_office_50 : decode cX5_office 50 = .ok (.idiv, 1) := dk_108 (dk_at dksX5_office_2 4 rfl rfl)
theorem dX5_office_51 : decode cX5_office 51 = .ok (.i2l, 1) := dk_133 (dk_at dksX5_office_2 5 rfl rfl)
theorem dX5_office_52 : decode cX5_office 52 = .ok (.lconst 1, 1) := dk_10 (dk_at dksX5_office_2 6 rfl rfl)
theorem dX5_office_53 : decode cX5_office 53 = .ok (.ldc2_w 69, 3) := dk_20 0 69 (dk_at dksX5_office_2 7 rfl rfl)
theorem dX5_office_56 : decode cX5_office 56 = .ok (.invokestatic 25, 3) := dk_184 0 25 (dk_at dksX5_office_2 10 rfl rfl)
theorem dX5_office_59 : decode cX5_office 59 = .ok (.ifCond .eq 23, 3) := dk_153 0 23 (dk_at dksX5_office_2 13 rfl rfl)
theorem dX5_office_62 : decode cX5_office 62 = .ok (.iload 4, 2) := dk_21 4 (dk_at dksX5_office_2 16 rfl rfl)
theorem dX5_office_64 : decode cX5_office 64 = .ok (.bipush 64, 2) := dk_16 64 (dk_at dksX5_office_2 18 rfl rfl)
theorem dX5_office_66 : decode cX5_office 66 = .ok (.irem, 1) := dk_112 (dk_at dksX5_office_2 20 rfl rfl)
theorem dX5_office_67 : decode cX5_office 67 = .ok (.i2l, 1) := dk_133 (dk_at dksX5_office_2 21 rfl rfl)
theorem dX5_office_68 : decode cX5_office 68 = .ok (.lconst 1, 1) := dk_10 (dk_at dksX5_office_2 22 rfl rfl)
theorem dX5_office_69 : decode cX5_office 69 = .ok (.ldc2_w 71, 3) := dk_20 0 71 (dk_at dksX5_office_3 0 rfl rfl)
theorem dX5_office_72 : decode cX5_office 72 = .ok (.invokestatic 25, 3) := dk_184 0 25 (dk_at dksX5_office_3 3 rfl rfl)
theorem dX5_office_75 : decode cX5_office 75 = .ok (.ifCond .eq 7, 3) := dk_153 0 7 (dk_at dksX5_office_3 6 rfl rfl)
theorem dX5_office_78 : decode cX5_office 78 = .ok (.iconst 1, 1) := dk_4 (dk_at dksX5_office_3 9 rfl rfl)
theorem dX5_office_79 : decode cX5_office 79 = .ok (.goto 4, 3) := dk_167 0 4 (dk_at dksX5_office_3 10 rfl rfl)
theorem dX5_office_82 : decode cX5_office 82 = .ok (.iconst 0, 1) := dk_3 (dk_at dksX5_office_3 13 rfl rfl)
theorem dX5_office_83 : decode cX5_office 83 = .ok (.istore 5, 2) := dk_54 5 (dk_at dksX5_office_3 14 rfl rfl)
theorem dX5_office_85 : decode cX5_office 85 = .ok (.iload 5, 2) := dk_21 5 (dk_at dksX5_office_3 16 rfl rfl)
theorem dX5_office_87 : decode cX5_office 87 = .ok (.ifCond .eq 12, 3) := dk_153 0 12 (dk_at dksX5_office_3 18 rfl rfl)
theorem dX5_office_90 : decode cX5_office 90 = .ok (.aload_n 0, 1) := dk_42 (dk_at dksX5_office_3 21 rfl rfl)
theorem dX5_office_91 : decode cX5_office 91 = .ok (.getfield 22, 3) := dk_180 0 22 (dk_at dksX5_office_4 0 rfl rfl)
theorem dX5_office_94 : decode cX5_office 94 = .ok (.bipush 6, 2) := dk_16 6 (dk_at dksX5_office_4 3 rfl rfl)
theorem dX5_office_96 : decode cX5_office 96 = .ok (.if_icmp .ne 5, 3) := dk_160 0 5 (dk_at dksX5_office_4 5 rfl rfl)
theorem dX5_office_99 : decode cX5_office 99 = .ok (.iconst (-1), 1) := dk_2 (dk_at dksX5_office_4 8 rfl rfl)
theorem dX5_office_100 : decode cX5_office 100 = .ok (.ireturn, 1) := dk_172 (dk_at dksX5_office_4 9 rfl rfl)
theorem dX5_office_101 : decode cX5_office 101 = .ok (.aload_n 0, 1) := dk_42 (dk_at dksX5_office_4 10 rfl rfl)
theorem dX5_office_102 : decode cX5_office 102 = .ok (.iload_n 1, 1) := dk_27 (dk_at dksX5_office_4 11 rfl rfl)
theorem dX5_office_103 : decode cX5_office 103 = .ok (.bipush 24, 2) := dk_16 24 (dk_at dksX5_office_4 12 rfl rfl)
theorem dX5_office_105 : decode cX5_office 105 = .ok (.idiv, 1) := dk_108 (dk_at dksX5_office_4 14 rfl rfl)
theorem dX5_office_106 : decode cX5_office 106 = .ok (.iload_n 1, 1) := dk_27 (dk_at dksX5_office_4 15 rfl rfl)
theorem dX5_office_107 : decode cX5_office 107 = .ok (.bipush 24, 2) := dk_16 24 (dk_at dksX5_office_4 16 rfl rfl)
theorem dX5_office_109 : decode cX5_office 109 = .ok (.irem, 1) := dk_112 (dk_at dksX5_office_4 18 rfl rfl)
theorem dX5_office_110 : decode cX5_office 110 = .ok (.iload_n 2, 1) := dk_28 (dk_at dksX5_office_4 19 rfl rfl)
theorem dX5_office_111 : decode cX5_office 111 = .ok (.iload_n 3, 1) := dk_29 (dk_at dksX5_office_4 20 rfl rfl)
theorem dX5_office_112 : decode cX5_office 112 = .ok (.iload 4, 2) := dk_21 4 (dk_at dksX5_office_4 21 rfl rfl)
theorem dX5_office_114 : decode cX5_office 114 = .ok (.bipush 64, 2) := dk_16 64 (dk_at dksX5_office_5 0 rfl rfl)
theorem dX5_office_116 : decode cX5_office 116 = .ok (.idiv, 1) := dk_108 (dk_at dksX5_office_5 2 rfl rfl)
theorem dX5_office_117 : decode cX5_office 117 = .ok (.iload 4, 2) := dk_21 4 (dk_at dksX5_office_5 3 rfl rfl)
theorem dX5_office_119 : decode cX5_office 119 = .ok (.bipush 64, 2) := dk_16 64 (dk_at dksX5_office_5 5 rfl rfl)
theorem dX5_office_121 : decode cX5_office 121 = .ok (.irem, 1) := dk_112 (dk_at dksX5_office_5 7 rfl rfl)
theorem dX5_office_122 : decode cX5_office 122 = .ok (.invokevirtual 73, 3) := dk_182 0 73 (dk_at dksX5_office_5 8 rfl rfl)
theorem dX5_office_125 : decode cX5_office 125 = .ok (.aload_n 0, 1) := dk_42 (dk_at dksX5_office_5 11 rfl rfl)
theorem dX5_office_126 : decode cX5_office 126 = .ok (.getfield 22, 3) := dk_180 0 22 (dk_at dksX5_office_5 12 rfl rfl)
theorem dX5_office_129 : decode cX5_office 129 = .ok (.iconst 1, 1) := dk_4 (dk_at dksX5_office_5 15 rfl rfl)
theorem dX5_office_130 : decode cX5_office 130 = .ok (.isub, 1) := dk_100 (dk_at dksX5_office_5 16 rfl rfl)
theorem dX5_office_131 : decode cX5_office 131 = .ok (.ireturn, 1) := dk_172 (dk_at dksX5_office_5 17 rfl rfl)
def dkwX5_in_0 : List UInt8 := [30, 32, 148, 155, 0, 14, 30, 22, 4, 148, 157, 0, 7, 4, 167, 0, 4, 3, 172]
abbrev dktX5_in_0 : List UInt8 := dkwX5_in_0 ++ []
theorem dksX5_in_0 : cX5_in.data.toList.drop 0 = dktX5_in_0 := by decide +kernel
theorem dX5_in_0 : decode cX5_in 0 = .ok (.lload_n 0, 1) := dk_30 (dk_at dksX5_in_0 0 rfl rfl)
theorem dX5_in_1 : decode cX5_in 1 = .ok (.lload_n 2, 1) := dk_32 (dk_at dksX5_in_0 1 rfl rfl)
theorem dX5_in_2 : decode cX5_in 2 = .ok (.lcmp, 1) := dk_148 (dk_at dksX5_in_0 2 rfl rfl)
theorem dX5_in_3 : decode cX5_in 3 = .ok (.ifCond .lt 14, 3) := dk_155 0 14 (dk_at dksX5_in_0 3 rfl rfl)
theorem dX5_in_6 : decode cX5_in 6 = .ok (.lload_n 0, 1) := dk_30 (dk_at dksX5_in_0 6 rfl rfl)
theorem dX5_in_7 : decode cX5_in 7 = .ok (.lload 4, 2) := dk_22 4 (dk_at dksX5_in_0 7 rfl rfl)
theorem dX5_in_9 : decode cX5_in 9 = .ok (.lcmp, 1) := dk_148 (dk_at dksX5_in_0 9 rfl rfl)
theorem dX5_in_10 : decode cX5_in 10 = .ok (.ifCond .gt 7, 3) := dk_157 0 7 (dk_at dksX5_in_0 10 rfl rfl)
theorem dX5_in_13 : decode cX5_in 13 = .ok (.iconst 1, 1) := dk_4 (dk_at dksX5_in_0 13 rfl rfl)
theorem dX5_in_14 : decode cX5_in 14 = .ok (.goto 4, 3) := dk_167 0 4 (dk_at dksX5_in_0 14 rfl rfl)
theorem dX5_in_17 : decode cX5_in 17 = .ok (.iconst 0, 1) := dk_3 (dk_at dksX5_in_0 17 rfl rfl)
theorem dX5_in_18 : decode cX5_in 18 = .ok (.ireturn, 1) := dk_172 (dk_at dksX5_in_0 18 rfl rfl)
def dkwX5_opens_7 : List UInt8 := [180, 0, 22, 4, 96, 181, 0, 22, 177]
abbrev dktX5_opens_7 : List UInt8 := dkwX5_opens_7 ++ []
def dkwX5_opens_6 : List UInt8 := [132, 8, 1, 167, 255, 218, 42, 180, 0, 60, 16, 6, 21, 7, 104, 21, 7, 96, 16, 9, 79, 42, 89]
abbrev dktX5_opens_6 : List UInt8 := dkwX5_opens_6 ++ dktX5_opens_7
def dkwX5_opens_5 : List UInt8 := [21, 7, 104, 21, 8, 96, 3, 79, 42, 180, 0, 60, 16, 6, 21, 8, 104, 21, 7, 96, 3, 79]
abbrev dktX5_opens_5 : List UInt8 := dkwX5_opens_5 ++ dktX5_opens_6
def dkwX5_opens_4 : List UInt8 := [3, 84, 132, 8, 1, 167, 255, 232, 3, 54, 8, 21, 8, 16, 6, 162, 0, 37, 42, 180, 0, 60, 16, 6]
abbrev dktX5_opens_4 : List UInt8 := dkwX5_opens_4 ++ dktX5_opens_5
def dkwX5_opens_3 : List UInt8 := [3, 79, 3, 54, 8, 21, 8, 16, 100, 162, 0, 23, 42, 180, 0, 56, 16, 100, 21, 7, 104, 21, 8, 96]
abbrev dktX5_opens_3 : List UInt8 := dkwX5_opens_3 ++ dktX5_opens_4
def dkwX5_opens_2 : List UInt8 := [79, 42, 180, 0, 47, 21, 7, 21, 6, 79, 42, 180, 0, 50, 21, 7, 3, 79, 42, 180, 0, 53, 21, 7]
abbrev dktX5_opens_2 : List UInt8 := dkwX5_opens_2 ++ dktX5_opens_3
def dkwX5_opens_1 : List UInt8 := [180, 0, 38, 21, 7, 29, 79, 42, 180, 0, 41, 21, 7, 21, 4, 79, 42, 180, 0, 44, 21, 7, 21, 5]
abbrev dktX5_opens_1 : List UInt8 := dkwX5_opens_1 ++ dktX5_opens_2
def dkwX5_opens_0 : List UInt8 := [42, 180, 0, 22, 54, 7, 42, 180, 0, 31, 21, 7, 27, 79, 42, 180, 0, 35, 21, 7, 28, 79, 42]
abbrev dktX5_opens_0 : List UInt8 := dkwX5_opens_0 ++ dktX5_opens_1
theorem dksX5_opens_0 : cX5_opens.data.toList.drop 0 = dktX5_opens_0 := by decide +kernel
theorem dksX5_opens_1 : cX5_opens.data.toList.drop 23 = dktX5_opens_1 := dk_seg dksX5_opens_0 23 rfl rfl
theorem dksX5_opens_2 : cX5_opens.data.toList.drop 47 = dktX5_opens_2 := dk_seg dksX5_opens_1 24 rfl rfl
theorem dksX5_opens_3 : cX5_opens.data.toList.drop 71 = dktX5_opens_3 := dk_seg dksX5_opens_2 24 rfl rfl
theorem dksX5_opens_4 : cX5_opens.data.toList.drop 95 = dktX5_opens_4 := dk_seg dksX5_opens_3 24 rfl rfl
theorem dksX5_opens_5 : cX5_opens.data.toList.drop 119 = dktX5_opens_5 := dk_seg dksX5_opens_4 24 rfl rfl
theorem dksX5_opens_6 : cX5_opens.data.toList.drop 141 = dktX5_opens_6 := dk_seg dksX5_opens_5 22 rfl rfl
theorem dksX5_opens_7 : cX5_opens.data.toList.drop 164 = dktX5_opens_7 := dk_seg dksX5_opens_6 23 rfl rfl
theorem dX5_opens_0 : decode cX5_opens 0 = .ok (.aload_n 0, 1) := dk_42 (dk_at dksX5_opens_0 0 rfl rfl)
theorem dX5_opens_1 : decode cX5_opens 1 = .ok (.getfield 22, 3) := dk_180 0 22 (dk_at dksX5_opens_0 1 rfl rfl)
theorem dX5_opens_4 : decode cX5_opens 4 = .ok (.istore 7, 2) := dk_54 7 (dk_at dksX5_opens_0 4 rfl rfl)
theorem dX5_opens_6 : decode cX5_opens 6 = .ok (.aload_n 0, 1) := dk_42 (dk_at dksX5_opens_0 6 rfl rfl)
theorem dX5_opens_7 : decode cX5_opens 7 = .ok (.getfield 31, 3) := dk_180 0 31 (dk_at dksX5_opens_0 7 rfl rfl)
theorem dX5_opens_10 : decode cX5_opens 10 = .ok (.iload 7, 2) := dk_21 7 (dk_at dksX5_opens_0 10 rfl rfl)
theorem dX5_opens_12 : decode cX5_opens 12 = .ok (.iload_n 1, 1) := dk_27 (dk_at dksX5_opens_0 12 rfl rfl)
theorem dX5_opens_13 : decode cX5_opens 13 = .ok (.iastore, 1) := dk_79 (dk_at dksX5_opens_0 13 rfl rfl)
theorem dX5_opens_14 : decode cX5_opens 14 = .ok (.aload_n 0, 1) := dk_42 (dk_at dksX5_opens_0 14 rfl rfl)
theorem dX5_opens_15 : decode cX5_opens 15 = .ok (.getfield 35, 3) := dk_180 0 35 (dk_at dksX5_opens_0 15 rfl rfl)
theorem dX5_opens_18 : decode cX5_opens 18 = .ok (.iload 7, 2) := dk_21 7 (dk_at dksX5_opens_0 18 rfl rfl)
theorem dX5_opens_20 : decode cX5_opens 20 = .ok (.iload_n 2, 1) := dk_28 (dk_at dksX5_opens_0 20 rfl rfl)
theorem dX5_opens_21 : decode cX5_opens 21 = .ok (.iastore, 1) := dk_79 (dk_at dksX5_opens_0 21 rfl rfl)
theorem dX5_opens_22 : decode cX5_opens 22 = .ok (.aload_n 0, 1) := dk_42 (dk_at dksX5_opens_0 22 rfl rfl)
theorem dX5_opens_23 : decode cX5_opens 23 = .ok (.getfield 38, 3) := dk_180 0 38 (dk_at dksX5_opens_1 0 rfl rfl)
theorem dX5_opens_26 : decode cX5_opens 26 = .ok (.iload 7, 2) := dk_21 7 (dk_at dksX5_opens_1 3 rfl rfl)
theorem dX5_opens_28 : decode cX5_opens 28 = .ok (.iload_n 3, 1) := dk_29 (dk_at dksX5_opens_1 5 rfl rfl)
theorem dX5_opens_29 : decode cX5_opens 29 = .ok (.iastore, 1) := dk_79 (dk_at dksX5_opens_1 6 rfl rfl)
theorem dX5_opens_30 : decode cX5_opens 30 = .ok (.aload_n 0, 1) := dk_42 (dk_at dksX5_opens_1 7 rfl rfl)
theorem dX5_opens_31 : decode cX5_opens 31 = .ok (.getfield 41, 3) := dk_180 0 41 (dk_at dksX5_opens_1 8 rfl rfl)
theorem dX5_opens_34 : decode cX5_opens 34 = .ok (.iload 7, 2) := dk_21 7 (dk_at dksX5_opens_1 11 rfl rfl)
theorem dX5_opens_36 : decode cX5_opens 36 = .ok (.iload 4, 2) := dk_21 4 (dk_at dksX5_opens_1 13 rfl rfl)
theorem dX5_opens_38 : decode cX5_opens 38 = .ok (.iastore, 1) := dk_79 (dk_at dksX5_opens_1 15 rfl rfl)
theorem dX5_opens_39 : decode cX5_opens 39 = .ok (.aload_n 0, 1) := dk_42 (dk_at dksX5_opens_1 16 rfl rfl)
theorem dX5_opens_40 : decode cX5_opens 40 = .ok (.getfield 44, 3) := dk_180 0 44 (dk_at dksX5_opens_1 17 rfl rfl)
theorem dX5_opens_43 : decode cX5_opens 43 = .ok (.iload 7, 2) := dk_21 7 (dk_at dksX5_opens_1 20 rfl rfl)
theorem dX5_opens_45 : decode cX5_opens 45 = .ok (.iload 5, 2) := dk_21 5 (dk_at dksX5_opens_1 22 rfl rfl)
theorem dX5_opens_47 : decode cX5_opens 47 = .ok (.iastore, 1) := dk_79 (dk_at dksX5_opens_2 0 rfl rfl)
theorem dX5_opens_48 : decode cX5_opens 48 = .ok (.aload_n 0, 1) := dk_42 (dk_at dksX5_opens_2 1 rfl rfl)
theorem dX5_opens_49 : decode cX5_opens 49 = .ok (.getfield 47, 3) := dk_180 0 47 (dk_at dksX5_opens_2 2 rfl rfl)
theorem dX5_opens_52 : decode cX5_opens 52 = .ok (.iload 7, 2) := dk_21 7 (dk_at dksX5_opens_2 5 rfl rfl)
theorem dX5_opens_54 : decode cX5_opens 54 = .ok (.iload 6, 2) := dk_21 6 (dk_at dksX5_opens_2 7 rfl rfl)
theorem dX5_opens_56 : decode cX5_opens 56 = .ok (.iastore, 1) := dk_79 (dk_at dksX5_opens_2 9 rfl rfl)
theorem dX5_opens_57 : decode cX5_opens 57 = .ok (.aload_n 0, 1) := dk_42 (dk_at dksX5_opens_2 10 rfl rfl)
theorem dX5_opens_58 : decode cX5_opens 58 = .ok (.getfield 50, 3) := dk_180 0 50 (dk_at dksX5_opens_2 11 rfl rfl)
theorem dX5_opens_61 : decode cX5_opens 61 = .ok (.iload 7, 2) := dk_21 7 (dk_at dksX5_opens_2 14 rfl rfl)
theorem dX5_opens_63 : decode cX5_opens 63 = .ok (.iconst 0, 1) := dk_3 (dk_at dksX5_opens_2 16 rfl rfl)
theorem dX5_opens_64 : decode cX5_opens 64 = .ok (.iastore, 1) := dk_79 (dk_at dksX5_opens_2 17 rfl rfl)
theorem dX5_opens_65 : decode cX5_opens 65 = .ok (.aload_n 0, 1) := dk_42 (dk_at dksX5_opens_2 18 rfl rfl)
theorem dX5_opens_66 : decode cX5_opens 66 = .ok (.getfield 53, 3) := dk_180 0 53 (dk_at dksX5_opens_2 19 rfl rfl)
theorem dX5_opens_69 : decode cX5_opens 69 = .ok (.iload 7, 2) := dk_21 7 (dk_at dksX5_opens_2 22 rfl rfl)
theorem dX5_opens_71 : decode cX5_opens 71 = .ok (.iconst 0, 1) := dk_3 (dk_at dksX5_opens_3 0 rfl rfl)
theorem dX5_opens_72 : decode cX5_opens 72 = .ok (.iastore, 1) := dk_79 (dk_at dksX5_opens_3 1 rfl rfl)
theorem dX5_opens_73 : decode cX5_opens 73 = .ok (.iconst 0, 1) := dk_3 (dk_at dksX5_opens_3 2 rfl rfl)
theorem dX5_opens_74 : decode cX5_opens 74 = .ok (.istore 8, 2) := dk_54 8 (dk_at dksX5_opens_3 3 rfl rfl)
theorem dX5_opens_76 : decode cX5_opens 76 = .ok (.iload 8, 2) := dk_21 8 (dk_at dksX5_opens_3 5 rfl rfl)
theorem dX5_opens_78 : decode cX5_opens 78 = .ok (.bipush 100, 2) := dk_16 100 (dk_at dksX5_opens_3 7 rfl rfl)
theorem dX5_opens_80 : decode cX5_opens 80 = .ok (.if_icmp .ge 23, 3) := dk_162 0 23 (dk_at dksX5_opens_3 9 rfl rfl)
theorem dX5_opens_83 : decode cX5_opens 83 = .ok (.aload_n 0, 1) := dk_42 (dk_at dksX5_opens_3 12 rfl rfl)
theorem dX5_opens_84 : decode cX5_opens 84 = .ok (.getfield 56, 3) := dk_180 0 56 (dk_at dksX5_opens_3 13 rfl rfl)
theorem dX5_opens_87 : decode cX5_opens 87 = .ok (.bipush 100, 2) := dk_16 100 (dk_at dksX5_opens_3 16 rfl rfl)
theorem dX5_opens_89 : decode cX5_opens 89 = .ok (.iload 7, 2) := dk_21 7 (dk_at dksX5_opens_3 18 rfl rfl)
theorem dX5_opens_91 : decode cX5_opens 91 = .ok (.imul, 1) := dk_104 (dk_at dksX5_opens_3 20 rfl rfl)
theorem dX5_opens_92 : decode cX5_opens 92 = .ok (.iload 8, 2) := dk_21 8 (dk_at dksX5_opens_3 21 rfl rfl)
theorem dX5_opens_94 : decode cX5_opens 94 = .ok (.iadd, 1) := dk_96 (dk_at dksX5_opens_3 23 rfl rfl)
theorem dX5_opens_95 : decode cX5_opens 95 = .ok (.iconst 0, 1) := dk_3 (dk_at dksX5_opens_4 0 rfl rfl)
theorem dX5_opens_96 : decode cX5_opens 96 = .ok (.bastore, 1) := dk_84 (dk_at dksX5_opens_4 1 rfl rfl)
theorem dX5_opens_97 : decode cX5_opens 97 = .ok (.iinc 8 1, 3) := dk_132 8 1 (dk_at dksX5_opens_4 2 rfl rfl)
theorem dX5_opens_100 : decode cX5_opens 100 = .ok (.goto (-24), 3) := dk_167 255 232 (dk_at dksX5_opens_4 5 rfl rfl)
theorem dX5_opens_103 : decode cX5_opens 103 = .ok (.iconst 0, 1) := dk_3 (dk_at dksX5_opens_4 8 rfl rfl)
theorem dX5_opens_104 : decode cX5_opens 104 = .ok (.istore 8, 2) := dk_54 8 (dk_at dksX5_opens_4 9 rfl rfl)
theorem dX5_opens_106 : decode cX5_opens 106 = .ok (.iload 8, 2) := dk_21 8 (dk_at dksX5_opens_4 11 rfl rfl)
theorem dX5_opens_108 : decode cX5_opens 108 = .ok (.bipush 6, 2) := dk_16 6 (dk_at dksX5_opens_4 13 rfl rfl)
theorem dX5_opens_110 : decode cX5_opens 110 = .ok (.if_icmp .ge 37, 3) := dk_162 0 37 (dk_at dksX5_opens_4 15 rfl rfl)
theorem dX5_opens_113 : decode cX5_opens 113 = .ok (.aload_n 0, 1) := dk_42 (dk_at dksX5_opens_4 18 rfl rfl)
theorem dX5_opens_114 : decode cX5_opens 114 = .ok (.getfield 60, 3) := dk_180 0 60 (dk_at dksX5_opens_4 19 rfl rfl)
theorem dX5_opens_117 : decode cX5_opens 117 = .ok (.bipush 6, 2) := dk_16 6 (dk_at dksX5_opens_4 22 rfl rfl)
theorem dX5_opens_119 : decode cX5_opens 119 = .ok (.iload 7, 2) := dk_21 7 (dk_at dksX5_opens_5 0 rfl rfl)
theorem dX5_opens_121 : decode cX5_opens 121 = .ok (.imul, 1) := dk_104 (dk_at dksX5_opens_5 2 rfl rfl)
theorem dX5_opens_122 : decode cX5_opens 122 = .ok (.iload 8, 2) := dk_21 8 (dk_at dksX5_opens_5 3 rfl rfl)
theorem dX5_opens_124 : decode cX5_opens 124 = .ok (.iadd, 1) := dk_96 (dk_at dksX5_opens_5 5 rfl rfl)
theorem dX5_opens_125 : decode cX5_opens 125 = .ok (.iconst 0, 1) := dk_3 (dk_at dksX5_opens_5 6 rfl rfl)
theorem dX5_opens_126 : decode cX5_opens 126 = .ok (.iastore, 1) := dk_79 (dk_at dksX5_opens_5 7 rfl rfl)
theorem dX5_opens_127 : decode cX5_opens 127 = .ok (.aload_n 0, 1) := dk_42 (dk_at dksX5_opens_5 8 rfl rfl)
theorem dX5_opens_128 : decode cX5_opens 128 = .ok (.getfield 60, 3) := dk_180 0 60 (dk_at dksX5_opens_5 9 rfl rfl)
theorem dX5_opens_131 : decode cX5_opens 131 = .ok (.bipush 6, 2) := dk_16 6 (dk_at dksX5_opens_5 12 rfl rfl)
theorem dX5_opens_133 : decode cX5_opens 133 = .ok (.iload 8, 2) := dk_21 8 (dk_at dksX5_opens_5 14 rfl rfl)
theorem dX5_opens_135 : decode cX5_opens 135 = .ok (.imul, 1) := dk_104 (dk_at dksX5_opens_5 16 rfl rfl)
theorem dX5_opens_136 : decode cX5_opens 136 = .ok (.iload 7, 2) := dk_21 7 (dk_at dksX5_opens_5 17 rfl rfl)
theorem dX5_opens_138 : decode cX5_opens 138 = .ok (.iadd, 1) := dk_96 (dk_at dksX5_opens_5 19 rfl rfl)
theorem dX5_opens_139 : decode cX5_opens 139 = .ok (.iconst 0, 1) := dk_3 (dk_at dksX5_opens_5 20 rfl rfl)
theorem dX5_opens_140 : decode cX5_opens 140 = .ok (.iastore, 1) := dk_79 (dk_at dksX5_opens_5 21 rfl rfl)
theorem dX5_opens_141 : decode cX5_opens 141 = .ok (.iinc 8 1, 3) := dk_132 8 1 (dk_at dksX5_opens_6 0 rfl rfl)
theorem dX5_opens_144 : decode cX5_opens 144 = .ok (.goto (-38), 3) := dk_167 255 218 (dk_at dksX5_opens_6 3 rfl rfl)
theorem dX5_opens_147 : decode cX5_opens 147 = .ok (.aload_n 0, 1) := dk_42 (dk_at dksX5_opens_6 6 rfl rfl)
theorem dX5_opens_148 : decode cX5_opens 148 = .ok (.getfield 60, 3) := dk_180 0 60 (dk_at dksX5_opens_6 7 rfl rfl)
theorem dX5_opens_151 : decode cX5_opens 151 = .ok (.bipush 6, 2) := dk_16 6 (dk_at dksX5_opens_6 10 rfl rfl)
theorem dX5_opens_153 : decode cX5_opens 153 = .ok (.iload 7, 2) := dk_21 7 (dk_at dksX5_opens_6 12 rfl rfl)
theorem dX5_opens_155 : decode cX5_opens 155 = .ok (.imul, 1) := dk_104 (dk_at dksX5_opens_6 14 rfl rfl)
theorem dX5_opens_156 : decode cX5_opens 156 = .ok (.iload 7, 2) := dk_21 7 (dk_at dksX5_opens_6 15 rfl rfl)
theorem dX5_opens_158 : decode cX5_opens 158 = .ok (.iadd, 1) := dk_96 (dk_at dksX5_opens_6 17 rfl rfl)
theorem dX5_opens_159 : decode cX5_opens 159 = .ok (.bipush 9, 2) := dk_16 9 (dk_at dksX5_opens_6 18 rfl rfl)
theorem dX5_opens_161 : decode cX5_opens 161 = .ok (.iastore, 1) := dk_79 (dk_at dksX5_opens_6 20 rfl rfl)
theorem dX5_opens_162 : decode cX5_opens 162 = .ok (.aload_n 0, 1) := dk_42 (dk_at dksX5_opens_6 21 rfl rfl)
theorem dX5_opens_163 : decode cX5_opens 163 = .ok (.dup, 1) := dk_89 (dk_at dksX5_opens_6 22 rfl rfl)
theorem dX5_opens_164 : decode cX5_opens 164 = .ok (.getfield 22, 3) := dk_180 0 22 (dk_at dksX5_opens_7 0 rfl rfl)
theorem dX5_opens_167 : decode cX5_opens 167 = .ok (.iconst 1, 1) := dk_4 (dk_at dksX5_opens_7 3 rfl rfl)
theorem dX5_opens_168 : decode cX5_opens 168 = .ok (.iadd, 1) := dk_96 (dk_at dksX5_opens_7 4 rfl rfl)
theorem dX5_opens_169 : decode cX5_opens 169 = .ok (.putfield 22, 3) := dk_181 0 22 (dk_at dksX5_opens_7 5 rfl rfl)
theorem dX5_opens_172 : decode cX5_opens 172 = .ok (.return_, 1) := dk_177 (dk_at dksX5_opens_7 8 rfl rfl)
def dkwX5_clock_2 : List UInt8 := [29, 79, 4, 172]
abbrev dktX5_clock_2 : List UInt8 := dkwX5_clock_2 ++ []
def dkwX5_clock_1 : List UInt8 := [20, 0, 84, 10, 184, 0, 25, 154, 0, 5, 3, 172, 42, 180, 0, 50, 27, 28, 79, 42, 180, 0, 53, 27]
abbrev dktX5_clock_1 : List UInt8 := dkwX5_clock_1 ++ dktX5_clock_2
def dkwX5_clock_0 : List UInt8 := [42, 3, 181, 0, 3, 42, 27, 182, 0, 77, 153, 0, 22, 28, 184, 0, 81, 153, 0, 15, 29, 133]
abbrev dktX5_clock_0 : List UInt8 := dkwX5_clock_0 ++ dktX5_clock_1
theorem dksX5_clock_0 : cX5_clock.data.toList.drop 0 = dktX5_clock_0 := by decide +kernel
theorem dksX5_clock_1 : cX5_clock.data.toList.drop 22 = dktX5_clock_1 := dk_seg dksX5_clock_0 22 rfl rfl
theorem dksX5_clock_2 : cX5_clock.data.toList.drop 46 = dktX5_clock_2 := dk_seg dksX5_clock_1 24 rfl rfl
theorem dX5_clock_0 : decode cX5_clock 0 = .ok (.aload_n 0, 1) := dk_42 (dk_at dksX5_clock_0 0 rfl rfl)
theorem dX5_clock_1 : decode cX5_clock 1 = .ok (.iconst 0, 1) := dk_3 (dk_at dksX5_clock_0 1 rfl rfl)
theorem dX5_clock_2 : decode cX5_clock 2 = .ok (.putfield 3, 3) := dk_181 0 3 (dk_at dksX5_clock_0 2 rfl rfl)
theorem dX5_clock_5 : decode cX5_clock 5 = .ok (.aload_n 0, 1) := dk_42 (dk_at dksX5_clock_0 5 rfl rfl)
theorem dX5_clock_6 : decode cX5_clock 6 = .ok (.iload_n 1, 1) := dk_27 (dk_at dksX5_clock_0 6 rfl rfl)
theorem dX5_clock_7 : decode cX5_clock 7 = .ok (.invokevirtual 77, 3) := dk_182 0 77 (dk_at dksX5_clock_0 7 rfl rfl)
theorem dX5_clock_10 : decode cX5_clock 10 = .ok (.ifCond .eq 22, 3) := dk_153 0 22 (dk_at dksX5_clock_0 10 rfl rfl)
theorem dX5_clock_13 : decode cX5_clock 13 = .ok (.iload_n 2, 1) := dk_28 (dk_at dksX5_clock_0 13 rfl rfl)
theorem dX5_clock_14 : decode cX5_clock 14 = .ok (.invokestatic 81, 3) := dk_184 0 81 (dk_at dksX5_clock_0 14 rfl rfl)
theorem dX5_clock_17 : decode cX5_clock 17 = .ok (.ifCond .eq 15, 3) := dk_153 0 15 (dk_at dksX5_clock_0 17 rfl rfl)
theorem dX5_clock_20 : decode cX5_clock 20 = .ok (.iload_n 3, 1) := dk_29 (dk_at dksX5_clock_0 20 rfl rfl)
theorem dX5_clock_21 : decode cX5_clock 21 = .ok (.i2l, 1) := dk_133 (dk_at dksX5_clock_0 21 rfl rfl)
theorem dX5_clock_22 : decode cX5_clock 22 = .ok (.ldc2_w 84, 3) := dk_20 0 84 (dk_at dksX5_clock_1 0 rfl rfl)
theorem dX5_clock_25 : decode cX5_clock 25 = .ok (.lconst 1, 1) := dk_10 (dk_at dksX5_clock_1 3 rfl rfl)
theorem dX5_clock_26 : decode cX5_clock 26 = .ok (.invokestatic 25, 3) := dk_184 0 25 (dk_at dksX5_clock_1 4 rfl rfl)
theorem dX5_clock_29 : decode cX5_clock 29 = .ok (.ifCond .ne 5, 3) := dk_154 0 5 (dk_at dksX5_clock_1 7 rfl rfl)
theorem dX5_clock_32 : decode cX5_clock 32 = .ok (.iconst 0, 1) := dk_3 (dk_at dksX5_clock_1 10 rfl rfl)
theorem dX5_clock_33 : decode cX5_clock 33 = .ok (.ireturn, 1) := dk_172 (dk_at dksX5_clock_1 11 rfl rfl)
theorem dX5_clock_34 : decode cX5_clock 34 = .ok (.aload_n 0, 1) := dk_42 (dk_at dksX5_clock_1 12 rfl rfl)
theorem dX5_clock_35 : decode cX5_clock 35 = .ok (.getfield 50, 3) := dk_180 0 50 (dk_at dksX5_clock_1 13 rfl rfl)
theorem dX5_clock_38 : decode cX5_clock 38 = .ok (.iload_n 1, 1) := dk_27 (dk_at dksX5_clock_1 16 rfl rfl)
theorem dX5_clock_39 : decode cX5_clock 39 = .ok (.iload_n 2, 1) := dk_28 (dk_at dksX5_clock_1 17 rfl rfl)
theorem dX5_clock_40 : decode cX5_clock 40 = .ok (.iastore, 1) := dk_79 (dk_at dksX5_clock_1 18 rfl rfl)
theorem dX5_clock_41 : decode cX5_clock 41 = .ok (.aload_n 0, 1) := dk_42 (dk_at dksX5_clock_1 19 rfl rfl)
theorem dX5_clock_42 : decode cX5_clock 42 = .ok (.getfield 53, 3) := dk_180 0 53 (dk_at dksX5_clock_1 20 rfl rfl)
theorem dX5_clock_45 : decode cX5_clock 45 = .ok (.iload_n 1, 1) := dk_27 (dk_at dksX5_clock_1 23 rfl rfl)
theorem dX5_clock_46 : decode cX5_clock 46 = .ok (.iload_n 3, 1) := dk_29 (dk_at dksX5_clock_2 0 rfl rfl)
theorem dX5_clock_47 : decode cX5_clock 47 = .ok (.iastore, 1) := dk_79 (dk_at dksX5_clock_2 1 rfl rfl)
theorem dX5_clock_48 : decode cX5_clock 48 = .ok (.iconst 1, 1) := dk_4 (dk_at dksX5_clock_2 2 rfl rfl)
theorem dX5_clock_49 : decode cX5_clock 49 = .ok (.ireturn, 1) := dk_172 (dk_at dksX5_clock_2 3 rfl rfl)
def dkwX5_isOffice_0 : List UInt8 := [27, 133, 9, 42, 180, 0, 22, 4, 100, 133, 184, 0, 25, 172]
abbrev dktX5_isOffice_0 : List UInt8 := dkwX5_isOffice_0 ++ []
theorem dksX5_isOffice_0 : cX5_isOffice.data.toList.drop 0 = dktX5_isOffice_0 := by decide +kernel
theorem dX5_isOffice_0 : decode cX5_isOffice 0 = .ok (.iload_n 1, 1) := dk_27 (dk_at dksX5_isOffice_0 0 rfl rfl)
theorem dX5_isOffice_1 : decode cX5_isOffice 1 = .ok (.i2l, 1) := dk_133 (dk_at dksX5_isOffice_0 1 rfl rfl)
theorem dX5_isOffice_2 : decode cX5_isOffice 2 = .ok (.lconst 0, 1) := dk_9 (dk_at dksX5_isOffice_0 2 rfl rfl)
theorem dX5_isOffice_3 : decode cX5_isOffice 3 = .ok (.aload_n 0, 1) := dk_42 (dk_at dksX5_isOffice_0 3 rfl rfl)
theorem dX5_isOffice_4 : decode cX5_isOffice 4 = .ok (.getfield 22, 3) := dk_180 0 22 (dk_at dksX5_isOffice_0 4 rfl rfl)
theorem dX5_isOffice_7 : decode cX5_isOffice 7 = .ok (.iconst 1, 1) := dk_4 (dk_at dksX5_isOffice_0 7 rfl rfl)
theorem dX5_isOffice_8 : decode cX5_isOffice 8 = .ok (.isub, 1) := dk_100 (dk_at dksX5_isOffice_0 8 rfl rfl)
theorem dX5_isOffice_9 : decode cX5_isOffice 9 = .ok (.i2l, 1) := dk_133 (dk_at dksX5_isOffice_0 9 rfl rfl)
theorem dX5_isOffice_10 : decode cX5_isOffice 10 = .ok (.invokestatic 25, 3) := dk_184 0 25 (dk_at dksX5_isOffice_0 10 rfl rfl)
theorem dX5_isOffice_13 : decode cX5_isOffice 13 = .ok (.ireturn, 1) := dk_172 (dk_at dksX5_isOffice_0 13 rfl rfl)
def dkwX5_isHour_0 : List UInt8 := [26, 133, 9, 20, 0, 29, 184, 0, 25, 172]
abbrev dktX5_isHour_0 : List UInt8 := dkwX5_isHour_0 ++ []
theorem dksX5_isHour_0 : cX5_isHour.data.toList.drop 0 = dktX5_isHour_0 := by decide +kernel
theorem dX5_isHour_0 : decode cX5_isHour 0 = .ok (.iload_n 0, 1) := dk_26 (dk_at dksX5_isHour_0 0 rfl rfl)
theorem dX5_isHour_1 : decode cX5_isHour 1 = .ok (.i2l, 1) := dk_133 (dk_at dksX5_isHour_0 1 rfl rfl)
theorem dX5_isHour_2 : decode cX5_isHour 2 = .ok (.lconst 0, 1) := dk_9 (dk_at dksX5_isHour_0 2 rfl rfl)
theorem dX5_isHour_3 : decode cX5_isHour 3 = .ok (.ldc2_w 29, 3) := dk_20 0 29 (dk_at dksX5_isHour_0 3 rfl rfl)
theorem dX5_isHour_6 : decode cX5_isHour 6 = .ok (.invokestatic 25, 3) := dk_184 0 25 (dk_at dksX5_isHour_0 6 rfl rfl)
theorem dX5_isHour_9 : decode cX5_isHour 9 = .ok (.ireturn, 1) := dk_172 (dk_at dksX5_isHour_0 9 rfl rfl)
def dkwX5_feast_1 : List UInt8 := [180, 0, 56, 16, 100, 27, 104, 28, 96, 29, 84, 4, 172]
abbrev dktX5_feast_1 : List UInt8 := dkwX5_feast_1 ++ []
def dkwX5_feast_0 : List UInt8 := [42, 3, 181, 0, 3, 42, 27, 182, 0, 77, 153, 0, 10, 28, 184, 0, 86, 154, 0, 5, 3, 172, 42]
abbrev dktX5_feast_0 : List UInt8 := dkwX5_feast_0 ++ dktX5_feast_1
theorem dksX5_feast_0 : cX5_feast.data.toList.drop 0 = dktX5_feast_0 := by decide +kernel
theorem dksX5_feast_1 : cX5_feast.data.toList.drop 23 = dktX5_feast_1 := dk_seg dksX5_feast_0 23 rfl rfl
theorem dX5_feast_0 : decode cX5_feast 0 = .ok (.aload_n 0, 1) := dk_42 (dk_at dksX5_feast_0 0 rfl rfl)
theorem dX5_feast_1 : decode cX5_feast 1 = .ok (.iconst 0, 1) := dk_3 (dk_at dksX5_feast_0 1 rfl rfl)
theorem dX5_feast_2 : decode cX5_feast 2 = .ok (.putfield 3, 3) := dk_181 0 3 (dk_at dksX5_feast_0 2 rfl rfl)
theorem dX5_feast_5 : decode cX5_feast 5 = .ok (.aload_n 0, 1) := dk_42 (dk_at dksX5_feast_0 5 rfl rfl)
theorem dX5_feast_6 : decode cX5_feast 6 = .ok (.iload_n 1, 1) := dk_27 (dk_at dksX5_feast_0 6 rfl rfl)
theorem dX5_feast_7 : decode cX5_feast 7 = .ok (.invokevirtual 77, 3) := dk_182 0 77 (dk_at dksX5_feast_0 7 rfl rfl)
theorem dX5_feast_10 : decode cX5_feast 10 = .ok (.ifCond .eq 10, 3) := dk_153 0 10 (dk_at dksX5_feast_0 10 rfl rfl)
theorem dX5_feast_13 : decode cX5_feast 13 = .ok (.iload_n 2, 1) := dk_28 (dk_at dksX5_feast_0 13 rfl rfl)
theorem dX5_feast_14 : decode cX5_feast 14 = .ok (.invokestatic 86, 3) := dk_184 0 86 (dk_at dksX5_feast_0 14 rfl rfl)
theorem dX5_feast_17 : decode cX5_feast 17 = .ok (.ifCond .ne 5, 3) := dk_154 0 5 (dk_at dksX5_feast_0 17 rfl rfl)
theorem dX5_feast_20 : decode cX5_feast 20 = .ok (.iconst 0, 1) := dk_3 (dk_at dksX5_feast_0 20 rfl rfl)
theorem dX5_feast_21 : decode cX5_feast 21 = .ok (.ireturn, 1) := dk_172 (dk_at dksX5_feast_0 21 rfl rfl)
theorem dX5_feast_22 : decode cX5_feast 22 = .ok (.aload_n 0, 1) := dk_42 (dk_at dksX5_feast_0 22 rfl rfl)
theorem dX5_feast_23 : decode cX5_feast 23 = .ok (.getfield 56, 3) := dk_180 0 56 (dk_at dksX5_feast_1 0 rfl rfl)
theorem dX5_feast_26 : decode cX5_feast 26 = .ok (.bipush 100, 2) := dk_16 100 (dk_at dksX5_feast_1 3 rfl rfl)
theorem dX5_feast_28 : decode cX5_feast 28 = .ok (.iload_n 1, 1) := dk_27 (dk_at dksX5_feast_1 5 rfl rfl)
theorem dX5_feast_29 : decode cX5_feast 29 = .ok (.imul, 1) := dk_104 (dk_at dksX5_feast_1 6 rfl rfl)
theorem dX5_feast_30 : decode cX5_feast 30 = .ok (.iload_n 2, 1) := dk_28 (dk_at dksX5_feast_1 7 rfl rfl)
theorem dX5_feast_31 : decode cX5_feast 31 = .ok (.iadd, 1) := dk_96 (dk_at dksX5_feast_1 8 rfl rfl)
theorem dX5_feast_32 : decode cX5_feast 32 = .ok (.iload_n 3, 1) := dk_29 (dk_at dksX5_feast_1 9 rfl rfl)
theorem dX5_feast_33 : decode cX5_feast 33 = .ok (.bastore, 1) := dk_84 (dk_at dksX5_feast_1 10 rfl rfl)
theorem dX5_feast_34 : decode cX5_feast 34 = .ok (.iconst 1, 1) := dk_4 (dk_at dksX5_feast_1 11 rfl rfl)
theorem dX5_feast_35 : decode cX5_feast 35 = .ok (.ireturn, 1) := dk_172 (dk_at dksX5_feast_1 12 rfl rfl)
def dkwX5_isDay_0 : List UInt8 := [26, 133, 9, 20, 0, 67, 184, 0, 25, 172]
abbrev dktX5_isDay_0 : List UInt8 := dkwX5_isDay_0 ++ []
theorem dksX5_isDay_0 : cX5_isDay.data.toList.drop 0 = dktX5_isDay_0 := by decide +kernel
theorem dX5_isDay_0 : decode cX5_isDay 0 = .ok (.iload_n 0, 1) := dk_26 (dk_at dksX5_isDay_0 0 rfl rfl)
theorem dX5_isDay_1 : decode cX5_isDay 1 = .ok (.i2l, 1) := dk_133 (dk_at dksX5_isDay_0 1 rfl rfl)
theorem dX5_isDay_2 : decode cX5_isDay 2 = .ok (.lconst 0, 1) := dk_9 (dk_at dksX5_isDay_0 2 rfl rfl)
theorem dX5_isDay_3 : decode cX5_isDay 3 = .ok (.ldc2_w 67, 3) := dk_20 0 67 (dk_at dksX5_isDay_0 3 rfl rfl)
theorem dX5_isDay_6 : decode cX5_isDay 6 = .ok (.invokestatic 25, 3) := dk_184 0 25 (dk_at dksX5_isDay_0 6 rfl rfl)
theorem dX5_isDay_9 : decode cX5_isDay 9 = .ok (.ireturn, 1) := dk_172 (dk_at dksX5_isDay_0 9 rfl rfl)
def dkwX5_know_2 : List UInt8 := [104, 28, 96, 46, 54, 4, 42, 27, 28, 29, 182, 0, 89, 21, 4, 172]
abbrev dktX5_know_2 : List UInt8 := dkwX5_know_2 ++ []
def dkwX5_know_1 : List UInt8 := [159, 0, 15, 29, 133, 9, 20, 0, 69, 184, 0, 25, 154, 0, 5, 2, 172, 42, 180, 0, 60, 16, 6, 27]
abbrev dktX5_know_1 : List UInt8 := dkwX5_know_1 ++ dktX5_know_2
def dkwX5_know_0 : List UInt8 := [42, 3, 181, 0, 3, 42, 27, 182, 0, 77, 153, 0, 28, 42, 28, 182, 0, 77, 153, 0, 20, 27, 28]
abbrev dktX5_know_0 : List UInt8 := dkwX5_know_0 ++ dktX5_know_1
theorem dksX5_know_0 : cX5_know.data.toList.drop 0 = dktX5_know_0 := by decide +kernel
theorem dksX5_know_1 : cX5_know.data.toList.drop 23 = dktX5_know_1 := dk_seg dksX5_know_0 23 rfl rfl
theorem dksX5_know_2 : cX5_know.data.toList.drop 47 = dktX5_know_2 := dk_seg dksX5_know_1 24 rfl rfl
theorem dX5_know_0 : decode cX5_know 0 = .ok (.aload_n 0, 1) := dk_42 (dk_at dksX5_know_0 0 rfl rfl)
theorem dX5_know_1 : decode cX5_know 1 = .ok (.iconst 0, 1) := dk_3 (dk_at dksX5_know_0 1 rfl rfl)
theorem dX5_know_2 : decode cX5_know 2 = .ok (.putfield 3, 3) := dk_181 0 3 (dk_at dksX5_know_0 2 rfl rfl)
theorem dX5_know_5 : decode cX5_know 5 = .ok (.aload_n 0, 1) := dk_42 (dk_at dksX5_know_0 5 rfl rfl)
theorem dX5_know_6 : decode cX5_know 6 = .ok (.iload_n 1, 1) := dk_27 (dk_at dksX5_know_0 6 rfl rfl)
theorem dX5_know_7 : decode cX5_know 7 = .ok (.invokevirtual 77, 3) := dk_182 0 77 (dk_at dksX5_know_0 7 rfl rfl)
theorem dX5_know_10 : decode cX5_know 10 = .ok (.ifCond .eq 28, 3) := dk_153 0 28 (dk_at dksX5_know_0 10 rfl rfl)
theorem dX5_know_13 : decode cX5_know 13 = .ok (.aload_n 0, 1) := dk_42 (dk_at dksX5_know_0 13 rfl rfl)
theorem dX5_know_14 : decode cX5_know 14 = .ok (.iload_n 2, 1) := dk_28 (dk_at dksX5_know_0 14 rfl rfl)
theorem dX5_know_15 : decode cX5_know 15 = .ok (.invokevirtual 77, 3) := dk_182 0 77 (dk_at dksX5_know_0 15 rfl rfl)
theorem dX5_know_18 : decode cX5_know 18 = .ok (.ifCond .eq 20, 3) := dk_153 0 20 (dk_at dksX5_know_0 18 rfl rfl)
theorem dX5_know_21 : decode cX5_know 21 = .ok (.iload_n 1, 1) := dk_27 (dk_at dksX5_know_0 21 rfl rfl)
theorem dX5_know_22 : decode cX5_know 22 = .ok (.iload_n 2, 1) := dk_28 (dk_at dksX5_know_0 22 rfl rfl)
theorem dX5_know_23 : decode cX5_know 23 = .ok (.if_icmp .eq 15, 3) := dk_159 0 15 (dk_at dksX5_know_1 0 rfl rfl)
theorem dX5_know_26 : decode cX5_know 26 = .ok (.iload_n 3, 1) := dk_29 (dk_at dksX5_know_1 3 rfl rfl)
theorem dX5_know_27 : decode cX5_know 27 = .ok (.i2l, 1) := dk_133 (dk_at dksX5_know_1 4 rfl rfl)
theorem dX5_know_28 : decode cX5_know 28 = .ok (.lconst 0, 1) := dk_9 (dk_at dksX5_know_1 5 rfl rfl)
theorem dX5_know_29 : decode cX5_know 29 = .ok (.ldc2_w 69, 3) := dk_20 0 69 (dk_at dksX5_know_1 6 rfl rfl)
theorem dX5_know_32 : decode cX5_know 32 = .ok (.invokestatic 25, 3) := dk_184 0 25 (dk_at dksX5_know_1 9 rfl rfl)
theorem dX5_know_35 : decode cX5_know 35 = .ok (.ifCond .ne 5, 3) := dk_154 0 5 (dk_at dksX5_know_1 12 rfl rfl)
theorem dX5_know_38 : decode cX5_know 38 = .ok (.iconst (-1), 1) := dk_2 (dk_at dksX5_know_1 15 rfl rfl)
theorem dX5_know_39 : decode cX5_know 39 = .ok (.ireturn, 1) := dk_172 (dk_at dksX5_know_1 16 rfl rfl)
theorem dX5_know_40 : decode cX5_know 40 = .ok (.aload_n 0, 1) := dk_42 (dk_at dksX5_know_1 17 rfl rfl)
theorem dX5_know_41 : decode cX5_know 41 = .ok (.getfield 60, 3) := dk_180 0 60 (dk_at dksX5_know_1 18 rfl rfl)
theorem dX5_know_44 : decode cX5_know 44 = .ok (.bipush 6, 2) := dk_16 6 (dk_at dksX5_know_1 21 rfl rfl)
theorem dX5_know_46 : decode cX5_know 46 = .ok (.iload_n 1, 1) := dk_27 (dk_at dksX5_know_1 23 rfl rfl)
theorem dX5_know_47 : decode cX5_know 47 = .ok (.imul, 1) := dk_104 (dk_at dksX5_know_2 0 rfl rfl)
theorem dX5_know_48 : decode cX5_know 48 = .ok (.iload_n 2, 1) := dk_28 (dk_at dksX5_know_2 1 rfl rfl)
theorem dX5_know_49 : decode cX5_know 49 = .ok (.iadd, 1) := dk_96 (dk_at dksX5_know_2 2 rfl rfl)
theorem dX5_know_50 : decode cX5_know 50 = .ok (.iaload, 1) := dk_46 (dk_at dksX5_know_2 3 rfl rfl)
theorem dX5_know_51 : decode cX5_know 51 = .ok (.istore 4, 2) := dk_54 4 (dk_at dksX5_know_2 4 rfl rfl)
theorem dX5_know_53 : decode cX5_know 53 = .ok (.aload_n 0, 1) := dk_42 (dk_at dksX5_know_2 6 rfl rfl)
theorem dX5_know_54 : decode cX5_know 54 = .ok (.iload_n 1, 1) := dk_27 (dk_at dksX5_know_2 7 rfl rfl)
theorem dX5_know_55 : decode cX5_know 55 = .ok (.iload_n 2, 1) := dk_28 (dk_at dksX5_know_2 8 rfl rfl)
theorem dX5_know_56 : decode cX5_know 56 = .ok (.iload_n 3, 1) := dk_29 (dk_at dksX5_know_2 9 rfl rfl)
theorem dX5_know_57 : decode cX5_know 57 = .ok (.invokevirtual 89, 3) := dk_182 0 89 (dk_at dksX5_know_2 10 rfl rfl)
theorem dX5_know_60 : decode cX5_know 60 = .ok (.iload 4, 2) := dk_21 4 (dk_at dksX5_know_2 13 rfl rfl)
theorem dX5_know_62 : decode cX5_know 62 = .ok (.ireturn, 1) := dk_172 (dk_at dksX5_know_2 15 rfl rfl)
def dkwX5_knows_1 : List UInt8 := [177]
abbrev dktX5_knows_1 : List UInt8 := dkwX5_knows_1 ++ []
def dkwX5_knows_0 : List UInt8 := [42, 180, 0, 60, 16, 6, 27, 104, 28, 96, 29, 79, 42, 180, 0, 60, 16, 6, 28, 104, 27, 96, 29, 79]
abbrev dktX5_knows_0 : List UInt8 := dkwX5_knows_0 ++ dktX5_knows_1
theorem dksX5_knows_0 : cX5_knows.data.toList.drop 0 = dktX5_knows_0 := by decide +kernel
theorem dksX5_knows_1 : cX5_knows.data.toList.drop 24 = dktX5_knows_1 := dk_seg dksX5_knows_0 24 rfl rfl
theorem dX5_knows_0 : decode cX5_knows 0 = .ok (.aload_n 0, 1) := dk_42 (dk_at dksX5_knows_0 0 rfl rfl)
theorem dX5_knows_1 : decode cX5_knows 1 = .ok (.getfield 60, 3) := dk_180 0 60 (dk_at dksX5_knows_0 1 rfl rfl)
theorem dX5_knows_4 : decode cX5_knows 4 = .ok (.bipush 6, 2) := dk_16 6 (dk_at dksX5_knows_0 4 rfl rfl)
theorem dX5_knows_6 : decode cX5_knows 6 = .ok (.iload_n 1, 1) := dk_27 (dk_at dksX5_knows_0 6 rfl rfl)
theorem dX5_knows_7 : decode cX5_knows 7 = .ok (.imul, 1) := dk_104 (dk_at dksX5_knows_0 7 rfl rfl)
theorem dX5_knows_8 : decode cX5_knows 8 = .ok (.iload_n 2, 1) := dk_28 (dk_at dksX5_knows_0 8 rfl rfl)
theorem dX5_knows_9 : decode cX5_knows 9 = .ok (.iadd, 1) := dk_96 (dk_at dksX5_knows_0 9 rfl rfl)
theorem dX5_knows_10 : decode cX5_knows 10 = .ok (.iload_n 3, 1) := dk_29 (dk_at dksX5_knows_0 10 rfl rfl)
theorem dX5_knows_11 : decode cX5_knows 11 = .ok (.iastore, 1) := dk_79 (dk_at dksX5_knows_0 11 rfl rfl)
theorem dX5_knows_12 : decode cX5_knows 12 = .ok (.aload_n 0, 1) := dk_42 (dk_at dksX5_knows_0 12 rfl rfl)
theorem dX5_knows_13 : decode cX5_knows 13 = .ok (.getfield 60, 3) := dk_180 0 60 (dk_at dksX5_knows_0 13 rfl rfl)
theorem dX5_knows_16 : decode cX5_knows 16 = .ok (.bipush 6, 2) := dk_16 6 (dk_at dksX5_knows_0 16 rfl rfl)
theorem dX5_knows_18 : decode cX5_knows 18 = .ok (.iload_n 2, 1) := dk_28 (dk_at dksX5_knows_0 18 rfl rfl)
theorem dX5_knows_19 : decode cX5_knows 19 = .ok (.imul, 1) := dk_104 (dk_at dksX5_knows_0 19 rfl rfl)
theorem dX5_knows_20 : decode cX5_knows 20 = .ok (.iload_n 1, 1) := dk_27 (dk_at dksX5_knows_0 20 rfl rfl)
theorem dX5_knows_21 : decode cX5_knows 21 = .ok (.iadd, 1) := dk_96 (dk_at dksX5_knows_0 21 rfl rfl)
theorem dX5_knows_22 : decode cX5_knows 22 = .ok (.iload_n 3, 1) := dk_29 (dk_at dksX5_knows_0 22 rfl rfl)
theorem dX5_knows_23 : decode cX5_knows 23 = .ok (.iastore, 1) := dk_79 (dk_at dksX5_knows_0 23 rfl rfl)
theorem dX5_knows_24 : decode cX5_knows 24 = .ok (.return_, 1) := dk_177 (dk_at dksX5_knows_1 0 rfl rfl)
def dkwX5_sheet_7 : List UInt8 := [21, 5, 96, 54, 6, 132, 8, 1, 167, 255, 141, 21, 7, 172]
abbrev dktX5_sheet_7 : List UInt8 := dkwX5_sheet_7 ++ []
def dkwX5_sheet_6 : List UInt8 := [160, 0, 7, 3, 167, 0, 15, 42, 180, 0, 60, 16, 6, 27, 104, 21, 8, 96, 46, 96, 54, 7, 21, 6]
abbrev dktX5_sheet_6 : List UInt8 := dkwX5_sheet_6 ++ dktX5_sheet_7
def dkwX5_sheet_5 : List UInt8 := [42, 27, 21, 8, 3, 16, 9, 21, 9, 184, 0, 95, 184, 0, 101, 182, 0, 89, 21, 7, 21, 8, 27]
abbrev dktX5_sheet_5 : List UInt8 := dkwX5_sheet_5 ++ dktX5_sheet_6
def dkwX5_sheet_4 : List UInt8 := [167, 0, 5, 21, 6, 54, 9, 21, 8, 27, 159, 0, 32, 28, 6, 159, 0, 9, 21, 8, 29, 162, 0, 21]
abbrev dktX5_sheet_4 : List UInt8 := dkwX5_sheet_4 ++ dktX5_sheet_5
def dkwX5_sheet_3 : List UInt8 := [3, 167, 0, 26, 28, 154, 0, 9, 21, 6, 145, 167, 0, 16, 28, 4, 160, 0, 9, 21, 6, 147]
abbrev dktX5_sheet_3 : List UInt8 := dkwX5_sheet_3 ++ dktX5_sheet_4
def dkwX5_sheet_2 : List UInt8 := [21, 4, 54, 6, 3, 54, 7, 3, 54, 8, 21, 8, 42, 180, 0, 22, 162, 0, 112, 28, 6, 160, 0, 7]
abbrev dktX5_sheet_2 : List UInt8 := dkwX5_sheet_2 ++ dktX5_sheet_3
def dkwX5_sheet_1 : List UInt8 := [153, 0, 9, 29, 16, 6, 164, 0, 5, 2, 172, 28, 6, 159, 0, 10, 29, 156, 0, 6, 16, 254, 172]
abbrev dktX5_sheet_1 : List UInt8 := dkwX5_sheet_1 ++ dktX5_sheet_2
def dkwX5_sheet_0 : List UInt8 := [42, 3, 181, 0, 3, 42, 27, 182, 0, 77, 153, 0, 21, 28, 133, 9, 20, 0, 93, 184, 0, 25]
abbrev dktX5_sheet_0 : List UInt8 := dkwX5_sheet_0 ++ dktX5_sheet_1
theorem dksX5_sheet_0 : cX5_sheet.data.toList.drop 0 = dktX5_sheet_0 := by decide +kernel
theorem dksX5_sheet_1 : cX5_sheet.data.toList.drop 22 = dktX5_sheet_1 := dk_seg dksX5_sheet_0 22 rfl rfl
theorem dksX5_sheet_2 : cX5_sheet.data.toList.drop 45 = dktX5_sheet_2 := dk_seg dksX5_sheet_1 23 rfl rfl
theorem dksX5_sheet_3 : cX5_sheet.data.toList.drop 69 = dktX5_sheet_3 := dk_seg dksX5_sheet_2 24 rfl rfl
theorem dksX5_sheet_4 : cX5_sheet.data.toList.drop 91 = dktX5_sheet_4 := dk_seg dksX5_sheet_3 22 rfl rfl
theorem dksX5_sheet_5 : cX5_sheet.data.toList.drop 115 = dktX5_sheet_5 := dk_seg dksX5_sheet_4 24 rfl rfl
theorem dksX5_sheet_6 : cX5_sheet.data.toList.drop 138 = dktX5_sheet_6 := dk_seg dksX5_sheet_5 23 rfl rfl
theorem dksX5_sheet_7 : cX5_sheet.data.toList.drop 162 = dktX5_sheet_7 := dk_seg dksX5_sheet_6 24 rfl rfl
theorem dX5_sheet_0 : decode cX5_sheet 0 = .ok (.aload_n 0, 1) := dk_42 (dk_at dksX5_sheet_0 0 rfl rfl)
theorem dX5_sheet_1 : decode cX5_sheet 1 = .ok (.iconst 0, 1) := dk_3 (dk_at dksX5_sheet_0 1 rfl rfl)
theorem dX5_sheet_2 : decode cX5_sheet 2 = .ok (.putfield 3, 3) := dk_181 0 3 (dk_at dksX5_sheet_0 2 rfl rfl)
theorem dX5_sheet_5 : decode cX5_sheet 5 = .ok (.aload_n 0, 1) := dk_42 (dk_at dksX5_sheet_0 5 rfl rfl)
theorem dX5_sheet_6 : decode cX5_sheet 6 = .ok (.iload_n 1, 1) := dk_27 (dk_at dksX5_sheet_0 6 rfl rfl)
theorem dX5_sheet_7 : decode cX5_sheet 7 = .ok (.invokevirtual 77, 3) := dk_182 0 77 (dk_at dksX5_sheet_0 7 rfl rfl)
theorem dX5_sheet_10 : decode cX5_sheet 10 = .ok (.ifCond .eq 21, 3) := dk_153 0 21 (dk_at dksX5_sheet_0 10 rfl rfl)
theorem dX5_sheet_13 : decode cX5_sheet 13 = .ok (.iload_n 2, 1) := dk_28 (dk_at dksX5_sheet_0 13 rfl rfl)
theorem dX5_sheet_14 : decode cX5_sheet 14 = .ok (.i2l, 1) := dk_133 (dk_at dksX5_sheet_0 14 rfl rfl)
theorem dX5_sheet_15 : decode cX5_sheet 15 = .ok (.lconst 0, 1) := dk_9 (dk_at dksX5_sheet_0 15 rfl rfl)
theorem dX5_sheet_16 : decode cX5_sheet 16 = .ok (.ldc2_w 93, 3) := dk_20 0 93 (dk_at dksX5_sheet_0 16 rfl rfl)
theorem dX5_sheet_19 : decode cX5_sheet 19 = .ok (.invokestatic 25, 3) := dk_184 0 25 (dk_at dksX5_sheet_0 19 rfl rfl)
theorem dX5_sheet_22 : decode cX5_sheet 22 = .ok (.ifCond .eq 9, 3) := dk_153 0 9 (dk_at dksX5_sheet_1 0 rfl rfl)
theorem dX5_sheet_25 : decode cX5_sheet 25 = .ok (.iload_n 3, 1) := dk_29 (dk_at dksX5_sheet_1 3 rfl rfl)
theorem dX5_sheet_26 : decode cX5_sheet 26 = .ok (.bipush 6, 2) := dk_16 6 (dk_at dksX5_sheet_1 4 rfl rfl)
theorem dX5_sheet_28 : decode cX5_sheet 28 = .ok (.if_icmp .le 5, 3) := dk_164 0 5 (dk_at dksX5_sheet_1 6 rfl rfl)
theorem dX5_sheet_31 : decode cX5_sheet 31 = .ok (.iconst (-1), 1) := dk_2 (dk_at dksX5_sheet_1 9 rfl rfl)
theorem dX5_sheet_32 : decode cX5_sheet 32 = .ok (.ireturn, 1) := dk_172 (dk_at dksX5_sheet_1 10 rfl rfl)
theorem dX5_sheet_33 : decode cX5_sheet 33 = .ok (.iload_n 2, 1) := dk_28 (dk_at dksX5_sheet_1 11 rfl rfl)
theorem dX5_sheet_34 : decode cX5_sheet 34 = .ok (.iconst 3, 1) := dk_6 (dk_at dksX5_sheet_1 12 rfl rfl)
theorem dX5_sheet_35 : decode cX5_sheet 35 = .ok (.if_icmp .eq 10, 3) := dk_159 0 10 (dk_at dksX5_sheet_1 13 rfl rfl)
theorem dX5_sheet_38 : decode cX5_sheet 38 = .ok (.iload_n 3, 1) := dk_29 (dk_at dksX5_sheet_1 16 rfl rfl)
theorem dX5_sheet_39 : decode cX5_sheet 39 = .ok (.ifCond .ge 6, 3) := dk_156 0 6 (dk_at dksX5_sheet_1 17 rfl rfl)
theorem dX5_sheet_42 : decode cX5_sheet 42 = .ok (.bipush (-2), 2) := dk_16 254 (dk_at dksX5_sheet_1 20 rfl rfl)
theorem dX5_sheet_44 : decode cX5_sheet 44 = .ok (.ireturn, 1) := dk_172 (dk_at dksX5_sheet_1 22 rfl rfl)
theorem dX5_sheet_45 : decode cX5_sheet 45 = .ok (.iload 4, 2) := dk_21 4 (dk_at dksX5_sheet_2 0 rfl rfl)
theorem dX5_sheet_47 : decode cX5_sheet 47 = .ok (.istore 6, 2) := dk_54 6 (dk_at dksX5_sheet_2 2 rfl rfl)
theorem dX5_sheet_49 : decode cX5_sheet 49 = .ok (.iconst 0, 1) := dk_3 (dk_at dksX5_sheet_2 4 rfl rfl)
theorem dX5_sheet_50 : decode cX5_sheet 50 = .ok (.istore 7, 2) := dk_54 7 (dk_at dksX5_sheet_2 5 rfl rfl)
theorem dX5_sheet_52 : decode cX5_sheet 52 = .ok (.iconst 0, 1) := dk_3 (dk_at dksX5_sheet_2 7 rfl rfl)
theorem dX5_sheet_53 : decode cX5_sheet 53 = .ok (.istore 8, 2) := dk_54 8 (dk_at dksX5_sheet_2 8 rfl rfl)
theorem dX5_sheet_55 : decode cX5_sheet 55 = .ok (.iload 8, 2) := dk_21 8 (dk_at dksX5_sheet_2 10 rfl rfl)
theorem dX5_sheet_57 : decode cX5_sheet 57 = .ok (.aload_n 0, 1) := dk_42 (dk_at dksX5_sheet_2 12 rfl rfl)
theorem dX5_sheet_58 : decode cX5_sheet 58 = .ok (.getfield 22, 3) := dk_180 0 22 (dk_at dksX5_sheet_2 13 rfl rfl)
theorem dX5_sheet_61 : decode cX5_sheet 61 = .ok (.if_icmp .ge 112, 3) := dk_162 0 112 (dk_at dksX5_sheet_2 16 rfl rfl)
theorem dX5_sheet_64 : decode cX5_sheet 64 = .ok (.iload_n 2, 1) := dk_28 (dk_at dksX5_sheet_2 19 rfl rfl)
theorem dX5_sheet_65 : decode cX5_sheet 65 = .ok (.iconst 3, 1) := dk_6 (dk_at dksX5_sheet_2 20 rfl rfl)
theorem dX5_sheet_66 : decode cX5_sheet 66 = .ok (.if_icmp .ne 7, 3) := dk_160 0 7 (dk_at dksX5_sheet_2 21 rfl rfl)
theorem dX5_sheet_69 : decode cX5_sheet 69 = .ok (.iconst 0, 1) := dk_3 (dk_at dksX5_sheet_3 0 rfl rfl)
theorem dX5_sheet_70 : decode cX5_sheet 70 = .ok (.goto 26, 3) := dk_167 0 26 (dk_at dksX5_sheet_3 1 rfl rfl)
theorem dX5_sheet_73 : decode cX5_sheet 73 = .ok (.iload_n 2, 1) := dk_28 (dk_at dksX5_sheet_3 4 rfl rfl)
theorem dX5_sheet_74 : decode cX5_sheet 74 = .ok (.ifCond .ne 9, 3) := dk_154 0 9 (dk_at dksX5_sheet_3 5 rfl rfl)
theorem dX5_sheet_77 : decode cX5_sheet 77 = .ok (.iload 6, 2) := dk_21 6 (dk_at dksX5_sheet_3 8 rfl rfl)
theorem dX5_sheet_79 : decode cX5_sheet 79 = .ok (.i2b, 1) := dk_145 (dk_at dksX5_sheet_3 10 rfl rfl)
theorem dX5_sheet_80 : decode cX5_sheet 80 = .ok (.goto 16, 3) := dk_167 0 16 (dk_at dksX5_sheet_3 11 rfl rfl)
theorem dX5_sheet_83 : decode cX5_sheet 83 = .ok (.iload_n 2, 1) := dk_28 (dk_at dksX5_sheet_3 14 rfl rfl)
theorem dX5_sheet_84 : decode cX5_sheet 84 = .ok (.iconst 1, 1) := dk_4 (dk_at dksX5_sheet_3 15 rfl rfl)
theorem dX5_sheet_85 : decode cX5_sheet 85 = .ok (.if_icmp .ne 9, 3) := dk_160 0 9 (dk_at dksX5_sheet_3 16 rfl rfl)
theorem dX5_sheet_88 : decode cX5_sheet 88 = .ok (.iload 6, 2) := dk_21 6 (dk_at dksX5_sheet_3 19 rfl rfl)
theorem dX5_sheet_90 : decode cX5_sheet 90 = .ok (.i2s, 1) := dk_147 (dk_at dksX5_sheet_3 21 rfl rfl)
theorem dX5_sheet_91 : decode cX5_sheet 91 = .ok (.goto 5, 3) := dk_167 0 5 (dk_at dksX5_sheet_4 0 rfl rfl)
theorem dX5_sheet_94 : decode cX5_sheet 94 = .ok (.iload 6, 2) := dk_21 6 (dk_at dksX5_sheet_4 3 rfl rfl)
theorem dX5_sheet_96 : decode cX5_sheet 96 = .ok (.istore 9, 2) := dk_54 9 (dk_at dksX5_sheet_4 5 rfl rfl)
theorem dX5_sheet_98 : decode cX5_sheet 98 = .ok (.iload 8, 2) := dk_21 8 (dk_at dksX5_sheet_4 7 rfl rfl)
theorem dX5_sheet_100 : decode cX5_sheet 100 = .ok (.iload_n 1, 1) := dk_27 (dk_at dksX5_sheet_4 9 rfl rfl)
theorem dX5_sheet_101 : decode cX5_sheet 101 = .ok (.if_icmp .eq 32, 3) := dk_159 0 32 (dk_at dksX5_sheet_4 10 rfl rfl)
theorem dX5_sheet_104 : decode cX5_sheet 104 = .ok (.iload_n 2, 1) := dk_28 (dk_at dksX5_sheet_4 13 rfl rfl)
theorem dX5_sheet_105 : decode cX5_sheet 105 = .ok (.iconst 3, 1) := dk_6 (dk_at dksX5_sheet_4 14 rfl rfl)
theorem dX5_sheet_106 : decode cX5_sheet 106 = .ok (.if_icmp .eq 9, 3) := dk_159 0 9 (dk_at dksX5_sheet_4 15 rfl rfl)
theorem dX5_sheet_109 : decode cX5_sheet 109 = .ok (.iload 8, 2) := dk_21 8 (dk_at dksX5_sheet_4 18 rfl rfl)
theorem dX5_sheet_111 : decode cX5_sheet 111 = .ok (.iload_n 3, 1) := dk_29 (dk_at dksX5_sheet_4 20 rfl rfl)
theorem dX5_sheet_112 : decode cX5_sheet 112 = .ok (.if_icmp .ge 21, 3) := dk_162 0 21 (dk_at dksX5_sheet_4 21 rfl rfl)
theorem dX5_sheet_115 : decode cX5_sheet 115 = .ok (.aload_n 0, 1) := dk_42 (dk_at dksX5_sheet_5 0 rfl rfl)
theorem dX5_sheet_116 : decode cX5_sheet 116 = .ok (.iload_n 1, 1) := dk_27 (dk_at dksX5_sheet_5 1 rfl rfl)
theorem dX5_sheet_117 : decode cX5_sheet 117 = .ok (.iload 8, 2) := dk_21 8 (dk_at dksX5_sheet_5 2 rfl rfl)
theorem dX5_sheet_119 : decode cX5_sheet 119 = .ok (.iconst 0, 1) := dk_3 (dk_at dksX5_sheet_5 4 rfl rfl)
theorem dX5_sheet_120 : decode cX5_sheet 120 = .ok (.bipush 9, 2) := dk_16 9 (dk_at dksX5_sheet_5 5 rfl rfl)
theorem dX5_sheet_122 : decode cX5_sheet 122 = .ok (.iload 9, 2) := dk_21 9 (dk_at dksX5_sheet_5 7 rfl rfl)
theorem dX5_sheet_124 : decode cX5_sheet 124 = .ok (.invokestatic 95, 3) := dk_184 0 95 (dk_at dksX5_sheet_5 9 rfl rfl)
theorem dX5_sheet_127 : decode cX5_sheet 127 = .ok (.invokestatic 101, 3) := dk_184 0 101 (dk_at dksX5_sheet_5 12 rfl rfl)
theorem dX5_sheet_130 : decode cX5_sheet 130 = .ok (.invokevirtual 89, 3) := dk_182 0 89 (dk_at dksX5_sheet_5 15 rfl rfl)
theorem dX5_sheet_133 : decode cX5_sheet 133 = .ok (.iload 7, 2) := dk_21 7 (dk_at dksX5_sheet_5 18 rfl rfl)
theorem dX5_sheet_135 : decode cX5_sheet 135 = .ok (.iload 8, 2) := dk_21 8 (dk_at dksX5_sheet_5 20 rfl rfl)
theorem dX5_sheet_137 : decode cX5_sheet 137 = .ok (.iload_n 1, 1) := dk_27 (dk_at dksX5_sheet_5 22 rfl rfl)
theorem dX5_sheet_138 : decode cX5_sheet 138 = .ok (.if_icmp .ne 7, 3) := dk_160 0 7 (dk_at dksX5_sheet_6 0 rfl rfl)
theorem dX5_sheet_141 : decode cX5_sheet 141 = .ok (.iconst 0, 1) := dk_3 (dk_at dksX5_sheet_6 3 rfl rfl)
theorem dX5_sheet_142 : decode cX5_sheet 142 = .ok (.goto 15, 3) := dk_167 0 15 (dk_at dksX5_sheet_6 4 rfl rfl)
theorem dX5_sheet_145 : decode cX5_sheet 145 = .ok (.aload_n 0, 1) := dk_42 (dk_at dksX5_sheet_6 7 rfl rfl)
theorem dX5_sheet_146 : decode cX5_sheet 146 = .ok (.getfield 60, 3) := dk_180 0 60 (dk_at dksX5_sheet_6 8 rfl rfl)
theorem dX5_sheet_149 : decode cX5_sheet 149 = .ok (.bipush 6, 2) := dk_16 6 (dk_at dksX5_sheet_6 11 rfl rfl)
theorem dX5_sheet_151 : decode cX5_sheet 151 = .ok (.iload_n 1, 1) := dk_27 (dk_at dksX5_sheet_6 13 rfl rfl)
theorem dX5_sheet_152 : decode cX5_sheet 152 = .ok (.imul, 1) := dk_104 (dk_at dksX5_sheet_6 14 rfl rfl)
theorem dX5_sheet_153 : decode cX5_sheet 153 = .ok (.iload 8, 2) := dk_21 8 (dk_at dksX5_sheet_6 15 rfl rfl)
theorem dX5_sheet_155 : decode cX5_sheet 155 = .ok (.iadd, 1) := dk_96 (dk_at dksX5_sheet_6 17 rfl rfl)
theorem dX5_sheet_156 : decode cX5_sheet 156 = .ok (.iaload, 1) := dk_46 (dk_at dksX5_sheet_6 18 rfl rfl)
theorem dX5_sheet_157 : decode cX5_sheet 157 = .ok (.iadd, 1) := dk_96 (dk_at dksX5_sheet_6 19 rfl rfl)
theorem dX5_sheet_158 : decode cX5_sheet 158 = .ok (.istore 7, 2) := dk_54 7 (dk_at dksX5_sheet_6 20 rfl rfl)
theorem dX5_sheet_160 : decode cX5_sheet 160 = .ok (.iload 6, 2) := dk_21 6 (dk_at dksX5_sheet_6 22 rfl rfl)
theorem dX5_sheet_162 : decode cX5_sheet 162 = .ok (.iload 5, 2) := dk_21 5 (dk_at dksX5_sheet_7 0 rfl rfl)
theorem dX5_sheet_164 : decode cX5_sheet 164 = .ok (.iadd, 1) := dk_96 (dk_at dksX5_sheet_7 2 rfl rfl)
theorem dX5_sheet_165 : decode cX5_sheet 165 = .ok (.istore 6, 2) := dk_54 6 (dk_at dksX5_sheet_7 3 rfl rfl)
theorem dX5_sheet_167 : decode cX5_sheet 167 = .ok (.iinc 8 1, 3) := dk_132 8 1 (dk_at dksX5_sheet_7 5 rfl rfl)
theorem dX5_sheet_170 : decode cX5_sheet 170 = .ok (.goto (-115), 3) := dk_167 255 141 (dk_at dksX5_sheet_7 8 rfl rfl)
theorem dX5_sheet_173 : decode cX5_sheet 173 = .ok (.iload 7, 2) := dk_21 7 (dk_at dksX5_sheet_7 11 rfl rfl)
theorem dX5_sheet_175 : decode cX5_sheet 175 = .ok (.ireturn, 1) := dk_172 (dk_at dksX5_sheet_7 13 rfl rfl)
def dkwX5_set_3 : List UInt8 := [28, 181, 0, 111, 29, 172]
abbrev dktX5_set_3 : List UInt8 := dkwX5_set_3 ++ []
def dkwX5_set_2 : List UInt8 := [180, 0, 108, 167, 0, 7, 42, 180, 0, 111, 62, 27, 154, 0, 11, 42, 28, 181, 0, 108, 167, 0, 8, 42]
abbrev dktX5_set_2 : List UInt8 := dkwX5_set_2 ++ dktX5_set_3
def dkwX5_set_1 : List UInt8 := [20, 0, 104, 167, 0, 6, 20, 0, 106, 184, 0, 25, 154, 0, 5, 2, 172, 27, 154, 0, 10, 42]
abbrev dktX5_set_1 : List UInt8 := dkwX5_set_1 ++ dktX5_set_2
def dkwX5_set_0 : List UInt8 := [42, 3, 181, 0, 3, 27, 133, 9, 10, 184, 0, 25, 153, 0, 25, 28, 133, 9, 27, 154, 0, 9]
abbrev dktX5_set_0 : List UInt8 := dkwX5_set_0 ++ dktX5_set_1
theorem dksX5_set_0 : cX5_set.data.toList.drop 0 = dktX5_set_0 := by decide +kernel
theorem dksX5_set_1 : cX5_set.data.toList.drop 22 = dktX5_set_1 := dk_seg dksX5_set_0 22 rfl rfl
theorem dksX5_set_2 : cX5_set.data.toList.drop 44 = dktX5_set_2 := dk_seg dksX5_set_1 22 rfl rfl
theorem dksX5_set_3 : cX5_set.data.toList.drop 68 = dktX5_set_3 := dk_seg dksX5_set_2 24 rfl rfl
theorem dX5_set_0 : decode cX5_set 0 = .ok (.aload_n 0, 1) := dk_42 (dk_at dksX5_set_0 0 rfl rfl)
theorem dX5_set_1 : decode cX5_set 1 = .ok (.iconst 0, 1) := dk_3 (dk_at dksX5_set_0 1 rfl rfl)
theorem dX5_set_2 : decode cX5_set 2 = .ok (.putfield 3, 3) := dk_181 0 3 (dk_at dksX5_set_0 2 rfl rfl)
theorem dX5_set_5 : decode cX5_set 5 = .ok (.iload_n 1, 1) := dk_27 (dk_at dksX5_set_0 5 rfl rfl)
theorem dX5_set_6 : decode cX5_set 6 = .ok (.i2l, 1) := dk_133 (dk_at dksX5_set_0 6 rfl rfl)
theorem dX5_set_7 : decode cX5_set 7 = .ok (.lconst 0, 1) := dk_9 (dk_at dksX5_set_0 7 rfl rfl)
theorem dX5_set_8 : decode cX5_set 8 = .ok (.lconst 1, 1) := dk_10 (dk_at dksX5_set_0 8 rfl rfl)
theorem dX5_set_9 : decode cX5_set 9 = .ok (.invokestatic 25, 3) := dk_184 0 25 (dk_at dksX5_set_0 9 rfl rfl)
theorem dX5_set_12 : decode cX5_set 12 = .ok (.ifCond .eq 25, 3) := dk_153 0 25 (dk_at dksX5_set_0 12 rfl rfl)
theorem dX5_set_15 : decode cX5_set 15 = .ok (.iload_n 2, 1) := dk_28 (dk_at dksX5_set_0 15 rfl rfl)
theorem dX5_set_16 : decode cX5_set 16 = .ok (.i2l, 1) := dk_133 (dk_at dksX5_set_0 16 rfl rfl)
theorem dX5_set_17 : decode cX5_set 17 = .ok (.lconst 0, 1) := dk_9 (dk_at dksX5_set_0 17 rfl rfl)
theorem dX5_set_18 : decode cX5_set 18 = .ok (.iload_n 1, 1) := dk_27 (dk_at dksX5_set_0 18 rfl rfl)
theorem dX5_set_19 : decode cX5_set 19 = .ok (.ifCond .ne 9, 3) := dk_154 0 9 (dk_at dksX5_set_0 19 rfl rfl)
theorem dX5_set_22 : decode cX5_set 22 = .ok (.ldc2_w 104, 3) := dk_20 0 104 (dk_at dksX5_set_1 0 rfl rfl)
theorem dX5_set_25 : decode cX5_set 25 = .ok (.goto 6, 3) := dk_167 0 6 (dk_at dksX5_set_1 3 rfl rfl)
theorem dX5_set_28 : decode cX5_set 28 = .ok (.ldc2_w 106, 3) := dk_20 0 106 (dk_at dksX5_set_1 6 rfl rfl)
theorem dX5_set_31 : decode cX5_set 31 = .ok (.invokestatic 25, 3) := dk_184 0 25 (dk_at dksX5_set_1 9 rfl rfl)
theorem dX5_set_34 : decode cX5_set 34 = .ok (.ifCond .ne 5, 3) := dk_154 0 5 (dk_at dksX5_set_1 12 rfl rfl)
theorem dX5_set_37 : decode cX5_set 37 = .ok (.iconst (-1), 1) := dk_2 (dk_at dksX5_set_1 15 rfl rfl)
theorem dX5_set_38 : decode cX5_set 38 = .ok (.ireturn, 1) := dk_172 (dk_at dksX5_set_1 16 rfl rfl)
theorem dX5_set_39 : decode cX5_set 39 = .ok (.iload_n 1, 1) := dk_27 (dk_at dksX5_set_1 17 rfl rfl)
theorem dX5_set_40 : decode cX5_set 40 = .ok (.ifCond .ne 10, 3) := dk_154 0 10 (dk_at dksX5_set_1 18 rfl rfl)
theorem dX5_set_43 : decode cX5_set 43 = .ok (.aload_n 0, 1) := dk_42 (dk_at dksX5_set_1 21 rfl rfl)
theorem dX5_set_44 : decode cX5_set 44 = .ok (.getfield 108, 3) := dk_180 0 108 (dk_at dksX5_set_2 0 rfl rfl)
theorem dX5_set_47 : decode cX5_set 47 = .ok (.goto 7, 3) := dk_167 0 7 (dk_at dksX5_set_2 3 rfl rfl)
theorem dX5_set_50 : decode cX5_set 50 = .ok (.aload_n 0, 1) := dk_42 (dk_at dksX5_set_2 6 rfl rfl)
theorem dX5_set_51 : decode cX5_set 51 = .ok (.getfield 111, 3) := dk_180 0 111 (dk_at dksX5_set_2 7 rfl rfl)
theorem dX5_set_54 : decode cX5_set 54 = .ok (.istore_n 3, 1) := dk_62 (dk_at dksX5_set_2 10 rfl rfl)
theorem dX5_set_55 : decode cX5_set 55 = .ok (.iload_n 1, 1) := dk_27 (dk_at dksX5_set_2 11 rfl rfl)
theorem dX5_set_56 : decode cX5_set 56 = .ok (.ifCond .ne 11, 3) := dk_154 0 11 (dk_at dksX5_set_2 12 rfl rfl)
theorem dX5_set_59 : decode cX5_set 59 = .ok (.aload_n 0, 1) := dk_42 (dk_at dksX5_set_2 15 rfl rfl)
theorem dX5_set_60 : decode cX5_set 60 = .ok (.iload_n 2, 1) := dk_28 (dk_at dksX5_set_2 16 rfl rfl)
theorem dX5_set_61 : decode cX5_set 61 = .ok (.putfield 108, 3) := dk_181 0 108 (dk_at dksX5_set_2 17 rfl rfl)
theorem dX5_set_64 : decode cX5_set 64 = .ok (.goto 8, 3) := dk_167 0 8 (dk_at dksX5_set_2 20 rfl rfl)
theorem dX5_set_67 : decode cX5_set 67 = .ok (.aload_n 0, 1) := dk_42 (dk_at dksX5_set_2 23 rfl rfl)
theorem dX5_set_68 : decode cX5_set 68 = .ok (.iload_n 2, 1) := dk_28 (dk_at dksX5_set_3 0 rfl rfl)
theorem dX5_set_69 : decode cX5_set 69 = .ok (.putfield 111, 3) := dk_181 0 111 (dk_at dksX5_set_3 1 rfl rfl)
theorem dX5_set_72 : decode cX5_set 72 = .ok (.iload_n 3, 1) := dk_29 (dk_at dksX5_set_3 4 rfl rfl)
theorem dX5_set_73 : decode cX5_set 73 = .ok (.ireturn, 1) := dk_172 (dk_at dksX5_set_3 5 rfl rfl)
def dkwX5_open_1 : List UInt8 := [182, 0, 120, 184, 0, 124, 167, 0, 4, 2, 172]
abbrev dktX5_open_1 : List UInt8 := dkwX5_open_1 ++ []
def dkwX5_open_0 : List UInt8 := [42, 3, 181, 0, 3, 42, 27, 182, 0, 77, 153, 0, 22, 28, 184, 0, 81, 153, 0, 15, 42, 27, 28]
abbrev dktX5_open_0 : List UInt8 := dkwX5_open_0 ++ dktX5_open_1
theorem dksX5_open_0 : cX5_open.data.toList.drop 0 = dktX5_open_0 := by decide +kernel
theorem dksX5_open_1 : cX5_open.data.toList.drop 23 = dktX5_open_1 := dk_seg dksX5_open_0 23 rfl rfl
theorem dX5_open_0 : decode cX5_open 0 = .ok (.aload_n 0, 1) := dk_42 (dk_at dksX5_open_0 0 rfl rfl)
theorem dX5_open_1 : decode cX5_open 1 = .ok (.iconst 0, 1) := dk_3 (dk_at dksX5_open_0 1 rfl rfl)
theorem dX5_open_2 : decode cX5_open 2 = .ok (.putfield 3, 3) := dk_181 0 3 (dk_at dksX5_open_0 2 rfl rfl)
theorem dX5_open_5 : decode cX5_open 5 = .ok (.aload_n 0, 1) := dk_42 (dk_at dksX5_open_0 5 rfl rfl)
theorem dX5_open_6 : decode cX5_open 6 = .ok (.iload_n 1, 1) := dk_27 (dk_at dksX5_open_0 6 rfl rfl)
theorem dX5_open_7 : decode cX5_open 7 = .ok (.invokevirtual 77, 3) := dk_182 0 77 (dk_at dksX5_open_0 7 rfl rfl)
theorem dX5_open_10 : decode cX5_open 10 = .ok (.ifCond .eq 22, 3) := dk_153 0 22 (dk_at dksX5_open_0 10 rfl rfl)
theorem dX5_open_13 : decode cX5_open 13 = .ok (.iload_n 2, 1) := dk_28 (dk_at dksX5_open_0 13 rfl rfl)
theorem dX5_open_14 : decode cX5_open 14 = .ok (.invokestatic 81, 3) := dk_184 0 81 (dk_at dksX5_open_0 14 rfl rfl)
theorem dX5_open_17 : decode cX5_open 17 = .ok (.ifCond .eq 15, 3) := dk_153 0 15 (dk_at dksX5_open_0 17 rfl rfl)
theorem dX5_open_20 : decode cX5_open 20 = .ok (.aload_n 0, 1) := dk_42 (dk_at dksX5_open_0 20 rfl rfl)
theorem dX5_open_21 : decode cX5_open 21 = .ok (.iload_n 1, 1) := dk_27 (dk_at dksX5_open_0 21 rfl rfl)
theorem dX5_open_22 : decode cX5_open 22 = .ok (.iload_n 2, 1) := dk_28 (dk_at dksX5_open_0 22 rfl rfl)
theorem dX5_open_23 : decode cX5_open 23 = .ok (.invokevirtual 120, 3) := dk_182 0 120 (dk_at dksX5_open_1 0 rfl rfl)
theorem dX5_open_26 : decode cX5_open 26 = .ok (.invokestatic 124, 3) := dk_184 0 124 (dk_at dksX5_open_1 3 rfl rfl)
theorem dX5_open_29 : decode cX5_open 29 = .ok (.goto 4, 3) := dk_167 0 4 (dk_at dksX5_open_1 6 rfl rfl)
theorem dX5_open_32 : decode cX5_open 32 = .ok (.iconst (-1), 1) := dk_2 (dk_at dksX5_open_1 9 rfl rfl)
theorem dX5_open_33 : decode cX5_open 33 = .ok (.ireturn, 1) := dk_172 (dk_at dksX5_open_1 10 rfl rfl)
def dkwX5_isOpen_3 : List UInt8 := [153, 0, 18, 42, 180, 0, 56, 16, 100, 27, 104, 21, 5, 96, 51, 154, 0, 7, 4, 167, 0, 4, 3, 172]
abbrev dktX5_isOpen_3 : List UInt8 := dkwX5_isOpen_3 ++ []
def dkwX5_isOpen_2 : List UInt8 := [100, 16, 24, 184, 0, 117, 54, 5, 21, 4, 42, 180, 0, 38, 27, 46, 162, 0, 30, 21, 5, 184, 0, 86]
abbrev dktX5_isOpen_2 : List UInt8 := dkwX5_isOpen_2 ++ dktX5_isOpen_3
def dkwX5_isOpen_1 : List UInt8 := [167, 0, 4, 3, 96, 62, 29, 42, 180, 0, 35, 27, 46, 100, 16, 24, 184, 0, 114, 54, 4, 29, 21, 4]
abbrev dktX5_isOpen_1 : List UInt8 := dkwX5_isOpen_1 ++ dktX5_isOpen_2
def dkwX5_isOpen_0 : List UInt8 := [28, 42, 180, 0, 31, 27, 46, 96, 28, 42, 180, 0, 50, 27, 46, 161, 0, 12, 42, 180, 0, 53, 27, 46]
abbrev dktX5_isOpen_0 : List UInt8 := dkwX5_isOpen_0 ++ dktX5_isOpen_1
theorem dksX5_isOpen_0 : cX5_isOpen.data.toList.drop 0 = dktX5_isOpen_0 := by decide +kernel
theorem dksX5_isOpen_1 : cX5_isOpen.data.toList.drop 24 = dktX5_isOpen_1 := dk_seg dksX5_isOpen_0 24 rfl rfl
theorem dksX5_isOpen_2 : cX5_isOpen.data.toList.drop 48 = dktX5_isOpen_2 := dk_seg dksX5_isOpen_1 24 rfl rfl
theorem dksX5_isOpen_3 : cX5_isOpen.data.toList.drop 72 = dktX5_isOpen_3 := dk_seg dksX5_isOpen_2 24 rfl rfl
theorem dX5_isOpen_0 : decode cX5_isOpen 0 = .ok (.iload_n 2, 1) := dk_28 (dk_at dksX5_isOpen_0 0 rfl rfl)
theorem dX5_isOpen_1 : decode cX5_isOpen 1 = .ok (.aload_n 0, 1) := dk_42 (dk_at dksX5_isOpen_0 1 rfl rfl)
theorem dX5_isOpen_2 : decode cX5_isOpen 2 = .ok (.getfield 31, 3) := dk_180 0 31 (dk_at dksX5_isOpen_0 2 rfl rfl)
theorem dX5_isOpen_5 : decode cX5_isOpen 5 = .ok (.iload_n 1, 1) := dk_27 (dk_at dksX5_isOpen_0 5 rfl rfl)
theorem dX5_isOpen_6 : decode cX5_isOpen 6 = .ok (.iaload, 1) := dk_46 (dk_at dksX5_isOpen_0 6 rfl rfl)
theorem dX5_isOpen_7 : decode cX5_isOpen 7 = .ok (.iadd, 1) := dk_96 (dk_at dksX5_isOpen_0 7 rfl rfl)
theorem dX5_isOpen_8 : decode cX5_isOpen 8 = .ok (.iload_n 2, 1) := dk_28 (dk_at dksX5_isOpen_0 8 rfl rfl)
theorem dX5_isOpen_9 : decode cX5_isOpen 9 = .ok (.aload_n 0, 1) := dk_42 (dk_at dksX5_isOpen_0 9 rfl rfl)
theorem dX5_isOpen_10 : decode cX5_isOpen 10 = .ok (.getfield 50, 3) := dk_180 0 50 (dk_at dksX5_isOpen_0 10 rfl rfl)
theorem dX5_isOpen_13 : decode cX5_isOpen 13 = .ok (.iload_n 1, 1) := dk_27 (dk_at dksX5_isOpen_0 13 rfl rfl)
theorem dX5_isOpen_14 : decode cX5_isOpen 14 = .ok (.iaload, 1) := dk_46 (dk_at dksX5_isOpen_0 14 rfl rfl)
theorem dX5_isOpen_15 : decode cX5_isOpen 15 = .ok (.if_icmp .lt 12, 3) := dk_161 0 12 (dk_at dksX5_isOpen_0 15 rfl rfl)
theorem dX5_isOpen_18 : decode cX5_isOpen 18 = .ok (.aload_n 0, 1) := dk_42 (dk_at dksX5_isOpen_0 18 rfl rfl)
theorem dX5_isOpen_19 : decode cX5_isOpen 19 = .ok (.getfield 53, 3) := dk_180 0 53 (dk_at dksX5_isOpen_0 19 rfl rfl)
theorem dX5_isOpen_22 : decode cX5_isOpen 22 = .ok (.iload_n 1, 1) := dk_27 (dk_at dksX5_isOpen_0 22 rfl rfl)
theorem dX5_isOpen_23 : decode cX5_isOpen 23 = .ok (.iaload, 1) := dk_46 (dk_at dksX5_isOpen_0 23 rfl rfl)
theorem dX5_isOpen_24 : decode cX5_isOpen 24 = .ok (.goto 4, 3) := dk_167 0 4 (dk_at dksX5_isOpen_1 0 rfl rfl)
theorem dX5_isOpen_27 : decode cX5_isOpen 27 = .ok (.iconst 0, 1) := dk_3 (dk_at dksX5_isOpen_1 3 rfl rfl)
theorem dX5_isOpen_28 : decode cX5_isOpen 28 = .ok (.iadd, 1) := dk_96 (dk_at dksX5_isOpen_1 4 rfl rfl)
theorem dX5_isOpen_29 : decode cX5_isOpen 29 = .ok (.istore_n 3, 1) := dk_62 (dk_at dksX5_isOpen_1 5 rfl rfl)
theorem dX5_isOpen_30 : decode cX5_isOpen 30 = .ok (.iload_n 3, 1) := dk_29 (dk_at dksX5_isOpen_1 6 rfl rfl)
theorem dX5_isOpen_31 : decode cX5_isOpen 31 = .ok (.aload_n 0, 1) := dk_42 (dk_at dksX5_isOpen_1 7 rfl rfl)
theorem dX5_isOpen_32 : decode cX5_isOpen 32 = .ok (.getfield 35, 3) := dk_180 0 35 (dk_at dksX5_isOpen_1 8 rfl rfl)
theorem dX5_isOpen_35 : decode cX5_isOpen 35 = .ok (.iload_n 1, 1) := dk_27 (dk_at dksX5_isOpen_1 11 rfl rfl)
theorem dX5_isOpen_36 : decode cX5_isOpen 36 = .ok (.iaload, 1) := dk_46 (dk_at dksX5_isOpen_1 12 rfl rfl)
theorem dX5_isOpen_37 : decode cX5_isOpen 37 = .ok (.isub, 1) := dk_100 (dk_at dksX5_isOpen_1 13 rfl rfl)
theorem dX5_isOpen_38 : decode cX5_isOpen 38 = .ok (.bipush 24, 2) := dk_16 24 (dk_at dksX5_isOpen_1 14 rfl rfl)
theorem dX5_isOpen_40 : decode cX5_isOpen 40 = .ok (.invokestatic 114, 3) := dk_184 0 114 (dk_at dksX5_isOpen_1 16 rfl rfl)
theorem dX5_isOpen_43 : decode cX5_isOpen 43 = .ok (.istore 4, 2) := dk_54 4 (dk_at dksX5_isOpen_1 19 rfl rfl)
theorem dX5_isOpen_45 : decode cX5_isOpen 45 = .ok (.iload_n 3, 1) := dk_29 (dk_at dksX5_isOpen_1 21 rfl rfl)
theorem dX5_isOpen_46 : decode cX5_isOpen 46 = .ok (.iload 4, 2) := dk_21 4 (dk_at dksX5_isOpen_1 22 rfl rfl)
theorem dX5_isOpen_48 : decode cX5_isOpen 48 = .ok (.isub, 1) := dk_100 (dk_at dksX5_isOpen_2 0 rfl rfl)
theorem dX5_isOpen_49 : decode cX5_isOpen 49 = .ok (.bipush 24, 2) := dk_16 24 (dk_at dksX5_isOpen_2 1 rfl rfl)
theorem dX5_isOpen_51 : decode cX5_isOpen 51 = .ok (.invokestatic 117, 3) := dk_184 0 117 (dk_at dksX5_isOpen_2 3 rfl rfl)
theorem dX5_isOpen_54 : decode cX5_isOpen 54 = .ok (.istore 5, 2) := dk_54 5 (dk_at dksX5_isOpen_2 6 rfl rfl)
theorem dX5_isOpen_56 : decode cX5_isOpen 56 = .ok (.iload 4, 2) := dk_21 4 (dk_at dksX5_isOpen_2 8 rfl rfl)
theorem dX5_isOpen_58 : decode cX5_isOpen 58 = .ok (.aload_n 0, 1) := dk_42 (dk_at dksX5_isOpen_2 10 rfl rfl)
theorem dX5_isOpen_59 : decode cX5_isOpen 59 = .ok (.getfield 38, 3) := dk_180 0 38 (dk_at dksX5_isOpen_2 11 rfl rfl)
theorem dX5_isOpen_62 : decode cX5_isOpen 62 = .ok (.iload_n 1, 1) := dk_27 (dk_at dksX5_isOpen_2 14 rfl rfl)
theorem dX5_isOpen_63 : decode cX5_isOpen 63 = .ok (.iaload, 1) := dk_46 (dk_at dksX5_isOpen_2 15 rfl rfl)
theorem dX5_isOpen_64 : decode cX5_isOpen 64 = .ok (.if_icmp .ge 30, 3) := dk_162 0 30 (dk_at dksX5_isOpen_2 16 rfl rfl)
theorem dX5_isOpen_67 : decode cX5_isOpen 67 = .ok (.iload 5, 2) := dk_21 5 (dk_at dksX5_isOpen_2 19 rfl rfl)
theorem dX5_isOpen_69 : decode cX5_isOpen 69 = .ok (.invokestatic 86, 3) := dk_184 0 86 (dk_at dksX5_isOpen_2 21 rfl rfl)
theorem dX5_isOpen_72 : decode cX5_isOpen 72 = .ok (.ifCond .eq 18, 3) := dk_153 0 18 (dk_at dksX5_isOpen_3 0 rfl rfl)
theorem dX5_isOpen_75 : decode cX5_isOpen 75 = .ok (.aload_n 0, 1) := dk_42 (dk_at dksX5_isOpen_3 3 rfl rfl)
theorem dX5_isOpen_76 : decode cX5_isOpen 76 = .ok (.getfield 56, 3) := dk_180 0 56 (dk_at dksX5_isOpen_3 4 rfl rfl)
theorem dX5_isOpen_79 : decode cX5_isOpen 79 = .ok (.bipush 100, 2) := dk_16 100 (dk_at dksX5_isOpen_3 7 rfl rfl)
theorem dX5_isOpen_81 : decode cX5_isOpen 81 = .ok (.iload_n 1, 1) := dk_27 (dk_at dksX5_isOpen_3 9 rfl rfl)
theorem dX5_isOpen_82 : decode cX5_isOpen 82 = .ok (.imul, 1) := dk_104 (dk_at dksX5_isOpen_3 10 rfl rfl)
theorem dX5_isOpen_83 : decode cX5_isOpen 83 = .ok (.iload 5, 2) := dk_21 5 (dk_at dksX5_isOpen_3 11 rfl rfl)
theorem dX5_isOpen_85 : decode cX5_isOpen 85 = .ok (.iadd, 1) := dk_96 (dk_at dksX5_isOpen_3 13 rfl rfl)
theorem dX5_isOpen_86 : decode cX5_isOpen 86 = .ok (.baload, 1) := dk_51 (dk_at dksX5_isOpen_3 14 rfl rfl)
theorem dX5_isOpen_87 : decode cX5_isOpen 87 = .ok (.ifCond .ne 7, 3) := dk_154 0 7 (dk_at dksX5_isOpen_3 15 rfl rfl)
theorem dX5_isOpen_90 : decode cX5_isOpen 90 = .ok (.iconst 1, 1) := dk_4 (dk_at dksX5_isOpen_3 18 rfl rfl)
theorem dX5_isOpen_91 : decode cX5_isOpen 91 = .ok (.goto 4, 3) := dk_167 0 4 (dk_at dksX5_isOpen_3 19 rfl rfl)
theorem dX5_isOpen_94 : decode cX5_isOpen 94 = .ok (.iconst 0, 1) := dk_3 (dk_at dksX5_isOpen_3 22 rfl rfl)
theorem dX5_isOpen_95 : decode cX5_isOpen 95 = .ok (.ireturn, 1) := dk_172 (dk_at dksX5_isOpen_3 23 rfl rfl)
def dkwX5_flag_0 : List UInt8 := [26, 153, 0, 7, 4, 167, 0, 4, 3, 172]
abbrev dktX5_flag_0 : List UInt8 := dkwX5_flag_0 ++ []
theorem dksX5_flag_0 : cX5_flag.data.toList.drop 0 = dktX5_flag_0 := by decide +kernel
theorem dX5_flag_0 : decode cX5_flag 0 = .ok (.iload_n 0, 1) := dk_26 (dk_at dksX5_flag_0 0 rfl rfl)
theorem dX5_flag_1 : decode cX5_flag 1 = .ok (.ifCond .eq 7, 3) := dk_153 0 7 (dk_at dksX5_flag_0 1 rfl rfl)
theorem dX5_flag_4 : decode cX5_flag 4 = .ok (.iconst 1, 1) := dk_4 (dk_at dksX5_flag_0 4 rfl rfl)
theorem dX5_flag_5 : decode cX5_flag 5 = .ok (.goto 4, 3) := dk_167 0 4 (dk_at dksX5_flag_0 5 rfl rfl)
theorem dX5_flag_8 : decode cX5_flag 8 = .ok (.iconst 0, 1) := dk_3 (dk_at dksX5_flag_0 8 rfl rfl)
theorem dX5_flag_9 : decode cX5_flag 9 = .ok (.ireturn, 1) := dk_172 (dk_at dksX5_flag_0 9 rfl rfl)
def dkwX5_overlap_1 : List UInt8 := [184, 0, 81, 153, 0, 13, 42, 27, 28, 29, 182, 0, 128, 167, 0, 4, 2, 172]
abbrev dktX5_overlap_1 : List UInt8 := dkwX5_overlap_1 ++ []
def dkwX5_overlap_0 : List UInt8 := [42, 3, 181, 0, 3, 42, 27, 182, 0, 77, 153, 0, 28, 42, 28, 182, 0, 77, 153, 0, 20, 29]
abbrev dktX5_overlap_0 : List UInt8 := dkwX5_overlap_0 ++ dktX5_overlap_1
theorem dksX5_overlap_0 : cX5_overlap.data.toList.drop 0 = dktX5_overlap_0 := by decide +kernel
theorem dksX5_overlap_1 : cX5_overlap.data.toList.drop 22 = dktX5_overlap_1 := dk_seg dksX5_overlap_0 22 rfl rfl
theorem dX5_overlap_0 : decode cX5_overlap 0 = .ok (.aload_n 0, 1) := dk_42 (dk_at dksX5_overlap_0 0 rfl rfl)
theorem dX5_overlap_1 : decode cX5_overlap 1 = .ok (.iconst 0, 1) := dk_3 (dk_at dksX5_overlap_0 1 rfl rfl)
theorem dX5_overlap_2 : decode cX5_overlap 2 = .ok (.putfield 3, 3) := dk_181 0 3 (dk_at dksX5_overlap_0 2 rfl rfl)
theorem dX5_overlap_5 : decode cX5_overlap 5 = .ok (.aload_n 0, 1) := dk_42 (dk_at dksX5_overlap_0 5 rfl rfl)
theorem dX5_overlap_6 : decode cX5_overlap 6 = .ok (.iload_n 1, 1) := dk_27 (dk_at dksX5_overlap_0 6 rfl rfl)
theorem dX5_overlap_7 : decode cX5_overlap 7 = .ok (.invokevirtual 77, 3) := dk_182 0 77 (dk_at dksX5_overlap_0 7 rfl rfl)
theorem dX5_overlap_10 : decode cX5_overlap 10 = .ok (.ifCond .eq 28, 3) := dk_153 0 28 (dk_at dksX5_overlap_0 10 rfl rfl)
theorem dX5_overlap_13 : decode cX5_overlap 13 = .ok (.aload_n 0, 1) := dk_42 (dk_at dksX5_overlap_0 13 rfl rfl)
theorem dX5_overlap_14 : decode cX5_overlap 14 = .ok (.iload_n 2, 1) := dk_28 (dk_at dksX5_overlap_0 14 rfl rfl)
theorem dX5_overlap_15 : decode cX5_overlap 15 = .ok (.invokevirtual 77, 3) := dk_182 0 77 (dk_at dksX5_overlap_0 15 rfl rfl)
theorem dX5_overlap_18 : decode cX5_overlap 18 = .ok (.ifCond .eq 20, 3) := dk_153 0 20 (dk_at dksX5_overlap_0 18 rfl rfl)
theorem dX5_overlap_21 : decode cX5_overlap 21 = .ok (.iload_n 3, 1) := dk_29 (dk_at dksX5_overlap_0 21 rfl rfl)
theorem dX5_overlap_22 : decode cX5_overlap 22 = .ok (.invokestatic 81, 3) := dk_184 0 81 (dk_at dksX5_overlap_1 0 rfl rfl)
theorem dX5_overlap_25 : decode cX5_overlap 25 = .ok (.ifCond .eq 13, 3) := dk_153 0 13 (dk_at dksX5_overlap_1 3 rfl rfl)
theorem dX5_overlap_28 : decode cX5_overlap 28 = .ok (.aload_n 0, 1) := dk_42 (dk_at dksX5_overlap_1 6 rfl rfl)
theorem dX5_overlap_29 : decode cX5_overlap 29 = .ok (.iload_n 1, 1) := dk_27 (dk_at dksX5_overlap_1 7 rfl rfl)
theorem dX5_overlap_30 : decode cX5_overlap 30 = .ok (.iload_n 2, 1) := dk_28 (dk_at dksX5_overlap_1 8 rfl rfl)
theorem dX5_overlap_31 : decode cX5_overlap 31 = .ok (.iload_n 3, 1) := dk_29 (dk_at dksX5_overlap_1 9 rfl rfl)
theorem dX5_overlap_32 : decode cX5_overlap 32 = .ok (.invokevirtual 128, 3) := dk_182 0 128 (dk_at dksX5_overlap_1 10 rfl rfl)
theorem dX5_overlap_35 : decode cX5_overlap 35 = .ok (.goto 4, 3) := dk_167 0 4 (dk_at dksX5_overlap_1 13 rfl rfl)
theorem dX5_overlap_38 : decode cX5_overlap 38 = .ok (.iconst (-1), 1) := dk_2 (dk_at dksX5_overlap_1 16 rfl rfl)
theorem dX5_overlap_39 : decode cX5_overlap 39 = .ok (.ireturn, 1) := dk_172 (dk_at dksX5_overlap_1 17 rfl rfl)
def dkwX5_overlapOf_2 : List UInt8 := [132, 5, 1, 167, 255, 211, 21, 4, 172]
abbrev dktX5_overlapOf_2 : List UInt8 := dkwX5_overlapOf_2 ++ []
def dkwX5_overlapOf_1 : List UInt8 := [153, 0, 17, 42, 28, 21, 5, 182, 0, 120, 153, 0, 7, 4, 167, 0, 4, 3, 184, 0, 124, 96, 54, 4]
abbrev dktX5_overlapOf_1 : List UInt8 := dkwX5_overlapOf_1 ++ dktX5_overlapOf_2
def dkwX5_overlapOf_0 : List UInt8 := [3, 54, 4, 29, 54, 5, 21, 5, 29, 16, 24, 96, 162, 0, 42, 21, 4, 42, 27, 21, 5, 182, 0, 120]
abbrev dktX5_overlapOf_0 : List UInt8 := dkwX5_overlapOf_0 ++ dktX5_overlapOf_1
theorem dksX5_overlapOf_0 : cX5_overlapOf.data.toList.drop 0 = dktX5_overlapOf_0 := by decide +kernel
theorem dksX5_overlapOf_1 : cX5_overlapOf.data.toList.drop 24 = dktX5_overlapOf_1 := dk_seg dksX5_overlapOf_0 24 rfl rfl
theorem dksX5_overlapOf_2 : cX5_overlapOf.data.toList.drop 48 = dktX5_overlapOf_2 := dk_seg dksX5_overlapOf_1 24 rfl rfl
theorem dX5_overlapOf_0 : decode cX5_overlapOf 0 = .ok (.iconst 0, 1) := dk_3 (dk_at dksX5_overlapOf_0 0 rfl rfl)
theorem dX5_overlapOf_1 : decode cX5_overlapOf 1 = .ok (.istore 4, 2) := dk_54 4 (dk_at dksX5_overlapOf_0 1 rfl rfl)
theorem dX5_overlapOf_3 : decode cX5_overlapOf 3 = .ok (.iload_n 3, 1) := dk_29 (dk_at dksX5_overlapOf_0 3 rfl rfl)
theorem dX5_overlapOf_4 : decode cX5_overlapOf 4 = .ok (.istore 5, 2) := dk_54 5 (dk_at dksX5_overlapOf_0 4 rfl rfl)
theorem dX5_overlapOf_6 : decode cX5_overlapOf 6 = .ok (.iload 5, 2) := dk_21 5 (dk_at dksX5_overlapOf_0 6 rfl rfl)
theorem dX5_overlapOf_8 : decode cX5_overlapOf 8 = .ok (.iload_n 3, 1) := dk_29 (dk_at dksX5_overlapOf_0 8 rfl rfl)
theorem dX5_overlapOf_9 : decode cX5_overlapOf 9 = .ok (.bipush 24, 2) := dk_16 24 (dk_at dksX5_overlapOf_0 9 rfl rfl)
theorem dX5_overlapOf_11 : decode cX5_overlapOf 11 = .ok (.iadd, 1) := dk_96 (dk_at dksX5_overlapOf_0 11 rfl rfl)
theorem dX5_overlapOf_12 : decode cX5_overlapOf 12 = .ok (.if_icmp .ge 42, 3) := dk_162 0 42 (dk_at dksX5_overlapOf_0 12 rfl rfl)
theorem dX5_overlapOf_15 : decode cX5_overlapOf 15 = .ok (.iload 4, 2) := dk_21 4 (dk_at dksX5_overlapOf_0 15 rfl rfl)
theorem dX5_overlapOf_17 : decode cX5_overlapOf 17 = .ok (.aload_n 0, 1) := dk_42 (dk_at dksX5_overlapOf_0 17 rfl rfl)
theorem dX5_overlapOf_18 : decode cX5_overlapOf 18 = .ok (.iload_n 1, 1) := dk_27 (dk_at dksX5_overlapOf_0 18 rfl rfl)
theorem dX5_overlapOf_19 : decode cX5_overlapOf 19 = .ok (.iload 5, 2) := dk_21 5 (dk_at dksX5_overlapOf_0 19 rfl rfl)
theorem dX5_overlapOf_21 : decode cX5_overlapOf 21 = .ok (.invokevirtual 120, 3) := dk_182 0 120 (dk_at dksX5_overlapOf_0 21 rfl rfl)
theorem dX5_overlapOf_24 : decode cX5_overlapOf 24 = .ok (.ifCond .eq 17, 3) := dk_153 0 17 (dk_at dksX5_overlapOf_1 0 rfl rfl)
theorem dX5_overlapOf_27 : decode cX5_overlapOf 27 = .ok (.aload_n 0, 1) := dk_42 (dk_at dksX5_overlapOf_1 3 rfl rfl)
theorem dX5_overlapOf_28 : decode cX5_overlapOf 28 = .ok (.iload_n 2, 1) := dk_28 (dk_at dksX5_overlapOf_1 4 rfl rfl)
theorem dX5_overlapOf_29 : decode cX5_overlapOf 29 = .ok (.iload 5, 2) := dk_21 5 (dk_at dksX5_overlapOf_1 5 rfl rfl)
theorem dX5_overlapOf_31 : decode cX5_overlapOf 31 = .ok (.invokevirtual 120, 3) := dk_182 0 120 (dk_at dksX5_overlapOf_1 7 rfl rfl)
theorem dX5_overlapOf_34 : decode cX5_overlapOf 34 = .ok (.ifCond .eq 7, 3) := dk_153 0 7 (dk_at dksX5_overlapOf_1 10 rfl rfl)
theorem dX5_overlapOf_37 : decode cX5_overlapOf 37 = .ok (.iconst 1, 1) := dk_4 (dk_at dksX5_overlapOf_1 13 rfl rfl)
theorem dX5_overlapOf_38 : decode cX5_overlapOf 38 = .ok (.goto 4, 3) := dk_167 0 4 (dk_at dksX5_overlapOf_1 14 rfl rfl)
theorem dX5_overlapOf_41 : decode cX5_overlapOf 41 = .ok (.iconst 0, 1) := dk_3 (dk_at dksX5_overlapOf_1 17 rfl rfl)
theorem dX5_overlapOf_42 : decode cX5_overlapOf 42 = .ok (.invokestatic 124, 3) := dk_184 0 124 (dk_at dksX5_overlapOf_1 18 rfl rfl)
theorem dX5_overlapOf_45 : decode cX5_overlapOf 45 = .ok (.iadd, 1) := dk_96 (dk_at dksX5_overlapOf_1 21 rfl rfl)
theorem dX5_overlapOf_46 : decode cX5_overlapOf 46 = .ok (.istore 4, 2) := dk_54 4 (dk_at dksX5_overlapOf_1 22 rfl rfl)
theorem dX5_overlapOf_48 : decode cX5_overlapOf 48 = .ok (.iinc 5 1, 3) := dk_132 5 1 (dk_at dksX5_overlapOf_2 0 rfl rfl)
theorem dX5_overlapOf_51 : decode cX5_overlapOf 51 = .ok (.goto (-45), 3) := dk_167 255 211 (dk_at dksX5_overlapOf_2 3 rfl rfl)
theorem dX5_overlapOf_54 : decode cX5_overlapOf 54 = .ok (.iload 4, 2) := dk_21 4 (dk_at dksX5_overlapOf_2 6 rfl rfl)
theorem dX5_overlapOf_56 : decode cX5_overlapOf 56 = .ok (.ireturn, 1) := dk_172 (dk_at dksX5_overlapOf_2 8 rfl rfl)
def dkwX5_loses_1 : List UInt8 := [184, 0, 81, 153, 0, 13, 42, 27, 28, 29, 182, 0, 132, 167, 0, 4, 2, 172]
abbrev dktX5_loses_1 : List UInt8 := dkwX5_loses_1 ++ []
def dkwX5_loses_0 : List UInt8 := [42, 3, 181, 0, 3, 42, 27, 182, 0, 77, 153, 0, 28, 42, 28, 182, 0, 77, 153, 0, 20, 29]
abbrev dktX5_loses_0 : List UInt8 := dkwX5_loses_0 ++ dktX5_loses_1
theorem dksX5_loses_0 : cX5_loses.data.toList.drop 0 = dktX5_loses_0 := by decide +kernel
theorem dksX5_loses_1 : cX5_loses.data.toList.drop 22 = dktX5_loses_1 := dk_seg dksX5_loses_0 22 rfl rfl
theorem dX5_loses_0 : decode cX5_loses 0 = .ok (.aload_n 0, 1) := dk_42 (dk_at dksX5_loses_0 0 rfl rfl)
theorem dX5_loses_1 : decode cX5_loses 1 = .ok (.iconst 0, 1) := dk_3 (dk_at dksX5_loses_0 1 rfl rfl)
theorem dX5_loses_2 : decode cX5_loses 2 = .ok (.putfield 3, 3) := dk_181 0 3 (dk_at dksX5_loses_0 2 rfl rfl)
theorem dX5_loses_5 : decode cX5_loses 5 = .ok (.aload_n 0, 1) := dk_42 (dk_at dksX5_loses_0 5 rfl rfl)
theorem dX5_loses_6 : decode cX5_loses 6 = .ok (.iload_n 1, 1) := dk_27 (dk_at dksX5_loses_0 6 rfl rfl)
theorem dX5_loses_7 : decode cX5_loses 7 = .ok (.invokevirtual 77, 3) := dk_182 0 77 (dk_at dksX5_loses_0 7 rfl rfl)
theorem dX5_loses_10 : decode cX5_loses 10 = .ok (.ifCond .eq 28, 3) := dk_153 0 28 (dk_at dksX5_loses_0 10 rfl rfl)
theorem dX5_loses_13 : decode cX5_loses 13 = .ok (.aload_n 0, 1) := dk_42 (dk_at dksX5_loses_0 13 rfl rfl)
theorem dX5_loses_14 : decode cX5_loses 14 = .ok (.iload_n 2, 1) := dk_28 (dk_at dksX5_loses_0 14 rfl rfl)
theorem dX5_loses_15 : decode cX5_loses 15 = .ok (.invokevirtual 77, 3) := dk_182 0 77 (dk_at dksX5_loses_0 15 rfl rfl)
theorem dX5_loses_18 : decode cX5_loses 18 = .ok (.ifCond .eq 20, 3) := dk_153 0 20 (dk_at dksX5_loses_0 18 rfl rfl)
theorem dX5_loses_21 : decode cX5_loses 21 = .ok (.iload_n 3, 1) := dk_29 (dk_at dksX5_loses_0 21 rfl rfl)
theorem dX5_loses_22 : decode cX5_loses 22 = .ok (.invokestatic 81, 3) := dk_184 0 81 (dk_at dksX5_loses_1 0 rfl rfl)
theorem dX5_loses_25 : decode cX5_loses 25 = .ok (.ifCond .eq 13, 3) := dk_153 0 13 (dk_at dksX5_loses_1 3 rfl rfl)
theorem dX5_loses_28 : decode cX5_loses 28 = .ok (.aload_n 0, 1) := dk_42 (dk_at dksX5_loses_1 6 rfl rfl)
theorem dX5_loses_29 : decode cX5_loses 29 = .ok (.iload_n 1, 1) := dk_27 (dk_at dksX5_loses_1 7 rfl rfl)
theorem dX5_loses_30 : decode cX5_loses 30 = .ok (.iload_n 2, 1) := dk_28 (dk_at dksX5_loses_1 8 rfl rfl)
theorem dX5_loses_31 : decode cX5_loses 31 = .ok (.iload_n 3, 1) := dk_29 (dk_at dksX5_loses_1 9 rfl rfl)
theorem dX5_loses_32 : decode cX5_loses 32 = .ok (.invokevirtual 132, 3) := dk_182 0 132 (dk_at dksX5_loses_1 10 rfl rfl)
theorem dX5_loses_35 : decode cX5_loses 35 = .ok (.goto 4, 3) := dk_167 0 4 (dk_at dksX5_loses_1 13 rfl rfl)
theorem dX5_loses_38 : decode cX5_loses 38 = .ok (.iconst (-1), 1) := dk_2 (dk_at dksX5_loses_1 16 rfl rfl)
theorem dX5_loses_39 : decode cX5_loses 39 = .ok (.ireturn, 1) := dk_172 (dk_at dksX5_loses_1 17 rfl rfl)
def dkwX5_lostOf_1 : List UInt8 := [184, 0, 101, 42, 27, 28, 29, 182, 0, 128, 154, 0, 7, 5, 167, 0, 4, 3, 96, 172]
abbrev dktX5_lostOf_1 : List UInt8 := dkwX5_lostOf_1 ++ []
def dkwX5_lostOf_0 : List UInt8 := [27, 28, 160, 0, 5, 3, 172, 3, 42, 180, 0, 108, 42, 180, 0, 60, 16, 6, 27, 104, 28, 96, 46, 100]
abbrev dktX5_lostOf_0 : List UInt8 := dkwX5_lostOf_0 ++ dktX5_lostOf_1
theorem dksX5_lostOf_0 : cX5_lostOf.data.toList.drop 0 = dktX5_lostOf_0 := by decide +kernel
theorem dksX5_lostOf_1 : cX5_lostOf.data.toList.drop 24 = dktX5_lostOf_1 := dk_seg dksX5_lostOf_0 24 rfl rfl
theorem dX5_lostOf_0 : decode cX5_lostOf 0 = .ok (.iload_n 1, 1) := dk_27 (dk_at dksX5_lostOf_0 0 rfl rfl)
theorem dX5_lostOf_1 : decode cX5_lostOf 1 = .ok (.iload_n 2, 1) := dk_28 (dk_at dksX5_lostOf_0 1 rfl rfl)
theorem dX5_lostOf_2 : decode cX5_lostOf 2 = .ok (.if_icmp .ne 5, 3) := dk_160 0 5 (dk_at dksX5_lostOf_0 2 rfl rfl)
theorem dX5_lostOf_5 : decode cX5_lostOf 5 = .ok (.iconst 0, 1) := dk_3 (dk_at dksX5_lostOf_0 5 rfl rfl)
theorem dX5_lostOf_6 : decode cX5_lostOf 6 = .ok (.ireturn, 1) := dk_172 (dk_at dksX5_lostOf_0 6 rfl rfl)
theorem dX5_lostOf_7 : decode cX5_lostOf 7 = .ok (.iconst 0, 1) := dk_3 (dk_at dksX5_lostOf_0 7 rfl rfl)
theorem dX5_lostOf_8 : decode cX5_lostOf 8 = .ok (.aload_n 0, 1) := dk_42 (dk_at dksX5_lostOf_0 8 rfl rfl)
theorem dX5_lostOf_9 : decode cX5_lostOf 9 = .ok (.getfield 108, 3) := dk_180 0 108 (dk_at dksX5_lostOf_0 9 rfl rfl)
theorem dX5_lostOf_12 : decode cX5_lostOf 12 = .ok (.aload_n 0, 1) := dk_42 (dk_at dksX5_lostOf_0 12 rfl rfl)
theorem dX5_lostOf_13 : decode cX5_lostOf 13 = .ok (.getfield 60, 3) := dk_180 0 60 (dk_at dksX5_lostOf_0 13 rfl rfl)
theorem dX5_lostOf_16 : decode cX5_lostOf 16 = .ok (.bipush 6, 2) := dk_16 6 (dk_at dksX5_lostOf_0 16 rfl rfl)
theorem dX5_lostOf_18 : decode cX5_lostOf 18 = .ok (.iload_n 1, 1) := dk_27 (dk_at dksX5_lostOf_0 18 rfl rfl)
theorem dX5_lostOf_19 : decode cX5_lostOf 19 = .ok (.imul, 1) := dk_104 (dk_at dksX5_lostOf_0 19 rfl rfl)
theorem dX5_lostOf_20 : decode cX5_lostOf 20 = .ok (.iload_n 2, 1) := dk_28 (dk_at dksX5_lostOf_0 20 rfl rfl)
theorem dX5_lostOf_21 : decode cX5_lostOf 21 = .ok (.iadd, 1) := dk_96 (dk_at dksX5_lostOf_0 21 rfl rfl)
theorem dX5_lostOf_22 : decode cX5_lostOf 22 = .ok (.iaload, 1) := dk_46 (dk_at dksX5_lostOf_0 22 rfl rfl)
theorem dX5_lostOf_23 : decode cX5_lostOf 23 = .ok (.isub, 1) := dk_100 (dk_at dksX5_lostOf_0 23 rfl rfl)
theorem dX5_lostOf_24 : decode cX5_lostOf 24 = .ok (.invokestatic 101, 3) := dk_184 0 101 (dk_at dksX5_lostOf_1 0 rfl rfl)
theorem dX5_lostOf_27 : decode cX5_lostOf 27 = .ok (.aload_n 0, 1) := dk_42 (dk_at dksX5_lostOf_1 3 rfl rfl)
theorem dX5_lostOf_28 : decode cX5_lostOf 28 = .ok (.iload_n 1, 1) := dk_27 (dk_at dksX5_lostOf_1 4 rfl rfl)
theorem dX5_lostOf_29 : decode cX5_lostOf 29 = .ok (.iload_n 2, 1) := dk_28 (dk_at dksX5_lostOf_1 5 rfl rfl)
theorem dX5_lostOf_30 : decode cX5_lostOf 30 = .ok (.iload_n 3, 1) := dk_29 (dk_at dksX5_lostOf_1 6 rfl rfl)
theorem dX5_lostOf_31 : decode cX5_lostOf 31 = .ok (.invokevirtual 128, 3) := dk_182 0 128 (dk_at dksX5_lostOf_1 7 rfl rfl)
theorem dX5_lostOf_34 : decode cX5_lostOf 34 = .ok (.ifCond .ne 7, 3) := dk_154 0 7 (dk_at dksX5_lostOf_1 10 rfl rfl)
theorem dX5_lostOf_37 : decode cX5_lostOf 37 = .ok (.iconst 2, 1) := dk_5 (dk_at dksX5_lostOf_1 13 rfl rfl)
theorem dX5_lostOf_38 : decode cX5_lostOf 38 = .ok (.goto 4, 3) := dk_167 0 4 (dk_at dksX5_lostOf_1 14 rfl rfl)
theorem dX5_lostOf_41 : decode cX5_lostOf 41 = .ok (.iconst 0, 1) := dk_3 (dk_at dksX5_lostOf_1 17 rfl rfl)
theorem dX5_lostOf_42 : decode cX5_lostOf 42 = .ok (.iadd, 1) := dk_96 (dk_at dksX5_lostOf_1 18 rfl rfl)
theorem dX5_lostOf_43 : decode cX5_lostOf 43 = .ok (.ireturn, 1) := dk_172 (dk_at dksX5_lostOf_1 19 rfl rfl)
def dkwX5_dark_8 : List UInt8 := [21, 4, 133, 182, 0, 18, 42, 21, 5, 133, 182, 0, 18, 42, 21, 6, 133, 182, 0, 18, 29, 172]
abbrev dktX5_dark_8 : List UInt8 := dkwX5_dark_8 ++ []
def dkwX5_dark_7 : List UInt8 := [54, 6, 21, 5, 21, 8, 184, 0, 101, 54, 5, 132, 7, 1, 167, 255, 125, 42, 3, 181, 0, 11, 42]
abbrev dktX5_dark_7 : List UInt8 := dkwX5_dark_7 ++ dktX5_dark_8
def dkwX5_dark_6 : List UInt8 := [21, 7, 167, 0, 5, 21, 4, 54, 4, 21, 8, 21, 5, 164, 0, 8, 21, 7, 167, 0, 5, 21, 6]
abbrev dktX5_dark_6 : List UInt8 := dkwX5_dark_6 ++ dktX5_dark_7
def dkwX5_dark_5 : List UInt8 := [154, 0, 7, 4, 167, 0, 4, 3, 184, 0, 124, 96, 62, 21, 8, 154, 0, 13, 21, 4, 156, 0, 8]
abbrev dktX5_dark_5 : List UInt8 := dkwX5_dark_5 ++ dktX5_dark_6
def dkwX5_dark_4 : List UInt8 := [153, 0, 7, 4, 167, 0, 4, 3, 184, 0, 124, 96, 54, 8, 132, 9, 1, 167, 255, 206, 29, 21, 8]
abbrev dktX5_dark_4 : List UInt8 := dkwX5_dark_4 ++ dktX5_dark_5
def dkwX5_dark_3 : List UInt8 := [21, 8, 42, 180, 0, 47, 21, 9, 46, 27, 184, 0, 137, 153, 0, 18, 42, 21, 9, 21, 7, 182, 0, 120]
abbrev dktX5_dark_3 : List UInt8 := dkwX5_dark_3 ++ dktX5_dark_4
def dkwX5_dark_2 : List UInt8 := [21, 7, 28, 16, 24, 96, 162, 0, 128, 3, 54, 8, 3, 54, 9, 21, 9, 42, 180, 0, 22, 162, 0, 47]
abbrev dktX5_dark_2 : List UInt8 := dkwX5_dark_2 ++ dktX5_dark_3
def dkwX5_dark_1 : List UInt8 := [42, 180, 0, 22, 154, 0, 5, 2, 172, 3, 62, 2, 54, 4, 2, 54, 5, 3, 54, 6, 28, 54, 7]
abbrev dktX5_dark_1 : List UInt8 := dkwX5_dark_1 ++ dktX5_dark_2
def dkwX5_dark_0 : List UInt8 := [42, 3, 181, 0, 3, 27, 133, 9, 20, 0, 135, 184, 0, 25, 153, 0, 17, 28, 184, 0, 81, 153, 0, 10]
abbrev dktX5_dark_0 : List UInt8 := dkwX5_dark_0 ++ dktX5_dark_1
theorem dksX5_dark_0 : cX5_dark.data.toList.drop 0 = dktX5_dark_0 := by decide +kernel
theorem dksX5_dark_1 : cX5_dark.data.toList.drop 24 = dktX5_dark_1 := dk_seg dksX5_dark_0 24 rfl rfl
theorem dksX5_dark_2 : cX5_dark.data.toList.drop 47 = dktX5_dark_2 := dk_seg dksX5_dark_1 23 rfl rfl
theorem dksX5_dark_3 : cX5_dark.data.toList.drop 71 = dktX5_dark_3 := dk_seg dksX5_dark_2 24 rfl rfl
theorem dksX5_dark_4 : cX5_dark.data.toList.drop 95 = dktX5_dark_4 := dk_seg dksX5_dark_3 24 rfl rfl
theorem dksX5_dark_5 : cX5_dark.data.toList.drop 118 = dktX5_dark_5 := dk_seg dksX5_dark_4 23 rfl rfl
theorem dksX5_dark_6 : cX5_dark.data.toList.drop 141 = dktX5_dark_6 := dk_seg dksX5_dark_5 23 rfl rfl
theorem dksX5_dark_7 : cX5_dark.data.toList.drop 164 = dktX5_dark_7 := dk_seg dksX5_dark_6 23 rfl rfl
theorem dksX5_dark_8 : cX5_dark.data.toList.drop 187 = dktX5_dark_8 := dk_seg dksX5_dark_7 23 rfl rfl
theorem dX5_dark_0 : decode cX5_dark 0 = .ok (.aload_n 0, 1) := dk_42 (dk_at dksX5_dark_0 0 rfl rfl)
theorem dX5_dark_1 : decode cX5_dark 1 = .ok (.iconst 0, 1) := dk_3 (dk_at dksX5_dark_0 1 rfl rfl)
theorem dX5_dark_2 : decode cX5_dark 2 = .ok (.putfield 3, 3) := dk_181 0 3 (dk_at dksX5_dark_0 2 rfl rfl)
theorem dX5_dark_5 : decode cX5_dark 5 = .ok (.iload_n 1, 1) := dk_27 (dk_at dksX5_dark_0 5 rfl rfl)
theorem dX5_dark_6 : decode cX5_dark 6 = .ok (.i2l, 1) := dk_133 (dk_at dksX5_dark_0 6 rfl rfl)
theorem dX5_dark_7 : decode cX5_dark 7 = .ok (.lconst 0, 1) := dk_9 (dk_at dksX5_dark_0 7 rfl rfl)
theorem dX5_dark_8 : decode cX5_dark 8 = .ok (.ldc2_w 135, 3) := dk_20 0 135 (dk_at dksX5_dark_0 8 rfl rfl)
theorem dX5_dark_11 : decode cX5_dark 11 = .ok (.invokestatic 25, 3) := dk_184 0 25 (dk_at dksX5_dark_0 11 rfl rfl)
theorem dX5_dark_14 : decode cX5_dark 14 = .ok (.ifCond .eq 17, 3) := dk_153 0 17 (dk_at dksX5_dark_0 14 rfl rfl)
theorem dX5_dark_17 : decode cX5_dark 17 = .ok (.iload_n 2, 1) := dk_28 (dk_at dksX5_dark_0 17 rfl rfl)
theorem dX5_dark_18 : decode cX5_dark 18 = .ok (.invokestatic 81, 3) := dk_184 0 81 (dk_at dksX5_dark_0 18 rfl rfl)
theorem dX5_dark_21 : decode cX5_dark 21 = .ok (.ifCond .eq 10, 3) := dk_153 0 10 (dk_at dksX5_dark_0 21 rfl rfl)
theorem dX5_dark_24 : decode cX5_dark 24 = .ok (.aload_n 0, 1) := dk_42 (dk_at dksX5_dark_1 0 rfl rfl)
theorem dX5_dark_25 : decode cX5_dark 25 = .ok (.getfield 22, 3) := dk_180 0 22 (dk_at dksX5_dark_1 1 rfl rfl)
theorem dX5_dark_28 : decode cX5_dark 28 = .ok (.ifCond .ne 5, 3) := dk_154 0 5 (dk_at dksX5_dark_1 4 rfl rfl)
theorem dX5_dark_31 : decode cX5_dark 31 = .ok (.iconst (-1), 1) := dk_2 (dk_at dksX5_dark_1 7 rfl rfl)
theorem dX5_dark_32 : decode cX5_dark 32 = .ok (.ireturn, 1) := dk_172 (dk_at dksX5_dark_1 8 rfl rfl)
theorem dX5_dark_33 : decode cX5_dark 33 = .ok (.iconst 0, 1) := dk_3 (dk_at dksX5_dark_1 9 rfl rfl)
theorem dX5_dark_34 : decode cX5_dark 34 = .ok (.istore_n 3, 1) := dk_62 (dk_at dksX5_dark_1 10 rfl rfl)
theorem dX5_dark_35 : decode cX5_dark 35 = .ok (.iconst (-1), 1) := dk_2 (dk_at dksX5_dark_1 11 rfl rfl)
theorem dX5_dark_36 : decode cX5_dark 36 = .ok (.istore 4, 2) := dk_54 4 (dk_at dksX5_dark_1 12 rfl rfl)
theorem dX5_dark_38 : decode cX5_dark 38 = .ok (.iconst (-1), 1) := dk_2 (dk_at dksX5_dark_1 14 rfl rfl)
theorem dX5_dark_39 : decode cX5_dark 39 = .ok (.istore 5, 2) := dk_54 5 (dk_at dksX5_dark_1 15 rfl rfl)
theorem dX5_dark_41 : decode cX5_dark 41 = .ok (.iconst 0, 1) := dk_3 (dk_at dksX5_dark_1 17 rfl rfl)
theorem dX5_dark_42 : decode cX5_dark 42 = .ok (.istore 6, 2) := dk_54 6 (dk_at dksX5_dark_1 18 rfl rfl)
theorem dX5_dark_44 : decode cX5_dark 44 = .ok (.iload_n 2, 1) := dk_28 (dk_at dksX5_dark_1 20 rfl rfl)
theorem dX5_dark_45 : decode cX5_dark 45 = .ok (.istore 7, 2) := dk_54 7 (dk_at dksX5_dark_1 21 rfl rfl)
theorem dX5_dark_47 : decode cX5_dark 47 = .ok (.iload 7, 2) := dk_21 7 (dk_at dksX5_dark_2 0 rfl rfl)
theorem dX5_dark_49 : decode cX5_dark 49 = .ok (.iload_n 2, 1) := dk_28 (dk_at dksX5_dark_2 2 rfl rfl)
theorem dX5_dark_50 : decode cX5_dark 50 = .ok (.bipush 24, 2) := dk_16 24 (dk_at dksX5_dark_2 3 rfl rfl)
theorem dX5_dark_52 : decode cX5_dark 52 = .ok (.iadd, 1) := dk_96 (dk_at dksX5_dark_2 5 rfl rfl)
theorem dX5_dark_53 : decode cX5_dark 53 = .ok (.if_icmp .ge 128, 3) := dk_162 0 128 (dk_at dksX5_dark_2 6 rfl rfl)
theorem dX5_dark_56 : decode cX5_dark 56 = .ok (.iconst 0, 1) := dk_3 (dk_at dksX5_dark_2 9 rfl rfl)
theorem dX5_dark_57 : decode cX5_dark 57 = .ok (.istore 8, 2) := dk_54 8 (dk_at dksX5_dark_2 10 rfl rfl)
theorem dX5_dark_59 : decode cX5_dark 59 = .ok (.iconst 0, 1) := dk_3 (dk_at dksX5_dark_2 12 rfl rfl)
theorem dX5_dark_60 : decode cX5_dark 60 = .ok (.istore 9, 2) := dk_54 9 (dk_at dksX5_dark_2 13 rfl rfl)
theorem dX5_dark_62 : decode cX5_dark 62 = .ok (.iload 9, 2) := dk_21 9 (dk_at dksX5_dark_2 15 rfl rfl)
theorem dX5_dark_64 : decode cX5_dark 64 = .ok (.aload_n 0, 1) := dk_42 (dk_at dksX5_dark_2 17 rfl rfl)
theorem dX5_dark_65 : decode cX5_dark 65 = .ok (.getfield 22, 3) := dk_180 0 22 (dk_at dksX5_dark_2 18 rfl rfl)
theorem dX5_dark_68 : decode cX5_dark 68 = .ok (.if_icmp .ge 47, 3) := dk_162 0 47 (dk_at dksX5_dark_2 21 rfl rfl)
theorem dX5_dark_71 : decode cX5_dark 71 = .ok (.iload 8, 2) := dk_21 8 (dk_at dksX5_dark_3 0 rfl rfl)
theorem dX5_dark_73 : decode cX5_dark 73 = .ok (.aload_n 0, 1) := dk_42 (dk_at dksX5_dark_3 2 rfl rfl)
theorem dX5_dark_74 : decode cX5_dark 74 = .ok (.getfield 47, 3) := dk_180 0 47 (dk_at dksX5_dark_3 3 rfl rfl)
theorem dX5_dark_77 : decode cX5_dark 77 = .ok (.iload 9, 2) := dk_21 9 (dk_at dksX5_dark_3 6 rfl rfl)
theorem dX5_dark_79 : decode cX5_dark 79 = .ok (.iaload, 1) := dk_46 (dk_at dksX5_dark_3 8 rfl rfl)
theorem dX5_dark_80 : decode cX5_dark 80 = .ok (.iload_n 1, 1) := dk_27 (dk_at dksX5_dark_3 9 rfl rfl)
theorem dX5_dark_81 : decode cX5_dark 81 = .ok (.invokestatic 137, 3) := dk_184 0 137 (dk_at dksX5_dark_3 10 rfl rfl)
theorem dX5_dark_84 : decode cX5_dark 84 = .ok (.ifCond .eq 18, 3) := dk_153 0 18 (dk_at dksX5_dark_3 13 rfl rfl)
theorem dX5_dark_87 : decode cX5_dark 87 = .ok (.aload_n 0, 1) := dk_42 (dk_at dksX5_dark_3 16 rfl rfl)
theorem dX5_dark_88 : decode cX5_dark 88 = .ok (.iload 9, 2) := dk_21 9 (dk_at dksX5_dark_3 17 rfl rfl)
theorem dX5_dark_90 : decode cX5_dark 90 = .ok (.iload 7, 2) := dk_21 7 (dk_at dksX5_dark_3 19 rfl rfl)
theorem dX5_dark_92 : decode cX5_dark 92 = .ok (.invokevirtual 120, 3) := dk_182 0 120 (dk_at dksX5_dark_3 21 rfl rfl)
theorem dX5_dark_95 : decode cX5_dark 95 = .ok (.ifCond .eq 7, 3) := dk_153 0 7 (dk_at dksX5_dark_4 0 rfl rfl)
theorem dX5_dark_98 : decode cX5_dark 98 = .ok (.iconst 1, 1) := dk_4 (dk_at dksX5_dark_4 3 rfl rfl)
theorem dX5_dark_99 : decode cX5_dark 99 = .ok (.goto 4, 3) := dk_167 0 4 (dk_at dksX5_dark_4 4 rfl rfl)
theorem dX5_dark_102 : decode cX5_dark 102 = .ok (.iconst 0, 1) := dk_3 (dk_at dksX5_dark_4 7 rfl rfl)
theorem dX5_dark_103 : decode cX5_dark 103 = .ok (.invokestatic 124, 3) := dk_184 0 124 (dk_at dksX5_dark_4 8 rfl rfl)
theorem dX5_dark_106 : decode cX5_dark 106 = .ok (.iadd, 1) := dk_96 (dk_at dksX5_dark_4 11 rfl rfl)
theorem dX5_dark_107 : decode cX5_dark 107 = .ok (.istore 8, 2) := dk_54 8 (dk_at dksX5_dark_4 12 rfl rfl)
theorem dX5_dark_109 : decode cX5_dark 109 = .ok (.iinc 9 1, 3) := dk_132 9 1 (dk_at dksX5_dark_4 14 rfl rfl)
theorem dX5_dark_112 : decode cX5_dark 112 = .ok (.goto (-50), 3) := dk_167 255 206 (dk_at dksX5_dark_4 17 rfl rfl)
theorem dX5_dark_115 : decode cX5_dark 115 = .ok (.iload_n 3, 1) := dk_29 (dk_at dksX5_dark_4 20 rfl rfl)
theorem dX5_dark_116 : decode cX5_dark 116 = .ok (.iload 8, 2) := dk_21 8 (dk_at dksX5_dark_4 21 rfl rfl)
theorem dX5_dark_118 : decode cX5_dark 118 = .ok (.ifCond .ne 7, 3) := dk_154 0 7 (dk_at dksX5_dark_5 0 rfl rfl)
theorem dX5_dark_121 : decode cX5_dark 121 = .ok (.iconst 1, 1) := dk_4 (dk_at dksX5_dark_5 3 rfl rfl)
theorem dX5_dark_122 : decode cX5_dark 122 = .ok (.goto 4, 3) := dk_167 0 4 (dk_at dksX5_dark_5 4 rfl rfl)
theorem dX5_dark_125 : decode cX5_dark 125 = .ok (.iconst 0, 1) := dk_3 (dk_at dksX5_dark_5 7 rfl rfl)
theorem dX5_dark_126 : decode cX5_dark 126 = .ok (.invokestatic 124, 3) := dk_184 0 124 (dk_at dksX5_dark_5 8 rfl rfl)
theorem dX5_dark_129 : decode cX5_dark 129 = .ok (.iadd, 1) := dk_96 (dk_at dksX5_dark_5 11 rfl rfl)
theorem dX5_dark_130 : decode cX5_dark 130 = .ok (.istore_n 3, 1) := dk_62 (dk_at dksX5_dark_5 12 rfl rfl)
theorem dX5_dark_131 : decode cX5_dark 131 = .ok (.iload 8, 2) := dk_21 8 (dk_at dksX5_dark_5 13 rfl rfl)
theorem dX5_dark_133 : decode cX5_dark 133 = .ok (.ifCond .ne 13, 3) := dk_154 0 13 (dk_at dksX5_dark_5 15 rfl rfl)
theorem dX5_dark_136 : decode cX5_dark 136 = .ok (.iload 4, 2) := dk_21 4 (dk_at dksX5_dark_5 18 rfl rfl)
theorem dX5_dark_138 : decode cX5_dark 138 = .ok (.ifCond .ge 8, 3) := dk_156 0 8 (dk_at dksX5_dark_5 20 rfl rfl)
theorem dX5_dark_141 : decode cX5_dark 141 = .ok (.iload 7, 2) := dk_21 7 (dk_at dksX5_dark_6 0 rfl rfl)
theorem dX5_dark_143 : decode cX5_dark 143 = .ok (.goto 5, 3) := dk_167 0 5 (dk_at dksX5_dark_6 2 rfl rfl)
theorem dX5_dark_146 : decode cX5_dark 146 = .ok (.iload 4, 2) := dk_21 4 (dk_at dksX5_dark_6 5 rfl rfl)
theorem dX5_dark_148 : decode cX5_dark 148 = .ok (.istore 4, 2) := dk_54 4 (dk_at dksX5_dark_6 7 rfl rfl)
theorem dX5_dark_150 : decode cX5_dark 150 = .ok (.iload 8, 2) := dk_21 8 (dk_at dksX5_dark_6 9 rfl rfl)
theorem dX5_dark_152 : decode cX5_dark 152 = .ok (.iload 5, 2) := dk_21 5 (dk_at dksX5_dark_6 11 rfl rfl)
theorem dX5_dark_154 : decode cX5_dark 154 = .ok (.if_icmp .le 8, 3) := dk_164 0 8 (dk_at dksX5_dark_6 13 rfl rfl)
theorem dX5_dark_157 : decode cX5_dark 157 = .ok (.iload 7, 2) := dk_21 7 (dk_at dksX5_dark_6 16 rfl rfl)
theorem dX5_dark_159 : decode cX5_dark 159 = .ok (.goto 5, 3) := dk_167 0 5 (dk_at dksX5_dark_6 18 rfl rfl)
theorem dX5_dark_162 : decode cX5_dark 162 = .ok (.iload 6, 2) := dk_21 6 (dk_at dksX5_dark_6 21 rfl rfl)
theorem dX5_dark_164 : decode cX5_dark 164 = .ok (.istore 6, 2) := dk_54 6 (dk_at dksX5_dark_7 0 rfl rfl)
theorem dX5_dark_166 : decode cX5_dark 166 = .ok (.iload 5, 2) := dk_21 5 (dk_at dksX5_dark_7 2 rfl rfl)
theorem dX5_dark_168 : decode cX5_dark 168 = .ok (.iload 8, 2) := dk_21 8 (dk_at dksX5_dark_7 4 rfl rfl)
theorem dX5_dark_170 : decode cX5_dark 170 = .ok (.invokestatic 101, 3) := dk_184 0 101 (dk_at dksX5_dark_7 6 rfl rfl)
theorem dX5_dark_173 : decode cX5_dark 173 = .ok (.istore 5, 2) := dk_54 5 (dk_at dksX5_dark_7 9 rfl rfl)
theorem dX5_dark_175 : decode cX5_dark 175 = .ok (.iinc 7 1, 3) := dk_132 7 1 (dk_at dksX5_dark_7 11 rfl rfl)
theorem dX5_dark_178 : decode cX5_dark 178 = .ok (.goto (-131), 3) := dk_167 255 125 (dk_at dksX5_dark_7 14 rfl rfl)
theorem dX5_dark_181 : decode cX5_dark 181 = .ok (.aload_n 0, 1) := dk_42 (dk_at dksX5_dark_7 17 rfl rfl)
theorem dX5_dark_182 : decode cX5_dark 182 = .ok (.iconst 0, 1) := dk_3 (dk_at dksX5_dark_7 18 rfl rfl)
theorem dX5_dark_183 : decode cX5_dark 183 = .ok (.putfield 11, 3) := dk_181 0 11 (dk_at dksX5_dark_7 19 rfl rfl)
theorem dX5_dark_186 : decode cX5_dark 186 = .ok (.aload_n 0, 1) := dk_42 (dk_at dksX5_dark_7 22 rfl rfl)
theorem dX5_dark_187 : decode cX5_dark 187 = .ok (.iload 4, 2) := dk_21 4 (dk_at dksX5_dark_8 0 rfl rfl)
theorem dX5_dark_189 : decode cX5_dark 189 = .ok (.i2l, 1) := dk_133 (dk_at dksX5_dark_8 2 rfl rfl)
theorem dX5_dark_190 : decode cX5_dark 190 = .ok (.invokevirtual 18, 3) := dk_182 0 18 (dk_at dksX5_dark_8 3 rfl rfl)
theorem dX5_dark_193 : decode cX5_dark 193 = .ok (.aload_n 0, 1) := dk_42 (dk_at dksX5_dark_8 6 rfl rfl)
theorem dX5_dark_194 : decode cX5_dark 194 = .ok (.iload 5, 2) := dk_21 5 (dk_at dksX5_dark_8 7 rfl rfl)
theorem dX5_dark_196 : decode cX5_dark 196 = .ok (.i2l, 1) := dk_133 (dk_at dksX5_dark_8 9 rfl rfl)
theorem dX5_dark_197 : decode cX5_dark 197 = .ok (.invokevirtual 18, 3) := dk_182 0 18 (dk_at dksX5_dark_8 10 rfl rfl)
theorem dX5_dark_200 : decode cX5_dark 200 = .ok (.aload_n 0, 1) := dk_42 (dk_at dksX5_dark_8 13 rfl rfl)
theorem dX5_dark_201 : decode cX5_dark 201 = .ok (.iload 6, 2) := dk_21 6 (dk_at dksX5_dark_8 14 rfl rfl)
theorem dX5_dark_203 : decode cX5_dark 203 = .ok (.i2l, 1) := dk_133 (dk_at dksX5_dark_8 16 rfl rfl)
theorem dX5_dark_204 : decode cX5_dark 204 = .ok (.invokevirtual 18, 3) := dk_182 0 18 (dk_at dksX5_dark_8 17 rfl rfl)
theorem dX5_dark_207 : decode cX5_dark 207 = .ok (.iload_n 3, 1) := dk_29 (dk_at dksX5_dark_8 20 rfl rfl)
theorem dX5_dark_208 : decode cX5_dark 208 = .ok (.ireturn, 1) := dk_172 (dk_at dksX5_dark_8 21 rfl rfl)
def dkwX5_has_0 : List UInt8 := [26, 27, 122, 4, 126, 4, 160, 0, 7, 4, 167, 0, 4, 3, 172]
abbrev dktX5_has_0 : List UInt8 := dkwX5_has_0 ++ []
theorem dksX5_has_0 : cX5_has.data.toList.drop 0 = dktX5_has_0 := by decide +kernel
theorem dX5_has_0 : decode cX5_has 0 = .ok (.iload_n 0, 1) := dk_26 (dk_at dksX5_has_0 0 rfl rfl)
theorem dX5_has_1 : decode cX5_has 1 = .ok (.iload_n 1, 1) := dk_27 (dk_at dksX5_has_0 1 rfl rfl)
theorem dX5_has_2 : decode cX5_has 2 = .ok (.ishr, 1) := dk_122 (dk_at dksX5_has_0 2 rfl rfl)
theorem dX5_has_3 : decode cX5_has 3 = .ok (.iconst 1, 1) := dk_4 (dk_at dksX5_has_0 3 rfl rfl)
theorem dX5_has_4 : decode cX5_has 4 = .ok (.iand, 1) := dk_126 (dk_at dksX5_has_0 4 rfl rfl)
theorem dX5_has_5 : decode cX5_has 5 = .ok (.iconst 1, 1) := dk_4 (dk_at dksX5_has_0 5 rfl rfl)
theorem dX5_has_6 : decode cX5_has 6 = .ok (.if_icmp .ne 7, 3) := dk_160 0 7 (dk_at dksX5_has_0 6 rfl rfl)
theorem dX5_has_9 : decode cX5_has 9 = .ok (.iconst 1, 1) := dk_4 (dk_at dksX5_has_0 9 rfl rfl)
theorem dX5_has_10 : decode cX5_has 10 = .ok (.goto 4, 3) := dk_167 0 4 (dk_at dksX5_has_0 10 rfl rfl)
theorem dX5_has_13 : decode cX5_has 13 = .ok (.iconst 0, 1) := dk_3 (dk_at dksX5_has_0 13 rfl rfl)
theorem dX5_has_14 : decode cX5_has 14 = .ok (.ireturn, 1) := dk_172 (dk_at dksX5_has_0 14 rfl rfl)
def dkwX5_enters_0 : List UInt8 := [42, 180, 0, 7, 42, 180, 0, 11, 31, 80, 42, 89, 180, 0, 11, 4, 96, 181, 0, 11, 177]
abbrev dktX5_enters_0 : List UInt8 := dkwX5_enters_0 ++ []
theorem dksX5_enters_0 : cX5_enters.data.toList.drop 0 = dktX5_enters_0 := by decide +kernel
theorem dX5_enters_0 : decode cX5_enters 0 = .ok (.aload_n 0, 1) := dk_42 (dk_at dksX5_enters_0 0 rfl rfl)
theorem dX5_enters_1 : decode cX5_enters 1 = .ok (.getfield 7, 3) := dk_180 0 7 (dk_at dksX5_enters_0 1 rfl rfl)
theorem dX5_enters_4 : decode cX5_enters 4 = .ok (.aload_n 0, 1) := dk_42 (dk_at dksX5_enters_0 4 rfl rfl)
theorem dX5_enters_5 : decode cX5_enters 5 = .ok (.getfield 11, 3) := dk_180 0 11 (dk_at dksX5_enters_0 5 rfl rfl)
theorem dX5_enters_8 : decode cX5_enters 8 = .ok (.lload_n 1, 1) := dk_31 (dk_at dksX5_enters_0 8 rfl rfl)
theorem dX5_enters_9 : decode cX5_enters 9 = .ok (.lastore, 1) := dk_80 (dk_at dksX5_enters_0 9 rfl rfl)
theorem dX5_enters_10 : decode cX5_enters 10 = .ok (.aload_n 0, 1) := dk_42 (dk_at dksX5_enters_0 10 rfl rfl)
theorem dX5_enters_11 : decode cX5_enters 11 = .ok (.dup, 1) := dk_89 (dk_at dksX5_enters_0 11 rfl rfl)
theorem dX5_enters_12 : decode cX5_enters 12 = .ok (.getfield 11, 3) := dk_180 0 11 (dk_at dksX5_enters_0 12 rfl rfl)
theorem dX5_enters_15 : decode cX5_enters 15 = .ok (.iconst 1, 1) := dk_4 (dk_at dksX5_enters_0 15 rfl rfl)
theorem dX5_enters_16 : decode cX5_enters 16 = .ok (.iadd, 1) := dk_96 (dk_at dksX5_enters_0 16 rfl rfl)
theorem dX5_enters_17 : decode cX5_enters 17 = .ok (.putfield 11, 3) := dk_181 0 11 (dk_at dksX5_enters_0 17 rfl rfl)
theorem dX5_enters_20 : decode cX5_enters 20 = .ok (.return_, 1) := dk_177 (dk_at dksX5_enters_0 20 rfl rfl)
def dkwX5_piece_8 : List UInt8 := [180, 0, 151, 4, 100, 172]
abbrev dktX5_piece_8 : List UInt8 := dkwX5_piece_8 ++ []
def dkwX5_piece_7 : List UInt8 := [21, 5, 79, 42, 42, 180, 0, 151, 182, 0, 166, 42, 89, 180, 0, 151, 4, 96, 181, 0, 151, 42]
abbrev dktX5_piece_7 : List UInt8 := dkwX5_piece_7 ++ dktX5_piece_8
def dkwX5_piece_6 : List UInt8 := [180, 0, 151, 29, 79, 42, 180, 0, 143, 42, 180, 0, 151, 21, 4, 79, 42, 180, 0, 163, 42, 180, 0, 151]
abbrev dktX5_piece_6 : List UInt8 := dkwX5_piece_6 ++ dktX5_piece_7
def dkwX5_piece_5 : List UInt8 := [180, 0, 151, 27, 16, 6, 108, 79, 42, 180, 0, 146, 42, 180, 0, 151, 28, 79, 42, 180, 0, 160, 42]
abbrev dktX5_piece_5 : List UInt8 := dkwX5_piece_5 ++ dktX5_piece_6
def dkwX5_piece_4 : List UInt8 := [160, 0, 5, 2, 172, 42, 180, 0, 154, 42, 180, 0, 151, 27, 16, 6, 112, 79, 42, 180, 0, 157, 42]
abbrev dktX5_piece_4 : List UInt8 := dkwX5_piece_4 ++ dktX5_piece_5
def dkwX5_piece_3 : List UInt8 := [153, 0, 27, 21, 5, 2, 159, 0, 12, 42, 21, 5, 182, 0, 77, 153, 0, 12, 42, 180, 0, 151, 16, 8]
abbrev dktX5_piece_3 : List UInt8 := dkwX5_piece_3 ++ dktX5_piece_4
def dkwX5_piece_2 : List UInt8 := [184, 0, 25, 153, 0, 16, 42, 21, 4, 182, 0, 77, 153, 0, 7, 4, 167, 0, 4, 3, 54, 6, 21, 6]
abbrev dktX5_piece_2 : List UInt8 := dkwX5_piece_2 ++ dktX5_piece_3
def dkwX5_piece_1 : List UInt8 := [28, 133, 10, 20, 0, 149, 184, 0, 25, 153, 0, 34, 29, 133, 9, 4, 42, 180, 0, 151, 120, 4, 100, 133]
abbrev dktX5_piece_1 : List UInt8 := dkwX5_piece_1 ++ dktX5_piece_2
def dkwX5_piece_0 : List UInt8 := [42, 3, 181, 0, 3, 27, 155, 0, 61, 27, 16, 6, 108, 133, 10, 20, 0, 149, 184, 0, 25, 153, 0, 46]
abbrev dktX5_piece_0 : List UInt8 := dkwX5_piece_0 ++ dktX5_piece_1
theorem dksX5_piece_0 : cX5_piece.data.toList.drop 0 = dktX5_piece_0 := by decide +kernel
theorem dksX5_piece_1 : cX5_piece.data.toList.drop 24 = dktX5_piece_1 := dk_seg dksX5_piece_0 24 rfl rfl
theorem dksX5_piece_2 : cX5_piece.data.toList.drop 48 = dktX5_piece_2 := dk_seg dksX5_piece_1 24 rfl rfl
theorem dksX5_piece_3 : cX5_piece.data.toList.drop 72 = dktX5_piece_3 := dk_seg dksX5_piece_2 24 rfl rfl
theorem dksX5_piece_4 : cX5_piece.data.toList.drop 96 = dktX5_piece_4 := dk_seg dksX5_piece_3 24 rfl rfl
theorem dksX5_piece_5 : cX5_piece.data.toList.drop 119 = dktX5_piece_5 := dk_seg dksX5_piece_4 23 rfl rfl
theorem dksX5_piece_6 : cX5_piece.data.toList.drop 142 = dktX5_piece_6 := dk_seg dksX5_piece_5 23 rfl rfl
theorem dksX5_piece_7 : cX5_piece.data.toList.drop 166 = dktX5_piece_7 := dk_seg dksX5_piece_6 24 rfl rfl
theorem dksX5_piece_8 : cX5_piece.data.toList.drop 188 = dktX5_piece_8 := dk_seg dksX5_piece_7 22 rfl rfl
theorem dX5_piece_0 : decode cX5_piece 0 = .ok (.aload_n 0, 1) := dk_42 (dk_at dksX5_piece_0 0 rfl rfl)
theorem dX5_piece_1 : decode cX5_piece 1 = .ok (.iconst 0, 1) := dk_3 (dk_at dksX5_piece_0 1 rfl rfl)
theorem dX5_piece_2 : decode cX5_piece 2 = .ok (.putfield 3, 3) := dk_181 0 3 (dk_at dksX5_piece_0 2 rfl rfl)
theorem dX5_piece_5 : decode cX5_piece 5 = .ok (.iload_n 1, 1) := dk_27 (dk_at dksX5_piece_0 5 rfl rfl)
theorem dX5_piece_6 : decode cX5_piece 6 = .ok (.ifCond .lt 61, 3) := dk_155 0 61 (dk_at dksX5_piece_0 6 rfl rfl)
theorem dX5_piece_9 : decode cX5_piece 9 = .ok (.iload_n 1, 1) := dk_27 (dk_at dksX5_piece_0 9 rfl rfl)
theorem dX5_piece_10 : decode cX5_piece 10 = .ok (.bipush 6, 2) := dk_16 6 (dk_at dksX5_piece_0 10 rfl rfl)
theorem dX5_piece_12 : decode cX5_piece 12 = .ok (.idiv, 1) := dk_108 (dk_at dksX5_piece_0 12 rfl rfl)
theorem dX5_piece_13 : decode cX5_piece 13 = .ok (.i2l, 1) := dk_133 (dk_at dksX5_piece_0 13 rfl rfl)
theorem dX5_piece_14 : decode cX5_piece 14 = .ok (.lconst 1, 1) := dk_10 (dk_at dksX5_piece_0 14 rfl rfl)
theorem dX5_piece_15 : decode cX5_piece 15 = .ok (.ldc2_w 149, 3) := dk_20 0 149 (dk_at dksX5_piece_0 15 rfl rfl)
theorem dX5_piece_18 : decode cX5_piece 18 = .ok (.invokestatic 25, 3) := dk_184 0 25 (dk_at dksX5_piece_0 18 rfl rfl)
theorem dX5_piece_21 : decode cX5_piece 21 = .ok (.ifCond .eq 46, 3) := dk_153 0 46 (dk_at dksX5_piece_0 21 rfl rfl)
theorem dX5_piece_24 : decode cX5_piece 24 = .ok (.iload_n 2, 1) := dk_28 (dk_at dksX5_piece_1 0 rfl rfl)
theorem dX5_piece_25 : decode cX5_piece 25 = .ok (.i2l, 1) := dk_133 (dk_at dksX5_piece_1 1 rfl rfl)
theorem dX5_piece_26 : decode cX5_piece 26 = .ok (.lconst 1, 1) := dk_10 (dk_at dksX5_piece_1 2 rfl rfl)
theorem dX5_piece_27 : decode cX5_piece 27 = .ok (.ldc2_w 149, 3) := dk_20 0 149 (dk_at dksX5_piece_1 3 rfl rfl)
theorem dX5_piece_30 : decode cX5_piece 30 = .ok (.invokestatic 25, 3) := dk_184 0 25 (dk_at dksX5_piece_1 6 rfl rfl)
theorem dX5_piece_33 : decode cX5_piece 33 = .ok (.ifCond .eq 34, 3) := dk_153 0 34 (dk_at dksX5_piece_1 9 rfl rfl)
theorem dX5_piece_36 : decode cX5_piece 36 = .ok (.iload_n 3, 1) := dk_29 (dk_at dksX5_piece_1 12 rfl rfl)
theorem dX5_piece_37 : decode cX5_piece 37 = .ok (.i2l, 1) := dk_133 (dk_at dksX5_piece_1 13 rfl rfl)
theorem dX5_piece_38 : decode cX5_piece 38 = .ok (.lconst 0, 1) := dk_9 (dk_at dksX5_piece_1 14 rfl rfl)
theorem dX5_piece_39 : decode cX5_piece 39 = .ok (.iconst 1, 1) := dk_4 (dk_at dksX5_piece_1 15 rfl rfl)
theorem dX5_piece_40 : decode cX5_piece 40 = .ok (.aload_n 0, 1) := dk_42 (dk_at dksX5_piece_1 16 rfl rfl)
theorem dX5_piece_41 : decode cX5_piece 41 = .ok (.getfield 151, 3) := dk_180 0 151 (dk_at dksX5_piece_1 17 rfl rfl)
theorem dX5_piece_44 : decode cX5_piece 44 = .ok (.ishl, 1) := dk_120 (dk_at dksX5_piece_1 20 rfl rfl)
theorem dX5_piece_45 : decode cX5_piece 45 = .ok (.iconst 1, 1) := dk_4 (dk_at dksX5_piece_1 21 rfl rfl)
theorem dX5_piece_46 : decode cX5_piece 46 = .ok (.isub, 1) := dk_100 (dk_at dksX5_piece_1 22 rfl rfl)
theorem dX5_piece_47 : decode cX5_piece 47 = .ok (.i2l, 1) := dk_133 (dk_at dksX5_piece_1 23 rfl rfl)
theorem dX5_piece_48 : decode cX5_piece 48 = .ok (.invokestatic 25, 3) := dk_184 0 25 (dk_at dksX5_piece_2 0 rfl rfl)
theorem dX5_piece_51 : decode cX5_piece 51 = .ok (.ifCond .eq 16, 3) := dk_153 0 16 (dk_at dksX5_piece_2 3 rfl rfl)
theorem dX5_piece_54 : decode cX5_piece 54 = .ok (.aload_n 0, 1) := dk_42 (dk_at dksX5_piece_2 6 rfl rfl)
theorem dX5_piece_55 : decode cX5_piece 55 = .ok (.iload 4, 2) := dk_21 4 (dk_at dksX5_piece_2 7 rfl rfl)
theorem dX5_piece_57 : decode cX5_piece 57 = .ok (.invokevirtual 77, 3) := dk_182 0 77 (dk_at dksX5_piece_2 9 rfl rfl)
theorem dX5_piece_60 : decode cX5_piece 60 = .ok (.ifCond .eq 7, 3) := dk_153 0 7 (dk_at dksX5_piece_2 12 rfl rfl)
theorem dX5_piece_63 : decode cX5_piece 63 = .ok (.iconst 1, 1) := dk_4 (dk_at dksX5_piece_2 15 rfl rfl)
theorem dX5_piece_64 : decode cX5_piece 64 = .ok (.goto 4, 3) := dk_167 0 4 (dk_at dksX5_piece_2 16 rfl rfl)
theorem dX5_piece_67 : decode cX5_piece 67 = .ok (.iconst 0, 1) := dk_3 (dk_at dksX5_piece_2 19 rfl rfl)
theorem dX5_piece_68 : decode cX5_piece 68 = .ok (.istore 6, 2) := dk_54 6 (dk_at dksX5_piece_2 20 rfl rfl)
theorem dX5_piece_70 : decode cX5_piece 70 = .ok (.iload 6, 2) := dk_21 6 (dk_at dksX5_piece_2 22 rfl rfl)
theorem dX5_piece_72 : decode cX5_piece 72 = .ok (.ifCond .eq 27, 3) := dk_153 0 27 (dk_at dksX5_piece_3 0 rfl rfl)
theorem dX5_piece_75 : decode cX5_piece 75 = .ok (.iload 5, 2) := dk_21 5 (dk_at dksX5_piece_3 3 rfl rfl)
theorem dX5_piece_77 : decode cX5_piece 77 = .ok (.iconst (-1), 1) := dk_2 (dk_at dksX5_piece_3 5 rfl rfl)
theorem dX5_piece_78 : decode cX5_piece 78 = .ok (.if_icmp .eq 12, 3) := dk_159 0 12 (dk_at dksX5_piece_3 6 rfl rfl)
theorem dX5_piece_81 : decode cX5_piece 81 = .ok (.aload_n 0, 1) := dk_42 (dk_at dksX5_piece_3 9 rfl rfl)
theorem dX5_piece_82 : decode cX5_piece 82 = .ok (.iload 5, 2) := dk_21 5 (dk_at dksX5_piece_3 10 rfl rfl)
theorem dX5_piece_84 : decode cX5_piece 84 = .ok (.invokevirtual 77, 3) := dk_182 0 77 (dk_at dksX5_piece_3 12 rfl rfl)
theorem dX5_piece_87 : decode cX5_piece 87 = .ok (.ifCond .eq 12, 3) := dk_153 0 12 (dk_at dksX5_piece_3 15 rfl rfl)
theorem dX5_piece_90 : decode cX5_piece 90 = .ok (.aload_n 0, 1) := dk_42 (dk_at dksX5_piece_3 18 rfl rfl)
theorem dX5_piece_91 : decode cX5_piece 91 = .ok (.getfield 151, 3) := dk_180 0 151 (dk_at dksX5_piece_3 19 rfl rfl)
theorem dX5_piece_94 : decode cX5_piece 94 = .ok (.bipush 8, 2) := dk_16 8 (dk_at dksX5_piece_3 22 rfl rfl)
theorem dX5_piece_96 : decode cX5_piece 96 = .ok (.if_icmp .ne 5, 3) := dk_160 0 5 (dk_at dksX5_piece_4 0 rfl rfl)
theorem dX5_piece_99 : decode cX5_piece 99 = .ok (.iconst (-1), 1) := dk_2 (dk_at dksX5_piece_4 3 rfl rfl)
theorem dX5_piece_100 : decode cX5_piece 100 = .ok (.ireturn, 1) := dk_172 (dk_at dksX5_piece_4 4 rfl rfl)
theorem dX5_piece_101 : decode cX5_piece 101 = .ok (.aload_n 0, 1) := dk_42 (dk_at dksX5_piece_4 5 rfl rfl)
theorem dX5_piece_102 : decode cX5_piece 102 = .ok (.getfield 154, 3) := dk_180 0 154 (dk_at dksX5_piece_4 6 rfl rfl)
theorem dX5_piece_105 : decode cX5_piece 105 = .ok (.aload_n 0, 1) := dk_42 (dk_at dksX5_piece_4 9 rfl rfl)
theorem dX5_piece_106 : decode cX5_piece 106 = .ok (.getfield 151, 3) := dk_180 0 151 (dk_at dksX5_piece_4 10 rfl rfl)
theorem dX5_piece_109 : decode cX5_piece 109 = .ok (.iload_n 1, 1) := dk_27 (dk_at dksX5_piece_4 13 rfl rfl)
theorem dX5_piece_110 : decode cX5_piece 110 = .ok (.bipush 6, 2) := dk_16 6 (dk_at dksX5_piece_4 14 rfl rfl)
theorem dX5_piece_112 : decode cX5_piece 112 = .ok (.irem, 1) := dk_112 (dk_at dksX5_piece_4 16 rfl rfl)
theorem dX5_piece_113 : decode cX5_piece 113 = .ok (.iastore, 1) := dk_79 (dk_at dksX5_piece_4 17 rfl rfl)
theorem dX5_piece_114 : decode cX5_piece 114 = .ok (.aload_n 0, 1) := dk_42 (dk_at dksX5_piece_4 18 rfl rfl)
theorem dX5_piece_115 : decode cX5_piece 115 = .ok (.getfield 157, 3) := dk_180 0 157 (dk_at dksX5_piece_4 19 rfl rfl)
theorem dX5_piece_118 : decode cX5_piece 118 = .ok (.aload_n 0, 1) := dk_42 (dk_at dksX5_piece_4 22 rfl rfl)
theorem dX5_piece_119 : decode cX5_piece 119 = .ok (.getfield 151, 3) := dk_180 0 151 (dk_at dksX5_piece_5 0 rfl rfl)
theorem dX5_piece_122 : decode cX5_piece 122 = .ok (.iload_n 1, 1) := dk_27 (dk_at dksX5_piece_5 3 rfl rfl)
theorem dX5_piece_123 : decode cX5_piece 123 = .ok (.bipush 6, 2) := dk_16 6 (dk_at dksX5_piece_5 4 rfl rfl)
theorem dX5_piece_125 : decode cX5_piece 125 = .ok (.idiv, 1) := dk_108 (dk_at dksX5_piece_5 6 rfl rfl)
theorem dX5_piece_126 : decode cX5_piece 126 = .ok (.iastore, 1) := dk_79 (dk_at dksX5_piece_5 7 rfl rfl)
theorem dX5_piece_127 : decode cX5_piece 127 = .ok (.aload_n 0, 1) := dk_42 (dk_at dksX5_piece_5 8 rfl rfl)
theorem dX5_piece_128 : decode cX5_piece 128 = .ok (.getfield 146, 3) := dk_180 0 146 (dk_at dksX5_piece_5 9 rfl rfl)
theorem dX5_piece_131 : decode cX5_piece 131 = .ok (.aload_n 0, 1) := dk_42 (dk_at dksX5_piece_5 12 rfl rfl)
theorem dX5_piece_132 : decode cX5_piece 132 = .ok (.getfield 151, 3) := dk_180 0 151 (dk_at dksX5_piece_5 13 rfl rfl)
theorem dX5_piece_135 : decode cX5_piece 135 = .ok (.iload_n 2, 1) := dk_28 (dk_at dksX5_piece_5 16 rfl rfl)
theorem dX5_piece_136 : decode cX5_piece 136 = .ok (.iastore, 1) := dk_79 (dk_at dksX5_piece_5 17 rfl rfl)
theorem dX5_piece_137 : decode cX5_piece 137 = .ok (.aload_n 0, 1) := dk_42 (dk_at dksX5_piece_5 18 rfl rfl)
theorem dX5_piece_138 : decode cX5_piece 138 = .ok (.getfield 160, 3) := dk_180 0 160 (dk_at dksX5_piece_5 19 rfl rfl)
theorem dX5_piece_141 : decode cX5_piece 141 = .ok (.aload_n 0, 1) := dk_42 (dk_at dksX5_piece_5 22 rfl rfl)
theorem dX5_piece_142 : decode cX5_piece 142 = .ok (.getfield 151, 3) := dk_180 0 151 (dk_at dksX5_piece_6 0 rfl rfl)
theorem dX5_piece_145 : decode cX5_piece 145 = .ok (.iload_n 3, 1) := dk_29 (dk_at dksX5_piece_6 3 rfl rfl)
theorem dX5_piece_146 : decode cX5_piece 146 = .ok (.iastore, 1) := dk_79 (dk_at dksX5_piece_6 4 rfl rfl)
theorem dX5_piece_147 : decode cX5_piece 147 = .ok (.aload_n 0, 1) := dk_42 (dk_at dksX5_piece_6 5 rfl rfl)
theorem dX5_piece_148 : decode cX5_piece 148 = .ok (.getfield 143, 3) := dk_180 0 143 (dk_at dksX5_piece_6 6 rfl rfl)
theorem dX5_piece_151 : decode cX5_piece 151 = .ok (.aload_n 0, 1) := dk_42 (dk_at dksX5_piece_6 9 rfl rfl)
theorem dX5_piece_152 : decode cX5_piece 152 = .ok (.getfield 151, 3) := dk_180 0 151 (dk_at dksX5_piece_6 10 rfl rfl)
theorem dX5_piece_155 : decode cX5_piece 155 = .ok (.iload 4, 2) := dk_21 4 (dk_at dksX5_piece_6 13 rfl rfl)
theorem dX5_piece_157 : decode cX5_piece 157 = .ok (.iastore, 1) := dk_79 (dk_at dksX5_piece_6 15 rfl rfl)
theorem dX5_piece_158 : decode cX5_piece 158 = .ok (.aload_n 0, 1) := dk_42 (dk_at dksX5_piece_6 16 rfl rfl)
theorem dX5_piece_159 : decode cX5_piece 159 = .ok (.getfield 163, 3) := dk_180 0 163 (dk_at dksX5_piece_6 17 rfl rfl)
theorem dX5_piece_162 : decode cX5_piece 162 = .ok (.aload_n 0, 1) := dk_42 (dk_at dksX5_piece_6 20 rfl rfl)
theorem dX5_piece_163 : decode cX5_piece 163 = .ok (.getfield 151, 3) := dk_180 0 151 (dk_at dksX5_piece_6 21 rfl rfl)
theorem dX5_piece_166 : decode cX5_piece 166 = .ok (.iload 5, 2) := dk_21 5 (dk_at dksX5_piece_7 0 rfl rfl)
theorem dX5_piece_168 : decode cX5_piece 168 = .ok (.iastore, 1) := dk_79 (dk_at dksX5_piece_7 2 rfl rfl)
theorem dX5_piece_169 : decode cX5_piece 169 = .ok (.aload_n 0, 1) := dk_42 (dk_at dksX5_piece_7 3 rfl rfl)
theorem dX5_piece_170 : decode cX5_piece 170 = .ok (.aload_n 0, 1) := dk_42 (dk_at dksX5_piece_7 4 rfl rfl)
theorem dX5_piece_171 : decode cX5_piece 171 = .ok (.getfield 151, 3) := dk_180 0 151 (dk_at dksX5_piece_7 5 rfl rfl)
theorem dX5_piece_174 : decode cX5_piece 174 = .ok (.invokevirtual 166, 3) := dk_182 0 166 (dk_at dksX5_piece_7 8 rfl rfl)
theorem dX5_piece_177 : decode cX5_piece 177 = .ok (.aload_n 0, 1) := dk_42 (dk_at dksX5_piece_7 11 rfl rfl)
theorem dX5_piece_178 : decode cX5_piece 178 = .ok (.dup, 1) := dk_89 (dk_at dksX5_piece_7 12 rfl rfl)
theorem dX5_piece_179 : decode cX5_piece 179 = .ok (.getfield 151, 3) := dk_180 0 151 (dk_at dksX5_piece_7 13 rfl rfl)
theorem dX5_piece_182 : decode cX5_piece 182 = .ok (.iconst 1, 1) := dk_4 (dk_at dksX5_piece_7 16 rfl rfl)
theorem dX5_piece_183 : decode cX5_piece 183 = .ok (.iadd, 1) := dk_96 (dk_at dksX5_piece_7 17 rfl rfl)
theorem dX5_piece_184 : decode cX5_piece 184 = .ok (.putfield 151, 3) := dk_181 0 151 (dk_at dksX5_piece_7 18 rfl rfl)
theorem dX5_piece_187 : decode cX5_piece 187 = .ok (.aload_n 0, 1) := dk_42 (dk_at dksX5_piece_7 21 rfl rfl)
theorem dX5_piece_188 : decode cX5_piece 188 = .ok (.getfield 151, 3) := dk_180 0 151 (dk_at dksX5_piece_8 0 rfl rfl)
theorem dX5_piece_191 : decode cX5_piece 191 = .ok (.iconst 1, 1) := dk_4 (dk_at dksX5_piece_8 3 rfl rfl)
theorem dX5_piece_192 : decode cX5_piece 192 = .ok (.isub, 1) := dk_100 (dk_at dksX5_piece_8 4 rfl rfl)
theorem dX5_piece_193 : decode cX5_piece 193 = .ok (.ireturn, 1) := dk_172 (dk_at dksX5_piece_8 5 rfl rfl)
def dkwX5_lays_3 : List UInt8 := [180, 0, 140, 16, 51, 27, 96, 3, 79, 42, 180, 0, 140, 16, 59, 27, 96, 3, 79, 177]
abbrev dktX5_lays_3 : List UInt8 := dkwX5_lays_3 ++ []
def dkwX5_lays_2 : List UInt8 := [3, 79, 42, 180, 0, 140, 16, 35, 27, 96, 2, 79, 42, 180, 0, 140, 16, 43, 27, 96, 3, 79, 42]
abbrev dktX5_lays_2 : List UInt8 := dkwX5_lays_2 ++ dktX5_lays_3
def dkwX5_lays_1 : List UInt8 := [180, 0, 146, 27, 46, 79, 42, 180, 0, 140, 16, 19, 27, 96, 3, 79, 42, 180, 0, 140, 16, 27, 27, 96]
abbrev dktX5_lays_1 : List UInt8 := dkwX5_lays_1 ++ dktX5_lays_2
def dkwX5_lays_0 : List UInt8 := [42, 180, 0, 140, 6, 27, 96, 42, 180, 0, 143, 27, 46, 79, 42, 180, 0, 140, 16, 11, 27, 96, 42]
abbrev dktX5_lays_0 : List UInt8 := dkwX5_lays_0 ++ dktX5_lays_1
theorem dksX5_lays_0 : cX5_lays.data.toList.drop 0 = dktX5_lays_0 := by decide +kernel
theorem dksX5_lays_1 : cX5_lays.data.toList.drop 23 = dktX5_lays_1 := dk_seg dksX5_lays_0 23 rfl rfl
theorem dksX5_lays_2 : cX5_lays.data.toList.drop 47 = dktX5_lays_2 := dk_seg dksX5_lays_1 24 rfl rfl
theorem dksX5_lays_3 : cX5_lays.data.toList.drop 70 = dktX5_lays_3 := dk_seg dksX5_lays_2 23 rfl rfl
theorem dX5_lays_0 : decode cX5_lays 0 = .ok (.aload_n 0, 1) := dk_42 (dk_at dksX5_lays_0 0 rfl rfl)
theorem dX5_lays_1 : decode cX5_lays 1 = .ok (.getfield 140, 3) := dk_180 0 140 (dk_at dksX5_lays_0 1 rfl rfl)
theorem dX5_lays_4 : decode cX5_lays 4 = .ok (.iconst 3, 1) := dk_6 (dk_at dksX5_lays_0 4 rfl rfl)
theorem dX5_lays_5 : decode cX5_lays 5 = .ok (.iload_n 1, 1) := dk_27 (dk_at dksX5_lays_0 5 rfl rfl)
theorem dX5_lays_6 : decode cX5_lays 6 = .ok (.iadd, 1) := dk_96 (dk_at dksX5_lays_0 6 rfl rfl)
theorem dX5_lays_7 : decode cX5_lays 7 = .ok (.aload_n 0, 1) := dk_42 (dk_at dksX5_lays_0 7 rfl rfl)
theorem dX5_lays_8 : decode cX5_lays 8 = .ok (.getfield 143, 3) := dk_180 0 143 (dk_at dksX5_lays_0 8 rfl rfl)
theorem dX5_lays_11 : decode cX5_lays 11 = .ok (.iload_n 1, 1) := dk_27 (dk_at dksX5_lays_0 11 rfl rfl)
theorem dX5_lays_12 : decode cX5_lays 12 = .ok (.iaload, 1) := dk_46 (dk_at dksX5_lays_0 12 rfl rfl)
theorem dX5_lays_13 : decode cX5_lays 13 = .ok (.iastore, 1) := dk_79 (dk_at dksX5_lays_0 13 rfl rfl)
theorem dX5_lays_14 : decode cX5_lays 14 = .ok (.aload_n 0, 1) := dk_42 (dk_at dksX5_lays_0 14 rfl rfl)
theorem dX5_lays_15 : decode cX5_lays 15 = .ok (.getfield 140, 3) := dk_180 0 140 (dk_at dksX5_lays_0 15 rfl rfl)
theorem dX5_lays_18 : decode cX5_lays 18 = .ok (.bipush 11, 2) := dk_16 11 (dk_at dksX5_lays_0 18 rfl rfl)
theorem dX5_lays_20 : decode cX5_lays 20 = .ok (.iload_n 1, 1) := dk_27 (dk_at dksX5_lays_0 20 rfl rfl)
theorem dX5_lays_21 : decode cX5_lays 21 = .ok (.iadd, 1) := dk_96 (dk_at dksX5_lays_0 21 rfl rfl)
theorem dX5_lays_22 : decode cX5_lays 22 = .ok (.aload_n 0, 1) := dk_42 (dk_at dksX5_lays_0 22 rfl rfl)
theorem dX5_lays_23 : decode cX5_lays 23 = .ok (.getfield 146, 3) := dk_180 0 146 (dk_at dksX5_lays_1 0 rfl rfl)
theorem dX5_lays_26 : decode cX5_lays 26 = .ok (.iload_n 1, 1) := dk_27 (dk_at dksX5_lays_1 3 rfl rfl)
theorem dX5_lays_27 : decode cX5_lays 27 = .ok (.iaload, 1) := dk_46 (dk_at dksX5_lays_1 4 rfl rfl)
theorem dX5_lays_28 : decode cX5_lays 28 = .ok (.iastore, 1) := dk_79 (dk_at dksX5_lays_1 5 rfl rfl)
theorem dX5_lays_29 : decode cX5_lays 29 = .ok (.aload_n 0, 1) := dk_42 (dk_at dksX5_lays_1 6 rfl rfl)
theorem dX5_lays_30 : decode cX5_lays 30 = .ok (.getfield 140, 3) := dk_180 0 140 (dk_at dksX5_lays_1 7 rfl rfl)
theorem dX5_lays_33 : decode cX5_lays 33 = .ok (.bipush 19, 2) := dk_16 19 (dk_at dksX5_lays_1 10 rfl rfl)
theorem dX5_lays_35 : decode cX5_lays 35 = .ok (.iload_n 1, 1) := dk_27 (dk_at dksX5_lays_1 12 rfl rfl)
theorem dX5_lays_36 : decode cX5_lays 36 = .ok (.iadd, 1) := dk_96 (dk_at dksX5_lays_1 13 rfl rfl)
theorem dX5_lays_37 : decode cX5_lays 37 = .ok (.iconst 0, 1) := dk_3 (dk_at dksX5_lays_1 14 rfl rfl)
theorem dX5_lays_38 : decode cX5_lays 38 = .ok (.iastore, 1) := dk_79 (dk_at dksX5_lays_1 15 rfl rfl)
theorem dX5_lays_39 : decode cX5_lays 39 = .ok (.aload_n 0, 1) := dk_42 (dk_at dksX5_lays_1 16 rfl rfl)
theorem dX5_lays_40 : decode cX5_lays 40 = .ok (.getfield 140, 3) := dk_180 0 140 (dk_at dksX5_lays_1 17 rfl rfl)
theorem dX5_lays_43 : decode cX5_lays 43 = .ok (.bipush 27, 2) := dk_16 27 (dk_at dksX5_lays_1 20 rfl rfl)
theorem dX5_lays_45 : decode cX5_lays 45 = .ok (.iload_n 1, 1) := dk_27 (dk_at dksX5_lays_1 22 rfl rfl)
theorem dX5_lays_46 : decode cX5_lays 46 = .ok (.iadd, 1) := dk_96 (dk_at dksX5_lays_1 23 rfl rfl)
theorem dX5_lays_47 : decode cX5_lays 47 = .ok (.iconst 0, 1) := dk_3 (dk_at dksX5_lays_2 0 rfl rfl)
theorem dX5_lays_48 : decode cX5_lays 48 = .ok (.iastore, 1) := dk_79 (dk_at dksX5_lays_2 1 rfl rfl)
theorem dX5_lays_49 : decode cX5_lays 49 = .ok (.aload_n 0, 1) := dk_42 (dk_at dksX5_lays_2 2 rfl rfl)
theorem dX5_lays_50 : decode cX5_lays 50 = .ok (.getfield 140, 3) := dk_180 0 140 (dk_at dksX5_lays_2 3 rfl rfl)
theorem dX5_lays_53 : decode cX5_lays 53 = .ok (.bipush 35, 2) := dk_16 35 (dk_at dksX5_lays_2 6 rfl rfl)
theorem dX5_lays_55 : decode cX5_lays 55 = .ok (.iload_n 1, 1) := dk_27 (dk_at dksX5_lays_2 8 rfl rfl)
theorem dX5_lays_56 : decode cX5_lays 56 = .ok (.iadd, 1) := dk_96 (dk_at dksX5_lays_2 9 rfl rfl)
theorem dX5_lays_57 : decode cX5_lays 57 = .ok (.iconst (-1), 1) := dk_2 (dk_at dksX5_lays_2 10 rfl rfl)
theorem dX5_lays_58 : decode cX5_lays 58 = .ok (.iastore, 1) := dk_79 (dk_at dksX5_lays_2 11 rfl rfl)
theorem dX5_lays_59 : decode cX5_lays 59 = .ok (.aload_n 0, 1) := dk_42 (dk_at dksX5_lays_2 12 rfl rfl)
theorem dX5_lays_60 : decode cX5_lays 60 = .ok (.getfield 140, 3) := dk_180 0 140 (dk_at dksX5_lays_2 13 rfl rfl)
theorem dX5_lays_63 : decode cX5_lays 63 = .ok (.bipush 43, 2) := dk_16 43 (dk_at dksX5_lays_2 16 rfl rfl)
theorem dX5_lays_65 : decode cX5_lays 65 = .ok (.iload_n 1, 1) := dk_27 (dk_at dksX5_lays_2 18 rfl rfl)
theorem dX5_lays_66 : decode cX5_lays 66 = .ok (.iadd, 1) := dk_96 (dk_at dksX5_lays_2 19 rfl rfl)
theorem dX5_lays_67 : decode cX5_lays 67 = .ok (.iconst 0, 1) := dk_3 (dk_at dksX5_lays_2 20 rfl rfl)
theorem dX5_lays_68 : decode cX5_lays 68 = .ok (.iastore, 1) := dk_79 (dk_at dksX5_lays_2 21 rfl rfl)
theorem dX5_lays_69 : decode cX5_lays 69 = .ok (.aload_n 0, 1) := dk_42 (dk_at dksX5_lays_2 22 rfl rfl)
theorem dX5_lays_70 : decode cX5_lays 70 = .ok (.getfield 140, 3) := dk_180 0 140 (dk_at dksX5_lays_3 0 rfl rfl)
theorem dX5_lays_73 : decode cX5_lays 73 = .ok (.bipush 51, 2) := dk_16 51 (dk_at dksX5_lays_3 3 rfl rfl)
theorem dX5_lays_75 : decode cX5_lays 75 = .ok (.iload_n 1, 1) := dk_27 (dk_at dksX5_lays_3 5 rfl rfl)
theorem dX5_lays_76 : decode cX5_lays 76 = .ok (.iadd, 1) := dk_96 (dk_at dksX5_lays_3 6 rfl rfl)
theorem dX5_lays_77 : decode cX5_lays 77 = .ok (.iconst 0, 1) := dk_3 (dk_at dksX5_lays_3 7 rfl rfl)
theorem dX5_lays_78 : decode cX5_lays 78 = .ok (.iastore, 1) := dk_79 (dk_at dksX5_lays_3 8 rfl rfl)
theorem dX5_lays_79 : decode cX5_lays 79 = .ok (.aload_n 0, 1) := dk_42 (dk_at dksX5_lays_3 9 rfl rfl)
theorem dX5_lays_80 : decode cX5_lays 80 = .ok (.getfield 140, 3) := dk_180 0 140 (dk_at dksX5_lays_3 10 rfl rfl)
theorem dX5_lays_83 : decode cX5_lays 83 = .ok (.bipush 59, 2) := dk_16 59 (dk_at dksX5_lays_3 13 rfl rfl)
theorem dX5_lays_85 : decode cX5_lays 85 = .ok (.iload_n 1, 1) := dk_27 (dk_at dksX5_lays_3 15 rfl rfl)
theorem dX5_lays_86 : decode cX5_lays 86 = .ok (.iadd, 1) := dk_96 (dk_at dksX5_lays_3 16 rfl rfl)
theorem dX5_lays_87 : decode cX5_lays 87 = .ok (.iconst 0, 1) := dk_3 (dk_at dksX5_lays_3 17 rfl rfl)
theorem dX5_lays_88 : decode cX5_lays 88 = .ok (.iastore, 1) := dk_79 (dk_at dksX5_lays_3 18 rfl rfl)
theorem dX5_lays_89 : decode cX5_lays 89 = .ok (.return_, 1) := dk_177 (dk_at dksX5_lays_3 19 rfl rfl)
def dkwX5_sign_2 : List UInt8 := [132, 2, 1, 167, 255, 224, 42, 89, 180, 0, 170, 7, 96, 181, 0, 170, 42, 180, 0, 170, 172]
abbrev dktX5_sign_2 : List UInt8 := dkwX5_sign_2 ++ []
def dkwX5_sign_1 : List UInt8 := [180, 0, 173, 42, 180, 0, 170, 28, 96, 27, 16, 24, 16, 8, 28, 104, 100, 122, 17, 0, 255, 126, 79]
abbrev dktX5_sign_1 : List UInt8 := dkwX5_sign_1 ++ dktX5_sign_2
def dkwX5_sign_0 : List UInt8 := [42, 3, 181, 0, 3, 42, 180, 0, 170, 16, 56, 164, 0, 5, 2, 172, 3, 61, 28, 7, 162, 0, 33, 42]
abbrev dktX5_sign_0 : List UInt8 := dkwX5_sign_0 ++ dktX5_sign_1
theorem dksX5_sign_0 : cX5_sign.data.toList.drop 0 = dktX5_sign_0 := by decide +kernel
theorem dksX5_sign_1 : cX5_sign.data.toList.drop 24 = dktX5_sign_1 := dk_seg dksX5_sign_0 24 rfl rfl
theorem dksX5_sign_2 : cX5_sign.data.toList.drop 47 = dktX5_sign_2 := dk_seg dksX5_sign_1 23 rfl rfl
theorem dX5_sign_0 : decode cX5_sign 0 = .ok (.aload_n 0, 1) := dk_42 (dk_at dksX5_sign_0 0 rfl rfl)
theorem dX5_sign_1 : decode cX5_sign 1 = .ok (.iconst 0, 1) := dk_3 (dk_at dksX5_sign_0 1 rfl rfl)
theorem dX5_sign_2 : decode cX5_sign 2 = .ok (.putfield 3, 3) := dk_181 0 3 (dk_at dksX5_sign_0 2 rfl rfl)
theorem dX5_sign_5 : decode cX5_sign 5 = .ok (.aload_n 0, 1) := dk_42 (dk_at dksX5_sign_0 5 rfl rfl)
theorem dX5_sign_6 : decode cX5_sign 6 = .ok (.getfield 170, 3) := dk_180 0 170 (dk_at dksX5_sign_0 6 rfl rfl)
theorem dX5_sign_9 : decode cX5_sign 9 = .ok (.bipush 56, 2) := dk_16 56 (dk_at dksX5_sign_0 9 rfl rfl)
theorem dX5_sign_11 : decode cX5_sign 11 = .ok (.if_icmp .le 5, 3) := dk_164 0 5 (dk_at dksX5_sign_0 11 rfl rfl)
theorem dX5_sign_14 : decode cX5_sign 14 = .ok (.iconst (-1), 1) := dk_2 (dk_at dksX5_sign_0 14 rfl rfl)
theorem dX5_sign_15 : decode cX5_sign 15 = .ok (.ireturn, 1) := dk_172 (dk_at dksX5_sign_0 15 rfl rfl)
theorem dX5_sign_16 : decode cX5_sign 16 = .ok (.iconst 0, 1) := dk_3 (dk_at dksX5_sign_0 16 rfl rfl)
theorem dX5_sign_17 : decode cX5_sign 17 = .ok (.istore_n 2, 1) := dk_61 (dk_at dksX5_sign_0 17 rfl rfl)
theorem dX5_sign_18 : decode cX5_sign 18 = .ok (.iload_n 2, 1) := dk_28 (dk_at dksX5_sign_0 18 rfl rfl)
theorem dX5_sign_19 : decode cX5_sign 19 = .ok (.iconst 4, 1) := dk_7 (dk_at dksX5_sign_0 19 rfl rfl)
theorem dX5_sign_20 : decode cX5_sign 20 = .ok (.if_icmp .ge 33, 3) := dk_162 0 33 (dk_at dksX5_sign_0 20 rfl rfl)
theorem dX5_sign_23 : decode cX5_sign 23 = .ok (.aload_n 0, 1) := dk_42 (dk_at dksX5_sign_0 23 rfl rfl)
theorem dX5_sign_24 : decode cX5_sign 24 = .ok (.getfield 173, 3) := dk_180 0 173 (dk_at dksX5_sign_1 0 rfl rfl)
theorem dX5_sign_27 : decode cX5_sign 27 = .ok (.aload_n 0, 1) := dk_42 (dk_at dksX5_sign_1 3 rfl rfl)
theorem dX5_sign_28 : decode cX5_sign 28 = .ok (.getfield 170, 3) := dk_180 0 170 (dk_at dksX5_sign_1 4 rfl rfl)
theorem dX5_sign_31 : decode cX5_sign 31 = .ok (.iload_n 2, 1) := dk_28 (dk_at dksX5_sign_1 7 rfl rfl)
theorem dX5_sign_32 : decode cX5_sign 32 = .ok (.iadd, 1) := dk_96 (dk_at dksX5_sign_1 8 rfl rfl)
theorem dX5_sign_33 : decode cX5_sign 33 = .ok (.iload_n 1, 1) := dk_27 (dk_at dksX5_sign_1 9 rfl rfl)
theorem dX5_sign_34 : decode cX5_sign 34 = .ok (.bipush 24, 2) := dk_16 24 (dk_at dksX5_sign_1 10 rfl rfl)
theorem dX5_sign_36 : decode cX5_sign 36 = .ok (.bipush 8, 2) := dk_16 8 (dk_at dksX5_sign_1 12 rfl rfl)
theorem dX5_sign_38 : decode cX5_sign 38 = .ok (.iload_n 2, 1) := dk_28 (dk_at dksX5_sign_1 14 rfl rfl)
theorem dX5_sign_39 : decode cX5_sign 39 = .ok (.imul, 1) := dk_104 (dk_at dksX5_sign_1 15 rfl rfl)
theorem dX5_sign_40 : decode cX5_sign 40 = .ok (.isub, 1) := dk_100 (dk_at dksX5_sign_1 16 rfl rfl)
theorem dX5_sign_41 : decode cX5_sign 41 = .ok (.ishr, 1) := dk_122 (dk_at dksX5_sign_1 17 rfl rfl)
theorem dX5_sign_42 : decode cX5_sign 42 = .ok (.sipush 255, 3) := dk_17 0 255 (dk_at dksX5_sign_1 18 rfl rfl)
theorem dX5_sign_45 : decode cX5_sign 45 = .ok (.iand, 1) := dk_126 (dk_at dksX5_sign_1 21 rfl rfl)
theorem dX5_sign_46 : decode cX5_sign 46 = .ok (.iastore, 1) := dk_79 (dk_at dksX5_sign_1 22 rfl rfl)
theorem dX5_sign_47 : decode cX5_sign 47 = .ok (.iinc 2 1, 3) := dk_132 2 1 (dk_at dksX5_sign_2 0 rfl rfl)
theorem dX5_sign_50 : decode cX5_sign 50 = .ok (.goto (-32), 3) := dk_167 255 224 (dk_at dksX5_sign_2 3 rfl rfl)
theorem dX5_sign_53 : decode cX5_sign 53 = .ok (.aload_n 0, 1) := dk_42 (dk_at dksX5_sign_2 6 rfl rfl)
theorem dX5_sign_54 : decode cX5_sign 54 = .ok (.dup, 1) := dk_89 (dk_at dksX5_sign_2 7 rfl rfl)
theorem dX5_sign_55 : decode cX5_sign 55 = .ok (.getfield 170, 3) := dk_180 0 170 (dk_at dksX5_sign_2 8 rfl rfl)
theorem dX5_sign_58 : decode cX5_sign 58 = .ok (.iconst 4, 1) := dk_7 (dk_at dksX5_sign_2 11 rfl rfl)
theorem dX5_sign_59 : decode cX5_sign 59 = .ok (.iadd, 1) := dk_96 (dk_at dksX5_sign_2 12 rfl rfl)
theorem dX5_sign_60 : decode cX5_sign 60 = .ok (.putfield 170, 3) := dk_181 0 170 (dk_at dksX5_sign_2 13 rfl rfl)
theorem dX5_sign_63 : decode cX5_sign 63 = .ok (.aload_n 0, 1) := dk_42 (dk_at dksX5_sign_2 16 rfl rfl)
theorem dX5_sign_64 : decode cX5_sign 64 = .ok (.getfield 170, 3) := dk_180 0 170 (dk_at dksX5_sign_2 17 rfl rfl)
theorem dX5_sign_67 : decode cX5_sign 67 = .ok (.ireturn, 1) := dk_172 (dk_at dksX5_sign_2 20 rfl rfl)
def dkwX5_end_1 : List UInt8 := [181, 0, 170, 4, 172]
abbrev dktX5_end_1 : List UInt8 := dkwX5_end_1 ++ []
def dkwX5_end_0 : List UInt8 := [42, 3, 181, 0, 3, 27, 133, 9, 42, 180, 0, 170, 133, 184, 0, 25, 154, 0, 5, 3, 172, 42, 27]
abbrev dktX5_end_0 : List UInt8 := dkwX5_end_0 ++ dktX5_end_1
theorem dksX5_end_0 : cX5_end.data.toList.drop 0 = dktX5_end_0 := by decide +kernel
theorem dksX5_end_1 : cX5_end.data.toList.drop 23 = dktX5_end_1 := dk_seg dksX5_end_0 23 rfl rfl
theorem dX5_end_0 : decode cX5_end 0 = .ok (.aload_n 0, 1) := dk_42 (dk_at dksX5_end_0 0 rfl rfl)
theorem dX5_end_1 : decode cX5_end 1 = .ok (.iconst 0, 1) := dk_3 (dk_at dksX5_end_0 1 rfl rfl)
theorem dX5_end_2 : decode cX5_end 2 = .ok (.putfield 3, 3) := dk_181 0 3 (dk_at dksX5_end_0 2 rfl rfl)
theorem dX5_end_5 : decode cX5_end 5 = .ok (.iload_n 1, 1) := dk_27 (dk_at dksX5_end_0 5 rfl rfl)
theorem dX5_end_6 : decode cX5_end 6 = .ok (.i2l, 1) := dk_133 (dk_at dksX5_end_0 6 rfl rfl)
theorem dX5_end_7 : decode cX5_end 7 = .ok (.lconst 0, 1) := dk_9 (dk_at dksX5_end_0 7 rfl rfl)
theorem dX5_end_8 : decode cX5_end 8 = .ok (.aload_n 0, 1) := dk_42 (dk_at dksX5_end_0 8 rfl rfl)
theorem dX5_end_9 : decode cX5_end 9 = .ok (.getfield 170, 3) := dk_180 0 170 (dk_at dksX5_end_0 9 rfl rfl)
theorem dX5_end_12 : decode cX5_end 12 = .ok (.i2l, 1) := dk_133 (dk_at dksX5_end_0 12 rfl rfl)
theorem dX5_end_13 : decode cX5_end 13 = .ok (.invokestatic 25, 3) := dk_184 0 25 (dk_at dksX5_end_0 13 rfl rfl)
theorem dX5_end_16 : decode cX5_end 16 = .ok (.ifCond .ne 5, 3) := dk_154 0 5 (dk_at dksX5_end_0 16 rfl rfl)
theorem dX5_end_19 : decode cX5_end 19 = .ok (.iconst 0, 1) := dk_3 (dk_at dksX5_end_0 19 rfl rfl)
theorem dX5_end_20 : decode cX5_end 20 = .ok (.ireturn, 1) := dk_172 (dk_at dksX5_end_0 20 rfl rfl)
theorem dX5_end_21 : decode cX5_end 21 = .ok (.aload_n 0, 1) := dk_42 (dk_at dksX5_end_0 21 rfl rfl)
theorem dX5_end_22 : decode cX5_end 22 = .ok (.iload_n 1, 1) := dk_27 (dk_at dksX5_end_0 22 rfl rfl)
theorem dX5_end_23 : decode cX5_end 23 = .ok (.putfield 170, 3) := dk_181 0 170 (dk_at dksX5_end_1 0 rfl rfl)
theorem dX5_end_26 : decode cX5_end 26 = .ok (.iconst 1, 1) := dk_4 (dk_at dksX5_end_1 3 rfl rfl)
theorem dX5_end_27 : decode cX5_end 27 = .ok (.ireturn, 1) := dk_172 (dk_at dksX5_end_1 4 rfl rfl)
def dkwX5_rule_6 : List UInt8 := [180, 0, 196, 21, 4, 42, 180, 0, 196, 16, 48, 21, 4, 96, 46, 79, 132, 4, 1, 167, 255, 229, 3, 172]
abbrev dktX5_rule_6 : List UInt8 := dkwX5_rule_6 ++ []
def dkwX5_rule_5 : List UInt8 := [180, 0, 199, 3, 42, 180, 0, 199, 4, 46, 79, 3, 54, 4, 21, 4, 16, 48, 162, 0, 26, 42]
abbrev dktX5_rule_5 : List UInt8 := dkwX5_rule_5 ++ dktX5_rule_6
def dkwX5_rule_4 : List UInt8 := [180, 0, 176, 16, 40, 161, 0, 6, 16, 215, 172, 29, 154, 0, 10, 2, 42, 180, 0, 176, 100, 172, 42]
abbrev dktX5_rule_4 : List UInt8 := dkwX5_rule_4 ++ dktX5_rule_5
def dkwX5_rule_3 : List UInt8 := [180, 0, 179, 160, 0, 7, 4, 167, 0, 4, 3, 62, 27, 16, 40, 164, 0, 19, 29, 154, 0, 12, 42]
abbrev dktX5_rule_3 : List UInt8 := dkwX5_rule_3 ++ dktX5_rule_4
def dkwX5_rule_2 : List UInt8 := [42, 180, 0, 199, 3, 3, 79, 3, 172, 42, 3, 182, 0, 220, 61, 28, 153, 0, 18, 42, 180, 0, 176, 42]
abbrev dktX5_rule_2 : List UInt8 := dkwX5_rule_2 ++ dktX5_rule_3
def dkwX5_rule_1 : List UInt8 := [181, 0, 217, 42, 27, 16, 40, 184, 0, 95, 181, 0, 179, 42, 180, 0, 199, 4, 3, 79, 27, 154, 0, 12]
abbrev dktX5_rule_1 : List UInt8 := dkwX5_rule_1 ++ dktX5_rule_2
def dkwX5_rule_0 : List UInt8 := [42, 3, 181, 0, 3, 42, 180, 0, 170, 60, 42, 3, 181, 0, 170, 42, 3, 181, 0, 176, 42, 3]
abbrev dktX5_rule_0 : List UInt8 := dkwX5_rule_0 ++ dktX5_rule_1
theorem dksX5_rule_0 : cX5_rule.data.toList.drop 0 = dktX5_rule_0 := by decide +kernel
theorem dksX5_rule_1 : cX5_rule.data.toList.drop 22 = dktX5_rule_1 := dk_seg dksX5_rule_0 22 rfl rfl
theorem dksX5_rule_2 : cX5_rule.data.toList.drop 46 = dktX5_rule_2 := dk_seg dksX5_rule_1 24 rfl rfl
theorem dksX5_rule_3 : cX5_rule.data.toList.drop 70 = dktX5_rule_3 := dk_seg dksX5_rule_2 24 rfl rfl
theorem dksX5_rule_4 : cX5_rule.data.toList.drop 93 = dktX5_rule_4 := dk_seg dksX5_rule_3 23 rfl rfl
theorem dksX5_rule_5 : cX5_rule.data.toList.drop 116 = dktX5_rule_5 := dk_seg dksX5_rule_4 23 rfl rfl
theorem dksX5_rule_6 : cX5_rule.data.toList.drop 138 = dktX5_rule_6 := dk_seg dksX5_rule_5 22 rfl rfl
theorem dX5_rule_0 : decode cX5_rule 0 = .ok (.aload_n 0, 1) := dk_42 (dk_at dksX5_rule_0 0 rfl rfl)
theorem dX5_rule_1 : decode cX5_rule 1 = .ok (.iconst 0, 1) := dk_3 (dk_at dksX5_rule_0 1 rfl rfl)
theorem dX5_rule_2 : decode cX5_rule 2 = .ok (.putfield 3, 3) := dk_181 0 3 (dk_at dksX5_rule_0 2 rfl rfl)
theorem dX5_rule_5 : decode cX5_rule 5 = .ok (.aload_n 0, 1) := dk_42 (dk_at dksX5_rule_0 5 rfl rfl)
theorem dX5_rule_6 : decode cX5_rule 6 = .ok (.getfield 170, 3) := dk_180 0 170 (dk_at dksX5_rule_0 6 rfl rfl)
theorem dX5_rule_9 : decode cX5_rule 9 = .ok (.istore_n 1, 1) := dk_60 (dk_at dksX5_rule_0 9 rfl rfl)
theorem dX5_rule_10 : decode cX5_rule 10 = .ok (.aload_n 0, 1) := dk_42 (dk_at dksX5_rule_0 10 rfl rfl)
theorem dX5_rule_11 : decode cX5_rule 11 = .ok (.iconst 0, 1) := dk_3 (dk_at dksX5_rule_0 11 rfl rfl)
theorem dX5_rule_12 : decode cX5_rule 12 = .ok (.putfield 170, 3) := dk_181 0 170 (dk_at dksX5_rule_0 12 rfl rfl)
theorem dX5_rule_15 : decode cX5_rule 15 = .ok (.aload_n 0, 1) := dk_42 (dk_at dksX5_rule_0 15 rfl rfl)
theorem dX5_rule_16 : decode cX5_rule 16 = .ok (.iconst 0, 1) := dk_3 (dk_at dksX5_rule_0 16 rfl rfl)
theorem dX5_rule_17 : decode cX5_rule 17 = .ok (.putfield 176, 3) := dk_181 0 176 (dk_at dksX5_rule_0 17 rfl rfl)
theorem dX5_rule_20 : decode cX5_rule 20 = .ok (.aload_n 0, 1) := dk_42 (dk_at dksX5_rule_0 20 rfl rfl)
theorem dX5_rule_21 : decode cX5_rule 21 = .ok (.iconst 0, 1) := dk_3 (dk_at dksX5_rule_0 21 rfl rfl)
theorem dX5_rule_22 : decode cX5_rule 22 = .ok (.putfield 217, 3) := dk_181 0 217 (dk_at dksX5_rule_1 0 rfl rfl)
theorem dX5_rule_25 : decode cX5_rule 25 = .ok (.aload_n 0, 1) := dk_42 (dk_at dksX5_rule_1 3 rfl rfl)
theorem dX5_rule_26 : decode cX5_rule 26 = .ok (.iload_n 1, 1) := dk_27 (dk_at dksX5_rule_1 4 rfl rfl)
theorem dX5_rule_27 : decode cX5_rule 27 = .ok (.bipush 40, 2) := dk_16 40 (dk_at dksX5_rule_1 5 rfl rfl)
theorem dX5_rule_29 : decode cX5_rule 29 = .ok (.invokestatic 95, 3) := dk_184 0 95 (dk_at dksX5_rule_1 7 rfl rfl)
theorem dX5_rule_32 : decode cX5_rule 32 = .ok (.putfield 179, 3) := dk_181 0 179 (dk_at dksX5_rule_1 10 rfl rfl)
theorem dX5_rule_35 : decode cX5_rule 35 = .ok (.aload_n 0, 1) := dk_42 (dk_at dksX5_rule_1 13 rfl rfl)
theorem dX5_rule_36 : decode cX5_rule 36 = .ok (.getfield 199, 3) := dk_180 0 199 (dk_at dksX5_rule_1 14 rfl rfl)
theorem dX5_rule_39 : decode cX5_rule 39 = .ok (.iconst 1, 1) := dk_4 (dk_at dksX5_rule_1 17 rfl rfl)
theorem dX5_rule_40 : decode cX5_rule 40 = .ok (.iconst 0, 1) := dk_3 (dk_at dksX5_rule_1 18 rfl rfl)
theorem dX5_rule_41 : decode cX5_rule 41 = .ok (.iastore, 1) := dk_79 (dk_at dksX5_rule_1 19 rfl rfl)
theorem dX5_rule_42 : decode cX5_rule 42 = .ok (.iload_n 1, 1) := dk_27 (dk_at dksX5_rule_1 20 rfl rfl)
theorem dX5_rule_43 : decode cX5_rule 43 = .ok (.ifCond .ne 12, 3) := dk_154 0 12 (dk_at dksX5_rule_1 21 rfl rfl)
theorem dX5_rule_46 : decode cX5_rule 46 = .ok (.aload_n 0, 1) := dk_42 (dk_at dksX5_rule_2 0 rfl rfl)
theorem dX5_rule_47 : decode cX5_rule 47 = .ok (.getfield 199, 3) := dk_180 0 199 (dk_at dksX5_rule_2 1 rfl rfl)
theorem dX5_rule_50 : decode cX5_rule 50 = .ok (.iconst 0, 1) := dk_3 (dk_at dksX5_rule_2 4 rfl rfl)
theorem dX5_rule_51 : decode cX5_rule 51 = .ok (.iconst 0, 1) := dk_3 (dk_at dksX5_rule_2 5 rfl rfl)
theorem dX5_rule_52 : decode cX5_rule 52 = .ok (.iastore, 1) := dk_79 (dk_at dksX5_rule_2 6 rfl rfl)
theorem dX5_rule_53 : decode cX5_rule 53 = .ok (.iconst 0, 1) := dk_3 (dk_at dksX5_rule_2 7 rfl rfl)
theorem dX5_rule_54 : decode cX5_rule 54 = .ok (.ireturn, 1) := dk_172 (dk_at dksX5_rule_2 8 rfl rfl)
theorem dX5_rule_55 : decode cX5_rule 55 = .ok (.aload_n 0, 1) := dk_42 (dk_at dksX5_rule_2 9 rfl rfl)
theorem dX5_rule_56 : decode cX5_rule 56 = .ok (.iconst 0, 1) := dk_3 (dk_at dksX5_rule_2 10 rfl rfl)
theorem dX5_rule_57 : decode cX5_rule 57 = .ok (.invokevirtual 220, 3) := dk_182 0 220 (dk_at dksX5_rule_2 11 rfl rfl)
theorem dX5_rule_60 : decode cX5_rule 60 = .ok (.istore_n 2, 1) := dk_61 (dk_at dksX5_rule_2 14 rfl rfl)
theorem dX5_rule_61 : decode cX5_rule 61 = .ok (.iload_n 2, 1) := dk_28 (dk_at dksX5_rule_2 15 rfl rfl)
theorem dX5_rule_62 : decode cX5_rule 62 = .ok (.ifCond .eq 18, 3) := dk_153 0 18 (dk_at dksX5_rule_2 16 rfl rfl)
theorem dX5_rule_65 : decode cX5_rule 65 = .ok (.aload_n 0, 1) := dk_42 (dk_at dksX5_rule_2 19 rfl rfl)
theorem dX5_rule_66 : decode cX5_rule 66 = .ok (.getfield 176, 3) := dk_180 0 176 (dk_at dksX5_rule_2 20 rfl rfl)
theorem dX5_rule_69 : decode cX5_rule 69 = .ok (.aload_n 0, 1) := dk_42 (dk_at dksX5_rule_2 23 rfl rfl)
theorem dX5_rule_70 : decode cX5_rule 70 = .ok (.getfield 179, 3) := dk_180 0 179 (dk_at dksX5_rule_3 0 rfl rfl)
theorem dX5_rule_73 : decode cX5_rule 73 = .ok (.if_icmp .ne 7, 3) := dk_160 0 7 (dk_at dksX5_rule_3 3 rfl rfl)
theorem dX5_rule_76 : decode cX5_rule 76 = .ok (.iconst 1, 1) := dk_4 (dk_at dksX5_rule_3 6 rfl rfl)
theorem dX5_rule_77 : decode cX5_rule 77 = .ok (.goto 4, 3) := dk_167 0 4 (dk_at dksX5_rule_3 7 rfl rfl)
theorem dX5_rule_80 : decode cX5_rule 80 = .ok (.iconst 0, 1) := dk_3 (dk_at dksX5_rule_3 10 rfl rfl)
theorem dX5_rule_81 : decode cX5_rule 81 = .ok (.istore_n 3, 1) := dk_62 (dk_at dksX5_rule_3 11 rfl rfl)
theorem dX5_rule_82 : decode cX5_rule 82 = .ok (.iload_n 1, 1) := dk_27 (dk_at dksX5_rule_3 12 rfl rfl)
theorem dX5_rule_83 : decode cX5_rule 83 = .ok (.bipush 40, 2) := dk_16 40 (dk_at dksX5_rule_3 13 rfl rfl)
theorem dX5_rule_85 : decode cX5_rule 85 = .ok (.if_icmp .le 19, 3) := dk_164 0 19 (dk_at dksX5_rule_3 15 rfl rfl)
theorem dX5_rule_88 : decode cX5_rule 88 = .ok (.iload_n 3, 1) := dk_29 (dk_at dksX5_rule_3 18 rfl rfl)
theorem dX5_rule_89 : decode cX5_rule 89 = .ok (.ifCond .ne 12, 3) := dk_154 0 12 (dk_at dksX5_rule_3 19 rfl rfl)
theorem dX5_rule_92 : decode cX5_rule 92 = .ok (.aload_n 0, 1) := dk_42 (dk_at dksX5_rule_3 22 rfl rfl)
theorem dX5_rule_93 : decode cX5_rule 93 = .ok (.getfield 176, 3) := dk_180 0 176 (dk_at dksX5_rule_4 0 rfl rfl)
theorem dX5_rule_96 : decode cX5_rule 96 = .ok (.bipush 40, 2) := dk_16 40 (dk_at dksX5_rule_4 3 rfl rfl)
theorem dX5_rule_98 : decode cX5_rule 98 = .ok (.if_icmp .lt 6, 3) := dk_161 0 6 (dk_at dksX5_rule_4 5 rfl rfl)
theorem dX5_rule_101 : decode cX5_rule 101 = .ok (.bipush (-41), 2) := dk_16 215 (dk_at dksX5_rule_4 8 rfl rfl)
theorem dX5_rule_103 : decode cX5_rule 103 = .ok (.ireturn, 1) := dk_172 (dk_at dksX5_rule_4 10 rfl rfl)
theorem dX5_rule_104 : decode cX5_rule 104 = .ok (.iload_n 3, 1) := dk_29 (dk_at dksX5_rule_4 11 rfl rfl)
theorem dX5_rule_105 : decode cX5_rule 105 = .ok (.ifCond .ne 10, 3) := dk_154 0 10 (dk_at dksX5_rule_4 12 rfl rfl)
theorem dX5_rule_108 : decode cX5_rule 108 = .ok (.iconst (-1), 1) := dk_2 (dk_at dksX5_rule_4 15 rfl rfl)
theorem dX5_rule_109 : decode cX5_rule 109 = .ok (.aload_n 0, 1) := dk_42 (dk_at dksX5_rule_4 16 rfl rfl)
theorem dX5_rule_110 : decode cX5_rule 110 = .ok (.getfield 176, 3) := dk_180 0 176 (dk_at dksX5_rule_4 17 rfl rfl)
theorem dX5_rule_113 : decode cX5_rule 113 = .ok (.isub, 1) := dk_100 (dk_at dksX5_rule_4 20 rfl rfl)
theorem dX5_rule_114 : decode cX5_rule 114 = .ok (.ireturn, 1) := dk_172 (dk_at dksX5_rule_4 21 rfl rfl)
theorem dX5_rule_115 : decode cX5_rule 115 = .ok (.aload_n 0, 1) := dk_42 (dk_at dksX5_rule_4 22 rfl rfl)
theorem dX5_rule_116 : decode cX5_rule 116 = .ok (.getfield 199, 3) := dk_180 0 199 (dk_at dksX5_rule_5 0 rfl rfl)
theorem dX5_rule_119 : decode cX5_rule 119 = .ok (.iconst 0, 1) := dk_3 (dk_at dksX5_rule_5 3 rfl rfl)
theorem dX5_rule_120 : decode cX5_rule 120 = .ok (.aload_n 0, 1) := dk_42 (dk_at dksX5_rule_5 4 rfl rfl)
theorem dX5_rule_121 : decode cX5_rule 121 = .ok (.getfield 199, 3) := dk_180 0 199 (dk_at dksX5_rule_5 5 rfl rfl)
theorem dX5_rule_124 : decode cX5_rule 124 = .ok (.iconst 1, 1) := dk_4 (dk_at dksX5_rule_5 8 rfl rfl)
theorem dX5_rule_125 : decode cX5_rule 125 = .ok (.iaload, 1) := dk_46 (dk_at dksX5_rule_5 9 rfl rfl)
theorem dX5_rule_126 : decode cX5_rule 126 = .ok (.iastore, 1) := dk_79 (dk_at dksX5_rule_5 10 rfl rfl)
theorem dX5_rule_127 : decode cX5_rule 127 = .ok (.iconst 0, 1) := dk_3 (dk_at dksX5_rule_5 11 rfl rfl)
theorem dX5_rule_128 : decode cX5_rule 128 = .ok (.istore 4, 2) := dk_54 4 (dk_at dksX5_rule_5 12 rfl rfl)
theorem dX5_rule_130 : decode cX5_rule 130 = .ok (.iload 4, 2) := dk_21 4 (dk_at dksX5_rule_5 14 rfl rfl)
theorem dX5_rule_132 : decode cX5_rule 132 = .ok (.bipush 48, 2) := dk_16 48 (dk_at dksX5_rule_5 16 rfl rfl)
theorem dX5_rule_134 : decode cX5_rule 134 = .ok (.if_icmp .ge 26, 3) := dk_162 0 26 (dk_at dksX5_rule_5 18 rfl rfl)
theorem dX5_rule_137 : decode cX5_rule 137 = .ok (.aload_n 0, 1) := dk_42 (dk_at dksX5_rule_5 21 rfl rfl)
theorem dX5_rule_138 : decode cX5_rule 138 = .ok (.getfield 196, 3) := dk_180 0 196 (dk_at dksX5_rule_6 0 rfl rfl)
theorem dX5_rule_141 : decode cX5_rule 141 = .ok (.iload 4, 2) := dk_21 4 (dk_at dksX5_rule_6 3 rfl rfl)
theorem dX5_rule_143 : decode cX5_rule 143 = .ok (.aload_n 0, 1) := dk_42 (dk_at dksX5_rule_6 5 rfl rfl)
theorem dX5_rule_144 : decode cX5_rule 144 = .ok (.getfield 196, 3) := dk_180 0 196 (dk_at dksX5_rule_6 6 rfl rfl)
theorem dX5_rule_147 : decode cX5_rule 147 = .ok (.bipush 48, 2) := dk_16 48 (dk_at dksX5_rule_6 9 rfl rfl)
theorem dX5_rule_149 : decode cX5_rule 149 = .ok (.iload 4, 2) := dk_21 4 (dk_at dksX5_rule_6 11 rfl rfl)
theorem dX5_rule_151 : decode cX5_rule 151 = .ok (.iadd, 1) := dk_96 (dk_at dksX5_rule_6 13 rfl rfl)
theorem dX5_rule_152 : decode cX5_rule 152 = .ok (.iaload, 1) := dk_46 (dk_at dksX5_rule_6 14 rfl rfl)
theorem dX5_rule_153 : decode cX5_rule 153 = .ok (.iastore, 1) := dk_79 (dk_at dksX5_rule_6 15 rfl rfl)
theorem dX5_rule_154 : decode cX5_rule 154 = .ok (.iinc 4 1, 3) := dk_132 4 1 (dk_at dksX5_rule_6 16 rfl rfl)
theorem dX5_rule_157 : decode cX5_rule 157 = .ok (.goto (-27), 3) := dk_167 255 229 (dk_at dksX5_rule_6 19 rfl rfl)
theorem dX5_rule_160 : decode cX5_rule 160 = .ok (.iconst 0, 1) := dk_3 (dk_at dksX5_rule_6 22 rfl rfl)
theorem dX5_rule_161 : decode cX5_rule 161 = .ok (.ireturn, 1) := dk_172 (dk_at dksX5_rule_6 23 rfl rfl)
