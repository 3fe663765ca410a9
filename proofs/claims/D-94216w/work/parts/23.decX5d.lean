set_option maxRecDepth 100000
def dkwX5_goesPaid_9 : List UInt8 := [167, 255, 177, 177]
abbrev dktX5_goesPaid_9 : List UInt8 := dkwX5_goesPaid_9 ++ []
def dkwX5_goesPaid_8 : List UInt8 := [184, 1, 88, 22, 4, 20, 1, 126, 109, 20, 1, 126, 105, 22, 8, 97, 182, 1, 132, 132, 7, 1]
abbrev dktX5_goesPaid_8 : List UInt8 := dkwX5_goesPaid_8 ++ dktX5_goesPaid_9
def dkwX5_goesPaid_7 : List UInt8 := [97, 55, 8, 42, 27, 4, 96, 21, 7, 29, 42, 180, 1, 79, 16, 6, 28, 104, 21, 7, 96, 46, 96]
abbrev dktX5_goesPaid_7 : List UInt8 := dkwX5_goesPaid_7 ++ dktX5_goesPaid_8
def dkwX5_goesPaid_6 : List UInt8 := [21, 6, 162, 0, 70, 21, 7, 28, 159, 0, 58, 22, 4, 20, 1, 126, 113, 20, 1, 55, 105, 21, 7, 133]
abbrev dktX5_goesPaid_6 : List UInt8 := dkwX5_goesPaid_6 ++ dktX5_goesPaid_7
def dkwX5_goesPaid_5 : List UInt8 := [28, 29, 184, 1, 88, 22, 4, 182, 1, 132, 3, 54, 7, 21, 7, 42, 180, 0, 22, 162, 0, 76, 27]
abbrev dktX5_goesPaid_5 : List UInt8 := dkwX5_goesPaid_5 ++ dktX5_goesPaid_6
def dkwX5_goesPaid_4 : List UInt8 := [22, 4, 42, 180, 1, 128, 148, 156, 0, 14, 42, 22, 4, 181, 1, 128, 42, 27, 181, 1, 123, 177, 42, 27]
abbrev dktX5_goesPaid_4 : List UInt8 := dkwX5_goesPaid_4 ++ dktX5_goesPaid_5
def dkwX5_goesPaid_3 : List UInt8 := [154, 0, 34, 21, 8, 153, 0, 40, 27, 42, 180, 1, 123, 161, 0, 21, 27, 42, 180, 1, 123, 160, 0, 24]
abbrev dktX5_goesPaid_3 : List UInt8 := dkwX5_goesPaid_3 ++ dktX5_goesPaid_4
def dkwX5_goesPaid_2 : List UInt8 := [109, 42, 180, 1, 128, 20, 1, 126, 109, 148, 154, 0, 7, 4, 167, 0, 4, 3, 54, 8, 21, 7]
abbrev dktX5_goesPaid_2 : List UInt8 := dkwX5_goesPaid_2 ++ dktX5_goesPaid_3
def dkwX5_goesPaid_1 : List UInt8 := [109, 148, 156, 0, 7, 4, 167, 0, 4, 3, 54, 7, 42, 180, 1, 123, 155, 0, 25, 22, 4, 20, 1, 126]
abbrev dktX5_goesPaid_1 : List UInt8 := dkwX5_goesPaid_1 ++ dktX5_goesPaid_2
def dkwX5_goesPaid_0 : List UInt8 := [29, 154, 0, 115, 42, 180, 1, 123, 155, 0, 21, 22, 4, 20, 1, 126, 109, 42, 180, 1, 128, 20, 1, 126]
abbrev dktX5_goesPaid_0 : List UInt8 := dkwX5_goesPaid_0 ++ dktX5_goesPaid_1
theorem dksX5_goesPaid_0 : cX5_goesPaid.data.toList.drop 0 = dktX5_goesPaid_0 := by decide +kernel
theorem dksX5_goesPaid_1 : cX5_goesPaid.data.toList.drop 24 = dktX5_goesPaid_1 := dk_seg dksX5_goesPaid_0 24 rfl rfl
theorem dksX5_goesPaid_2 : cX5_goesPaid.data.toList.drop 48 = dktX5_goesPaid_2 := dk_seg dksX5_goesPaid_1 24 rfl rfl
theorem dksX5_goesPaid_3 : cX5_goesPaid.data.toList.drop 70 = dktX5_goesPaid_3 := dk_seg dksX5_goesPaid_2 22 rfl rfl
theorem dksX5_goesPaid_4 : cX5_goesPaid.data.toList.drop 94 = dktX5_goesPaid_4 := dk_seg dksX5_goesPaid_3 24 rfl rfl
theorem dksX5_goesPaid_5 : cX5_goesPaid.data.toList.drop 118 = dktX5_goesPaid_5 := dk_seg dksX5_goesPaid_4 24 rfl rfl
theorem dksX5_goesPaid_6 : cX5_goesPaid.data.toList.drop 141 = dktX5_goesPaid_6 := dk_seg dksX5_goesPaid_5 23 rfl rfl
theorem dksX5_goesPaid_7 : cX5_goesPaid.data.toList.drop 165 = dktX5_goesPaid_7 := dk_seg dksX5_goesPaid_6 24 rfl rfl
theorem dksX5_goesPaid_8 : cX5_goesPaid.data.toList.drop 188 = dktX5_goesPaid_8 := dk_seg dksX5_goesPaid_7 23 rfl rfl
theorem dksX5_goesPaid_9 : cX5_goesPaid.data.toList.drop 210 = dktX5_goesPaid_9 := dk_seg dksX5_goesPaid_8 22 rfl rfl
theorem dX5_goesPaid_0 : decode cX5_goesPaid 0 = .ok (.iload_n 3, 1) := dk_29 (dk_at dksX5_goesPaid_0 0 rfl rfl)
theorem dX5_goesPaid_1 : decode cX5_goesPaid 1 = .ok (.ifCond .ne 115, 3) := dk_154 0 115 (dk_at dksX5_goesPaid_0 1 rfl rfl)
theorem dX5_goesPaid_4 : decode cX5_goesPaid 4 = .ok (.aload_n 0, 1) := dk_42 (dk_at dksX5_goesPaid_0 4 rfl rfl)
theorem dX5_goesPaid_5 : decode cX5_goesPaid 5 = .ok (.getfield 379, 3) := dk_180 1 123 (dk_at dksX5_goesPaid_0 5 rfl rfl)
theorem dX5_goesPaid_8 : decode cX5_goesPaid 8 = .ok (.ifCond .lt 21, 3) := dk_155 0 21 (dk_at dksX5_goesPaid_0 8 rfl rfl)
theorem dX5_goesPaid_11 : decode cX5_goesPaid 11 = .ok (.lload 4, 2) := dk_22 4 (dk_at dksX5_goesPaid_0 11 rfl rfl)
theorem dX5_goesPaid_13 : decode cX5_goesPaid 13 = .ok (.ldc2_w 382, 3) := dk_20 1 126 (dk_at dksX5_goesPaid_0 13 rfl rfl)
theorem dX5_goesPaid_16 : decode cX5_goesPaid 16 = .ok (.ldiv, 1) := dk_109 (dk_at dksX5_goesPaid_0 16 rfl rfl)
theorem dX5_goesPaid_17 : decode cX5_goesPaid 17 = .ok (.aload_n 0, 1) := dk_42 (dk_at dksX5_goesPaid_0 17 rfl rfl)
theorem dX5_goesPaid_18 : decode cX5_goesPaid 18 = .ok (.getfield 384, 3) := dk_180 1 128 (dk_at dksX5_goesPaid_0 18 rfl rfl)
theorem dX5_goesPaid_21 : decode cX5_goesPaid 21 = .ok (.ldc2_w 382, 3) := dk_20 1 126 (dk_at dksX5_goesPaid_0 21 rfl rfl)
theorem dX5_goesPaid_24 : decode cX5_goesPaid 24 = .ok (.ldiv, 1) := dk_109 (dk_at dksX5_goesPaid_1 0 rfl rfl)
theorem dX5_goesPaid_25 : decode cX5_goesPaid 25 = .ok (.lcmp, 1) := dk_148 (dk_at dksX5_goesPaid_1 1 rfl rfl)
theorem dX5_goesPaid_26 : decode cX5_goesPaid 26 = .ok (.ifCond .ge 7, 3) := dk_156 0 7 (dk_at dksX5_goesPaid_1 2 rfl rfl)
theorem dX5_goesPaid_29 : decode cX5_goesPaid 29 = .ok (.iconst 1, 1) := dk_4 (dk_at dksX5_goesPaid_1 5 rfl rfl)
theorem dX5_goesPaid_30 : decode cX5_goesPaid 30 = .ok (.goto 4, 3) := dk_167 0 4 (dk_at dksX5_goesPaid_1 6 rfl rfl)
theorem dX5_goesPaid_33 : decode cX5_goesPaid 33 = .ok (.iconst 0, 1) := dk_3 (dk_at dksX5_goesPaid_1 9 rfl rfl)
theorem dX5_goesPaid_34 : decode cX5_goesPaid 34 = .ok (.istore 7, 2) := dk_54 7 (dk_at dksX5_goesPaid_1 10 rfl rfl)
theorem dX5_goesPaid_36 : decode cX5_goesPaid 36 = .ok (.aload_n 0, 1) := dk_42 (dk_at dksX5_goesPaid_1 12 rfl rfl)
theorem dX5_goesPaid_37 : decode cX5_goesPaid 37 = .ok (.getfield 379, 3) := dk_180 1 123 (dk_at dksX5_goesPaid_1 13 rfl rfl)
theorem dX5_goesPaid_40 : decode cX5_goesPaid 40 = .ok (.ifCond .lt 25, 3) := dk_155 0 25 (dk_at dksX5_goesPaid_1 16 rfl rfl)
theorem dX5_goesPaid_43 : decode cX5_goesPaid 43 = .ok (.lload 4, 2) := dk_22 4 (dk_at dksX5_goesPaid_1 19 rfl rfl)
theorem dX5_goesPaid_45 : decode cX5_goesPaid 45 = .ok (.ldc2_w 382, 3) := dk_20 1 126 (dk_at dksX5_goesPaid_1 21 rfl rfl)
theorem dX5_goesPaid_48 : decode cX5_goesPaid 48 = .ok (.ldiv, 1) := dk_109 (dk_at dksX5_goesPaid_2 0 rfl rfl)
theorem dX5_goesPaid_49 : decode cX5_goesPaid 49 = .ok (.aload_n 0, 1) := dk_42 (dk_at dksX5_goesPaid_2 1 rfl rfl)
theorem dX5_goesPaid_50 : decode cX5_goesPaid 50 = .ok (.getfield 384, 3) := dk_180 1 128 (dk_at dksX5_goesPaid_2 2 rfl rfl)
theorem dX5_goesPaid_53 : decode cX5_goesPaid 53 = .ok (.ldc2_w 382, 3) := dk_20 1 126 (dk_at dksX5_goesPaid_2 5 rfl rfl)
theorem dX5_goesPaid_56 : decode cX5_goesPaid 56 = .ok (.ldiv, 1) := dk_109 (dk_at dksX5_goesPaid_2 8 rfl rfl)
theorem dX5_goesPaid_57 : decode cX5_goesPaid 57 = .ok (.lcmp, 1) := dk_148 (dk_at dksX5_goesPaid_2 9 rfl rfl)
theorem dX5_goesPaid_58 : decode cX5_goesPaid 58 = .ok (.ifCond .ne 7, 3) := dk_154 0 7 (dk_at dksX5_goesPaid_2 10 rfl rfl)
theorem dX5_goesPaid_61 : decode cX5_goesPaid 61 = .ok (.iconst 1, 1) := dk_4 (dk_at dksX5_goesPaid_2 13 rfl rfl)
theorem dX5_goesPaid_62 : decode cX5_goesPaid 62 = .ok (.goto 4, 3) := dk_167 0 4 (dk_at dksX5_goesPaid_2 14 rfl rfl)
theorem dX5_goesPaid_65 : decode cX5_goesPaid 65 = .ok (.iconst 0, 1) := dk_3 (dk_at dksX5_goesPaid_2 17 rfl rfl)
theorem dX5_goesPaid_66 : decode cX5_goesPaid 66 = .ok (.istore 8, 2) := dk_54 8 (dk_at dksX5_goesPaid_2 18 rfl rfl)
theorem dX5_goesPaid_68 : decode cX5_goesPaid 68 = .ok (.iload 7, 2) := dk_21 7 (dk_at dksX5_goesPaid_2 20 rfl rfl)
theorem dX5_goesPaid_70 : decode cX5_goesPaid 70 = .ok (.ifCond .ne 34, 3) := dk_154 0 34 (dk_at dksX5_goesPaid_3 0 rfl rfl)
theorem dX5_goesPaid_73 : decode cX5_goesPaid 73 = .ok (.iload 8, 2) := dk_21 8 (dk_at dksX5_goesPaid_3 3 rfl rfl)
theorem dX5_goesPaid_75 : decode cX5_goesPaid 75 = .ok (.ifCond .eq 40, 3) := dk_153 0 40 (dk_at dksX5_goesPaid_3 5 rfl rfl)
theorem dX5_goesPaid_78 : decode cX5_goesPaid 78 = .ok (.iload_n 1, 1) := dk_27 (dk_at dksX5_goesPaid_3 8 rfl rfl)
theorem dX5_goesPaid_79 : decode cX5_goesPaid 79 = .ok (.aload_n 0, 1) := dk_42 (dk_at dksX5_goesPaid_3 9 rfl rfl)
theorem dX5_goesPaid_80 : decode cX5_goesPaid 80 = .ok (.getfield 379, 3) := dk_180 1 123 (dk_at dksX5_goesPaid_3 10 rfl rfl)
theorem dX5_goesPaid_83 : decode cX5_goesPaid 83 = .ok (.if_icmp .lt 21, 3) := dk_161 0 21 (dk_at dksX5_goesPaid_3 13 rfl rfl)
theorem dX5_goesPaid_86 : decode cX5_goesPaid 86 = .ok (.iload_n 1, 1) := dk_27 (dk_at dksX5_goesPaid_3 16 rfl rfl)
theorem dX5_goesPaid_87 : decode cX5_goesPaid 87 = .ok (.aload_n 0, 1) := dk_42 (dk_at dksX5_goesPaid_3 17 rfl rfl)
theorem dX5_goesPaid_88 : decode cX5_goesPaid 88 = .ok (.getfield 379, 3) := dk_180 1 123 (dk_at dksX5_goesPaid_3 18 rfl rfl)
theorem dX5_goesPaid_91 : decode cX5_goesPaid 91 = .ok (.if_icmp .ne 24, 3) := dk_160 0 24 (dk_at dksX5_goesPaid_3 21 rfl rfl)
theorem dX5_goesPaid_94 : decode cX5_goesPaid 94 = .ok (.lload 4, 2) := dk_22 4 (dk_at dksX5_goesPaid_4 0 rfl rfl)
theorem dX5_goesPaid_96 : decode cX5_goesPaid 96 = .ok (.aload_n 0, 1) := dk_42 (dk_at dksX5_goesPaid_4 2 rfl rfl)
theorem dX5_goesPaid_97 : decode cX5_goesPaid 97 = .ok (.getfield 384, 3) := dk_180 1 128 (dk_at dksX5_goesPaid_4 3 rfl rfl)
theorem dX5_goesPaid_100 : decode cX5_goesPaid 100 = .ok (.lcmp, 1) := dk_148 (dk_at dksX5_goesPaid_4 6 rfl rfl)
theorem dX5_goesPaid_101 : decode cX5_goesPaid 101 = .ok (.ifCond .ge 14, 3) := dk_156 0 14 (dk_at dksX5_goesPaid_4 7 rfl rfl)
theorem dX5_goesPaid_104 : decode cX5_goesPaid 104 = .ok (.aload_n 0, 1) := dk_42 (dk_at dksX5_goesPaid_4 10 rfl rfl)
theorem dX5_goesPaid_105 : decode cX5_goesPaid 105 = .ok (.lload 4, 2) := dk_22 4 (dk_at dksX5_goesPaid_4 11 rfl rfl)
theorem dX5_goesPaid_107 : decode cX5_goesPaid 107 = .ok (.putfield 384, 3) := dk_181 1 128 (dk_at dksX5_goesPaid_4 13 rfl rfl)
theorem dX5_goesPaid_110 : decode cX5_goesPaid 110 = .ok (.aload_n 0, 1) := dk_42 (dk_at dksX5_goesPaid_4 16 rfl rfl)
theorem dX5_goesPaid_111 : decode cX5_goesPaid 111 = .ok (.iload_n 1, 1) := dk_27 (dk_at dksX5_goesPaid_4 17 rfl rfl)
theorem dX5_goesPaid_112 : decode cX5_goesPaid 112 = .ok (.putfield 379, 3) := dk_181 1 123 (dk_at dksX5_goesPaid_4 18 rfl rfl)
theorem dX5_goesPaid_115 : decode cX5_goesPaid 115 = .ok (.return_, 1) := dk_177 (dk_at dksX5_goesPaid_4 21 rfl rfl)
theorem dX5_goesPaid_116 : decode cX5_goesPaid 116 = .ok (.aload_n 0, 1) := dk_42 (dk_at dksX5_goesPaid_4 22 rfl rfl)
theorem dX5_goesPaid_117 : decode cX5_goesPaid 117 = .ok (.iload_n 1, 1) := dk_27 (dk_at dksX5_goesPaid_4 23 rfl rfl)
theorem dX5_goesPaid_118 : decode cX5_goesPaid 118 = .ok (.iload_n 2, 1) := dk_28 (dk_at dksX5_goesPaid_5 0 rfl rfl)
theorem dX5_goesPaid_119 : decode cX5_goesPaid 119 = .ok (.iload_n 3, 1) := dk_29 (dk_at dksX5_goesPaid_5 1 rfl rfl)
theorem dX5_goesPaid_120 : decode cX5_goesPaid 120 = .ok (.invokestatic 344, 3) := dk_184 1 88 (dk_at dksX5_goesPaid_5 2 rfl rfl)
theorem dX5_goesPaid_123 : decode cX5_goesPaid 123 = .ok (.lload 4, 2) := dk_22 4 (dk_at dksX5_goesPaid_5 5 rfl rfl)
theorem dX5_goesPaid_125 : decode cX5_goesPaid 125 = .ok (.invokevirtual 388, 3) := dk_182 1 132 (dk_at dksX5_goesPaid_5 7 rfl rfl)
theorem dX5_goesPaid_128 : decode cX5_goesPaid 128 = .ok (.iconst 0, 1) := dk_3 (dk_at dksX5_goesPaid_5 10 rfl rfl)
theorem dX5_goesPaid_129 : decode cX5_goesPaid 129 = .ok (.istore 7, 2) := dk_54 7 (dk_at dksX5_goesPaid_5 11 rfl rfl)
theorem dX5_goesPaid_131 : decode cX5_goesPaid 131 = .ok (.iload 7, 2) := dk_21 7 (dk_at dksX5_goesPaid_5 13 rfl rfl)
theorem dX5_goesPaid_133 : decode cX5_goesPaid 133 = .ok (.aload_n 0, 1) := dk_42 (dk_at dksX5_goesPaid_5 15 rfl rfl)
theorem dX5_goesPaid_134 : decode cX5_goesPaid 134 = .ok (.getfield 22, 3) := dk_180 0 22 (dk_at dksX5_goesPaid_5 16 rfl rfl)
theorem dX5_goesPaid_137 : decode cX5_goesPaid 137 = .ok (.if_icmp .ge 76, 3) := dk_162 0 76 (dk_at dksX5_goesPaid_5 19 rfl rfl)
theorem dX5_goesPaid_140 : decode cX5_goesPaid 140 = .ok (.iload_n 1, 1) := dk_27 (dk_at dksX5_goesPaid_5 22 rfl rfl)
theorem dX5_goesPaid_141 : decode cX5_goesPaid 141 = .ok (.iload 6, 2) := dk_21 6 (dk_at dksX5_goesPaid_6 0 rfl rfl)
theorem dX5_goesPaid_143 : decode cX5_goesPaid 143 = .ok (.if_icmp .ge 70, 3) := dk_162 0 70 (dk_at dksX5_goesPaid_6 2 rfl rfl)
theorem dX5_goesPaid_146 : decode cX5_goesPaid 146 = .ok (.iload 7, 2) := dk_21 7 (dk_at dksX5_goesPaid_6 5 rfl rfl)
theorem dX5_goesPaid_148 : decode cX5_goesPaid 148 = .ok (.iload_n 2, 1) := dk_28 (dk_at dksX5_goesPaid_6 7 rfl rfl)
theorem dX5_goesPaid_149 : decode cX5_goesPaid 149 = .ok (.if_icmp .eq 58, 3) := dk_159 0 58 (dk_at dksX5_goesPaid_6 8 rfl rfl)
theorem dX5_goesPaid_152 : decode cX5_goesPaid 152 = .ok (.lload 4, 2) := dk_22 4 (dk_at dksX5_goesPaid_6 11 rfl rfl)
theorem dX5_goesPaid_154 : decode cX5_goesPaid 154 = .ok (.ldc2_w 382, 3) := dk_20 1 126 (dk_at dksX5_goesPaid_6 13 rfl rfl)
theorem dX5_goesPaid_157 : decode cX5_goesPaid 157 = .ok (.lrem, 1) := dk_113 (dk_at dksX5_goesPaid_6 16 rfl rfl)
theorem dX5_goesPaid_158 : decode cX5_goesPaid 158 = .ok (.ldc2_w 311, 3) := dk_20 1 55 (dk_at dksX5_goesPaid_6 17 rfl rfl)
theorem dX5_goesPaid_161 : decode cX5_goesPaid 161 = .ok (.lmul, 1) := dk_105 (dk_at dksX5_goesPaid_6 20 rfl rfl)
theorem dX5_goesPaid_162 : decode cX5_goesPaid 162 = .ok (.iload 7, 2) := dk_21 7 (dk_at dksX5_goesPaid_6 21 rfl rfl)
theorem dX5_goesPaid_164 : decode cX5_goesPaid 164 = .ok (.i2l, 1) := dk_133 (dk_at dksX5_goesPaid_6 23 rfl rfl)
theorem dX5_goesPaid_165 : decode cX5_goesPaid 165 = .ok (.ladd, 1) := dk_97 (dk_at dksX5_goesPaid_7 0 rfl rfl)
theorem dX5_goesPaid_166 : decode cX5_goesPaid 166 = .ok (.lstore 8, 2) := dk_55 8 (dk_at dksX5_goesPaid_7 1 rfl rfl)
theorem dX5_goesPaid_168 : decode cX5_goesPaid 168 = .ok (.aload_n 0, 1) := dk_42 (dk_at dksX5_goesPaid_7 3 rfl rfl)
theorem dX5_goesPaid_169 : decode cX5_goesPaid 169 = .ok (.iload_n 1, 1) := dk_27 (dk_at dksX5_goesPaid_7 4 rfl rfl)
theorem dX5_goesPaid_170 : decode cX5_goesPaid 170 = .ok (.iconst 1, 1) := dk_4 (dk_at dksX5_goesPaid_7 5 rfl rfl)
theorem dX5_goesPaid_171 : decode cX5_goesPaid 171 = .ok (.iadd, 1) := dk_96 (dk_at dksX5_goesPaid_7 6 rfl rfl)
theorem dX5_goesPaid_172 : decode cX5_goesPaid 172 = .ok (.iload 7, 2) := dk_21 7 (dk_at dksX5_goesPaid_7 7 rfl rfl)
theorem dX5_goesPaid_174 : decode cX5_goesPaid 174 = .ok (.iload_n 3, 1) := dk_29 (dk_at dksX5_goesPaid_7 9 rfl rfl)
theorem dX5_goesPaid_175 : decode cX5_goesPaid 175 = .ok (.aload_n 0, 1) := dk_42 (dk_at dksX5_goesPaid_7 10 rfl rfl)
theorem dX5_goesPaid_176 : decode cX5_goesPaid 176 = .ok (.getfield 335, 3) := dk_180 1 79 (dk_at dksX5_goesPaid_7 11 rfl rfl)
theorem dX5_goesPaid_179 : decode cX5_goesPaid 179 = .ok (.bipush 6, 2) := dk_16 6 (dk_at dksX5_goesPaid_7 14 rfl rfl)
theorem dX5_goesPaid_181 : decode cX5_goesPaid 181 = .ok (.iload_n 2, 1) := dk_28 (dk_at dksX5_goesPaid_7 16 rfl rfl)
theorem dX5_goesPaid_182 : decode cX5_goesPaid 182 = .ok (.imul, 1) := dk_104 (dk_at dksX5_goesPaid_7 17 rfl rfl)
theorem dX5_goesPaid_183 : decode cX5_goesPaid 183 = .ok (.iload 7, 2) := dk_21 7 (dk_at dksX5_goesPaid_7 18 rfl rfl)
theorem dX5_goesPaid_185 : decode cX5_goesPaid 185 = .ok (.iadd, 1) := dk_96 (dk_at dksX5_goesPaid_7 20 rfl rfl)
theorem dX5_goesPaid_186 : decode cX5_goesPaid 186 = .ok (.iaload, 1) := dk_46 (dk_at dksX5_goesPaid_7 21 rfl rfl)
theorem dX5_goesPaid_187 : decode cX5_goesPaid 187 = .ok (.iadd, 1) := dk_96 (dk_at dksX5_goesPaid_7 22 rfl rfl)
theorem dX5_goesPaid_188 : decode cX5_goesPaid 188 = .ok (.invokestatic 344, 3) := dk_184 1 88 (dk_at dksX5_goesPaid_8 0 rfl rfl)
theorem dX5_goesPaid_191 : decode cX5_goesPaid 191 = .ok (.lload 4, 2) := dk_22 4 (dk_at dksX5_goesPaid_8 3 rfl rfl)
theorem dX5_goesPaid_193 : decode cX5_goesPaid 193 = .ok (.ldc2_w 382, 3) := dk_20 1 126 (dk_at dksX5_goesPaid_8 5 rfl rfl)
theorem dX5_goesPaid_196 : decode cX5_goesPaid 196 = .ok (.ldiv, 1) := dk_109 (dk_at dksX5_goesPaid_8 8 rfl rfl)
theorem dX5_goesPaid_197 : decode cX5_goesPaid 197 = .ok (.ldc2_w 382, 3) := dk_20 1 126 (dk_at dksX5_goesPaid_8 9 rfl rfl)
theorem dX5_goesPaid_200 : decode cX5_goesPaid 200 = .ok (.lmul, 1) := dk_105 (dk_at dksX5_goesPaid_8 12 rfl rfl)
theorem dX5_goesPaid_201 : decode cX5_goesPaid 201 = .ok (.lload 8, 2) := dk_22 8 (dk_at dksX5_goesPaid_8 13 rfl rfl)
theorem dX5_goesPaid_203 : decode cX5_goesPaid 203 = .ok (.ladd, 1) := dk_97 (dk_at dksX5_goesPaid_8 15 rfl rfl)
theorem dX5_goesPaid_204 : decode cX5_goesPaid 204 = .ok (.invokevirtual 388, 3) := dk_182 1 132 (dk_at dksX5_goesPaid_8 16 rfl rfl)
theorem dX5_goesPaid_207 : decode cX5_goesPaid 207 = .ok (.iinc 7 1, 3) := dk_132 7 1 (dk_at dksX5_goesPaid_8 19 rfl rfl)
theorem dX5_goesPaid_210 : decode cX5_goesPaid 210 = .ok (.goto (-79), 3) := dk_167 255 177 (dk_at dksX5_goesPaid_9 0 rfl rfl)
theorem dX5_goesPaid_213 : decode cX5_goesPaid 213 = .ok (.return_, 1) := dk_177 (dk_at dksX5_goesPaid_9 3 rfl rfl)
def dkwX5_cheaper_1 : List UInt8 := [27, 47, 32, 184, 1, 121, 80, 177]
abbrev dktX5_cheaper_1 : List UInt8 := dkwX5_cheaper_1 ++ []
def dkwX5_cheaper_0 : List UInt8 := [42, 180, 1, 118, 27, 42, 180, 1, 118, 27, 47, 9, 148, 156, 0, 7, 32, 167, 0, 13, 42, 180, 1, 118]
abbrev dktX5_cheaper_0 : List UInt8 := dkwX5_cheaper_0 ++ dktX5_cheaper_1
theorem dksX5_cheaper_0 : cX5_cheaper.data.toList.drop 0 = dktX5_cheaper_0 := by decide +kernel
theorem dksX5_cheaper_1 : cX5_cheaper.data.toList.drop 24 = dktX5_cheaper_1 := dk_seg dksX5_cheaper_0 24 rfl rfl
theorem dX5_cheaper_0 : decode cX5_cheaper 0 = .ok (.aload_n 0, 1) := dk_42 (dk_at dksX5_cheaper_0 0 rfl rfl)
theorem dX5_cheaper_1 : decode cX5_cheaper 1 = .ok (.getfield 374, 3) := dk_180 1 118 (dk_at dksX5_cheaper_0 1 rfl rfl)
theorem dX5_cheaper_4 : decode cX5_cheaper 4 = .ok (.iload_n 1, 1) := dk_27 (dk_at dksX5_cheaper_0 4 rfl rfl)
theorem dX5_cheaper_5 : decode cX5_cheaper 5 = .ok (.aload_n 0, 1) := dk_42 (dk_at dksX5_cheaper_0 5 rfl rfl)
theorem dX5_cheaper_6 : decode cX5_cheaper 6 = .ok (.getfield 374, 3) := dk_180 1 118 (dk_at dksX5_cheaper_0 6 rfl rfl)
theorem dX5_cheaper_9 : decode cX5_cheaper 9 = .ok (.iload_n 1, 1) := dk_27 (dk_at dksX5_cheaper_0 9 rfl rfl)
theorem dX5_cheaper_10 : decode cX5_cheaper 10 = .ok (.laload, 1) := dk_47 (dk_at dksX5_cheaper_0 10 rfl rfl)
theorem dX5_cheaper_11 : decode cX5_cheaper 11 = .ok (.lconst 0, 1) := dk_9 (dk_at dksX5_cheaper_0 11 rfl rfl)
theorem dX5_cheaper_12 : decode cX5_cheaper 12 = .ok (.lcmp, 1) := dk_148 (dk_at dksX5_cheaper_0 12 rfl rfl)
theorem dX5_cheaper_13 : decode cX5_cheaper 13 = .ok (.ifCond .ge 7, 3) := dk_156 0 7 (dk_at dksX5_cheaper_0 13 rfl rfl)
theorem dX5_cheaper_16 : decode cX5_cheaper 16 = .ok (.lload_n 2, 1) := dk_32 (dk_at dksX5_cheaper_0 16 rfl rfl)
theorem dX5_cheaper_17 : decode cX5_cheaper 17 = .ok (.goto 13, 3) := dk_167 0 13 (dk_at dksX5_cheaper_0 17 rfl rfl)
theorem dX5_cheaper_20 : decode cX5_cheaper 20 = .ok (.aload_n 0, 1) := dk_42 (dk_at dksX5_cheaper_0 20 rfl rfl)
theorem dX5_cheaper_21 : decode cX5_cheaper 21 = .ok (.getfield 374, 3) := dk_180 1 118 (dk_at dksX5_cheaper_0 21 rfl rfl)
theorem dX5_cheaper_24 : decode cX5_cheaper 24 = .ok (.iload_n 1, 1) := dk_27 (dk_at dksX5_cheaper_1 0 rfl rfl)
theorem dX5_cheaper_25 : decode cX5_cheaper 25 = .ok (.laload, 1) := dk_47 (dk_at dksX5_cheaper_1 1 rfl rfl)
theorem dX5_cheaper_26 : decode cX5_cheaper 26 = .ok (.lload_n 2, 1) := dk_32 (dk_at dksX5_cheaper_1 2 rfl rfl)
theorem dX5_cheaper_27 : decode cX5_cheaper 27 = .ok (.invokestatic 377, 3) := dk_184 1 121 (dk_at dksX5_cheaper_1 3 rfl rfl)
theorem dX5_cheaper_30 : decode cX5_cheaper 30 = .ok (.lastore, 1) := dk_80 (dk_at dksX5_cheaper_1 6 rfl rfl)
theorem dX5_cheaper_31 : decode cX5_cheaper 31 = .ok (.return_, 1) := dk_177 (dk_at dksX5_cheaper_1 7 rfl rfl)
def dkwX5_edge_6 : List UInt8 := [21, 6, 172]
abbrev dktX5_edge_6 : List UInt8 := dkwX5_edge_6 ++ []
def dkwX5_edge_5 : List UInt8 := [132, 8, 255, 167, 255, 204, 42, 21, 5, 181, 0, 108, 42, 3, 181, 0, 11, 42, 21, 4, 133, 182, 0, 18]
abbrev dktX5_edge_5 : List UInt8 := dkwX5_edge_5 ++ dktX5_edge_6
def dkwX5_edge_4 : List UInt8 := [161, 0, 7, 4, 167, 0, 4, 3, 54, 7, 21, 7, 153, 0, 8, 21, 8, 167, 0, 5, 21, 6, 54, 6]
abbrev dktX5_edge_4 : List UInt8 := dkwX5_edge_4 ++ dktX5_edge_5
def dkwX5_edge_3 : List UInt8 := [155, 0, 53, 21, 7, 153, 0, 48, 42, 21, 8, 181, 0, 108, 42, 27, 28, 29, 182, 1, 111, 21, 4]
abbrev dktX5_edge_3 : List UInt8 := dkwX5_edge_3 ++ dktX5_edge_4
def dkwX5_edge_2 : List UInt8 := [156, 0, 5, 2, 172, 42, 180, 0, 108, 54, 5, 16, 254, 54, 6, 4, 54, 7, 16, 20, 54, 8, 21, 8]
abbrev dktX5_edge_2 : List UInt8 := dkwX5_edge_2 ++ dktX5_edge_3
def dkwX5_edge_1 : List UInt8 := [20, 0, 93, 184, 0, 25, 154, 0, 5, 2, 172, 42, 27, 28, 3, 182, 1, 111, 54, 4, 21, 4]
abbrev dktX5_edge_1 : List UInt8 := dkwX5_edge_1 ++ dktX5_edge_2
def dkwX5_edge_0 : List UInt8 := [42, 3, 181, 0, 3, 42, 27, 182, 1, 0, 153, 0, 22, 28, 184, 0, 81, 153, 0, 15, 29, 133, 10]
abbrev dktX5_edge_0 : List UInt8 := dkwX5_edge_0 ++ dktX5_edge_1
theorem dksX5_edge_0 : cX5_edge.data.toList.drop 0 = dktX5_edge_0 := by decide +kernel
theorem dksX5_edge_1 : cX5_edge.data.toList.drop 23 = dktX5_edge_1 := dk_seg dksX5_edge_0 23 rfl rfl
theorem dksX5_edge_2 : cX5_edge.data.toList.drop 45 = dktX5_edge_2 := dk_seg dksX5_edge_1 22 rfl rfl
theorem dksX5_edge_3 : cX5_edge.data.toList.drop 69 = dktX5_edge_3 := dk_seg dksX5_edge_2 24 rfl rfl
theorem dksX5_edge_4 : cX5_edge.data.toList.drop 92 = dktX5_edge_4 := dk_seg dksX5_edge_3 23 rfl rfl
theorem dksX5_edge_5 : cX5_edge.data.toList.drop 116 = dktX5_edge_5 := dk_seg dksX5_edge_4 24 rfl rfl
theorem dksX5_edge_6 : cX5_edge.data.toList.drop 140 = dktX5_edge_6 := dk_seg dksX5_edge_5 24 rfl rfl
theorem dX5_edge_0 : decode cX5_edge 0 = .ok (.aload_n 0, 1) := dk_42 (dk_at dksX5_edge_0 0 rfl rfl)
theorem dX5_edge_1 : decode cX5_edge 1 = .ok (.iconst 0, 1) := dk_3 (dk_at dksX5_edge_0 1 rfl rfl)
theorem dX5_edge_2 : decode cX5_edge 2 = .ok (.putfield 3, 3) := dk_181 0 3 (dk_at dksX5_edge_0 2 rfl rfl)
theorem dX5_edge_5 : decode cX5_edge 5 = .ok (.aload_n 0, 1) := dk_42 (dk_at dksX5_edge_0 5 rfl rfl)
theorem dX5_edge_6 : decode cX5_edge 6 = .ok (.iload_n 1, 1) := dk_27 (dk_at dksX5_edge_0 6 rfl rfl)
theorem dX5_edge_7 : decode cX5_edge 7 = .ok (.invokevirtual 256, 3) := dk_182 1 0 (dk_at dksX5_edge_0 7 rfl rfl)
theorem dX5_edge_10 : decode cX5_edge 10 = .ok (.ifCond .eq 22, 3) := dk_153 0 22 (dk_at dksX5_edge_0 10 rfl rfl)
theorem dX5_edge_13 : decode cX5_edge 13 = .ok (.iload_n 2, 1) := dk_28 (dk_at dksX5_edge_0 13 rfl rfl)
theorem dX5_edge_14 : decode cX5_edge 14 = .ok (.invokestatic 81, 3) := dk_184 0 81 (dk_at dksX5_edge_0 14 rfl rfl)
theorem dX5_edge_17 : decode cX5_edge 17 = .ok (.ifCond .eq 15, 3) := dk_153 0 15 (dk_at dksX5_edge_0 17 rfl rfl)
theorem dX5_edge_20 : decode cX5_edge 20 = .ok (.iload_n 3, 1) := dk_29 (dk_at dksX5_edge_0 20 rfl rfl)
theorem dX5_edge_21 : decode cX5_edge 21 = .ok (.i2l, 1) := dk_133 (dk_at dksX5_edge_0 21 rfl rfl)
theorem dX5_edge_22 : decode cX5_edge 22 = .ok (.lconst 1, 1) := dk_10 (dk_at dksX5_edge_0 22 rfl rfl)
theorem dX5_edge_23 : decode cX5_edge 23 = .ok (.ldc2_w 93, 3) := dk_20 0 93 (dk_at dksX5_edge_1 0 rfl rfl)
theorem dX5_edge_26 : decode cX5_edge 26 = .ok (.invokestatic 25, 3) := dk_184 0 25 (dk_at dksX5_edge_1 3 rfl rfl)
theorem dX5_edge_29 : decode cX5_edge 29 = .ok (.ifCond .ne 5, 3) := dk_154 0 5 (dk_at dksX5_edge_1 6 rfl rfl)
theorem dX5_edge_32 : decode cX5_edge 32 = .ok (.iconst (-1), 1) := dk_2 (dk_at dksX5_edge_1 9 rfl rfl)
theorem dX5_edge_33 : decode cX5_edge 33 = .ok (.ireturn, 1) := dk_172 (dk_at dksX5_edge_1 10 rfl rfl)
theorem dX5_edge_34 : decode cX5_edge 34 = .ok (.aload_n 0, 1) := dk_42 (dk_at dksX5_edge_1 11 rfl rfl)
theorem dX5_edge_35 : decode cX5_edge 35 = .ok (.iload_n 1, 1) := dk_27 (dk_at dksX5_edge_1 12 rfl rfl)
theorem dX5_edge_36 : decode cX5_edge 36 = .ok (.iload_n 2, 1) := dk_28 (dk_at dksX5_edge_1 13 rfl rfl)
theorem dX5_edge_37 : decode cX5_edge 37 = .ok (.iconst 0, 1) := dk_3 (dk_at dksX5_edge_1 14 rfl rfl)
theorem dX5_edge_38 : decode cX5_edge 38 = .ok (.invokevirtual 367, 3) := dk_182 1 111 (dk_at dksX5_edge_1 15 rfl rfl)
theorem dX5_edge_41 : decode cX5_edge 41 = .ok (.istore 4, 2) := dk_54 4 (dk_at dksX5_edge_1 18 rfl rfl)
theorem dX5_edge_43 : decode cX5_edge 43 = .ok (.iload 4, 2) := dk_21 4 (dk_at dksX5_edge_1 20 rfl rfl)
theorem dX5_edge_45 : decode cX5_edge 45 = .ok (.ifCond .ge 5, 3) := dk_156 0 5 (dk_at dksX5_edge_2 0 rfl rfl)
theorem dX5_edge_48 : decode cX5_edge 48 = .ok (.iconst (-1), 1) := dk_2 (dk_at dksX5_edge_2 3 rfl rfl)
theorem dX5_edge_49 : decode cX5_edge 49 = .ok (.ireturn, 1) := dk_172 (dk_at dksX5_edge_2 4 rfl rfl)
theorem dX5_edge_50 : decode cX5_edge 50 = .ok (.aload_n 0, 1) := dk_42 (dk_at dksX5_edge_2 5 rfl rfl)
theorem dX5_edge_51 : decode cX5_edge 51 = .ok (.getfield 108, 3) := dk_180 0 108 (dk_at dksX5_edge_2 6 rfl rfl)
theorem dX5_edge_54 : decode cX5_edge 54 = .ok (.istore 5, 2) := dk_54 5 (dk_at dksX5_edge_2 9 rfl rfl)
theorem dX5_edge_56 : decode cX5_edge 56 = .ok (.bipush (-2), 2) := dk_16 254 (dk_at dksX5_edge_2 11 rfl rfl)
theorem dX5_edge_58 : decode cX5_edge 58 = .ok (.istore 6, 2) := dk_54 6 (dk_at dksX5_edge_2 13 rfl rfl)
theorem dX5_edge_60 : decode cX5_edge 60 = .ok (.iconst 1, 1) := dk_4 (dk_at dksX5_edge_2 15 rfl rfl)
theorem dX5_edge_61 : decode cX5_edge 61 = .ok (.istore 7, 2) := dk_54 7 (dk_at dksX5_edge_2 16 rfl rfl)
theorem dX5_edge_63 : decode cX5_edge 63 = .ok (.bipush 20, 2) := dk_16 20 (dk_at dksX5_edge_2 18 rfl rfl)
theorem dX5_edge_65 : decode cX5_edge 65 = .ok (.istore 8, 2) := dk_54 8 (dk_at dksX5_edge_2 20 rfl rfl)
theorem dX5_edge_67 : decode cX5_edge 67 = .ok (.iload 8, 2) := dk_21 8 (dk_at dksX5_edge_2 22 rfl rfl)
theorem dX5_edge_69 : decode cX5_edge 69 = .ok (.ifCond .lt 53, 3) := dk_155 0 53 (dk_at dksX5_edge_3 0 rfl rfl)
theorem dX5_edge_72 : decode cX5_edge 72 = .ok (.iload 7, 2) := dk_21 7 (dk_at dksX5_edge_3 3 rfl rfl)
theorem dX5_edge_74 : decode cX5_edge 74 = .ok (.ifCond .eq 48, 3) := dk_153 0 48 (dk_at dksX5_edge_3 5 rfl rfl)
theorem dX5_edge_77 : decode cX5_edge 77 = .ok (.aload_n 0, 1) := dk_42 (dk_at dksX5_edge_3 8 rfl rfl)
theorem dX5_edge_78 : decode cX5_edge 78 = .ok (.iload 8, 2) := dk_21 8 (dk_at dksX5_edge_3 9 rfl rfl)
theorem dX5_edge_80 : decode cX5_edge 80 = .ok (.putfield 108, 3) := dk_181 0 108 (dk_at dksX5_edge_3 11 rfl rfl)
theorem dX5_edge_83 : decode cX5_edge 83 = .ok (.aload_n 0, 1) := dk_42 (dk_at dksX5_edge_3 14 rfl rfl)
theorem dX5_edge_84 : decode cX5_edge 84 = .ok (.iload_n 1, 1) := dk_27 (dk_at dksX5_edge_3 15 rfl rfl)
theorem dX5_edge_85 : decode cX5_edge 85 = .ok (.iload_n 2, 1) := dk_28 (dk_at dksX5_edge_3 16 rfl rfl)
theorem dX5_edge_86 : decode cX5_edge 86 = .ok (.iload_n 3, 1) := dk_29 (dk_at dksX5_edge_3 17 rfl rfl)
theorem dX5_edge_87 : decode cX5_edge 87 = .ok (.invokevirtual 367, 3) := dk_182 1 111 (dk_at dksX5_edge_3 18 rfl rfl)
theorem dX5_edge_90 : decode cX5_edge 90 = .ok (.iload 4, 2) := dk_21 4 (dk_at dksX5_edge_3 21 rfl rfl)
theorem dX5_edge_92 : decode cX5_edge 92 = .ok (.if_icmp .lt 7, 3) := dk_161 0 7 (dk_at dksX5_edge_4 0 rfl rfl)
theorem dX5_edge_95 : decode cX5_edge 95 = .ok (.iconst 1, 1) := dk_4 (dk_at dksX5_edge_4 3 rfl rfl)
theorem dX5_edge_96 : decode cX5_edge 96 = .ok (.goto 4, 3) := dk_167 0 4 (dk_at dksX5_edge_4 4 rfl rfl)
theorem dX5_edge_99 : decode cX5_edge 99 = .ok (.iconst 0, 1) := dk_3 (dk_at dksX5_edge_4 7 rfl rfl)
theorem dX5_edge_100 : decode cX5_edge 100 = .ok (.istore 7, 2) := dk_54 7 (dk_at dksX5_edge_4 8 rfl rfl)
theorem dX5_edge_102 : decode cX5_edge 102 = .ok (.iload 7, 2) := dk_21 7 (dk_at dksX5_edge_4 10 rfl rfl)
theorem dX5_edge_104 : decode cX5_edge 104 = .ok (.ifCond .eq 8, 3) := dk_153 0 8 (dk_at dksX5_edge_4 12 rfl rfl)
theorem dX5_edge_107 : decode cX5_edge 107 = .ok (.iload 8, 2) := dk_21 8 (dk_at dksX5_edge_4 15 rfl rfl)
theorem dX5_edge_109 : decode cX5_edge 109 = .ok (.goto 5, 3) := dk_167 0 5 (dk_at dksX5_edge_4 17 rfl rfl)
theorem dX5_edge_112 : decode cX5_edge 112 = .ok (.iload 6, 2) := dk_21 6 (dk_at dksX5_edge_4 20 rfl rfl)
theorem dX5_edge_114 : decode cX5_edge 114 = .ok (.istore 6, 2) := dk_54 6 (dk_at dksX5_edge_4 22 rfl rfl)
theorem dX5_edge_116 : decode cX5_edge 116 = .ok (.iinc 8 (-1), 3) := dk_132 8 255 (dk_at dksX5_edge_5 0 rfl rfl)
theorem dX5_edge_119 : decode cX5_edge 119 = .ok (.goto (-52), 3) := dk_167 255 204 (dk_at dksX5_edge_5 3 rfl rfl)
theorem dX5_edge_122 : decode cX5_edge 122 = .ok (.aload_n 0, 1) := dk_42 (dk_at dksX5_edge_5 6 rfl rfl)
theorem dX5_edge_123 : decode cX5_edge 123 = .ok (.iload 5, 2) := dk_21 5 (dk_at dksX5_edge_5 7 rfl rfl)
theorem dX5_edge_125 : decode cX5_edge 125 = .ok (.putfield 108, 3) := dk_181 0 108 (dk_at dksX5_edge_5 9 rfl rfl)
theorem dX5_edge_128 : decode cX5_edge 128 = .ok (.aload_n 0, 1) := dk_42 (dk_at dksX5_edge_5 12 rfl rfl)
theorem dX5_edge_129 : decode cX5_edge 129 = .ok (.iconst 0, 1) := dk_3 (dk_at dksX5_edge_5 13 rfl rfl)
theorem dX5_edge_130 : decode cX5_edge 130 = .ok (.putfield 11, 3) := dk_181 0 11 (dk_at dksX5_edge_5 14 rfl rfl)
theorem dX5_edge_133 : decode cX5_edge 133 = .ok (.aload_n 0, 1) := dk_42 (dk_at dksX5_edge_5 17 rfl rfl)
theorem dX5_edge_134 : decode cX5_edge 134 = .ok (.iload 4, 2) := dk_21 4 (dk_at dksX5_edge_5 18 rfl rfl)
theorem dX5_edge_136 : decode cX5_edge 136 = .ok (.i2l, 1) := dk_133 (dk_at dksX5_edge_5 20 rfl rfl)
theorem dX5_edge_137 : decode cX5_edge 137 = .ok (.invokevirtual 18, 3) := dk_182 0 18 (dk_at dksX5_edge_5 21 rfl rfl)
theorem dX5_edge_140 : decode cX5_edge 140 = .ok (.iload 6, 2) := dk_21 6 (dk_at dksX5_edge_6 0 rfl rfl)
theorem dX5_edge_142 : decode cX5_edge 142 = .ok (.ireturn, 1) := dk_172 (dk_at dksX5_edge_6 2 rfl rfl)
def dkwX5_lie_4 : List UInt8 := [181, 0, 11, 42, 21, 4, 133, 182, 0, 18, 42, 21, 5, 133, 182, 0, 18, 29, 172]
abbrev dktX5_lie_4 : List UInt8 := dkwX5_lie_4 ++ []
def dkwX5_lie_3 : List UInt8 := [21, 7, 54, 4, 42, 180, 1, 149, 54, 5, 132, 6, 1, 167, 255, 205, 29, 155, 0, 22, 42, 3]
abbrev dktX5_lie_3 : List UInt8 := dkwX5_lie_3 ++ dktX5_lie_4
def dkwX5_lie_2 : List UInt8 := [182, 1, 152, 54, 7, 21, 7, 155, 0, 27, 29, 155, 0, 10, 21, 7, 21, 4, 162, 0, 16, 21, 6, 62]
abbrev dktX5_lie_2 : List UInt8 := dkwX5_lie_2 ++ dktX5_lie_3
def dkwX5_lie_1 : List UInt8 := [62, 3, 54, 4, 3, 54, 5, 3, 54, 6, 21, 6, 42, 180, 0, 22, 162, 0, 48, 42, 27, 21, 6, 28]
abbrev dktX5_lie_1 : List UInt8 := dkwX5_lie_1 ++ dktX5_lie_2
def dkwX5_lie_0 : List UInt8 := [42, 3, 181, 0, 3, 42, 27, 182, 1, 0, 153, 0, 10, 28, 184, 0, 81, 154, 0, 5, 2, 172, 16, 254]
abbrev dktX5_lie_0 : List UInt8 := dkwX5_lie_0 ++ dktX5_lie_1
theorem dksX5_lie_0 : cX5_lie.data.toList.drop 0 = dktX5_lie_0 := by decide +kernel
theorem dksX5_lie_1 : cX5_lie.data.toList.drop 24 = dktX5_lie_1 := dk_seg dksX5_lie_0 24 rfl rfl
theorem dksX5_lie_2 : cX5_lie.data.toList.drop 48 = dktX5_lie_2 := dk_seg dksX5_lie_1 24 rfl rfl
theorem dksX5_lie_3 : cX5_lie.data.toList.drop 72 = dktX5_lie_3 := dk_seg dksX5_lie_2 24 rfl rfl
theorem dksX5_lie_4 : cX5_lie.data.toList.drop 94 = dktX5_lie_4 := dk_seg dksX5_lie_3 22 rfl rfl
theorem dX5_lie_0 : decode cX5_lie 0 = .ok (.aload_n 0, 1) := dk_42 (dk_at dksX5_lie_0 0 rfl rfl)
theorem dX5_lie_1 : decode cX5_lie 1 = .ok (.iconst 0, 1) := dk_3 (dk_at dksX5_lie_0 1 rfl rfl)
theorem dX5_lie_2 : decode cX5_lie 2 = .ok (.putfield 3, 3) := dk_181 0 3 (dk_at dksX5_lie_0 2 rfl rfl)
theorem dX5_lie_5 : decode cX5_lie 5 = .ok (.aload_n 0, 1) := dk_42 (dk_at dksX5_lie_0 5 rfl rfl)
theorem dX5_lie_6 : decode cX5_lie 6 = .ok (.iload_n 1, 1) := dk_27 (dk_at dksX5_lie_0 6 rfl rfl)
theorem dX5_lie_7 : decode cX5_lie 7 = .ok (.invokevirtual 256, 3) := dk_182 1 0 (dk_at dksX5_lie_0 7 rfl rfl)
theorem dX5_lie_10 : decode cX5_lie 10 = .ok (.ifCond .eq 10, 3) := dk_153 0 10 (dk_at dksX5_lie_0 10 rfl rfl)
theorem dX5_lie_13 : decode cX5_lie 13 = .ok (.iload_n 2, 1) := dk_28 (dk_at dksX5_lie_0 13 rfl rfl)
theorem dX5_lie_14 : decode cX5_lie 14 = .ok (.invokestatic 81, 3) := dk_184 0 81 (dk_at dksX5_lie_0 14 rfl rfl)
theorem dX5_lie_17 : decode cX5_lie 17 = .ok (.ifCond .ne 5, 3) := dk_154 0 5 (dk_at dksX5_lie_0 17 rfl rfl)
theorem dX5_lie_20 : decode cX5_lie 20 = .ok (.iconst (-1), 1) := dk_2 (dk_at dksX5_lie_0 20 rfl rfl)
theorem dX5_lie_21 : decode cX5_lie 21 = .ok (.ireturn, 1) := dk_172 (dk_at dksX5_lie_0 21 rfl rfl)
theorem dX5_lie_22 : decode cX5_lie 22 = .ok (.bipush (-2), 2) := dk_16 254 (dk_at dksX5_lie_0 22 rfl rfl)
theorem dX5_lie_24 : decode cX5_lie 24 = .ok (.istore_n 3, 1) := dk_62 (dk_at dksX5_lie_1 0 rfl rfl)
theorem dX5_lie_25 : decode cX5_lie 25 = .ok (.iconst 0, 1) := dk_3 (dk_at dksX5_lie_1 1 rfl rfl)
theorem dX5_lie_26 : decode cX5_lie 26 = .ok (.istore 4, 2) := dk_54 4 (dk_at dksX5_lie_1 2 rfl rfl)
theorem dX5_lie_28 : decode cX5_lie 28 = .ok (.iconst 0, 1) := dk_3 (dk_at dksX5_lie_1 4 rfl rfl)
theorem dX5_lie_29 : decode cX5_lie 29 = .ok (.istore 5, 2) := dk_54 5 (dk_at dksX5_lie_1 5 rfl rfl)
theorem dX5_lie_31 : decode cX5_lie 31 = .ok (.iconst 0, 1) := dk_3 (dk_at dksX5_lie_1 7 rfl rfl)
theorem dX5_lie_32 : decode cX5_lie 32 = .ok (.istore 6, 2) := dk_54 6 (dk_at dksX5_lie_1 8 rfl rfl)
theorem dX5_lie_34 : decode cX5_lie 34 = .ok (.iload 6, 2) := dk_21 6 (dk_at dksX5_lie_1 10 rfl rfl)
theorem dX5_lie_36 : decode cX5_lie 36 = .ok (.aload_n 0, 1) := dk_42 (dk_at dksX5_lie_1 12 rfl rfl)
theorem dX5_lie_37 : decode cX5_lie 37 = .ok (.getfield 22, 3) := dk_180 0 22 (dk_at dksX5_lie_1 13 rfl rfl)
theorem dX5_lie_40 : decode cX5_lie 40 = .ok (.if_icmp .ge 48, 3) := dk_162 0 48 (dk_at dksX5_lie_1 16 rfl rfl)
theorem dX5_lie_43 : decode cX5_lie 43 = .ok (.aload_n 0, 1) := dk_42 (dk_at dksX5_lie_1 19 rfl rfl)
theorem dX5_lie_44 : decode cX5_lie 44 = .ok (.iload_n 1, 1) := dk_27 (dk_at dksX5_lie_1 20 rfl rfl)
theorem dX5_lie_45 : decode cX5_lie 45 = .ok (.iload 6, 2) := dk_21 6 (dk_at dksX5_lie_1 21 rfl rfl)
theorem dX5_lie_47 : decode cX5_lie 47 = .ok (.iload_n 2, 1) := dk_28 (dk_at dksX5_lie_1 23 rfl rfl)
theorem dX5_lie_48 : decode cX5_lie 48 = .ok (.invokevirtual 408, 3) := dk_182 1 152 (dk_at dksX5_lie_2 0 rfl rfl)
theorem dX5_lie_51 : decode cX5_lie 51 = .ok (.istore 7, 2) := dk_54 7 (dk_at dksX5_lie_2 3 rfl rfl)
theorem dX5_lie_53 : decode cX5_lie 53 = .ok (.iload 7, 2) := dk_21 7 (dk_at dksX5_lie_2 5 rfl rfl)
theorem dX5_lie_55 : decode cX5_lie 55 = .ok (.ifCond .lt 27, 3) := dk_155 0 27 (dk_at dksX5_lie_2 7 rfl rfl)
theorem dX5_lie_58 : decode cX5_lie 58 = .ok (.iload_n 3, 1) := dk_29 (dk_at dksX5_lie_2 10 rfl rfl)
theorem dX5_lie_59 : decode cX5_lie 59 = .ok (.ifCond .lt 10, 3) := dk_155 0 10 (dk_at dksX5_lie_2 11 rfl rfl)
theorem dX5_lie_62 : decode cX5_lie 62 = .ok (.iload 7, 2) := dk_21 7 (dk_at dksX5_lie_2 14 rfl rfl)
theorem dX5_lie_64 : decode cX5_lie 64 = .ok (.iload 4, 2) := dk_21 4 (dk_at dksX5_lie_2 16 rfl rfl)
theorem dX5_lie_66 : decode cX5_lie 66 = .ok (.if_icmp .ge 16, 3) := dk_162 0 16 (dk_at dksX5_lie_2 18 rfl rfl)
theorem dX5_lie_69 : decode cX5_lie 69 = .ok (.iload 6, 2) := dk_21 6 (dk_at dksX5_lie_2 21 rfl rfl)
theorem dX5_lie_71 : decode cX5_lie 71 = .ok (.istore_n 3, 1) := dk_62 (dk_at dksX5_lie_2 23 rfl rfl)
theorem dX5_lie_72 : decode cX5_lie 72 = .ok (.iload 7, 2) := dk_21 7 (dk_at dksX5_lie_3 0 rfl rfl)
theorem dX5_lie_74 : decode cX5_lie 74 = .ok (.istore 4, 2) := dk_54 4 (dk_at dksX5_lie_3 2 rfl rfl)
theorem dX5_lie_76 : decode cX5_lie 76 = .ok (.aload_n 0, 1) := dk_42 (dk_at dksX5_lie_3 4 rfl rfl)
theorem dX5_lie_77 : decode cX5_lie 77 = .ok (.getfield 405, 3) := dk_180 1 149 (dk_at dksX5_lie_3 5 rfl rfl)
theorem dX5_lie_80 : decode cX5_lie 80 = .ok (.istore 5, 2) := dk_54 5 (dk_at dksX5_lie_3 8 rfl rfl)
theorem dX5_lie_82 : decode cX5_lie 82 = .ok (.iinc 6 1, 3) := dk_132 6 1 (dk_at dksX5_lie_3 10 rfl rfl)
theorem dX5_lie_85 : decode cX5_lie 85 = .ok (.goto (-51), 3) := dk_167 255 205 (dk_at dksX5_lie_3 13 rfl rfl)
theorem dX5_lie_88 : decode cX5_lie 88 = .ok (.iload_n 3, 1) := dk_29 (dk_at dksX5_lie_3 16 rfl rfl)
theorem dX5_lie_89 : decode cX5_lie 89 = .ok (.ifCond .lt 22, 3) := dk_155 0 22 (dk_at dksX5_lie_3 17 rfl rfl)
theorem dX5_lie_92 : decode cX5_lie 92 = .ok (.aload_n 0, 1) := dk_42 (dk_at dksX5_lie_3 20 rfl rfl)
theorem dX5_lie_93 : decode cX5_lie 93 = .ok (.iconst 0, 1) := dk_3 (dk_at dksX5_lie_3 21 rfl rfl)
theorem dX5_lie_94 : decode cX5_lie 94 = .ok (.putfield 11, 3) := dk_181 0 11 (dk_at dksX5_lie_4 0 rfl rfl)
theorem dX5_lie_97 : decode cX5_lie 97 = .ok (.aload_n 0, 1) := dk_42 (dk_at dksX5_lie_4 3 rfl rfl)
theorem dX5_lie_98 : decode cX5_lie 98 = .ok (.iload 4, 2) := dk_21 4 (dk_at dksX5_lie_4 4 rfl rfl)
theorem dX5_lie_100 : decode cX5_lie 100 = .ok (.i2l, 1) := dk_133 (dk_at dksX5_lie_4 6 rfl rfl)
theorem dX5_lie_101 : decode cX5_lie 101 = .ok (.invokevirtual 18, 3) := dk_182 0 18 (dk_at dksX5_lie_4 7 rfl rfl)
theorem dX5_lie_104 : decode cX5_lie 104 = .ok (.aload_n 0, 1) := dk_42 (dk_at dksX5_lie_4 10 rfl rfl)
theorem dX5_lie_105 : decode cX5_lie 105 = .ok (.iload 5, 2) := dk_21 5 (dk_at dksX5_lie_4 11 rfl rfl)
theorem dX5_lie_107 : decode cX5_lie 107 = .ok (.i2l, 1) := dk_133 (dk_at dksX5_lie_4 13 rfl rfl)
theorem dX5_lie_108 : decode cX5_lie 108 = .ok (.invokevirtual 18, 3) := dk_182 0 18 (dk_at dksX5_lie_4 14 rfl rfl)
theorem dX5_lie_111 : decode cX5_lie 111 = .ok (.iload_n 3, 1) := dk_29 (dk_at dksX5_lie_4 17 rfl rfl)
theorem dX5_lie_112 : decode cX5_lie 112 = .ok (.ireturn, 1) := dk_172 (dk_at dksX5_lie_4 18 rfl rfl)
def dkwX5_lies_6 : List UInt8 := [160, 0, 9, 4, 54, 6, 3, 54, 5, 132, 7, 1, 167, 255, 125, 2, 172]
abbrev dktX5_lies_6 : List UInt8 := dkwX5_lies_6 ++ []
def dkwX5_lies_5 : List UInt8 := [21, 7, 4, 96, 172, 42, 180, 0, 163, 27, 46, 155, 0, 20, 21, 5, 42, 180, 0, 157, 27, 46]
abbrev dktX5_lies_5 : List UInt8 := dkwX5_lies_5 ++ dktX5_lies_6
def dkwX5_lies_4 : List UInt8 := [46, 42, 180, 0, 154, 27, 46, 184, 0, 137, 153, 0, 45, 132, 4, 255, 132, 5, 1, 21, 4, 154, 0, 8]
abbrev dktX5_lies_4 : List UInt8 := dkwX5_lies_4 ++ dktX5_lies_5
def dkwX5_lies_3 : List UInt8 := [167, 0, 4, 3, 54, 6, 167, 0, 73, 42, 28, 21, 7, 182, 0, 120, 153, 0, 63, 42, 180, 0, 47, 28]
abbrev dktX5_lies_3 : List UInt8 := dkwX5_lies_3 ++ dktX5_lies_4
def dkwX5_lies_2 : List UInt8 := [21, 7, 182, 0, 120, 153, 0, 18, 42, 42, 180, 0, 163, 27, 46, 21, 7, 182, 0, 120, 154, 0, 7, 4]
abbrev dktX5_lies_2 : List UInt8 := dkwX5_lies_2 ++ dktX5_lies_3
def dkwX5_lies_1 : List UInt8 := [17, 9, 95, 162, 0, 129, 21, 6, 153, 0, 48, 42, 89, 180, 1, 149, 4, 96, 181, 1, 149, 42, 28]
abbrev dktX5_lies_1 : List UInt8 := dkwX5_lies_1 ++ dktX5_lies_2
def dkwX5_lies_0 : List UInt8 := [42, 180, 0, 146, 27, 46, 54, 4, 3, 54, 5, 3, 54, 6, 42, 3, 181, 1, 149, 29, 54, 7, 21, 7]
abbrev dktX5_lies_0 : List UInt8 := dkwX5_lies_0 ++ dktX5_lies_1
theorem dksX5_lies_0 : cX5_lies.data.toList.drop 0 = dktX5_lies_0 := by decide +kernel
theorem dksX5_lies_1 : cX5_lies.data.toList.drop 24 = dktX5_lies_1 := dk_seg dksX5_lies_0 24 rfl rfl
theorem dksX5_lies_2 : cX5_lies.data.toList.drop 47 = dktX5_lies_2 := dk_seg dksX5_lies_1 23 rfl rfl
theorem dksX5_lies_3 : cX5_lies.data.toList.drop 71 = dktX5_lies_3 := dk_seg dksX5_lies_2 24 rfl rfl
theorem dksX5_lies_4 : cX5_lies.data.toList.drop 95 = dktX5_lies_4 := dk_seg dksX5_lies_3 24 rfl rfl
theorem dksX5_lies_5 : cX5_lies.data.toList.drop 119 = dktX5_lies_5 := dk_seg dksX5_lies_4 24 rfl rfl
theorem dksX5_lies_6 : cX5_lies.data.toList.drop 141 = dktX5_lies_6 := dk_seg dksX5_lies_5 22 rfl rfl
theorem dX5_lies_0 : decode cX5_lies 0 = .ok (.aload_n 0, 1) := dk_42 (dk_at dksX5_lies_0 0 rfl rfl)
theorem dX5_lies_1 : decode cX5_lies 1 = .ok (.getfield 146, 3) := dk_180 0 146 (dk_at dksX5_lies_0 1 rfl rfl)
theorem dX5_lies_4 : decode cX5_lies 4 = .ok (.iload_n 1, 1) := dk_27 (dk_at dksX5_lies_0 4 rfl rfl)
theorem dX5_lies_5 : decode cX5_lies 5 = .ok (.iaload, 1) := dk_46 (dk_at dksX5_lies_0 5 rfl rfl)
theorem dX5_lies_6 : decode cX5_lies 6 = .ok (.istore 4, 2) := dk_54 4 (dk_at dksX5_lies_0 6 rfl rfl)
theorem dX5_lies_8 : decode cX5_lies 8 = .ok (.iconst 0, 1) := dk_3 (dk_at dksX5_lies_0 8 rfl rfl)
theorem dX5_lies_9 : decode cX5_lies 9 = .ok (.istore 5, 2) := dk_54 5 (dk_at dksX5_lies_0 9 rfl rfl)
theorem dX5_lies_11 : decode cX5_lies 11 = .ok (.iconst 0, 1) := dk_3 (dk_at dksX5_lies_0 11 rfl rfl)
theorem dX5_lies_12 : decode cX5_lies 12 = .ok (.istore 6, 2) := dk_54 6 (dk_at dksX5_lies_0 12 rfl rfl)
theorem dX5_lies_14 : decode cX5_lies 14 = .ok (.aload_n 0, 1) := dk_42 (dk_at dksX5_lies_0 14 rfl rfl)
theorem dX5_lies_15 : decode cX5_lies 15 = .ok (.iconst 0, 1) := dk_3 (dk_at dksX5_lies_0 15 rfl rfl)
theorem dX5_lies_16 : decode cX5_lies 16 = .ok (.putfield 405, 3) := dk_181 1 149 (dk_at dksX5_lies_0 16 rfl rfl)
theorem dX5_lies_19 : decode cX5_lies 19 = .ok (.iload_n 3, 1) := dk_29 (dk_at dksX5_lies_0 19 rfl rfl)
theorem dX5_lies_20 : decode cX5_lies 20 = .ok (.istore 7, 2) := dk_54 7 (dk_at dksX5_lies_0 20 rfl rfl)
theorem dX5_lies_22 : decode cX5_lies 22 = .ok (.iload 7, 2) := dk_21 7 (dk_at dksX5_lies_0 22 rfl rfl)
theorem dX5_lies_24 : decode cX5_lies 24 = .ok (.sipush 2399, 3) := dk_17 9 95 (dk_at dksX5_lies_1 0 rfl rfl)
theorem dX5_lies_27 : decode cX5_lies 27 = .ok (.if_icmp .ge 129, 3) := dk_162 0 129 (dk_at dksX5_lies_1 3 rfl rfl)
theorem dX5_lies_30 : decode cX5_lies 30 = .ok (.iload 6, 2) := dk_21 6 (dk_at dksX5_lies_1 6 rfl rfl)
theorem dX5_lies_32 : decode cX5_lies 32 = .ok (.ifCond .eq 48, 3) := dk_153 0 48 (dk_at dksX5_lies_1 8 rfl rfl)
theorem dX5_lies_35 : decode cX5_lies 35 = .ok (.aload_n 0, 1) := dk_42 (dk_at dksX5_lies_1 11 rfl rfl)
theorem dX5_lies_36 : decode cX5_lies 36 = .ok (.dup, 1) := dk_89 (dk_at dksX5_lies_1 12 rfl rfl)
theorem dX5_lies_37 : decode cX5_lies 37 = .ok (.getfield 405, 3) := dk_180 1 149 (dk_at dksX5_lies_1 13 rfl rfl)
theorem dX5_lies_40 : decode cX5_lies 40 = .ok (.iconst 1, 1) := dk_4 (dk_at dksX5_lies_1 16 rfl rfl)
theorem dX5_lies_41 : decode cX5_lies 41 = .ok (.iadd, 1) := dk_96 (dk_at dksX5_lies_1 17 rfl rfl)
theorem dX5_lies_42 : decode cX5_lies 42 = .ok (.putfield 405, 3) := dk_181 1 149 (dk_at dksX5_lies_1 18 rfl rfl)
theorem dX5_lies_45 : decode cX5_lies 45 = .ok (.aload_n 0, 1) := dk_42 (dk_at dksX5_lies_1 21 rfl rfl)
theorem dX5_lies_46 : decode cX5_lies 46 = .ok (.iload_n 2, 1) := dk_28 (dk_at dksX5_lies_1 22 rfl rfl)
theorem dX5_lies_47 : decode cX5_lies 47 = .ok (.iload 7, 2) := dk_21 7 (dk_at dksX5_lies_2 0 rfl rfl)
theorem dX5_lies_49 : decode cX5_lies 49 = .ok (.invokevirtual 120, 3) := dk_182 0 120 (dk_at dksX5_lies_2 2 rfl rfl)
theorem dX5_lies_52 : decode cX5_lies 52 = .ok (.ifCond .eq 18, 3) := dk_153 0 18 (dk_at dksX5_lies_2 5 rfl rfl)
theorem dX5_lies_55 : decode cX5_lies 55 = .ok (.aload_n 0, 1) := dk_42 (dk_at dksX5_lies_2 8 rfl rfl)
theorem dX5_lies_56 : decode cX5_lies 56 = .ok (.aload_n 0, 1) := dk_42 (dk_at dksX5_lies_2 9 rfl rfl)
theorem dX5_lies_57 : decode cX5_lies 57 = .ok (.getfield 163, 3) := dk_180 0 163 (dk_at dksX5_lies_2 10 rfl rfl)
theorem dX5_lies_60 : decode cX5_lies 60 = .ok (.iload_n 1, 1) := dk_27 (dk_at dksX5_lies_2 13 rfl rfl)
theorem dX5_lies_61 : decode cX5_lies 61 = .ok (.iaload, 1) := dk_46 (dk_at dksX5_lies_2 14 rfl rfl)
theorem dX5_lies_62 : decode cX5_lies 62 = .ok (.iload 7, 2) := dk_21 7 (dk_at dksX5_lies_2 15 rfl rfl)
theorem dX5_lies_64 : decode cX5_lies 64 = .ok (.invokevirtual 120, 3) := dk_182 0 120 (dk_at dksX5_lies_2 17 rfl rfl)
theorem dX5_lies_67 : decode cX5_lies 67 = .ok (.ifCond .ne 7, 3) := dk_154 0 7 (dk_at dksX5_lies_2 20 rfl rfl)
theorem dX5_lies_70 : decode cX5_lies 70 = .ok (.iconst 1, 1) := dk_4 (dk_at dksX5_lies_2 23 rfl rfl)
theorem dX5_lies_71 : decode cX5_lies 71 = .ok (.goto 4, 3) := dk_167 0 4 (dk_at dksX5_lies_3 0 rfl rfl)
theorem dX5_lies_74 : decode cX5_lies 74 = .ok (.iconst 0, 1) := dk_3 (dk_at dksX5_lies_3 3 rfl rfl)
theorem dX5_lies_75 : decode cX5_lies 75 = .ok (.istore 6, 2) := dk_54 6 (dk_at dksX5_lies_3 4 rfl rfl)
theorem dX5_lies_77 : decode cX5_lies 77 = .ok (.goto 73, 3) := dk_167 0 73 (dk_at dksX5_lies_3 6 rfl rfl)
theorem dX5_lies_80 : decode cX5_lies 80 = .ok (.aload_n 0, 1) := dk_42 (dk_at dksX5_lies_3 9 rfl rfl)
theorem dX5_lies_81 : decode cX5_lies 81 = .ok (.iload_n 2, 1) := dk_28 (dk_at dksX5_lies_3 10 rfl rfl)
theorem dX5_lies_82 : decode cX5_lies 82 = .ok (.iload 7, 2) := dk_21 7 (dk_at dksX5_lies_3 11 rfl rfl)
theorem dX5_lies_84 : decode cX5_lies 84 = .ok (.invokevirtual 120, 3) := dk_182 0 120 (dk_at dksX5_lies_3 13 rfl rfl)
theorem dX5_lies_87 : decode cX5_lies 87 = .ok (.ifCond .eq 63, 3) := dk_153 0 63 (dk_at dksX5_lies_3 16 rfl rfl)
theorem dX5_lies_90 : decode cX5_lies 90 = .ok (.aload_n 0, 1) := dk_42 (dk_at dksX5_lies_3 19 rfl rfl)
theorem dX5_lies_91 : decode cX5_lies 91 = .ok (.getfield 47, 3) := dk_180 0 47 (dk_at dksX5_lies_3 20 rfl rfl)
theorem dX5_lies_94 : decode cX5_lies 94 = .ok (.iload_n 2, 1) := dk_28 (dk_at dksX5_lies_3 23 rfl rfl)
theorem dX5_lies_95 : decode cX5_lies 95 = .ok (.iaload, 1) := dk_46 (dk_at dksX5_lies_4 0 rfl rfl)
theorem dX5_lies_96 : decode cX5_lies 96 = .ok (.aload_n 0, 1) := dk_42 (dk_at dksX5_lies_4 1 rfl rfl)
theorem dX5_lies_97 : decode cX5_lies 97 = .ok (.getfield 154, 3) := dk_180 0 154 (dk_at dksX5_lies_4 2 rfl rfl)
theorem dX5_lies_100 : decode cX5_lies 100 = .ok (.iload_n 1, 1) := dk_27 (dk_at dksX5_lies_4 5 rfl rfl)
theorem dX5_lies_101 : decode cX5_lies 101 = .ok (.iaload, 1) := dk_46 (dk_at dksX5_lies_4 6 rfl rfl)
theorem dX5_lies_102 : decode cX5_lies 102 = .ok (.invokestatic 137, 3) := dk_184 0 137 (dk_at dksX5_lies_4 7 rfl rfl)
theorem dX5_lies_105 : decode cX5_lies 105 = .ok (.ifCond .eq 45, 3) := dk_153 0 45 (dk_at dksX5_lies_4 10 rfl rfl)
theorem dX5_lies_108 : decode cX5_lies 108 = .ok (.iinc 4 (-1), 3) := dk_132 4 255 (dk_at dksX5_lies_4 13 rfl rfl)
theorem dX5_lies_111 : decode cX5_lies 111 = .ok (.iinc 5 1, 3) := dk_132 5 1 (dk_at dksX5_lies_4 16 rfl rfl)
theorem dX5_lies_114 : decode cX5_lies 114 = .ok (.iload 4, 2) := dk_21 4 (dk_at dksX5_lies_4 19 rfl rfl)
theorem dX5_lies_116 : decode cX5_lies 116 = .ok (.ifCond .ne 8, 3) := dk_154 0 8 (dk_at dksX5_lies_4 21 rfl rfl)
theorem dX5_lies_119 : decode cX5_lies 119 = .ok (.iload 7, 2) := dk_21 7 (dk_at dksX5_lies_5 0 rfl rfl)
theorem dX5_lies_121 : decode cX5_lies 121 = .ok (.iconst 1, 1) := dk_4 (dk_at dksX5_lies_5 2 rfl rfl)
theorem dX5_lies_122 : decode cX5_lies 122 = .ok (.iadd, 1) := dk_96 (dk_at dksX5_lies_5 3 rfl rfl)
theorem dX5_lies_123 : decode cX5_lies 123 = .ok (.ireturn, 1) := dk_172 (dk_at dksX5_lies_5 4 rfl rfl)
theorem dX5_lies_124 : decode cX5_lies 124 = .ok (.aload_n 0, 1) := dk_42 (dk_at dksX5_lies_5 5 rfl rfl)
theorem dX5_lies_125 : decode cX5_lies 125 = .ok (.getfield 163, 3) := dk_180 0 163 (dk_at dksX5_lies_5 6 rfl rfl)
theorem dX5_lies_128 : decode cX5_lies 128 = .ok (.iload_n 1, 1) := dk_27 (dk_at dksX5_lies_5 9 rfl rfl)
theorem dX5_lies_129 : decode cX5_lies 129 = .ok (.iaload, 1) := dk_46 (dk_at dksX5_lies_5 10 rfl rfl)
theorem dX5_lies_130 : decode cX5_lies 130 = .ok (.ifCond .lt 20, 3) := dk_155 0 20 (dk_at dksX5_lies_5 11 rfl rfl)
theorem dX5_lies_133 : decode cX5_lies 133 = .ok (.iload 5, 2) := dk_21 5 (dk_at dksX5_lies_5 14 rfl rfl)
theorem dX5_lies_135 : decode cX5_lies 135 = .ok (.aload_n 0, 1) := dk_42 (dk_at dksX5_lies_5 16 rfl rfl)
theorem dX5_lies_136 : decode cX5_lies 136 = .ok (.getfield 157, 3) := dk_180 0 157 (dk_at dksX5_lies_5 17 rfl rfl)
theorem dX5_lies_139 : decode cX5_lies 139 = .ok (.iload_n 1, 1) := dk_27 (dk_at dksX5_lies_5 20 rfl rfl)
theorem dX5_lies_140 : decode cX5_lies 140 = .ok (.iaload, 1) := dk_46 (dk_at dksX5_lies_5 21 rfl rfl)
theorem dX5_lies_141 : decode cX5_lies 141 = .ok (.if_icmp .ne 9, 3) := dk_160 0 9 (dk_at dksX5_lies_6 0 rfl rfl)
theorem dX5_lies_144 : decode cX5_lies 144 = .ok (.iconst 1, 1) := dk_4 (dk_at dksX5_lies_6 3 rfl rfl)
theorem dX5_lies_145 : decode cX5_lies 145 = .ok (.istore 6, 2) := dk_54 6 (dk_at dksX5_lies_6 4 rfl rfl)
theorem dX5_lies_147 : decode cX5_lies 147 = .ok (.iconst 0, 1) := dk_3 (dk_at dksX5_lies_6 6 rfl rfl)
theorem dX5_lies_148 : decode cX5_lies 148 = .ok (.istore 5, 2) := dk_54 5 (dk_at dksX5_lies_6 7 rfl rfl)
theorem dX5_lies_150 : decode cX5_lies 150 = .ok (.iinc 7 1, 3) := dk_132 7 1 (dk_at dksX5_lies_6 9 rfl rfl)
theorem dX5_lies_153 : decode cX5_lies 153 = .ok (.goto (-131), 3) := dk_167 255 125 (dk_at dksX5_lies_6 12 rfl rfl)
theorem dX5_lies_156 : decode cX5_lies 156 = .ok (.iconst (-1), 1) := dk_2 (dk_at dksX5_lies_6 15 rfl rfl)
theorem dX5_lies_157 : decode cX5_lies 157 = .ok (.ireturn, 1) := dk_172 (dk_at dksX5_lies_6 16 rfl rfl)
def dkwX5_homes_10 : List UInt8 := [133, 182, 0, 18, 132, 6, 1, 167, 255, 223, 21, 4, 172]
abbrev dktX5_homes_10 : List UInt8 := dkwX5_homes_10 ++ []
def dkwX5_homes_9 : List UInt8 := [42, 180, 0, 151, 162, 0, 30, 27, 21, 6, 184, 0, 137, 153, 0, 15, 42, 42, 180, 1, 169, 21, 6, 46]
abbrev dktX5_homes_9 : List UInt8 := dkwX5_homes_9 ++ dktX5_homes_10
def dkwX5_homes_8 : List UInt8 := [180, 0, 199, 3, 29, 79, 21, 4, 156, 0, 6, 16, 254, 172, 42, 3, 181, 0, 11, 3, 54, 6, 21, 6]
abbrev dktX5_homes_8 : List UInt8 := dkwX5_homes_8 ++ dktX5_homes_9
def dkwX5_homes_7 : List UInt8 := [79, 132, 7, 1, 167, 255, 230, 42, 27, 182, 1, 172, 54, 5, 167, 255, 184, 42, 182, 1, 175, 42]
abbrev dktX5_homes_7 : List UInt8 := dkwX5_homes_7 ++ dktX5_homes_8
def dkwX5_homes_6 : List UInt8 := [54, 7, 21, 7, 42, 180, 0, 151, 162, 0, 23, 42, 180, 1, 169, 21, 7, 42, 180, 0, 143, 21, 7, 46]
abbrev dktX5_homes_6 : List UInt8 := dkwX5_homes_6 ++ dktX5_homes_7
def dkwX5_homes_5 : List UInt8 := [54, 6, 21, 6, 155, 0, 51, 21, 4, 155, 0, 10, 21, 6, 21, 4, 162, 0, 39, 21, 6, 54, 4, 3]
abbrev dktX5_homes_5 : List UInt8 := dkwX5_homes_5 ++ dktX5_homes_6
def dkwX5_homes_4 : List UInt8 := [46, 79, 132, 4, 1, 167, 255, 217, 2, 54, 4, 4, 54, 5, 21, 5, 153, 0, 73, 42, 28, 182, 1, 166]
abbrev dktX5_homes_4 : List UInt8 := dkwX5_homes_4 ++ dktX5_homes_5
def dkwX5_homes_3 : List UInt8 := [180, 0, 143, 21, 4, 27, 21, 4, 184, 0, 137, 153, 0, 7, 3, 167, 0, 10, 42, 180, 0, 143, 21, 4]
abbrev dktX5_homes_3 : List UInt8 := dkwX5_homes_3 ++ dktX5_homes_4
def dkwX5_homes_2 : List UInt8 := [180, 0, 199, 3, 3, 79, 42, 182, 1, 163, 3, 54, 4, 21, 4, 42, 180, 0, 151, 162, 0, 36, 42]
abbrev dktX5_homes_2 : List UInt8 := dkwX5_homes_2 ++ dktX5_homes_3
def dkwX5_homes_1 : List UInt8 := [184, 1, 158, 7, 163, 0, 10, 28, 184, 0, 81, 154, 0, 5, 2, 172, 42, 180, 0, 199, 3, 46, 62, 42]
abbrev dktX5_homes_1 : List UInt8 := dkwX5_homes_1 ++ dktX5_homes_2
def dkwX5_homes_0 : List UInt8 := [42, 3, 181, 0, 3, 27, 133, 10, 4, 42, 180, 0, 151, 120, 4, 100, 133, 184, 0, 25, 153, 0, 18, 27]
abbrev dktX5_homes_0 : List UInt8 := dkwX5_homes_0 ++ dktX5_homes_1
theorem dksX5_homes_0 : cX5_homes.data.toList.drop 0 = dktX5_homes_0 := by decide +kernel
theorem dksX5_homes_1 : cX5_homes.data.toList.drop 24 = dktX5_homes_1 := dk_seg dksX5_homes_0 24 rfl rfl
theorem dksX5_homes_2 : cX5_homes.data.toList.drop 48 = dktX5_homes_2 := dk_seg dksX5_homes_1 24 rfl rfl
theorem dksX5_homes_3 : cX5_homes.data.toList.drop 71 = dktX5_homes_3 := dk_seg dksX5_homes_2 23 rfl rfl
theorem dksX5_homes_4 : cX5_homes.data.toList.drop 95 = dktX5_homes_4 := dk_seg dksX5_homes_3 24 rfl rfl
theorem dksX5_homes_5 : cX5_homes.data.toList.drop 119 = dktX5_homes_5 := dk_seg dksX5_homes_4 24 rfl rfl
theorem dksX5_homes_6 : cX5_homes.data.toList.drop 143 = dktX5_homes_6 := dk_seg dksX5_homes_5 24 rfl rfl
theorem dksX5_homes_7 : cX5_homes.data.toList.drop 167 = dktX5_homes_7 := dk_seg dksX5_homes_6 24 rfl rfl
theorem dksX5_homes_8 : cX5_homes.data.toList.drop 189 = dktX5_homes_8 := dk_seg dksX5_homes_7 22 rfl rfl
theorem dksX5_homes_9 : cX5_homes.data.toList.drop 213 = dktX5_homes_9 := dk_seg dksX5_homes_8 24 rfl rfl
theorem dksX5_homes_10 : cX5_homes.data.toList.drop 237 = dktX5_homes_10 := dk_seg dksX5_homes_9 24 rfl rfl
theorem dX5_homes_0 : decode cX5_homes 0 = .ok (.aload_n 0, 1) := dk_42 (dk_at dksX5_homes_0 0 rfl rfl)
theorem dX5_homes_1 : decode cX5_homes 1 = .ok (.iconst 0, 1) := dk_3 (dk_at dksX5_homes_0 1 rfl rfl)
theorem dX5_homes_2 : decode cX5_homes 2 = .ok (.putfield 3, 3) := dk_181 0 3 (dk_at dksX5_homes_0 2 rfl rfl)
theorem dX5_homes_5 : decode cX5_homes 5 = .ok (.iload_n 1, 1) := dk_27 (dk_at dksX5_homes_0 5 rfl rfl)
theorem dX5_homes_6 : decode cX5_homes 6 = .ok (.i2l, 1) := dk_133 (dk_at dksX5_homes_0 6 rfl rfl)
theorem dX5_homes_7 : decode cX5_homes 7 = .ok (.lconst 1, 1) := dk_10 (dk_at dksX5_homes_0 7 rfl rfl)
theorem dX5_homes_8 : decode cX5_homes 8 = .ok (.iconst 1, 1) := dk_4 (dk_at dksX5_homes_0 8 rfl rfl)
theorem dX5_homes_9 : decode cX5_homes 9 = .ok (.aload_n 0, 1) := dk_42 (dk_at dksX5_homes_0 9 rfl rfl)
theorem dX5_homes_10 : decode cX5_homes 10 = .ok (.getfield 151, 3) := dk_180 0 151 (dk_at dksX5_homes_0 10 rfl rfl)
theorem dX5_homes_13 : decode cX5_homes 13 = .ok (.ishl, 1) := dk_120 (dk_at dksX5_homes_0 13 rfl rfl)
theorem dX5_homes_14 : decode cX5_homes 14 = .ok (.iconst 1, 1) := dk_4 (dk_at dksX5_homes_0 14 rfl rfl)
theorem dX5_homes_15 : decode cX5_homes 15 = .ok (.isub, 1) := dk_100 (dk_at dksX5_homes_0 15 rfl rfl)
theorem dX5_homes_16 : decode cX5_homes 16 = .ok (.i2l, 1) := dk_133 (dk_at dksX5_homes_0 16 rfl rfl)
theorem dX5_homes_17 : decode cX5_homes 17 = .ok (.invokestatic 25, 3) := dk_184 0 25 (dk_at dksX5_homes_0 17 rfl rfl)
theorem dX5_homes_20 : decode cX5_homes 20 = .ok (.ifCond .eq 18, 3) := dk_153 0 18 (dk_at dksX5_homes_0 20 rfl rfl)
theorem dX5_homes_23 : decode cX5_homes 23 = .ok (.iload_n 1, 1) := dk_27 (dk_at dksX5_homes_0 23 rfl rfl)
theorem dX5_homes_24 : decode cX5_homes 24 = .ok (.invokestatic 414, 3) := dk_184 1 158 (dk_at dksX5_homes_1 0 rfl rfl)
theorem dX5_homes_27 : decode cX5_homes 27 = .ok (.iconst 4, 1) := dk_7 (dk_at dksX5_homes_1 3 rfl rfl)
theorem dX5_homes_28 : decode cX5_homes 28 = .ok (.if_icmp .gt 10, 3) := dk_163 0 10 (dk_at dksX5_homes_1 4 rfl rfl)
theorem dX5_homes_31 : decode cX5_homes 31 = .ok (.iload_n 2, 1) := dk_28 (dk_at dksX5_homes_1 7 rfl rfl)
theorem dX5_homes_32 : decode cX5_homes 32 = .ok (.invokestatic 81, 3) := dk_184 0 81 (dk_at dksX5_homes_1 8 rfl rfl)
theorem dX5_homes_35 : decode cX5_homes 35 = .ok (.ifCond .ne 5, 3) := dk_154 0 5 (dk_at dksX5_homes_1 11 rfl rfl)
theorem dX5_homes_38 : decode cX5_homes 38 = .ok (.iconst (-1), 1) := dk_2 (dk_at dksX5_homes_1 14 rfl rfl)
theorem dX5_homes_39 : decode cX5_homes 39 = .ok (.ireturn, 1) := dk_172 (dk_at dksX5_homes_1 15 rfl rfl)
theorem dX5_homes_40 : decode cX5_homes 40 = .ok (.aload_n 0, 1) := dk_42 (dk_at dksX5_homes_1 16 rfl rfl)
theorem dX5_homes_41 : decode cX5_homes 41 = .ok (.getfield 199, 3) := dk_180 0 199 (dk_at dksX5_homes_1 17 rfl rfl)
theorem dX5_homes_44 : decode cX5_homes 44 = .ok (.iconst 0, 1) := dk_3 (dk_at dksX5_homes_1 20 rfl rfl)
theorem dX5_homes_45 : decode cX5_homes 45 = .ok (.iaload, 1) := dk_46 (dk_at dksX5_homes_1 21 rfl rfl)
theorem dX5_homes_46 : decode cX5_homes 46 = .ok (.istore_n 3, 1) := dk_62 (dk_at dksX5_homes_1 22 rfl rfl)
theorem dX5_homes_47 : decode cX5_homes 47 = .ok (.aload_n 0, 1) := dk_42 (dk_at dksX5_homes_1 23 rfl rfl)
theorem dX5_homes_48 : decode cX5_homes 48 = .ok (.getfield 199, 3) := dk_180 0 199 (dk_at dksX5_homes_2 0 rfl rfl)
theorem dX5_homes_51 : decode cX5_homes 51 = .ok (.iconst 0, 1) := dk_3 (dk_at dksX5_homes_2 3 rfl rfl)
theorem dX5_homes_52 : decode cX5_homes 52 = .ok (.iconst 0, 1) := dk_3 (dk_at dksX5_homes_2 4 rfl rfl)
theorem dX5_homes_53 : decode cX5_homes 53 = .ok (.iastore, 1) := dk_79 (dk_at dksX5_homes_2 5 rfl rfl)
theorem dX5_homes_54 : decode cX5_homes 54 = .ok (.aload_n 0, 1) := dk_42 (dk_at dksX5_homes_2 6 rfl rfl)
theorem dX5_homes_55 : decode cX5_homes 55 = .ok (.invokevirtual 419, 3) := dk_182 1 163 (dk_at dksX5_homes_2 7 rfl rfl)
theorem dX5_homes_58 : decode cX5_homes 58 = .ok (.iconst 0, 1) := dk_3 (dk_at dksX5_homes_2 10 rfl rfl)
theorem dX5_homes_59 : decode cX5_homes 59 = .ok (.istore 4, 2) := dk_54 4 (dk_at dksX5_homes_2 11 rfl rfl)
theorem dX5_homes_61 : decode cX5_homes 61 = .ok (.iload 4, 2) := dk_21 4 (dk_at dksX5_homes_2 13 rfl rfl)
theorem dX5_homes_63 : decode cX5_homes 63 = .ok (.aload_n 0, 1) := dk_42 (dk_at dksX5_homes_2 15 rfl rfl)
theorem dX5_homes_64 : decode cX5_homes 64 = .ok (.getfield 151, 3) := dk_180 0 151 (dk_at dksX5_homes_2 16 rfl rfl)
theorem dX5_homes_67 : decode cX5_homes 67 = .ok (.if_icmp .ge 36, 3) := dk_162 0 36 (dk_at dksX5_homes_2 19 rfl rfl)
theorem dX5_homes_70 : decode cX5_homes 70 = .ok (.aload_n 0, 1) := dk_42 (dk_at dksX5_homes_2 22 rfl rfl)
theorem dX5_homes_71 : decode cX5_homes 71 = .ok (.getfield 143, 3) := dk_180 0 143 (dk_at dksX5_homes_3 0 rfl rfl)
theorem dX5_homes_74 : decode cX5_homes 74 = .ok (.iload 4, 2) := dk_21 4 (dk_at dksX5_homes_3 3 rfl rfl)
theorem dX5_homes_76 : decode cX5_homes 76 = .ok (.iload_n 1, 1) := dk_27 (dk_at dksX5_homes_3 5 rfl rfl)
theorem dX5_homes_77 : decode cX5_homes 77 = .ok (.iload 4, 2) := dk_21 4 (dk_at dksX5_homes_3 6 rfl rfl)
theorem dX5_homes_79 : decode cX5_homes 79 = .ok (.invokestatic 137, 3) := dk_184 0 137 (dk_at dksX5_homes_3 8 rfl rfl)
theorem dX5_homes_82 : decode cX5_homes 82 = .ok (.ifCond .eq 7, 3) := dk_153 0 7 (dk_at dksX5_homes_3 11 rfl rfl)
theorem dX5_homes_85 : decode cX5_homes 85 = .ok (.iconst 0, 1) := dk_3 (dk_at dksX5_homes_3 14 rfl rfl)
theorem dX5_homes_86 : decode cX5_homes 86 = .ok (.goto 10, 3) := dk_167 0 10 (dk_at dksX5_homes_3 15 rfl rfl)
theorem dX5_homes_89 : decode cX5_homes 89 = .ok (.aload_n 0, 1) := dk_42 (dk_at dksX5_homes_3 18 rfl rfl)
theorem dX5_homes_90 : decode cX5_homes 90 = .ok (.getfield 143, 3) := dk_180 0 143 (dk_at dksX5_homes_3 19 rfl rfl)
theorem dX5_homes_93 : decode cX5_homes 93 = .ok (.iload 4, 2) := dk_21 4 (dk_at dksX5_homes_3 22 rfl rfl)
theorem dX5_homes_95 : decode cX5_homes 95 = .ok (.iaload, 1) := dk_46 (dk_at dksX5_homes_4 0 rfl rfl)
theorem dX5_homes_96 : decode cX5_homes 96 = .ok (.iastore, 1) := dk_79 (dk_at dksX5_homes_4 1 rfl rfl)
theorem dX5_homes_97 : decode cX5_homes 97 = .ok (.iinc 4 1, 3) := dk_132 4 1 (dk_at dksX5_homes_4 2 rfl rfl)
theorem dX5_homes_100 : decode cX5_homes 100 = .ok (.goto (-39), 3) := dk_167 255 217 (dk_at dksX5_homes_4 5 rfl rfl)
theorem dX5_homes_103 : decode cX5_homes 103 = .ok (.iconst (-1), 1) := dk_2 (dk_at dksX5_homes_4 8 rfl rfl)
theorem dX5_homes_104 : decode cX5_homes 104 = .ok (.istore 4, 2) := dk_54 4 (dk_at dksX5_homes_4 9 rfl rfl)
theorem dX5_homes_106 : decode cX5_homes 106 = .ok (.iconst 1, 1) := dk_4 (dk_at dksX5_homes_4 11 rfl rfl)
theorem dX5_homes_107 : decode cX5_homes 107 = .ok (.istore 5, 2) := dk_54 5 (dk_at dksX5_homes_4 12 rfl rfl)
theorem dX5_homes_109 : decode cX5_homes 109 = .ok (.iload 5, 2) := dk_21 5 (dk_at dksX5_homes_4 14 rfl rfl)
theorem dX5_homes_111 : decode cX5_homes 111 = .ok (.ifCond .eq 73, 3) := dk_153 0 73 (dk_at dksX5_homes_4 16 rfl rfl)
theorem dX5_homes_114 : decode cX5_homes 114 = .ok (.aload_n 0, 1) := dk_42 (dk_at dksX5_homes_4 19 rfl rfl)
theorem dX5_homes_115 : decode cX5_homes 115 = .ok (.iload_n 2, 1) := dk_28 (dk_at dksX5_homes_4 20 rfl rfl)
theorem dX5_homes_116 : decode cX5_homes 116 = .ok (.invokevirtual 422, 3) := dk_182 1 166 (dk_at dksX5_homes_4 21 rfl rfl)
theorem dX5_homes_119 : decode cX5_homes 119 = .ok (.istore 6, 2) := dk_54 6 (dk_at dksX5_homes_5 0 rfl rfl)
theorem dX5_homes_121 : decode cX5_homes 121 = .ok (.iload 6, 2) := dk_21 6 (dk_at dksX5_homes_5 2 rfl rfl)
theorem dX5_homes_123 : decode cX5_homes 123 = .ok (.ifCond .lt 51, 3) := dk_155 0 51 (dk_at dksX5_homes_5 4 rfl rfl)
theorem dX5_homes_126 : decode cX5_homes 126 = .ok (.iload 4, 2) := dk_21 4 (dk_at dksX5_homes_5 7 rfl rfl)
theorem dX5_homes_128 : decode cX5_homes 128 = .ok (.ifCond .lt 10, 3) := dk_155 0 10 (dk_at dksX5_homes_5 9 rfl rfl)
theorem dX5_homes_131 : decode cX5_homes 131 = .ok (.iload 6, 2) := dk_21 6 (dk_at dksX5_homes_5 12 rfl rfl)
theorem dX5_homes_133 : decode cX5_homes 133 = .ok (.iload 4, 2) := dk_21 4 (dk_at dksX5_homes_5 14 rfl rfl)
theorem dX5_homes_135 : decode cX5_homes 135 = .ok (.if_icmp .ge 39, 3) := dk_162 0 39 (dk_at dksX5_homes_5 16 rfl rfl)
theorem dX5_homes_138 : decode cX5_homes 138 = .ok (.iload 6, 2) := dk_21 6 (dk_at dksX5_homes_5 19 rfl rfl)
theorem dX5_homes_140 : decode cX5_homes 140 = .ok (.istore 4, 2) := dk_54 4 (dk_at dksX5_homes_5 21 rfl rfl)
theorem dX5_homes_142 : decode cX5_homes 142 = .ok (.iconst 0, 1) := dk_3 (dk_at dksX5_homes_5 23 rfl rfl)
theorem dX5_homes_143 : decode cX5_homes 143 = .ok (.istore 7, 2) := dk_54 7 (dk_at dksX5_homes_6 0 rfl rfl)
theorem dX5_homes_145 : decode cX5_homes 145 = .ok (.iload 7, 2) := dk_21 7 (dk_at dksX5_homes_6 2 rfl rfl)
theorem dX5_homes_147 : decode cX5_homes 147 = .ok (.aload_n 0, 1) := dk_42 (dk_at dksX5_homes_6 4 rfl rfl)
theorem dX5_homes_148 : decode cX5_homes 148 = .ok (.getfield 151, 3) := dk_180 0 151 (dk_at dksX5_homes_6 5 rfl rfl)
theorem dX5_homes_151 : decode cX5_homes 151 = .ok (.if_icmp .ge 23, 3) := dk_162 0 23 (dk_at dksX5_homes_6 8 rfl rfl)
theorem dX5_homes_154 : decode cX5_homes 154 = .ok (.aload_n 0, 1) := dk_42 (dk_at dksX5_homes_6 11 rfl rfl)
theorem dX5_homes_155 : decode cX5_homes 155 = .ok (.getfield 425, 3) := dk_180 1 169 (dk_at dksX5_homes_6 12 rfl rfl)
theorem dX5_homes_158 : decode cX5_homes 158 = .ok (.iload 7, 2) := dk_21 7 (dk_at dksX5_homes_6 15 rfl rfl)
theorem dX5_homes_160 : decode cX5_homes 160 = .ok (.aload_n 0, 1) := dk_42 (dk_at dksX5_homes_6 17 rfl rfl)
theorem dX5_homes_161 : decode cX5_homes 161 = .ok (.getfield 143, 3) := dk_180 0 143 (dk_at dksX5_homes_6 18 rfl rfl)
theorem dX5_homes_164 : decode cX5_homes 164 = .ok (.iload 7, 2) := dk_21 7 (dk_at dksX5_homes_6 21 rfl rfl)
theorem dX5_homes_166 : decode cX5_homes 166 = .ok (.iaload, 1) := dk_46 (dk_at dksX5_homes_6 23 rfl rfl)
theorem dX5_homes_167 : decode cX5_homes 167 = .ok (.iastore, 1) := dk_79 (dk_at dksX5_homes_7 0 rfl rfl)
theorem dX5_homes_168 : decode cX5_homes 168 = .ok (.iinc 7 1, 3) := dk_132 7 1 (dk_at dksX5_homes_7 1 rfl rfl)
theorem dX5_homes_171 : decode cX5_homes 171 = .ok (.goto (-26), 3) := dk_167 255 230 (dk_at dksX5_homes_7 4 rfl rfl)
theorem dX5_homes_174 : decode cX5_homes 174 = .ok (.aload_n 0, 1) := dk_42 (dk_at dksX5_homes_7 7 rfl rfl)
theorem dX5_homes_175 : decode cX5_homes 175 = .ok (.iload_n 1, 1) := dk_27 (dk_at dksX5_homes_7 8 rfl rfl)
theorem dX5_homes_176 : decode cX5_homes 176 = .ok (.invokevirtual 428, 3) := dk_182 1 172 (dk_at dksX5_homes_7 9 rfl rfl)
theorem dX5_homes_179 : decode cX5_homes 179 = .ok (.istore 5, 2) := dk_54 5 (dk_at dksX5_homes_7 12 rfl rfl)
theorem dX5_homes_181 : decode cX5_homes 181 = .ok (.goto (-72), 3) := dk_167 255 184 (dk_at dksX5_homes_7 14 rfl rfl)
theorem dX5_homes_184 : decode cX5_homes 184 = .ok (.aload_n 0, 1) := dk_42 (dk_at dksX5_homes_7 17 rfl rfl)
theorem dX5_homes_185 : decode cX5_homes 185 = .ok (.invokevirtual 431, 3) := dk_182 1 175 (dk_at dksX5_homes_7 18 rfl rfl)
theorem dX5_homes_188 : decode cX5_homes 188 = .ok (.aload_n 0, 1) := dk_42 (dk_at dksX5_homes_7 21 rfl rfl)
theorem dX5_homes_189 : decode cX5_homes 189 = .ok (.getfield 199, 3) := dk_180 0 199 (dk_at dksX5_homes_8 0 rfl rfl)
theorem dX5_homes_192 : decode cX5_homes 192 = .ok (.iconst 0, 1) := dk_3 (dk_at dksX5_homes_8 3 rfl rfl)
theorem dX5_homes_193 : decode cX5_homes 193 = .ok (.iload_n 3, 1) := dk_29 (dk_at dksX5_homes_8 4 rfl rfl)
theorem dX5_homes_194 : decode cX5_homes 194 = .ok (.iastore, 1) := dk_79 (dk_at dksX5_homes_8 5 rfl rfl)
theorem dX5_homes_195 : decode cX5_homes 195 = .ok (.iload 4, 2) := dk_21 4 (dk_at dksX5_homes_8 6 rfl rfl)
theorem dX5_homes_197 : decode cX5_homes 197 = .ok (.ifCond .ge 6, 3) := dk_156 0 6 (dk_at dksX5_homes_8 8 rfl rfl)
theorem dX5_homes_200 : decode cX5_homes 200 = .ok (.bipush (-2), 2) := dk_16 254 (dk_at dksX5_homes_8 11 rfl rfl)
theorem dX5_homes_202 : decode cX5_homes 202 = .ok (.ireturn, 1) := dk_172 (dk_at dksX5_homes_8 13 rfl rfl)
theorem dX5_homes_203 : decode cX5_homes 203 = .ok (.aload_n 0, 1) := dk_42 (dk_at dksX5_homes_8 14 rfl rfl)
theorem dX5_homes_204 : decode cX5_homes 204 = .ok (.iconst 0, 1) := dk_3 (dk_at dksX5_homes_8 15 rfl rfl)
theorem dX5_homes_205 : decode cX5_homes 205 = .ok (.putfield 11, 3) := dk_181 0 11 (dk_at dksX5_homes_8 16 rfl rfl)
theorem dX5_homes_208 : decode cX5_homes 208 = .ok (.iconst 0, 1) := dk_3 (dk_at dksX5_homes_8 19 rfl rfl)
theorem dX5_homes_209 : decode cX5_homes 209 = .ok (.istore 6, 2) := dk_54 6 (dk_at dksX5_homes_8 20 rfl rfl)
theorem dX5_homes_211 : decode cX5_homes 211 = .ok (.iload 6, 2) := dk_21 6 (dk_at dksX5_homes_8 22 rfl rfl)
theorem dX5_homes_213 : decode cX5_homes 213 = .ok (.aload_n 0, 1) := dk_42 (dk_at dksX5_homes_9 0 rfl rfl)
theorem dX5_homes_214 : decode cX5_homes 214 = .ok (.getfield 151, 3) := dk_180 0 151 (dk_at dksX5_homes_9 1 rfl rfl)
theorem dX5_homes_217 : decode cX5_homes 217 = .ok (.if_icmp .ge 30, 3) := dk_162 0 30 (dk_at dksX5_homes_9 4 rfl rfl)
theorem dX5_homes_220 : decode cX5_homes 220 = .ok (.iload_n 1, 1) := dk_27 (dk_at dksX5_homes_9 7 rfl rfl)
theorem dX5_homes_221 : decode cX5_homes 221 = .ok (.iload 6, 2) := dk_21 6 (dk_at dksX5_homes_9 8 rfl rfl)
theorem dX5_homes_223 : decode cX5_homes 223 = .ok (.invokestatic 137, 3) := dk_184 0 137 (dk_at dksX5_homes_9 10 rfl rfl)
theorem dX5_homes_226 : decode cX5_homes 226 = .ok (.ifCond .eq 15, 3) := dk_153 0 15 (dk_at dksX5_homes_9 13 rfl rfl)
theorem dX5_homes_229 : decode cX5_homes 229 = .ok (.aload_n 0, 1) := dk_42 (dk_at dksX5_homes_9 16 rfl rfl)
theorem dX5_homes_230 : decode cX5_homes 230 = .ok (.aload_n 0, 1) := dk_42 (dk_at dksX5_homes_9 17 rfl rfl)
theorem dX5_homes_231 : decode cX5_homes 231 = .ok (.getfield 425, 3) := dk_180 1 169 (dk_at dksX5_homes_9 18 rfl rfl)
theorem dX5_homes_234 : decode cX5_homes 234 = .ok (.iload 6, 2) := dk_21 6 (dk_at dksX5_homes_9 21 rfl rfl)
theorem dX5_homes_236 : decode cX5_homes 236 = .ok (.iaload, 1) := dk_46 (dk_at dksX5_homes_9 23 rfl rfl)
theorem dX5_homes_237 : decode cX5_homes 237 = .ok (.i2l, 1) := dk_133 (dk_at dksX5_homes_10 0 rfl rfl)
theorem dX5_homes_238 : decode cX5_homes 238 = .ok (.invokevirtual 18, 3) := dk_182 0 18 (dk_at dksX5_homes_10 1 rfl rfl)
theorem dX5_homes_241 : decode cX5_homes 241 = .ok (.iinc 6 1, 3) := dk_132 6 1 (dk_at dksX5_homes_10 4 rfl rfl)
theorem dX5_homes_244 : decode cX5_homes 244 = .ok (.goto (-33), 3) := dk_167 255 223 (dk_at dksX5_homes_10 7 rfl rfl)
theorem dX5_homes_247 : decode cX5_homes 247 = .ok (.iload 4, 2) := dk_21 4 (dk_at dksX5_homes_10 10 rfl rfl)
theorem dX5_homes_249 : decode cX5_homes 249 = .ok (.ireturn, 1) := dk_172 (dk_at dksX5_homes_10 12 rfl rfl)
def dkwX5_keepsBorn_1 : List UInt8 := [167, 255, 235, 177]
abbrev dktX5_keepsBorn_1 : List UInt8 := dkwX5_keepsBorn_1 ++ []
def dkwX5_keepsBorn_0 : List UInt8 := [3, 60, 27, 16, 8, 162, 0, 21, 42, 180, 1, 155, 27, 42, 180, 0, 143, 27, 46, 79, 132, 1, 1]
abbrev dktX5_keepsBorn_0 : List UInt8 := dkwX5_keepsBorn_0 ++ dktX5_keepsBorn_1
theorem dksX5_keepsBorn_0 : cX5_keepsBorn.data.toList.drop 0 = dktX5_keepsBorn_0 := by decide +kernel
theorem dksX5_keepsBorn_1 : cX5_keepsBorn.data.toList.drop 23 = dktX5_keepsBorn_1 := dk_seg dksX5_keepsBorn_0 23 rfl rfl
theorem dX5_keepsBorn_0 : decode cX5_keepsBorn 0 = .ok (.iconst 0, 1) := dk_3 (dk_at dksX5_keepsBorn_0 0 rfl rfl)
theorem dX5_keepsBorn_1 : decode cX5_keepsBorn 1 = .ok (.istore_n 1, 1) := dk_60 (dk_at dksX5_keepsBorn_0 1 rfl rfl)
theorem dX5_keepsBorn_2 : decode cX5_keepsBorn 2 = .ok (.iload_n 1, 1) := dk_27 (dk_at dksX5_keepsBorn_0 2 rfl rfl)
theorem dX5_keepsBorn_3 : decode cX5_keepsBorn 3 = .ok (.bipush 8, 2) := dk_16 8 (dk_at dksX5_keepsBorn_0 3 rfl rfl)
theorem dX5_keepsBorn_5 : decode cX5_keepsBorn 5 = .ok (.if_icmp .ge 21, 3) := dk_162 0 21 (dk_at dksX5_keepsBorn_0 5 rfl rfl)
theorem dX5_keepsBorn_8 : decode cX5_keepsBorn 8 = .ok (.aload_n 0, 1) := dk_42 (dk_at dksX5_keepsBorn_0 8 rfl rfl)
theorem dX5_keepsBorn_9 : decode cX5_keepsBorn 9 = .ok (.getfield 411, 3) := dk_180 1 155 (dk_at dksX5_keepsBorn_0 9 rfl rfl)
theorem dX5_keepsBorn_12 : decode cX5_keepsBorn 12 = .ok (.iload_n 1, 1) := dk_27 (dk_at dksX5_keepsBorn_0 12 rfl rfl)
theorem dX5_keepsBorn_13 : decode cX5_keepsBorn 13 = .ok (.aload_n 0, 1) := dk_42 (dk_at dksX5_keepsBorn_0 13 rfl rfl)
theorem dX5_keepsBorn_14 : decode cX5_keepsBorn 14 = .ok (.getfield 143, 3) := dk_180 0 143 (dk_at dksX5_keepsBorn_0 14 rfl rfl)
theorem dX5_keepsBorn_17 : decode cX5_keepsBorn 17 = .ok (.iload_n 1, 1) := dk_27 (dk_at dksX5_keepsBorn_0 17 rfl rfl)
theorem dX5_keepsBorn_18 : decode cX5_keepsBorn 18 = .ok (.iaload, 1) := dk_46 (dk_at dksX5_keepsBorn_0 18 rfl rfl)
theorem dX5_keepsBorn_19 : decode cX5_keepsBorn 19 = .ok (.iastore, 1) := dk_79 (dk_at dksX5_keepsBorn_0 19 rfl rfl)
theorem dX5_keepsBorn_20 : decode cX5_keepsBorn 20 = .ok (.iinc 1 1, 3) := dk_132 1 1 (dk_at dksX5_keepsBorn_0 20 rfl rfl)
theorem dX5_keepsBorn_23 : decode cX5_keepsBorn 23 = .ok (.goto (-21), 3) := dk_167 255 235 (dk_at dksX5_keepsBorn_1 0 rfl rfl)
theorem dX5_keepsBorn_26 : decode cX5_keepsBorn 26 = .ok (.return_, 1) := dk_177 (dk_at dksX5_keepsBorn_1 3 rfl rfl)
def dkwX5_endsFrom_1 : List UInt8 := [182, 1, 76, 28, 172]
abbrev dktX5_endsFrom_1 : List UInt8 := dkwX5_endsFrom_1 ++ []
def dkwX5_endsFrom_0 : List UInt8 := [42, 42, 180, 1, 66, 182, 1, 69, 42, 27, 182, 1, 47, 42, 182, 1, 63, 61, 42, 42, 180, 1, 66]
abbrev dktX5_endsFrom_0 : List UInt8 := dkwX5_endsFrom_0 ++ dktX5_endsFrom_1
theorem dksX5_endsFrom_0 : cX5_endsFrom.data.toList.drop 0 = dktX5_endsFrom_0 := by decide +kernel
theorem dksX5_endsFrom_1 : cX5_endsFrom.data.toList.drop 23 = dktX5_endsFrom_1 := dk_seg dksX5_endsFrom_0 23 rfl rfl
theorem dX5_endsFrom_0 : decode cX5_endsFrom 0 = .ok (.aload_n 0, 1) := dk_42 (dk_at dksX5_endsFrom_0 0 rfl rfl)
theorem dX5_endsFrom_1 : decode cX5_endsFrom 1 = .ok (.aload_n 0, 1) := dk_42 (dk_at dksX5_endsFrom_0 1 rfl rfl)
theorem dX5_endsFrom_2 : decode cX5_endsFrom 2 = .ok (.getfield 322, 3) := dk_180 1 66 (dk_at dksX5_endsFrom_0 2 rfl rfl)
theorem dX5_endsFrom_5 : decode cX5_endsFrom 5 = .ok (.invokevirtual 325, 3) := dk_182 1 69 (dk_at dksX5_endsFrom_0 5 rfl rfl)
theorem dX5_endsFrom_8 : decode cX5_endsFrom 8 = .ok (.aload_n 0, 1) := dk_42 (dk_at dksX5_endsFrom_0 8 rfl rfl)
theorem dX5_endsFrom_9 : decode cX5_endsFrom 9 = .ok (.iload_n 1, 1) := dk_27 (dk_at dksX5_endsFrom_0 9 rfl rfl)
theorem dX5_endsFrom_10 : decode cX5_endsFrom 10 = .ok (.invokevirtual 303, 3) := dk_182 1 47 (dk_at dksX5_endsFrom_0 10 rfl rfl)
theorem dX5_endsFrom_13 : decode cX5_endsFrom 13 = .ok (.aload_n 0, 1) := dk_42 (dk_at dksX5_endsFrom_0 13 rfl rfl)
theorem dX5_endsFrom_14 : decode cX5_endsFrom 14 = .ok (.invokevirtual 319, 3) := dk_182 1 63 (dk_at dksX5_endsFrom_0 14 rfl rfl)
theorem dX5_endsFrom_17 : decode cX5_endsFrom 17 = .ok (.istore_n 2, 1) := dk_61 (dk_at dksX5_endsFrom_0 17 rfl rfl)
theorem dX5_endsFrom_18 : decode cX5_endsFrom 18 = .ok (.aload_n 0, 1) := dk_42 (dk_at dksX5_endsFrom_0 18 rfl rfl)
theorem dX5_endsFrom_19 : decode cX5_endsFrom 19 = .ok (.aload_n 0, 1) := dk_42 (dk_at dksX5_endsFrom_0 19 rfl rfl)
theorem dX5_endsFrom_20 : decode cX5_endsFrom 20 = .ok (.getfield 322, 3) := dk_180 1 66 (dk_at dksX5_endsFrom_0 20 rfl rfl)
theorem dX5_endsFrom_23 : decode cX5_endsFrom 23 = .ok (.invokevirtual 332, 3) := dk_182 1 76 (dk_at dksX5_endsFrom_1 0 rfl rfl)
theorem dX5_endsFrom_26 : decode cX5_endsFrom 26 = .ok (.iload_n 2, 1) := dk_28 (dk_at dksX5_endsFrom_1 3 rfl rfl)
theorem dX5_endsFrom_27 : decode cX5_endsFrom 27 = .ok (.ireturn, 1) := dk_172 (dk_at dksX5_endsFrom_1 4 rfl rfl)
def dkwX5_movesHomes_2 : List UInt8 := [42, 180, 0, 143, 28, 3, 79, 132, 2, 255, 167, 255, 206, 3, 172]
abbrev dktX5_movesHomes_2 : List UInt8 := dkwX5_movesHomes_2 ++ []
def dkwX5_movesHomes_1 : List UInt8 := [180, 0, 143, 28, 92, 46, 4, 96, 79, 42, 180, 0, 143, 28, 46, 42, 180, 0, 22, 162, 0, 5, 4, 172]
abbrev dktX5_movesHomes_1 : List UInt8 := dkwX5_movesHomes_1 ++ dktX5_movesHomes_2
def dkwX5_movesHomes_0 : List UInt8 := [42, 180, 0, 151, 4, 100, 61, 28, 155, 0, 52, 27, 28, 184, 0, 137, 154, 0, 6, 167, 0, 35, 42]
abbrev dktX5_movesHomes_0 : List UInt8 := dkwX5_movesHomes_0 ++ dktX5_movesHomes_1
theorem dksX5_movesHomes_0 : cX5_movesHomes.data.toList.drop 0 = dktX5_movesHomes_0 := by decide +kernel
theorem dksX5_movesHomes_1 : cX5_movesHomes.data.toList.drop 23 = dktX5_movesHomes_1 := dk_seg dksX5_movesHomes_0 23 rfl rfl
theorem dksX5_movesHomes_2 : cX5_movesHomes.data.toList.drop 47 = dktX5_movesHomes_2 := dk_seg dksX5_movesHomes_1 24 rfl rfl
theorem dX5_movesHomes_0 : decode cX5_movesHomes 0 = .ok (.aload_n 0, 1) := dk_42 (dk_at dksX5_movesHomes_0 0 rfl rfl)
theorem dX5_movesHomes_1 : decode cX5_movesHomes 1 = .ok (.getfield 151, 3) := dk_180 0 151 (dk_at dksX5_movesHomes_0 1 rfl rfl)
theorem dX5_movesHomes_4 : decode cX5_movesHomes 4 = .ok (.iconst 1, 1) := dk_4 (dk_at dksX5_movesHomes_0 4 rfl rfl)
theorem dX5_movesHomes_5 : decode cX5_movesHomes 5 = .ok (.isub, 1) := dk_100 (dk_at dksX5_movesHomes_0 5 rfl rfl)
theorem dX5_movesHomes_6 : decode cX5_movesHomes 6 = .ok (.istore_n 2, 1) := dk_61 (dk_at dksX5_movesHomes_0 6 rfl rfl)
theorem dX5_movesHomes_7 : decode cX5_movesHomes 7 = .ok (.iload_n 2, 1) := dk_28 (dk_at dksX5_movesHomes_0 7 rfl rfl)
theorem dX5_movesHomes_8 : decode cX5_movesHomes 8 = .ok (.ifCond .lt 52, 3) := dk_155 0 52 (dk_at dksX5_movesHomes_0 8 rfl rfl)
theorem dX5_movesHomes_11 : decode cX5_movesHomes 11 = .ok (.iload_n 1, 1) := dk_27 (dk_at dksX5_movesHomes_0 11 rfl rfl)
theorem dX5_movesHomes_12 : decode cX5_movesHomes 12 = .ok (.iload_n 2, 1) := dk_28 (dk_at dksX5_movesHomes_0 12 rfl rfl)
theorem dX5_movesHomes_13 : decode cX5_movesHomes 13 = .ok (.invokestatic 137, 3) := dk_184 0 137 (dk_at dksX5_movesHomes_0 13 rfl rfl)
theorem dX5_movesHomes_16 : decode cX5_movesHomes 16 = .ok (.ifCond .ne 6, 3) := dk_154 0 6 (dk_at dksX5_movesHomes_0 16 rfl rfl)
theorem dX5_movesHomes_19 : decode cX5_movesHomes 19 = .ok (.goto 35, 3) := dk_167 0 35 (dk_at dksX5_movesHomes_0 19 rfl rfl)
theorem dX5_movesHomes_22 : decode cX5_movesHomes 22 = .ok (.aload_n 0, 1) := dk_42 (dk_at dksX5_movesHomes_0 22 rfl rfl)
theorem dX5_movesHomes_23 : decode cX5_movesHomes 23 = .ok (.getfield 143, 3) := dk_180 0 143 (dk_at dksX5_movesHomes_1 0 rfl rfl)
theorem dX5_movesHomes_26 : decode cX5_movesHomes 26 = .ok (.iload_n 2, 1) := dk_28 (dk_at dksX5_movesHomes_1 3 rfl rfl)
theorem dX5_movesHomes_27 : decode cX5_movesHomes 27 = .ok (.dup2, 1) := dk_92 (dk_at dksX5_movesHomes_1 4 rfl rfl)
theorem dX5_movesHomes_28 : decode cX5_movesHomes 28 = .ok (.iaload, 1) := dk_46 (dk_at dksX5_movesHomes_1 5 rfl rfl)
theorem dX5_movesHomes_29 : decode cX5_movesHomes 29 = .ok (.iconst 1, 1) := dk_4 (dk_at dksX5_movesHomes_1 6 rfl rfl)
theorem dX5_movesHomes_30 : decode cX5_movesHomes 30 = .ok (.iadd, 1) := dk_96 (dk_at dksX5_movesHomes_1 7 rfl rfl)
theorem dX5_movesHomes_31 : decode cX5_movesHomes 31 = .ok (.iastore, 1) := dk_79 (dk_at dksX5_movesHomes_1 8 rfl rfl)
theorem dX5_movesHomes_32 : decode cX5_movesHomes 32 = .ok (.aload_n 0, 1) := dk_42 (dk_at dksX5_movesHomes_1 9 rfl rfl)
theorem dX5_movesHomes_33 : decode cX5_movesHomes 33 = .ok (.getfield 143, 3) := dk_180 0 143 (dk_at dksX5_movesHomes_1 10 rfl rfl)
theorem dX5_movesHomes_36 : decode cX5_movesHomes 36 = .ok (.iload_n 2, 1) := dk_28 (dk_at dksX5_movesHomes_1 13 rfl rfl)
theorem dX5_movesHomes_37 : decode cX5_movesHomes 37 = .ok (.iaload, 1) := dk_46 (dk_at dksX5_movesHomes_1 14 rfl rfl)
theorem dX5_movesHomes_38 : decode cX5_movesHomes 38 = .ok (.aload_n 0, 1) := dk_42 (dk_at dksX5_movesHomes_1 15 rfl rfl)
theorem dX5_movesHomes_39 : decode cX5_movesHomes 39 = .ok (.getfield 22, 3) := dk_180 0 22 (dk_at dksX5_movesHomes_1 16 rfl rfl)
theorem dX5_movesHomes_42 : decode cX5_movesHomes 42 = .ok (.if_icmp .ge 5, 3) := dk_162 0 5 (dk_at dksX5_movesHomes_1 19 rfl rfl)
theorem dX5_movesHomes_45 : decode cX5_movesHomes 45 = .ok (.iconst 1, 1) := dk_4 (dk_at dksX5_movesHomes_1 22 rfl rfl)
theorem dX5_movesHomes_46 : decode cX5_movesHomes 46 = .ok (.ireturn, 1) := dk_172 (dk_at dksX5_movesHomes_1 23 rfl rfl)
theorem dX5_movesHomes_47 : decode cX5_movesHomes 47 = .ok (.aload_n 0, 1) := dk_42 (dk_at dksX5_movesHomes_2 0 rfl rfl)
theorem dX5_movesHomes_48 : decode cX5_movesHomes 48 = .ok (.getfield 143, 3) := dk_180 0 143 (dk_at dksX5_movesHomes_2 1 rfl rfl)
theorem dX5_movesHomes_51 : decode cX5_movesHomes 51 = .ok (.iload_n 2, 1) := dk_28 (dk_at dksX5_movesHomes_2 4 rfl rfl)
theorem dX5_movesHomes_52 : decode cX5_movesHomes 52 = .ok (.iconst 0, 1) := dk_3 (dk_at dksX5_movesHomes_2 5 rfl rfl)
theorem dX5_movesHomes_53 : decode cX5_movesHomes 53 = .ok (.iastore, 1) := dk_79 (dk_at dksX5_movesHomes_2 6 rfl rfl)
theorem dX5_movesHomes_54 : decode cX5_movesHomes 54 = .ok (.iinc 2 (-1), 3) := dk_132 2 255 (dk_at dksX5_movesHomes_2 7 rfl rfl)
theorem dX5_movesHomes_57 : decode cX5_movesHomes 57 = .ok (.goto (-50), 3) := dk_167 255 206 (dk_at dksX5_movesHomes_2 10 rfl rfl)
theorem dX5_movesHomes_60 : decode cX5_movesHomes 60 = .ok (.iconst 0, 1) := dk_3 (dk_at dksX5_movesHomes_2 13 rfl rfl)
theorem dX5_movesHomes_61 : decode cX5_movesHomes 61 = .ok (.ireturn, 1) := dk_172 (dk_at dksX5_movesHomes_2 14 rfl rfl)
def dkwX5_givesBorn_1 : List UInt8 := [167, 255, 235, 177]
abbrev dktX5_givesBorn_1 : List UInt8 := dkwX5_givesBorn_1 ++ []
def dkwX5_givesBorn_0 : List UInt8 := [3, 60, 27, 16, 8, 162, 0, 21, 42, 180, 0, 143, 27, 42, 180, 1, 155, 27, 46, 79, 132, 1, 1]
abbrev dktX5_givesBorn_0 : List UInt8 := dkwX5_givesBorn_0 ++ dktX5_givesBorn_1
theorem dksX5_givesBorn_0 : cX5_givesBorn.data.toList.drop 0 = dktX5_givesBorn_0 := by decide +kernel
theorem dksX5_givesBorn_1 : cX5_givesBorn.data.toList.drop 23 = dktX5_givesBorn_1 := dk_seg dksX5_givesBorn_0 23 rfl rfl
theorem dX5_givesBorn_0 : decode cX5_givesBorn 0 = .ok (.iconst 0, 1) := dk_3 (dk_at dksX5_givesBorn_0 0 rfl rfl)
theorem dX5_givesBorn_1 : decode cX5_givesBorn 1 = .ok (.istore_n 1, 1) := dk_60 (dk_at dksX5_givesBorn_0 1 rfl rfl)
theorem dX5_givesBorn_2 : decode cX5_givesBorn 2 = .ok (.iload_n 1, 1) := dk_27 (dk_at dksX5_givesBorn_0 2 rfl rfl)
theorem dX5_givesBorn_3 : decode cX5_givesBorn 3 = .ok (.bipush 8, 2) := dk_16 8 (dk_at dksX5_givesBorn_0 3 rfl rfl)
theorem dX5_givesBorn_5 : decode cX5_givesBorn 5 = .ok (.if_icmp .ge 21, 3) := dk_162 0 21 (dk_at dksX5_givesBorn_0 5 rfl rfl)
theorem dX5_givesBorn_8 : decode cX5_givesBorn 8 = .ok (.aload_n 0, 1) := dk_42 (dk_at dksX5_givesBorn_0 8 rfl rfl)
theorem dX5_givesBorn_9 : decode cX5_givesBorn 9 = .ok (.getfield 143, 3) := dk_180 0 143 (dk_at dksX5_givesBorn_0 9 rfl rfl)
theorem dX5_givesBorn_12 : decode cX5_givesBorn 12 = .ok (.iload_n 1, 1) := dk_27 (dk_at dksX5_givesBorn_0 12 rfl rfl)
theorem dX5_givesBorn_13 : decode cX5_givesBorn 13 = .ok (.aload_n 0, 1) := dk_42 (dk_at dksX5_givesBorn_0 13 rfl rfl)
theorem dX5_givesBorn_14 : decode cX5_givesBorn 14 = .ok (.getfield 411, 3) := dk_180 1 155 (dk_at dksX5_givesBorn_0 14 rfl rfl)
theorem dX5_givesBorn_17 : decode cX5_givesBorn 17 = .ok (.iload_n 1, 1) := dk_27 (dk_at dksX5_givesBorn_0 17 rfl rfl)
theorem dX5_givesBorn_18 : decode cX5_givesBorn 18 = .ok (.iaload, 1) := dk_46 (dk_at dksX5_givesBorn_0 18 rfl rfl)
theorem dX5_givesBorn_19 : decode cX5_givesBorn 19 = .ok (.iastore, 1) := dk_79 (dk_at dksX5_givesBorn_0 19 rfl rfl)
theorem dX5_givesBorn_20 : decode cX5_givesBorn 20 = .ok (.iinc 1 1, 3) := dk_132 1 1 (dk_at dksX5_givesBorn_0 20 rfl rfl)
theorem dX5_givesBorn_23 : decode cX5_givesBorn 23 = .ok (.goto (-21), 3) := dk_167 255 235 (dk_at dksX5_givesBorn_1 0 rfl rfl)
theorem dX5_givesBorn_26 : decode cX5_givesBorn 26 = .ok (.return_, 1) := dk_177 (dk_at dksX5_givesBorn_1 3 rfl rfl)
def dkwX5_pair_6 : List UInt8 := [180, 1, 178, 29, 79, 42, 89, 180, 1, 178, 4, 96, 181, 1, 178, 42, 180, 1, 178, 172]
abbrev dktX5_pair_6 : List UInt8 := dkwX5_pair_6 ++ []
def dkwX5_pair_5 : List UInt8 := [180, 1, 181, 42, 180, 1, 178, 27, 79, 42, 180, 1, 184, 42, 180, 1, 178, 28, 79, 42, 180, 1, 187, 42]
abbrev dktX5_pair_5 : List UInt8 := dkwX5_pair_5 ++ dktX5_pair_6
def dkwX5_pair_4 : List UInt8 := [160, 0, 16, 42, 180, 1, 184, 21, 4, 46, 27, 160, 0, 5, 2, 172, 132, 4, 1, 167, 255, 198, 42]
abbrev dktX5_pair_4 : List UInt8 := dkwX5_pair_4 ++ dktX5_pair_5
def dkwX5_pair_3 : List UInt8 := [160, 0, 14, 42, 180, 1, 184, 21, 4, 46, 28, 159, 0, 25, 42, 180, 1, 181, 21, 4, 46, 28]
abbrev dktX5_pair_3 : List UInt8 := dkwX5_pair_3 ++ dktX5_pair_4
def dkwX5_pair_2 : List UInt8 := [2, 172, 3, 54, 4, 21, 4, 42, 180, 1, 178, 162, 0, 55, 42, 180, 1, 181, 21, 4, 46, 27]
abbrev dktX5_pair_2 : List UInt8 := dkwX5_pair_2 ++ dktX5_pair_3
def dkwX5_pair_1 : List UInt8 := [159, 0, 24, 29, 133, 10, 20, 0, 67, 184, 0, 25, 153, 0, 12, 42, 180, 1, 178, 16, 9, 160, 0, 5]
abbrev dktX5_pair_1 : List UInt8 := dkwX5_pair_1 ++ dktX5_pair_2
def dkwX5_pair_0 : List UInt8 := [42, 3, 181, 0, 3, 42, 27, 182, 0, 77, 153, 0, 37, 42, 28, 182, 0, 77, 153, 0, 29, 27, 28]
abbrev dktX5_pair_0 : List UInt8 := dkwX5_pair_0 ++ dktX5_pair_1
theorem dksX5_pair_0 : cX5_pair.data.toList.drop 0 = dktX5_pair_0 := by decide +kernel
theorem dksX5_pair_1 : cX5_pair.data.toList.drop 23 = dktX5_pair_1 := dk_seg dksX5_pair_0 23 rfl rfl
theorem dksX5_pair_2 : cX5_pair.data.toList.drop 47 = dktX5_pair_2 := dk_seg dksX5_pair_1 24 rfl rfl
theorem dksX5_pair_3 : cX5_pair.data.toList.drop 69 = dktX5_pair_3 := dk_seg dksX5_pair_2 22 rfl rfl
theorem dksX5_pair_4 : cX5_pair.data.toList.drop 91 = dktX5_pair_4 := dk_seg dksX5_pair_3 22 rfl rfl
theorem dksX5_pair_5 : cX5_pair.data.toList.drop 114 = dktX5_pair_5 := dk_seg dksX5_pair_4 23 rfl rfl
theorem dksX5_pair_6 : cX5_pair.data.toList.drop 138 = dktX5_pair_6 := dk_seg dksX5_pair_5 24 rfl rfl
theorem dX5_pair_0 : decode cX5_pair 0 = .ok (.aload_n 0, 1) := dk_42 (dk_at dksX5_pair_0 0 rfl rfl)
theorem dX5_pair_1 : decode cX5_pair 1 = .ok (.iconst 0, 1) := dk_3 (dk_at dksX5_pair_0 1 rfl rfl)
theorem dX5_pair_2 : decode cX5_pair 2 = .ok (.putfield 3, 3) := dk_181 0 3 (dk_at dksX5_pair_0 2 rfl rfl)
theorem dX5_pair_5 : decode cX5_pair 5 = .ok (.aload_n 0, 1) := dk_42 (dk_at dksX5_pair_0 5 rfl rfl)
theorem dX5_pair_6 : decode cX5_pair 6 = .ok (.iload_n 1, 1) := dk_27 (dk_at dksX5_pair_0 6 rfl rfl)
theorem dX5_pair_7 : decode cX5_pair 7 = .ok (.invokevirtual 77, 3) := dk_182 0 77 (dk_at dksX5_pair_0 7 rfl rfl)
theorem dX5_pair_10 : decode cX5_pair 10 = .ok (.ifCond .eq 37, 3) := dk_153 0 37 (dk_at dksX5_pair_0 10 rfl rfl)
theorem dX5_pair_13 : decode cX5_pair 13 = .ok (.aload_n 0, 1) := dk_42 (dk_at dksX5_pair_0 13 rfl rfl)
theorem dX5_pair_14 : decode cX5_pair 14 = .ok (.iload_n 2, 1) := dk_28 (dk_at dksX5_pair_0 14 rfl rfl)
theorem dX5_pair_15 : decode cX5_pair 15 = .ok (.invokevirtual 77, 3) := dk_182 0 77 (dk_at dksX5_pair_0 15 rfl rfl)
theorem dX5_pair_18 : decode cX5_pair 18 = .ok (.ifCond .eq 29, 3) := dk_153 0 29 (dk_at dksX5_pair_0 18 rfl rfl)
theorem dX5_pair_21 : decode cX5_pair 21 = .ok (.iload_n 1, 1) := dk_27 (dk_at dksX5_pair_0 21 rfl rfl)
theorem dX5_pair_22 : decode cX5_pair 22 = .ok (.iload_n 2, 1) := dk_28 (dk_at dksX5_pair_0 22 rfl rfl)
theorem dX5_pair_23 : decode cX5_pair 23 = .ok (.if_icmp .eq 24, 3) := dk_159 0 24 (dk_at dksX5_pair_1 0 rfl rfl)
theorem dX5_pair_26 : decode cX5_pair 26 = .ok (.iload_n 3, 1) := dk_29 (dk_at dksX5_pair_1 3 rfl rfl)
theorem dX5_pair_27 : decode cX5_pair 27 = .ok (.i2l, 1) := dk_133 (dk_at dksX5_pair_1 4 rfl rfl)
theorem dX5_pair_28 : decode cX5_pair 28 = .ok (.lconst 1, 1) := dk_10 (dk_at dksX5_pair_1 5 rfl rfl)
theorem dX5_pair_29 : decode cX5_pair 29 = .ok (.ldc2_w 67, 3) := dk_20 0 67 (dk_at dksX5_pair_1 6 rfl rfl)
theorem dX5_pair_32 : decode cX5_pair 32 = .ok (.invokestatic 25, 3) := dk_184 0 25 (dk_at dksX5_pair_1 9 rfl rfl)
theorem dX5_pair_35 : decode cX5_pair 35 = .ok (.ifCond .eq 12, 3) := dk_153 0 12 (dk_at dksX5_pair_1 12 rfl rfl)
theorem dX5_pair_38 : decode cX5_pair 38 = .ok (.aload_n 0, 1) := dk_42 (dk_at dksX5_pair_1 15 rfl rfl)
theorem dX5_pair_39 : decode cX5_pair 39 = .ok (.getfield 434, 3) := dk_180 1 178 (dk_at dksX5_pair_1 16 rfl rfl)
theorem dX5_pair_42 : decode cX5_pair 42 = .ok (.bipush 9, 2) := dk_16 9 (dk_at dksX5_pair_1 19 rfl rfl)
theorem dX5_pair_44 : decode cX5_pair 44 = .ok (.if_icmp .ne 5, 3) := dk_160 0 5 (dk_at dksX5_pair_1 21 rfl rfl)
theorem dX5_pair_47 : decode cX5_pair 47 = .ok (.iconst (-1), 1) := dk_2 (dk_at dksX5_pair_2 0 rfl rfl)
theorem dX5_pair_48 : decode cX5_pair 48 = .ok (.ireturn, 1) := dk_172 (dk_at dksX5_pair_2 1 rfl rfl)
theorem dX5_pair_49 : decode cX5_pair 49 = .ok (.iconst 0, 1) := dk_3 (dk_at dksX5_pair_2 2 rfl rfl)
theorem dX5_pair_50 : decode cX5_pair 50 = .ok (.istore 4, 2) := dk_54 4 (dk_at dksX5_pair_2 3 rfl rfl)
theorem dX5_pair_52 : decode cX5_pair 52 = .ok (.iload 4, 2) := dk_21 4 (dk_at dksX5_pair_2 5 rfl rfl)
theorem dX5_pair_54 : decode cX5_pair 54 = .ok (.aload_n 0, 1) := dk_42 (dk_at dksX5_pair_2 7 rfl rfl)
theorem dX5_pair_55 : decode cX5_pair 55 = .ok (.getfield 434, 3) := dk_180 1 178 (dk_at dksX5_pair_2 8 rfl rfl)
theorem dX5_pair_58 : decode cX5_pair 58 = .ok (.if_icmp .ge 55, 3) := dk_162 0 55 (dk_at dksX5_pair_2 11 rfl rfl)
theorem dX5_pair_61 : decode cX5_pair 61 = .ok (.aload_n 0, 1) := dk_42 (dk_at dksX5_pair_2 14 rfl rfl)
theorem dX5_pair_62 : decode cX5_pair 62 = .ok (.getfield 437, 3) := dk_180 1 181 (dk_at dksX5_pair_2 15 rfl rfl)
theorem dX5_pair_65 : decode cX5_pair 65 = .ok (.iload 4, 2) := dk_21 4 (dk_at dksX5_pair_2 18 rfl rfl)
theorem dX5_pair_67 : decode cX5_pair 67 = .ok (.iaload, 1) := dk_46 (dk_at dksX5_pair_2 20 rfl rfl)
theorem dX5_pair_68 : decode cX5_pair 68 = .ok (.iload_n 1, 1) := dk_27 (dk_at dksX5_pair_2 21 rfl rfl)
theorem dX5_pair_69 : decode cX5_pair 69 = .ok (.if_icmp .ne 14, 3) := dk_160 0 14 (dk_at dksX5_pair_3 0 rfl rfl)
theorem dX5_pair_72 : decode cX5_pair 72 = .ok (.aload_n 0, 1) := dk_42 (dk_at dksX5_pair_3 3 rfl rfl)
theorem dX5_pair_73 : decode cX5_pair 73 = .ok (.getfield 440, 3) := dk_180 1 184 (dk_at dksX5_pair_3 4 rfl rfl)
theorem dX5_pair_76 : decode cX5_pair 76 = .ok (.iload 4, 2) := dk_21 4 (dk_at dksX5_pair_3 7 rfl rfl)
theorem dX5_pair_78 : decode cX5_pair 78 = .ok (.iaload, 1) := dk_46 (dk_at dksX5_pair_3 9 rfl rfl)
theorem dX5_pair_79 : decode cX5_pair 79 = .ok (.iload_n 2, 1) := dk_28 (dk_at dksX5_pair_3 10 rfl rfl)
theorem dX5_pair_80 : decode cX5_pair 80 = .ok (.if_icmp .eq 25, 3) := dk_159 0 25 (dk_at dksX5_pair_3 11 rfl rfl)
theorem dX5_pair_83 : decode cX5_pair 83 = .ok (.aload_n 0, 1) := dk_42 (dk_at dksX5_pair_3 14 rfl rfl)
theorem dX5_pair_84 : decode cX5_pair 84 = .ok (.getfield 437, 3) := dk_180 1 181 (dk_at dksX5_pair_3 15 rfl rfl)
theorem dX5_pair_87 : decode cX5_pair 87 = .ok (.iload 4, 2) := dk_21 4 (dk_at dksX5_pair_3 18 rfl rfl)
theorem dX5_pair_89 : decode cX5_pair 89 = .ok (.iaload, 1) := dk_46 (dk_at dksX5_pair_3 20 rfl rfl)
theorem dX5_pair_90 : decode cX5_pair 90 = .ok (.iload_n 2, 1) := dk_28 (dk_at dksX5_pair_3 21 rfl rfl)
theorem dX5_pair_91 : decode cX5_pair 91 = .ok (.if_icmp .ne 16, 3) := dk_160 0 16 (dk_at dksX5_pair_4 0 rfl rfl)
theorem dX5_pair_94 : decode cX5_pair 94 = .ok (.aload_n 0, 1) := dk_42 (dk_at dksX5_pair_4 3 rfl rfl)
theorem dX5_pair_95 : decode cX5_pair 95 = .ok (.getfield 440, 3) := dk_180 1 184 (dk_at dksX5_pair_4 4 rfl rfl)
theorem dX5_pair_98 : decode cX5_pair 98 = .ok (.iload 4, 2) := dk_21 4 (dk_at dksX5_pair_4 7 rfl rfl)
theorem dX5_pair_100 : decode cX5_pair 100 = .ok (.iaload, 1) := dk_46 (dk_at dksX5_pair_4 9 rfl rfl)
theorem dX5_pair_101 : decode cX5_pair 101 = .ok (.iload_n 1, 1) := dk_27 (dk_at dksX5_pair_4 10 rfl rfl)
theorem dX5_pair_102 : decode cX5_pair 102 = .ok (.if_icmp .ne 5, 3) := dk_160 0 5 (dk_at dksX5_pair_4 11 rfl rfl)
theorem dX5_pair_105 : decode cX5_pair 105 = .ok (.iconst (-1), 1) := dk_2 (dk_at dksX5_pair_4 14 rfl rfl)
theorem dX5_pair_106 : decode cX5_pair 106 = .ok (.ireturn, 1) := dk_172 (dk_at dksX5_pair_4 15 rfl rfl)
theorem dX5_pair_107 : decode cX5_pair 107 = .ok (.iinc 4 1, 3) := dk_132 4 1 (dk_at dksX5_pair_4 16 rfl rfl)
theorem dX5_pair_110 : decode cX5_pair 110 = .ok (.goto (-58), 3) := dk_167 255 198 (dk_at dksX5_pair_4 19 rfl rfl)
theorem dX5_pair_113 : decode cX5_pair 113 = .ok (.aload_n 0, 1) := dk_42 (dk_at dksX5_pair_4 22 rfl rfl)
theorem dX5_pair_114 : decode cX5_pair 114 = .ok (.getfield 437, 3) := dk_180 1 181 (dk_at dksX5_pair_5 0 rfl rfl)
theorem dX5_pair_117 : decode cX5_pair 117 = .ok (.aload_n 0, 1) := dk_42 (dk_at dksX5_pair_5 3 rfl rfl)
theorem dX5_pair_118 : decode cX5_pair 118 = .ok (.getfield 434, 3) := dk_180 1 178 (dk_at dksX5_pair_5 4 rfl rfl)
theorem dX5_pair_121 : decode cX5_pair 121 = .ok (.iload_n 1, 1) := dk_27 (dk_at dksX5_pair_5 7 rfl rfl)
theorem dX5_pair_122 : decode cX5_pair 122 = .ok (.iastore, 1) := dk_79 (dk_at dksX5_pair_5 8 rfl rfl)
theorem dX5_pair_123 : decode cX5_pair 123 = .ok (.aload_n 0, 1) := dk_42 (dk_at dksX5_pair_5 9 rfl rfl)
theorem dX5_pair_124 : decode cX5_pair 124 = .ok (.getfield 440, 3) := dk_180 1 184 (dk_at dksX5_pair_5 10 rfl rfl)
theorem dX5_pair_127 : decode cX5_pair 127 = .ok (.aload_n 0, 1) := dk_42 (dk_at dksX5_pair_5 13 rfl rfl)
theorem dX5_pair_128 : decode cX5_pair 128 = .ok (.getfield 434, 3) := dk_180 1 178 (dk_at dksX5_pair_5 14 rfl rfl)
theorem dX5_pair_131 : decode cX5_pair 131 = .ok (.iload_n 2, 1) := dk_28 (dk_at dksX5_pair_5 17 rfl rfl)
theorem dX5_pair_132 : decode cX5_pair 132 = .ok (.iastore, 1) := dk_79 (dk_at dksX5_pair_5 18 rfl rfl)
theorem dX5_pair_133 : decode cX5_pair 133 = .ok (.aload_n 0, 1) := dk_42 (dk_at dksX5_pair_5 19 rfl rfl)
theorem dX5_pair_134 : decode cX5_pair 134 = .ok (.getfield 443, 3) := dk_180 1 187 (dk_at dksX5_pair_5 20 rfl rfl)
theorem dX5_pair_137 : decode cX5_pair 137 = .ok (.aload_n 0, 1) := dk_42 (dk_at dksX5_pair_5 23 rfl rfl)
theorem dX5_pair_138 : decode cX5_pair 138 = .ok (.getfield 434, 3) := dk_180 1 178 (dk_at dksX5_pair_6 0 rfl rfl)
theorem dX5_pair_141 : decode cX5_pair 141 = .ok (.iload_n 3, 1) := dk_29 (dk_at dksX5_pair_6 3 rfl rfl)
theorem dX5_pair_142 : decode cX5_pair 142 = .ok (.iastore, 1) := dk_79 (dk_at dksX5_pair_6 4 rfl rfl)
theorem dX5_pair_143 : decode cX5_pair 143 = .ok (.aload_n 0, 1) := dk_42 (dk_at dksX5_pair_6 5 rfl rfl)
theorem dX5_pair_144 : decode cX5_pair 144 = .ok (.dup, 1) := dk_89 (dk_at dksX5_pair_6 6 rfl rfl)
theorem dX5_pair_145 : decode cX5_pair 145 = .ok (.getfield 434, 3) := dk_180 1 178 (dk_at dksX5_pair_6 7 rfl rfl)
theorem dX5_pair_148 : decode cX5_pair 148 = .ok (.iconst 1, 1) := dk_4 (dk_at dksX5_pair_6 10 rfl rfl)
theorem dX5_pair_149 : decode cX5_pair 149 = .ok (.iadd, 1) := dk_96 (dk_at dksX5_pair_6 11 rfl rfl)
theorem dX5_pair_150 : decode cX5_pair 150 = .ok (.putfield 434, 3) := dk_181 1 178 (dk_at dksX5_pair_6 12 rfl rfl)
theorem dX5_pair_153 : decode cX5_pair 153 = .ok (.aload_n 0, 1) := dk_42 (dk_at dksX5_pair_6 15 rfl rfl)
theorem dX5_pair_154 : decode cX5_pair 154 = .ok (.getfield 434, 3) := dk_180 1 178 (dk_at dksX5_pair_6 16 rfl rfl)
theorem dX5_pair_157 : decode cX5_pair 157 = .ok (.ireturn, 1) := dk_172 (dk_at dksX5_pair_6 19 rfl rfl)
def dkwX5_whom_8 : List UInt8 := [182, 0, 18, 29, 172]
abbrev dktX5_whom_8 : List UInt8 := dkwX5_whom_8 ++ []
def dkwX5_whom_7 : List UInt8 := [29, 156, 0, 6, 16, 254, 172, 42, 3, 181, 0, 11, 42, 21, 4, 133, 182, 0, 18, 42, 21, 5, 133]
abbrev dktX5_whom_7 : List UInt8 := dkwX5_whom_7 ++ dktX5_whom_8
def dkwX5_whom_6 : List UInt8 := [21, 7, 21, 5, 162, 0, 14, 21, 8, 62, 21, 6, 54, 4, 21, 7, 54, 5, 132, 6, 1, 167, 255, 137]
abbrev dktX5_whom_6 : List UInt8 := dkwX5_whom_6 ++ dktX5_whom_7
def dkwX5_whom_5 : List UInt8 := [54, 8, 21, 8, 155, 0, 37, 29, 155, 0, 22, 21, 8, 29, 161, 0, 16, 21, 8, 29, 160, 0, 21]
abbrev dktX5_whom_5 : List UInt8 := dkwX5_whom_5 ++ dktX5_whom_6
def dkwX5_whom_4 : List UInt8 := [132, 8, 1, 167, 255, 218, 21, 7, 27, 164, 0, 7, 2, 167, 0, 10, 42, 21, 6, 28, 182, 1, 195]
abbrev dktX5_whom_4 : List UInt8 := dkwX5_whom_4 ++ dktX5_whom_5
def dkwX5_whom_3 : List UInt8 := [21, 6, 21, 8, 184, 0, 137, 153, 0, 13, 42, 180, 1, 187, 21, 8, 46, 167, 0, 4, 3, 96, 54, 7]
abbrev dktX5_whom_3 : List UInt8 := dkwX5_whom_3 ++ dktX5_whom_4
def dkwX5_whom_2 : List UInt8 := [180, 1, 178, 120, 162, 0, 114, 3, 54, 7, 3, 54, 8, 21, 8, 42, 180, 1, 178, 162, 0, 35, 21, 7]
abbrev dktX5_whom_2 : List UInt8 := dkwX5_whom_2 ++ dktX5_whom_3
def dkwX5_whom_1 : List UInt8 := [42, 180, 0, 151, 154, 0, 5, 2, 172, 2, 62, 3, 54, 4, 3, 54, 5, 3, 54, 6, 21, 6, 4, 42]
abbrev dktX5_whom_1 : List UInt8 := dkwX5_whom_1 ++ dktX5_whom_2
def dkwX5_whom_0 : List UInt8 := [42, 3, 181, 0, 3, 27, 133, 9, 20, 1, 193, 184, 0, 25, 153, 0, 17, 28, 184, 0, 81, 153, 0, 10]
abbrev dktX5_whom_0 : List UInt8 := dkwX5_whom_0 ++ dktX5_whom_1
theorem dksX5_whom_0 : cX5_whom.data.toList.drop 0 = dktX5_whom_0 := by decide +kernel
theorem dksX5_whom_1 : cX5_whom.data.toList.drop 24 = dktX5_whom_1 := dk_seg dksX5_whom_0 24 rfl rfl
theorem dksX5_whom_2 : cX5_whom.data.toList.drop 48 = dktX5_whom_2 := dk_seg dksX5_whom_1 24 rfl rfl
theorem dksX5_whom_3 : cX5_whom.data.toList.drop 72 = dktX5_whom_3 := dk_seg dksX5_whom_2 24 rfl rfl
theorem dksX5_whom_4 : cX5_whom.data.toList.drop 96 = dktX5_whom_4 := dk_seg dksX5_whom_3 24 rfl rfl
theorem dksX5_whom_5 : cX5_whom.data.toList.drop 119 = dktX5_whom_5 := dk_seg dksX5_whom_4 23 rfl rfl
theorem dksX5_whom_6 : cX5_whom.data.toList.drop 142 = dktX5_whom_6 := dk_seg dksX5_whom_5 23 rfl rfl
theorem dksX5_whom_7 : cX5_whom.data.toList.drop 166 = dktX5_whom_7 := dk_seg dksX5_whom_6 24 rfl rfl
theorem dksX5_whom_8 : cX5_whom.data.toList.drop 189 = dktX5_whom_8 := dk_seg dksX5_whom_7 23 rfl rfl
theorem dX5_whom_0 : decode cX5_whom 0 = .ok (.aload_n 0, 1) := dk_42 (dk_at dksX5_whom_0 0 rfl rfl)
theorem dX5_whom_1 : decode cX5_whom 1 = .ok (.iconst 0, 1) := dk_3 (dk_at dksX5_whom_0 1 rfl rfl)
theorem dX5_whom_2 : decode cX5_whom 2 = .ok (.putfield 3, 3) := dk_181 0 3 (dk_at dksX5_whom_0 2 rfl rfl)
theorem dX5_whom_5 : decode cX5_whom 5 = .ok (.iload_n 1, 1) := dk_27 (dk_at dksX5_whom_0 5 rfl rfl)
theorem dX5_whom_6 : decode cX5_whom 6 = .ok (.i2l, 1) := dk_133 (dk_at dksX5_whom_0 6 rfl rfl)
theorem dX5_whom_7 : decode cX5_whom 7 = .ok (.lconst 0, 1) := dk_9 (dk_at dksX5_whom_0 7 rfl rfl)
theorem dX5_whom_8 : decode cX5_whom 8 = .ok (.ldc2_w 449, 3) := dk_20 1 193 (dk_at dksX5_whom_0 8 rfl rfl)
theorem dX5_whom_11 : decode cX5_whom 11 = .ok (.invokestatic 25, 3) := dk_184 0 25 (dk_at dksX5_whom_0 11 rfl rfl)
theorem dX5_whom_14 : decode cX5_whom 14 = .ok (.ifCond .eq 17, 3) := dk_153 0 17 (dk_at dksX5_whom_0 14 rfl rfl)
theorem dX5_whom_17 : decode cX5_whom 17 = .ok (.iload_n 2, 1) := dk_28 (dk_at dksX5_whom_0 17 rfl rfl)
theorem dX5_whom_18 : decode cX5_whom 18 = .ok (.invokestatic 81, 3) := dk_184 0 81 (dk_at dksX5_whom_0 18 rfl rfl)
theorem dX5_whom_21 : decode cX5_whom 21 = .ok (.ifCond .eq 10, 3) := dk_153 0 10 (dk_at dksX5_whom_0 21 rfl rfl)
theorem dX5_whom_24 : decode cX5_whom 24 = .ok (.aload_n 0, 1) := dk_42 (dk_at dksX5_whom_1 0 rfl rfl)
theorem dX5_whom_25 : decode cX5_whom 25 = .ok (.getfield 151, 3) := dk_180 0 151 (dk_at dksX5_whom_1 1 rfl rfl)
theorem dX5_whom_28 : decode cX5_whom 28 = .ok (.ifCond .ne 5, 3) := dk_154 0 5 (dk_at dksX5_whom_1 4 rfl rfl)
theorem dX5_whom_31 : decode cX5_whom 31 = .ok (.iconst (-1), 1) := dk_2 (dk_at dksX5_whom_1 7 rfl rfl)
theorem dX5_whom_32 : decode cX5_whom 32 = .ok (.ireturn, 1) := dk_172 (dk_at dksX5_whom_1 8 rfl rfl)
theorem dX5_whom_33 : decode cX5_whom 33 = .ok (.iconst (-1), 1) := dk_2 (dk_at dksX5_whom_1 9 rfl rfl)
theorem dX5_whom_34 : decode cX5_whom 34 = .ok (.istore_n 3, 1) := dk_62 (dk_at dksX5_whom_1 10 rfl rfl)
theorem dX5_whom_35 : decode cX5_whom 35 = .ok (.iconst 0, 1) := dk_3 (dk_at dksX5_whom_1 11 rfl rfl)
theorem dX5_whom_36 : decode cX5_whom 36 = .ok (.istore 4, 2) := dk_54 4 (dk_at dksX5_whom_1 12 rfl rfl)
theorem dX5_whom_38 : decode cX5_whom 38 = .ok (.iconst 0, 1) := dk_3 (dk_at dksX5_whom_1 14 rfl rfl)
theorem dX5_whom_39 : decode cX5_whom 39 = .ok (.istore 5, 2) := dk_54 5 (dk_at dksX5_whom_1 15 rfl rfl)
theorem dX5_whom_41 : decode cX5_whom 41 = .ok (.iconst 0, 1) := dk_3 (dk_at dksX5_whom_1 17 rfl rfl)
theorem dX5_whom_42 : decode cX5_whom 42 = .ok (.istore 6, 2) := dk_54 6 (dk_at dksX5_whom_1 18 rfl rfl)
theorem dX5_whom_44 : decode cX5_whom 44 = .ok (.iload 6, 2) := dk_21 6 (dk_at dksX5_whom_1 20 rfl rfl)
theorem dX5_whom_46 : decode cX5_whom 46 = .ok (.iconst 1, 1) := dk_4 (dk_at dksX5_whom_1 22 rfl rfl)
theorem dX5_whom_47 : decode cX5_whom 47 = .ok (.aload_n 0, 1) := dk_42 (dk_at dksX5_whom_1 23 rfl rfl)
theorem dX5_whom_48 : decode cX5_whom 48 = .ok (.getfield 434, 3) := dk_180 1 178 (dk_at dksX5_whom_2 0 rfl rfl)
theorem dX5_whom_51 : decode cX5_whom 51 = .ok (.ishl, 1) := dk_120 (dk_at dksX5_whom_2 3 rfl rfl)
theorem dX5_whom_52 : decode cX5_whom 52 = .ok (.if_icmp .ge 114, 3) := dk_162 0 114 (dk_at dksX5_whom_2 4 rfl rfl)
theorem dX5_whom_55 : decode cX5_whom 55 = .ok (.iconst 0, 1) := dk_3 (dk_at dksX5_whom_2 7 rfl rfl)
theorem dX5_whom_56 : decode cX5_whom 56 = .ok (.istore 7, 2) := dk_54 7 (dk_at dksX5_whom_2 8 rfl rfl)
theorem dX5_whom_58 : decode cX5_whom 58 = .ok (.iconst 0, 1) := dk_3 (dk_at dksX5_whom_2 10 rfl rfl)
theorem dX5_whom_59 : decode cX5_whom 59 = .ok (.istore 8, 2) := dk_54 8 (dk_at dksX5_whom_2 11 rfl rfl)
theorem dX5_whom_61 : decode cX5_whom 61 = .ok (.iload 8, 2) := dk_21 8 (dk_at dksX5_whom_2 13 rfl rfl)
theorem dX5_whom_63 : decode cX5_whom 63 = .ok (.aload_n 0, 1) := dk_42 (dk_at dksX5_whom_2 15 rfl rfl)
theorem dX5_whom_64 : decode cX5_whom 64 = .ok (.getfield 434, 3) := dk_180 1 178 (dk_at dksX5_whom_2 16 rfl rfl)
theorem dX5_whom_67 : decode cX5_whom 67 = .ok (.if_icmp .ge 35, 3) := dk_162 0 35 (dk_at dksX5_whom_2 19 rfl rfl)
theorem dX5_whom_70 : decode cX5_whom 70 = .ok (.iload 7, 2) := dk_21 7 (dk_at dksX5_whom_2 22 rfl rfl)
theorem dX5_whom_72 : decode cX5_whom 72 = .ok (.iload 6, 2) := dk_21 6 (dk_at dksX5_whom_3 0 rfl rfl)
theorem dX5_whom_74 : decode cX5_whom 74 = .ok (.iload 8, 2) := dk_21 8 (dk_at dksX5_whom_3 2 rfl rfl)
theorem dX5_whom_76 : decode cX5_whom 76 = .ok (.invokestatic 137, 3) := dk_184 0 137 (dk_at dksX5_whom_3 4 rfl rfl)
theorem dX5_whom_79 : decode cX5_whom 79 = .ok (.ifCond .eq 13, 3) := dk_153 0 13 (dk_at dksX5_whom_3 7 rfl rfl)
theorem dX5_whom_82 : decode cX5_whom 82 = .ok (.aload_n 0, 1) := dk_42 (dk_at dksX5_whom_3 10 rfl rfl)
theorem dX5_whom_83 : decode cX5_whom 83 = .ok (.getfield 443, 3) := dk_180 1 187 (dk_at dksX5_whom_3 11 rfl rfl)
theorem dX5_whom_86 : decode cX5_whom 86 = .ok (.iload 8, 2) := dk_21 8 (dk_at dksX5_whom_3 14 rfl rfl)
theorem dX5_whom_88 : decode cX5_whom 88 = .ok (.iaload, 1) := dk_46 (dk_at dksX5_whom_3 16 rfl rfl)
theorem dX5_whom_89 : decode cX5_whom 89 = .ok (.goto 4, 3) := dk_167 0 4 (dk_at dksX5_whom_3 17 rfl rfl)
theorem dX5_whom_92 : decode cX5_whom 92 = .ok (.iconst 0, 1) := dk_3 (dk_at dksX5_whom_3 20 rfl rfl)
theorem dX5_whom_93 : decode cX5_whom 93 = .ok (.iadd, 1) := dk_96 (dk_at dksX5_whom_3 21 rfl rfl)
theorem dX5_whom_94 : decode cX5_whom 94 = .ok (.istore 7, 2) := dk_54 7 (dk_at dksX5_whom_3 22 rfl rfl)
theorem dX5_whom_96 : decode cX5_whom 96 = .ok (.iinc 8 1, 3) := dk_132 8 1 (dk_at dksX5_whom_4 0 rfl rfl)
theorem dX5_whom_99 : decode cX5_whom 99 = .ok (.goto (-38), 3) := dk_167 255 218 (dk_at dksX5_whom_4 3 rfl rfl)
theorem dX5_whom_102 : decode cX5_whom 102 = .ok (.iload 7, 2) := dk_21 7 (dk_at dksX5_whom_4 6 rfl rfl)
theorem dX5_whom_104 : decode cX5_whom 104 = .ok (.iload_n 1, 1) := dk_27 (dk_at dksX5_whom_4 8 rfl rfl)
theorem dX5_whom_105 : decode cX5_whom 105 = .ok (.if_icmp .le 7, 3) := dk_164 0 7 (dk_at dksX5_whom_4 9 rfl rfl)
theorem dX5_whom_108 : decode cX5_whom 108 = .ok (.iconst (-1), 1) := dk_2 (dk_at dksX5_whom_4 12 rfl rfl)
theorem dX5_whom_109 : decode cX5_whom 109 = .ok (.goto 10, 3) := dk_167 0 10 (dk_at dksX5_whom_4 13 rfl rfl)
theorem dX5_whom_112 : decode cX5_whom 112 = .ok (.aload_n 0, 1) := dk_42 (dk_at dksX5_whom_4 16 rfl rfl)
theorem dX5_whom_113 : decode cX5_whom 113 = .ok (.iload 6, 2) := dk_21 6 (dk_at dksX5_whom_4 17 rfl rfl)
theorem dX5_whom_115 : decode cX5_whom 115 = .ok (.iload_n 2, 1) := dk_28 (dk_at dksX5_whom_4 19 rfl rfl)
theorem dX5_whom_116 : decode cX5_whom 116 = .ok (.invokevirtual 451, 3) := dk_182 1 195 (dk_at dksX5_whom_4 20 rfl rfl)
theorem dX5_whom_119 : decode cX5_whom 119 = .ok (.istore 8, 2) := dk_54 8 (dk_at dksX5_whom_5 0 rfl rfl)
theorem dX5_whom_121 : decode cX5_whom 121 = .ok (.iload 8, 2) := dk_21 8 (dk_at dksX5_whom_5 2 rfl rfl)
theorem dX5_whom_123 : decode cX5_whom 123 = .ok (.ifCond .lt 37, 3) := dk_155 0 37 (dk_at dksX5_whom_5 4 rfl rfl)
theorem dX5_whom_126 : decode cX5_whom 126 = .ok (.iload_n 3, 1) := dk_29 (dk_at dksX5_whom_5 7 rfl rfl)
theorem dX5_whom_127 : decode cX5_whom 127 = .ok (.ifCond .lt 22, 3) := dk_155 0 22 (dk_at dksX5_whom_5 8 rfl rfl)
theorem dX5_whom_130 : decode cX5_whom 130 = .ok (.iload 8, 2) := dk_21 8 (dk_at dksX5_whom_5 11 rfl rfl)
theorem dX5_whom_132 : decode cX5_whom 132 = .ok (.iload_n 3, 1) := dk_29 (dk_at dksX5_whom_5 13 rfl rfl)
theorem dX5_whom_133 : decode cX5_whom 133 = .ok (.if_icmp .lt 16, 3) := dk_161 0 16 (dk_at dksX5_whom_5 14 rfl rfl)
theorem dX5_whom_136 : decode cX5_whom 136 = .ok (.iload 8, 2) := dk_21 8 (dk_at dksX5_whom_5 17 rfl rfl)
theorem dX5_whom_138 : decode cX5_whom 138 = .ok (.iload_n 3, 1) := dk_29 (dk_at dksX5_whom_5 19 rfl rfl)
theorem dX5_whom_139 : decode cX5_whom 139 = .ok (.if_icmp .ne 21, 3) := dk_160 0 21 (dk_at dksX5_whom_5 20 rfl rfl)
theorem dX5_whom_142 : decode cX5_whom 142 = .ok (.iload 7, 2) := dk_21 7 (dk_at dksX5_whom_6 0 rfl rfl)
theorem dX5_whom_144 : decode cX5_whom 144 = .ok (.iload 5, 2) := dk_21 5 (dk_at dksX5_whom_6 2 rfl rfl)
theorem dX5_whom_146 : decode cX5_whom 146 = .ok (.if_icmp .ge 14, 3) := dk_162 0 14 (dk_at dksX5_whom_6 4 rfl rfl)
theorem dX5_whom_149 : decode cX5_whom 149 = .ok (.iload 8, 2) := dk_21 8 (dk_at dksX5_whom_6 7 rfl rfl)
theorem dX5_whom_151 : decode cX5_whom 151 = .ok (.istore_n 3, 1) := dk_62 (dk_at dksX5_whom_6 9 rfl rfl)
theorem dX5_whom_152 : decode cX5_whom 152 = .ok (.iload 6, 2) := dk_21 6 (dk_at dksX5_whom_6 10 rfl rfl)
theorem dX5_whom_154 : decode cX5_whom 154 = .ok (.istore 4, 2) := dk_54 4 (dk_at dksX5_whom_6 12 rfl rfl)
theorem dX5_whom_156 : decode cX5_whom 156 = .ok (.iload 7, 2) := dk_21 7 (dk_at dksX5_whom_6 14 rfl rfl)
theorem dX5_whom_158 : decode cX5_whom 158 = .ok (.istore 5, 2) := dk_54 5 (dk_at dksX5_whom_6 16 rfl rfl)
theorem dX5_whom_160 : decode cX5_whom 160 = .ok (.iinc 6 1, 3) := dk_132 6 1 (dk_at dksX5_whom_6 18 rfl rfl)
theorem dX5_whom_163 : decode cX5_whom 163 = .ok (.goto (-119), 3) := dk_167 255 137 (dk_at dksX5_whom_6 21 rfl rfl)
theorem dX5_whom_166 : decode cX5_whom 166 = .ok (.iload_n 3, 1) := dk_29 (dk_at dksX5_whom_7 0 rfl rfl)
theorem dX5_whom_167 : decode cX5_whom 167 = .ok (.ifCond .ge 6, 3) := dk_156 0 6 (dk_at dksX5_whom_7 1 rfl rfl)
theorem dX5_whom_170 : decode cX5_whom 170 = .ok (.bipush (-2), 2) := dk_16 254 (dk_at dksX5_whom_7 4 rfl rfl)
theorem dX5_whom_172 : decode cX5_whom 172 = .ok (.ireturn, 1) := dk_172 (dk_at dksX5_whom_7 6 rfl rfl)
theorem dX5_whom_173 : decode cX5_whom 173 = .ok (.aload_n 0, 1) := dk_42 (dk_at dksX5_whom_7 7 rfl rfl)
theorem dX5_whom_174 : decode cX5_whom 174 = .ok (.iconst 0, 1) := dk_3 (dk_at dksX5_whom_7 8 rfl rfl)
theorem dX5_whom_175 : decode cX5_whom 175 = .ok (.putfield 11, 3) := dk_181 0 11 (dk_at dksX5_whom_7 9 rfl rfl)
theorem dX5_whom_178 : decode cX5_whom 178 = .ok (.aload_n 0, 1) := dk_42 (dk_at dksX5_whom_7 12 rfl rfl)
theorem dX5_whom_179 : decode cX5_whom 179 = .ok (.iload 4, 2) := dk_21 4 (dk_at dksX5_whom_7 13 rfl rfl)
theorem dX5_whom_181 : decode cX5_whom 181 = .ok (.i2l, 1) := dk_133 (dk_at dksX5_whom_7 15 rfl rfl)
theorem dX5_whom_182 : decode cX5_whom 182 = .ok (.invokevirtual 18, 3) := dk_182 0 18 (dk_at dksX5_whom_7 16 rfl rfl)
theorem dX5_whom_185 : decode cX5_whom 185 = .ok (.aload_n 0, 1) := dk_42 (dk_at dksX5_whom_7 19 rfl rfl)
theorem dX5_whom_186 : decode cX5_whom 186 = .ok (.iload 5, 2) := dk_21 5 (dk_at dksX5_whom_7 20 rfl rfl)
theorem dX5_whom_188 : decode cX5_whom 188 = .ok (.i2l, 1) := dk_133 (dk_at dksX5_whom_7 22 rfl rfl)
theorem dX5_whom_189 : decode cX5_whom 189 = .ok (.invokevirtual 18, 3) := dk_182 0 18 (dk_at dksX5_whom_8 0 rfl rfl)
theorem dX5_whom_192 : decode cX5_whom 192 = .ok (.iload_n 3, 1) := dk_29 (dk_at dksX5_whom_8 3 rfl rfl)
theorem dX5_whom_193 : decode cX5_whom 193 = .ok (.ireturn, 1) := dk_172 (dk_at dksX5_whom_8 4 rfl rfl)
def dkwX5_endsWith_6 : List UInt8 := [172]
abbrev dktX5_endsWith_6 : List UInt8 := dkwX5_endsWith_6 ++ []
def dkwX5_endsWith_5 : List UInt8 := [162, 0, 23, 42, 180, 0, 60, 21, 4, 42, 180, 1, 190, 21, 4, 46, 79, 132, 4, 1, 167, 255, 229, 29]
abbrev dktX5_endsWith_5 : List UInt8 := dkwX5_endsWith_5 ++ dktX5_endsWith_6
def dkwX5_endsWith_4 : List UInt8 := [132, 3, 1, 167, 255, 193, 42, 28, 182, 1, 166, 62, 3, 54, 4, 21, 4, 42, 180, 1, 190, 190]
abbrev dktX5_endsWith_4 : List UInt8 := dkwX5_endsWith_4 ++ dktX5_endsWith_5
def dkwX5_endsWith_3 : List UInt8 := [180, 1, 181, 29, 46, 104, 42, 180, 1, 184, 29, 46, 96, 46, 6, 96, 184, 0, 95, 182, 0, 89]
abbrev dktX5_endsWith_3 : List UInt8 := dkwX5_endsWith_3 ++ dktX5_endsWith_4
def dkwX5_endsWith_2 : List UInt8 := [42, 42, 180, 1, 181, 29, 46, 42, 180, 1, 184, 29, 46, 16, 9, 42, 180, 0, 60, 16, 6, 42]
abbrev dktX5_endsWith_2 : List UInt8 := dkwX5_endsWith_2 ++ dktX5_endsWith_3
def dkwX5_endsWith_1 : List UInt8 := [132, 3, 1, 167, 255, 232, 3, 62, 29, 42, 180, 1, 178, 162, 0, 61, 27, 29, 184, 0, 137, 153, 0, 47]
abbrev dktX5_endsWith_1 : List UInt8 := dkwX5_endsWith_1 ++ dktX5_endsWith_2
def dkwX5_endsWith_0 : List UInt8 := [3, 62, 29, 42, 180, 1, 190, 190, 162, 0, 21, 42, 180, 1, 190, 29, 42, 180, 0, 60, 29, 46, 79]
abbrev dktX5_endsWith_0 : List UInt8 := dkwX5_endsWith_0 ++ dktX5_endsWith_1
theorem dksX5_endsWith_0 : cX5_endsWith.data.toList.drop 0 = dktX5_endsWith_0 := by decide +kernel
theorem dksX5_endsWith_1 : cX5_endsWith.data.toList.drop 23 = dktX5_endsWith_1 := dk_seg dksX5_endsWith_0 23 rfl rfl
theorem dksX5_endsWith_2 : cX5_endsWith.data.toList.drop 47 = dktX5_endsWith_2 := dk_seg dksX5_endsWith_1 24 rfl rfl
theorem dksX5_endsWith_3 : cX5_endsWith.data.toList.drop 69 = dktX5_endsWith_3 := dk_seg dksX5_endsWith_2 22 rfl rfl
theorem dksX5_endsWith_4 : cX5_endsWith.data.toList.drop 91 = dktX5_endsWith_4 := dk_seg dksX5_endsWith_3 22 rfl rfl
theorem dksX5_endsWith_5 : cX5_endsWith.data.toList.drop 113 = dktX5_endsWith_5 := dk_seg dksX5_endsWith_4 22 rfl rfl
theorem dksX5_endsWith_6 : cX5_endsWith.data.toList.drop 137 = dktX5_endsWith_6 := dk_seg dksX5_endsWith_5 24 rfl rfl
theorem dX5_endsWith_0 : decode cX5_endsWith 0 = .ok (.iconst 0, 1) := dk_3 (dk_at dksX5_endsWith_0 0 rfl rfl)
theorem dX5_endsWith_1 : decode cX5_endsWith 1 = .ok (.istore_n 3, 1) := dk_62 (dk_at dksX5_endsWith_0 1 rfl rfl)
theorem dX5_endsWith_2 : decode cX5_endsWith 2 = .ok (.iload_n 3, 1) := dk_29 (dk_at dksX5_endsWith_0 2 rfl rfl)
theorem dX5_endsWith_3 : decode cX5_endsWith 3 = .ok (.aload_n 0, 1) := dk_42 (dk_at dksX5_endsWith_0 3 rfl rfl)
theorem dX5_endsWith_4 : decode cX5_endsWith 4 = .ok (.getfield 446, 3) := dk_180 1 190 (dk_at dksX5_endsWith_0 4 rfl rfl)
theorem dX5_endsWith_7 : decode cX5_endsWith 7 = .ok (.arraylength, 1) := dk_190 (dk_at dksX5_endsWith_0 7 rfl rfl)
theorem dX5_endsWith_8 : decode cX5_endsWith 8 = .ok (.if_icmp .ge 21, 3) := dk_162 0 21 (dk_at dksX5_endsWith_0 8 rfl rfl)
theorem dX5_endsWith_11 : decode cX5_endsWith 11 = .ok (.aload_n 0, 1) := dk_42 (dk_at dksX5_endsWith_0 11 rfl rfl)
theorem dX5_endsWith_12 : decode cX5_endsWith 12 = .ok (.getfield 446, 3) := dk_180 1 190 (dk_at dksX5_endsWith_0 12 rfl rfl)
theorem dX5_endsWith_15 : decode cX5_endsWith 15 = .ok (.iload_n 3, 1) := dk_29 (dk_at dksX5_endsWith_0 15 rfl rfl)
theorem dX5_endsWith_16 : decode cX5_endsWith 16 = .ok (.aload_n 0, 1) := dk_42 (dk_at dksX5_endsWith_0 16 rfl rfl)
theorem dX5_endsWith_17 : decode cX5_endsWith 17 = .ok (.getfield 60, 3) := dk_180 0 60 (dk_at dksX5_endsWith_0 17 rfl rfl)
theorem dX5_endsWith_20 : decode cX5_endsWith 20 = .ok (.iload_n 3, 1) := dk_29 (dk_at dksX5_endsWith_0 20 rfl rfl)
theorem dX5_endsWith_21 : decode cX5_endsWith 21 = .ok (.iaload, 1) := dk_46 (dk_at dksX5_endsWith_0 21 rfl rfl)
theorem dX5_endsWith_22 : decode cX5_endsWith 22 = .ok (.iastore, 1) := dk_79 (dk_at dksX5_endsWith_0 22 rfl rfl)
theorem dX5_endsWith_23 : decode cX5_endsWith 23 = .ok (.iinc 3 1, 3) := dk_132 3 1 (dk_at dksX5_endsWith_1 0 rfl rfl)
theorem dX5_endsWith_26 : decode cX5_endsWith 26 = .ok (.goto (-24), 3) := dk_167 255 232 (dk_at dksX5_endsWith_1 3 rfl rfl)
theorem dX5_endsWith_29 : decode cX5_endsWith 29 = .ok (.iconst 0, 1) := dk_3 (dk_at dksX5_endsWith_1 6 rfl rfl)
theorem dX5_endsWith_30 : decode cX5_endsWith 30 = .ok (.istore_n 3, 1) := dk_62 (dk_at dksX5_endsWith_1 7 rfl rfl)
theorem dX5_endsWith_31 : decode cX5_endsWith 31 = .ok (.iload_n 3, 1) := dk_29 (dk_at dksX5_endsWith_1 8 rfl rfl)
theorem dX5_endsWith_32 : decode cX5_endsWith 32 = .ok (.aload_n 0, 1) := dk_42 (dk_at dksX5_endsWith_1 9 rfl rfl)
theorem dX5_endsWith_33 : decode cX5_endsWith 33 = .ok (.getfield 434, 3) := dk_180 1 178 (dk_at dksX5_endsWith_1 10 rfl rfl)
theorem dX5_endsWith_36 : decode cX5_endsWith 36 = .ok (.if_icmp .ge 61, 3) := dk_162 0 61 (dk_at dksX5_endsWith_1 13 rfl rfl)
theorem dX5_endsWith_39 : decode cX5_endsWith 39 = .ok (.iload_n 1, 1) := dk_27 (dk_at dksX5_endsWith_1 16 rfl rfl)
theorem dX5_endsWith_40 : decode cX5_endsWith 40 = .ok (.iload_n 3, 1) := dk_29 (dk_at dksX5_endsWith_1 17 rfl rfl)
theorem dX5_endsWith_41 : decode cX5_endsWith 41 = .ok (.invokestatic 137, 3) := dk_184 0 137 (dk_at dksX5_endsWith_1 18 rfl rfl)
theorem dX5_endsWith_44 : decode cX5_endsWith 44 = .ok (.ifCond .eq 47, 3) := dk_153 0 47 (dk_at dksX5_endsWith_1 21 rfl rfl)
theorem dX5_endsWith_47 : decode cX5_endsWith 47 = .ok (.aload_n 0, 1) := dk_42 (dk_at dksX5_endsWith_2 0 rfl rfl)
theorem dX5_endsWith_48 : decode cX5_endsWith 48 = .ok (.aload_n 0, 1) := dk_42 (dk_at dksX5_endsWith_2 1 rfl rfl)
theorem dX5_endsWith_49 : decode cX5_endsWith 49 = .ok (.getfield 437, 3) := dk_180 1 181 (dk_at dksX5_endsWith_2 2 rfl rfl)
theorem dX5_endsWith_52 : decode cX5_endsWith 52 = .ok (.iload_n 3, 1) := dk_29 (dk_at dksX5_endsWith_2 5 rfl rfl)
theorem dX5_endsWith_53 : decode cX5_endsWith 53 = .ok (.iaload, 1) := dk_46 (dk_at dksX5_endsWith_2 6 rfl rfl)
theorem dX5_endsWith_54 : decode cX5_endsWith 54 = .ok (.aload_n 0, 1) := dk_42 (dk_at dksX5_endsWith_2 7 rfl rfl)
theorem dX5_endsWith_55 : decode cX5_endsWith 55 = .ok (.getfield 440, 3) := dk_180 1 184 (dk_at dksX5_endsWith_2 8 rfl rfl)
theorem dX5_endsWith_58 : decode cX5_endsWith 58 = .ok (.iload_n 3, 1) := dk_29 (dk_at dksX5_endsWith_2 11 rfl rfl)
theorem dX5_endsWith_59 : decode cX5_endsWith 59 = .ok (.iaload, 1) := dk_46 (dk_at dksX5_endsWith_2 12 rfl rfl)
theorem dX5_endsWith_60 : decode cX5_endsWith 60 = .ok (.bipush 9, 2) := dk_16 9 (dk_at dksX5_endsWith_2 13 rfl rfl)
theorem dX5_endsWith_62 : decode cX5_endsWith 62 = .ok (.aload_n 0, 1) := dk_42 (dk_at dksX5_endsWith_2 15 rfl rfl)
theorem dX5_endsWith_63 : decode cX5_endsWith 63 = .ok (.getfield 60, 3) := dk_180 0 60 (dk_at dksX5_endsWith_2 16 rfl rfl)
theorem dX5_endsWith_66 : decode cX5_endsWith 66 = .ok (.bipush 6, 2) := dk_16 6 (dk_at dksX5_endsWith_2 19 rfl rfl)
theorem dX5_endsWith_68 : decode cX5_endsWith 68 = .ok (.aload_n 0, 1) := dk_42 (dk_at dksX5_endsWith_2 21 rfl rfl)
theorem dX5_endsWith_69 : decode cX5_endsWith 69 = .ok (.getfield 437, 3) := dk_180 1 181 (dk_at dksX5_endsWith_3 0 rfl rfl)
theorem dX5_endsWith_72 : decode cX5_endsWith 72 = .ok (.iload_n 3, 1) := dk_29 (dk_at dksX5_endsWith_3 3 rfl rfl)
theorem dX5_endsWith_73 : decode cX5_endsWith 73 = .ok (.iaload, 1) := dk_46 (dk_at dksX5_endsWith_3 4 rfl rfl)
theorem dX5_endsWith_74 : decode cX5_endsWith 74 = .ok (.imul, 1) := dk_104 (dk_at dksX5_endsWith_3 5 rfl rfl)
theorem dX5_endsWith_75 : decode cX5_endsWith 75 = .ok (.aload_n 0, 1) := dk_42 (dk_at dksX5_endsWith_3 6 rfl rfl)
theorem dX5_endsWith_76 : decode cX5_endsWith 76 = .ok (.getfield 440, 3) := dk_180 1 184 (dk_at dksX5_endsWith_3 7 rfl rfl)
theorem dX5_endsWith_79 : decode cX5_endsWith 79 = .ok (.iload_n 3, 1) := dk_29 (dk_at dksX5_endsWith_3 10 rfl rfl)
theorem dX5_endsWith_80 : decode cX5_endsWith 80 = .ok (.iaload, 1) := dk_46 (dk_at dksX5_endsWith_3 11 rfl rfl)
theorem dX5_endsWith_81 : decode cX5_endsWith 81 = .ok (.iadd, 1) := dk_96 (dk_at dksX5_endsWith_3 12 rfl rfl)
theorem dX5_endsWith_82 : decode cX5_endsWith 82 = .ok (.iaload, 1) := dk_46 (dk_at dksX5_endsWith_3 13 rfl rfl)
theorem dX5_endsWith_83 : decode cX5_endsWith 83 = .ok (.iconst 3, 1) := dk_6 (dk_at dksX5_endsWith_3 14 rfl rfl)
theorem dX5_endsWith_84 : decode cX5_endsWith 84 = .ok (.iadd, 1) := dk_96 (dk_at dksX5_endsWith_3 15 rfl rfl)
theorem dX5_endsWith_85 : decode cX5_endsWith 85 = .ok (.invokestatic 95, 3) := dk_184 0 95 (dk_at dksX5_endsWith_3 16 rfl rfl)
theorem dX5_endsWith_88 : decode cX5_endsWith 88 = .ok (.invokevirtual 89, 3) := dk_182 0 89 (dk_at dksX5_endsWith_3 19 rfl rfl)
theorem dX5_endsWith_91 : decode cX5_endsWith 91 = .ok (.iinc 3 1, 3) := dk_132 3 1 (dk_at dksX5_endsWith_4 0 rfl rfl)
theorem dX5_endsWith_94 : decode cX5_endsWith 94 = .ok (.goto (-63), 3) := dk_167 255 193 (dk_at dksX5_endsWith_4 3 rfl rfl)
theorem dX5_endsWith_97 : decode cX5_endsWith 97 = .ok (.aload_n 0, 1) := dk_42 (dk_at dksX5_endsWith_4 6 rfl rfl)
theorem dX5_endsWith_98 : decode cX5_endsWith 98 = .ok (.iload_n 2, 1) := dk_28 (dk_at dksX5_endsWith_4 7 rfl rfl)
theorem dX5_endsWith_99 : decode cX5_endsWith 99 = .ok (.invokevirtual 422, 3) := dk_182 1 166 (dk_at dksX5_endsWith_4 8 rfl rfl)
theorem dX5_endsWith_102 : decode cX5_endsWith 102 = .ok (.istore_n 3, 1) := dk_62 (dk_at dksX5_endsWith_4 11 rfl rfl)
theorem dX5_endsWith_103 : decode cX5_endsWith 103 = .ok (.iconst 0, 1) := dk_3 (dk_at dksX5_endsWith_4 12 rfl rfl)
theorem dX5_endsWith_104 : decode cX5_endsWith 104 = .ok (.istore 4, 2) := dk_54 4 (dk_at dksX5_endsWith_4 13 rfl rfl)
theorem dX5_endsWith_106 : decode cX5_endsWith 106 = .ok (.iload 4, 2) := dk_21 4 (dk_at dksX5_endsWith_4 15 rfl rfl)
theorem dX5_endsWith_108 : decode cX5_endsWith 108 = .ok (.aload_n 0, 1) := dk_42 (dk_at dksX5_endsWith_4 17 rfl rfl)
theorem dX5_endsWith_109 : decode cX5_endsWith 109 = .ok (.getfield 446, 3) := dk_180 1 190 (dk_at dksX5_endsWith_4 18 rfl rfl)
theorem dX5_endsWith_112 : decode cX5_endsWith 112 = .ok (.arraylength, 1) := dk_190 (dk_at dksX5_endsWith_4 21 rfl rfl)
theorem dX5_endsWith_113 : decode cX5_endsWith 113 = .ok (.if_icmp .ge 23, 3) := dk_162 0 23 (dk_at dksX5_endsWith_5 0 rfl rfl)
theorem dX5_endsWith_116 : decode cX5_endsWith 116 = .ok (.aload_n 0, 1) := dk_42 (dk_at dksX5_endsWith_5 3 rfl rfl)
theorem dX5_endsWith_117 : decode cX5_endsWith 117 = .ok (.getfield 60, 3) := dk_180 0 60 (dk_at dksX5_endsWith_5 4 rfl rfl)
theorem dX5_endsWith_120 : decode cX5_endsWith 120 = .ok (.iload 4, 2) := dk_21 4 (dk_at dksX5_endsWith_5 7 rfl rfl)
theorem dX5_endsWith_122 : decode cX5_endsWith 122 = .ok (.aload_n 0, 1) := dk_42 (dk_at dksX5_endsWith_5 9 rfl rfl)
theorem dX5_endsWith_123 : decode cX5_endsWith 123 = .ok (.getfield 446, 3) := dk_180 1 190 (dk_at dksX5_endsWith_5 10 rfl rfl)
theorem dX5_endsWith_126 : decode cX5_endsWith 126 = .ok (.iload 4, 2) := dk_21 4 (dk_at dksX5_endsWith_5 13 rfl rfl)
theorem dX5_endsWith_128 : decode cX5_endsWith 128 = .ok (.iaload, 1) := dk_46 (dk_at dksX5_endsWith_5 15 rfl rfl)
theorem dX5_endsWith_129 : decode cX5_endsWith 129 = .ok (.iastore, 1) := dk_79 (dk_at dksX5_endsWith_5 16 rfl rfl)
theorem dX5_endsWith_130 : decode cX5_endsWith 130 = .ok (.iinc 4 1, 3) := dk_132 4 1 (dk_at dksX5_endsWith_5 17 rfl rfl)
theorem dX5_endsWith_133 : decode cX5_endsWith 133 = .ok (.goto (-27), 3) := dk_167 255 229 (dk_at dksX5_endsWith_5 20 rfl rfl)
theorem dX5_endsWith_136 : decode cX5_endsWith 136 = .ok (.iload_n 3, 1) := dk_29 (dk_at dksX5_endsWith_5 23 rfl rfl)
theorem dX5_endsWith_137 : decode cX5_endsWith 137 = .ok (.ireturn, 1) := dk_172 (dk_at dksX5_endsWith_6 0 rfl rfl)
def dkwX5_worth_5 : List UInt8 := [55, 4, 132, 6, 1, 167, 255, 186, 29, 172]
abbrev dktX5_worth_5 : List UInt8 := dkwX5_worth_5 ++ []
def dkwX5_worth_4 : List UInt8 := [42, 22, 8, 182, 0, 18, 29, 155, 0, 11, 22, 8, 22, 4, 148, 158, 0, 10, 21, 6, 62, 22, 8]
abbrev dktX5_worth_4 : List UInt8 := dkwX5_worth_4 ++ dktX5_worth_5
def dkwX5_worth_3 : List UInt8 := [54, 7, 21, 7, 155, 0, 7, 28, 156, 0, 9, 20, 1, 198, 167, 0, 8, 28, 21, 7, 100, 133, 55, 8]
abbrev dktX5_worth_3 : List UInt8 := dkwX5_worth_3 ++ dktX5_worth_4
def dkwX5_worth_2 : List UInt8 := [181, 0, 11, 3, 54, 6, 21, 6, 42, 180, 1, 178, 162, 0, 67, 42, 4, 21, 6, 120, 27, 182, 1, 195]
abbrev dktX5_worth_2 : List UInt8 := dkwX5_worth_2 ++ dktX5_worth_3
def dkwX5_worth_1 : List UInt8 := [180, 1, 178, 154, 0, 6, 16, 254, 172, 42, 3, 27, 182, 1, 195, 61, 2, 62, 9, 55, 4, 42, 3]
abbrev dktX5_worth_1 : List UInt8 := dkwX5_worth_1 ++ dktX5_worth_2
def dkwX5_worth_0 : List UInt8 := [42, 3, 181, 0, 3, 27, 184, 0, 81, 153, 0, 10, 42, 180, 0, 151, 154, 0, 5, 2, 172, 42]
abbrev dktX5_worth_0 : List UInt8 := dkwX5_worth_0 ++ dktX5_worth_1
theorem dksX5_worth_0 : cX5_worth.data.toList.drop 0 = dktX5_worth_0 := by decide +kernel
theorem dksX5_worth_1 : cX5_worth.data.toList.drop 22 = dktX5_worth_1 := dk_seg dksX5_worth_0 22 rfl rfl
theorem dksX5_worth_2 : cX5_worth.data.toList.drop 45 = dktX5_worth_2 := dk_seg dksX5_worth_1 23 rfl rfl
theorem dksX5_worth_3 : cX5_worth.data.toList.drop 69 = dktX5_worth_3 := dk_seg dksX5_worth_2 24 rfl rfl
theorem dksX5_worth_4 : cX5_worth.data.toList.drop 93 = dktX5_worth_4 := dk_seg dksX5_worth_3 24 rfl rfl
theorem dksX5_worth_5 : cX5_worth.data.toList.drop 116 = dktX5_worth_5 := dk_seg dksX5_worth_4 23 rfl rfl
theorem dX5_worth_0 : decode cX5_worth 0 = .ok (.aload_n 0, 1) := dk_42 (dk_at dksX5_worth_0 0 rfl rfl)
theorem dX5_worth_1 : decode cX5_worth 1 = .ok (.iconst 0, 1) := dk_3 (dk_at dksX5_worth_0 1 rfl rfl)
theorem dX5_worth_2 : decode cX5_worth 2 = .ok (.putfield 3, 3) := dk_181 0 3 (dk_at dksX5_worth_0 2 rfl rfl)
theorem dX5_worth_5 : decode cX5_worth 5 = .ok (.iload_n 1, 1) := dk_27 (dk_at dksX5_worth_0 5 rfl rfl)
theorem dX5_worth_6 : decode cX5_worth 6 = .ok (.invokestatic 81, 3) := dk_184 0 81 (dk_at dksX5_worth_0 6 rfl rfl)
theorem dX5_worth_9 : decode cX5_worth 9 = .ok (.ifCond .eq 10, 3) := dk_153 0 10 (dk_at dksX5_worth_0 9 rfl rfl)
theorem dX5_worth_12 : decode cX5_worth 12 = .ok (.aload_n 0, 1) := dk_42 (dk_at dksX5_worth_0 12 rfl rfl)
theorem dX5_worth_13 : decode cX5_worth 13 = .ok (.getfield 151, 3) := dk_180 0 151 (dk_at dksX5_worth_0 13 rfl rfl)
theorem dX5_worth_16 : decode cX5_worth 16 = .ok (.ifCond .ne 5, 3) := dk_154 0 5 (dk_at dksX5_worth_0 16 rfl rfl)
theorem dX5_worth_19 : decode cX5_worth 19 = .ok (.iconst (-1), 1) := dk_2 (dk_at dksX5_worth_0 19 rfl rfl)
theorem dX5_worth_20 : decode cX5_worth 20 = .ok (.ireturn, 1) := dk_172 (dk_at dksX5_worth_0 20 rfl rfl)
theorem dX5_worth_21 : decode cX5_worth 21 = .ok (.aload_n 0, 1) := dk_42 (dk_at dksX5_worth_0 21 rfl rfl)
theorem dX5_worth_22 : decode cX5_worth 22 = .ok (.getfield 434, 3) := dk_180 1 178 (dk_at dksX5_worth_1 0 rfl rfl)
theorem dX5_worth_25 : decode cX5_worth 25 = .ok (.ifCond .ne 6, 3) := dk_154 0 6 (dk_at dksX5_worth_1 3 rfl rfl)
theorem dX5_worth_28 : decode cX5_worth 28 = .ok (.bipush (-2), 2) := dk_16 254 (dk_at dksX5_worth_1 6 rfl rfl)
theorem dX5_worth_30 : decode cX5_worth 30 = .ok (.ireturn, 1) := dk_172 (dk_at dksX5_worth_1 8 rfl rfl)
theorem dX5_worth_31 : decode cX5_worth 31 = .ok (.aload_n 0, 1) := dk_42 (dk_at dksX5_worth_1 9 rfl rfl)
theorem dX5_worth_32 : decode cX5_worth 32 = .ok (.iconst 0, 1) := dk_3 (dk_at dksX5_worth_1 10 rfl rfl)
theorem dX5_worth_33 : decode cX5_worth 33 = .ok (.iload_n 1, 1) := dk_27 (dk_at dksX5_worth_1 11 rfl rfl)
theorem dX5_worth_34 : decode cX5_worth 34 = .ok (.invokevirtual 451, 3) := dk_182 1 195 (dk_at dksX5_worth_1 12 rfl rfl)
theorem dX5_worth_37 : decode cX5_worth 37 = .ok (.istore_n 2, 1) := dk_61 (dk_at dksX5_worth_1 15 rfl rfl)
theorem dX5_worth_38 : decode cX5_worth 38 = .ok (.iconst (-1), 1) := dk_2 (dk_at dksX5_worth_1 16 rfl rfl)
theorem dX5_worth_39 : decode cX5_worth 39 = .ok (.istore_n 3, 1) := dk_62 (dk_at dksX5_worth_1 17 rfl rfl)
theorem dX5_worth_40 : decode cX5_worth 40 = .ok (.lconst 0, 1) := dk_9 (dk_at dksX5_worth_1 18 rfl rfl)
theorem dX5_worth_41 : decode cX5_worth 41 = .ok (.lstore 4, 2) := dk_55 4 (dk_at dksX5_worth_1 19 rfl rfl)
theorem dX5_worth_43 : decode cX5_worth 43 = .ok (.aload_n 0, 1) := dk_42 (dk_at dksX5_worth_1 21 rfl rfl)
theorem dX5_worth_44 : decode cX5_worth 44 = .ok (.iconst 0, 1) := dk_3 (dk_at dksX5_worth_1 22 rfl rfl)
theorem dX5_worth_45 : decode cX5_worth 45 = .ok (.putfield 11, 3) := dk_181 0 11 (dk_at dksX5_worth_2 0 rfl rfl)
theorem dX5_worth_48 : decode cX5_worth 48 = .ok (.iconst 0, 1) := dk_3 (dk_at dksX5_worth_2 3 rfl rfl)
theorem dX5_worth_49 : decode cX5_worth 49 = .ok (.istore 6, 2) := dk_54 6 (dk_at dksX5_worth_2 4 rfl rfl)
theorem dX5_worth_51 : decode cX5_worth 51 = .ok (.iload 6, 2) := dk_21 6 (dk_at dksX5_worth_2 6 rfl rfl)
theorem dX5_worth_53 : decode cX5_worth 53 = .ok (.aload_n 0, 1) := dk_42 (dk_at dksX5_worth_2 8 rfl rfl)
theorem dX5_worth_54 : decode cX5_worth 54 = .ok (.getfield 434, 3) := dk_180 1 178 (dk_at dksX5_worth_2 9 rfl rfl)
theorem dX5_worth_57 : decode cX5_worth 57 = .ok (.if_icmp .ge 67, 3) := dk_162 0 67 (dk_at dksX5_worth_2 12 rfl rfl)
theorem dX5_worth_60 : decode cX5_worth 60 = .ok (.aload_n 0, 1) := dk_42 (dk_at dksX5_worth_2 15 rfl rfl)
theorem dX5_worth_61 : decode cX5_worth 61 = .ok (.iconst 1, 1) := dk_4 (dk_at dksX5_worth_2 16 rfl rfl)
theorem dX5_worth_62 : decode cX5_worth 62 = .ok (.iload 6, 2) := dk_21 6 (dk_at dksX5_worth_2 17 rfl rfl)
theorem dX5_worth_64 : decode cX5_worth 64 = .ok (.ishl, 1) := dk_120 (dk_at dksX5_worth_2 19 rfl rfl)
theorem dX5_worth_65 : decode cX5_worth 65 = .ok (.iload_n 1, 1) := dk_27 (dk_at dksX5_worth_2 20 rfl rfl)
theorem dX5_worth_66 : decode cX5_worth 66 = .ok (.invokevirtual 451, 3) := dk_182 1 195 (dk_at dksX5_worth_2 21 rfl rfl)
theorem dX5_worth_69 : decode cX5_worth 69 = .ok (.istore 7, 2) := dk_54 7 (dk_at dksX5_worth_3 0 rfl rfl)
theorem dX5_worth_71 : decode cX5_worth 71 = .ok (.iload 7, 2) := dk_21 7 (dk_at dksX5_worth_3 2 rfl rfl)
theorem dX5_worth_73 : decode cX5_worth 73 = .ok (.ifCond .lt 7, 3) := dk_155 0 7 (dk_at dksX5_worth_3 4 rfl rfl)
theorem dX5_worth_76 : decode cX5_worth 76 = .ok (.iload_n 2, 1) := dk_28 (dk_at dksX5_worth_3 7 rfl rfl)
theorem dX5_worth_77 : decode cX5_worth 77 = .ok (.ifCond .ge 9, 3) := dk_156 0 9 (dk_at dksX5_worth_3 8 rfl rfl)
theorem dX5_worth_80 : decode cX5_worth 80 = .ok (.ldc2_w 454, 3) := dk_20 1 198 (dk_at dksX5_worth_3 11 rfl rfl)
theorem dX5_worth_83 : decode cX5_worth 83 = .ok (.goto 8, 3) := dk_167 0 8 (dk_at dksX5_worth_3 14 rfl rfl)
theorem dX5_worth_86 : decode cX5_worth 86 = .ok (.iload_n 2, 1) := dk_28 (dk_at dksX5_worth_3 17 rfl rfl)
theorem dX5_worth_87 : decode cX5_worth 87 = .ok (.iload 7, 2) := dk_21 7 (dk_at dksX5_worth_3 18 rfl rfl)
theorem dX5_worth_89 : decode cX5_worth 89 = .ok (.isub, 1) := dk_100 (dk_at dksX5_worth_3 20 rfl rfl)
theorem dX5_worth_90 : decode cX5_worth 90 = .ok (.i2l, 1) := dk_133 (dk_at dksX5_worth_3 21 rfl rfl)
theorem dX5_worth_91 : decode cX5_worth 91 = .ok (.lstore 8, 2) := dk_55 8 (dk_at dksX5_worth_3 22 rfl rfl)
theorem dX5_worth_93 : decode cX5_worth 93 = .ok (.aload_n 0, 1) := dk_42 (dk_at dksX5_worth_4 0 rfl rfl)
theorem dX5_worth_94 : decode cX5_worth 94 = .ok (.lload 8, 2) := dk_22 8 (dk_at dksX5_worth_4 1 rfl rfl)
theorem dX5_worth_96 : decode cX5_worth 96 = .ok (.invokevirtual 18, 3) := dk_182 0 18 (dk_at dksX5_worth_4 3 rfl rfl)
theorem dX5_worth_99 : decode cX5_worth 99 = .ok (.iload_n 3, 1) := dk_29 (dk_at dksX5_worth_4 6 rfl rfl)
theorem dX5_worth_100 : decode cX5_worth 100 = .ok (.ifCond .lt 11, 3) := dk_155 0 11 (dk_at dksX5_worth_4 7 rfl rfl)
theorem dX5_worth_103 : decode cX5_worth 103 = .ok (.lload 8, 2) := dk_22 8 (dk_at dksX5_worth_4 10 rfl rfl)
theorem dX5_worth_105 : decode cX5_worth 105 = .ok (.lload 4, 2) := dk_22 4 (dk_at dksX5_worth_4 12 rfl rfl)
theorem dX5_worth_107 : decode cX5_worth 107 = .ok (.lcmp, 1) := dk_148 (dk_at dksX5_worth_4 14 rfl rfl)
theorem dX5_worth_108 : decode cX5_worth 108 = .ok (.ifCond .le 10, 3) := dk_158 0 10 (dk_at dksX5_worth_4 15 rfl rfl)
theorem dX5_worth_111 : decode cX5_worth 111 = .ok (.iload 6, 2) := dk_21 6 (dk_at dksX5_worth_4 18 rfl rfl)
theorem dX5_worth_113 : decode cX5_worth 113 = .ok (.istore_n 3, 1) := dk_62 (dk_at dksX5_worth_4 20 rfl rfl)
theorem dX5_worth_114 : decode cX5_worth 114 = .ok (.lload 8, 2) := dk_22 8 (dk_at dksX5_worth_4 21 rfl rfl)
theorem dX5_worth_116 : decode cX5_worth 116 = .ok (.lstore 4, 2) := dk_55 4 (dk_at dksX5_worth_5 0 rfl rfl)
theorem dX5_worth_118 : decode cX5_worth 118 = .ok (.iinc 6 1, 3) := dk_132 6 1 (dk_at dksX5_worth_5 2 rfl rfl)
theorem dX5_worth_121 : decode cX5_worth 121 = .ok (.goto (-70), 3) := dk_167 255 186 (dk_at dksX5_worth_5 5 rfl rfl)
theorem dX5_worth_124 : decode cX5_worth 124 = .ok (.iload_n 3, 1) := dk_29 (dk_at dksX5_worth_5 8 rfl rfl)
theorem dX5_worth_125 : decode cX5_worth 125 = .ok (.ireturn, 1) := dk_172 (dk_at dksX5_worth_5 9 rfl rfl)
def dkwX5_wrong_8 : List UInt8 := [167, 255, 234, 42, 3, 181, 0, 11, 42, 22, 5, 32, 182, 1, 203, 3, 172]
abbrev dktX5_wrong_8 : List UInt8 := dkwX5_wrong_8 ++ []
def dkwX5_wrong_7 : List UInt8 := [54, 7, 21, 7, 16, 9, 162, 0, 21, 22, 5, 42, 180, 1, 200, 21, 7, 47, 97, 55, 5, 132, 7, 1]
abbrev dktX5_wrong_7 : List UInt8 := dkwX5_wrong_7 ++ dktX5_wrong_8
def dkwX5_wrong_6 : List UInt8 := [80, 132, 7, 255, 167, 255, 204, 32, 20, 0, 106, 105, 65, 132, 5, 1, 167, 255, 169, 9, 55, 5, 27]
abbrev dktX5_wrong_6 : List UInt8 := dkwX5_wrong_6 ++ dktX5_wrong_7
def dkwX5_wrong_5 : List UInt8 := [105, 21, 7, 158, 0, 19, 42, 180, 1, 200, 21, 7, 4, 100, 47, 21, 6, 133, 105, 167, 0, 4, 9, 97]
abbrev dktX5_wrong_5 : List UInt8 := dkwX5_wrong_5 ++ dktX5_wrong_6
def dkwX5_wrong_4 : List UInt8 := [21, 7, 155, 0, 53, 42, 180, 1, 200, 21, 7, 42, 180, 1, 200, 21, 7, 47, 16, 100, 21, 6, 100, 133]
abbrev dktX5_wrong_4 : List UInt8 := dkwX5_wrong_4 ++ dktX5_wrong_5
def dkwX5_wrong_3 : List UInt8 := [21, 5, 21, 4, 162, 0, 86, 42, 180, 0, 140, 16, 67, 21, 5, 96, 46, 54, 6, 16, 8, 54, 7]
abbrev dktX5_wrong_3 : List UInt8 := dkwX5_wrong_3 ++ dktX5_wrong_4
def dkwX5_wrong_2 : List UInt8 := [132, 2, 1, 167, 255, 228, 10, 65, 16, 8, 42, 180, 0, 140, 5, 46, 184, 0, 95, 54, 4, 3, 54, 5]
abbrev dktX5_wrong_2 : List UInt8 := dkwX5_wrong_2 ++ dktX5_wrong_3
def dkwX5_wrong_1 : List UInt8 := [162, 0, 28, 42, 180, 1, 200, 28, 28, 154, 0, 7, 4, 167, 0, 4, 3, 184, 0, 124, 133, 80]
abbrev dktX5_wrong_1 : List UInt8 := dkwX5_wrong_1 ++ dktX5_wrong_2
def dkwX5_wrong_0 : List UInt8 := [42, 3, 181, 0, 3, 27, 133, 9, 20, 1, 55, 184, 0, 25, 154, 0, 5, 2, 172, 3, 61, 28, 16, 9]
abbrev dktX5_wrong_0 : List UInt8 := dkwX5_wrong_0 ++ dktX5_wrong_1
theorem dksX5_wrong_0 : cX5_wrong.data.toList.drop 0 = dktX5_wrong_0 := by decide +kernel
theorem dksX5_wrong_1 : cX5_wrong.data.toList.drop 24 = dktX5_wrong_1 := dk_seg dksX5_wrong_0 24 rfl rfl
theorem dksX5_wrong_2 : cX5_wrong.data.toList.drop 46 = dktX5_wrong_2 := dk_seg dksX5_wrong_1 22 rfl rfl
theorem dksX5_wrong_3 : cX5_wrong.data.toList.drop 70 = dktX5_wrong_3 := dk_seg dksX5_wrong_2 24 rfl rfl
theorem dksX5_wrong_4 : cX5_wrong.data.toList.drop 93 = dktX5_wrong_4 := dk_seg dksX5_wrong_3 23 rfl rfl
theorem dksX5_wrong_5 : cX5_wrong.data.toList.drop 117 = dktX5_wrong_5 := dk_seg dksX5_wrong_4 24 rfl rfl
theorem dksX5_wrong_6 : cX5_wrong.data.toList.drop 141 = dktX5_wrong_6 := dk_seg dksX5_wrong_5 24 rfl rfl
theorem dksX5_wrong_7 : cX5_wrong.data.toList.drop 164 = dktX5_wrong_7 := dk_seg dksX5_wrong_6 23 rfl rfl
theorem dksX5_wrong_8 : cX5_wrong.data.toList.drop 188 = dktX5_wrong_8 := dk_seg dksX5_wrong_7 24 rfl rfl
theorem dX5_wrong_0 : decode cX5_wrong 0 = .ok (.aload_n 0, 1) := dk_42 (dk_at dksX5_wrong_0 0 rfl rfl)
theorem dX5_wrong_1 : decode cX5_wrong 1 = .ok (.iconst 0, 1) := dk_3 (dk_at dksX5_wrong_0 1 rfl rfl)
theorem dX5_wrong_2 : decode cX5_wrong 2 = .ok (.putfield 3, 3) := dk_181 0 3 (dk_at dksX5_wrong_0 2 rfl rfl)
theorem dX5_wrong_5 : decode cX5_wrong 5 = .ok (.iload_n 1, 1) := dk_27 (dk_at dksX5_wrong_0 5 rfl rfl)
theorem dX5_wrong_6 : decode cX5_wrong 6 = .ok (.i2l, 1) := dk_133 (dk_at dksX5_wrong_0 6 rfl rfl)
theorem dX5_wrong_7 : decode cX5_wrong 7 = .ok (.lconst 0, 1) := dk_9 (dk_at dksX5_wrong_0 7 rfl rfl)
theorem dX5_wrong_8 : decode cX5_wrong 8 = .ok (.ldc2_w 311, 3) := dk_20 1 55 (dk_at dksX5_wrong_0 8 rfl rfl)
theorem dX5_wrong_11 : decode cX5_wrong 11 = .ok (.invokestatic 25, 3) := dk_184 0 25 (dk_at dksX5_wrong_0 11 rfl rfl)
theorem dX5_wrong_14 : decode cX5_wrong 14 = .ok (.ifCond .ne 5, 3) := dk_154 0 5 (dk_at dksX5_wrong_0 14 rfl rfl)
theorem dX5_wrong_17 : decode cX5_wrong 17 = .ok (.iconst (-1), 1) := dk_2 (dk_at dksX5_wrong_0 17 rfl rfl)
theorem dX5_wrong_18 : decode cX5_wrong 18 = .ok (.ireturn, 1) := dk_172 (dk_at dksX5_wrong_0 18 rfl rfl)
theorem dX5_wrong_19 : decode cX5_wrong 19 = .ok (.iconst 0, 1) := dk_3 (dk_at dksX5_wrong_0 19 rfl rfl)
theorem dX5_wrong_20 : decode cX5_wrong 20 = .ok (.istore_n 2, 1) := dk_61 (dk_at dksX5_wrong_0 20 rfl rfl)
theorem dX5_wrong_21 : decode cX5_wrong 21 = .ok (.iload_n 2, 1) := dk_28 (dk_at dksX5_wrong_0 21 rfl rfl)
theorem dX5_wrong_22 : decode cX5_wrong 22 = .ok (.bipush 9, 2) := dk_16 9 (dk_at dksX5_wrong_0 22 rfl rfl)
theorem dX5_wrong_24 : decode cX5_wrong 24 = .ok (.if_icmp .ge 28, 3) := dk_162 0 28 (dk_at dksX5_wrong_1 0 rfl rfl)
theorem dX5_wrong_27 : decode cX5_wrong 27 = .ok (.aload_n 0, 1) := dk_42 (dk_at dksX5_wrong_1 3 rfl rfl)
theorem dX5_wrong_28 : decode cX5_wrong 28 = .ok (.getfield 456, 3) := dk_180 1 200 (dk_at dksX5_wrong_1 4 rfl rfl)
theorem dX5_wrong_31 : decode cX5_wrong 31 = .ok (.iload_n 2, 1) := dk_28 (dk_at dksX5_wrong_1 7 rfl rfl)
theorem dX5_wrong_32 : decode cX5_wrong 32 = .ok (.iload_n 2, 1) := dk_28 (dk_at dksX5_wrong_1 8 rfl rfl)
theorem dX5_wrong_33 : decode cX5_wrong 33 = .ok (.ifCond .ne 7, 3) := dk_154 0 7 (dk_at dksX5_wrong_1 9 rfl rfl)
theorem dX5_wrong_36 : decode cX5_wrong 36 = .ok (.iconst 1, 1) := dk_4 (dk_at dksX5_wrong_1 12 rfl rfl)
theorem dX5_wrong_37 : decode cX5_wrong 37 = .ok (.goto 4, 3) := dk_167 0 4 (dk_at dksX5_wrong_1 13 rfl rfl)
theorem dX5_wrong_40 : decode cX5_wrong 40 = .ok (.iconst 0, 1) := dk_3 (dk_at dksX5_wrong_1 16 rfl rfl)
theorem dX5_wrong_41 : decode cX5_wrong 41 = .ok (.invokestatic 124, 3) := dk_184 0 124 (dk_at dksX5_wrong_1 17 rfl rfl)
theorem dX5_wrong_44 : decode cX5_wrong 44 = .ok (.i2l, 1) := dk_133 (dk_at dksX5_wrong_1 20 rfl rfl)
theorem dX5_wrong_45 : decode cX5_wrong 45 = .ok (.lastore, 1) := dk_80 (dk_at dksX5_wrong_1 21 rfl rfl)
theorem dX5_wrong_46 : decode cX5_wrong 46 = .ok (.iinc 2 1, 3) := dk_132 2 1 (dk_at dksX5_wrong_2 0 rfl rfl)
theorem dX5_wrong_49 : decode cX5_wrong 49 = .ok (.goto (-28), 3) := dk_167 255 228 (dk_at dksX5_wrong_2 3 rfl rfl)
theorem dX5_wrong_52 : decode cX5_wrong 52 = .ok (.lconst 1, 1) := dk_10 (dk_at dksX5_wrong_2 6 rfl rfl)
theorem dX5_wrong_53 : decode cX5_wrong 53 = .ok (.lstore_n 2, 1) := dk_65 (dk_at dksX5_wrong_2 7 rfl rfl)
theorem dX5_wrong_54 : decode cX5_wrong 54 = .ok (.bipush 8, 2) := dk_16 8 (dk_at dksX5_wrong_2 8 rfl rfl)
theorem dX5_wrong_56 : decode cX5_wrong 56 = .ok (.aload_n 0, 1) := dk_42 (dk_at dksX5_wrong_2 10 rfl rfl)
theorem dX5_wrong_57 : decode cX5_wrong 57 = .ok (.getfield 140, 3) := dk_180 0 140 (dk_at dksX5_wrong_2 11 rfl rfl)
theorem dX5_wrong_60 : decode cX5_wrong 60 = .ok (.iconst 2, 1) := dk_5 (dk_at dksX5_wrong_2 14 rfl rfl)
theorem dX5_wrong_61 : decode cX5_wrong 61 = .ok (.iaload, 1) := dk_46 (dk_at dksX5_wrong_2 15 rfl rfl)
theorem dX5_wrong_62 : decode cX5_wrong 62 = .ok (.invokestatic 95, 3) := dk_184 0 95 (dk_at dksX5_wrong_2 16 rfl rfl)
theorem dX5_wrong_65 : decode cX5_wrong 65 = .ok (.istore 4, 2) := dk_54 4 (dk_at dksX5_wrong_2 19 rfl rfl)
theorem dX5_wrong_67 : decode cX5_wrong 67 = .ok (.iconst 0, 1) := dk_3 (dk_at dksX5_wrong_2 21 rfl rfl)
theorem dX5_wrong_68 : decode cX5_wrong 68 = .ok (.istore 5, 2) := dk_54 5 (dk_at dksX5_wrong_2 22 rfl rfl)
theorem dX5_wrong_70 : decode cX5_wrong 70 = .ok (.iload 5, 2) := dk_21 5 (dk_at dksX5_wrong_3 0 rfl rfl)
theorem dX5_wrong_72 : decode cX5_wrong 72 = .ok (.iload 4, 2) := dk_21 4 (dk_at dksX5_wrong_3 2 rfl rfl)
theorem dX5_wrong_74 : decode cX5_wrong 74 = .ok (.if_icmp .ge 86, 3) := dk_162 0 86 (dk_at dksX5_wrong_3 4 rfl rfl)
theorem dX5_wrong_77 : decode cX5_wrong 77 = .ok (.aload_n 0, 1) := dk_42 (dk_at dksX5_wrong_3 7 rfl rfl)
theorem dX5_wrong_78 : decode cX5_wrong 78 = .ok (.getfield 140, 3) := dk_180 0 140 (dk_at dksX5_wrong_3 8 rfl rfl)
theorem dX5_wrong_81 : decode cX5_wrong 81 = .ok (.bipush 67, 2) := dk_16 67 (dk_at dksX5_wrong_3 11 rfl rfl)
theorem dX5_wrong_83 : decode cX5_wrong 83 = .ok (.iload 5, 2) := dk_21 5 (dk_at dksX5_wrong_3 13 rfl rfl)
theorem dX5_wrong_85 : decode cX5_wrong 85 = .ok (.iadd, 1) := dk_96 (dk_at dksX5_wrong_3 15 rfl rfl)
theorem dX5_wrong_86 : decode cX5_wrong 86 = .ok (.iaload, 1) := dk_46 (dk_at dksX5_wrong_3 16 rfl rfl)
theorem dX5_wrong_87 : decode cX5_wrong 87 = .ok (.istore 6, 2) := dk_54 6 (dk_at dksX5_wrong_3 17 rfl rfl)
theorem dX5_wrong_89 : decode cX5_wrong 89 = .ok (.bipush 8, 2) := dk_16 8 (dk_at dksX5_wrong_3 19 rfl rfl)
theorem dX5_wrong_91 : decode cX5_wrong 91 = .ok (.istore 7, 2) := dk_54 7 (dk_at dksX5_wrong_3 21 rfl rfl)
theorem dX5_wrong_93 : decode cX5_wrong 93 = .ok (.iload 7, 2) := dk_21 7 (dk_at dksX5_wrong_4 0 rfl rfl)
theorem dX5_wrong_95 : decode cX5_wrong 95 = .ok (.ifCond .lt 53, 3) := dk_155 0 53 (dk_at dksX5_wrong_4 2 rfl rfl)
theorem dX5_wrong_98 : decode cX5_wrong 98 = .ok (.aload_n 0, 1) := dk_42 (dk_at dksX5_wrong_4 5 rfl rfl)
theorem dX5_wrong_99 : decode cX5_wrong 99 = .ok (.getfield 456, 3) := dk_180 1 200 (dk_at dksX5_wrong_4 6 rfl rfl)
theorem dX5_wrong_102 : decode cX5_wrong 102 = .ok (.iload 7, 2) := dk_21 7 (dk_at dksX5_wrong_4 9 rfl rfl)
theorem dX5_wrong_104 : decode cX5_wrong 104 = .ok (.aload_n 0, 1) := dk_42 (dk_at dksX5_wrong_4 11 rfl rfl)
theorem dX5_wrong_105 : decode cX5_wrong 105 = .ok (.getfield 456, 3) := dk_180 1 200 (dk_at dksX5_wrong_4 12 rfl rfl)
theorem dX5_wrong_108 : decode cX5_wrong 108 = .ok (.iload 7, 2) := dk_21 7 (dk_at dksX5_wrong_4 15 rfl rfl)
theorem dX5_wrong_110 : decode cX5_wrong 110 = .ok (.laload, 1) := dk_47 (dk_at dksX5_wrong_4 17 rfl rfl)
theorem dX5_wrong_111 : decode cX5_wrong 111 = .ok (.bipush 100, 2) := dk_16 100 (dk_at dksX5_wrong_4 18 rfl rfl)
theorem dX5_wrong_113 : decode cX5_wrong 113 = .ok (.iload 6, 2) := dk_21 6 (dk_at dksX5_wrong_4 20 rfl rfl)
theorem dX5_wrong_115 : decode cX5_wrong 115 = .ok (.isub, 1) := dk_100 (dk_at dksX5_wrong_4 22 rfl rfl)
theorem dX5_wrong_116 : decode cX5_wrong 116 = .ok (.i2l, 1) := dk_133 (dk_at dksX5_wrong_4 23 rfl rfl)
theorem dX5_wrong_117 : decode cX5_wrong 117 = .ok (.lmul, 1) := dk_105 (dk_at dksX5_wrong_5 0 rfl rfl)
theorem dX5_wrong_118 : decode cX5_wrong 118 = .ok (.iload 7, 2) := dk_21 7 (dk_at dksX5_wrong_5 1 rfl rfl)
theorem dX5_wrong_120 : decode cX5_wrong 120 = .ok (.ifCond .le 19, 3) := dk_158 0 19 (dk_at dksX5_wrong_5 3 rfl rfl)
theorem dX5_wrong_123 : decode cX5_wrong 123 = .ok (.aload_n 0, 1) := dk_42 (dk_at dksX5_wrong_5 6 rfl rfl)
theorem dX5_wrong_124 : decode cX5_wrong 124 = .ok (.getfield 456, 3) := dk_180 1 200 (dk_at dksX5_wrong_5 7 rfl rfl)
theorem dX5_wrong_127 : decode cX5_wrong 127 = .ok (.iload 7, 2) := dk_21 7 (dk_at dksX5_wrong_5 10 rfl rfl)
theorem dX5_wrong_129 : decode cX5_wrong 129 = .ok (.iconst 1, 1) := dk_4 (dk_at dksX5_wrong_5 12 rfl rfl)
theorem dX5_wrong_130 : decode cX5_wrong 130 = .ok (.isub, 1) := dk_100 (dk_at dksX5_wrong_5 13 rfl rfl)
theorem dX5_wrong_131 : decode cX5_wrong 131 = .ok (.laload, 1) := dk_47 (dk_at dksX5_wrong_5 14 rfl rfl)
theorem dX5_wrong_132 : decode cX5_wrong 132 = .ok (.iload 6, 2) := dk_21 6 (dk_at dksX5_wrong_5 15 rfl rfl)
theorem dX5_wrong_134 : decode cX5_wrong 134 = .ok (.i2l, 1) := dk_133 (dk_at dksX5_wrong_5 17 rfl rfl)
theorem dX5_wrong_135 : decode cX5_wrong 135 = .ok (.lmul, 1) := dk_105 (dk_at dksX5_wrong_5 18 rfl rfl)
theorem dX5_wrong_136 : decode cX5_wrong 136 = .ok (.goto 4, 3) := dk_167 0 4 (dk_at dksX5_wrong_5 19 rfl rfl)
theorem dX5_wrong_139 : decode cX5_wrong 139 = .ok (.lconst 0, 1) := dk_9 (dk_at dksX5_wrong_5 22 rfl rfl)
theorem dX5_wrong_140 : decode cX5_wrong 140 = .ok (.ladd, 1) := dk_97 (dk_at dksX5_wrong_5 23 rfl rfl)
theorem dX5_wrong_141 : decode cX5_wrong 141 = .ok (.lastore, 1) := dk_80 (dk_at dksX5_wrong_6 0 rfl rfl)
theorem dX5_wrong_142 : decode cX5_wrong 142 = .ok (.iinc 7 (-1), 3) := dk_132 7 255 (dk_at dksX5_wrong_6 1 rfl rfl)
theorem dX5_wrong_145 : decode cX5_wrong 145 = .ok (.goto (-52), 3) := dk_167 255 204 (dk_at dksX5_wrong_6 4 rfl rfl)
theorem dX5_wrong_148 : decode cX5_wrong 148 = .ok (.lload_n 2, 1) := dk_32 (dk_at dksX5_wrong_6 7 rfl rfl)
theorem dX5_wrong_149 : decode cX5_wrong 149 = .ok (.ldc2_w 106, 3) := dk_20 0 106 (dk_at dksX5_wrong_6 8 rfl rfl)
theorem dX5_wrong_152 : decode cX5_wrong 152 = .ok (.lmul, 1) := dk_105 (dk_at dksX5_wrong_6 11 rfl rfl)
theorem dX5_wrong_153 : decode cX5_wrong 153 = .ok (.lstore_n 2, 1) := dk_65 (dk_at dksX5_wrong_6 12 rfl rfl)
theorem dX5_wrong_154 : decode cX5_wrong 154 = .ok (.iinc 5 1, 3) := dk_132 5 1 (dk_at dksX5_wrong_6 13 rfl rfl)
theorem dX5_wrong_157 : decode cX5_wrong 157 = .ok (.goto (-87), 3) := dk_167 255 169 (dk_at dksX5_wrong_6 16 rfl rfl)
theorem dX5_wrong_160 : decode cX5_wrong 160 = .ok (.lconst 0, 1) := dk_9 (dk_at dksX5_wrong_6 19 rfl rfl)
theorem dX5_wrong_161 : decode cX5_wrong 161 = .ok (.lstore 5, 2) := dk_55 5 (dk_at dksX5_wrong_6 20 rfl rfl)
theorem dX5_wrong_163 : decode cX5_wrong 163 = .ok (.iload_n 1, 1) := dk_27 (dk_at dksX5_wrong_6 22 rfl rfl)
theorem dX5_wrong_164 : decode cX5_wrong 164 = .ok (.istore 7, 2) := dk_54 7 (dk_at dksX5_wrong_7 0 rfl rfl)
theorem dX5_wrong_166 : decode cX5_wrong 166 = .ok (.iload 7, 2) := dk_21 7 (dk_at dksX5_wrong_7 2 rfl rfl)
theorem dX5_wrong_168 : decode cX5_wrong 168 = .ok (.bipush 9, 2) := dk_16 9 (dk_at dksX5_wrong_7 4 rfl rfl)
theorem dX5_wrong_170 : decode cX5_wrong 170 = .ok (.if_icmp .ge 21, 3) := dk_162 0 21 (dk_at dksX5_wrong_7 6 rfl rfl)
theorem dX5_wrong_173 : decode cX5_wrong 173 = .ok (.lload 5, 2) := dk_22 5 (dk_at dksX5_wrong_7 9 rfl rfl)
theorem dX5_wrong_175 : decode cX5_wrong 175 = .ok (.aload_n 0, 1) := dk_42 (dk_at dksX5_wrong_7 11 rfl rfl)
theorem dX5_wrong_176 : decode cX5_wrong 176 = .ok (.getfield 456, 3) := dk_180 1 200 (dk_at dksX5_wrong_7 12 rfl rfl)
theorem dX5_wrong_179 : decode cX5_wrong 179 = .ok (.iload 7, 2) := dk_21 7 (dk_at dksX5_wrong_7 15 rfl rfl)
theorem dX5_wrong_181 : decode cX5_wrong 181 = .ok (.laload, 1) := dk_47 (dk_at dksX5_wrong_7 17 rfl rfl)
theorem dX5_wrong_182 : decode cX5_wrong 182 = .ok (.ladd, 1) := dk_97 (dk_at dksX5_wrong_7 18 rfl rfl)
theorem dX5_wrong_183 : decode cX5_wrong 183 = .ok (.lstore 5, 2) := dk_55 5 (dk_at dksX5_wrong_7 19 rfl rfl)
theorem dX5_wrong_185 : decode cX5_wrong 185 = .ok (.iinc 7 1, 3) := dk_132 7 1 (dk_at dksX5_wrong_7 21 rfl rfl)
theorem dX5_wrong_188 : decode cX5_wrong 188 = .ok (.goto (-22), 3) := dk_167 255 234 (dk_at dksX5_wrong_8 0 rfl rfl)
theorem dX5_wrong_191 : decode cX5_wrong 191 = .ok (.aload_n 0, 1) := dk_42 (dk_at dksX5_wrong_8 3 rfl rfl)
theorem dX5_wrong_192 : decode cX5_wrong 192 = .ok (.iconst 0, 1) := dk_3 (dk_at dksX5_wrong_8 4 rfl rfl)
theorem dX5_wrong_193 : decode cX5_wrong 193 = .ok (.putfield 11, 3) := dk_181 0 11 (dk_at dksX5_wrong_8 5 rfl rfl)
theorem dX5_wrong_196 : decode cX5_wrong 196 = .ok (.aload_n 0, 1) := dk_42 (dk_at dksX5_wrong_8 8 rfl rfl)
theorem dX5_wrong_197 : decode cX5_wrong 197 = .ok (.lload 5, 2) := dk_22 5 (dk_at dksX5_wrong_8 9 rfl rfl)
theorem dX5_wrong_199 : decode cX5_wrong 199 = .ok (.lload_n 2, 1) := dk_32 (dk_at dksX5_wrong_8 11 rfl rfl)
theorem dX5_wrong_200 : decode cX5_wrong 200 = .ok (.invokevirtual 459, 3) := dk_182 1 203 (dk_at dksX5_wrong_8 12 rfl rfl)
theorem dX5_wrong_203 : decode cX5_wrong 203 = .ok (.iconst 0, 1) := dk_3 (dk_at dksX5_wrong_8 15 rfl rfl)
theorem dX5_wrong_204 : decode cX5_wrong 204 = .ok (.ireturn, 1) := dk_172 (dk_at dksX5_wrong_8 16 rfl rfl)
