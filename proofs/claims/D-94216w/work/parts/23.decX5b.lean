set_option maxRecDepth 100000
def dkwX5_ranked_5 : List UInt8 := [21, 5, 96, 182, 0, 206, 27, 5, 159, 0, 7, 4, 167, 0, 4, 3, 54, 4, 167, 255, 184, 29, 172]
abbrev dktX5_ranked_5 : List UInt8 := dkwX5_ranked_5 ++ []
def dkwX5_ranked_4 : List UInt8 := [180, 0, 176, 4, 96, 181, 0, 176, 42, 27, 4, 96, 182, 0, 220, 62, 29, 153, 0, 13, 42, 17, 7, 208]
abbrev dktX5_ranked_4 : List UInt8 := dkwX5_ranked_4 ++ dktX5_ranked_5
def dkwX5_ranked_3 : List UInt8 := [153, 0, 69, 42, 44, 182, 0, 211, 155, 0, 61, 42, 180, 0, 173, 42, 180, 0, 176, 46, 54, 5, 42, 89]
abbrev dktX5_ranked_3 : List UInt8 := dkwX5_ranked_3 ++ dktX5_ranked_4
def dkwX5_ranked_2 : List UInt8 := [167, 0, 5, 18, 241, 77, 42, 27, 4, 96, 182, 0, 220, 62, 4, 54, 4, 29, 153, 0, 74, 21, 4]
abbrev dktX5_ranked_2 : List UInt8 := dkwX5_ranked_2 ++ dktX5_ranked_3
def dkwX5_ranked_1 : List UInt8 := [18, 235, 167, 0, 25, 27, 5, 160, 0, 8, 18, 237, 167, 0, 15, 27, 6, 160, 0, 8, 18, 239]
abbrev dktX5_ranked_1 : List UInt8 := dkwX5_ranked_1 ++ dktX5_ranked_2
def dkwX5_ranked_0 : List UInt8 := [27, 8, 160, 0, 8, 42, 182, 0, 230, 172, 27, 154, 0, 8, 18, 233, 167, 0, 35, 27, 4, 160, 0, 8]
abbrev dktX5_ranked_0 : List UInt8 := dkwX5_ranked_0 ++ dktX5_ranked_1
theorem dksX5_ranked_0 : cX5_ranked.data.toList.drop 0 = dktX5_ranked_0 := by decide +kernel
theorem dksX5_ranked_1 : cX5_ranked.data.toList.drop 24 = dktX5_ranked_1 := dk_seg dksX5_ranked_0 24 rfl rfl
theorem dksX5_ranked_2 : cX5_ranked.data.toList.drop 46 = dktX5_ranked_2 := dk_seg dksX5_ranked_1 22 rfl rfl
theorem dksX5_ranked_3 : cX5_ranked.data.toList.drop 69 = dktX5_ranked_3 := dk_seg dksX5_ranked_2 23 rfl rfl
theorem dksX5_ranked_4 : cX5_ranked.data.toList.drop 93 = dktX5_ranked_4 := dk_seg dksX5_ranked_3 24 rfl rfl
theorem dksX5_ranked_5 : cX5_ranked.data.toList.drop 117 = dktX5_ranked_5 := dk_seg dksX5_ranked_4 24 rfl rfl
theorem dX5_ranked_0 : decode cX5_ranked 0 = .ok (.iload_n 1, 1) := dk_27 (dk_at dksX5_ranked_0 0 rfl rfl)
theorem dX5_ranked_1 : decode cX5_ranked 1 = .ok (.iconst 5, 1) := dk_8 (dk_at dksX5_ranked_0 1 rfl rfl)
theorem dX5_ranked_2 : decode cX5_ranked 2 = .ok (.if_icmp .ne 8, 3) := dk_160 0 8 (dk_at dksX5_ranked_0 2 rfl rfl)
theorem dX5_ranked_5 : decode cX5_ranked 5 = .ok (.aload_n 0, 1) := dk_42 (dk_at dksX5_ranked_0 5 rfl rfl)
theorem dX5_ranked_6 : decode cX5_ranked 6 = .ok (.invokevirtual 230, 3) := dk_182 0 230 (dk_at dksX5_ranked_0 6 rfl rfl)
theorem dX5_ranked_9 : decode cX5_ranked 9 = .ok (.ireturn, 1) := dk_172 (dk_at dksX5_ranked_0 9 rfl rfl)
theorem dX5_ranked_10 : decode cX5_ranked 10 = .ok (.iload_n 1, 1) := dk_27 (dk_at dksX5_ranked_0 10 rfl rfl)
theorem dX5_ranked_11 : decode cX5_ranked 11 = .ok (.ifCond .ne 8, 3) := dk_154 0 8 (dk_at dksX5_ranked_0 11 rfl rfl)
theorem dX5_ranked_14 : decode cX5_ranked 14 = .ok (.ldc 233, 2) := dk_18 233 (dk_at dksX5_ranked_0 14 rfl rfl)
theorem dX5_ranked_16 : decode cX5_ranked 16 = .ok (.goto 35, 3) := dk_167 0 35 (dk_at dksX5_ranked_0 16 rfl rfl)
theorem dX5_ranked_19 : decode cX5_ranked 19 = .ok (.iload_n 1, 1) := dk_27 (dk_at dksX5_ranked_0 19 rfl rfl)
theorem dX5_ranked_20 : decode cX5_ranked 20 = .ok (.iconst 1, 1) := dk_4 (dk_at dksX5_ranked_0 20 rfl rfl)
theorem dX5_ranked_21 : decode cX5_ranked 21 = .ok (.if_icmp .ne 8, 3) := dk_160 0 8 (dk_at dksX5_ranked_0 21 rfl rfl)
theorem dX5_ranked_24 : decode cX5_ranked 24 = .ok (.ldc 235, 2) := dk_18 235 (dk_at dksX5_ranked_1 0 rfl rfl)
theorem dX5_ranked_26 : decode cX5_ranked 26 = .ok (.goto 25, 3) := dk_167 0 25 (dk_at dksX5_ranked_1 2 rfl rfl)
theorem dX5_ranked_29 : decode cX5_ranked 29 = .ok (.iload_n 1, 1) := dk_27 (dk_at dksX5_ranked_1 5 rfl rfl)
theorem dX5_ranked_30 : decode cX5_ranked 30 = .ok (.iconst 2, 1) := dk_5 (dk_at dksX5_ranked_1 6 rfl rfl)
theorem dX5_ranked_31 : decode cX5_ranked 31 = .ok (.if_icmp .ne 8, 3) := dk_160 0 8 (dk_at dksX5_ranked_1 7 rfl rfl)
theorem dX5_ranked_34 : decode cX5_ranked 34 = .ok (.ldc 237, 2) := dk_18 237 (dk_at dksX5_ranked_1 10 rfl rfl)
theorem dX5_ranked_36 : decode cX5_ranked 36 = .ok (.goto 15, 3) := dk_167 0 15 (dk_at dksX5_ranked_1 12 rfl rfl)
theorem dX5_ranked_39 : decode cX5_ranked 39 = .ok (.iload_n 1, 1) := dk_27 (dk_at dksX5_ranked_1 15 rfl rfl)
theorem dX5_ranked_40 : decode cX5_ranked 40 = .ok (.iconst 3, 1) := dk_6 (dk_at dksX5_ranked_1 16 rfl rfl)
theorem dX5_ranked_41 : decode cX5_ranked 41 = .ok (.if_icmp .ne 8, 3) := dk_160 0 8 (dk_at dksX5_ranked_1 17 rfl rfl)
theorem dX5_ranked_44 : decode cX5_ranked 44 = .ok (.ldc 239, 2) := dk_18 239 (dk_at dksX5_ranked_1 20 rfl rfl)
theorem dX5_ranked_46 : decode cX5_ranked 46 = .ok (.goto 5, 3) := dk_167 0 5 (dk_at dksX5_ranked_2 0 rfl rfl)
theorem dX5_ranked_49 : decode cX5_ranked 49 = .ok (.ldc 241, 2) := dk_18 241 (dk_at dksX5_ranked_2 3 rfl rfl)
theorem dX5_ranked_51 : decode cX5_ranked 51 = .ok (.astore_n 2, 1) := dk_77 (dk_at dksX5_ranked_2 5 rfl rfl)
theorem dX5_ranked_52 : decode cX5_ranked 52 = .ok (.aload_n 0, 1) := dk_42 (dk_at dksX5_ranked_2 6 rfl rfl)
theorem dX5_ranked_53 : decode cX5_ranked 53 = .ok (.iload_n 1, 1) := dk_27 (dk_at dksX5_ranked_2 7 rfl rfl)
theorem dX5_ranked_54 : decode cX5_ranked 54 = .ok (.iconst 1, 1) := dk_4 (dk_at dksX5_ranked_2 8 rfl rfl)
theorem dX5_ranked_55 : decode cX5_ranked 55 = .ok (.iadd, 1) := dk_96 (dk_at dksX5_ranked_2 9 rfl rfl)
theorem dX5_ranked_56 : decode cX5_ranked 56 = .ok (.invokevirtual 220, 3) := dk_182 0 220 (dk_at dksX5_ranked_2 10 rfl rfl)
theorem dX5_ranked_59 : decode cX5_ranked 59 = .ok (.istore_n 3, 1) := dk_62 (dk_at dksX5_ranked_2 13 rfl rfl)
theorem dX5_ranked_60 : decode cX5_ranked 60 = .ok (.iconst 1, 1) := dk_4 (dk_at dksX5_ranked_2 14 rfl rfl)
theorem dX5_ranked_61 : decode cX5_ranked 61 = .ok (.istore 4, 2) := dk_54 4 (dk_at dksX5_ranked_2 15 rfl rfl)
theorem dX5_ranked_63 : decode cX5_ranked 63 = .ok (.iload_n 3, 1) := dk_29 (dk_at dksX5_ranked_2 17 rfl rfl)
theorem dX5_ranked_64 : decode cX5_ranked 64 = .ok (.ifCond .eq 74, 3) := dk_153 0 74 (dk_at dksX5_ranked_2 18 rfl rfl)
theorem dX5_ranked_67 : decode cX5_ranked 67 = .ok (.iload 4, 2) := dk_21 4 (dk_at dksX5_ranked_2 21 rfl rfl)
theorem dX5_ranked_69 : decode cX5_ranked 69 = .ok (.ifCond .eq 69, 3) := dk_153 0 69 (dk_at dksX5_ranked_3 0 rfl rfl)
theorem dX5_ranked_72 : decode cX5_ranked 72 = .ok (.aload_n 0, 1) := dk_42 (dk_at dksX5_ranked_3 3 rfl rfl)
theorem dX5_ranked_73 : decode cX5_ranked 73 = .ok (.aload_n 2, 1) := dk_44 (dk_at dksX5_ranked_3 4 rfl rfl)
theorem dX5_ranked_74 : decode cX5_ranked 74 = .ok (.invokevirtual 211, 3) := dk_182 0 211 (dk_at dksX5_ranked_3 5 rfl rfl)
theorem dX5_ranked_77 : decode cX5_ranked 77 = .ok (.ifCond .lt 61, 3) := dk_155 0 61 (dk_at dksX5_ranked_3 8 rfl rfl)
theorem dX5_ranked_80 : decode cX5_ranked 80 = .ok (.aload_n 0, 1) := dk_42 (dk_at dksX5_ranked_3 11 rfl rfl)
theorem dX5_ranked_81 : decode cX5_ranked 81 = .ok (.getfield 173, 3) := dk_180 0 173 (dk_at dksX5_ranked_3 12 rfl rfl)
theorem dX5_ranked_84 : decode cX5_ranked 84 = .ok (.aload_n 0, 1) := dk_42 (dk_at dksX5_ranked_3 15 rfl rfl)
theorem dX5_ranked_85 : decode cX5_ranked 85 = .ok (.getfield 176, 3) := dk_180 0 176 (dk_at dksX5_ranked_3 16 rfl rfl)
theorem dX5_ranked_88 : decode cX5_ranked 88 = .ok (.iaload, 1) := dk_46 (dk_at dksX5_ranked_3 19 rfl rfl)
theorem dX5_ranked_89 : decode cX5_ranked 89 = .ok (.istore 5, 2) := dk_54 5 (dk_at dksX5_ranked_3 20 rfl rfl)
theorem dX5_ranked_91 : decode cX5_ranked 91 = .ok (.aload_n 0, 1) := dk_42 (dk_at dksX5_ranked_3 22 rfl rfl)
theorem dX5_ranked_92 : decode cX5_ranked 92 = .ok (.dup, 1) := dk_89 (dk_at dksX5_ranked_3 23 rfl rfl)
theorem dX5_ranked_93 : decode cX5_ranked 93 = .ok (.getfield 176, 3) := dk_180 0 176 (dk_at dksX5_ranked_4 0 rfl rfl)
theorem dX5_ranked_96 : decode cX5_ranked 96 = .ok (.iconst 1, 1) := dk_4 (dk_at dksX5_ranked_4 3 rfl rfl)
theorem dX5_ranked_97 : decode cX5_ranked 97 = .ok (.iadd, 1) := dk_96 (dk_at dksX5_ranked_4 4 rfl rfl)
theorem dX5_ranked_98 : decode cX5_ranked 98 = .ok (.putfield 176, 3) := dk_181 0 176 (dk_at dksX5_ranked_4 5 rfl rfl)
theorem dX5_ranked_101 : decode cX5_ranked 101 = .ok (.aload_n 0, 1) := dk_42 (dk_at dksX5_ranked_4 8 rfl rfl)
theorem dX5_ranked_102 : decode cX5_ranked 102 = .ok (.iload_n 1, 1) := dk_27 (dk_at dksX5_ranked_4 9 rfl rfl)
theorem dX5_ranked_103 : decode cX5_ranked 103 = .ok (.iconst 1, 1) := dk_4 (dk_at dksX5_ranked_4 10 rfl rfl)
theorem dX5_ranked_104 : decode cX5_ranked 104 = .ok (.iadd, 1) := dk_96 (dk_at dksX5_ranked_4 11 rfl rfl)
theorem dX5_ranked_105 : decode cX5_ranked 105 = .ok (.invokevirtual 220, 3) := dk_182 0 220 (dk_at dksX5_ranked_4 12 rfl rfl)
theorem dX5_ranked_108 : decode cX5_ranked 108 = .ok (.istore_n 3, 1) := dk_62 (dk_at dksX5_ranked_4 15 rfl rfl)
theorem dX5_ranked_109 : decode cX5_ranked 109 = .ok (.iload_n 3, 1) := dk_29 (dk_at dksX5_ranked_4 16 rfl rfl)
theorem dX5_ranked_110 : decode cX5_ranked 110 = .ok (.ifCond .eq 13, 3) := dk_153 0 13 (dk_at dksX5_ranked_4 17 rfl rfl)
theorem dX5_ranked_113 : decode cX5_ranked 113 = .ok (.aload_n 0, 1) := dk_42 (dk_at dksX5_ranked_4 20 rfl rfl)
theorem dX5_ranked_114 : decode cX5_ranked 114 = .ok (.sipush 2000, 3) := dk_17 7 208 (dk_at dksX5_ranked_4 21 rfl rfl)
theorem dX5_ranked_117 : decode cX5_ranked 117 = .ok (.iload 5, 2) := dk_21 5 (dk_at dksX5_ranked_5 0 rfl rfl)
theorem dX5_ranked_119 : decode cX5_ranked 119 = .ok (.iadd, 1) := dk_96 (dk_at dksX5_ranked_5 2 rfl rfl)
theorem dX5_ranked_120 : decode cX5_ranked 120 = .ok (.invokevirtual 206, 3) := dk_182 0 206 (dk_at dksX5_ranked_5 3 rfl rfl)
theorem dX5_ranked_123 : decode cX5_ranked 123 = .ok (.iload_n 1, 1) := dk_27 (dk_at dksX5_ranked_5 6 rfl rfl)
theorem dX5_ranked_124 : decode cX5_ranked 124 = .ok (.iconst 2, 1) := dk_5 (dk_at dksX5_ranked_5 7 rfl rfl)
theorem dX5_ranked_125 : decode cX5_ranked 125 = .ok (.if_icmp .eq 7, 3) := dk_159 0 7 (dk_at dksX5_ranked_5 8 rfl rfl)
theorem dX5_ranked_128 : decode cX5_ranked 128 = .ok (.iconst 1, 1) := dk_4 (dk_at dksX5_ranked_5 11 rfl rfl)
theorem dX5_ranked_129 : decode cX5_ranked 129 = .ok (.goto 4, 3) := dk_167 0 4 (dk_at dksX5_ranked_5 12 rfl rfl)
theorem dX5_ranked_132 : decode cX5_ranked 132 = .ok (.iconst 0, 1) := dk_3 (dk_at dksX5_ranked_5 15 rfl rfl)
theorem dX5_ranked_133 : decode cX5_ranked 133 = .ok (.istore 4, 2) := dk_54 4 (dk_at dksX5_ranked_5 16 rfl rfl)
theorem dX5_ranked_135 : decode cX5_ranked 135 = .ok (.goto (-72), 3) := dk_167 255 184 (dk_at dksX5_ranked_5 18 rfl rfl)
theorem dX5_ranked_138 : decode cX5_ranked 138 = .ok (.iload_n 3, 1) := dk_29 (dk_at dksX5_ranked_5 21 rfl rfl)
theorem dX5_ranked_139 : decode cX5_ranked 139 = .ok (.ireturn, 1) := dk_172 (dk_at dksX5_ranked_5 22 rfl rfl)
def dkwX5_ahead_2 : List UInt8 := [167, 0, 5, 16, 126, 96, 182, 0, 206, 28, 172]
abbrev dktX5_ahead_2 : List UInt8 := dkwX5_ahead_2 ++ []
def dkwX5_ahead_1 : List UInt8 := [181, 0, 176, 42, 182, 0, 230, 61, 28, 153, 0, 22, 42, 17, 7, 208, 27, 154, 0, 8, 16, 33]
abbrev dktX5_ahead_1 : List UInt8 := dkwX5_ahead_1 ++ dktX5_ahead_2
def dkwX5_ahead_0 : List UInt8 := [42, 18, 225, 182, 0, 211, 60, 27, 156, 0, 8, 42, 182, 0, 227, 172, 42, 89, 180, 0, 176, 4, 96]
abbrev dktX5_ahead_0 : List UInt8 := dkwX5_ahead_0 ++ dktX5_ahead_1
theorem dksX5_ahead_0 : cX5_ahead.data.toList.drop 0 = dktX5_ahead_0 := by decide +kernel
theorem dksX5_ahead_1 : cX5_ahead.data.toList.drop 23 = dktX5_ahead_1 := dk_seg dksX5_ahead_0 23 rfl rfl
theorem dksX5_ahead_2 : cX5_ahead.data.toList.drop 45 = dktX5_ahead_2 := dk_seg dksX5_ahead_1 22 rfl rfl
theorem dX5_ahead_0 : decode cX5_ahead 0 = .ok (.aload_n 0, 1) := dk_42 (dk_at dksX5_ahead_0 0 rfl rfl)
theorem dX5_ahead_1 : decode cX5_ahead 1 = .ok (.ldc 225, 2) := dk_18 225 (dk_at dksX5_ahead_0 1 rfl rfl)
theorem dX5_ahead_3 : decode cX5_ahead 3 = .ok (.invokevirtual 211, 3) := dk_182 0 211 (dk_at dksX5_ahead_0 3 rfl rfl)
theorem dX5_ahead_6 : decode cX5_ahead 6 = .ok (.istore_n 1, 1) := dk_60 (dk_at dksX5_ahead_0 6 rfl rfl)
theorem dX5_ahead_7 : decode cX5_ahead 7 = .ok (.iload_n 1, 1) := dk_27 (dk_at dksX5_ahead_0 7 rfl rfl)
theorem dX5_ahead_8 : decode cX5_ahead 8 = .ok (.ifCond .ge 8, 3) := dk_156 0 8 (dk_at dksX5_ahead_0 8 rfl rfl)
theorem dX5_ahead_11 : decode cX5_ahead 11 = .ok (.aload_n 0, 1) := dk_42 (dk_at dksX5_ahead_0 11 rfl rfl)
theorem dX5_ahead_12 : decode cX5_ahead 12 = .ok (.invokevirtual 227, 3) := dk_182 0 227 (dk_at dksX5_ahead_0 12 rfl rfl)
theorem dX5_ahead_15 : decode cX5_ahead 15 = .ok (.ireturn, 1) := dk_172 (dk_at dksX5_ahead_0 15 rfl rfl)
theorem dX5_ahead_16 : decode cX5_ahead 16 = .ok (.aload_n 0, 1) := dk_42 (dk_at dksX5_ahead_0 16 rfl rfl)
theorem dX5_ahead_17 : decode cX5_ahead 17 = .ok (.dup, 1) := dk_89 (dk_at dksX5_ahead_0 17 rfl rfl)
theorem dX5_ahead_18 : decode cX5_ahead 18 = .ok (.getfield 176, 3) := dk_180 0 176 (dk_at dksX5_ahead_0 18 rfl rfl)
theorem dX5_ahead_21 : decode cX5_ahead 21 = .ok (.iconst 1, 1) := dk_4 (dk_at dksX5_ahead_0 21 rfl rfl)
theorem dX5_ahead_22 : decode cX5_ahead 22 = .ok (.iadd, 1) := dk_96 (dk_at dksX5_ahead_0 22 rfl rfl)
theorem dX5_ahead_23 : decode cX5_ahead 23 = .ok (.putfield 176, 3) := dk_181 0 176 (dk_at dksX5_ahead_1 0 rfl rfl)
theorem dX5_ahead_26 : decode cX5_ahead 26 = .ok (.aload_n 0, 1) := dk_42 (dk_at dksX5_ahead_1 3 rfl rfl)
theorem dX5_ahead_27 : decode cX5_ahead 27 = .ok (.invokevirtual 230, 3) := dk_182 0 230 (dk_at dksX5_ahead_1 4 rfl rfl)
theorem dX5_ahead_30 : decode cX5_ahead 30 = .ok (.istore_n 2, 1) := dk_61 (dk_at dksX5_ahead_1 7 rfl rfl)
theorem dX5_ahead_31 : decode cX5_ahead 31 = .ok (.iload_n 2, 1) := dk_28 (dk_at dksX5_ahead_1 8 rfl rfl)
theorem dX5_ahead_32 : decode cX5_ahead 32 = .ok (.ifCond .eq 22, 3) := dk_153 0 22 (dk_at dksX5_ahead_1 9 rfl rfl)
theorem dX5_ahead_35 : decode cX5_ahead 35 = .ok (.aload_n 0, 1) := dk_42 (dk_at dksX5_ahead_1 12 rfl rfl)
theorem dX5_ahead_36 : decode cX5_ahead 36 = .ok (.sipush 2000, 3) := dk_17 7 208 (dk_at dksX5_ahead_1 13 rfl rfl)
theorem dX5_ahead_39 : decode cX5_ahead 39 = .ok (.iload_n 1, 1) := dk_27 (dk_at dksX5_ahead_1 16 rfl rfl)
theorem dX5_ahead_40 : decode cX5_ahead 40 = .ok (.ifCond .ne 8, 3) := dk_154 0 8 (dk_at dksX5_ahead_1 17 rfl rfl)
theorem dX5_ahead_43 : decode cX5_ahead 43 = .ok (.bipush 33, 2) := dk_16 33 (dk_at dksX5_ahead_1 20 rfl rfl)
theorem dX5_ahead_45 : decode cX5_ahead 45 = .ok (.goto 5, 3) := dk_167 0 5 (dk_at dksX5_ahead_2 0 rfl rfl)
theorem dX5_ahead_48 : decode cX5_ahead 48 = .ok (.bipush 126, 2) := dk_16 126 (dk_at dksX5_ahead_2 3 rfl rfl)
theorem dX5_ahead_50 : decode cX5_ahead 50 = .ok (.iadd, 1) := dk_96 (dk_at dksX5_ahead_2 5 rfl rfl)
theorem dX5_ahead_51 : decode cX5_ahead 51 = .ok (.invokevirtual 206, 3) := dk_182 0 206 (dk_at dksX5_ahead_2 6 rfl rfl)
theorem dX5_ahead_54 : decode cX5_ahead 54 = .ok (.iload_n 2, 1) := dk_28 (dk_at dksX5_ahead_2 9 rfl rfl)
theorem dX5_ahead_55 : decode cX5_ahead 55 = .ok (.ireturn, 1) := dk_172 (dk_at dksX5_ahead_2 10 rfl rfl)
def dkwX5_among_2 : List UInt8 := [172]
abbrev dktX5_among_2 : List UInt8 := dkwX5_among_2 ++ []
def dkwX5_among_1 : List UInt8 := [182, 0, 192, 42, 180, 0, 173, 42, 180, 0, 176, 46, 160, 0, 5, 28, 172, 132, 2, 1, 167, 255, 215, 2]
abbrev dktX5_among_1 : List UInt8 := dkwX5_among_1 ++ dktX5_among_2
def dkwX5_among_0 : List UInt8 := [3, 61, 28, 43, 182, 0, 186, 162, 0, 39, 42, 180, 0, 176, 42, 180, 0, 179, 162, 0, 28, 43, 28]
abbrev dktX5_among_0 : List UInt8 := dkwX5_among_0 ++ dktX5_among_1
theorem dksX5_among_0 : cX5_among.data.toList.drop 0 = dktX5_among_0 := by decide +kernel
theorem dksX5_among_1 : cX5_among.data.toList.drop 23 = dktX5_among_1 := dk_seg dksX5_among_0 23 rfl rfl
theorem dksX5_among_2 : cX5_among.data.toList.drop 47 = dktX5_among_2 := dk_seg dksX5_among_1 24 rfl rfl
theorem dX5_among_0 : decode cX5_among 0 = .ok (.iconst 0, 1) := dk_3 (dk_at dksX5_among_0 0 rfl rfl)
theorem dX5_among_1 : decode cX5_among 1 = .ok (.istore_n 2, 1) := dk_61 (dk_at dksX5_among_0 1 rfl rfl)
theorem dX5_among_2 : decode cX5_among 2 = .ok (.iload_n 2, 1) := dk_28 (dk_at dksX5_among_0 2 rfl rfl)
theorem dX5_among_3 : decode cX5_among 3 = .ok (.aload_n 1, 1) := dk_43 (dk_at dksX5_among_0 3 rfl rfl)
theorem dX5_among_4 : decode cX5_among 4 = .ok (.invokevirtual 186, 3) := dk_182 0 186 (dk_at dksX5_among_0 4 rfl rfl)
theorem dX5_among_7 : decode cX5_among 7 = .ok (.if_icmp .ge 39, 3) := dk_162 0 39 (dk_at dksX5_among_0 7 rfl rfl)
theorem dX5_among_10 : decode cX5_among 10 = .ok (.aload_n 0, 1) := dk_42 (dk_at dksX5_among_0 10 rfl rfl)
theorem dX5_among_11 : decode cX5_among 11 = .ok (.getfield 176, 3) := dk_180 0 176 (dk_at dksX5_among_0 11 rfl rfl)
theorem dX5_among_14 : decode cX5_among 14 = .ok (.aload_n 0, 1) := dk_42 (dk_at dksX5_among_0 14 rfl rfl)
theorem dX5_among_15 : decode cX5_among 15 = .ok (.getfield 179, 3) := dk_180 0 179 (dk_at dksX5_among_0 15 rfl rfl)
theorem dX5_among_18 : decode cX5_among 18 = .ok (.if_icmp .ge 28, 3) := dk_162 0 28 (dk_at dksX5_among_0 18 rfl rfl)
theorem dX5_among_21 : decode cX5_among 21 = .ok (.aload_n 1, 1) := dk_43 (dk_at dksX5_among_0 21 rfl rfl)
theorem dX5_among_22 : decode cX5_among 22 = .ok (.iload_n 2, 1) := dk_28 (dk_at dksX5_among_0 22 rfl rfl)
theorem dX5_among_23 : decode cX5_among 23 = .ok (.invokevirtual 192, 3) := dk_182 0 192 (dk_at dksX5_among_1 0 rfl rfl)
theorem dX5_among_26 : decode cX5_among 26 = .ok (.aload_n 0, 1) := dk_42 (dk_at dksX5_among_1 3 rfl rfl)
theorem dX5_among_27 : decode cX5_among 27 = .ok (.getfield 173, 3) := dk_180 0 173 (dk_at dksX5_among_1 4 rfl rfl)
theorem dX5_among_30 : decode cX5_among 30 = .ok (.aload_n 0, 1) := dk_42 (dk_at dksX5_among_1 7 rfl rfl)
theorem dX5_among_31 : decode cX5_among 31 = .ok (.getfield 176, 3) := dk_180 0 176 (dk_at dksX5_among_1 8 rfl rfl)
theorem dX5_among_34 : decode cX5_among 34 = .ok (.iaload, 1) := dk_46 (dk_at dksX5_among_1 11 rfl rfl)
theorem dX5_among_35 : decode cX5_among 35 = .ok (.if_icmp .ne 5, 3) := dk_160 0 5 (dk_at dksX5_among_1 12 rfl rfl)
theorem dX5_among_38 : decode cX5_among 38 = .ok (.iload_n 2, 1) := dk_28 (dk_at dksX5_among_1 15 rfl rfl)
theorem dX5_among_39 : decode cX5_among 39 = .ok (.ireturn, 1) := dk_172 (dk_at dksX5_among_1 16 rfl rfl)
theorem dX5_among_40 : decode cX5_among 40 = .ok (.iinc 2 1, 3) := dk_132 2 1 (dk_at dksX5_among_1 17 rfl rfl)
theorem dX5_among_43 : decode cX5_among 43 = .ok (.goto (-41), 3) := dk_167 255 215 (dk_at dksX5_among_1 20 rfl rfl)
theorem dX5_among_46 : decode cX5_among 46 = .ok (.iconst (-1), 1) := dk_2 (dk_at dksX5_among_1 23 rfl rfl)
theorem dX5_among_47 : decode cX5_among 47 = .ok (.ireturn, 1) := dk_172 (dk_at dksX5_among_2 0 rfl rfl)
def dkwX5_thing_7 : List UInt8 := [42, 89, 180, 0, 217, 4, 100, 181, 0, 217, 4, 172]
abbrev dktX5_thing_7 : List UInt8 := dkwX5_thing_7 ++ []
def dkwX5_thing_6 : List UInt8 := [153, 0, 12, 42, 18, 223, 182, 0, 211, 156, 0, 5, 3, 172, 42, 89, 180, 0, 176, 4, 96, 181, 0, 176]
abbrev dktX5_thing_6 : List UInt8 := dkwX5_thing_6 ++ dktX5_thing_7
def dkwX5_thing_5 : List UInt8 := [180, 0, 176, 4, 96, 181, 0, 176, 42, 89, 180, 0, 217, 4, 96, 181, 0, 217, 42, 3, 182, 0, 220]
abbrev dktX5_thing_5 : List UInt8 := dkwX5_thing_5 ++ dktX5_thing_6
def dkwX5_thing_4 : List UInt8 := [172, 42, 18, 215, 182, 0, 211, 155, 0, 11, 42, 180, 0, 217, 8, 160, 0, 5, 3, 172, 42, 89]
abbrev dktX5_thing_4 : List UInt8 := dkwX5_thing_4 ++ dktX5_thing_5
def dkwX5_thing_3 : List UInt8 := [27, 155, 0, 24, 42, 17, 3, 232, 27, 96, 182, 0, 206, 42, 89, 180, 0, 176, 4, 96, 181, 0, 176, 4]
abbrev dktX5_thing_3 : List UInt8 := dkwX5_thing_3 ++ dktX5_thing_4
def dkwX5_thing_2 : List UInt8 := [96, 181, 0, 176, 132, 2, 1, 167, 255, 213, 42, 27, 182, 0, 206, 4, 172, 42, 18, 209, 182, 0, 211, 60]
abbrev dktX5_thing_2 : List UInt8 := dkwX5_thing_2 ++ dktX5_thing_3
def dkwX5_thing_1 : List UInt8 := [16, 10, 27, 104, 42, 180, 0, 173, 42, 180, 0, 176, 46, 96, 16, 48, 100, 60, 42, 89, 180, 0, 176, 4]
abbrev dktX5_thing_1 : List UInt8 := dkwX5_thing_1 ++ dktX5_thing_2
def dkwX5_thing_0 : List UInt8 := [42, 182, 0, 202, 153, 0, 60, 3, 60, 3, 61, 28, 6, 162, 0, 44, 42, 182, 0, 202, 153, 0, 37]
abbrev dktX5_thing_0 : List UInt8 := dkwX5_thing_0 ++ dktX5_thing_1
theorem dksX5_thing_0 : cX5_thing.data.toList.drop 0 = dktX5_thing_0 := by decide +kernel
theorem dksX5_thing_1 : cX5_thing.data.toList.drop 23 = dktX5_thing_1 := dk_seg dksX5_thing_0 23 rfl rfl
theorem dksX5_thing_2 : cX5_thing.data.toList.drop 47 = dktX5_thing_2 := dk_seg dksX5_thing_1 24 rfl rfl
theorem dksX5_thing_3 : cX5_thing.data.toList.drop 71 = dktX5_thing_3 := dk_seg dksX5_thing_2 24 rfl rfl
theorem dksX5_thing_4 : cX5_thing.data.toList.drop 95 = dktX5_thing_4 := dk_seg dksX5_thing_3 24 rfl rfl
theorem dksX5_thing_5 : cX5_thing.data.toList.drop 117 = dktX5_thing_5 := dk_seg dksX5_thing_4 22 rfl rfl
theorem dksX5_thing_6 : cX5_thing.data.toList.drop 140 = dktX5_thing_6 := dk_seg dksX5_thing_5 23 rfl rfl
theorem dksX5_thing_7 : cX5_thing.data.toList.drop 164 = dktX5_thing_7 := dk_seg dksX5_thing_6 24 rfl rfl
theorem dX5_thing_0 : decode cX5_thing 0 = .ok (.aload_n 0, 1) := dk_42 (dk_at dksX5_thing_0 0 rfl rfl)
theorem dX5_thing_1 : decode cX5_thing 1 = .ok (.invokevirtual 202, 3) := dk_182 0 202 (dk_at dksX5_thing_0 1 rfl rfl)
theorem dX5_thing_4 : decode cX5_thing 4 = .ok (.ifCond .eq 60, 3) := dk_153 0 60 (dk_at dksX5_thing_0 4 rfl rfl)
theorem dX5_thing_7 : decode cX5_thing 7 = .ok (.iconst 0, 1) := dk_3 (dk_at dksX5_thing_0 7 rfl rfl)
theorem dX5_thing_8 : decode cX5_thing 8 = .ok (.istore_n 1, 1) := dk_60 (dk_at dksX5_thing_0 8 rfl rfl)
theorem dX5_thing_9 : decode cX5_thing 9 = .ok (.iconst 0, 1) := dk_3 (dk_at dksX5_thing_0 9 rfl rfl)
theorem dX5_thing_10 : decode cX5_thing 10 = .ok (.istore_n 2, 1) := dk_61 (dk_at dksX5_thing_0 10 rfl rfl)
theorem dX5_thing_11 : decode cX5_thing 11 = .ok (.iload_n 2, 1) := dk_28 (dk_at dksX5_thing_0 11 rfl rfl)
theorem dX5_thing_12 : decode cX5_thing 12 = .ok (.iconst 3, 1) := dk_6 (dk_at dksX5_thing_0 12 rfl rfl)
theorem dX5_thing_13 : decode cX5_thing 13 = .ok (.if_icmp .ge 44, 3) := dk_162 0 44 (dk_at dksX5_thing_0 13 rfl rfl)
theorem dX5_thing_16 : decode cX5_thing 16 = .ok (.aload_n 0, 1) := dk_42 (dk_at dksX5_thing_0 16 rfl rfl)
theorem dX5_thing_17 : decode cX5_thing 17 = .ok (.invokevirtual 202, 3) := dk_182 0 202 (dk_at dksX5_thing_0 17 rfl rfl)
theorem dX5_thing_20 : decode cX5_thing 20 = .ok (.ifCond .eq 37, 3) := dk_153 0 37 (dk_at dksX5_thing_0 20 rfl rfl)
theorem dX5_thing_23 : decode cX5_thing 23 = .ok (.bipush 10, 2) := dk_16 10 (dk_at dksX5_thing_1 0 rfl rfl)
theorem dX5_thing_25 : decode cX5_thing 25 = .ok (.iload_n 1, 1) := dk_27 (dk_at dksX5_thing_1 2 rfl rfl)
theorem dX5_thing_26 : decode cX5_thing 26 = .ok (.imul, 1) := dk_104 (dk_at dksX5_thing_1 3 rfl rfl)
theorem dX5_thing_27 : decode cX5_thing 27 = .ok (.aload_n 0, 1) := dk_42 (dk_at dksX5_thing_1 4 rfl rfl)
theorem dX5_thing_28 : decode cX5_thing 28 = .ok (.getfield 173, 3) := dk_180 0 173 (dk_at dksX5_thing_1 5 rfl rfl)
theorem dX5_thing_31 : decode cX5_thing 31 = .ok (.aload_n 0, 1) := dk_42 (dk_at dksX5_thing_1 8 rfl rfl)
theorem dX5_thing_32 : decode cX5_thing 32 = .ok (.getfield 176, 3) := dk_180 0 176 (dk_at dksX5_thing_1 9 rfl rfl)
theorem dX5_thing_35 : decode cX5_thing 35 = .ok (.iaload, 1) := dk_46 (dk_at dksX5_thing_1 12 rfl rfl)
theorem dX5_thing_36 : decode cX5_thing 36 = .ok (.iadd, 1) := dk_96 (dk_at dksX5_thing_1 13 rfl rfl)
theorem dX5_thing_37 : decode cX5_thing 37 = .ok (.bipush 48, 2) := dk_16 48 (dk_at dksX5_thing_1 14 rfl rfl)
theorem dX5_thing_39 : decode cX5_thing 39 = .ok (.isub, 1) := dk_100 (dk_at dksX5_thing_1 16 rfl rfl)
theorem dX5_thing_40 : decode cX5_thing 40 = .ok (.istore_n 1, 1) := dk_60 (dk_at dksX5_thing_1 17 rfl rfl)
theorem dX5_thing_41 : decode cX5_thing 41 = .ok (.aload_n 0, 1) := dk_42 (dk_at dksX5_thing_1 18 rfl rfl)
theorem dX5_thing_42 : decode cX5_thing 42 = .ok (.dup, 1) := dk_89 (dk_at dksX5_thing_1 19 rfl rfl)
theorem dX5_thing_43 : decode cX5_thing 43 = .ok (.getfield 176, 3) := dk_180 0 176 (dk_at dksX5_thing_1 20 rfl rfl)
theorem dX5_thing_46 : decode cX5_thing 46 = .ok (.iconst 1, 1) := dk_4 (dk_at dksX5_thing_1 23 rfl rfl)
theorem dX5_thing_47 : decode cX5_thing 47 = .ok (.iadd, 1) := dk_96 (dk_at dksX5_thing_2 0 rfl rfl)
theorem dX5_thing_48 : decode cX5_thing 48 = .ok (.putfield 176, 3) := dk_181 0 176 (dk_at dksX5_thing_2 1 rfl rfl)
theorem dX5_thing_51 : decode cX5_thing 51 = .ok (.iinc 2 1, 3) := dk_132 2 1 (dk_at dksX5_thing_2 4 rfl rfl)
theorem dX5_thing_54 : decode cX5_thing 54 = .ok (.goto (-43), 3) := dk_167 255 213 (dk_at dksX5_thing_2 7 rfl rfl)
theorem dX5_thing_57 : decode cX5_thing 57 = .ok (.aload_n 0, 1) := dk_42 (dk_at dksX5_thing_2 10 rfl rfl)
theorem dX5_thing_58 : decode cX5_thing 58 = .ok (.iload_n 1, 1) := dk_27 (dk_at dksX5_thing_2 11 rfl rfl)
theorem dX5_thing_59 : decode cX5_thing 59 = .ok (.invokevirtual 206, 3) := dk_182 0 206 (dk_at dksX5_thing_2 12 rfl rfl)
theorem dX5_thing_62 : decode cX5_thing 62 = .ok (.iconst 1, 1) := dk_4 (dk_at dksX5_thing_2 15 rfl rfl)
theorem dX5_thing_63 : decode cX5_thing 63 = .ok (.ireturn, 1) := dk_172 (dk_at dksX5_thing_2 16 rfl rfl)
theorem dX5_thing_64 : decode cX5_thing 64 = .ok (.aload_n 0, 1) := dk_42 (dk_at dksX5_thing_2 17 rfl rfl)
theorem dX5_thing_65 : decode cX5_thing 65 = .ok (.ldc 209, 2) := dk_18 209 (dk_at dksX5_thing_2 18 rfl rfl)
theorem dX5_thing_67 : decode cX5_thing 67 = .ok (.invokevirtual 211, 3) := dk_182 0 211 (dk_at dksX5_thing_2 20 rfl rfl)
theorem dX5_thing_70 : decode cX5_thing 70 = .ok (.istore_n 1, 1) := dk_60 (dk_at dksX5_thing_2 23 rfl rfl)
theorem dX5_thing_71 : decode cX5_thing 71 = .ok (.iload_n 1, 1) := dk_27 (dk_at dksX5_thing_3 0 rfl rfl)
theorem dX5_thing_72 : decode cX5_thing 72 = .ok (.ifCond .lt 24, 3) := dk_155 0 24 (dk_at dksX5_thing_3 1 rfl rfl)
theorem dX5_thing_75 : decode cX5_thing 75 = .ok (.aload_n 0, 1) := dk_42 (dk_at dksX5_thing_3 4 rfl rfl)
theorem dX5_thing_76 : decode cX5_thing 76 = .ok (.sipush 1000, 3) := dk_17 3 232 (dk_at dksX5_thing_3 5 rfl rfl)
theorem dX5_thing_79 : decode cX5_thing 79 = .ok (.iload_n 1, 1) := dk_27 (dk_at dksX5_thing_3 8 rfl rfl)
theorem dX5_thing_80 : decode cX5_thing 80 = .ok (.iadd, 1) := dk_96 (dk_at dksX5_thing_3 9 rfl rfl)
theorem dX5_thing_81 : decode cX5_thing 81 = .ok (.invokevirtual 206, 3) := dk_182 0 206 (dk_at dksX5_thing_3 10 rfl rfl)
theorem dX5_thing_84 : decode cX5_thing 84 = .ok (.aload_n 0, 1) := dk_42 (dk_at dksX5_thing_3 13 rfl rfl)
theorem dX5_thing_85 : decode cX5_thing 85 = .ok (.dup, 1) := dk_89 (dk_at dksX5_thing_3 14 rfl rfl)
theorem dX5_thing_86 : decode cX5_thing 86 = .ok (.getfield 176, 3) := dk_180 0 176 (dk_at dksX5_thing_3 15 rfl rfl)
theorem dX5_thing_89 : decode cX5_thing 89 = .ok (.iconst 1, 1) := dk_4 (dk_at dksX5_thing_3 18 rfl rfl)
theorem dX5_thing_90 : decode cX5_thing 90 = .ok (.iadd, 1) := dk_96 (dk_at dksX5_thing_3 19 rfl rfl)
theorem dX5_thing_91 : decode cX5_thing 91 = .ok (.putfield 176, 3) := dk_181 0 176 (dk_at dksX5_thing_3 20 rfl rfl)
theorem dX5_thing_94 : decode cX5_thing 94 = .ok (.iconst 1, 1) := dk_4 (dk_at dksX5_thing_3 23 rfl rfl)
theorem dX5_thing_95 : decode cX5_thing 95 = .ok (.ireturn, 1) := dk_172 (dk_at dksX5_thing_4 0 rfl rfl)
theorem dX5_thing_96 : decode cX5_thing 96 = .ok (.aload_n 0, 1) := dk_42 (dk_at dksX5_thing_4 1 rfl rfl)
theorem dX5_thing_97 : decode cX5_thing 97 = .ok (.ldc 215, 2) := dk_18 215 (dk_at dksX5_thing_4 2 rfl rfl)
theorem dX5_thing_99 : decode cX5_thing 99 = .ok (.invokevirtual 211, 3) := dk_182 0 211 (dk_at dksX5_thing_4 4 rfl rfl)
theorem dX5_thing_102 : decode cX5_thing 102 = .ok (.ifCond .lt 11, 3) := dk_155 0 11 (dk_at dksX5_thing_4 7 rfl rfl)
theorem dX5_thing_105 : decode cX5_thing 105 = .ok (.aload_n 0, 1) := dk_42 (dk_at dksX5_thing_4 10 rfl rfl)
theorem dX5_thing_106 : decode cX5_thing 106 = .ok (.getfield 217, 3) := dk_180 0 217 (dk_at dksX5_thing_4 11 rfl rfl)
theorem dX5_thing_109 : decode cX5_thing 109 = .ok (.iconst 5, 1) := dk_8 (dk_at dksX5_thing_4 14 rfl rfl)
theorem dX5_thing_110 : decode cX5_thing 110 = .ok (.if_icmp .ne 5, 3) := dk_160 0 5 (dk_at dksX5_thing_4 15 rfl rfl)
theorem dX5_thing_113 : decode cX5_thing 113 = .ok (.iconst 0, 1) := dk_3 (dk_at dksX5_thing_4 18 rfl rfl)
theorem dX5_thing_114 : decode cX5_thing 114 = .ok (.ireturn, 1) := dk_172 (dk_at dksX5_thing_4 19 rfl rfl)
theorem dX5_thing_115 : decode cX5_thing 115 = .ok (.aload_n 0, 1) := dk_42 (dk_at dksX5_thing_4 20 rfl rfl)
theorem dX5_thing_116 : decode cX5_thing 116 = .ok (.dup, 1) := dk_89 (dk_at dksX5_thing_4 21 rfl rfl)
theorem dX5_thing_117 : decode cX5_thing 117 = .ok (.getfield 176, 3) := dk_180 0 176 (dk_at dksX5_thing_5 0 rfl rfl)
theorem dX5_thing_120 : decode cX5_thing 120 = .ok (.iconst 1, 1) := dk_4 (dk_at dksX5_thing_5 3 rfl rfl)
theorem dX5_thing_121 : decode cX5_thing 121 = .ok (.iadd, 1) := dk_96 (dk_at dksX5_thing_5 4 rfl rfl)
theorem dX5_thing_122 : decode cX5_thing 122 = .ok (.putfield 176, 3) := dk_181 0 176 (dk_at dksX5_thing_5 5 rfl rfl)
theorem dX5_thing_125 : decode cX5_thing 125 = .ok (.aload_n 0, 1) := dk_42 (dk_at dksX5_thing_5 8 rfl rfl)
theorem dX5_thing_126 : decode cX5_thing 126 = .ok (.dup, 1) := dk_89 (dk_at dksX5_thing_5 9 rfl rfl)
theorem dX5_thing_127 : decode cX5_thing 127 = .ok (.getfield 217, 3) := dk_180 0 217 (dk_at dksX5_thing_5 10 rfl rfl)
theorem dX5_thing_130 : decode cX5_thing 130 = .ok (.iconst 1, 1) := dk_4 (dk_at dksX5_thing_5 13 rfl rfl)
theorem dX5_thing_131 : decode cX5_thing 131 = .ok (.iadd, 1) := dk_96 (dk_at dksX5_thing_5 14 rfl rfl)
theorem dX5_thing_132 : decode cX5_thing 132 = .ok (.putfield 217, 3) := dk_181 0 217 (dk_at dksX5_thing_5 15 rfl rfl)
theorem dX5_thing_135 : decode cX5_thing 135 = .ok (.aload_n 0, 1) := dk_42 (dk_at dksX5_thing_5 18 rfl rfl)
theorem dX5_thing_136 : decode cX5_thing 136 = .ok (.iconst 0, 1) := dk_3 (dk_at dksX5_thing_5 19 rfl rfl)
theorem dX5_thing_137 : decode cX5_thing 137 = .ok (.invokevirtual 220, 3) := dk_182 0 220 (dk_at dksX5_thing_5 20 rfl rfl)
theorem dX5_thing_140 : decode cX5_thing 140 = .ok (.ifCond .eq 12, 3) := dk_153 0 12 (dk_at dksX5_thing_6 0 rfl rfl)
theorem dX5_thing_143 : decode cX5_thing 143 = .ok (.aload_n 0, 1) := dk_42 (dk_at dksX5_thing_6 3 rfl rfl)
theorem dX5_thing_144 : decode cX5_thing 144 = .ok (.ldc 223, 2) := dk_18 223 (dk_at dksX5_thing_6 4 rfl rfl)
theorem dX5_thing_146 : decode cX5_thing 146 = .ok (.invokevirtual 211, 3) := dk_182 0 211 (dk_at dksX5_thing_6 6 rfl rfl)
theorem dX5_thing_149 : decode cX5_thing 149 = .ok (.ifCond .ge 5, 3) := dk_156 0 5 (dk_at dksX5_thing_6 9 rfl rfl)
theorem dX5_thing_152 : decode cX5_thing 152 = .ok (.iconst 0, 1) := dk_3 (dk_at dksX5_thing_6 12 rfl rfl)
theorem dX5_thing_153 : decode cX5_thing 153 = .ok (.ireturn, 1) := dk_172 (dk_at dksX5_thing_6 13 rfl rfl)
theorem dX5_thing_154 : decode cX5_thing 154 = .ok (.aload_n 0, 1) := dk_42 (dk_at dksX5_thing_6 14 rfl rfl)
theorem dX5_thing_155 : decode cX5_thing 155 = .ok (.dup, 1) := dk_89 (dk_at dksX5_thing_6 15 rfl rfl)
theorem dX5_thing_156 : decode cX5_thing 156 = .ok (.getfield 176, 3) := dk_180 0 176 (dk_at dksX5_thing_6 16 rfl rfl)
theorem dX5_thing_159 : decode cX5_thing 159 = .ok (.iconst 1, 1) := dk_4 (dk_at dksX5_thing_6 19 rfl rfl)
theorem dX5_thing_160 : decode cX5_thing 160 = .ok (.iadd, 1) := dk_96 (dk_at dksX5_thing_6 20 rfl rfl)
theorem dX5_thing_161 : decode cX5_thing 161 = .ok (.putfield 176, 3) := dk_181 0 176 (dk_at dksX5_thing_6 21 rfl rfl)
theorem dX5_thing_164 : decode cX5_thing 164 = .ok (.aload_n 0, 1) := dk_42 (dk_at dksX5_thing_7 0 rfl rfl)
theorem dX5_thing_165 : decode cX5_thing 165 = .ok (.dup, 1) := dk_89 (dk_at dksX5_thing_7 1 rfl rfl)
theorem dX5_thing_166 : decode cX5_thing 166 = .ok (.getfield 217, 3) := dk_180 0 217 (dk_at dksX5_thing_7 2 rfl rfl)
theorem dX5_thing_169 : decode cX5_thing 169 = .ok (.iconst 1, 1) := dk_4 (dk_at dksX5_thing_7 5 rfl rfl)
theorem dX5_thing_170 : decode cX5_thing 170 = .ok (.isub, 1) := dk_100 (dk_at dksX5_thing_7 6 rfl rfl)
theorem dX5_thing_171 : decode cX5_thing 171 = .ok (.putfield 217, 3) := dk_181 0 217 (dk_at dksX5_thing_7 7 rfl rfl)
theorem dX5_thing_174 : decode cX5_thing 174 = .ok (.iconst 1, 1) := dk_4 (dk_at dksX5_thing_7 10 rfl rfl)
theorem dX5_thing_175 : decode cX5_thing 175 = .ok (.ireturn, 1) := dk_172 (dk_at dksX5_thing_7 11 rfl rfl)
def dkwX5_isDigit_1 : List UInt8 := [20, 0, 184, 184, 0, 25, 153, 0, 7, 4, 167, 0, 4, 3, 172]
abbrev dktX5_isDigit_1 : List UInt8 := dkwX5_isDigit_1 ++ []
def dkwX5_isDigit_0 : List UInt8 := [42, 180, 0, 176, 42, 180, 0, 179, 162, 0, 29, 42, 180, 0, 173, 42, 180, 0, 176, 46, 133, 20, 0, 182]
abbrev dktX5_isDigit_0 : List UInt8 := dkwX5_isDigit_0 ++ dktX5_isDigit_1
theorem dksX5_isDigit_0 : cX5_isDigit.data.toList.drop 0 = dktX5_isDigit_0 := by decide +kernel
theorem dksX5_isDigit_1 : cX5_isDigit.data.toList.drop 24 = dktX5_isDigit_1 := dk_seg dksX5_isDigit_0 24 rfl rfl
theorem dX5_isDigit_0 : decode cX5_isDigit 0 = .ok (.aload_n 0, 1) := dk_42 (dk_at dksX5_isDigit_0 0 rfl rfl)
theorem dX5_isDigit_1 : decode cX5_isDigit 1 = .ok (.getfield 176, 3) := dk_180 0 176 (dk_at dksX5_isDigit_0 1 rfl rfl)
theorem dX5_isDigit_4 : decode cX5_isDigit 4 = .ok (.aload_n 0, 1) := dk_42 (dk_at dksX5_isDigit_0 4 rfl rfl)
theorem dX5_isDigit_5 : decode cX5_isDigit 5 = .ok (.getfield 179, 3) := dk_180 0 179 (dk_at dksX5_isDigit_0 5 rfl rfl)
theorem dX5_isDigit_8 : decode cX5_isDigit 8 = .ok (.if_icmp .ge 29, 3) := dk_162 0 29 (dk_at dksX5_isDigit_0 8 rfl rfl)
theorem dX5_isDigit_11 : decode cX5_isDigit 11 = .ok (.aload_n 0, 1) := dk_42 (dk_at dksX5_isDigit_0 11 rfl rfl)
theorem dX5_isDigit_12 : decode cX5_isDigit 12 = .ok (.getfield 173, 3) := dk_180 0 173 (dk_at dksX5_isDigit_0 12 rfl rfl)
theorem dX5_isDigit_15 : decode cX5_isDigit 15 = .ok (.aload_n 0, 1) := dk_42 (dk_at dksX5_isDigit_0 15 rfl rfl)
theorem dX5_isDigit_16 : decode cX5_isDigit 16 = .ok (.getfield 176, 3) := dk_180 0 176 (dk_at dksX5_isDigit_0 16 rfl rfl)
theorem dX5_isDigit_19 : decode cX5_isDigit 19 = .ok (.iaload, 1) := dk_46 (dk_at dksX5_isDigit_0 19 rfl rfl)
theorem dX5_isDigit_20 : decode cX5_isDigit 20 = .ok (.i2l, 1) := dk_133 (dk_at dksX5_isDigit_0 20 rfl rfl)
theorem dX5_isDigit_21 : decode cX5_isDigit 21 = .ok (.ldc2_w 182, 3) := dk_20 0 182 (dk_at dksX5_isDigit_0 21 rfl rfl)
theorem dX5_isDigit_24 : decode cX5_isDigit 24 = .ok (.ldc2_w 184, 3) := dk_20 0 184 (dk_at dksX5_isDigit_1 0 rfl rfl)
theorem dX5_isDigit_27 : decode cX5_isDigit 27 = .ok (.invokestatic 25, 3) := dk_184 0 25 (dk_at dksX5_isDigit_1 3 rfl rfl)
theorem dX5_isDigit_30 : decode cX5_isDigit 30 = .ok (.ifCond .eq 7, 3) := dk_153 0 7 (dk_at dksX5_isDigit_1 6 rfl rfl)
theorem dX5_isDigit_33 : decode cX5_isDigit 33 = .ok (.iconst 1, 1) := dk_4 (dk_at dksX5_isDigit_1 9 rfl rfl)
theorem dX5_isDigit_34 : decode cX5_isDigit 34 = .ok (.goto 4, 3) := dk_167 0 4 (dk_at dksX5_isDigit_1 10 rfl rfl)
theorem dX5_isDigit_37 : decode cX5_isDigit 37 = .ok (.iconst 0, 1) := dk_3 (dk_at dksX5_isDigit_1 13 rfl rfl)
theorem dX5_isDigit_38 : decode cX5_isDigit 38 = .ok (.ireturn, 1) := dk_172 (dk_at dksX5_isDigit_1 14 rfl rfl)
def dkwX5_marks_1 : List UInt8 := [79, 177]
abbrev dktX5_marks_1 : List UInt8 := dkwX5_marks_1 ++ []
def dkwX5_marks_0 : List UInt8 := [42, 180, 0, 196, 16, 48, 42, 180, 0, 199, 4, 46, 96, 27, 79, 42, 180, 0, 199, 4, 92, 46, 4, 96]
abbrev dktX5_marks_0 : List UInt8 := dkwX5_marks_0 ++ dktX5_marks_1
theorem dksX5_marks_0 : cX5_marks.data.toList.drop 0 = dktX5_marks_0 := by decide +kernel
theorem dksX5_marks_1 : cX5_marks.data.toList.drop 24 = dktX5_marks_1 := dk_seg dksX5_marks_0 24 rfl rfl
theorem dX5_marks_0 : decode cX5_marks 0 = .ok (.aload_n 0, 1) := dk_42 (dk_at dksX5_marks_0 0 rfl rfl)
theorem dX5_marks_1 : decode cX5_marks 1 = .ok (.getfield 196, 3) := dk_180 0 196 (dk_at dksX5_marks_0 1 rfl rfl)
theorem dX5_marks_4 : decode cX5_marks 4 = .ok (.bipush 48, 2) := dk_16 48 (dk_at dksX5_marks_0 4 rfl rfl)
theorem dX5_marks_6 : decode cX5_marks 6 = .ok (.aload_n 0, 1) := dk_42 (dk_at dksX5_marks_0 6 rfl rfl)
theorem dX5_marks_7 : decode cX5_marks 7 = .ok (.getfield 199, 3) := dk_180 0 199 (dk_at dksX5_marks_0 7 rfl rfl)
theorem dX5_marks_10 : decode cX5_marks 10 = .ok (.iconst 1, 1) := dk_4 (dk_at dksX5_marks_0 10 rfl rfl)
theorem dX5_marks_11 : decode cX5_marks 11 = .ok (.iaload, 1) := dk_46 (dk_at dksX5_marks_0 11 rfl rfl)
theorem dX5_marks_12 : decode cX5_marks 12 = .ok (.iadd, 1) := dk_96 (dk_at dksX5_marks_0 12 rfl rfl)
theorem dX5_marks_13 : decode cX5_marks 13 = .ok (.iload_n 1, 1) := dk_27 (dk_at dksX5_marks_0 13 rfl rfl)
theorem dX5_marks_14 : decode cX5_marks 14 = .ok (.iastore, 1) := dk_79 (dk_at dksX5_marks_0 14 rfl rfl)
theorem dX5_marks_15 : decode cX5_marks 15 = .ok (.aload_n 0, 1) := dk_42 (dk_at dksX5_marks_0 15 rfl rfl)
theorem dX5_marks_16 : decode cX5_marks 16 = .ok (.getfield 199, 3) := dk_180 0 199 (dk_at dksX5_marks_0 16 rfl rfl)
theorem dX5_marks_19 : decode cX5_marks 19 = .ok (.iconst 1, 1) := dk_4 (dk_at dksX5_marks_0 19 rfl rfl)
theorem dX5_marks_20 : decode cX5_marks 20 = .ok (.dup2, 1) := dk_92 (dk_at dksX5_marks_0 20 rfl rfl)
theorem dX5_marks_21 : decode cX5_marks 21 = .ok (.iaload, 1) := dk_46 (dk_at dksX5_marks_0 21 rfl rfl)
theorem dX5_marks_22 : decode cX5_marks 22 = .ok (.iconst 1, 1) := dk_4 (dk_at dksX5_marks_0 22 rfl rfl)
theorem dX5_marks_23 : decode cX5_marks 23 = .ok (.iadd, 1) := dk_96 (dk_at dksX5_marks_0 23 rfl rfl)
theorem dX5_marks_24 : decode cX5_marks 24 = .ok (.iastore, 1) := dk_79 (dk_at dksX5_marks_1 0 rfl rfl)
theorem dX5_marks_25 : decode cX5_marks 25 = .ok (.return_, 1) := dk_177 (dk_at dksX5_marks_1 1 rfl rfl)
def dkwX5_value_2 : List UInt8 := [182, 1, 6, 172]
abbrev dktX5_value_2 : List UInt8 := dkwX5_value_2 ++ []
def dkwX5_value_1 : List UInt8 := [180, 0, 199, 3, 46, 154, 0, 8, 42, 182, 1, 3, 172, 42, 27, 28, 42, 180, 0, 140, 3, 46, 4, 96]
abbrev dktX5_value_1 : List UInt8 := dkwX5_value_1 ++ dktX5_value_2
def dkwX5_value_0 : List UInt8 := [42, 3, 181, 0, 3, 42, 27, 182, 1, 0, 153, 0, 20, 42, 28, 182, 0, 77, 153, 0, 12, 42]
abbrev dktX5_value_0 : List UInt8 := dkwX5_value_0 ++ dktX5_value_1
theorem dksX5_value_0 : cX5_value.data.toList.drop 0 = dktX5_value_0 := by decide +kernel
theorem dksX5_value_1 : cX5_value.data.toList.drop 22 = dktX5_value_1 := dk_seg dksX5_value_0 22 rfl rfl
theorem dksX5_value_2 : cX5_value.data.toList.drop 46 = dktX5_value_2 := dk_seg dksX5_value_1 24 rfl rfl
theorem dX5_value_0 : decode cX5_value 0 = .ok (.aload_n 0, 1) := dk_42 (dk_at dksX5_value_0 0 rfl rfl)
theorem dX5_value_1 : decode cX5_value 1 = .ok (.iconst 0, 1) := dk_3 (dk_at dksX5_value_0 1 rfl rfl)
theorem dX5_value_2 : decode cX5_value 2 = .ok (.putfield 3, 3) := dk_181 0 3 (dk_at dksX5_value_0 2 rfl rfl)
theorem dX5_value_5 : decode cX5_value 5 = .ok (.aload_n 0, 1) := dk_42 (dk_at dksX5_value_0 5 rfl rfl)
theorem dX5_value_6 : decode cX5_value 6 = .ok (.iload_n 1, 1) := dk_27 (dk_at dksX5_value_0 6 rfl rfl)
theorem dX5_value_7 : decode cX5_value 7 = .ok (.invokevirtual 256, 3) := dk_182 1 0 (dk_at dksX5_value_0 7 rfl rfl)
theorem dX5_value_10 : decode cX5_value 10 = .ok (.ifCond .eq 20, 3) := dk_153 0 20 (dk_at dksX5_value_0 10 rfl rfl)
theorem dX5_value_13 : decode cX5_value 13 = .ok (.aload_n 0, 1) := dk_42 (dk_at dksX5_value_0 13 rfl rfl)
theorem dX5_value_14 : decode cX5_value 14 = .ok (.iload_n 2, 1) := dk_28 (dk_at dksX5_value_0 14 rfl rfl)
theorem dX5_value_15 : decode cX5_value 15 = .ok (.invokevirtual 77, 3) := dk_182 0 77 (dk_at dksX5_value_0 15 rfl rfl)
theorem dX5_value_18 : decode cX5_value 18 = .ok (.ifCond .eq 12, 3) := dk_153 0 12 (dk_at dksX5_value_0 18 rfl rfl)
theorem dX5_value_21 : decode cX5_value 21 = .ok (.aload_n 0, 1) := dk_42 (dk_at dksX5_value_0 21 rfl rfl)
theorem dX5_value_22 : decode cX5_value 22 = .ok (.getfield 199, 3) := dk_180 0 199 (dk_at dksX5_value_1 0 rfl rfl)
theorem dX5_value_25 : decode cX5_value 25 = .ok (.iconst 0, 1) := dk_3 (dk_at dksX5_value_1 3 rfl rfl)
theorem dX5_value_26 : decode cX5_value 26 = .ok (.iaload, 1) := dk_46 (dk_at dksX5_value_1 4 rfl rfl)
theorem dX5_value_27 : decode cX5_value 27 = .ok (.ifCond .ne 8, 3) := dk_154 0 8 (dk_at dksX5_value_1 5 rfl rfl)
theorem dX5_value_30 : decode cX5_value 30 = .ok (.aload_n 0, 1) := dk_42 (dk_at dksX5_value_1 8 rfl rfl)
theorem dX5_value_31 : decode cX5_value 31 = .ok (.invokevirtual 259, 3) := dk_182 1 3 (dk_at dksX5_value_1 9 rfl rfl)
theorem dX5_value_34 : decode cX5_value 34 = .ok (.ireturn, 1) := dk_172 (dk_at dksX5_value_1 12 rfl rfl)
theorem dX5_value_35 : decode cX5_value 35 = .ok (.aload_n 0, 1) := dk_42 (dk_at dksX5_value_1 13 rfl rfl)
theorem dX5_value_36 : decode cX5_value 36 = .ok (.iload_n 1, 1) := dk_27 (dk_at dksX5_value_1 14 rfl rfl)
theorem dX5_value_37 : decode cX5_value 37 = .ok (.iload_n 2, 1) := dk_28 (dk_at dksX5_value_1 15 rfl rfl)
theorem dX5_value_38 : decode cX5_value 38 = .ok (.aload_n 0, 1) := dk_42 (dk_at dksX5_value_1 16 rfl rfl)
theorem dX5_value_39 : decode cX5_value 39 = .ok (.getfield 140, 3) := dk_180 0 140 (dk_at dksX5_value_1 17 rfl rfl)
theorem dX5_value_42 : decode cX5_value 42 = .ok (.iconst 0, 1) := dk_3 (dk_at dksX5_value_1 20 rfl rfl)
theorem dX5_value_43 : decode cX5_value 43 = .ok (.iaload, 1) := dk_46 (dk_at dksX5_value_1 21 rfl rfl)
theorem dX5_value_44 : decode cX5_value 44 = .ok (.iconst 1, 1) := dk_4 (dk_at dksX5_value_1 22 rfl rfl)
theorem dX5_value_45 : decode cX5_value 45 = .ok (.iadd, 1) := dk_96 (dk_at dksX5_value_1 23 rfl rfl)
theorem dX5_value_46 : decode cX5_value 46 = .ok (.invokevirtual 262, 3) := dk_182 1 6 (dk_at dksX5_value_2 0 rfl rfl)
theorem dX5_value_49 : decode cX5_value 49 = .ok (.ireturn, 1) := dk_172 (dk_at dksX5_value_2 3 rfl rfl)
def dkwX5_isPiece_0 : List UInt8 := [27, 133, 9, 42, 180, 0, 151, 4, 100, 133, 184, 0, 25, 172]
abbrev dktX5_isPiece_0 : List UInt8 := dkwX5_isPiece_0 ++ []
theorem dksX5_isPiece_0 : cX5_isPiece.data.toList.drop 0 = dktX5_isPiece_0 := by decide +kernel
theorem dX5_isPiece_0 : decode cX5_isPiece 0 = .ok (.iload_n 1, 1) := dk_27 (dk_at dksX5_isPiece_0 0 rfl rfl)
theorem dX5_isPiece_1 : decode cX5_isPiece 1 = .ok (.i2l, 1) := dk_133 (dk_at dksX5_isPiece_0 1 rfl rfl)
theorem dX5_isPiece_2 : decode cX5_isPiece 2 = .ok (.lconst 0, 1) := dk_9 (dk_at dksX5_isPiece_0 2 rfl rfl)
theorem dX5_isPiece_3 : decode cX5_isPiece 3 = .ok (.aload_n 0, 1) := dk_42 (dk_at dksX5_isPiece_0 3 rfl rfl)
theorem dX5_isPiece_4 : decode cX5_isPiece 4 = .ok (.getfield 151, 3) := dk_180 0 151 (dk_at dksX5_isPiece_0 4 rfl rfl)
theorem dX5_isPiece_7 : decode cX5_isPiece 7 = .ok (.iconst 1, 1) := dk_4 (dk_at dksX5_isPiece_0 7 rfl rfl)
theorem dX5_isPiece_8 : decode cX5_isPiece 8 = .ok (.isub, 1) := dk_100 (dk_at dksX5_isPiece_0 8 rfl rfl)
theorem dX5_isPiece_9 : decode cX5_isPiece 9 = .ok (.i2l, 1) := dk_133 (dk_at dksX5_isPiece_0 9 rfl rfl)
theorem dX5_isPiece_10 : decode cX5_isPiece 10 = .ok (.invokestatic 25, 3) := dk_184 0 25 (dk_at dksX5_isPiece_0 10 rfl rfl)
theorem dX5_isPiece_13 : decode cX5_isPiece 13 = .ok (.ireturn, 1) := dk_172 (dk_at dksX5_isPiece_0 13 rfl rfl)
def dkwX5_refuse_0 : List UInt8 := [42, 4, 181, 0, 3, 3, 172]
abbrev dktX5_refuse_0 : List UInt8 := dkwX5_refuse_0 ++ []
theorem dksX5_refuse_0 : cX5_refuse.data.toList.drop 0 = dktX5_refuse_0 := by decide +kernel
theorem dX5_refuse_0 : decode cX5_refuse 0 = .ok (.aload_n 0, 1) := dk_42 (dk_at dksX5_refuse_0 0 rfl rfl)
theorem dX5_refuse_1 : decode cX5_refuse 1 = .ok (.iconst 1, 1) := dk_4 (dk_at dksX5_refuse_0 1 rfl rfl)
theorem dX5_refuse_2 : decode cX5_refuse 2 = .ok (.putfield 3, 3) := dk_181 0 3 (dk_at dksX5_refuse_0 2 rfl rfl)
theorem dX5_refuse_5 : decode cX5_refuse 5 = .ok (.iconst 0, 1) := dk_3 (dk_at dksX5_refuse_0 5 rfl rfl)
theorem dX5_refuse_6 : decode cX5_refuse 6 = .ok (.ireturn, 1) := dk_172 (dk_at dksX5_refuse_0 6 rfl rfl)
def dkwX5_worked_8 : List UInt8 := [167, 255, 79, 42, 180, 0, 246, 3, 46, 172]
abbrev dktX5_worked_8 : List UInt8 := dkwX5_worked_8 ++ []
def dkwX5_worked_7 : List UInt8 := [180, 0, 246, 21, 4, 4, 100, 46, 42, 180, 0, 246, 21, 4, 46, 184, 0, 253, 79, 132, 5, 1]
abbrev dktX5_worked_7 : List UInt8 := dkwX5_worked_7 ++ dktX5_worked_8
def dkwX5_worked_6 : List UInt8 := [79, 167, 0, 40, 132, 4, 255, 42, 180, 0, 246, 21, 4, 4, 100, 21, 6, 17, 7, 208, 100, 42]
abbrev dktX5_worked_6 : List UInt8 := dkwX5_worked_6 ++ dktX5_worked_7
def dkwX5_worked_5 : List UInt8 := [17, 8, 78, 160, 0, 25, 42, 180, 0, 246, 21, 4, 4, 100, 42, 180, 0, 246, 21, 4, 4, 100, 46, 116]
abbrev dktX5_worked_5 : List UInt8 := dkwX5_worked_5 ++ dktX5_worked_6
def dkwX5_worked_4 : List UInt8 := [21, 4, 4, 100, 46, 154, 0, 7, 4, 167, 0, 4, 3, 184, 0, 124, 79, 167, 0, 70, 21, 6]
abbrev dktX5_worked_4 : List UInt8 := dkwX5_worked_4 ++ dktX5_worked_5
def dkwX5_worked_3 : List UInt8 := [167, 0, 110, 21, 6, 17, 7, 241, 160, 0, 35, 42, 180, 0, 246, 21, 4, 4, 100, 42, 180, 0, 246]
abbrev dktX5_worked_3 : List UInt8 := dkwX5_worked_3 ++ dktX5_worked_4
def dkwX5_worked_2 : List UInt8 := [21, 6, 167, 0, 16, 42, 21, 6, 17, 3, 232, 100, 27, 28, 29, 182, 0, 249, 79, 132, 4, 1]
abbrev dktX5_worked_2 : List UInt8 := dkwX5_worked_2 ++ dktX5_worked_3
def dkwX5_worked_1 : List UInt8 := [54, 6, 21, 6, 17, 7, 208, 162, 0, 42, 42, 180, 0, 246, 21, 4, 21, 6, 17, 3, 232, 162, 0, 8]
abbrev dktX5_worked_1 : List UInt8 := dkwX5_worked_1 ++ dktX5_worked_2
def dkwX5_worked_0 : List UInt8 := [3, 54, 4, 3, 54, 5, 21, 5, 42, 180, 0, 199, 3, 46, 162, 0, 172, 42, 180, 0, 196, 21, 5, 46]
abbrev dktX5_worked_0 : List UInt8 := dkwX5_worked_0 ++ dktX5_worked_1
theorem dksX5_worked_0 : cX5_worked.data.toList.drop 0 = dktX5_worked_0 := by decide +kernel
theorem dksX5_worked_1 : cX5_worked.data.toList.drop 24 = dktX5_worked_1 := dk_seg dksX5_worked_0 24 rfl rfl
theorem dksX5_worked_2 : cX5_worked.data.toList.drop 48 = dktX5_worked_2 := dk_seg dksX5_worked_1 24 rfl rfl
theorem dksX5_worked_3 : cX5_worked.data.toList.drop 70 = dktX5_worked_3 := dk_seg dksX5_worked_2 22 rfl rfl
theorem dksX5_worked_4 : cX5_worked.data.toList.drop 93 = dktX5_worked_4 := dk_seg dksX5_worked_3 23 rfl rfl
theorem dksX5_worked_5 : cX5_worked.data.toList.drop 115 = dktX5_worked_5 := dk_seg dksX5_worked_4 22 rfl rfl
theorem dksX5_worked_6 : cX5_worked.data.toList.drop 139 = dktX5_worked_6 := dk_seg dksX5_worked_5 24 rfl rfl
theorem dksX5_worked_7 : cX5_worked.data.toList.drop 161 = dktX5_worked_7 := dk_seg dksX5_worked_6 22 rfl rfl
theorem dksX5_worked_8 : cX5_worked.data.toList.drop 183 = dktX5_worked_8 := dk_seg dksX5_worked_7 22 rfl rfl
theorem dX5_worked_0 : decode cX5_worked 0 = .ok (.iconst 0, 1) := dk_3 (dk_at dksX5_worked_0 0 rfl rfl)
theorem dX5_worked_1 : decode cX5_worked 1 = .ok (.istore 4, 2) := dk_54 4 (dk_at dksX5_worked_0 1 rfl rfl)
theorem dX5_worked_3 : decode cX5_worked 3 = .ok (.iconst 0, 1) := dk_3 (dk_at dksX5_worked_0 3 rfl rfl)
theorem dX5_worked_4 : decode cX5_worked 4 = .ok (.istore 5, 2) := dk_54 5 (dk_at dksX5_worked_0 4 rfl rfl)
theorem dX5_worked_6 : decode cX5_worked 6 = .ok (.iload 5, 2) := dk_21 5 (dk_at dksX5_worked_0 6 rfl rfl)
theorem dX5_worked_8 : decode cX5_worked 8 = .ok (.aload_n 0, 1) := dk_42 (dk_at dksX5_worked_0 8 rfl rfl)
theorem dX5_worked_9 : decode cX5_worked 9 = .ok (.getfield 199, 3) := dk_180 0 199 (dk_at dksX5_worked_0 9 rfl rfl)
theorem dX5_worked_12 : decode cX5_worked 12 = .ok (.iconst 0, 1) := dk_3 (dk_at dksX5_worked_0 12 rfl rfl)
theorem dX5_worked_13 : decode cX5_worked 13 = .ok (.iaload, 1) := dk_46 (dk_at dksX5_worked_0 13 rfl rfl)
theorem dX5_worked_14 : decode cX5_worked 14 = .ok (.if_icmp .ge 172, 3) := dk_162 0 172 (dk_at dksX5_worked_0 14 rfl rfl)
theorem dX5_worked_17 : decode cX5_worked 17 = .ok (.aload_n 0, 1) := dk_42 (dk_at dksX5_worked_0 17 rfl rfl)
theorem dX5_worked_18 : decode cX5_worked 18 = .ok (.getfield 196, 3) := dk_180 0 196 (dk_at dksX5_worked_0 18 rfl rfl)
theorem dX5_worked_21 : decode cX5_worked 21 = .ok (.iload 5, 2) := dk_21 5 (dk_at dksX5_worked_0 21 rfl rfl)
theorem dX5_worked_23 : decode cX5_worked 23 = .ok (.iaload, 1) := dk_46 (dk_at dksX5_worked_0 23 rfl rfl)
theorem dX5_worked_24 : decode cX5_worked 24 = .ok (.istore 6, 2) := dk_54 6 (dk_at dksX5_worked_1 0 rfl rfl)
theorem dX5_worked_26 : decode cX5_worked 26 = .ok (.iload 6, 2) := dk_21 6 (dk_at dksX5_worked_1 2 rfl rfl)
theorem dX5_worked_28 : decode cX5_worked 28 = .ok (.sipush 2000, 3) := dk_17 7 208 (dk_at dksX5_worked_1 4 rfl rfl)
theorem dX5_worked_31 : decode cX5_worked 31 = .ok (.if_icmp .ge 42, 3) := dk_162 0 42 (dk_at dksX5_worked_1 7 rfl rfl)
theorem dX5_worked_34 : decode cX5_worked 34 = .ok (.aload_n 0, 1) := dk_42 (dk_at dksX5_worked_1 10 rfl rfl)
theorem dX5_worked_35 : decode cX5_worked 35 = .ok (.getfield 246, 3) := dk_180 0 246 (dk_at dksX5_worked_1 11 rfl rfl)
theorem dX5_worked_38 : decode cX5_worked 38 = .ok (.iload 4, 2) := dk_21 4 (dk_at dksX5_worked_1 14 rfl rfl)
theorem dX5_worked_40 : decode cX5_worked 40 = .ok (.iload 6, 2) := dk_21 6 (dk_at dksX5_worked_1 16 rfl rfl)
theorem dX5_worked_42 : decode cX5_worked 42 = .ok (.sipush 1000, 3) := dk_17 3 232 (dk_at dksX5_worked_1 18 rfl rfl)
theorem dX5_worked_45 : decode cX5_worked 45 = .ok (.if_icmp .ge 8, 3) := dk_162 0 8 (dk_at dksX5_worked_1 21 rfl rfl)
theorem dX5_worked_48 : decode cX5_worked 48 = .ok (.iload 6, 2) := dk_21 6 (dk_at dksX5_worked_2 0 rfl rfl)
theorem dX5_worked_50 : decode cX5_worked 50 = .ok (.goto 16, 3) := dk_167 0 16 (dk_at dksX5_worked_2 2 rfl rfl)
theorem dX5_worked_53 : decode cX5_worked 53 = .ok (.aload_n 0, 1) := dk_42 (dk_at dksX5_worked_2 5 rfl rfl)
theorem dX5_worked_54 : decode cX5_worked 54 = .ok (.iload 6, 2) := dk_21 6 (dk_at dksX5_worked_2 6 rfl rfl)
theorem dX5_worked_56 : decode cX5_worked 56 = .ok (.sipush 1000, 3) := dk_17 3 232 (dk_at dksX5_worked_2 8 rfl rfl)
theorem dX5_worked_59 : decode cX5_worked 59 = .ok (.isub, 1) := dk_100 (dk_at dksX5_worked_2 11 rfl rfl)
theorem dX5_worked_60 : decode cX5_worked 60 = .ok (.iload_n 1, 1) := dk_27 (dk_at dksX5_worked_2 12 rfl rfl)
theorem dX5_worked_61 : decode cX5_worked 61 = .ok (.iload_n 2, 1) := dk_28 (dk_at dksX5_worked_2 13 rfl rfl)
theorem dX5_worked_62 : decode cX5_worked 62 = .ok (.iload_n 3, 1) := dk_29 (dk_at dksX5_worked_2 14 rfl rfl)
theorem dX5_worked_63 : decode cX5_worked 63 = .ok (.invokevirtual 249, 3) := dk_182 0 249 (dk_at dksX5_worked_2 15 rfl rfl)
theorem dX5_worked_66 : decode cX5_worked 66 = .ok (.iastore, 1) := dk_79 (dk_at dksX5_worked_2 18 rfl rfl)
theorem dX5_worked_67 : decode cX5_worked 67 = .ok (.iinc 4 1, 3) := dk_132 4 1 (dk_at dksX5_worked_2 19 rfl rfl)
theorem dX5_worked_70 : decode cX5_worked 70 = .ok (.goto 110, 3) := dk_167 0 110 (dk_at dksX5_worked_3 0 rfl rfl)
theorem dX5_worked_73 : decode cX5_worked 73 = .ok (.iload 6, 2) := dk_21 6 (dk_at dksX5_worked_3 3 rfl rfl)
theorem dX5_worked_75 : decode cX5_worked 75 = .ok (.sipush 2033, 3) := dk_17 7 241 (dk_at dksX5_worked_3 5 rfl rfl)
theorem dX5_worked_78 : decode cX5_worked 78 = .ok (.if_icmp .ne 35, 3) := dk_160 0 35 (dk_at dksX5_worked_3 8 rfl rfl)
theorem dX5_worked_81 : decode cX5_worked 81 = .ok (.aload_n 0, 1) := dk_42 (dk_at dksX5_worked_3 11 rfl rfl)
theorem dX5_worked_82 : decode cX5_worked 82 = .ok (.getfield 246, 3) := dk_180 0 246 (dk_at dksX5_worked_3 12 rfl rfl)
theorem dX5_worked_85 : decode cX5_worked 85 = .ok (.iload 4, 2) := dk_21 4 (dk_at dksX5_worked_3 15 rfl rfl)
theorem dX5_worked_87 : decode cX5_worked 87 = .ok (.iconst 1, 1) := dk_4 (dk_at dksX5_worked_3 17 rfl rfl)
theorem dX5_worked_88 : decode cX5_worked 88 = .ok (.isub, 1) := dk_100 (dk_at dksX5_worked_3 18 rfl rfl)
theorem dX5_worked_89 : decode cX5_worked 89 = .ok (.aload_n 0, 1) := dk_42 (dk_at dksX5_worked_3 19 rfl rfl)
theorem dX5_worked_90 : decode cX5_worked 90 = .ok (.getfield 246, 3) := dk_180 0 246 (dk_at dksX5_worked_3 20 rfl rfl)
theorem dX5_worked_93 : decode cX5_worked 93 = .ok (.iload 4, 2) := dk_21 4 (dk_at dksX5_worked_4 0 rfl rfl)
theorem dX5_worked_95 : decode cX5_worked 95 = .ok (.iconst 1, 1) := dk_4 (dk_at dksX5_worked_4 2 rfl rfl)
theorem dX5_worked_96 : decode cX5_worked 96 = .ok (.isub, 1) := dk_100 (dk_at dksX5_worked_4 3 rfl rfl)
theorem dX5_worked_97 : decode cX5_worked 97 = .ok (.iaload, 1) := dk_46 (dk_at dksX5_worked_4 4 rfl rfl)
theorem dX5_worked_98 : decode cX5_worked 98 = .ok (.ifCond .ne 7, 3) := dk_154 0 7 (dk_at dksX5_worked_4 5 rfl rfl)
theorem dX5_worked_101 : decode cX5_worked 101 = .ok (.iconst 1, 1) := dk_4 (dk_at dksX5_worked_4 8 rfl rfl)
theorem dX5_worked_102 : decode cX5_worked 102 = .ok (.goto 4, 3) := dk_167 0 4 (dk_at dksX5_worked_4 9 rfl rfl)
theorem dX5_worked_105 : decode cX5_worked 105 = .ok (.iconst 0, 1) := dk_3 (dk_at dksX5_worked_4 12 rfl rfl)
theorem dX5_worked_106 : decode cX5_worked 106 = .ok (.invokestatic 124, 3) := dk_184 0 124 (dk_at dksX5_worked_4 13 rfl rfl)
theorem dX5_worked_109 : decode cX5_worked 109 = .ok (.iastore, 1) := dk_79 (dk_at dksX5_worked_4 16 rfl rfl)
theorem dX5_worked_110 : decode cX5_worked 110 = .ok (.goto 70, 3) := dk_167 0 70 (dk_at dksX5_worked_4 17 rfl rfl)
theorem dX5_worked_113 : decode cX5_worked 113 = .ok (.iload 6, 2) := dk_21 6 (dk_at dksX5_worked_4 20 rfl rfl)
theorem dX5_worked_115 : decode cX5_worked 115 = .ok (.sipush 2126, 3) := dk_17 8 78 (dk_at dksX5_worked_5 0 rfl rfl)
theorem dX5_worked_118 : decode cX5_worked 118 = .ok (.if_icmp .ne 25, 3) := dk_160 0 25 (dk_at dksX5_worked_5 3 rfl rfl)
theorem dX5_worked_121 : decode cX5_worked 121 = .ok (.aload_n 0, 1) := dk_42 (dk_at dksX5_worked_5 6 rfl rfl)
theorem dX5_worked_122 : decode cX5_worked 122 = .ok (.getfield 246, 3) := dk_180 0 246 (dk_at dksX5_worked_5 7 rfl rfl)
theorem dX5_worked_125 : decode cX5_worked 125 = .ok (.iload 4, 2) := dk_21 4 (dk_at dksX5_worked_5 10 rfl rfl)
theorem dX5_worked_127 : decode cX5_worked 127 = .ok (.iconst 1, 1) := dk_4 (dk_at dksX5_worked_5 12 rfl rfl)
theorem dX5_worked_128 : decode cX5_worked 128 = .ok (.isub, 1) := dk_100 (dk_at dksX5_worked_5 13 rfl rfl)
theorem dX5_worked_129 : decode cX5_worked 129 = .ok (.aload_n 0, 1) := dk_42 (dk_at dksX5_worked_5 14 rfl rfl)
theorem dX5_worked_130 : decode cX5_worked 130 = .ok (.getfield 246, 3) := dk_180 0 246 (dk_at dksX5_worked_5 15 rfl rfl)
theorem dX5_worked_133 : decode cX5_worked 133 = .ok (.iload 4, 2) := dk_21 4 (dk_at dksX5_worked_5 18 rfl rfl)
theorem dX5_worked_135 : decode cX5_worked 135 = .ok (.iconst 1, 1) := dk_4 (dk_at dksX5_worked_5 20 rfl rfl)
theorem dX5_worked_136 : decode cX5_worked 136 = .ok (.isub, 1) := dk_100 (dk_at dksX5_worked_5 21 rfl rfl)
theorem dX5_worked_137 : decode cX5_worked 137 = .ok (.iaload, 1) := dk_46 (dk_at dksX5_worked_5 22 rfl rfl)
theorem dX5_worked_138 : decode cX5_worked 138 = .ok (.ineg, 1) := dk_116 (dk_at dksX5_worked_5 23 rfl rfl)
theorem dX5_worked_139 : decode cX5_worked 139 = .ok (.iastore, 1) := dk_79 (dk_at dksX5_worked_6 0 rfl rfl)
theorem dX5_worked_140 : decode cX5_worked 140 = .ok (.goto 40, 3) := dk_167 0 40 (dk_at dksX5_worked_6 1 rfl rfl)
theorem dX5_worked_143 : decode cX5_worked 143 = .ok (.iinc 4 (-1), 3) := dk_132 4 255 (dk_at dksX5_worked_6 4 rfl rfl)
theorem dX5_worked_146 : decode cX5_worked 146 = .ok (.aload_n 0, 1) := dk_42 (dk_at dksX5_worked_6 7 rfl rfl)
theorem dX5_worked_147 : decode cX5_worked 147 = .ok (.getfield 246, 3) := dk_180 0 246 (dk_at dksX5_worked_6 8 rfl rfl)
theorem dX5_worked_150 : decode cX5_worked 150 = .ok (.iload 4, 2) := dk_21 4 (dk_at dksX5_worked_6 11 rfl rfl)
theorem dX5_worked_152 : decode cX5_worked 152 = .ok (.iconst 1, 1) := dk_4 (dk_at dksX5_worked_6 13 rfl rfl)
theorem dX5_worked_153 : decode cX5_worked 153 = .ok (.isub, 1) := dk_100 (dk_at dksX5_worked_6 14 rfl rfl)
theorem dX5_worked_154 : decode cX5_worked 154 = .ok (.iload 6, 2) := dk_21 6 (dk_at dksX5_worked_6 15 rfl rfl)
theorem dX5_worked_156 : decode cX5_worked 156 = .ok (.sipush 2000, 3) := dk_17 7 208 (dk_at dksX5_worked_6 17 rfl rfl)
theorem dX5_worked_159 : decode cX5_worked 159 = .ok (.isub, 1) := dk_100 (dk_at dksX5_worked_6 20 rfl rfl)
theorem dX5_worked_160 : decode cX5_worked 160 = .ok (.aload_n 0, 1) := dk_42 (dk_at dksX5_worked_6 21 rfl rfl)
theorem dX5_worked_161 : decode cX5_worked 161 = .ok (.getfield 246, 3) := dk_180 0 246 (dk_at dksX5_worked_7 0 rfl rfl)
theorem dX5_worked_164 : decode cX5_worked 164 = .ok (.iload 4, 2) := dk_21 4 (dk_at dksX5_worked_7 3 rfl rfl)
theorem dX5_worked_166 : decode cX5_worked 166 = .ok (.iconst 1, 1) := dk_4 (dk_at dksX5_worked_7 5 rfl rfl)
theorem dX5_worked_167 : decode cX5_worked 167 = .ok (.isub, 1) := dk_100 (dk_at dksX5_worked_7 6 rfl rfl)
theorem dX5_worked_168 : decode cX5_worked 168 = .ok (.iaload, 1) := dk_46 (dk_at dksX5_worked_7 7 rfl rfl)
theorem dX5_worked_169 : decode cX5_worked 169 = .ok (.aload_n 0, 1) := dk_42 (dk_at dksX5_worked_7 8 rfl rfl)
theorem dX5_worked_170 : decode cX5_worked 170 = .ok (.getfield 246, 3) := dk_180 0 246 (dk_at dksX5_worked_7 9 rfl rfl)
theorem dX5_worked_173 : decode cX5_worked 173 = .ok (.iload 4, 2) := dk_21 4 (dk_at dksX5_worked_7 12 rfl rfl)
theorem dX5_worked_175 : decode cX5_worked 175 = .ok (.iaload, 1) := dk_46 (dk_at dksX5_worked_7 14 rfl rfl)
theorem dX5_worked_176 : decode cX5_worked 176 = .ok (.invokestatic 253, 3) := dk_184 0 253 (dk_at dksX5_worked_7 15 rfl rfl)
theorem dX5_worked_179 : decode cX5_worked 179 = .ok (.iastore, 1) := dk_79 (dk_at dksX5_worked_7 18 rfl rfl)
theorem dX5_worked_180 : decode cX5_worked 180 = .ok (.iinc 5 1, 3) := dk_132 5 1 (dk_at dksX5_worked_7 19 rfl rfl)
theorem dX5_worked_183 : decode cX5_worked 183 = .ok (.goto (-177), 3) := dk_167 255 79 (dk_at dksX5_worked_8 0 rfl rfl)
theorem dX5_worked_186 : decode cX5_worked 186 = .ok (.aload_n 0, 1) := dk_42 (dk_at dksX5_worked_8 3 rfl rfl)
theorem dX5_worked_187 : decode cX5_worked 187 = .ok (.getfield 246, 3) := dk_180 0 246 (dk_at dksX5_worked_8 4 rfl rfl)
theorem dX5_worked_190 : decode cX5_worked 190 = .ok (.iconst 0, 1) := dk_3 (dk_at dksX5_worked_8 7 rfl rfl)
theorem dX5_worked_191 : decode cX5_worked 191 = .ok (.iaload, 1) := dk_46 (dk_at dksX5_worked_8 8 rfl rfl)
theorem dX5_worked_192 : decode cX5_worked 192 = .ok (.ireturn, 1) := dk_172 (dk_at dksX5_worked_8 9 rfl rfl)
def dkwX5_valueOf_8 : List UInt8 := [172, 29, 172]
abbrev dktX5_valueOf_8 : List UInt8 := dkwX5_valueOf_8 ++ []
def dkwX5_valueOf_7 : List UInt8 := [167, 0, 4, 3, 184, 0, 124, 172, 42, 180, 0, 41, 29, 46, 172, 42, 180, 0, 140, 16, 11, 28, 96, 46]
abbrev dktX5_valueOf_7 : List UInt8 := dkwX5_valueOf_7 ++ dktX5_valueOf_8
def dkwX5_valueOf_6 : List UInt8 := [160, 0, 7, 4, 167, 0, 4, 3, 184, 0, 124, 172, 42, 180, 0, 163, 28, 46, 29, 160, 0, 7, 4]
abbrev dktX5_valueOf_6 : List UInt8 := dkwX5_valueOf_6 ++ dktX5_valueOf_7
def dkwX5_valueOf_5 : List UInt8 := [21, 5, 29, 160, 0, 7, 4, 167, 0, 4, 3, 184, 0, 124, 172, 42, 180, 0, 143, 28, 46, 29]
abbrev dktX5_valueOf_5 : List UInt8 := dkwX5_valueOf_5 ++ dktX5_valueOf_6
def dkwX5_valueOf_4 : List UInt8 := [182, 0, 243, 172, 42, 180, 0, 47, 29, 46, 42, 180, 0, 154, 28, 46, 184, 0, 137, 184, 0, 124, 172]
abbrev dktX5_valueOf_4 : List UInt8 := dkwX5_valueOf_4 ++ dktX5_valueOf_5
def dkwX5_valueOf_3 : List UInt8 := [21, 5, 29, 21, 4, 182, 0, 128, 172, 42, 29, 21, 4, 182, 0, 120, 184, 0, 124, 172, 42, 29, 21, 4]
abbrev dktX5_valueOf_3 : List UInt8 := dkwX5_valueOf_3 ++ dktX5_valueOf_4
def dkwX5_valueOf_2 : List UInt8 := [42, 180, 0, 60, 16, 6, 21, 5, 104, 29, 96, 46, 172, 42, 21, 5, 29, 21, 4, 182, 0, 132, 172, 42]
abbrev dktX5_valueOf_2 : List UInt8 := dkwX5_valueOf_2 ++ dktX5_valueOf_3
def dkwX5_valueOf_1 : List UInt8 := [170, 0, 0, 0, 198, 0, 0, 0, 0, 0, 0, 0, 10, 0, 0, 0, 57, 0, 0, 0, 70, 0, 0, 0, 80, 0, 0, 0, 90, 0, 0, 0, 101, 0, 0, 0, 109, 0, 0, 0, 128, 0, 0, 0, 143, 0, 0, 0, 162, 0, 0, 0, 181, 0, 0, 0, 188]
abbrev dktX5_valueOf_1 : List UInt8 := dkwX5_valueOf_1 ++ dktX5_valueOf_2
def dkwX5_valueOf_0 : List UInt8 := [42, 180, 0, 140, 6, 28, 96, 46, 54, 5, 27]
abbrev dktX5_valueOf_0 : List UInt8 := dkwX5_valueOf_0 ++ dktX5_valueOf_1
theorem dksX5_valueOf_0 : cX5_valueOf.data.toList.drop 0 = dktX5_valueOf_0 := by decide +kernel
theorem dksX5_valueOf_1 : cX5_valueOf.data.toList.drop 11 = dktX5_valueOf_1 := dk_seg dksX5_valueOf_0 11 rfl rfl
theorem dksX5_valueOf_2 : cX5_valueOf.data.toList.drop 68 = dktX5_valueOf_2 := dk_seg dksX5_valueOf_1 57 rfl rfl
theorem dksX5_valueOf_3 : cX5_valueOf.data.toList.drop 92 = dktX5_valueOf_3 := dk_seg dksX5_valueOf_2 24 rfl rfl
theorem dksX5_valueOf_4 : cX5_valueOf.data.toList.drop 116 = dktX5_valueOf_4 := dk_seg dksX5_valueOf_3 24 rfl rfl
theorem dksX5_valueOf_5 : cX5_valueOf.data.toList.drop 139 = dktX5_valueOf_5 := dk_seg dksX5_valueOf_4 23 rfl rfl
theorem dksX5_valueOf_6 : cX5_valueOf.data.toList.drop 161 = dktX5_valueOf_6 := dk_seg dksX5_valueOf_5 22 rfl rfl
theorem dksX5_valueOf_7 : cX5_valueOf.data.toList.drop 184 = dktX5_valueOf_7 := dk_seg dksX5_valueOf_6 23 rfl rfl
theorem dksX5_valueOf_8 : cX5_valueOf.data.toList.drop 208 = dktX5_valueOf_8 := dk_seg dksX5_valueOf_7 24 rfl rfl
theorem dX5_valueOf_0 : decode cX5_valueOf 0 = .ok (.aload_n 0, 1) := dk_42 (dk_at dksX5_valueOf_0 0 rfl rfl)
theorem dX5_valueOf_1 : decode cX5_valueOf 1 = .ok (.getfield 140, 3) := dk_180 0 140 (dk_at dksX5_valueOf_0 1 rfl rfl)
theorem dX5_valueOf_4 : decode cX5_valueOf 4 = .ok (.iconst 3, 1) := dk_6 (dk_at dksX5_valueOf_0 4 rfl rfl)
theorem dX5_valueOf_5 : decode cX5_valueOf 5 = .ok (.iload_n 2, 1) := dk_28 (dk_at dksX5_valueOf_0 5 rfl rfl)
theorem dX5_valueOf_6 : decode cX5_valueOf 6 = .ok (.iadd, 1) := dk_96 (dk_at dksX5_valueOf_0 6 rfl rfl)
theorem dX5_valueOf_7 : decode cX5_valueOf 7 = .ok (.iaload, 1) := dk_46 (dk_at dksX5_valueOf_0 7 rfl rfl)
theorem dX5_valueOf_8 : decode cX5_valueOf 8 = .ok (.istore 5, 2) := dk_54 5 (dk_at dksX5_valueOf_0 8 rfl rfl)
theorem dX5_valueOf_10 : decode cX5_valueOf 10 = .ok (.iload_n 1, 1) := dk_27 (dk_at dksX5_valueOf_0 10 rfl rfl)
theorem dX5_valueOf_11 : decode cX5_valueOf 11 = .ok (.tableswitch 198 0 10 #[57, 70, 80, 90, 101, 109, 128, 143, 162, 181, 188], 57) := by decide +kernel
theorem dX5_valueOf_68 : decode cX5_valueOf 68 = .ok (.aload_n 0, 1) := dk_42 (dk_at dksX5_valueOf_2 0 rfl rfl)
theorem dX5_valueOf_69 : decode cX5_valueOf 69 = .ok (.getfield 60, 3) := dk_180 0 60 (dk_at dksX5_valueOf_2 1 rfl rfl)
theorem dX5_valueOf_72 : decode cX5_valueOf 72 = .ok (.bipush 6, 2) := dk_16 6 (dk_at dksX5_valueOf_2 4 rfl rfl)
theorem dX5_valueOf_74 : decode cX5_valueOf 74 = .ok (.iload 5, 2) := dk_21 5 (dk_at dksX5_valueOf_2 6 rfl rfl)
theorem dX5_valueOf_76 : decode cX5_valueOf 76 = .ok (.imul, 1) := dk_104 (dk_at dksX5_valueOf_2 8 rfl rfl)
theorem dX5_valueOf_77 : decode cX5_valueOf 77 = .ok (.iload_n 3, 1) := dk_29 (dk_at dksX5_valueOf_2 9 rfl rfl)
theorem dX5_valueOf_78 : decode cX5_valueOf 78 = .ok (.iadd, 1) := dk_96 (dk_at dksX5_valueOf_2 10 rfl rfl)
theorem dX5_valueOf_79 : decode cX5_valueOf 79 = .ok (.iaload, 1) := dk_46 (dk_at dksX5_valueOf_2 11 rfl rfl)
theorem dX5_valueOf_80 : decode cX5_valueOf 80 = .ok (.ireturn, 1) := dk_172 (dk_at dksX5_valueOf_2 12 rfl rfl)
theorem dX5_valueOf_81 : decode cX5_valueOf 81 = .ok (.aload_n 0, 1) := dk_42 (dk_at dksX5_valueOf_2 13 rfl rfl)
theorem dX5_valueOf_82 : decode cX5_valueOf 82 = .ok (.iload 5, 2) := dk_21 5 (dk_at dksX5_valueOf_2 14 rfl rfl)
theorem dX5_valueOf_84 : decode cX5_valueOf 84 = .ok (.iload_n 3, 1) := dk_29 (dk_at dksX5_valueOf_2 16 rfl rfl)
theorem dX5_valueOf_85 : decode cX5_valueOf 85 = .ok (.iload 4, 2) := dk_21 4 (dk_at dksX5_valueOf_2 17 rfl rfl)
theorem dX5_valueOf_87 : decode cX5_valueOf 87 = .ok (.invokevirtual 132, 3) := dk_182 0 132 (dk_at dksX5_valueOf_2 19 rfl rfl)
theorem dX5_valueOf_90 : decode cX5_valueOf 90 = .ok (.ireturn, 1) := dk_172 (dk_at dksX5_valueOf_2 22 rfl rfl)
theorem dX5_valueOf_91 : decode cX5_valueOf 91 = .ok (.aload_n 0, 1) := dk_42 (dk_at dksX5_valueOf_2 23 rfl rfl)
theorem dX5_valueOf_92 : decode cX5_valueOf 92 = .ok (.iload 5, 2) := dk_21 5 (dk_at dksX5_valueOf_3 0 rfl rfl)
theorem dX5_valueOf_94 : decode cX5_valueOf 94 = .ok (.iload_n 3, 1) := dk_29 (dk_at dksX5_valueOf_3 2 rfl rfl)
theorem dX5_valueOf_95 : decode cX5_valueOf 95 = .ok (.iload 4, 2) := dk_21 4 (dk_at dksX5_valueOf_3 3 rfl rfl)
theorem dX5_valueOf_97 : decode cX5_valueOf 97 = .ok (.invokevirtual 128, 3) := dk_182 0 128 (dk_at dksX5_valueOf_3 5 rfl rfl)
theorem dX5_valueOf_100 : decode cX5_valueOf 100 = .ok (.ireturn, 1) := dk_172 (dk_at dksX5_valueOf_3 8 rfl rfl)
theorem dX5_valueOf_101 : decode cX5_valueOf 101 = .ok (.aload_n 0, 1) := dk_42 (dk_at dksX5_valueOf_3 9 rfl rfl)
theorem dX5_valueOf_102 : decode cX5_valueOf 102 = .ok (.iload_n 3, 1) := dk_29 (dk_at dksX5_valueOf_3 10 rfl rfl)
theorem dX5_valueOf_103 : decode cX5_valueOf 103 = .ok (.iload 4, 2) := dk_21 4 (dk_at dksX5_valueOf_3 11 rfl rfl)
theorem dX5_valueOf_105 : decode cX5_valueOf 105 = .ok (.invokevirtual 120, 3) := dk_182 0 120 (dk_at dksX5_valueOf_3 13 rfl rfl)
theorem dX5_valueOf_108 : decode cX5_valueOf 108 = .ok (.invokestatic 124, 3) := dk_184 0 124 (dk_at dksX5_valueOf_3 16 rfl rfl)
theorem dX5_valueOf_111 : decode cX5_valueOf 111 = .ok (.ireturn, 1) := dk_172 (dk_at dksX5_valueOf_3 19 rfl rfl)
theorem dX5_valueOf_112 : decode cX5_valueOf 112 = .ok (.aload_n 0, 1) := dk_42 (dk_at dksX5_valueOf_3 20 rfl rfl)
theorem dX5_valueOf_113 : decode cX5_valueOf 113 = .ok (.iload_n 3, 1) := dk_29 (dk_at dksX5_valueOf_3 21 rfl rfl)
theorem dX5_valueOf_114 : decode cX5_valueOf 114 = .ok (.iload 4, 2) := dk_21 4 (dk_at dksX5_valueOf_3 22 rfl rfl)
theorem dX5_valueOf_116 : decode cX5_valueOf 116 = .ok (.invokevirtual 243, 3) := dk_182 0 243 (dk_at dksX5_valueOf_4 0 rfl rfl)
theorem dX5_valueOf_119 : decode cX5_valueOf 119 = .ok (.ireturn, 1) := dk_172 (dk_at dksX5_valueOf_4 3 rfl rfl)
theorem dX5_valueOf_120 : decode cX5_valueOf 120 = .ok (.aload_n 0, 1) := dk_42 (dk_at dksX5_valueOf_4 4 rfl rfl)
theorem dX5_valueOf_121 : decode cX5_valueOf 121 = .ok (.getfield 47, 3) := dk_180 0 47 (dk_at dksX5_valueOf_4 5 rfl rfl)
theorem dX5_valueOf_124 : decode cX5_valueOf 124 = .ok (.iload_n 3, 1) := dk_29 (dk_at dksX5_valueOf_4 8 rfl rfl)
theorem dX5_valueOf_125 : decode cX5_valueOf 125 = .ok (.iaload, 1) := dk_46 (dk_at dksX5_valueOf_4 9 rfl rfl)
theorem dX5_valueOf_126 : decode cX5_valueOf 126 = .ok (.aload_n 0, 1) := dk_42 (dk_at dksX5_valueOf_4 10 rfl rfl)
theorem dX5_valueOf_127 : decode cX5_valueOf 127 = .ok (.getfield 154, 3) := dk_180 0 154 (dk_at dksX5_valueOf_4 11 rfl rfl)
theorem dX5_valueOf_130 : decode cX5_valueOf 130 = .ok (.iload_n 2, 1) := dk_28 (dk_at dksX5_valueOf_4 14 rfl rfl)
theorem dX5_valueOf_131 : decode cX5_valueOf 131 = .ok (.iaload, 1) := dk_46 (dk_at dksX5_valueOf_4 15 rfl rfl)
theorem dX5_valueOf_132 : decode cX5_valueOf 132 = .ok (.invokestatic 137, 3) := dk_184 0 137 (dk_at dksX5_valueOf_4 16 rfl rfl)
theorem dX5_valueOf_135 : decode cX5_valueOf 135 = .ok (.invokestatic 124, 3) := dk_184 0 124 (dk_at dksX5_valueOf_4 19 rfl rfl)
theorem dX5_valueOf_138 : decode cX5_valueOf 138 = .ok (.ireturn, 1) := dk_172 (dk_at dksX5_valueOf_4 22 rfl rfl)
theorem dX5_valueOf_139 : decode cX5_valueOf 139 = .ok (.iload 5, 2) := dk_21 5 (dk_at dksX5_valueOf_5 0 rfl rfl)
theorem dX5_valueOf_141 : decode cX5_valueOf 141 = .ok (.iload_n 3, 1) := dk_29 (dk_at dksX5_valueOf_5 2 rfl rfl)
theorem dX5_valueOf_142 : decode cX5_valueOf 142 = .ok (.if_icmp .ne 7, 3) := dk_160 0 7 (dk_at dksX5_valueOf_5 3 rfl rfl)
theorem dX5_valueOf_145 : decode cX5_valueOf 145 = .ok (.iconst 1, 1) := dk_4 (dk_at dksX5_valueOf_5 6 rfl rfl)
theorem dX5_valueOf_146 : decode cX5_valueOf 146 = .ok (.goto 4, 3) := dk_167 0 4 (dk_at dksX5_valueOf_5 7 rfl rfl)
theorem dX5_valueOf_149 : decode cX5_valueOf 149 = .ok (.iconst 0, 1) := dk_3 (dk_at dksX5_valueOf_5 10 rfl rfl)
theorem dX5_valueOf_150 : decode cX5_valueOf 150 = .ok (.invokestatic 124, 3) := dk_184 0 124 (dk_at dksX5_valueOf_5 11 rfl rfl)
theorem dX5_valueOf_153 : decode cX5_valueOf 153 = .ok (.ireturn, 1) := dk_172 (dk_at dksX5_valueOf_5 14 rfl rfl)
theorem dX5_valueOf_154 : decode cX5_valueOf 154 = .ok (.aload_n 0, 1) := dk_42 (dk_at dksX5_valueOf_5 15 rfl rfl)
theorem dX5_valueOf_155 : decode cX5_valueOf 155 = .ok (.getfield 143, 3) := dk_180 0 143 (dk_at dksX5_valueOf_5 16 rfl rfl)
theorem dX5_valueOf_158 : decode cX5_valueOf 158 = .ok (.iload_n 2, 1) := dk_28 (dk_at dksX5_valueOf_5 19 rfl rfl)
theorem dX5_valueOf_159 : decode cX5_valueOf 159 = .ok (.iaload, 1) := dk_46 (dk_at dksX5_valueOf_5 20 rfl rfl)
theorem dX5_valueOf_160 : decode cX5_valueOf 160 = .ok (.iload_n 3, 1) := dk_29 (dk_at dksX5_valueOf_5 21 rfl rfl)
theorem dX5_valueOf_161 : decode cX5_valueOf 161 = .ok (.if_icmp .ne 7, 3) := dk_160 0 7 (dk_at dksX5_valueOf_6 0 rfl rfl)
theorem dX5_valueOf_164 : decode cX5_valueOf 164 = .ok (.iconst 1, 1) := dk_4 (dk_at dksX5_valueOf_6 3 rfl rfl)
theorem dX5_valueOf_165 : decode cX5_valueOf 165 = .ok (.goto 4, 3) := dk_167 0 4 (dk_at dksX5_valueOf_6 4 rfl rfl)
theorem dX5_valueOf_168 : decode cX5_valueOf 168 = .ok (.iconst 0, 1) := dk_3 (dk_at dksX5_valueOf_6 7 rfl rfl)
theorem dX5_valueOf_169 : decode cX5_valueOf 169 = .ok (.invokestatic 124, 3) := dk_184 0 124 (dk_at dksX5_valueOf_6 8 rfl rfl)
theorem dX5_valueOf_172 : decode cX5_valueOf 172 = .ok (.ireturn, 1) := dk_172 (dk_at dksX5_valueOf_6 11 rfl rfl)
theorem dX5_valueOf_173 : decode cX5_valueOf 173 = .ok (.aload_n 0, 1) := dk_42 (dk_at dksX5_valueOf_6 12 rfl rfl)
theorem dX5_valueOf_174 : decode cX5_valueOf 174 = .ok (.getfield 163, 3) := dk_180 0 163 (dk_at dksX5_valueOf_6 13 rfl rfl)
theorem dX5_valueOf_177 : decode cX5_valueOf 177 = .ok (.iload_n 2, 1) := dk_28 (dk_at dksX5_valueOf_6 16 rfl rfl)
theorem dX5_valueOf_178 : decode cX5_valueOf 178 = .ok (.iaload, 1) := dk_46 (dk_at dksX5_valueOf_6 17 rfl rfl)
theorem dX5_valueOf_179 : decode cX5_valueOf 179 = .ok (.iload_n 3, 1) := dk_29 (dk_at dksX5_valueOf_6 18 rfl rfl)
theorem dX5_valueOf_180 : decode cX5_valueOf 180 = .ok (.if_icmp .ne 7, 3) := dk_160 0 7 (dk_at dksX5_valueOf_6 19 rfl rfl)
theorem dX5_valueOf_183 : decode cX5_valueOf 183 = .ok (.iconst 1, 1) := dk_4 (dk_at dksX5_valueOf_6 22 rfl rfl)
theorem dX5_valueOf_184 : decode cX5_valueOf 184 = .ok (.goto 4, 3) := dk_167 0 4 (dk_at dksX5_valueOf_7 0 rfl rfl)
theorem dX5_valueOf_187 : decode cX5_valueOf 187 = .ok (.iconst 0, 1) := dk_3 (dk_at dksX5_valueOf_7 3 rfl rfl)
theorem dX5_valueOf_188 : decode cX5_valueOf 188 = .ok (.invokestatic 124, 3) := dk_184 0 124 (dk_at dksX5_valueOf_7 4 rfl rfl)
theorem dX5_valueOf_191 : decode cX5_valueOf 191 = .ok (.ireturn, 1) := dk_172 (dk_at dksX5_valueOf_7 7 rfl rfl)
theorem dX5_valueOf_192 : decode cX5_valueOf 192 = .ok (.aload_n 0, 1) := dk_42 (dk_at dksX5_valueOf_7 8 rfl rfl)
theorem dX5_valueOf_193 : decode cX5_valueOf 193 = .ok (.getfield 41, 3) := dk_180 0 41 (dk_at dksX5_valueOf_7 9 rfl rfl)
theorem dX5_valueOf_196 : decode cX5_valueOf 196 = .ok (.iload_n 3, 1) := dk_29 (dk_at dksX5_valueOf_7 12 rfl rfl)
theorem dX5_valueOf_197 : decode cX5_valueOf 197 = .ok (.iaload, 1) := dk_46 (dk_at dksX5_valueOf_7 13 rfl rfl)
theorem dX5_valueOf_198 : decode cX5_valueOf 198 = .ok (.ireturn, 1) := dk_172 (dk_at dksX5_valueOf_7 14 rfl rfl)
theorem dX5_valueOf_199 : decode cX5_valueOf 199 = .ok (.aload_n 0, 1) := dk_42 (dk_at dksX5_valueOf_7 15 rfl rfl)
theorem dX5_valueOf_200 : decode cX5_valueOf 200 = .ok (.getfield 140, 3) := dk_180 0 140 (dk_at dksX5_valueOf_7 16 rfl rfl)
theorem dX5_valueOf_203 : decode cX5_valueOf 203 = .ok (.bipush 11, 2) := dk_16 11 (dk_at dksX5_valueOf_7 19 rfl rfl)
theorem dX5_valueOf_205 : decode cX5_valueOf 205 = .ok (.iload_n 2, 1) := dk_28 (dk_at dksX5_valueOf_7 21 rfl rfl)
theorem dX5_valueOf_206 : decode cX5_valueOf 206 = .ok (.iadd, 1) := dk_96 (dk_at dksX5_valueOf_7 22 rfl rfl)
theorem dX5_valueOf_207 : decode cX5_valueOf 207 = .ok (.iaload, 1) := dk_46 (dk_at dksX5_valueOf_7 23 rfl rfl)
theorem dX5_valueOf_208 : decode cX5_valueOf 208 = .ok (.ireturn, 1) := dk_172 (dk_at dksX5_valueOf_8 0 rfl rfl)
theorem dX5_valueOf_209 : decode cX5_valueOf 209 = .ok (.iload_n 3, 1) := dk_29 (dk_at dksX5_valueOf_8 1 rfl rfl)
theorem dX5_valueOf_210 : decode cX5_valueOf 210 = .ok (.ireturn, 1) := dk_172 (dk_at dksX5_valueOf_8 2 rfl rfl)
def dkwX5_opensIn_1 : List UInt8 := [167, 255, 236, 29, 172]
abbrev dktX5_opensIn_1 : List UInt8 := dkwX5_opensIn_1 ++ []
def dkwX5_opensIn_0 : List UInt8 := [3, 62, 29, 16, 99, 162, 0, 20, 42, 27, 28, 29, 96, 182, 0, 120, 154, 0, 9, 132, 3, 1]
abbrev dktX5_opensIn_0 : List UInt8 := dkwX5_opensIn_0 ++ dktX5_opensIn_1
theorem dksX5_opensIn_0 : cX5_opensIn.data.toList.drop 0 = dktX5_opensIn_0 := by decide +kernel
theorem dksX5_opensIn_1 : cX5_opensIn.data.toList.drop 22 = dktX5_opensIn_1 := dk_seg dksX5_opensIn_0 22 rfl rfl
theorem dX5_opensIn_0 : decode cX5_opensIn 0 = .ok (.iconst 0, 1) := dk_3 (dk_at dksX5_opensIn_0 0 rfl rfl)
theorem dX5_opensIn_1 : decode cX5_opensIn 1 = .ok (.istore_n 3, 1) := dk_62 (dk_at dksX5_opensIn_0 1 rfl rfl)
theorem dX5_opensIn_2 : decode cX5_opensIn 2 = .ok (.iload_n 3, 1) := dk_29 (dk_at dksX5_opensIn_0 2 rfl rfl)
theorem dX5_opensIn_3 : decode cX5_opensIn 3 = .ok (.bipush 99, 2) := dk_16 99 (dk_at dksX5_opensIn_0 3 rfl rfl)
theorem dX5_opensIn_5 : decode cX5_opensIn 5 = .ok (.if_icmp .ge 20, 3) := dk_162 0 20 (dk_at dksX5_opensIn_0 5 rfl rfl)
theorem dX5_opensIn_8 : decode cX5_opensIn 8 = .ok (.aload_n 0, 1) := dk_42 (dk_at dksX5_opensIn_0 8 rfl rfl)
theorem dX5_opensIn_9 : decode cX5_opensIn 9 = .ok (.iload_n 1, 1) := dk_27 (dk_at dksX5_opensIn_0 9 rfl rfl)
theorem dX5_opensIn_10 : decode cX5_opensIn 10 = .ok (.iload_n 2, 1) := dk_28 (dk_at dksX5_opensIn_0 10 rfl rfl)
theorem dX5_opensIn_11 : decode cX5_opensIn 11 = .ok (.iload_n 3, 1) := dk_29 (dk_at dksX5_opensIn_0 11 rfl rfl)
theorem dX5_opensIn_12 : decode cX5_opensIn 12 = .ok (.iadd, 1) := dk_96 (dk_at dksX5_opensIn_0 12 rfl rfl)
theorem dX5_opensIn_13 : decode cX5_opensIn 13 = .ok (.invokevirtual 120, 3) := dk_182 0 120 (dk_at dksX5_opensIn_0 13 rfl rfl)
theorem dX5_opensIn_16 : decode cX5_opensIn 16 = .ok (.ifCond .ne 9, 3) := dk_154 0 9 (dk_at dksX5_opensIn_0 16 rfl rfl)
theorem dX5_opensIn_19 : decode cX5_opensIn 19 = .ok (.iinc 3 1, 3) := dk_132 3 1 (dk_at dksX5_opensIn_0 19 rfl rfl)
theorem dX5_opensIn_22 : decode cX5_opensIn 22 = .ok (.goto (-20), 3) := dk_167 255 236 (dk_at dksX5_opensIn_1 0 rfl rfl)
theorem dX5_opensIn_25 : decode cX5_opensIn 25 = .ok (.iload_n 3, 1) := dk_29 (dk_at dksX5_opensIn_1 3 rfl rfl)
theorem dX5_opensIn_26 : decode cX5_opensIn 26 = .ok (.ireturn, 1) := dk_172 (dk_at dksX5_opensIn_1 4 rfl rfl)
def dkwX5_acted_5 : List UInt8 := [172, 27, 154, 0, 7, 28, 153, 0, 7, 4, 167, 0, 4, 3, 184, 0, 124, 172]
abbrev dktX5_acted_5 : List UInt8 := dkwX5_acted_5 ++ []
def dkwX5_acted_4 : List UInt8 := [167, 0, 4, 3, 184, 0, 124, 172, 27, 153, 0, 11, 28, 153, 0, 7, 4, 167, 0, 4, 3, 184, 0, 124]
abbrev dktX5_acted_4 : List UInt8 := dkwX5_acted_4 ++ dktX5_acted_5
def dkwX5_acted_3 : List UInt8 := [184, 0, 124, 172, 27, 28, 164, 0, 7, 4, 167, 0, 4, 3, 184, 0, 124, 172, 27, 28, 160, 0, 7, 4]
abbrev dktX5_acted_3 : List UInt8 := dkwX5_acted_3 ++ dktX5_acted_4
def dkwX5_acted_2 : List UInt8 := [27, 28, 96, 172, 27, 28, 100, 172, 27, 28, 104, 172, 27, 28, 162, 0, 7, 4, 167, 0, 4, 3]
abbrev dktX5_acted_2 : List UInt8 := dkwX5_acted_2 ++ dktX5_acted_3
def dkwX5_acted_1 : List UInt8 := [170, 0, 0, 0, 0, 0, 186, 0, 0, 0, 38, 0, 0, 0, 62, 0, 0, 0, 169, 0, 0, 0, 186, 0, 0, 0, 186, 0, 0, 0, 186, 0, 0, 0, 123, 0, 0, 0, 115, 0, 0, 0, 186, 0, 0, 0, 119, 0, 0, 0, 186, 0, 0, 0, 186, 0, 0, 0, 186, 0, 0, 0, 186, 0, 0, 0, 186, 0, 0, 0, 186, 0, 0, 0, 186, 0, 0, 0, 186, 0, 0, 0, 186, 0, 0, 0, 186, 0, 0, 0, 186, 0, 0, 0, 186, 0, 0, 0, 186, 0, 0, 0, 186, 0, 0, 0, 127, 0, 0, 0, 155, 0, 0, 0, 141]
abbrev dktX5_acted_1 : List UInt8 := dkwX5_acted_1 ++ dktX5_acted_2
def dkwX5_acted_0 : List UInt8 := [26]
abbrev dktX5_acted_0 : List UInt8 := dkwX5_acted_0 ++ dktX5_acted_1
theorem dksX5_acted_0 : cX5_acted.data.toList.drop 0 = dktX5_acted_0 := by decide +kernel
theorem dksX5_acted_1 : cX5_acted.data.toList.drop 1 = dktX5_acted_1 := dk_seg dksX5_acted_0 1 rfl rfl
theorem dksX5_acted_2 : cX5_acted.data.toList.drop 116 = dktX5_acted_2 := dk_seg dksX5_acted_1 115 rfl rfl
theorem dksX5_acted_3 : cX5_acted.data.toList.drop 138 = dktX5_acted_3 := dk_seg dksX5_acted_2 22 rfl rfl
theorem dksX5_acted_4 : cX5_acted.data.toList.drop 162 = dktX5_acted_4 := dk_seg dksX5_acted_3 24 rfl rfl
theorem dksX5_acted_5 : cX5_acted.data.toList.drop 186 = dktX5_acted_5 := dk_seg dksX5_acted_4 24 rfl rfl
theorem dX5_acted_0 : decode cX5_acted 0 = .ok (.iload_n 0, 1) := dk_26 (dk_at dksX5_acted_0 0 rfl rfl)
theorem dX5_acted_1 : decode cX5_acted 1 = .ok (.tableswitch 186 38 62 #[169, 186, 186, 186, 123, 115, 186, 119, 186, 186, 186, 186, 186, 186, 186, 186, 186, 186, 186, 186, 186, 186, 127, 155, 141], 115) := by decide +kernel
theorem dX5_acted_116 : decode cX5_acted 116 = .ok (.iload_n 1, 1) := dk_27 (dk_at dksX5_acted_2 0 rfl rfl)
theorem dX5_acted_117 : decode cX5_acted 117 = .ok (.iload_n 2, 1) := dk_28 (dk_at dksX5_acted_2 1 rfl rfl)
theorem dX5_acted_118 : decode cX5_acted 118 = .ok (.iadd, 1) := dk_96 (dk_at dksX5_acted_2 2 rfl rfl)
theorem dX5_acted_119 : decode cX5_acted 119 = .ok (.ireturn, 1) := dk_172 (dk_at dksX5_acted_2 3 rfl rfl)
theorem dX5_acted_120 : decode cX5_acted 120 = .ok (.iload_n 1, 1) := dk_27 (dk_at dksX5_acted_2 4 rfl rfl)
theorem dX5_acted_121 : decode cX5_acted 121 = .ok (.iload_n 2, 1) := dk_28 (dk_at dksX5_acted_2 5 rfl rfl)
theorem dX5_acted_122 : decode cX5_acted 122 = .ok (.isub, 1) := dk_100 (dk_at dksX5_acted_2 6 rfl rfl)
theorem dX5_acted_123 : decode cX5_acted 123 = .ok (.ireturn, 1) := dk_172 (dk_at dksX5_acted_2 7 rfl rfl)
theorem dX5_acted_124 : decode cX5_acted 124 = .ok (.iload_n 1, 1) := dk_27 (dk_at dksX5_acted_2 8 rfl rfl)
theorem dX5_acted_125 : decode cX5_acted 125 = .ok (.iload_n 2, 1) := dk_28 (dk_at dksX5_acted_2 9 rfl rfl)
theorem dX5_acted_126 : decode cX5_acted 126 = .ok (.imul, 1) := dk_104 (dk_at dksX5_acted_2 10 rfl rfl)
theorem dX5_acted_127 : decode cX5_acted 127 = .ok (.ireturn, 1) := dk_172 (dk_at dksX5_acted_2 11 rfl rfl)
theorem dX5_acted_128 : decode cX5_acted 128 = .ok (.iload_n 1, 1) := dk_27 (dk_at dksX5_acted_2 12 rfl rfl)
theorem dX5_acted_129 : decode cX5_acted 129 = .ok (.iload_n 2, 1) := dk_28 (dk_at dksX5_acted_2 13 rfl rfl)
theorem dX5_acted_130 : decode cX5_acted 130 = .ok (.if_icmp .ge 7, 3) := dk_162 0 7 (dk_at dksX5_acted_2 14 rfl rfl)
theorem dX5_acted_133 : decode cX5_acted 133 = .ok (.iconst 1, 1) := dk_4 (dk_at dksX5_acted_2 17 rfl rfl)
theorem dX5_acted_134 : decode cX5_acted 134 = .ok (.goto 4, 3) := dk_167 0 4 (dk_at dksX5_acted_2 18 rfl rfl)
theorem dX5_acted_137 : decode cX5_acted 137 = .ok (.iconst 0, 1) := dk_3 (dk_at dksX5_acted_2 21 rfl rfl)
theorem dX5_acted_138 : decode cX5_acted 138 = .ok (.invokestatic 124, 3) := dk_184 0 124 (dk_at dksX5_acted_3 0 rfl rfl)
theorem dX5_acted_141 : decode cX5_acted 141 = .ok (.ireturn, 1) := dk_172 (dk_at dksX5_acted_3 3 rfl rfl)
theorem dX5_acted_142 : decode cX5_acted 142 = .ok (.iload_n 1, 1) := dk_27 (dk_at dksX5_acted_3 4 rfl rfl)
theorem dX5_acted_143 : decode cX5_acted 143 = .ok (.iload_n 2, 1) := dk_28 (dk_at dksX5_acted_3 5 rfl rfl)
theorem dX5_acted_144 : decode cX5_acted 144 = .ok (.if_icmp .le 7, 3) := dk_164 0 7 (dk_at dksX5_acted_3 6 rfl rfl)
theorem dX5_acted_147 : decode cX5_acted 147 = .ok (.iconst 1, 1) := dk_4 (dk_at dksX5_acted_3 9 rfl rfl)
theorem dX5_acted_148 : decode cX5_acted 148 = .ok (.goto 4, 3) := dk_167 0 4 (dk_at dksX5_acted_3 10 rfl rfl)
theorem dX5_acted_151 : decode cX5_acted 151 = .ok (.iconst 0, 1) := dk_3 (dk_at dksX5_acted_3 13 rfl rfl)
theorem dX5_acted_152 : decode cX5_acted 152 = .ok (.invokestatic 124, 3) := dk_184 0 124 (dk_at dksX5_acted_3 14 rfl rfl)
theorem dX5_acted_155 : decode cX5_acted 155 = .ok (.ireturn, 1) := dk_172 (dk_at dksX5_acted_3 17 rfl rfl)
theorem dX5_acted_156 : decode cX5_acted 156 = .ok (.iload_n 1, 1) := dk_27 (dk_at dksX5_acted_3 18 rfl rfl)
theorem dX5_acted_157 : decode cX5_acted 157 = .ok (.iload_n 2, 1) := dk_28 (dk_at dksX5_acted_3 19 rfl rfl)
theorem dX5_acted_158 : decode cX5_acted 158 = .ok (.if_icmp .ne 7, 3) := dk_160 0 7 (dk_at dksX5_acted_3 20 rfl rfl)
theorem dX5_acted_161 : decode cX5_acted 161 = .ok (.iconst 1, 1) := dk_4 (dk_at dksX5_acted_3 23 rfl rfl)
theorem dX5_acted_162 : decode cX5_acted 162 = .ok (.goto 4, 3) := dk_167 0 4 (dk_at dksX5_acted_4 0 rfl rfl)
theorem dX5_acted_165 : decode cX5_acted 165 = .ok (.iconst 0, 1) := dk_3 (dk_at dksX5_acted_4 3 rfl rfl)
theorem dX5_acted_166 : decode cX5_acted 166 = .ok (.invokestatic 124, 3) := dk_184 0 124 (dk_at dksX5_acted_4 4 rfl rfl)
theorem dX5_acted_169 : decode cX5_acted 169 = .ok (.ireturn, 1) := dk_172 (dk_at dksX5_acted_4 7 rfl rfl)
theorem dX5_acted_170 : decode cX5_acted 170 = .ok (.iload_n 1, 1) := dk_27 (dk_at dksX5_acted_4 8 rfl rfl)
theorem dX5_acted_171 : decode cX5_acted 171 = .ok (.ifCond .eq 11, 3) := dk_153 0 11 (dk_at dksX5_acted_4 9 rfl rfl)
theorem dX5_acted_174 : decode cX5_acted 174 = .ok (.iload_n 2, 1) := dk_28 (dk_at dksX5_acted_4 12 rfl rfl)
theorem dX5_acted_175 : decode cX5_acted 175 = .ok (.ifCond .eq 7, 3) := dk_153 0 7 (dk_at dksX5_acted_4 13 rfl rfl)
theorem dX5_acted_178 : decode cX5_acted 178 = .ok (.iconst 1, 1) := dk_4 (dk_at dksX5_acted_4 16 rfl rfl)
theorem dX5_acted_179 : decode cX5_acted 179 = .ok (.goto 4, 3) := dk_167 0 4 (dk_at dksX5_acted_4 17 rfl rfl)
theorem dX5_acted_182 : decode cX5_acted 182 = .ok (.iconst 0, 1) := dk_3 (dk_at dksX5_acted_4 20 rfl rfl)
theorem dX5_acted_183 : decode cX5_acted 183 = .ok (.invokestatic 124, 3) := dk_184 0 124 (dk_at dksX5_acted_4 21 rfl rfl)
theorem dX5_acted_186 : decode cX5_acted 186 = .ok (.ireturn, 1) := dk_172 (dk_at dksX5_acted_5 0 rfl rfl)
theorem dX5_acted_187 : decode cX5_acted 187 = .ok (.iload_n 1, 1) := dk_27 (dk_at dksX5_acted_5 1 rfl rfl)
theorem dX5_acted_188 : decode cX5_acted 188 = .ok (.ifCond .ne 7, 3) := dk_154 0 7 (dk_at dksX5_acted_5 2 rfl rfl)
theorem dX5_acted_191 : decode cX5_acted 191 = .ok (.iload_n 2, 1) := dk_28 (dk_at dksX5_acted_5 5 rfl rfl)
theorem dX5_acted_192 : decode cX5_acted 192 = .ok (.ifCond .eq 7, 3) := dk_153 0 7 (dk_at dksX5_acted_5 6 rfl rfl)
theorem dX5_acted_195 : decode cX5_acted 195 = .ok (.iconst 1, 1) := dk_4 (dk_at dksX5_acted_5 9 rfl rfl)
theorem dX5_acted_196 : decode cX5_acted 196 = .ok (.goto 4, 3) := dk_167 0 4 (dk_at dksX5_acted_5 10 rfl rfl)
theorem dX5_acted_199 : decode cX5_acted 199 = .ok (.iconst 0, 1) := dk_3 (dk_at dksX5_acted_5 13 rfl rfl)
theorem dX5_acted_200 : decode cX5_acted 200 = .ok (.invokestatic 124, 3) := dk_184 0 124 (dk_at dksX5_acted_5 14 rfl rfl)
theorem dX5_acted_203 : decode cX5_acted 203 = .ok (.ireturn, 1) := dk_172 (dk_at dksX5_acted_5 17 rfl rfl)
def dkwX5_begin_0 : List UInt8 := [42, 3, 181, 0, 3, 27, 184, 0, 81, 154, 0, 5, 3, 172, 42, 27, 182, 1, 47, 4, 172]
abbrev dktX5_begin_0 : List UInt8 := dkwX5_begin_0 ++ []
theorem dksX5_begin_0 : cX5_begin.data.toList.drop 0 = dktX5_begin_0 := by decide +kernel
theorem dX5_begin_0 : decode cX5_begin 0 = .ok (.aload_n 0, 1) := dk_42 (dk_at dksX5_begin_0 0 rfl rfl)
theorem dX5_begin_1 : decode cX5_begin 1 = .ok (.iconst 0, 1) := dk_3 (dk_at dksX5_begin_0 1 rfl rfl)
theorem dX5_begin_2 : decode cX5_begin 2 = .ok (.putfield 3, 3) := dk_181 0 3 (dk_at dksX5_begin_0 2 rfl rfl)
theorem dX5_begin_5 : decode cX5_begin 5 = .ok (.iload_n 1, 1) := dk_27 (dk_at dksX5_begin_0 5 rfl rfl)
theorem dX5_begin_6 : decode cX5_begin 6 = .ok (.invokestatic 81, 3) := dk_184 0 81 (dk_at dksX5_begin_0 6 rfl rfl)
theorem dX5_begin_9 : decode cX5_begin 9 = .ok (.ifCond .ne 5, 3) := dk_154 0 5 (dk_at dksX5_begin_0 9 rfl rfl)
theorem dX5_begin_12 : decode cX5_begin 12 = .ok (.iconst 0, 1) := dk_3 (dk_at dksX5_begin_0 12 rfl rfl)
theorem dX5_begin_13 : decode cX5_begin 13 = .ok (.ireturn, 1) := dk_172 (dk_at dksX5_begin_0 13 rfl rfl)
theorem dX5_begin_14 : decode cX5_begin 14 = .ok (.aload_n 0, 1) := dk_42 (dk_at dksX5_begin_0 14 rfl rfl)
theorem dX5_begin_15 : decode cX5_begin 15 = .ok (.iload_n 1, 1) := dk_27 (dk_at dksX5_begin_0 15 rfl rfl)
theorem dX5_begin_16 : decode cX5_begin 16 = .ok (.invokevirtual 303, 3) := dk_182 1 47 (dk_at dksX5_begin_0 16 rfl rfl)
theorem dX5_begin_19 : decode cX5_begin 19 = .ok (.iconst 1, 1) := dk_4 (dk_at dksX5_begin_0 19 rfl rfl)
theorem dX5_begin_20 : decode cX5_begin 20 = .ok (.ireturn, 1) := dk_172 (dk_at dksX5_begin_0 20 rfl rfl)
def dkwX5_begins_1 : List UInt8 := [42, 180, 0, 151, 162, 0, 14, 42, 28, 182, 0, 166, 132, 2, 1, 167, 255, 240, 177]
abbrev dktX5_begins_1 : List UInt8 := dkwX5_begins_1 ++ []
def dkwX5_begins_0 : List UInt8 := [42, 180, 0, 140, 3, 27, 79, 42, 180, 0, 140, 4, 3, 79, 42, 180, 0, 140, 5, 3, 79, 3, 61, 28]
abbrev dktX5_begins_0 : List UInt8 := dkwX5_begins_0 ++ dktX5_begins_1
theorem dksX5_begins_0 : cX5_begins.data.toList.drop 0 = dktX5_begins_0 := by decide +kernel
theorem dksX5_begins_1 : cX5_begins.data.toList.drop 24 = dktX5_begins_1 := dk_seg dksX5_begins_0 24 rfl rfl
theorem dX5_begins_0 : decode cX5_begins 0 = .ok (.aload_n 0, 1) := dk_42 (dk_at dksX5_begins_0 0 rfl rfl)
theorem dX5_begins_1 : decode cX5_begins 1 = .ok (.getfield 140, 3) := dk_180 0 140 (dk_at dksX5_begins_0 1 rfl rfl)
theorem dX5_begins_4 : decode cX5_begins 4 = .ok (.iconst 0, 1) := dk_3 (dk_at dksX5_begins_0 4 rfl rfl)
theorem dX5_begins_5 : decode cX5_begins 5 = .ok (.iload_n 1, 1) := dk_27 (dk_at dksX5_begins_0 5 rfl rfl)
theorem dX5_begins_6 : decode cX5_begins 6 = .ok (.iastore, 1) := dk_79 (dk_at dksX5_begins_0 6 rfl rfl)
theorem dX5_begins_7 : decode cX5_begins 7 = .ok (.aload_n 0, 1) := dk_42 (dk_at dksX5_begins_0 7 rfl rfl)
theorem dX5_begins_8 : decode cX5_begins 8 = .ok (.getfield 140, 3) := dk_180 0 140 (dk_at dksX5_begins_0 8 rfl rfl)
theorem dX5_begins_11 : decode cX5_begins 11 = .ok (.iconst 1, 1) := dk_4 (dk_at dksX5_begins_0 11 rfl rfl)
theorem dX5_begins_12 : decode cX5_begins 12 = .ok (.iconst 0, 1) := dk_3 (dk_at dksX5_begins_0 12 rfl rfl)
theorem dX5_begins_13 : decode cX5_begins 13 = .ok (.iastore, 1) := dk_79 (dk_at dksX5_begins_0 13 rfl rfl)
theorem dX5_begins_14 : decode cX5_begins 14 = .ok (.aload_n 0, 1) := dk_42 (dk_at dksX5_begins_0 14 rfl rfl)
theorem dX5_begins_15 : decode cX5_begins 15 = .ok (.getfield 140, 3) := dk_180 0 140 (dk_at dksX5_begins_0 15 rfl rfl)
theorem dX5_begins_18 : decode cX5_begins 18 = .ok (.iconst 2, 1) := dk_5 (dk_at dksX5_begins_0 18 rfl rfl)
theorem dX5_begins_19 : decode cX5_begins 19 = .ok (.iconst 0, 1) := dk_3 (dk_at dksX5_begins_0 19 rfl rfl)
theorem dX5_begins_20 : decode cX5_begins 20 = .ok (.iastore, 1) := dk_79 (dk_at dksX5_begins_0 20 rfl rfl)
theorem dX5_begins_21 : decode cX5_begins 21 = .ok (.iconst 0, 1) := dk_3 (dk_at dksX5_begins_0 21 rfl rfl)
theorem dX5_begins_22 : decode cX5_begins 22 = .ok (.istore_n 2, 1) := dk_61 (dk_at dksX5_begins_0 22 rfl rfl)
theorem dX5_begins_23 : decode cX5_begins 23 = .ok (.iload_n 2, 1) := dk_28 (dk_at dksX5_begins_0 23 rfl rfl)
theorem dX5_begins_24 : decode cX5_begins 24 = .ok (.aload_n 0, 1) := dk_42 (dk_at dksX5_begins_1 0 rfl rfl)
theorem dX5_begins_25 : decode cX5_begins 25 = .ok (.getfield 151, 3) := dk_180 0 151 (dk_at dksX5_begins_1 1 rfl rfl)
theorem dX5_begins_28 : decode cX5_begins 28 = .ok (.if_icmp .ge 14, 3) := dk_162 0 14 (dk_at dksX5_begins_1 4 rfl rfl)
theorem dX5_begins_31 : decode cX5_begins 31 = .ok (.aload_n 0, 1) := dk_42 (dk_at dksX5_begins_1 7 rfl rfl)
theorem dX5_begins_32 : decode cX5_begins 32 = .ok (.iload_n 2, 1) := dk_28 (dk_at dksX5_begins_1 8 rfl rfl)
theorem dX5_begins_33 : decode cX5_begins 33 = .ok (.invokevirtual 166, 3) := dk_182 0 166 (dk_at dksX5_begins_1 9 rfl rfl)
theorem dX5_begins_36 : decode cX5_begins 36 = .ok (.iinc 2 1, 3) := dk_132 2 1 (dk_at dksX5_begins_1 12 rfl rfl)
theorem dX5_begins_39 : decode cX5_begins 39 = .ok (.goto (-16), 3) := dk_167 255 240 (dk_at dksX5_begins_1 15 rfl rfl)
theorem dX5_begins_42 : decode cX5_begins 42 = .ok (.return_, 1) := dk_177 (dk_at dksX5_begins_1 18 rfl rfl)
def dkwX5_go_2 : List UInt8 := [167, 255, 232, 42, 180, 0, 140, 3, 46, 172]
abbrev dktX5_go_2 : List UInt8 := dkwX5_go_2 ++ []
def dkwX5_go_1 : List UInt8 := [162, 0, 25, 42, 180, 0, 140, 3, 46, 17, 9, 95, 162, 0, 13, 42, 182, 1, 52, 132, 2, 1]
abbrev dktX5_go_1 : List UInt8 := dkwX5_go_1 ++ dktX5_go_2
def dkwX5_go_0 : List UInt8 := [42, 3, 181, 0, 3, 27, 133, 9, 20, 1, 50, 184, 0, 25, 154, 0, 5, 2, 172, 3, 61, 28, 27]
abbrev dktX5_go_0 : List UInt8 := dkwX5_go_0 ++ dktX5_go_1
theorem dksX5_go_0 : cX5_go.data.toList.drop 0 = dktX5_go_0 := by decide +kernel
theorem dksX5_go_1 : cX5_go.data.toList.drop 23 = dktX5_go_1 := dk_seg dksX5_go_0 23 rfl rfl
theorem dksX5_go_2 : cX5_go.data.toList.drop 45 = dktX5_go_2 := dk_seg dksX5_go_1 22 rfl rfl
theorem dX5_go_0 : decode cX5_go 0 = .ok (.aload_n 0, 1) := dk_42 (dk_at dksX5_go_0 0 rfl rfl)
theorem dX5_go_1 : decode cX5_go 1 = .ok (.iconst 0, 1) := dk_3 (dk_at dksX5_go_0 1 rfl rfl)
theorem dX5_go_2 : decode cX5_go 2 = .ok (.putfield 3, 3) := dk_181 0 3 (dk_at dksX5_go_0 2 rfl rfl)
theorem dX5_go_5 : decode cX5_go 5 = .ok (.iload_n 1, 1) := dk_27 (dk_at dksX5_go_0 5 rfl rfl)
theorem dX5_go_6 : decode cX5_go 6 = .ok (.i2l, 1) := dk_133 (dk_at dksX5_go_0 6 rfl rfl)
theorem dX5_go_7 : decode cX5_go 7 = .ok (.lconst 0, 1) := dk_9 (dk_at dksX5_go_0 7 rfl rfl)
theorem dX5_go_8 : decode cX5_go 8 = .ok (.ldc2_w 306, 3) := dk_20 1 50 (dk_at dksX5_go_0 8 rfl rfl)
theorem dX5_go_11 : decode cX5_go 11 = .ok (.invokestatic 25, 3) := dk_184 0 25 (dk_at dksX5_go_0 11 rfl rfl)
theorem dX5_go_14 : decode cX5_go 14 = .ok (.ifCond .ne 5, 3) := dk_154 0 5 (dk_at dksX5_go_0 14 rfl rfl)
theorem dX5_go_17 : decode cX5_go 17 = .ok (.iconst (-1), 1) := dk_2 (dk_at dksX5_go_0 17 rfl rfl)
theorem dX5_go_18 : decode cX5_go 18 = .ok (.ireturn, 1) := dk_172 (dk_at dksX5_go_0 18 rfl rfl)
theorem dX5_go_19 : decode cX5_go 19 = .ok (.iconst 0, 1) := dk_3 (dk_at dksX5_go_0 19 rfl rfl)
theorem dX5_go_20 : decode cX5_go 20 = .ok (.istore_n 2, 1) := dk_61 (dk_at dksX5_go_0 20 rfl rfl)
theorem dX5_go_21 : decode cX5_go 21 = .ok (.iload_n 2, 1) := dk_28 (dk_at dksX5_go_0 21 rfl rfl)
theorem dX5_go_22 : decode cX5_go 22 = .ok (.iload_n 1, 1) := dk_27 (dk_at dksX5_go_0 22 rfl rfl)
theorem dX5_go_23 : decode cX5_go 23 = .ok (.if_icmp .ge 25, 3) := dk_162 0 25 (dk_at dksX5_go_1 0 rfl rfl)
theorem dX5_go_26 : decode cX5_go 26 = .ok (.aload_n 0, 1) := dk_42 (dk_at dksX5_go_1 3 rfl rfl)
theorem dX5_go_27 : decode cX5_go 27 = .ok (.getfield 140, 3) := dk_180 0 140 (dk_at dksX5_go_1 4 rfl rfl)
theorem dX5_go_30 : decode cX5_go 30 = .ok (.iconst 0, 1) := dk_3 (dk_at dksX5_go_1 7 rfl rfl)
theorem dX5_go_31 : decode cX5_go 31 = .ok (.iaload, 1) := dk_46 (dk_at dksX5_go_1 8 rfl rfl)
theorem dX5_go_32 : decode cX5_go 32 = .ok (.sipush 2399, 3) := dk_17 9 95 (dk_at dksX5_go_1 9 rfl rfl)
theorem dX5_go_35 : decode cX5_go 35 = .ok (.if_icmp .ge 13, 3) := dk_162 0 13 (dk_at dksX5_go_1 12 rfl rfl)
theorem dX5_go_38 : decode cX5_go 38 = .ok (.aload_n 0, 1) := dk_42 (dk_at dksX5_go_1 15 rfl rfl)
theorem dX5_go_39 : decode cX5_go 39 = .ok (.invokevirtual 308, 3) := dk_182 1 52 (dk_at dksX5_go_1 16 rfl rfl)
theorem dX5_go_42 : decode cX5_go 42 = .ok (.iinc 2 1, 3) := dk_132 2 1 (dk_at dksX5_go_1 19 rfl rfl)
theorem dX5_go_45 : decode cX5_go 45 = .ok (.goto (-24), 3) := dk_167 255 232 (dk_at dksX5_go_2 0 rfl rfl)
theorem dX5_go_48 : decode cX5_go 48 = .ok (.aload_n 0, 1) := dk_42 (dk_at dksX5_go_2 3 rfl rfl)
theorem dX5_go_49 : decode cX5_go 49 = .ok (.getfield 140, 3) := dk_180 0 140 (dk_at dksX5_go_2 4 rfl rfl)
theorem dX5_go_52 : decode cX5_go 52 = .ok (.iconst 0, 1) := dk_3 (dk_at dksX5_go_2 7 rfl rfl)
theorem dX5_go_53 : decode cX5_go 53 = .ok (.iaload, 1) := dk_46 (dk_at dksX5_go_2 8 rfl rfl)
theorem dX5_go_54 : decode cX5_go 54 = .ok (.ireturn, 1) := dk_172 (dk_at dksX5_go_2 9 rfl rfl)
def dkwX5_passes_0 : List UInt8 := [42, 182, 1, 40, 42, 182, 1, 44, 42, 180, 0, 140, 3, 92, 46, 4, 96, 79, 177]
abbrev dktX5_passes_0 : List UInt8 := dkwX5_passes_0 ++ []
theorem dksX5_passes_0 : cX5_passes.data.toList.drop 0 = dktX5_passes_0 := by decide +kernel
theorem dX5_passes_0 : decode cX5_passes 0 = .ok (.aload_n 0, 1) := dk_42 (dk_at dksX5_passes_0 0 rfl rfl)
theorem dX5_passes_1 : decode cX5_passes 1 = .ok (.invokevirtual 296, 3) := dk_182 1 40 (dk_at dksX5_passes_0 1 rfl rfl)
theorem dX5_passes_4 : decode cX5_passes 4 = .ok (.aload_n 0, 1) := dk_42 (dk_at dksX5_passes_0 4 rfl rfl)
theorem dX5_passes_5 : decode cX5_passes 5 = .ok (.invokevirtual 300, 3) := dk_182 1 44 (dk_at dksX5_passes_0 5 rfl rfl)
theorem dX5_passes_8 : decode cX5_passes 8 = .ok (.aload_n 0, 1) := dk_42 (dk_at dksX5_passes_0 8 rfl rfl)
theorem dX5_passes_9 : decode cX5_passes 9 = .ok (.getfield 140, 3) := dk_180 0 140 (dk_at dksX5_passes_0 9 rfl rfl)
theorem dX5_passes_12 : decode cX5_passes 12 = .ok (.iconst 0, 1) := dk_3 (dk_at dksX5_passes_0 12 rfl rfl)
theorem dX5_passes_13 : decode cX5_passes 13 = .ok (.dup2, 1) := dk_92 (dk_at dksX5_passes_0 13 rfl rfl)
theorem dX5_passes_14 : decode cX5_passes 14 = .ok (.iaload, 1) := dk_46 (dk_at dksX5_passes_0 14 rfl rfl)
theorem dX5_passes_15 : decode cX5_passes 15 = .ok (.iconst 1, 1) := dk_4 (dk_at dksX5_passes_0 15 rfl rfl)
theorem dX5_passes_16 : decode cX5_passes 16 = .ok (.iadd, 1) := dk_96 (dk_at dksX5_passes_0 16 rfl rfl)
theorem dX5_passes_17 : decode cX5_passes 17 = .ok (.iastore, 1) := dk_79 (dk_at dksX5_passes_0 17 rfl rfl)
theorem dX5_passes_18 : decode cX5_passes 18 = .ok (.return_, 1) := dk_177 (dk_at dksX5_passes_0 18 rfl rfl)
def dkwX5_works_15 : List UInt8 := [167, 254, 216, 177]
abbrev dktX5_works_15 : List UInt8 := dkwX5_works_15 ++ []
def dkwX5_works_14 : List UInt8 := [180, 0, 140, 16, 27, 28, 96, 4, 79, 42, 180, 0, 140, 16, 19, 28, 96, 3, 79, 132, 2, 1]
abbrev dktX5_works_14 : List UInt8 := dkwX5_works_14 ++ dktX5_works_15
def dkwX5_works_13 : List UInt8 := [155, 0, 41, 42, 180, 0, 140, 16, 19, 28, 96, 46, 42, 180, 0, 157, 28, 46, 160, 0, 23, 42]
abbrev dktX5_works_13 : List UInt8 := dkwX5_works_13 ++ dktX5_works_14
def dkwX5_works_12 : List UInt8 := [154, 0, 18, 42, 180, 0, 140, 16, 35, 28, 96, 27, 4, 96, 79, 167, 0, 49, 42, 28, 182, 1, 34]
abbrev dktX5_works_12 : List UInt8 := dkwX5_works_12 ++ dktX5_works_13
def dkwX5_works_11 : List UInt8 := [180, 0, 140, 4, 92, 46, 42, 180, 0, 41, 29, 46, 96, 79, 42, 180, 0, 140, 16, 11, 28, 96, 46]
abbrev dktX5_works_11 : List UInt8 := dkwX5_works_11 ++ dktX5_works_12
def dkwX5_works_10 : List UInt8 := [16, 19, 28, 96, 92, 46, 4, 96, 79, 42, 180, 0, 140, 16, 43, 28, 96, 92, 46, 4, 96, 79, 42]
abbrev dktX5_works_10 : List UInt8 := dkwX5_works_10 ++ dktX5_works_11
def dkwX5_works_9 : List UInt8 := [28, 120, 128, 181, 1, 28, 42, 180, 0, 140, 16, 11, 28, 96, 92, 46, 4, 100, 79, 42, 180, 0, 140]
abbrev dktX5_works_9 : List UInt8 := dkwX5_works_9 ++ dktX5_works_10
def dkwX5_works_8 : List UInt8 := [29, 46, 161, 0, 6, 167, 0, 152, 42, 180, 1, 31, 29, 92, 46, 4, 96, 79, 42, 89, 180, 1, 28, 4]
abbrev dktX5_works_8 : List UInt8 := dkwX5_works_8 ++ dktX5_works_9
def dkwX5_works_7 : List UInt8 := [29, 46, 42, 180, 0, 154, 28, 46, 184, 0, 137, 153, 0, 170, 42, 180, 1, 31, 29, 46, 42, 180, 0, 44]
abbrev dktX5_works_7 : List UInt8 := dkwX5_works_7 ++ dktX5_works_8
def dkwX5_works_6 : List UInt8 := [167, 0, 4, 3, 184, 0, 124, 79, 167, 0, 197, 42, 29, 27, 182, 0, 120, 153, 0, 188, 42, 180, 0, 47]
abbrev dktX5_works_6 : List UInt8 := dkwX5_works_6 ++ dktX5_works_7
def dkwX5_works_5 : List UInt8 := [29, 27, 182, 0, 120, 153, 0, 17, 42, 42, 180, 0, 163, 28, 46, 27, 182, 0, 120, 154, 0, 7, 4]
abbrev dktX5_works_5 : List UInt8 := dkwX5_works_5 ++ dktX5_works_6
def dkwX5_works_4 : List UInt8 := [160, 0, 58, 42, 89, 180, 1, 25, 4, 28, 120, 128, 181, 1, 25, 42, 180, 0, 140, 16, 27, 28, 96, 42]
abbrev dktX5_works_4 : List UInt8 := dkwX5_works_4 ++ dktX5_works_5
def dkwX5_works_3 : List UInt8 := [167, 1, 18, 42, 180, 0, 140, 6, 28, 96, 46, 62, 42, 180, 0, 140, 16, 27, 28, 96, 46, 4]
abbrev dktX5_works_3 : List UInt8 := dkwX5_works_3 ++ dktX5_works_4
def dkwX5_works_2 : List UInt8 := [167, 255, 238, 3, 61, 28, 42, 180, 0, 151, 162, 1, 38, 42, 180, 1, 22, 28, 184, 0, 137, 154, 0, 6]
abbrev dktX5_works_2 : List UInt8 := dkwX5_works_2 ++ dktX5_works_3
def dkwX5_works_1 : List UInt8 := [181, 1, 28, 3, 61, 28, 42, 180, 0, 22, 162, 0, 16, 42, 180, 1, 31, 28, 3, 79, 132, 2, 1]
abbrev dktX5_works_1 : List UInt8 := dkwX5_works_1 ++ dktX5_works_2
def dkwX5_works_0 : List UInt8 := [42, 180, 0, 140, 3, 46, 60, 42, 42, 182, 1, 19, 181, 1, 22, 42, 3, 181, 1, 25, 42, 3]
abbrev dktX5_works_0 : List UInt8 := dkwX5_works_0 ++ dktX5_works_1
theorem dksX5_works_0 : cX5_works.data.toList.drop 0 = dktX5_works_0 := by decide +kernel
theorem dksX5_works_1 : cX5_works.data.toList.drop 22 = dktX5_works_1 := dk_seg dksX5_works_0 22 rfl rfl
theorem dksX5_works_2 : cX5_works.data.toList.drop 45 = dktX5_works_2 := dk_seg dksX5_works_1 23 rfl rfl
theorem dksX5_works_3 : cX5_works.data.toList.drop 69 = dktX5_works_3 := dk_seg dksX5_works_2 24 rfl rfl
theorem dksX5_works_4 : cX5_works.data.toList.drop 91 = dktX5_works_4 := dk_seg dksX5_works_3 22 rfl rfl
theorem dksX5_works_5 : cX5_works.data.toList.drop 115 = dktX5_works_5 := dk_seg dksX5_works_4 24 rfl rfl
theorem dksX5_works_6 : cX5_works.data.toList.drop 138 = dktX5_works_6 := dk_seg dksX5_works_5 23 rfl rfl
theorem dksX5_works_7 : cX5_works.data.toList.drop 162 = dktX5_works_7 := dk_seg dksX5_works_6 24 rfl rfl
theorem dksX5_works_8 : cX5_works.data.toList.drop 186 = dktX5_works_8 := dk_seg dksX5_works_7 24 rfl rfl
theorem dksX5_works_9 : cX5_works.data.toList.drop 210 = dktX5_works_9 := dk_seg dksX5_works_8 24 rfl rfl
theorem dksX5_works_10 : cX5_works.data.toList.drop 233 = dktX5_works_10 := dk_seg dksX5_works_9 23 rfl rfl
theorem dksX5_works_11 : cX5_works.data.toList.drop 256 = dktX5_works_11 := dk_seg dksX5_works_10 23 rfl rfl
theorem dksX5_works_12 : cX5_works.data.toList.drop 279 = dktX5_works_12 := dk_seg dksX5_works_11 23 rfl rfl
theorem dksX5_works_13 : cX5_works.data.toList.drop 302 = dktX5_works_13 := dk_seg dksX5_works_12 23 rfl rfl
theorem dksX5_works_14 : cX5_works.data.toList.drop 324 = dktX5_works_14 := dk_seg dksX5_works_13 22 rfl rfl
theorem dksX5_works_15 : cX5_works.data.toList.drop 346 = dktX5_works_15 := dk_seg dksX5_works_14 22 rfl rfl
theorem dX5_works_0 : decode cX5_works 0 = .ok (.aload_n 0, 1) := dk_42 (dk_at dksX5_works_0 0 rfl rfl)
theorem dX5_works_1 : decode cX5_works 1 = .ok (.getfield 140, 3) := dk_180 0 140 (dk_at dksX5_works_0 1 rfl rfl)
theorem dX5_works_4 : decode cX5_works 4 = .ok (.iconst 0, 1) := dk_3 (dk_at dksX5_works_0 4 rfl rfl)
theorem dX5_works_5 : decode cX5_works 5 = .ok (.iaload, 1) := dk_46 (dk_at dksX5_works_0 5 rfl rfl)
theorem dX5_works_6 : decode cX5_works 6 = .ok (.istore_n 1, 1) := dk_60 (dk_at dksX5_works_0 6 rfl rfl)
theorem dX5_works_7 : decode cX5_works 7 = .ok (.aload_n 0, 1) := dk_42 (dk_at dksX5_works_0 7 rfl rfl)
theorem dX5_works_8 : decode cX5_works 8 = .ok (.aload_n 0, 1) := dk_42 (dk_at dksX5_works_0 8 rfl rfl)
theorem dX5_works_9 : decode cX5_works 9 = .ok (.invokevirtual 275, 3) := dk_182 1 19 (dk_at dksX5_works_0 9 rfl rfl)
theorem dX5_works_12 : decode cX5_works 12 = .ok (.putfield 278, 3) := dk_181 1 22 (dk_at dksX5_works_0 12 rfl rfl)
theorem dX5_works_15 : decode cX5_works 15 = .ok (.aload_n 0, 1) := dk_42 (dk_at dksX5_works_0 15 rfl rfl)
theorem dX5_works_16 : decode cX5_works 16 = .ok (.iconst 0, 1) := dk_3 (dk_at dksX5_works_0 16 rfl rfl)
theorem dX5_works_17 : decode cX5_works 17 = .ok (.putfield 281, 3) := dk_181 1 25 (dk_at dksX5_works_0 17 rfl rfl)
theorem dX5_works_20 : decode cX5_works 20 = .ok (.aload_n 0, 1) := dk_42 (dk_at dksX5_works_0 20 rfl rfl)
theorem dX5_works_21 : decode cX5_works 21 = .ok (.iconst 0, 1) := dk_3 (dk_at dksX5_works_0 21 rfl rfl)
theorem dX5_works_22 : decode cX5_works 22 = .ok (.putfield 284, 3) := dk_181 1 28 (dk_at dksX5_works_1 0 rfl rfl)
theorem dX5_works_25 : decode cX5_works 25 = .ok (.iconst 0, 1) := dk_3 (dk_at dksX5_works_1 3 rfl rfl)
theorem dX5_works_26 : decode cX5_works 26 = .ok (.istore_n 2, 1) := dk_61 (dk_at dksX5_works_1 4 rfl rfl)
theorem dX5_works_27 : decode cX5_works 27 = .ok (.iload_n 2, 1) := dk_28 (dk_at dksX5_works_1 5 rfl rfl)
theorem dX5_works_28 : decode cX5_works 28 = .ok (.aload_n 0, 1) := dk_42 (dk_at dksX5_works_1 6 rfl rfl)
theorem dX5_works_29 : decode cX5_works 29 = .ok (.getfield 22, 3) := dk_180 0 22 (dk_at dksX5_works_1 7 rfl rfl)
theorem dX5_works_32 : decode cX5_works 32 = .ok (.if_icmp .ge 16, 3) := dk_162 0 16 (dk_at dksX5_works_1 10 rfl rfl)
theorem dX5_works_35 : decode cX5_works 35 = .ok (.aload_n 0, 1) := dk_42 (dk_at dksX5_works_1 13 rfl rfl)
theorem dX5_works_36 : decode cX5_works 36 = .ok (.getfield 287, 3) := dk_180 1 31 (dk_at dksX5_works_1 14 rfl rfl)
theorem dX5_works_39 : decode cX5_works 39 = .ok (.iload_n 2, 1) := dk_28 (dk_at dksX5_works_1 17 rfl rfl)
theorem dX5_works_40 : decode cX5_works 40 = .ok (.iconst 0, 1) := dk_3 (dk_at dksX5_works_1 18 rfl rfl)
theorem dX5_works_41 : decode cX5_works 41 = .ok (.iastore, 1) := dk_79 (dk_at dksX5_works_1 19 rfl rfl)
theorem dX5_works_42 : decode cX5_works 42 = .ok (.iinc 2 1, 3) := dk_132 2 1 (dk_at dksX5_works_1 20 rfl rfl)
theorem dX5_works_45 : decode cX5_works 45 = .ok (.goto (-18), 3) := dk_167 255 238 (dk_at dksX5_works_2 0 rfl rfl)
theorem dX5_works_48 : decode cX5_works 48 = .ok (.iconst 0, 1) := dk_3 (dk_at dksX5_works_2 3 rfl rfl)
theorem dX5_works_49 : decode cX5_works 49 = .ok (.istore_n 2, 1) := dk_61 (dk_at dksX5_works_2 4 rfl rfl)
theorem dX5_works_50 : decode cX5_works 50 = .ok (.iload_n 2, 1) := dk_28 (dk_at dksX5_works_2 5 rfl rfl)
theorem dX5_works_51 : decode cX5_works 51 = .ok (.aload_n 0, 1) := dk_42 (dk_at dksX5_works_2 6 rfl rfl)
theorem dX5_works_52 : decode cX5_works 52 = .ok (.getfield 151, 3) := dk_180 0 151 (dk_at dksX5_works_2 7 rfl rfl)
theorem dX5_works_55 : decode cX5_works 55 = .ok (.if_icmp .ge 294, 3) := dk_162 1 38 (dk_at dksX5_works_2 10 rfl rfl)
theorem dX5_works_58 : decode cX5_works 58 = .ok (.aload_n 0, 1) := dk_42 (dk_at dksX5_works_2 13 rfl rfl)
theorem dX5_works_59 : decode cX5_works 59 = .ok (.getfield 278, 3) := dk_180 1 22 (dk_at dksX5_works_2 14 rfl rfl)
theorem dX5_works_62 : decode cX5_works 62 = .ok (.iload_n 2, 1) := dk_28 (dk_at dksX5_works_2 17 rfl rfl)
theorem dX5_works_63 : decode cX5_works 63 = .ok (.invokestatic 137, 3) := dk_184 0 137 (dk_at dksX5_works_2 18 rfl rfl)
theorem dX5_works_66 : decode cX5_works 66 = .ok (.ifCond .ne 6, 3) := dk_154 0 6 (dk_at dksX5_works_2 21 rfl rfl)
theorem dX5_works_69 : decode cX5_works 69 = .ok (.goto 274, 3) := dk_167 1 18 (dk_at dksX5_works_3 0 rfl rfl)
theorem dX5_works_72 : decode cX5_works 72 = .ok (.aload_n 0, 1) := dk_42 (dk_at dksX5_works_3 3 rfl rfl)
theorem dX5_works_73 : decode cX5_works 73 = .ok (.getfield 140, 3) := dk_180 0 140 (dk_at dksX5_works_3 4 rfl rfl)
theorem dX5_works_76 : decode cX5_works 76 = .ok (.iconst 3, 1) := dk_6 (dk_at dksX5_works_3 7 rfl rfl)
theorem dX5_works_77 : decode cX5_works 77 = .ok (.iload_n 2, 1) := dk_28 (dk_at dksX5_works_3 8 rfl rfl)
theorem dX5_works_78 : decode cX5_works 78 = .ok (.iadd, 1) := dk_96 (dk_at dksX5_works_3 9 rfl rfl)
theorem dX5_works_79 : decode cX5_works 79 = .ok (.iaload, 1) := dk_46 (dk_at dksX5_works_3 10 rfl rfl)
theorem dX5_works_80 : decode cX5_works 80 = .ok (.istore_n 3, 1) := dk_62 (dk_at dksX5_works_3 11 rfl rfl)
theorem dX5_works_81 : decode cX5_works 81 = .ok (.aload_n 0, 1) := dk_42 (dk_at dksX5_works_3 12 rfl rfl)
theorem dX5_works_82 : decode cX5_works 82 = .ok (.getfield 140, 3) := dk_180 0 140 (dk_at dksX5_works_3 13 rfl rfl)
theorem dX5_works_85 : decode cX5_works 85 = .ok (.bipush 27, 2) := dk_16 27 (dk_at dksX5_works_3 16 rfl rfl)
theorem dX5_works_87 : decode cX5_works 87 = .ok (.iload_n 2, 1) := dk_28 (dk_at dksX5_works_3 18 rfl rfl)
theorem dX5_works_88 : decode cX5_works 88 = .ok (.iadd, 1) := dk_96 (dk_at dksX5_works_3 19 rfl rfl)
theorem dX5_works_89 : decode cX5_works 89 = .ok (.iaload, 1) := dk_46 (dk_at dksX5_works_3 20 rfl rfl)
theorem dX5_works_90 : decode cX5_works 90 = .ok (.iconst 1, 1) := dk_4 (dk_at dksX5_works_3 21 rfl rfl)
theorem dX5_works_91 : decode cX5_works 91 = .ok (.if_icmp .ne 58, 3) := dk_160 0 58 (dk_at dksX5_works_4 0 rfl rfl)
theorem dX5_works_94 : decode cX5_works 94 = .ok (.aload_n 0, 1) := dk_42 (dk_at dksX5_works_4 3 rfl rfl)
theorem dX5_works_95 : decode cX5_works 95 = .ok (.dup, 1) := dk_89 (dk_at dksX5_works_4 4 rfl rfl)
theorem dX5_works_96 : decode cX5_works 96 = .ok (.getfield 281, 3) := dk_180 1 25 (dk_at dksX5_works_4 5 rfl rfl)
theorem dX5_works_99 : decode cX5_works 99 = .ok (.iconst 1, 1) := dk_4 (dk_at dksX5_works_4 8 rfl rfl)
theorem dX5_works_100 : decode cX5_works 100 = .ok (.iload_n 2, 1) := dk_28 (dk_at dksX5_works_4 9 rfl rfl)
theorem dX5_works_101 : decode cX5_works 101 = .ok (.ishl, 1) := dk_120 (dk_at dksX5_works_4 10 rfl rfl)
theorem dX5_works_102 : decode cX5_works 102 = .ok (.ior, 1) := dk_128 (dk_at dksX5_works_4 11 rfl rfl)
theorem dX5_works_103 : decode cX5_works 103 = .ok (.putfield 281, 3) := dk_181 1 25 (dk_at dksX5_works_4 12 rfl rfl)
theorem dX5_works_106 : decode cX5_works 106 = .ok (.aload_n 0, 1) := dk_42 (dk_at dksX5_works_4 15 rfl rfl)
theorem dX5_works_107 : decode cX5_works 107 = .ok (.getfield 140, 3) := dk_180 0 140 (dk_at dksX5_works_4 16 rfl rfl)
theorem dX5_works_110 : decode cX5_works 110 = .ok (.bipush 27, 2) := dk_16 27 (dk_at dksX5_works_4 19 rfl rfl)
theorem dX5_works_112 : decode cX5_works 112 = .ok (.iload_n 2, 1) := dk_28 (dk_at dksX5_works_4 21 rfl rfl)
theorem dX5_works_113 : decode cX5_works 113 = .ok (.iadd, 1) := dk_96 (dk_at dksX5_works_4 22 rfl rfl)
theorem dX5_works_114 : decode cX5_works 114 = .ok (.aload_n 0, 1) := dk_42 (dk_at dksX5_works_4 23 rfl rfl)
theorem dX5_works_115 : decode cX5_works 115 = .ok (.iload_n 3, 1) := dk_29 (dk_at dksX5_works_5 0 rfl rfl)
theorem dX5_works_116 : decode cX5_works 116 = .ok (.iload_n 1, 1) := dk_27 (dk_at dksX5_works_5 1 rfl rfl)
theorem dX5_works_117 : decode cX5_works 117 = .ok (.invokevirtual 120, 3) := dk_182 0 120 (dk_at dksX5_works_5 2 rfl rfl)
theorem dX5_works_120 : decode cX5_works 120 = .ok (.ifCond .eq 17, 3) := dk_153 0 17 (dk_at dksX5_works_5 5 rfl rfl)
theorem dX5_works_123 : decode cX5_works 123 = .ok (.aload_n 0, 1) := dk_42 (dk_at dksX5_works_5 8 rfl rfl)
theorem dX5_works_124 : decode cX5_works 124 = .ok (.aload_n 0, 1) := dk_42 (dk_at dksX5_works_5 9 rfl rfl)
theorem dX5_works_125 : decode cX5_works 125 = .ok (.getfield 163, 3) := dk_180 0 163 (dk_at dksX5_works_5 10 rfl rfl)
theorem dX5_works_128 : decode cX5_works 128 = .ok (.iload_n 2, 1) := dk_28 (dk_at dksX5_works_5 13 rfl rfl)
theorem dX5_works_129 : decode cX5_works 129 = .ok (.iaload, 1) := dk_46 (dk_at dksX5_works_5 14 rfl rfl)
theorem dX5_works_130 : decode cX5_works 130 = .ok (.iload_n 1, 1) := dk_27 (dk_at dksX5_works_5 15 rfl rfl)
theorem dX5_works_131 : decode cX5_works 131 = .ok (.invokevirtual 120, 3) := dk_182 0 120 (dk_at dksX5_works_5 16 rfl rfl)
theorem dX5_works_134 : decode cX5_works 134 = .ok (.ifCond .ne 7, 3) := dk_154 0 7 (dk_at dksX5_works_5 19 rfl rfl)
theorem dX5_works_137 : decode cX5_works 137 = .ok (.iconst 1, 1) := dk_4 (dk_at dksX5_works_5 22 rfl rfl)
theorem dX5_works_138 : decode cX5_works 138 = .ok (.goto 4, 3) := dk_167 0 4 (dk_at dksX5_works_6 0 rfl rfl)
theorem dX5_works_141 : decode cX5_works 141 = .ok (.iconst 0, 1) := dk_3 (dk_at dksX5_works_6 3 rfl rfl)
theorem dX5_works_142 : decode cX5_works 142 = .ok (.invokestatic 124, 3) := dk_184 0 124 (dk_at dksX5_works_6 4 rfl rfl)
theorem dX5_works_145 : decode cX5_works 145 = .ok (.iastore, 1) := dk_79 (dk_at dksX5_works_6 7 rfl rfl)
theorem dX5_works_146 : decode cX5_works 146 = .ok (.goto 197, 3) := dk_167 0 197 (dk_at dksX5_works_6 8 rfl rfl)
theorem dX5_works_149 : decode cX5_works 149 = .ok (.aload_n 0, 1) := dk_42 (dk_at dksX5_works_6 11 rfl rfl)
theorem dX5_works_150 : decode cX5_works 150 = .ok (.iload_n 3, 1) := dk_29 (dk_at dksX5_works_6 12 rfl rfl)
theorem dX5_works_151 : decode cX5_works 151 = .ok (.iload_n 1, 1) := dk_27 (dk_at dksX5_works_6 13 rfl rfl)
theorem dX5_works_152 : decode cX5_works 152 = .ok (.invokevirtual 120, 3) := dk_182 0 120 (dk_at dksX5_works_6 14 rfl rfl)
theorem dX5_works_155 : decode cX5_works 155 = .ok (.ifCond .eq 188, 3) := dk_153 0 188 (dk_at dksX5_works_6 17 rfl rfl)
theorem dX5_works_158 : decode cX5_works 158 = .ok (.aload_n 0, 1) := dk_42 (dk_at dksX5_works_6 20 rfl rfl)
theorem dX5_works_159 : decode cX5_works 159 = .ok (.getfield 47, 3) := dk_180 0 47 (dk_at dksX5_works_6 21 rfl rfl)
theorem dX5_works_162 : decode cX5_works 162 = .ok (.iload_n 3, 1) := dk_29 (dk_at dksX5_works_7 0 rfl rfl)
theorem dX5_works_163 : decode cX5_works 163 = .ok (.iaload, 1) := dk_46 (dk_at dksX5_works_7 1 rfl rfl)
theorem dX5_works_164 : decode cX5_works 164 = .ok (.aload_n 0, 1) := dk_42 (dk_at dksX5_works_7 2 rfl rfl)
theorem dX5_works_165 : decode cX5_works 165 = .ok (.getfield 154, 3) := dk_180 0 154 (dk_at dksX5_works_7 3 rfl rfl)
theorem dX5_works_168 : decode cX5_works 168 = .ok (.iload_n 2, 1) := dk_28 (dk_at dksX5_works_7 6 rfl rfl)
theorem dX5_works_169 : decode cX5_works 169 = .ok (.iaload, 1) := dk_46 (dk_at dksX5_works_7 7 rfl rfl)
theorem dX5_works_170 : decode cX5_works 170 = .ok (.invokestatic 137, 3) := dk_184 0 137 (dk_at dksX5_works_7 8 rfl rfl)
theorem dX5_works_173 : decode cX5_works 173 = .ok (.ifCond .eq 170, 3) := dk_153 0 170 (dk_at dksX5_works_7 11 rfl rfl)
theorem dX5_works_176 : decode cX5_works 176 = .ok (.aload_n 0, 1) := dk_42 (dk_at dksX5_works_7 14 rfl rfl)
theorem dX5_works_177 : decode cX5_works 177 = .ok (.getfield 287, 3) := dk_180 1 31 (dk_at dksX5_works_7 15 rfl rfl)
theorem dX5_works_180 : decode cX5_works 180 = .ok (.iload_n 3, 1) := dk_29 (dk_at dksX5_works_7 18 rfl rfl)
theorem dX5_works_181 : decode cX5_works 181 = .ok (.iaload, 1) := dk_46 (dk_at dksX5_works_7 19 rfl rfl)
theorem dX5_works_182 : decode cX5_works 182 = .ok (.aload_n 0, 1) := dk_42 (dk_at dksX5_works_7 20 rfl rfl)
theorem dX5_works_183 : decode cX5_works 183 = .ok (.getfield 44, 3) := dk_180 0 44 (dk_at dksX5_works_7 21 rfl rfl)
theorem dX5_works_186 : decode cX5_works 186 = .ok (.iload_n 3, 1) := dk_29 (dk_at dksX5_works_8 0 rfl rfl)
theorem dX5_works_187 : decode cX5_works 187 = .ok (.iaload, 1) := dk_46 (dk_at dksX5_works_8 1 rfl rfl)
theorem dX5_works_188 : decode cX5_works 188 = .ok (.if_icmp .lt 6, 3) := dk_161 0 6 (dk_at dksX5_works_8 2 rfl rfl)
theorem dX5_works_191 : decode cX5_works 191 = .ok (.goto 152, 3) := dk_167 0 152 (dk_at dksX5_works_8 5 rfl rfl)
theorem dX5_works_194 : decode cX5_works 194 = .ok (.aload_n 0, 1) := dk_42 (dk_at dksX5_works_8 8 rfl rfl)
theorem dX5_works_195 : decode cX5_works 195 = .ok (.getfield 287, 3) := dk_180 1 31 (dk_at dksX5_works_8 9 rfl rfl)
theorem dX5_works_198 : decode cX5_works 198 = .ok (.iload_n 3, 1) := dk_29 (dk_at dksX5_works_8 12 rfl rfl)
theorem dX5_works_199 : decode cX5_works 199 = .ok (.dup2, 1) := dk_92 (dk_at dksX5_works_8 13 rfl rfl)
theorem dX5_works_200 : decode cX5_works 200 = .ok (.iaload, 1) := dk_46 (dk_at dksX5_works_8 14 rfl rfl)
theorem dX5_works_201 : decode cX5_works 201 = .ok (.iconst 1, 1) := dk_4 (dk_at dksX5_works_8 15 rfl rfl)
theorem dX5_works_202 : decode cX5_works 202 = .ok (.iadd, 1) := dk_96 (dk_at dksX5_works_8 16 rfl rfl)
theorem dX5_works_203 : decode cX5_works 203 = .ok (.iastore, 1) := dk_79 (dk_at dksX5_works_8 17 rfl rfl)
theorem dX5_works_204 : decode cX5_works 204 = .ok (.aload_n 0, 1) := dk_42 (dk_at dksX5_works_8 18 rfl rfl)
theorem dX5_works_205 : decode cX5_works 205 = .ok (.dup, 1) := dk_89 (dk_at dksX5_works_8 19 rfl rfl)
theorem dX5_works_206 : decode cX5_works 206 = .ok (.getfield 284, 3) := dk_180 1 28 (dk_at dksX5_works_8 20 rfl rfl)
theorem dX5_works_209 : decode cX5_works 209 = .ok (.iconst 1, 1) := dk_4 (dk_at dksX5_works_8 23 rfl rfl)
theorem dX5_works_210 : decode cX5_works 210 = .ok (.iload_n 2, 1) := dk_28 (dk_at dksX5_works_9 0 rfl rfl)
theorem dX5_works_211 : decode cX5_works 211 = .ok (.ishl, 1) := dk_120 (dk_at dksX5_works_9 1 rfl rfl)
theorem dX5_works_212 : decode cX5_works 212 = .ok (.ior, 1) := dk_128 (dk_at dksX5_works_9 2 rfl rfl)
theorem dX5_works_213 : decode cX5_works 213 = .ok (.putfield 284, 3) := dk_181 1 28 (dk_at dksX5_works_9 3 rfl rfl)
theorem dX5_works_216 : decode cX5_works 216 = .ok (.aload_n 0, 1) := dk_42 (dk_at dksX5_works_9 6 rfl rfl)
theorem dX5_works_217 : decode cX5_works 217 = .ok (.getfield 140, 3) := dk_180 0 140 (dk_at dksX5_works_9 7 rfl rfl)
theorem dX5_works_220 : decode cX5_works 220 = .ok (.bipush 11, 2) := dk_16 11 (dk_at dksX5_works_9 10 rfl rfl)
theorem dX5_works_222 : decode cX5_works 222 = .ok (.iload_n 2, 1) := dk_28 (dk_at dksX5_works_9 12 rfl rfl)
theorem dX5_works_223 : decode cX5_works 223 = .ok (.iadd, 1) := dk_96 (dk_at dksX5_works_9 13 rfl rfl)
theorem dX5_works_224 : decode cX5_works 224 = .ok (.dup2, 1) := dk_92 (dk_at dksX5_works_9 14 rfl rfl)
theorem dX5_works_225 : decode cX5_works 225 = .ok (.iaload, 1) := dk_46 (dk_at dksX5_works_9 15 rfl rfl)
theorem dX5_works_226 : decode cX5_works 226 = .ok (.iconst 1, 1) := dk_4 (dk_at dksX5_works_9 16 rfl rfl)
theorem dX5_works_227 : decode cX5_works 227 = .ok (.isub, 1) := dk_100 (dk_at dksX5_works_9 17 rfl rfl)
theorem dX5_works_228 : decode cX5_works 228 = .ok (.iastore, 1) := dk_79 (dk_at dksX5_works_9 18 rfl rfl)
theorem dX5_works_229 : decode cX5_works 229 = .ok (.aload_n 0, 1) := dk_42 (dk_at dksX5_works_9 19 rfl rfl)
theorem dX5_works_230 : decode cX5_works 230 = .ok (.getfield 140, 3) := dk_180 0 140 (dk_at dksX5_works_9 20 rfl rfl)
theorem dX5_works_233 : decode cX5_works 233 = .ok (.bipush 19, 2) := dk_16 19 (dk_at dksX5_works_10 0 rfl rfl)
theorem dX5_works_235 : decode cX5_works 235 = .ok (.iload_n 2, 1) := dk_28 (dk_at dksX5_works_10 2 rfl rfl)
theorem dX5_works_236 : decode cX5_works 236 = .ok (.iadd, 1) := dk_96 (dk_at dksX5_works_10 3 rfl rfl)
theorem dX5_works_237 : decode cX5_works 237 = .ok (.dup2, 1) := dk_92 (dk_at dksX5_works_10 4 rfl rfl)
theorem dX5_works_238 : decode cX5_works 238 = .ok (.iaload, 1) := dk_46 (dk_at dksX5_works_10 5 rfl rfl)
theorem dX5_works_239 : decode cX5_works 239 = .ok (.iconst 1, 1) := dk_4 (dk_at dksX5_works_10 6 rfl rfl)
theorem dX5_works_240 : decode cX5_works 240 = .ok (.iadd, 1) := dk_96 (dk_at dksX5_works_10 7 rfl rfl)
theorem dX5_works_241 : decode cX5_works 241 = .ok (.iastore, 1) := dk_79 (dk_at dksX5_works_10 8 rfl rfl)
theorem dX5_works_242 : decode cX5_works 242 = .ok (.aload_n 0, 1) := dk_42 (dk_at dksX5_works_10 9 rfl rfl)
theorem dX5_works_243 : decode cX5_works 243 = .ok (.getfield 140, 3) := dk_180 0 140 (dk_at dksX5_works_10 10 rfl rfl)
theorem dX5_works_246 : decode cX5_works 246 = .ok (.bipush 43, 2) := dk_16 43 (dk_at dksX5_works_10 13 rfl rfl)
theorem dX5_works_248 : decode cX5_works 248 = .ok (.iload_n 2, 1) := dk_28 (dk_at dksX5_works_10 15 rfl rfl)
theorem dX5_works_249 : decode cX5_works 249 = .ok (.iadd, 1) := dk_96 (dk_at dksX5_works_10 16 rfl rfl)
theorem dX5_works_250 : decode cX5_works 250 = .ok (.dup2, 1) := dk_92 (dk_at dksX5_works_10 17 rfl rfl)
theorem dX5_works_251 : decode cX5_works 251 = .ok (.iaload, 1) := dk_46 (dk_at dksX5_works_10 18 rfl rfl)
theorem dX5_works_252 : decode cX5_works 252 = .ok (.iconst 1, 1) := dk_4 (dk_at dksX5_works_10 19 rfl rfl)
theorem dX5_works_253 : decode cX5_works 253 = .ok (.iadd, 1) := dk_96 (dk_at dksX5_works_10 20 rfl rfl)
theorem dX5_works_254 : decode cX5_works 254 = .ok (.iastore, 1) := dk_79 (dk_at dksX5_works_10 21 rfl rfl)
theorem dX5_works_255 : decode cX5_works 255 = .ok (.aload_n 0, 1) := dk_42 (dk_at dksX5_works_10 22 rfl rfl)
theorem dX5_works_256 : decode cX5_works 256 = .ok (.getfield 140, 3) := dk_180 0 140 (dk_at dksX5_works_11 0 rfl rfl)
theorem dX5_works_259 : decode cX5_works 259 = .ok (.iconst 1, 1) := dk_4 (dk_at dksX5_works_11 3 rfl rfl)
theorem dX5_works_260 : decode cX5_works 260 = .ok (.dup2, 1) := dk_92 (dk_at dksX5_works_11 4 rfl rfl)
theorem dX5_works_261 : decode cX5_works 261 = .ok (.iaload, 1) := dk_46 (dk_at dksX5_works_11 5 rfl rfl)
theorem dX5_works_262 : decode cX5_works 262 = .ok (.aload_n 0, 1) := dk_42 (dk_at dksX5_works_11 6 rfl rfl)
theorem dX5_works_263 : decode cX5_works 263 = .ok (.getfield 41, 3) := dk_180 0 41 (dk_at dksX5_works_11 7 rfl rfl)
theorem dX5_works_266 : decode cX5_works 266 = .ok (.iload_n 3, 1) := dk_29 (dk_at dksX5_works_11 10 rfl rfl)
theorem dX5_works_267 : decode cX5_works 267 = .ok (.iaload, 1) := dk_46 (dk_at dksX5_works_11 11 rfl rfl)
theorem dX5_works_268 : decode cX5_works 268 = .ok (.iadd, 1) := dk_96 (dk_at dksX5_works_11 12 rfl rfl)
theorem dX5_works_269 : decode cX5_works 269 = .ok (.iastore, 1) := dk_79 (dk_at dksX5_works_11 13 rfl rfl)
theorem dX5_works_270 : decode cX5_works 270 = .ok (.aload_n 0, 1) := dk_42 (dk_at dksX5_works_11 14 rfl rfl)
theorem dX5_works_271 : decode cX5_works 271 = .ok (.getfield 140, 3) := dk_180 0 140 (dk_at dksX5_works_11 15 rfl rfl)
theorem dX5_works_274 : decode cX5_works 274 = .ok (.bipush 11, 2) := dk_16 11 (dk_at dksX5_works_11 18 rfl rfl)
theorem dX5_works_276 : decode cX5_works 276 = .ok (.iload_n 2, 1) := dk_28 (dk_at dksX5_works_11 20 rfl rfl)
theorem dX5_works_277 : decode cX5_works 277 = .ok (.iadd, 1) := dk_96 (dk_at dksX5_works_11 21 rfl rfl)
theorem dX5_works_278 : decode cX5_works 278 = .ok (.iaload, 1) := dk_46 (dk_at dksX5_works_11 22 rfl rfl)
theorem dX5_works_279 : decode cX5_works 279 = .ok (.ifCond .ne 18, 3) := dk_154 0 18 (dk_at dksX5_works_12 0 rfl rfl)
theorem dX5_works_282 : decode cX5_works 282 = .ok (.aload_n 0, 1) := dk_42 (dk_at dksX5_works_12 3 rfl rfl)
theorem dX5_works_283 : decode cX5_works 283 = .ok (.getfield 140, 3) := dk_180 0 140 (dk_at dksX5_works_12 4 rfl rfl)
theorem dX5_works_286 : decode cX5_works 286 = .ok (.bipush 35, 2) := dk_16 35 (dk_at dksX5_works_12 7 rfl rfl)
theorem dX5_works_288 : decode cX5_works 288 = .ok (.iload_n 2, 1) := dk_28 (dk_at dksX5_works_12 9 rfl rfl)
theorem dX5_works_289 : decode cX5_works 289 = .ok (.iadd, 1) := dk_96 (dk_at dksX5_works_12 10 rfl rfl)
theorem dX5_works_290 : decode cX5_works 290 = .ok (.iload_n 1, 1) := dk_27 (dk_at dksX5_works_12 11 rfl rfl)
theorem dX5_works_291 : decode cX5_works 291 = .ok (.iconst 1, 1) := dk_4 (dk_at dksX5_works_12 12 rfl rfl)
theorem dX5_works_292 : decode cX5_works 292 = .ok (.iadd, 1) := dk_96 (dk_at dksX5_works_12 13 rfl rfl)
theorem dX5_works_293 : decode cX5_works 293 = .ok (.iastore, 1) := dk_79 (dk_at dksX5_works_12 14 rfl rfl)
theorem dX5_works_294 : decode cX5_works 294 = .ok (.goto 49, 3) := dk_167 0 49 (dk_at dksX5_works_12 15 rfl rfl)
theorem dX5_works_297 : decode cX5_works 297 = .ok (.aload_n 0, 1) := dk_42 (dk_at dksX5_works_12 18 rfl rfl)
theorem dX5_works_298 : decode cX5_works 298 = .ok (.iload_n 2, 1) := dk_28 (dk_at dksX5_works_12 19 rfl rfl)
theorem dX5_works_299 : decode cX5_works 299 = .ok (.invokevirtual 290, 3) := dk_182 1 34 (dk_at dksX5_works_12 20 rfl rfl)
theorem dX5_works_302 : decode cX5_works 302 = .ok (.ifCond .lt 41, 3) := dk_155 0 41 (dk_at dksX5_works_13 0 rfl rfl)
theorem dX5_works_305 : decode cX5_works 305 = .ok (.aload_n 0, 1) := dk_42 (dk_at dksX5_works_13 3 rfl rfl)
theorem dX5_works_306 : decode cX5_works 306 = .ok (.getfield 140, 3) := dk_180 0 140 (dk_at dksX5_works_13 4 rfl rfl)
theorem dX5_works_309 : decode cX5_works 309 = .ok (.bipush 19, 2) := dk_16 19 (dk_at dksX5_works_13 7 rfl rfl)
theorem dX5_works_311 : decode cX5_works 311 = .ok (.iload_n 2, 1) := dk_28 (dk_at dksX5_works_13 9 rfl rfl)
theorem dX5_works_312 : decode cX5_works 312 = .ok (.iadd, 1) := dk_96 (dk_at dksX5_works_13 10 rfl rfl)
theorem dX5_works_313 : decode cX5_works 313 = .ok (.iaload, 1) := dk_46 (dk_at dksX5_works_13 11 rfl rfl)
theorem dX5_works_314 : decode cX5_works 314 = .ok (.aload_n 0, 1) := dk_42 (dk_at dksX5_works_13 12 rfl rfl)
theorem dX5_works_315 : decode cX5_works 315 = .ok (.getfield 157, 3) := dk_180 0 157 (dk_at dksX5_works_13 13 rfl rfl)
theorem dX5_works_318 : decode cX5_works 318 = .ok (.iload_n 2, 1) := dk_28 (dk_at dksX5_works_13 16 rfl rfl)
theorem dX5_works_319 : decode cX5_works 319 = .ok (.iaload, 1) := dk_46 (dk_at dksX5_works_13 17 rfl rfl)
theorem dX5_works_320 : decode cX5_works 320 = .ok (.if_icmp .ne 23, 3) := dk_160 0 23 (dk_at dksX5_works_13 18 rfl rfl)
theorem dX5_works_323 : decode cX5_works 323 = .ok (.aload_n 0, 1) := dk_42 (dk_at dksX5_works_13 21 rfl rfl)
theorem dX5_works_324 : decode cX5_works 324 = .ok (.getfield 140, 3) := dk_180 0 140 (dk_at dksX5_works_14 0 rfl rfl)
theorem dX5_works_327 : decode cX5_works 327 = .ok (.bipush 27, 2) := dk_16 27 (dk_at dksX5_works_14 3 rfl rfl)
theorem dX5_works_329 : decode cX5_works 329 = .ok (.iload_n 2, 1) := dk_28 (dk_at dksX5_works_14 5 rfl rfl)
theorem dX5_works_330 : decode cX5_works 330 = .ok (.iadd, 1) := dk_96 (dk_at dksX5_works_14 6 rfl rfl)
theorem dX5_works_331 : decode cX5_works 331 = .ok (.iconst 1, 1) := dk_4 (dk_at dksX5_works_14 7 rfl rfl)
theorem dX5_works_332 : decode cX5_works 332 = .ok (.iastore, 1) := dk_79 (dk_at dksX5_works_14 8 rfl rfl)
theorem dX5_works_333 : decode cX5_works 333 = .ok (.aload_n 0, 1) := dk_42 (dk_at dksX5_works_14 9 rfl rfl)
theorem dX5_works_334 : decode cX5_works 334 = .ok (.getfield 140, 3) := dk_180 0 140 (dk_at dksX5_works_14 10 rfl rfl)
theorem dX5_works_337 : decode cX5_works 337 = .ok (.bipush 19, 2) := dk_16 19 (dk_at dksX5_works_14 13 rfl rfl)
theorem dX5_works_339 : decode cX5_works 339 = .ok (.iload_n 2, 1) := dk_28 (dk_at dksX5_works_14 15 rfl rfl)
theorem dX5_works_340 : decode cX5_works 340 = .ok (.iadd, 1) := dk_96 (dk_at dksX5_works_14 16 rfl rfl)
theorem dX5_works_341 : decode cX5_works 341 = .ok (.iconst 0, 1) := dk_3 (dk_at dksX5_works_14 17 rfl rfl)
theorem dX5_works_342 : decode cX5_works 342 = .ok (.iastore, 1) := dk_79 (dk_at dksX5_works_14 18 rfl rfl)
theorem dX5_works_343 : decode cX5_works 343 = .ok (.iinc 2 1, 3) := dk_132 2 1 (dk_at dksX5_works_14 19 rfl rfl)
theorem dX5_works_346 : decode cX5_works 346 = .ok (.goto (-296), 3) := dk_167 254 216 (dk_at dksX5_works_15 0 rfl rfl)
theorem dX5_works_349 : decode cX5_works 349 = .ok (.return_, 1) := dk_177 (dk_at dksX5_works_15 3 rfl rfl)
def dkwX5_readyBits_1 : List UInt8 := [167, 0, 4, 3, 128, 60, 132, 2, 1, 167, 255, 227, 27, 172]
abbrev dktX5_readyBits_1 : List UInt8 := dkwX5_readyBits_1 ++ []
def dkwX5_readyBits_0 : List UInt8 := [3, 60, 3, 61, 28, 42, 180, 0, 151, 162, 0, 27, 27, 42, 28, 182, 1, 12, 153, 0, 9, 4, 28, 120]
abbrev dktX5_readyBits_0 : List UInt8 := dkwX5_readyBits_0 ++ dktX5_readyBits_1
theorem dksX5_readyBits_0 : cX5_readyBits.data.toList.drop 0 = dktX5_readyBits_0 := by decide +kernel
theorem dksX5_readyBits_1 : cX5_readyBits.data.toList.drop 24 = dktX5_readyBits_1 := dk_seg dksX5_readyBits_0 24 rfl rfl
theorem dX5_readyBits_0 : decode cX5_readyBits 0 = .ok (.iconst 0, 1) := dk_3 (dk_at dksX5_readyBits_0 0 rfl rfl)
theorem dX5_readyBits_1 : decode cX5_readyBits 1 = .ok (.istore_n 1, 1) := dk_60 (dk_at dksX5_readyBits_0 1 rfl rfl)
theorem dX5_readyBits_2 : decode cX5_readyBits 2 = .ok (.iconst 0, 1) := dk_3 (dk_at dksX5_readyBits_0 2 rfl rfl)
theorem dX5_readyBits_3 : decode cX5_readyBits 3 = .ok (.istore_n 2, 1) := dk_61 (dk_at dksX5_readyBits_0 3 rfl rfl)
theorem dX5_readyBits_4 : decode cX5_readyBits 4 = .ok (.iload_n 2, 1) := dk_28 (dk_at dksX5_readyBits_0 4 rfl rfl)
theorem dX5_readyBits_5 : decode cX5_readyBits 5 = .ok (.aload_n 0, 1) := dk_42 (dk_at dksX5_readyBits_0 5 rfl rfl)
theorem dX5_readyBits_6 : decode cX5_readyBits 6 = .ok (.getfield 151, 3) := dk_180 0 151 (dk_at dksX5_readyBits_0 6 rfl rfl)
theorem dX5_readyBits_9 : decode cX5_readyBits 9 = .ok (.if_icmp .ge 27, 3) := dk_162 0 27 (dk_at dksX5_readyBits_0 9 rfl rfl)
theorem dX5_readyBits_12 : decode cX5_readyBits 12 = .ok (.iload_n 1, 1) := dk_27 (dk_at dksX5_readyBits_0 12 rfl rfl)
theorem dX5_readyBits_13 : decode cX5_readyBits 13 = .ok (.aload_n 0, 1) := dk_42 (dk_at dksX5_readyBits_0 13 rfl rfl)
theorem dX5_readyBits_14 : decode cX5_readyBits 14 = .ok (.iload_n 2, 1) := dk_28 (dk_at dksX5_readyBits_0 14 rfl rfl)
theorem dX5_readyBits_15 : decode cX5_readyBits 15 = .ok (.invokevirtual 268, 3) := dk_182 1 12 (dk_at dksX5_readyBits_0 15 rfl rfl)
theorem dX5_readyBits_18 : decode cX5_readyBits 18 = .ok (.ifCond .eq 9, 3) := dk_153 0 9 (dk_at dksX5_readyBits_0 18 rfl rfl)
theorem dX5_readyBits_21 : decode cX5_readyBits 21 = .ok (.iconst 1, 1) := dk_4 (dk_at dksX5_readyBits_0 21 rfl rfl)
theorem dX5_readyBits_22 : decode cX5_readyBits 22 = .ok (.iload_n 2, 1) := dk_28 (dk_at dksX5_readyBits_0 22 rfl rfl)
theorem dX5_readyBits_23 : decode cX5_readyBits 23 = .ok (.ishl, 1) := dk_120 (dk_at dksX5_readyBits_0 23 rfl rfl)
theorem dX5_readyBits_24 : decode cX5_readyBits 24 = .ok (.goto 4, 3) := dk_167 0 4 (dk_at dksX5_readyBits_1 0 rfl rfl)
theorem dX5_readyBits_27 : decode cX5_readyBits 27 = .ok (.iconst 0, 1) := dk_3 (dk_at dksX5_readyBits_1 3 rfl rfl)
theorem dX5_readyBits_28 : decode cX5_readyBits 28 = .ok (.ior, 1) := dk_128 (dk_at dksX5_readyBits_1 4 rfl rfl)
theorem dX5_readyBits_29 : decode cX5_readyBits 29 = .ok (.istore_n 1, 1) := dk_60 (dk_at dksX5_readyBits_1 5 rfl rfl)
theorem dX5_readyBits_30 : decode cX5_readyBits 30 = .ok (.iinc 2 1, 3) := dk_132 2 1 (dk_at dksX5_readyBits_1 6 rfl rfl)
theorem dX5_readyBits_33 : decode cX5_readyBits 33 = .ok (.goto (-29), 3) := dk_167 255 227 (dk_at dksX5_readyBits_1 9 rfl rfl)
theorem dX5_readyBits_36 : decode cX5_readyBits 36 = .ok (.iload_n 1, 1) := dk_27 (dk_at dksX5_readyBits_1 12 rfl rfl)
theorem dX5_readyBits_37 : decode cX5_readyBits 37 = .ok (.ireturn, 1) := dk_172 (dk_at dksX5_readyBits_1 13 rfl rfl)
def dkwX5_isReady_2 : List UInt8 := [4, 167, 0, 4, 3, 61, 132, 3, 1, 167, 255, 217, 28, 172]
abbrev dktX5_isReady_2 : List UInt8 := dkwX5_isReady_2 ++ []
def dkwX5_isReady_1 : List UInt8 := [153, 0, 28, 42, 180, 0, 160, 27, 46, 29, 184, 0, 137, 153, 0, 11, 42, 29, 182, 1, 9, 153, 0, 7]
abbrev dktX5_isReady_1 : List UInt8 := dkwX5_isReady_1 ++ dktX5_isReady_2
def dkwX5_isReady_0 : List UInt8 := [42, 27, 182, 1, 9, 154, 0, 7, 4, 167, 0, 4, 3, 61, 3, 62, 29, 27, 162, 0, 40, 28]
abbrev dktX5_isReady_0 : List UInt8 := dkwX5_isReady_0 ++ dktX5_isReady_1
theorem dksX5_isReady_0 : cX5_isReady.data.toList.drop 0 = dktX5_isReady_0 := by decide +kernel
theorem dksX5_isReady_1 : cX5_isReady.data.toList.drop 22 = dktX5_isReady_1 := dk_seg dksX5_isReady_0 22 rfl rfl
theorem dksX5_isReady_2 : cX5_isReady.data.toList.drop 46 = dktX5_isReady_2 := dk_seg dksX5_isReady_1 24 rfl rfl
theorem dX5_isReady_0 : decode cX5_isReady 0 = .ok (.aload_n 0, 1) := dk_42 (dk_at dksX5_isReady_0 0 rfl rfl)
theorem dX5_isReady_1 : decode cX5_isReady 1 = .ok (.iload_n 1, 1) := dk_27 (dk_at dksX5_isReady_0 1 rfl rfl)
theorem dX5_isReady_2 : decode cX5_isReady 2 = .ok (.invokevirtual 265, 3) := dk_182 1 9 (dk_at dksX5_isReady_0 2 rfl rfl)
theorem dX5_isReady_5 : decode cX5_isReady 5 = .ok (.ifCond .ne 7, 3) := dk_154 0 7 (dk_at dksX5_isReady_0 5 rfl rfl)
theorem dX5_isReady_8 : decode cX5_isReady 8 = .ok (.iconst 1, 1) := dk_4 (dk_at dksX5_isReady_0 8 rfl rfl)
theorem dX5_isReady_9 : decode cX5_isReady 9 = .ok (.goto 4, 3) := dk_167 0 4 (dk_at dksX5_isReady_0 9 rfl rfl)
theorem dX5_isReady_12 : decode cX5_isReady 12 = .ok (.iconst 0, 1) := dk_3 (dk_at dksX5_isReady_0 12 rfl rfl)
theorem dX5_isReady_13 : decode cX5_isReady 13 = .ok (.istore_n 2, 1) := dk_61 (dk_at dksX5_isReady_0 13 rfl rfl)
theorem dX5_isReady_14 : decode cX5_isReady 14 = .ok (.iconst 0, 1) := dk_3 (dk_at dksX5_isReady_0 14 rfl rfl)
theorem dX5_isReady_15 : decode cX5_isReady 15 = .ok (.istore_n 3, 1) := dk_62 (dk_at dksX5_isReady_0 15 rfl rfl)
theorem dX5_isReady_16 : decode cX5_isReady 16 = .ok (.iload_n 3, 1) := dk_29 (dk_at dksX5_isReady_0 16 rfl rfl)
theorem dX5_isReady_17 : decode cX5_isReady 17 = .ok (.iload_n 1, 1) := dk_27 (dk_at dksX5_isReady_0 17 rfl rfl)
theorem dX5_isReady_18 : decode cX5_isReady 18 = .ok (.if_icmp .ge 40, 3) := dk_162 0 40 (dk_at dksX5_isReady_0 18 rfl rfl)
theorem dX5_isReady_21 : decode cX5_isReady 21 = .ok (.iload_n 2, 1) := dk_28 (dk_at dksX5_isReady_0 21 rfl rfl)
theorem dX5_isReady_22 : decode cX5_isReady 22 = .ok (.ifCond .eq 28, 3) := dk_153 0 28 (dk_at dksX5_isReady_1 0 rfl rfl)
theorem dX5_isReady_25 : decode cX5_isReady 25 = .ok (.aload_n 0, 1) := dk_42 (dk_at dksX5_isReady_1 3 rfl rfl)
theorem dX5_isReady_26 : decode cX5_isReady 26 = .ok (.getfield 160, 3) := dk_180 0 160 (dk_at dksX5_isReady_1 4 rfl rfl)
theorem dX5_isReady_29 : decode cX5_isReady 29 = .ok (.iload_n 1, 1) := dk_27 (dk_at dksX5_isReady_1 7 rfl rfl)
theorem dX5_isReady_30 : decode cX5_isReady 30 = .ok (.iaload, 1) := dk_46 (dk_at dksX5_isReady_1 8 rfl rfl)
theorem dX5_isReady_31 : decode cX5_isReady 31 = .ok (.iload_n 3, 1) := dk_29 (dk_at dksX5_isReady_1 9 rfl rfl)
theorem dX5_isReady_32 : decode cX5_isReady 32 = .ok (.invokestatic 137, 3) := dk_184 0 137 (dk_at dksX5_isReady_1 10 rfl rfl)
theorem dX5_isReady_35 : decode cX5_isReady 35 = .ok (.ifCond .eq 11, 3) := dk_153 0 11 (dk_at dksX5_isReady_1 13 rfl rfl)
theorem dX5_isReady_38 : decode cX5_isReady 38 = .ok (.aload_n 0, 1) := dk_42 (dk_at dksX5_isReady_1 16 rfl rfl)
theorem dX5_isReady_39 : decode cX5_isReady 39 = .ok (.iload_n 3, 1) := dk_29 (dk_at dksX5_isReady_1 17 rfl rfl)
theorem dX5_isReady_40 : decode cX5_isReady 40 = .ok (.invokevirtual 265, 3) := dk_182 1 9 (dk_at dksX5_isReady_1 18 rfl rfl)
theorem dX5_isReady_43 : decode cX5_isReady 43 = .ok (.ifCond .eq 7, 3) := dk_153 0 7 (dk_at dksX5_isReady_1 21 rfl rfl)
theorem dX5_isReady_46 : decode cX5_isReady 46 = .ok (.iconst 1, 1) := dk_4 (dk_at dksX5_isReady_2 0 rfl rfl)
theorem dX5_isReady_47 : decode cX5_isReady 47 = .ok (.goto 4, 3) := dk_167 0 4 (dk_at dksX5_isReady_2 1 rfl rfl)
theorem dX5_isReady_50 : decode cX5_isReady 50 = .ok (.iconst 0, 1) := dk_3 (dk_at dksX5_isReady_2 4 rfl rfl)
theorem dX5_isReady_51 : decode cX5_isReady 51 = .ok (.istore_n 2, 1) := dk_61 (dk_at dksX5_isReady_2 5 rfl rfl)
theorem dX5_isReady_52 : decode cX5_isReady 52 = .ok (.iinc 3 1, 3) := dk_132 3 1 (dk_at dksX5_isReady_2 6 rfl rfl)
theorem dX5_isReady_55 : decode cX5_isReady 55 = .ok (.goto (-39), 3) := dk_167 255 217 (dk_at dksX5_isReady_2 9 rfl rfl)
theorem dX5_isReady_58 : decode cX5_isReady 58 = .ok (.iload_n 2, 1) := dk_28 (dk_at dksX5_isReady_2 12 rfl rfl)
theorem dX5_isReady_59 : decode cX5_isReady 59 = .ok (.ireturn, 1) := dk_172 (dk_at dksX5_isReady_2 13 rfl rfl)
def dkwX5_isDone_0 : List UInt8 := [42, 180, 0, 140, 16, 35, 27, 96, 46, 155, 0, 7, 4, 167, 0, 4, 3, 172]
abbrev dktX5_isDone_0 : List UInt8 := dkwX5_isDone_0 ++ []
theorem dksX5_isDone_0 : cX5_isDone.data.toList.drop 0 = dktX5_isDone_0 := by decide +kernel
theorem dX5_isDone_0 : decode cX5_isDone 0 = .ok (.aload_n 0, 1) := dk_42 (dk_at dksX5_isDone_0 0 rfl rfl)
theorem dX5_isDone_1 : decode cX5_isDone 1 = .ok (.getfield 140, 3) := dk_180 0 140 (dk_at dksX5_isDone_0 1 rfl rfl)
theorem dX5_isDone_4 : decode cX5_isDone 4 = .ok (.bipush 35, 2) := dk_16 35 (dk_at dksX5_isDone_0 4 rfl rfl)
theorem dX5_isDone_6 : decode cX5_isDone 6 = .ok (.iload_n 1, 1) := dk_27 (dk_at dksX5_isDone_0 6 rfl rfl)
theorem dX5_isDone_7 : decode cX5_isDone 7 = .ok (.iadd, 1) := dk_96 (dk_at dksX5_isDone_0 7 rfl rfl)
theorem dX5_isDone_8 : decode cX5_isDone 8 = .ok (.iaload, 1) := dk_46 (dk_at dksX5_isDone_0 8 rfl rfl)
theorem dX5_isDone_9 : decode cX5_isDone 9 = .ok (.ifCond .lt 7, 3) := dk_155 0 7 (dk_at dksX5_isDone_0 9 rfl rfl)
theorem dX5_isDone_12 : decode cX5_isDone 12 = .ok (.iconst 1, 1) := dk_4 (dk_at dksX5_isDone_0 12 rfl rfl)
theorem dX5_isDone_13 : decode cX5_isDone 13 = .ok (.goto 4, 3) := dk_167 0 4 (dk_at dksX5_isDone_0 13 rfl rfl)
theorem dX5_isDone_16 : decode cX5_isDone 16 = .ok (.iconst 0, 1) := dk_3 (dk_at dksX5_isDone_0 16 rfl rfl)
theorem dX5_isDone_17 : decode cX5_isDone 17 = .ok (.ireturn, 1) := dk_172 (dk_at dksX5_isDone_0 17 rfl rfl)
def dkwX5_asked_0 : List UInt8 := [42, 180, 1, 15, 153, 0, 7, 2, 167, 0, 9, 42, 180, 0, 163, 27, 46, 172]
abbrev dktX5_asked_0 : List UInt8 := dkwX5_asked_0 ++ []
theorem dksX5_asked_0 : cX5_asked.data.toList.drop 0 = dktX5_asked_0 := by decide +kernel
theorem dX5_asked_0 : decode cX5_asked 0 = .ok (.aload_n 0, 1) := dk_42 (dk_at dksX5_asked_0 0 rfl rfl)
theorem dX5_asked_1 : decode cX5_asked 1 = .ok (.getfield 271, 3) := dk_180 1 15 (dk_at dksX5_asked_0 1 rfl rfl)
theorem dX5_asked_4 : decode cX5_asked 4 = .ok (.ifCond .eq 7, 3) := dk_153 0 7 (dk_at dksX5_asked_0 4 rfl rfl)
theorem dX5_asked_7 : decode cX5_asked 7 = .ok (.iconst (-1), 1) := dk_2 (dk_at dksX5_asked_0 7 rfl rfl)
theorem dX5_asked_8 : decode cX5_asked 8 = .ok (.goto 9, 3) := dk_167 0 9 (dk_at dksX5_asked_0 8 rfl rfl)
theorem dX5_asked_11 : decode cX5_asked 11 = .ok (.aload_n 0, 1) := dk_42 (dk_at dksX5_asked_0 11 rfl rfl)
theorem dX5_asked_12 : decode cX5_asked 12 = .ok (.getfield 163, 3) := dk_180 0 163 (dk_at dksX5_asked_0 12 rfl rfl)
theorem dX5_asked_15 : decode cX5_asked 15 = .ok (.iload_n 1, 1) := dk_27 (dk_at dksX5_asked_0 15 rfl rfl)
theorem dX5_asked_16 : decode cX5_asked 16 = .ok (.iaload, 1) := dk_46 (dk_at dksX5_asked_0 16 rfl rfl)
theorem dX5_asked_17 : decode cX5_asked 17 = .ok (.ireturn, 1) := dk_172 (dk_at dksX5_asked_0 17 rfl rfl)
def dkwX5_closes_7 : List UInt8 := [132, 2, 1, 167, 255, 99, 177]
abbrev dktX5_closes_7 : List UInt8 := dkwX5_closes_7 ++ []
def dkwX5_closes_6 : List UInt8 := [132, 6, 1, 167, 255, 207, 21, 4, 29, 159, 0, 14, 42, 28, 21, 4, 27, 4, 96, 182, 1, 38, 87]
abbrev dktX5_closes_6 : List UInt8 := dkwX5_closes_6 ++ dktX5_closes_7
def dkwX5_closes_5 : List UInt8 := [21, 5, 164, 0, 8, 21, 6, 167, 0, 5, 21, 4, 54, 4, 21, 5, 21, 7, 184, 0, 101, 54, 5]
abbrev dktX5_closes_5 : List UInt8 := dkwX5_closes_5 ++ dktX5_closes_6
def dkwX5_closes_4 : List UInt8 := [21, 6, 42, 180, 0, 22, 162, 0, 46, 42, 28, 21, 6, 27, 4, 96, 182, 1, 6, 54, 7, 21, 7]
abbrev dktX5_closes_4 : List UInt8 := dkwX5_closes_4 ++ dktX5_closes_5
def dkwX5_closes_3 : List UInt8 := [153, 0, 6, 167, 0, 89, 3, 54, 4, 42, 28, 3, 27, 4, 96, 182, 1, 6, 54, 5, 4, 54, 6]
abbrev dktX5_closes_3 : List UInt8 := dkwX5_closes_3 ++ dktX5_closes_4
def dkwX5_closes_2 : List UInt8 := [28, 182, 1, 9, 154, 0, 112, 42, 29, 27, 182, 0, 120, 153, 0, 103, 42, 29, 27, 4, 96, 182, 0, 120]
abbrev dktX5_closes_2 : List UInt8 := dkwX5_closes_2 ++ dktX5_closes_3
def dkwX5_closes_1 : List UInt8 := [158, 0, 146, 42, 180, 0, 140, 6, 28, 96, 46, 62, 42, 180, 1, 22, 28, 184, 0, 137, 153, 0, 120, 42]
abbrev dktX5_closes_1 : List UInt8 := dkwX5_closes_1 ++ dktX5_closes_2
def dkwX5_closes_0 : List UInt8 := [42, 180, 0, 140, 3, 46, 60, 3, 61, 28, 42, 180, 0, 151, 162, 0, 155, 42, 180, 0, 199, 3, 46]
abbrev dktX5_closes_0 : List UInt8 := dkwX5_closes_0 ++ dktX5_closes_1
theorem dksX5_closes_0 : cX5_closes.data.toList.drop 0 = dktX5_closes_0 := by decide +kernel
theorem dksX5_closes_1 : cX5_closes.data.toList.drop 23 = dktX5_closes_1 := dk_seg dksX5_closes_0 23 rfl rfl
theorem dksX5_closes_2 : cX5_closes.data.toList.drop 47 = dktX5_closes_2 := dk_seg dksX5_closes_1 24 rfl rfl
theorem dksX5_closes_3 : cX5_closes.data.toList.drop 71 = dktX5_closes_3 := dk_seg dksX5_closes_2 24 rfl rfl
theorem dksX5_closes_4 : cX5_closes.data.toList.drop 94 = dktX5_closes_4 := dk_seg dksX5_closes_3 23 rfl rfl
theorem dksX5_closes_5 : cX5_closes.data.toList.drop 117 = dktX5_closes_5 := dk_seg dksX5_closes_4 23 rfl rfl
theorem dksX5_closes_6 : cX5_closes.data.toList.drop 140 = dktX5_closes_6 := dk_seg dksX5_closes_5 23 rfl rfl
theorem dksX5_closes_7 : cX5_closes.data.toList.drop 163 = dktX5_closes_7 := dk_seg dksX5_closes_6 23 rfl rfl
theorem dX5_closes_0 : decode cX5_closes 0 = .ok (.aload_n 0, 1) := dk_42 (dk_at dksX5_closes_0 0 rfl rfl)
theorem dX5_closes_1 : decode cX5_closes 1 = .ok (.getfield 140, 3) := dk_180 0 140 (dk_at dksX5_closes_0 1 rfl rfl)
theorem dX5_closes_4 : decode cX5_closes 4 = .ok (.iconst 0, 1) := dk_3 (dk_at dksX5_closes_0 4 rfl rfl)
theorem dX5_closes_5 : decode cX5_closes 5 = .ok (.iaload, 1) := dk_46 (dk_at dksX5_closes_0 5 rfl rfl)
theorem dX5_closes_6 : decode cX5_closes 6 = .ok (.istore_n 1, 1) := dk_60 (dk_at dksX5_closes_0 6 rfl rfl)
theorem dX5_closes_7 : decode cX5_closes 7 = .ok (.iconst 0, 1) := dk_3 (dk_at dksX5_closes_0 7 rfl rfl)
theorem dX5_closes_8 : decode cX5_closes 8 = .ok (.istore_n 2, 1) := dk_61 (dk_at dksX5_closes_0 8 rfl rfl)
theorem dX5_closes_9 : decode cX5_closes 9 = .ok (.iload_n 2, 1) := dk_28 (dk_at dksX5_closes_0 9 rfl rfl)
theorem dX5_closes_10 : decode cX5_closes 10 = .ok (.aload_n 0, 1) := dk_42 (dk_at dksX5_closes_0 10 rfl rfl)
theorem dX5_closes_11 : decode cX5_closes 11 = .ok (.getfield 151, 3) := dk_180 0 151 (dk_at dksX5_closes_0 11 rfl rfl)
theorem dX5_closes_14 : decode cX5_closes 14 = .ok (.if_icmp .ge 155, 3) := dk_162 0 155 (dk_at dksX5_closes_0 14 rfl rfl)
theorem dX5_closes_17 : decode cX5_closes 17 = .ok (.aload_n 0, 1) := dk_42 (dk_at dksX5_closes_0 17 rfl rfl)
theorem dX5_closes_18 : decode cX5_closes 18 = .ok (.getfield 199, 3) := dk_180 0 199 (dk_at dksX5_closes_0 18 rfl rfl)
theorem dX5_closes_21 : decode cX5_closes 21 = .ok (.iconst 0, 1) := dk_3 (dk_at dksX5_closes_0 21 rfl rfl)
theorem dX5_closes_22 : decode cX5_closes 22 = .ok (.iaload, 1) := dk_46 (dk_at dksX5_closes_0 22 rfl rfl)
theorem dX5_closes_23 : decode cX5_closes 23 = .ok (.ifCond .le 146, 3) := dk_158 0 146 (dk_at dksX5_closes_1 0 rfl rfl)
theorem dX5_closes_26 : decode cX5_closes 26 = .ok (.aload_n 0, 1) := dk_42 (dk_at dksX5_closes_1 3 rfl rfl)
theorem dX5_closes_27 : decode cX5_closes 27 = .ok (.getfield 140, 3) := dk_180 0 140 (dk_at dksX5_closes_1 4 rfl rfl)
theorem dX5_closes_30 : decode cX5_closes 30 = .ok (.iconst 3, 1) := dk_6 (dk_at dksX5_closes_1 7 rfl rfl)
theorem dX5_closes_31 : decode cX5_closes 31 = .ok (.iload_n 2, 1) := dk_28 (dk_at dksX5_closes_1 8 rfl rfl)
theorem dX5_closes_32 : decode cX5_closes 32 = .ok (.iadd, 1) := dk_96 (dk_at dksX5_closes_1 9 rfl rfl)
theorem dX5_closes_33 : decode cX5_closes 33 = .ok (.iaload, 1) := dk_46 (dk_at dksX5_closes_1 10 rfl rfl)
theorem dX5_closes_34 : decode cX5_closes 34 = .ok (.istore_n 3, 1) := dk_62 (dk_at dksX5_closes_1 11 rfl rfl)
theorem dX5_closes_35 : decode cX5_closes 35 = .ok (.aload_n 0, 1) := dk_42 (dk_at dksX5_closes_1 12 rfl rfl)
theorem dX5_closes_36 : decode cX5_closes 36 = .ok (.getfield 278, 3) := dk_180 1 22 (dk_at dksX5_closes_1 13 rfl rfl)
theorem dX5_closes_39 : decode cX5_closes 39 = .ok (.iload_n 2, 1) := dk_28 (dk_at dksX5_closes_1 16 rfl rfl)
theorem dX5_closes_40 : decode cX5_closes 40 = .ok (.invokestatic 137, 3) := dk_184 0 137 (dk_at dksX5_closes_1 17 rfl rfl)
theorem dX5_closes_43 : decode cX5_closes 43 = .ok (.ifCond .eq 120, 3) := dk_153 0 120 (dk_at dksX5_closes_1 20 rfl rfl)
theorem dX5_closes_46 : decode cX5_closes 46 = .ok (.aload_n 0, 1) := dk_42 (dk_at dksX5_closes_1 23 rfl rfl)
theorem dX5_closes_47 : decode cX5_closes 47 = .ok (.iload_n 2, 1) := dk_28 (dk_at dksX5_closes_2 0 rfl rfl)
theorem dX5_closes_48 : decode cX5_closes 48 = .ok (.invokevirtual 265, 3) := dk_182 1 9 (dk_at dksX5_closes_2 1 rfl rfl)
theorem dX5_closes_51 : decode cX5_closes 51 = .ok (.ifCond .ne 112, 3) := dk_154 0 112 (dk_at dksX5_closes_2 4 rfl rfl)
theorem dX5_closes_54 : decode cX5_closes 54 = .ok (.aload_n 0, 1) := dk_42 (dk_at dksX5_closes_2 7 rfl rfl)
theorem dX5_closes_55 : decode cX5_closes 55 = .ok (.iload_n 3, 1) := dk_29 (dk_at dksX5_closes_2 8 rfl rfl)
theorem dX5_closes_56 : decode cX5_closes 56 = .ok (.iload_n 1, 1) := dk_27 (dk_at dksX5_closes_2 9 rfl rfl)
theorem dX5_closes_57 : decode cX5_closes 57 = .ok (.invokevirtual 120, 3) := dk_182 0 120 (dk_at dksX5_closes_2 10 rfl rfl)
theorem dX5_closes_60 : decode cX5_closes 60 = .ok (.ifCond .eq 103, 3) := dk_153 0 103 (dk_at dksX5_closes_2 13 rfl rfl)
theorem dX5_closes_63 : decode cX5_closes 63 = .ok (.aload_n 0, 1) := dk_42 (dk_at dksX5_closes_2 16 rfl rfl)
theorem dX5_closes_64 : decode cX5_closes 64 = .ok (.iload_n 3, 1) := dk_29 (dk_at dksX5_closes_2 17 rfl rfl)
theorem dX5_closes_65 : decode cX5_closes 65 = .ok (.iload_n 1, 1) := dk_27 (dk_at dksX5_closes_2 18 rfl rfl)
theorem dX5_closes_66 : decode cX5_closes 66 = .ok (.iconst 1, 1) := dk_4 (dk_at dksX5_closes_2 19 rfl rfl)
theorem dX5_closes_67 : decode cX5_closes 67 = .ok (.iadd, 1) := dk_96 (dk_at dksX5_closes_2 20 rfl rfl)
theorem dX5_closes_68 : decode cX5_closes 68 = .ok (.invokevirtual 120, 3) := dk_182 0 120 (dk_at dksX5_closes_2 21 rfl rfl)
theorem dX5_closes_71 : decode cX5_closes 71 = .ok (.ifCond .eq 6, 3) := dk_153 0 6 (dk_at dksX5_closes_3 0 rfl rfl)
theorem dX5_closes_74 : decode cX5_closes 74 = .ok (.goto 89, 3) := dk_167 0 89 (dk_at dksX5_closes_3 3 rfl rfl)
theorem dX5_closes_77 : decode cX5_closes 77 = .ok (.iconst 0, 1) := dk_3 (dk_at dksX5_closes_3 6 rfl rfl)
theorem dX5_closes_78 : decode cX5_closes 78 = .ok (.istore 4, 2) := dk_54 4 (dk_at dksX5_closes_3 7 rfl rfl)
theorem dX5_closes_80 : decode cX5_closes 80 = .ok (.aload_n 0, 1) := dk_42 (dk_at dksX5_closes_3 9 rfl rfl)
theorem dX5_closes_81 : decode cX5_closes 81 = .ok (.iload_n 2, 1) := dk_28 (dk_at dksX5_closes_3 10 rfl rfl)
theorem dX5_closes_82 : decode cX5_closes 82 = .ok (.iconst 0, 1) := dk_3 (dk_at dksX5_closes_3 11 rfl rfl)
theorem dX5_closes_83 : decode cX5_closes 83 = .ok (.iload_n 1, 1) := dk_27 (dk_at dksX5_closes_3 12 rfl rfl)
theorem dX5_closes_84 : decode cX5_closes 84 = .ok (.iconst 1, 1) := dk_4 (dk_at dksX5_closes_3 13 rfl rfl)
theorem dX5_closes_85 : decode cX5_closes 85 = .ok (.iadd, 1) := dk_96 (dk_at dksX5_closes_3 14 rfl rfl)
theorem dX5_closes_86 : decode cX5_closes 86 = .ok (.invokevirtual 262, 3) := dk_182 1 6 (dk_at dksX5_closes_3 15 rfl rfl)
theorem dX5_closes_89 : decode cX5_closes 89 = .ok (.istore 5, 2) := dk_54 5 (dk_at dksX5_closes_3 18 rfl rfl)
theorem dX5_closes_91 : decode cX5_closes 91 = .ok (.iconst 1, 1) := dk_4 (dk_at dksX5_closes_3 20 rfl rfl)
theorem dX5_closes_92 : decode cX5_closes 92 = .ok (.istore 6, 2) := dk_54 6 (dk_at dksX5_closes_3 21 rfl rfl)
theorem dX5_closes_94 : decode cX5_closes 94 = .ok (.iload 6, 2) := dk_21 6 (dk_at dksX5_closes_4 0 rfl rfl)
theorem dX5_closes_96 : decode cX5_closes 96 = .ok (.aload_n 0, 1) := dk_42 (dk_at dksX5_closes_4 2 rfl rfl)
theorem dX5_closes_97 : decode cX5_closes 97 = .ok (.getfield 22, 3) := dk_180 0 22 (dk_at dksX5_closes_4 3 rfl rfl)
theorem dX5_closes_100 : decode cX5_closes 100 = .ok (.if_icmp .ge 46, 3) := dk_162 0 46 (dk_at dksX5_closes_4 6 rfl rfl)
theorem dX5_closes_103 : decode cX5_closes 103 = .ok (.aload_n 0, 1) := dk_42 (dk_at dksX5_closes_4 9 rfl rfl)
theorem dX5_closes_104 : decode cX5_closes 104 = .ok (.iload_n 2, 1) := dk_28 (dk_at dksX5_closes_4 10 rfl rfl)
theorem dX5_closes_105 : decode cX5_closes 105 = .ok (.iload 6, 2) := dk_21 6 (dk_at dksX5_closes_4 11 rfl rfl)
theorem dX5_closes_107 : decode cX5_closes 107 = .ok (.iload_n 1, 1) := dk_27 (dk_at dksX5_closes_4 13 rfl rfl)
theorem dX5_closes_108 : decode cX5_closes 108 = .ok (.iconst 1, 1) := dk_4 (dk_at dksX5_closes_4 14 rfl rfl)
theorem dX5_closes_109 : decode cX5_closes 109 = .ok (.iadd, 1) := dk_96 (dk_at dksX5_closes_4 15 rfl rfl)
theorem dX5_closes_110 : decode cX5_closes 110 = .ok (.invokevirtual 262, 3) := dk_182 1 6 (dk_at dksX5_closes_4 16 rfl rfl)
theorem dX5_closes_113 : decode cX5_closes 113 = .ok (.istore 7, 2) := dk_54 7 (dk_at dksX5_closes_4 19 rfl rfl)
theorem dX5_closes_115 : decode cX5_closes 115 = .ok (.iload 7, 2) := dk_21 7 (dk_at dksX5_closes_4 21 rfl rfl)
theorem dX5_closes_117 : decode cX5_closes 117 = .ok (.iload 5, 2) := dk_21 5 (dk_at dksX5_closes_5 0 rfl rfl)
theorem dX5_closes_119 : decode cX5_closes 119 = .ok (.if_icmp .le 8, 3) := dk_164 0 8 (dk_at dksX5_closes_5 2 rfl rfl)
theorem dX5_closes_122 : decode cX5_closes 122 = .ok (.iload 6, 2) := dk_21 6 (dk_at dksX5_closes_5 5 rfl rfl)
theorem dX5_closes_124 : decode cX5_closes 124 = .ok (.goto 5, 3) := dk_167 0 5 (dk_at dksX5_closes_5 7 rfl rfl)
theorem dX5_closes_127 : decode cX5_closes 127 = .ok (.iload 4, 2) := dk_21 4 (dk_at dksX5_closes_5 10 rfl rfl)
theorem dX5_closes_129 : decode cX5_closes 129 = .ok (.istore 4, 2) := dk_54 4 (dk_at dksX5_closes_5 12 rfl rfl)
theorem dX5_closes_131 : decode cX5_closes 131 = .ok (.iload 5, 2) := dk_21 5 (dk_at dksX5_closes_5 14 rfl rfl)
theorem dX5_closes_133 : decode cX5_closes 133 = .ok (.iload 7, 2) := dk_21 7 (dk_at dksX5_closes_5 16 rfl rfl)
theorem dX5_closes_135 : decode cX5_closes 135 = .ok (.invokestatic 101, 3) := dk_184 0 101 (dk_at dksX5_closes_5 18 rfl rfl)
theorem dX5_closes_138 : decode cX5_closes 138 = .ok (.istore 5, 2) := dk_54 5 (dk_at dksX5_closes_5 21 rfl rfl)
theorem dX5_closes_140 : decode cX5_closes 140 = .ok (.iinc 6 1, 3) := dk_132 6 1 (dk_at dksX5_closes_6 0 rfl rfl)
theorem dX5_closes_143 : decode cX5_closes 143 = .ok (.goto (-49), 3) := dk_167 255 207 (dk_at dksX5_closes_6 3 rfl rfl)
theorem dX5_closes_146 : decode cX5_closes 146 = .ok (.iload 4, 2) := dk_21 4 (dk_at dksX5_closes_6 6 rfl rfl)
theorem dX5_closes_148 : decode cX5_closes 148 = .ok (.iload_n 3, 1) := dk_29 (dk_at dksX5_closes_6 8 rfl rfl)
theorem dX5_closes_149 : decode cX5_closes 149 = .ok (.if_icmp .eq 14, 3) := dk_159 0 14 (dk_at dksX5_closes_6 9 rfl rfl)
theorem dX5_closes_152 : decode cX5_closes 152 = .ok (.aload_n 0, 1) := dk_42 (dk_at dksX5_closes_6 12 rfl rfl)
theorem dX5_closes_153 : decode cX5_closes 153 = .ok (.iload_n 2, 1) := dk_28 (dk_at dksX5_closes_6 13 rfl rfl)
theorem dX5_closes_154 : decode cX5_closes 154 = .ok (.iload 4, 2) := dk_21 4 (dk_at dksX5_closes_6 14 rfl rfl)
theorem dX5_closes_156 : decode cX5_closes 156 = .ok (.iload_n 1, 1) := dk_27 (dk_at dksX5_closes_6 16 rfl rfl)
theorem dX5_closes_157 : decode cX5_closes 157 = .ok (.iconst 1, 1) := dk_4 (dk_at dksX5_closes_6 17 rfl rfl)
theorem dX5_closes_158 : decode cX5_closes 158 = .ok (.iadd, 1) := dk_96 (dk_at dksX5_closes_6 18 rfl rfl)
theorem dX5_closes_159 : decode cX5_closes 159 = .ok (.invokevirtual 294, 3) := dk_182 1 38 (dk_at dksX5_closes_6 19 rfl rfl)
theorem dX5_closes_162 : decode cX5_closes 162 = .ok (.pop, 1) := dk_87 (dk_at dksX5_closes_6 22 rfl rfl)
theorem dX5_closes_163 : decode cX5_closes 163 = .ok (.iinc 2 1, 3) := dk_132 2 1 (dk_at dksX5_closes_7 0 rfl rfl)
theorem dX5_closes_166 : decode cX5_closes 166 = .ok (.goto (-157), 3) := dk_167 255 99 (dk_at dksX5_closes_7 3 rfl rfl)
theorem dX5_closes_169 : decode cX5_closes 169 = .ok (.return_, 1) := dk_177 (dk_at dksX5_closes_7 6 rfl rfl)
