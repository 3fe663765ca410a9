set_option maxRecDepth 100000
def dkwX5_entersFraction_0 : List UInt8 := [31, 33, 184, 0, 14, 55, 5, 42, 31, 22, 5, 109, 182, 0, 18, 42, 33, 22, 5, 109, 182, 0, 18, 177]
abbrev dktX5_entersFraction_0 : List UInt8 := dkwX5_entersFraction_0 ++ []
theorem dksX5_entersFraction_0 : cX5_entersFraction.data.toList.drop 0 = dktX5_entersFraction_0 := by decide +kernel
theorem dX5_entersFraction_0 : decode cX5_entersFraction 0 = .ok (.lload_n 1, 1) := dk_31 (dk_at dksX5_entersFraction_0 0 rfl rfl)
theorem dX5_entersFraction_1 : decode cX5_entersFraction 1 = .ok (.lload_n 3, 1) := dk_33 (dk_at dksX5_entersFraction_0 1 rfl rfl)
theorem dX5_entersFraction_2 : decode cX5_entersFraction 2 = .ok (.invokestatic 14, 3) := dk_184 0 14 (dk_at dksX5_entersFraction_0 2 rfl rfl)
theorem dX5_entersFraction_5 : decode cX5_entersFraction 5 = .ok (.lstore 5, 2) := dk_55 5 (dk_at dksX5_entersFraction_0 5 rfl rfl)
theorem dX5_entersFraction_7 : decode cX5_entersFraction 7 = .ok (.aload_n 0, 1) := dk_42 (dk_at dksX5_entersFraction_0 7 rfl rfl)
theorem dX5_entersFraction_8 : decode cX5_entersFraction 8 = .ok (.lload_n 1, 1) := dk_31 (dk_at dksX5_entersFraction_0 8 rfl rfl)
theorem dX5_entersFraction_9 : decode cX5_entersFraction 9 = .ok (.lload 5, 2) := dk_22 5 (dk_at dksX5_entersFraction_0 9 rfl rfl)
theorem dX5_entersFraction_11 : decode cX5_entersFraction 11 = .ok (.ldiv, 1) := dk_109 (dk_at dksX5_entersFraction_0 11 rfl rfl)
theorem dX5_entersFraction_12 : decode cX5_entersFraction 12 = .ok (.invokevirtual 18, 3) := dk_182 0 18 (dk_at dksX5_entersFraction_0 12 rfl rfl)
theorem dX5_entersFraction_15 : decode cX5_entersFraction 15 = .ok (.aload_n 0, 1) := dk_42 (dk_at dksX5_entersFraction_0 15 rfl rfl)
theorem dX5_entersFraction_16 : decode cX5_entersFraction 16 = .ok (.lload_n 3, 1) := dk_33 (dk_at dksX5_entersFraction_0 16 rfl rfl)
theorem dX5_entersFraction_17 : decode cX5_entersFraction 17 = .ok (.lload 5, 2) := dk_22 5 (dk_at dksX5_entersFraction_0 17 rfl rfl)
theorem dX5_entersFraction_19 : decode cX5_entersFraction 19 = .ok (.ldiv, 1) := dk_109 (dk_at dksX5_entersFraction_0 19 rfl rfl)
theorem dX5_entersFraction_20 : decode cX5_entersFraction 20 = .ok (.invokevirtual 18, 3) := dk_182 0 18 (dk_at dksX5_entersFraction_0 20 rfl rfl)
theorem dX5_entersFraction_23 : decode cX5_entersFraction 23 = .ok (.return_, 1) := dk_177 (dk_at dksX5_entersFraction_0 23 rfl rfl)
def dkwX5_common_1 : List UInt8 := [22, 8, 55, 6, 167, 255, 234, 22, 4, 173]
abbrev dktX5_common_1 : List UInt8 := dkwX5_common_1 ++ []
def dkwX5_common_0 : List UInt8 := [30, 55, 4, 32, 55, 6, 22, 6, 9, 148, 153, 0, 21, 22, 4, 22, 6, 113, 55, 8, 22, 6, 55, 4]
abbrev dktX5_common_0 : List UInt8 := dkwX5_common_0 ++ dktX5_common_1
theorem dksX5_common_0 : cX5_common.data.toList.drop 0 = dktX5_common_0 := by decide +kernel
theorem dksX5_common_1 : cX5_common.data.toList.drop 24 = dktX5_common_1 := dk_seg dksX5_common_0 24 rfl rfl
theorem dX5_common_0 : decode cX5_common 0 = .ok (.lload_n 0, 1) := dk_30 (dk_at dksX5_common_0 0 rfl rfl)
theorem dX5_common_1 : decode cX5_common 1 = .ok (.lstore 4, 2) := dk_55 4 (dk_at dksX5_common_0 1 rfl rfl)
theorem dX5_common_3 : decode cX5_common 3 = .ok (.lload_n 2, 1) := dk_32 (dk_at dksX5_common_0 3 rfl rfl)
theorem dX5_common_4 : decode cX5_common 4 = .ok (.lstore 6, 2) := dk_55 6 (dk_at dksX5_common_0 4 rfl rfl)
theorem dX5_common_6 : decode cX5_common 6 = .ok (.lload 6, 2) := dk_22 6 (dk_at dksX5_common_0 6 rfl rfl)
theorem dX5_common_8 : decode cX5_common 8 = .ok (.lconst 0, 1) := dk_9 (dk_at dksX5_common_0 8 rfl rfl)
theorem dX5_common_9 : decode cX5_common 9 = .ok (.lcmp, 1) := dk_148 (dk_at dksX5_common_0 9 rfl rfl)
theorem dX5_common_10 : decode cX5_common 10 = .ok (.ifCond .eq 21, 3) := dk_153 0 21 (dk_at dksX5_common_0 10 rfl rfl)
theorem dX5_common_13 : decode cX5_common 13 = .ok (.lload 4, 2) := dk_22 4 (dk_at dksX5_common_0 13 rfl rfl)
theorem dX5_common_15 : decode cX5_common 15 = .ok (.lload 6, 2) := dk_22 6 (dk_at dksX5_common_0 15 rfl rfl)
theorem dX5_common_17 : decode cX5_common 17 = .ok (.lrem, 1) := dk_113 (dk_at dksX5_common_0 17 rfl rfl)
theorem dX5_common_18 : decode cX5_common 18 = .ok (.lstore 8, 2) := dk_55 8 (dk_at dksX5_common_0 18 rfl rfl)
theorem dX5_common_20 : decode cX5_common 20 = .ok (.lload 6, 2) := dk_22 6 (dk_at dksX5_common_0 20 rfl rfl)
theorem dX5_common_22 : decode cX5_common 22 = .ok (.lstore 4, 2) := dk_55 4 (dk_at dksX5_common_0 22 rfl rfl)
theorem dX5_common_24 : decode cX5_common 24 = .ok (.lload 8, 2) := dk_22 8 (dk_at dksX5_common_1 0 rfl rfl)
theorem dX5_common_26 : decode cX5_common 26 = .ok (.lstore 6, 2) := dk_55 6 (dk_at dksX5_common_1 2 rfl rfl)
theorem dX5_common_28 : decode cX5_common 28 = .ok (.goto (-22), 3) := dk_167 255 234 (dk_at dksX5_common_1 4 rfl rfl)
theorem dX5_common_31 : decode cX5_common 31 = .ok (.lload 4, 2) := dk_22 4 (dk_at dksX5_common_1 7 rfl rfl)
theorem dX5_common_33 : decode cX5_common 33 = .ok (.lreturn, 1) := dk_173 (dk_at dksX5_common_1 9 rfl rfl)
def dkwX5_mean_3 : List UInt8 := [180, 0, 140, 5, 46, 172]
abbrev dktX5_mean_3 : List UInt8 := dkwX5_mean_3 ++ []
def dkwX5_mean_2 : List UInt8 := [65, 132, 4, 1, 167, 255, 228, 42, 3, 181, 0, 11, 42, 32, 27, 133, 105, 20, 0, 106, 182, 1, 203, 42]
abbrev dktX5_mean_2 : List UInt8 := dkwX5_mean_2 ++ dktX5_mean_3
def dkwX5_mean_1 : List UInt8 := [21, 4, 42, 180, 0, 140, 5, 46, 162, 0, 23, 32, 42, 180, 0, 140, 16, 67, 21, 4, 96, 46, 133, 97]
abbrev dktX5_mean_1 : List UInt8 := dkwX5_mean_1 ++ dktX5_mean_2
def dkwX5_mean_0 : List UInt8 := [42, 3, 181, 0, 3, 27, 133, 10, 20, 0, 67, 184, 0, 25, 154, 0, 5, 2, 172, 9, 65, 3, 54, 4]
abbrev dktX5_mean_0 : List UInt8 := dkwX5_mean_0 ++ dktX5_mean_1
theorem dksX5_mean_0 : cX5_mean.data.toList.drop 0 = dktX5_mean_0 := by decide +kernel
theorem dksX5_mean_1 : cX5_mean.data.toList.drop 24 = dktX5_mean_1 := dk_seg dksX5_mean_0 24 rfl rfl
theorem dksX5_mean_2 : cX5_mean.data.toList.drop 48 = dktX5_mean_2 := dk_seg dksX5_mean_1 24 rfl rfl
theorem dksX5_mean_3 : cX5_mean.data.toList.drop 72 = dktX5_mean_3 := dk_seg dksX5_mean_2 24 rfl rfl
theorem dX5_mean_0 : decode cX5_mean 0 = .ok (.aload_n 0, 1) := dk_42 (dk_at dksX5_mean_0 0 rfl rfl)
theorem dX5_mean_1 : decode cX5_mean 1 = .ok (.iconst 0, 1) := dk_3 (dk_at dksX5_mean_0 1 rfl rfl)
theorem dX5_mean_2 : decode cX5_mean 2 = .ok (.putfield 3, 3) := dk_181 0 3 (dk_at dksX5_mean_0 2 rfl rfl)
theorem dX5_mean_5 : decode cX5_mean 5 = .ok (.iload_n 1, 1) := dk_27 (dk_at dksX5_mean_0 5 rfl rfl)
theorem dX5_mean_6 : decode cX5_mean 6 = .ok (.i2l, 1) := dk_133 (dk_at dksX5_mean_0 6 rfl rfl)
theorem dX5_mean_7 : decode cX5_mean 7 = .ok (.lconst 1, 1) := dk_10 (dk_at dksX5_mean_0 7 rfl rfl)
theorem dX5_mean_8 : decode cX5_mean 8 = .ok (.ldc2_w 67, 3) := dk_20 0 67 (dk_at dksX5_mean_0 8 rfl rfl)
theorem dX5_mean_11 : decode cX5_mean 11 = .ok (.invokestatic 25, 3) := dk_184 0 25 (dk_at dksX5_mean_0 11 rfl rfl)
theorem dX5_mean_14 : decode cX5_mean 14 = .ok (.ifCond .ne 5, 3) := dk_154 0 5 (dk_at dksX5_mean_0 14 rfl rfl)
theorem dX5_mean_17 : decode cX5_mean 17 = .ok (.iconst (-1), 1) := dk_2 (dk_at dksX5_mean_0 17 rfl rfl)
theorem dX5_mean_18 : decode cX5_mean 18 = .ok (.ireturn, 1) := dk_172 (dk_at dksX5_mean_0 18 rfl rfl)
theorem dX5_mean_19 : decode cX5_mean 19 = .ok (.lconst 0, 1) := dk_9 (dk_at dksX5_mean_0 19 rfl rfl)
theorem dX5_mean_20 : decode cX5_mean 20 = .ok (.lstore_n 2, 1) := dk_65 (dk_at dksX5_mean_0 20 rfl rfl)
theorem dX5_mean_21 : decode cX5_mean 21 = .ok (.iconst 0, 1) := dk_3 (dk_at dksX5_mean_0 21 rfl rfl)
theorem dX5_mean_22 : decode cX5_mean 22 = .ok (.istore 4, 2) := dk_54 4 (dk_at dksX5_mean_0 22 rfl rfl)
theorem dX5_mean_24 : decode cX5_mean 24 = .ok (.iload 4, 2) := dk_21 4 (dk_at dksX5_mean_1 0 rfl rfl)
theorem dX5_mean_26 : decode cX5_mean 26 = .ok (.aload_n 0, 1) := dk_42 (dk_at dksX5_mean_1 2 rfl rfl)
theorem dX5_mean_27 : decode cX5_mean 27 = .ok (.getfield 140, 3) := dk_180 0 140 (dk_at dksX5_mean_1 3 rfl rfl)
theorem dX5_mean_30 : decode cX5_mean 30 = .ok (.iconst 2, 1) := dk_5 (dk_at dksX5_mean_1 6 rfl rfl)
theorem dX5_mean_31 : decode cX5_mean 31 = .ok (.iaload, 1) := dk_46 (dk_at dksX5_mean_1 7 rfl rfl)
theorem dX5_mean_32 : decode cX5_mean 32 = .ok (.if_icmp .ge 23, 3) := dk_162 0 23 (dk_at dksX5_mean_1 8 rfl rfl)
theorem dX5_mean_35 : decode cX5_mean 35 = .ok (.lload_n 2, 1) := dk_32 (dk_at dksX5_mean_1 11 rfl rfl)
theorem dX5_mean_36 : decode cX5_mean 36 = .ok (.aload_n 0, 1) := dk_42 (dk_at dksX5_mean_1 12 rfl rfl)
theorem dX5_mean_37 : decode cX5_mean 37 = .ok (.getfield 140, 3) := dk_180 0 140 (dk_at dksX5_mean_1 13 rfl rfl)
theorem dX5_mean_40 : decode cX5_mean 40 = .ok (.bipush 67, 2) := dk_16 67 (dk_at dksX5_mean_1 16 rfl rfl)
theorem dX5_mean_42 : decode cX5_mean 42 = .ok (.iload 4, 2) := dk_21 4 (dk_at dksX5_mean_1 18 rfl rfl)
theorem dX5_mean_44 : decode cX5_mean 44 = .ok (.iadd, 1) := dk_96 (dk_at dksX5_mean_1 20 rfl rfl)
theorem dX5_mean_45 : decode cX5_mean 45 = .ok (.iaload, 1) := dk_46 (dk_at dksX5_mean_1 21 rfl rfl)
theorem dX5_mean_46 : decode cX5_mean 46 = .ok (.i2l, 1) := dk_133 (dk_at dksX5_mean_1 22 rfl rfl)
theorem dX5_mean_47 : decode cX5_mean 47 = .ok (.ladd, 1) := dk_97 (dk_at dksX5_mean_1 23 rfl rfl)
theorem dX5_mean_48 : decode cX5_mean 48 = .ok (.lstore_n 2, 1) := dk_65 (dk_at dksX5_mean_2 0 rfl rfl)
theorem dX5_mean_49 : decode cX5_mean 49 = .ok (.iinc 4 1, 3) := dk_132 4 1 (dk_at dksX5_mean_2 1 rfl rfl)
theorem dX5_mean_52 : decode cX5_mean 52 = .ok (.goto (-28), 3) := dk_167 255 228 (dk_at dksX5_mean_2 4 rfl rfl)
theorem dX5_mean_55 : decode cX5_mean 55 = .ok (.aload_n 0, 1) := dk_42 (dk_at dksX5_mean_2 7 rfl rfl)
theorem dX5_mean_56 : decode cX5_mean 56 = .ok (.iconst 0, 1) := dk_3 (dk_at dksX5_mean_2 8 rfl rfl)
theorem dX5_mean_57 : decode cX5_mean 57 = .ok (.putfield 11, 3) := dk_181 0 11 (dk_at dksX5_mean_2 9 rfl rfl)
theorem dX5_mean_60 : decode cX5_mean 60 = .ok (.aload_n 0, 1) := dk_42 (dk_at dksX5_mean_2 12 rfl rfl)
theorem dX5_mean_61 : decode cX5_mean 61 = .ok (.lload_n 2, 1) := dk_32 (dk_at dksX5_mean_2 13 rfl rfl)
theorem dX5_mean_62 : decode cX5_mean 62 = .ok (.iload_n 1, 1) := dk_27 (dk_at dksX5_mean_2 14 rfl rfl)
theorem dX5_mean_63 : decode cX5_mean 63 = .ok (.i2l, 1) := dk_133 (dk_at dksX5_mean_2 15 rfl rfl)
theorem dX5_mean_64 : decode cX5_mean 64 = .ok (.lmul, 1) := dk_105 (dk_at dksX5_mean_2 16 rfl rfl)
theorem dX5_mean_65 : decode cX5_mean 65 = .ok (.ldc2_w 106, 3) := dk_20 0 106 (dk_at dksX5_mean_2 17 rfl rfl)
theorem dX5_mean_68 : decode cX5_mean 68 = .ok (.invokevirtual 459, 3) := dk_182 1 203 (dk_at dksX5_mean_2 20 rfl rfl)
theorem dX5_mean_71 : decode cX5_mean 71 = .ok (.aload_n 0, 1) := dk_42 (dk_at dksX5_mean_2 23 rfl rfl)
theorem dX5_mean_72 : decode cX5_mean 72 = .ok (.getfield 140, 3) := dk_180 0 140 (dk_at dksX5_mean_3 0 rfl rfl)
theorem dX5_mean_75 : decode cX5_mean 75 = .ok (.iconst 2, 1) := dk_5 (dk_at dksX5_mean_3 3 rfl rfl)
theorem dX5_mean_76 : decode cX5_mean 76 = .ok (.iaload, 1) := dk_46 (dk_at dksX5_mean_3 4 rfl rfl)
theorem dX5_mean_77 : decode cX5_mean 77 = .ok (.ireturn, 1) := dk_172 (dk_at dksX5_mean_3 5 rfl rfl)
def dkwX5_riskiest_3 : List UInt8 := [180, 0, 140, 16, 67, 27, 96, 46, 133, 182, 0, 18, 27, 172]
abbrev dktX5_riskiest_3 : List UInt8 := dkwX5_riskiest_3 ++ []
def dkwX5_riskiest_2 : List UInt8 := [96, 46, 164, 0, 7, 28, 167, 0, 4, 27, 60, 132, 2, 1, 167, 255, 216, 42, 3, 181, 0, 11, 42, 42]
abbrev dktX5_riskiest_2 : List UInt8 := dkwX5_riskiest_2 ++ dktX5_riskiest_3
def dkwX5_riskiest_1 : List UInt8 := [180, 0, 140, 5, 46, 162, 0, 36, 42, 180, 0, 140, 16, 67, 28, 96, 46, 42, 180, 0, 140, 16, 67, 27]
abbrev dktX5_riskiest_1 : List UInt8 := dkwX5_riskiest_1 ++ dktX5_riskiest_2
def dkwX5_riskiest_0 : List UInt8 := [42, 3, 181, 0, 3, 42, 180, 0, 140, 5, 46, 154, 0, 6, 16, 254, 172, 3, 60, 4, 61, 28, 42]
abbrev dktX5_riskiest_0 : List UInt8 := dkwX5_riskiest_0 ++ dktX5_riskiest_1
theorem dksX5_riskiest_0 : cX5_riskiest.data.toList.drop 0 = dktX5_riskiest_0 := by decide +kernel
theorem dksX5_riskiest_1 : cX5_riskiest.data.toList.drop 23 = dktX5_riskiest_1 := dk_seg dksX5_riskiest_0 23 rfl rfl
theorem dksX5_riskiest_2 : cX5_riskiest.data.toList.drop 47 = dktX5_riskiest_2 := dk_seg dksX5_riskiest_1 24 rfl rfl
theorem dksX5_riskiest_3 : cX5_riskiest.data.toList.drop 71 = dktX5_riskiest_3 := dk_seg dksX5_riskiest_2 24 rfl rfl
theorem dX5_riskiest_0 : decode cX5_riskiest 0 = .ok (.aload_n 0, 1) := dk_42 (dk_at dksX5_riskiest_0 0 rfl rfl)
theorem dX5_riskiest_1 : decode cX5_riskiest 1 = .ok (.iconst 0, 1) := dk_3 (dk_at dksX5_riskiest_0 1 rfl rfl)
theorem dX5_riskiest_2 : decode cX5_riskiest 2 = .ok (.putfield 3, 3) := dk_181 0 3 (dk_at dksX5_riskiest_0 2 rfl rfl)
theorem dX5_riskiest_5 : decode cX5_riskiest 5 = .ok (.aload_n 0, 1) := dk_42 (dk_at dksX5_riskiest_0 5 rfl rfl)
theorem dX5_riskiest_6 : decode cX5_riskiest 6 = .ok (.getfield 140, 3) := dk_180 0 140 (dk_at dksX5_riskiest_0 6 rfl rfl)
theorem dX5_riskiest_9 : decode cX5_riskiest 9 = .ok (.iconst 2, 1) := dk_5 (dk_at dksX5_riskiest_0 9 rfl rfl)
theorem dX5_riskiest_10 : decode cX5_riskiest 10 = .ok (.iaload, 1) := dk_46 (dk_at dksX5_riskiest_0 10 rfl rfl)
theorem dX5_riskiest_11 : decode cX5_riskiest 11 = .ok (.ifCond .ne 6, 3) := dk_154 0 6 (dk_at dksX5_riskiest_0 11 rfl rfl)
theorem dX5_riskiest_14 : decode cX5_riskiest 14 = .ok (.bipush (-2), 2) := dk_16 254 (dk_at dksX5_riskiest_0 14 rfl rfl)
theorem dX5_riskiest_16 : decode cX5_riskiest 16 = .ok (.ireturn, 1) := dk_172 (dk_at dksX5_riskiest_0 16 rfl rfl)
theorem dX5_riskiest_17 : decode cX5_riskiest 17 = .ok (.iconst 0, 1) := dk_3 (dk_at dksX5_riskiest_0 17 rfl rfl)
theorem dX5_riskiest_18 : decode cX5_riskiest 18 = .ok (.istore_n 1, 1) := dk_60 (dk_at dksX5_riskiest_0 18 rfl rfl)
theorem dX5_riskiest_19 : decode cX5_riskiest 19 = .ok (.iconst 1, 1) := dk_4 (dk_at dksX5_riskiest_0 19 rfl rfl)
theorem dX5_riskiest_20 : decode cX5_riskiest 20 = .ok (.istore_n 2, 1) := dk_61 (dk_at dksX5_riskiest_0 20 rfl rfl)
theorem dX5_riskiest_21 : decode cX5_riskiest 21 = .ok (.iload_n 2, 1) := dk_28 (dk_at dksX5_riskiest_0 21 rfl rfl)
theorem dX5_riskiest_22 : decode cX5_riskiest 22 = .ok (.aload_n 0, 1) := dk_42 (dk_at dksX5_riskiest_0 22 rfl rfl)
theorem dX5_riskiest_23 : decode cX5_riskiest 23 = .ok (.getfield 140, 3) := dk_180 0 140 (dk_at dksX5_riskiest_1 0 rfl rfl)
theorem dX5_riskiest_26 : decode cX5_riskiest 26 = .ok (.iconst 2, 1) := dk_5 (dk_at dksX5_riskiest_1 3 rfl rfl)
theorem dX5_riskiest_27 : decode cX5_riskiest 27 = .ok (.iaload, 1) := dk_46 (dk_at dksX5_riskiest_1 4 rfl rfl)
theorem dX5_riskiest_28 : decode cX5_riskiest 28 = .ok (.if_icmp .ge 36, 3) := dk_162 0 36 (dk_at dksX5_riskiest_1 5 rfl rfl)
theorem dX5_riskiest_31 : decode cX5_riskiest 31 = .ok (.aload_n 0, 1) := dk_42 (dk_at dksX5_riskiest_1 8 rfl rfl)
theorem dX5_riskiest_32 : decode cX5_riskiest 32 = .ok (.getfield 140, 3) := dk_180 0 140 (dk_at dksX5_riskiest_1 9 rfl rfl)
theorem dX5_riskiest_35 : decode cX5_riskiest 35 = .ok (.bipush 67, 2) := dk_16 67 (dk_at dksX5_riskiest_1 12 rfl rfl)
theorem dX5_riskiest_37 : decode cX5_riskiest 37 = .ok (.iload_n 2, 1) := dk_28 (dk_at dksX5_riskiest_1 14 rfl rfl)
theorem dX5_riskiest_38 : decode cX5_riskiest 38 = .ok (.iadd, 1) := dk_96 (dk_at dksX5_riskiest_1 15 rfl rfl)
theorem dX5_riskiest_39 : decode cX5_riskiest 39 = .ok (.iaload, 1) := dk_46 (dk_at dksX5_riskiest_1 16 rfl rfl)
theorem dX5_riskiest_40 : decode cX5_riskiest 40 = .ok (.aload_n 0, 1) := dk_42 (dk_at dksX5_riskiest_1 17 rfl rfl)
theorem dX5_riskiest_41 : decode cX5_riskiest 41 = .ok (.getfield 140, 3) := dk_180 0 140 (dk_at dksX5_riskiest_1 18 rfl rfl)
theorem dX5_riskiest_44 : decode cX5_riskiest 44 = .ok (.bipush 67, 2) := dk_16 67 (dk_at dksX5_riskiest_1 21 rfl rfl)
theorem dX5_riskiest_46 : decode cX5_riskiest 46 = .ok (.iload_n 1, 1) := dk_27 (dk_at dksX5_riskiest_1 23 rfl rfl)
theorem dX5_riskiest_47 : decode cX5_riskiest 47 = .ok (.iadd, 1) := dk_96 (dk_at dksX5_riskiest_2 0 rfl rfl)
theorem dX5_riskiest_48 : decode cX5_riskiest 48 = .ok (.iaload, 1) := dk_46 (dk_at dksX5_riskiest_2 1 rfl rfl)
theorem dX5_riskiest_49 : decode cX5_riskiest 49 = .ok (.if_icmp .le 7, 3) := dk_164 0 7 (dk_at dksX5_riskiest_2 2 rfl rfl)
theorem dX5_riskiest_52 : decode cX5_riskiest 52 = .ok (.iload_n 2, 1) := dk_28 (dk_at dksX5_riskiest_2 5 rfl rfl)
theorem dX5_riskiest_53 : decode cX5_riskiest 53 = .ok (.goto 4, 3) := dk_167 0 4 (dk_at dksX5_riskiest_2 6 rfl rfl)
theorem dX5_riskiest_56 : decode cX5_riskiest 56 = .ok (.iload_n 1, 1) := dk_27 (dk_at dksX5_riskiest_2 9 rfl rfl)
theorem dX5_riskiest_57 : decode cX5_riskiest 57 = .ok (.istore_n 1, 1) := dk_60 (dk_at dksX5_riskiest_2 10 rfl rfl)
theorem dX5_riskiest_58 : decode cX5_riskiest 58 = .ok (.iinc 2 1, 3) := dk_132 2 1 (dk_at dksX5_riskiest_2 11 rfl rfl)
theorem dX5_riskiest_61 : decode cX5_riskiest 61 = .ok (.goto (-40), 3) := dk_167 255 216 (dk_at dksX5_riskiest_2 14 rfl rfl)
theorem dX5_riskiest_64 : decode cX5_riskiest 64 = .ok (.aload_n 0, 1) := dk_42 (dk_at dksX5_riskiest_2 17 rfl rfl)
theorem dX5_riskiest_65 : decode cX5_riskiest 65 = .ok (.iconst 0, 1) := dk_3 (dk_at dksX5_riskiest_2 18 rfl rfl)
theorem dX5_riskiest_66 : decode cX5_riskiest 66 = .ok (.putfield 11, 3) := dk_181 0 11 (dk_at dksX5_riskiest_2 19 rfl rfl)
theorem dX5_riskiest_69 : decode cX5_riskiest 69 = .ok (.aload_n 0, 1) := dk_42 (dk_at dksX5_riskiest_2 22 rfl rfl)
theorem dX5_riskiest_70 : decode cX5_riskiest 70 = .ok (.aload_n 0, 1) := dk_42 (dk_at dksX5_riskiest_2 23 rfl rfl)
theorem dX5_riskiest_71 : decode cX5_riskiest 71 = .ok (.getfield 140, 3) := dk_180 0 140 (dk_at dksX5_riskiest_3 0 rfl rfl)
theorem dX5_riskiest_74 : decode cX5_riskiest 74 = .ok (.bipush 67, 2) := dk_16 67 (dk_at dksX5_riskiest_3 3 rfl rfl)
theorem dX5_riskiest_76 : decode cX5_riskiest 76 = .ok (.iload_n 1, 1) := dk_27 (dk_at dksX5_riskiest_3 5 rfl rfl)
theorem dX5_riskiest_77 : decode cX5_riskiest 77 = .ok (.iadd, 1) := dk_96 (dk_at dksX5_riskiest_3 6 rfl rfl)
theorem dX5_riskiest_78 : decode cX5_riskiest 78 = .ok (.iaload, 1) := dk_46 (dk_at dksX5_riskiest_3 7 rfl rfl)
theorem dX5_riskiest_79 : decode cX5_riskiest 79 = .ok (.i2l, 1) := dk_133 (dk_at dksX5_riskiest_3 8 rfl rfl)
theorem dX5_riskiest_80 : decode cX5_riskiest 80 = .ok (.invokevirtual 18, 3) := dk_182 0 18 (dk_at dksX5_riskiest_3 9 rfl rfl)
theorem dX5_riskiest_83 : decode cX5_riskiest 83 = .ok (.iload_n 1, 1) := dk_27 (dk_at dksX5_riskiest_3 12 rfl rfl)
theorem dX5_riskiest_84 : decode cX5_riskiest 84 = .ok (.ireturn, 1) := dk_172 (dk_at dksX5_riskiest_3 13 rfl rfl)
def dkwX5_site_10 : List UInt8 := [181, 0, 11, 42, 21, 8, 133, 182, 0, 18, 42, 21, 6, 133, 182, 0, 18, 21, 7, 172]
abbrev dktX5_site_10 : List UInt8 := dkwX5_site_10 ++ []
def dkwX5_site_9 : List UInt8 := [162, 0, 11, 21, 9, 54, 7, 21, 10, 54, 8, 132, 9, 1, 167, 255, 152, 21, 7, 155, 0, 22, 42, 3]
abbrev dktX5_site_9 : List UInt8 := dkwX5_site_9 ++ dktX5_site_10
def dkwX5_site_8 : List UInt8 := [180, 0, 22, 4, 100, 181, 0, 22, 21, 10, 155, 0, 23, 21, 7, 155, 0, 10, 21, 10, 21, 8]
abbrev dktX5_site_8 : List UInt8 := dkwX5_site_8 ++ dktX5_site_9
def dkwX5_site_7 : List UInt8 := [4, 100, 29, 182, 0, 89, 132, 10, 1, 167, 255, 229, 42, 21, 4, 182, 1, 166, 54, 10, 42, 89]
abbrev dktX5_site_7 : List UInt8 := dkwX5_site_7 ++ dktX5_site_8
def dkwX5_site_6 : List UInt8 := [182, 0, 73, 3, 54, 10, 21, 10, 4, 96, 42, 180, 0, 22, 162, 0, 22, 42, 21, 10, 42, 180, 0, 22]
abbrev dktX5_site_6 : List UInt8 := dkwX5_site_6 ++ dktX5_site_7
def dkwX5_site_5 : List UInt8 := [21, 9, 16, 24, 162, 0, 103, 42, 21, 9, 16, 9, 27, 4, 28, 16, 64, 108, 28, 16, 64, 112]
abbrev dktX5_site_5 : List UInt8 := dkwX5_site_5 ++ dktX5_site_6
def dkwX5_site_4 : List UInt8 := [154, 0, 5, 2, 172, 42, 21, 4, 182, 1, 166, 54, 6, 16, 254, 54, 7, 3, 54, 8, 3, 54, 9]
abbrev dktX5_site_4 : List UInt8 := dkwX5_site_4 ++ dktX5_site_5
def dkwX5_site_3 : List UInt8 := [167, 0, 4, 3, 54, 5, 21, 5, 153, 0, 19, 42, 180, 0, 22, 16, 6, 159, 0, 10, 42, 180, 0, 151]
abbrev dktX5_site_3 : List UInt8 := dkwX5_site_3 ++ dktX5_site_4
def dkwX5_site_2 : List UInt8 := [153, 0, 27, 29, 133, 9, 20, 0, 69, 184, 0, 25, 153, 0, 15, 21, 4, 184, 0, 81, 153, 0, 7, 4]
abbrev dktX5_site_2 : List UInt8 := dkwX5_site_2 ++ dktX5_site_3
def dkwX5_site_1 : List UInt8 := [108, 133, 10, 20, 0, 69, 184, 0, 25, 153, 0, 42, 28, 16, 64, 112, 133, 10, 20, 0, 71, 184, 0, 25]
abbrev dktX5_site_1 : List UInt8 := dkwX5_site_1 ++ dktX5_site_2
def dkwX5_site_0 : List UInt8 := [42, 3, 181, 0, 3, 27, 133, 10, 20, 0, 65, 184, 0, 25, 153, 0, 61, 28, 155, 0, 57, 28, 16, 64]
abbrev dktX5_site_0 : List UInt8 := dkwX5_site_0 ++ dktX5_site_1
theorem dksX5_site_0 : cX5_site.data.toList.drop 0 = dktX5_site_0 := by decide +kernel
theorem dksX5_site_1 : cX5_site.data.toList.drop 24 = dktX5_site_1 := dk_seg dksX5_site_0 24 rfl rfl
theorem dksX5_site_2 : cX5_site.data.toList.drop 48 = dktX5_site_2 := dk_seg dksX5_site_1 24 rfl rfl
theorem dksX5_site_3 : cX5_site.data.toList.drop 72 = dktX5_site_3 := dk_seg dksX5_site_2 24 rfl rfl
theorem dksX5_site_4 : cX5_site.data.toList.drop 96 = dktX5_site_4 := dk_seg dksX5_site_3 24 rfl rfl
theorem dksX5_site_5 : cX5_site.data.toList.drop 119 = dktX5_site_5 := dk_seg dksX5_site_4 23 rfl rfl
theorem dksX5_site_6 : cX5_site.data.toList.drop 141 = dktX5_site_6 := dk_seg dksX5_site_5 22 rfl rfl
theorem dksX5_site_7 : cX5_site.data.toList.drop 165 = dktX5_site_7 := dk_seg dksX5_site_6 24 rfl rfl
theorem dksX5_site_8 : cX5_site.data.toList.drop 187 = dktX5_site_8 := dk_seg dksX5_site_7 22 rfl rfl
theorem dksX5_site_9 : cX5_site.data.toList.drop 209 = dktX5_site_9 := dk_seg dksX5_site_8 22 rfl rfl
theorem dksX5_site_10 : cX5_site.data.toList.drop 233 = dktX5_site_10 := dk_seg dksX5_site_9 24 rfl rfl
theorem dX5_site_0 : decode cX5_site 0 = .ok (.aload_n 0, 1) := dk_42 (dk_at dksX5_site_0 0 rfl rfl)
theorem dX5_site_1 : decode cX5_site 1 = .ok (.iconst 0, 1) := dk_3 (dk_at dksX5_site_0 1 rfl rfl)
theorem dX5_site_2 : decode cX5_site 2 = .ok (.putfield 3, 3) := dk_181 0 3 (dk_at dksX5_site_0 2 rfl rfl)
theorem dX5_site_5 : decode cX5_site 5 = .ok (.iload_n 1, 1) := dk_27 (dk_at dksX5_site_0 5 rfl rfl)
theorem dX5_site_6 : decode cX5_site 6 = .ok (.i2l, 1) := dk_133 (dk_at dksX5_site_0 6 rfl rfl)
theorem dX5_site_7 : decode cX5_site 7 = .ok (.lconst 1, 1) := dk_10 (dk_at dksX5_site_0 7 rfl rfl)
theorem dX5_site_8 : decode cX5_site 8 = .ok (.ldc2_w 65, 3) := dk_20 0 65 (dk_at dksX5_site_0 8 rfl rfl)
theorem dX5_site_11 : decode cX5_site 11 = .ok (.invokestatic 25, 3) := dk_184 0 25 (dk_at dksX5_site_0 11 rfl rfl)
theorem dX5_site_14 : decode cX5_site 14 = .ok (.ifCond .eq 61, 3) := dk_153 0 61 (dk_at dksX5_site_0 14 rfl rfl)
theorem dX5_site_17 : decode cX5_site 17 = .ok (.iload_n 2, 1) := dk_28 (dk_at dksX5_site_0 17 rfl rfl)
theorem dX5_site_18 : decode cX5_site 18 = .ok (.ifCond .lt 57, 3) := dk_155 0 57 (dk_at dksX5_site_0 18 rfl rfl)
theorem dX5_site_21 : decode cX5_site 21 = .ok (.iload_n 2, 1) := dk_28 (dk_at dksX5_site_0 21 rfl rfl)
theorem dX5_site_22 : decode cX5_site 22 = .ok (.bipush 64, 2) := dk_16 64 (dk_at dksX5_site_0 22 rfl rfl)
theorem dX5_site_24 : decode cX5_site 24 = .ok (.idiv, 1) := dk_108 (dk_at dksX5_site_1 0 rfl rfl)
theorem dX5_site_25 : decode cX5_site 25 = .ok (.i2l, 1) := dk_133 (dk_at dksX5_site_1 1 rfl rfl)
theorem dX5_site_26 : decode cX5_site 26 = .ok (.lconst 1, 1) := dk_10 (dk_at dksX5_site_1 2 rfl rfl)
theorem dX5_site_27 : decode cX5_site 27 = .ok (.ldc2_w 69, 3) := dk_20 0 69 (dk_at dksX5_site_1 3 rfl rfl)
theorem dX5_site_30 : decode cX5_site 30 = .ok (.invokestatic 25, 3) := dk_184 0 25 (dk_at dksX5_site_1 6 rfl rfl)
theorem dX5_site_33 : decode cX5_site 33 = .ok (.ifCond .eq 42, 3) := dk_153 0 42 (dk_at dksX5_site_1 9 rfl rfl)
theorem dX5_site_36 : decode cX5_site 36 = .ok (.iload_n 2, 1) := dk_28 (dk_at dksX5_site_1 12 rfl rfl)
theorem dX5_site_37 : decode cX5_site 37 = .ok (.bipush 64, 2) := dk_16 64 (dk_at dksX5_site_1 13 rfl rfl)
theorem dX5_site_39 : decode cX5_site 39 = .ok (.irem, 1) := dk_112 (dk_at dksX5_site_1 15 rfl rfl)
theorem dX5_site_40 : decode cX5_site 40 = .ok (.i2l, 1) := dk_133 (dk_at dksX5_site_1 16 rfl rfl)
theorem dX5_site_41 : decode cX5_site 41 = .ok (.lconst 1, 1) := dk_10 (dk_at dksX5_site_1 17 rfl rfl)
theorem dX5_site_42 : decode cX5_site 42 = .ok (.ldc2_w 71, 3) := dk_20 0 71 (dk_at dksX5_site_1 18 rfl rfl)
theorem dX5_site_45 : decode cX5_site 45 = .ok (.invokestatic 25, 3) := dk_184 0 25 (dk_at dksX5_site_1 21 rfl rfl)
theorem dX5_site_48 : decode cX5_site 48 = .ok (.ifCond .eq 27, 3) := dk_153 0 27 (dk_at dksX5_site_2 0 rfl rfl)
theorem dX5_site_51 : decode cX5_site 51 = .ok (.iload_n 3, 1) := dk_29 (dk_at dksX5_site_2 3 rfl rfl)
theorem dX5_site_52 : decode cX5_site 52 = .ok (.i2l, 1) := dk_133 (dk_at dksX5_site_2 4 rfl rfl)
theorem dX5_site_53 : decode cX5_site 53 = .ok (.lconst 0, 1) := dk_9 (dk_at dksX5_site_2 5 rfl rfl)
theorem dX5_site_54 : decode cX5_site 54 = .ok (.ldc2_w 69, 3) := dk_20 0 69 (dk_at dksX5_site_2 6 rfl rfl)
theorem dX5_site_57 : decode cX5_site 57 = .ok (.invokestatic 25, 3) := dk_184 0 25 (dk_at dksX5_site_2 9 rfl rfl)
theorem dX5_site_60 : decode cX5_site 60 = .ok (.ifCond .eq 15, 3) := dk_153 0 15 (dk_at dksX5_site_2 12 rfl rfl)
theorem dX5_site_63 : decode cX5_site 63 = .ok (.iload 4, 2) := dk_21 4 (dk_at dksX5_site_2 15 rfl rfl)
theorem dX5_site_65 : decode cX5_site 65 = .ok (.invokestatic 81, 3) := dk_184 0 81 (dk_at dksX5_site_2 17 rfl rfl)
theorem dX5_site_68 : decode cX5_site 68 = .ok (.ifCond .eq 7, 3) := dk_153 0 7 (dk_at dksX5_site_2 20 rfl rfl)
theorem dX5_site_71 : decode cX5_site 71 = .ok (.iconst 1, 1) := dk_4 (dk_at dksX5_site_2 23 rfl rfl)
theorem dX5_site_72 : decode cX5_site 72 = .ok (.goto 4, 3) := dk_167 0 4 (dk_at dksX5_site_3 0 rfl rfl)
theorem dX5_site_75 : decode cX5_site 75 = .ok (.iconst 0, 1) := dk_3 (dk_at dksX5_site_3 3 rfl rfl)
theorem dX5_site_76 : decode cX5_site 76 = .ok (.istore 5, 2) := dk_54 5 (dk_at dksX5_site_3 4 rfl rfl)
theorem dX5_site_78 : decode cX5_site 78 = .ok (.iload 5, 2) := dk_21 5 (dk_at dksX5_site_3 6 rfl rfl)
theorem dX5_site_80 : decode cX5_site 80 = .ok (.ifCond .eq 19, 3) := dk_153 0 19 (dk_at dksX5_site_3 8 rfl rfl)
theorem dX5_site_83 : decode cX5_site 83 = .ok (.aload_n 0, 1) := dk_42 (dk_at dksX5_site_3 11 rfl rfl)
theorem dX5_site_84 : decode cX5_site 84 = .ok (.getfield 22, 3) := dk_180 0 22 (dk_at dksX5_site_3 12 rfl rfl)
theorem dX5_site_87 : decode cX5_site 87 = .ok (.bipush 6, 2) := dk_16 6 (dk_at dksX5_site_3 15 rfl rfl)
theorem dX5_site_89 : decode cX5_site 89 = .ok (.if_icmp .eq 10, 3) := dk_159 0 10 (dk_at dksX5_site_3 17 rfl rfl)
theorem dX5_site_92 : decode cX5_site 92 = .ok (.aload_n 0, 1) := dk_42 (dk_at dksX5_site_3 20 rfl rfl)
theorem dX5_site_93 : decode cX5_site 93 = .ok (.getfield 151, 3) := dk_180 0 151 (dk_at dksX5_site_3 21 rfl rfl)
theorem dX5_site_96 : decode cX5_site 96 = .ok (.ifCond .ne 5, 3) := dk_154 0 5 (dk_at dksX5_site_4 0 rfl rfl)
theorem dX5_site_99 : decode cX5_site 99 = .ok (.iconst (-1), 1) := dk_2 (dk_at dksX5_site_4 3 rfl rfl)
theorem dX5_site_100 : decode cX5_site 100 = .ok (.ireturn, 1) := dk_172 (dk_at dksX5_site_4 4 rfl rfl)
theorem dX5_site_101 : decode cX5_site 101 = .ok (.aload_n 0, 1) := dk_42 (dk_at dksX5_site_4 5 rfl rfl)
theorem dX5_site_102 : decode cX5_site 102 = .ok (.iload 4, 2) := dk_21 4 (dk_at dksX5_site_4 6 rfl rfl)
theorem dX5_site_104 : decode cX5_site 104 = .ok (.invokevirtual 422, 3) := dk_182 1 166 (dk_at dksX5_site_4 8 rfl rfl)
theorem dX5_site_107 : decode cX5_site 107 = .ok (.istore 6, 2) := dk_54 6 (dk_at dksX5_site_4 11 rfl rfl)
theorem dX5_site_109 : decode cX5_site 109 = .ok (.bipush (-2), 2) := dk_16 254 (dk_at dksX5_site_4 13 rfl rfl)
theorem dX5_site_111 : decode cX5_site 111 = .ok (.istore 7, 2) := dk_54 7 (dk_at dksX5_site_4 15 rfl rfl)
theorem dX5_site_113 : decode cX5_site 113 = .ok (.iconst 0, 1) := dk_3 (dk_at dksX5_site_4 17 rfl rfl)
theorem dX5_site_114 : decode cX5_site 114 = .ok (.istore 8, 2) := dk_54 8 (dk_at dksX5_site_4 18 rfl rfl)
theorem dX5_site_116 : decode cX5_site 116 = .ok (.iconst 0, 1) := dk_3 (dk_at dksX5_site_4 20 rfl rfl)
theorem dX5_site_117 : decode cX5_site 117 = .ok (.istore 9, 2) := dk_54 9 (dk_at dksX5_site_4 21 rfl rfl)
theorem dX5_site_119 : decode cX5_site 119 = .ok (.iload 9, 2) := dk_21 9 (dk_at dksX5_site_5 0 rfl rfl)
theorem dX5_site_121 : decode cX5_site 121 = .ok (.bipush 24, 2) := dk_16 24 (dk_at dksX5_site_5 2 rfl rfl)
theorem dX5_site_123 : decode cX5_site 123 = .ok (.if_icmp .ge 103, 3) := dk_162 0 103 (dk_at dksX5_site_5 4 rfl rfl)
theorem dX5_site_126 : decode cX5_site 126 = .ok (.aload_n 0, 1) := dk_42 (dk_at dksX5_site_5 7 rfl rfl)
theorem dX5_site_127 : decode cX5_site 127 = .ok (.iload 9, 2) := dk_21 9 (dk_at dksX5_site_5 8 rfl rfl)
theorem dX5_site_129 : decode cX5_site 129 = .ok (.bipush 9, 2) := dk_16 9 (dk_at dksX5_site_5 10 rfl rfl)
theorem dX5_site_131 : decode cX5_site 131 = .ok (.iload_n 1, 1) := dk_27 (dk_at dksX5_site_5 12 rfl rfl)
theorem dX5_site_132 : decode cX5_site 132 = .ok (.iconst 1, 1) := dk_4 (dk_at dksX5_site_5 13 rfl rfl)
theorem dX5_site_133 : decode cX5_site 133 = .ok (.iload_n 2, 1) := dk_28 (dk_at dksX5_site_5 14 rfl rfl)
theorem dX5_site_134 : decode cX5_site 134 = .ok (.bipush 64, 2) := dk_16 64 (dk_at dksX5_site_5 15 rfl rfl)
theorem dX5_site_136 : decode cX5_site 136 = .ok (.idiv, 1) := dk_108 (dk_at dksX5_site_5 17 rfl rfl)
theorem dX5_site_137 : decode cX5_site 137 = .ok (.iload_n 2, 1) := dk_28 (dk_at dksX5_site_5 18 rfl rfl)
theorem dX5_site_138 : decode cX5_site 138 = .ok (.bipush 64, 2) := dk_16 64 (dk_at dksX5_site_5 19 rfl rfl)
theorem dX5_site_140 : decode cX5_site 140 = .ok (.irem, 1) := dk_112 (dk_at dksX5_site_5 21 rfl rfl)
theorem dX5_site_141 : decode cX5_site 141 = .ok (.invokevirtual 73, 3) := dk_182 0 73 (dk_at dksX5_site_6 0 rfl rfl)
theorem dX5_site_144 : decode cX5_site 144 = .ok (.iconst 0, 1) := dk_3 (dk_at dksX5_site_6 3 rfl rfl)
theorem dX5_site_145 : decode cX5_site 145 = .ok (.istore 10, 2) := dk_54 10 (dk_at dksX5_site_6 4 rfl rfl)
theorem dX5_site_147 : decode cX5_site 147 = .ok (.iload 10, 2) := dk_21 10 (dk_at dksX5_site_6 6 rfl rfl)
theorem dX5_site_149 : decode cX5_site 149 = .ok (.iconst 1, 1) := dk_4 (dk_at dksX5_site_6 8 rfl rfl)
theorem dX5_site_150 : decode cX5_site 150 = .ok (.iadd, 1) := dk_96 (dk_at dksX5_site_6 9 rfl rfl)
theorem dX5_site_151 : decode cX5_site 151 = .ok (.aload_n 0, 1) := dk_42 (dk_at dksX5_site_6 10 rfl rfl)
theorem dX5_site_152 : decode cX5_site 152 = .ok (.getfield 22, 3) := dk_180 0 22 (dk_at dksX5_site_6 11 rfl rfl)
theorem dX5_site_155 : decode cX5_site 155 = .ok (.if_icmp .ge 22, 3) := dk_162 0 22 (dk_at dksX5_site_6 14 rfl rfl)
theorem dX5_site_158 : decode cX5_site 158 = .ok (.aload_n 0, 1) := dk_42 (dk_at dksX5_site_6 17 rfl rfl)
theorem dX5_site_159 : decode cX5_site 159 = .ok (.iload 10, 2) := dk_21 10 (dk_at dksX5_site_6 18 rfl rfl)
theorem dX5_site_161 : decode cX5_site 161 = .ok (.aload_n 0, 1) := dk_42 (dk_at dksX5_site_6 20 rfl rfl)
theorem dX5_site_162 : decode cX5_site 162 = .ok (.getfield 22, 3) := dk_180 0 22 (dk_at dksX5_site_6 21 rfl rfl)
theorem dX5_site_165 : decode cX5_site 165 = .ok (.iconst 1, 1) := dk_4 (dk_at dksX5_site_7 0 rfl rfl)
theorem dX5_site_166 : decode cX5_site 166 = .ok (.isub, 1) := dk_100 (dk_at dksX5_site_7 1 rfl rfl)
theorem dX5_site_167 : decode cX5_site 167 = .ok (.iload_n 3, 1) := dk_29 (dk_at dksX5_site_7 2 rfl rfl)
theorem dX5_site_168 : decode cX5_site 168 = .ok (.invokevirtual 89, 3) := dk_182 0 89 (dk_at dksX5_site_7 3 rfl rfl)
theorem dX5_site_171 : decode cX5_site 171 = .ok (.iinc 10 1, 3) := dk_132 10 1 (dk_at dksX5_site_7 6 rfl rfl)
theorem dX5_site_174 : decode cX5_site 174 = .ok (.goto (-27), 3) := dk_167 255 229 (dk_at dksX5_site_7 9 rfl rfl)
theorem dX5_site_177 : decode cX5_site 177 = .ok (.aload_n 0, 1) := dk_42 (dk_at dksX5_site_7 12 rfl rfl)
theorem dX5_site_178 : decode cX5_site 178 = .ok (.iload 4, 2) := dk_21 4 (dk_at dksX5_site_7 13 rfl rfl)
theorem dX5_site_180 : decode cX5_site 180 = .ok (.invokevirtual 422, 3) := dk_182 1 166 (dk_at dksX5_site_7 15 rfl rfl)
theorem dX5_site_183 : decode cX5_site 183 = .ok (.istore 10, 2) := dk_54 10 (dk_at dksX5_site_7 18 rfl rfl)
theorem dX5_site_185 : decode cX5_site 185 = .ok (.aload_n 0, 1) := dk_42 (dk_at dksX5_site_7 20 rfl rfl)
theorem dX5_site_186 : decode cX5_site 186 = .ok (.dup, 1) := dk_89 (dk_at dksX5_site_7 21 rfl rfl)
theorem dX5_site_187 : decode cX5_site 187 = .ok (.getfield 22, 3) := dk_180 0 22 (dk_at dksX5_site_8 0 rfl rfl)
theorem dX5_site_190 : decode cX5_site 190 = .ok (.iconst 1, 1) := dk_4 (dk_at dksX5_site_8 3 rfl rfl)
theorem dX5_site_191 : decode cX5_site 191 = .ok (.isub, 1) := dk_100 (dk_at dksX5_site_8 4 rfl rfl)
theorem dX5_site_192 : decode cX5_site 192 = .ok (.putfield 22, 3) := dk_181 0 22 (dk_at dksX5_site_8 5 rfl rfl)
theorem dX5_site_195 : decode cX5_site 195 = .ok (.iload 10, 2) := dk_21 10 (dk_at dksX5_site_8 8 rfl rfl)
theorem dX5_site_197 : decode cX5_site 197 = .ok (.ifCond .lt 23, 3) := dk_155 0 23 (dk_at dksX5_site_8 10 rfl rfl)
theorem dX5_site_200 : decode cX5_site 200 = .ok (.iload 7, 2) := dk_21 7 (dk_at dksX5_site_8 13 rfl rfl)
theorem dX5_site_202 : decode cX5_site 202 = .ok (.ifCond .lt 10, 3) := dk_155 0 10 (dk_at dksX5_site_8 15 rfl rfl)
theorem dX5_site_205 : decode cX5_site 205 = .ok (.iload 10, 2) := dk_21 10 (dk_at dksX5_site_8 18 rfl rfl)
theorem dX5_site_207 : decode cX5_site 207 = .ok (.iload 8, 2) := dk_21 8 (dk_at dksX5_site_8 20 rfl rfl)
theorem dX5_site_209 : decode cX5_site 209 = .ok (.if_icmp .ge 11, 3) := dk_162 0 11 (dk_at dksX5_site_9 0 rfl rfl)
theorem dX5_site_212 : decode cX5_site 212 = .ok (.iload 9, 2) := dk_21 9 (dk_at dksX5_site_9 3 rfl rfl)
theorem dX5_site_214 : decode cX5_site 214 = .ok (.istore 7, 2) := dk_54 7 (dk_at dksX5_site_9 5 rfl rfl)
theorem dX5_site_216 : decode cX5_site 216 = .ok (.iload 10, 2) := dk_21 10 (dk_at dksX5_site_9 7 rfl rfl)
theorem dX5_site_218 : decode cX5_site 218 = .ok (.istore 8, 2) := dk_54 8 (dk_at dksX5_site_9 9 rfl rfl)
theorem dX5_site_220 : decode cX5_site 220 = .ok (.iinc 9 1, 3) := dk_132 9 1 (dk_at dksX5_site_9 11 rfl rfl)
theorem dX5_site_223 : decode cX5_site 223 = .ok (.goto (-104), 3) := dk_167 255 152 (dk_at dksX5_site_9 14 rfl rfl)
theorem dX5_site_226 : decode cX5_site 226 = .ok (.iload 7, 2) := dk_21 7 (dk_at dksX5_site_9 17 rfl rfl)
theorem dX5_site_228 : decode cX5_site 228 = .ok (.ifCond .lt 22, 3) := dk_155 0 22 (dk_at dksX5_site_9 19 rfl rfl)
theorem dX5_site_231 : decode cX5_site 231 = .ok (.aload_n 0, 1) := dk_42 (dk_at dksX5_site_9 22 rfl rfl)
theorem dX5_site_232 : decode cX5_site 232 = .ok (.iconst 0, 1) := dk_3 (dk_at dksX5_site_9 23 rfl rfl)
theorem dX5_site_233 : decode cX5_site 233 = .ok (.putfield 11, 3) := dk_181 0 11 (dk_at dksX5_site_10 0 rfl rfl)
theorem dX5_site_236 : decode cX5_site 236 = .ok (.aload_n 0, 1) := dk_42 (dk_at dksX5_site_10 3 rfl rfl)
theorem dX5_site_237 : decode cX5_site 237 = .ok (.iload 8, 2) := dk_21 8 (dk_at dksX5_site_10 4 rfl rfl)
theorem dX5_site_239 : decode cX5_site 239 = .ok (.i2l, 1) := dk_133 (dk_at dksX5_site_10 6 rfl rfl)
theorem dX5_site_240 : decode cX5_site 240 = .ok (.invokevirtual 18, 3) := dk_182 0 18 (dk_at dksX5_site_10 7 rfl rfl)
theorem dX5_site_243 : decode cX5_site 243 = .ok (.aload_n 0, 1) := dk_42 (dk_at dksX5_site_10 10 rfl rfl)
theorem dX5_site_244 : decode cX5_site 244 = .ok (.iload 6, 2) := dk_21 6 (dk_at dksX5_site_10 11 rfl rfl)
theorem dX5_site_246 : decode cX5_site 246 = .ok (.i2l, 1) := dk_133 (dk_at dksX5_site_10 13 rfl rfl)
theorem dX5_site_247 : decode cX5_site 247 = .ok (.invokevirtual 18, 3) := dk_182 0 18 (dk_at dksX5_site_10 14 rfl rfl)
theorem dX5_site_250 : decode cX5_site 250 = .ok (.iload 7, 2) := dk_21 7 (dk_at dksX5_site_10 17 rfl rfl)
theorem dX5_site_252 : decode cX5_site 252 = .ok (.ireturn, 1) := dk_172 (dk_at dksX5_site_10 19 rfl rfl)
def dkwX5_together_9 : List UInt8 := [172]
abbrev dktX5_together_9 : List UInt8 := dkwX5_together_9 ++ []
def dkwX5_together_8 : List UInt8 := [21, 5, 79, 42, 180, 0, 47, 27, 21, 4, 79, 42, 180, 0, 199, 3, 29, 79, 42, 182, 1, 175, 21, 7]
abbrev dktX5_together_8 : List UInt8 := dkwX5_together_8 ++ dktX5_together_9
def dkwX5_together_7 : List UInt8 := [182, 1, 73, 54, 7, 42, 42, 180, 1, 66, 182, 1, 76, 42, 3, 181, 1, 15, 42, 180, 0, 44, 27]
abbrev dktX5_together_7 : List UInt8 := dkwX5_together_7 ++ dktX5_together_8
def dkwX5_together_6 : List UInt8 := [184, 0, 95, 79, 42, 4, 181, 1, 15, 42, 42, 180, 1, 66, 182, 1, 69, 42, 28, 182, 1, 47, 42]
abbrev dktX5_together_6 : List UInt8 := dkwX5_together_6 ++ dktX5_together_7
def dkwX5_together_5 : List UInt8 := [180, 0, 199, 3, 3, 79, 42, 180, 0, 47, 27, 16, 63, 79, 42, 180, 0, 44, 27, 16, 9, 21, 6]
abbrev dktX5_together_5 : List UInt8 := dkwX5_together_5 ++ dktX5_together_6
def dkwX5_together_4 : List UInt8 := [42, 180, 0, 151, 162, 0, 17, 42, 180, 0, 143, 21, 7, 27, 79, 132, 7, 1, 167, 255, 236, 42]
abbrev dktX5_together_4 : List UInt8 := dkwX5_together_4 ++ dktX5_together_5
def dkwX5_together_3 : List UInt8 := [180, 0, 44, 21, 7, 46, 96, 54, 6, 132, 7, 1, 167, 255, 232, 42, 182, 1, 163, 3, 54, 7, 21, 7]
abbrev dktX5_together_3 : List UInt8 := dkwX5_together_3 ++ dktX5_together_4
def dkwX5_together_2 : List UInt8 := [27, 46, 54, 5, 3, 54, 6, 3, 54, 7, 21, 7, 42, 180, 0, 22, 162, 0, 21, 21, 6, 42]
abbrev dktX5_together_2 : List UInt8 := dkwX5_together_2 ++ dktX5_together_3
def dkwX5_together_1 : List UInt8 := [154, 0, 5, 2, 172, 42, 180, 0, 199, 3, 46, 62, 42, 180, 0, 47, 27, 46, 54, 4, 42, 180, 0, 44]
abbrev dktX5_together_1 : List UInt8 := dkwX5_together_1 ++ dktX5_together_2
def dkwX5_together_0 : List UInt8 := [42, 3, 181, 0, 3, 42, 27, 182, 0, 77, 153, 0, 17, 28, 184, 0, 81, 153, 0, 10, 42, 180, 0, 151]
abbrev dktX5_together_0 : List UInt8 := dkwX5_together_0 ++ dktX5_together_1
theorem dksX5_together_0 : cX5_together.data.toList.drop 0 = dktX5_together_0 := by decide +kernel
theorem dksX5_together_1 : cX5_together.data.toList.drop 24 = dktX5_together_1 := dk_seg dksX5_together_0 24 rfl rfl
theorem dksX5_together_2 : cX5_together.data.toList.drop 48 = dktX5_together_2 := dk_seg dksX5_together_1 24 rfl rfl
theorem dksX5_together_3 : cX5_together.data.toList.drop 70 = dktX5_together_3 := dk_seg dksX5_together_2 22 rfl rfl
theorem dksX5_together_4 : cX5_together.data.toList.drop 94 = dktX5_together_4 := dk_seg dksX5_together_3 24 rfl rfl
theorem dksX5_together_5 : cX5_together.data.toList.drop 116 = dktX5_together_5 := dk_seg dksX5_together_4 22 rfl rfl
theorem dksX5_together_6 : cX5_together.data.toList.drop 139 = dktX5_together_6 := dk_seg dksX5_together_5 23 rfl rfl
theorem dksX5_together_7 : cX5_together.data.toList.drop 162 = dktX5_together_7 := dk_seg dksX5_together_6 23 rfl rfl
theorem dksX5_together_8 : cX5_together.data.toList.drop 185 = dktX5_together_8 := dk_seg dksX5_together_7 23 rfl rfl
theorem dksX5_together_9 : cX5_together.data.toList.drop 209 = dktX5_together_9 := dk_seg dksX5_together_8 24 rfl rfl
theorem dX5_together_0 : decode cX5_together 0 = .ok (.aload_n 0, 1) := dk_42 (dk_at dksX5_together_0 0 rfl rfl)
theorem dX5_together_1 : decode cX5_together 1 = .ok (.iconst 0, 1) := dk_3 (dk_at dksX5_together_0 1 rfl rfl)
theorem dX5_together_2 : decode cX5_together 2 = .ok (.putfield 3, 3) := dk_181 0 3 (dk_at dksX5_together_0 2 rfl rfl)
theorem dX5_together_5 : decode cX5_together 5 = .ok (.aload_n 0, 1) := dk_42 (dk_at dksX5_together_0 5 rfl rfl)
theorem dX5_together_6 : decode cX5_together 6 = .ok (.iload_n 1, 1) := dk_27 (dk_at dksX5_together_0 6 rfl rfl)
theorem dX5_together_7 : decode cX5_together 7 = .ok (.invokevirtual 77, 3) := dk_182 0 77 (dk_at dksX5_together_0 7 rfl rfl)
theorem dX5_together_10 : decode cX5_together 10 = .ok (.ifCond .eq 17, 3) := dk_153 0 17 (dk_at dksX5_together_0 10 rfl rfl)
theorem dX5_together_13 : decode cX5_together 13 = .ok (.iload_n 2, 1) := dk_28 (dk_at dksX5_together_0 13 rfl rfl)
theorem dX5_together_14 : decode cX5_together 14 = .ok (.invokestatic 81, 3) := dk_184 0 81 (dk_at dksX5_together_0 14 rfl rfl)
theorem dX5_together_17 : decode cX5_together 17 = .ok (.ifCond .eq 10, 3) := dk_153 0 10 (dk_at dksX5_together_0 17 rfl rfl)
theorem dX5_together_20 : decode cX5_together 20 = .ok (.aload_n 0, 1) := dk_42 (dk_at dksX5_together_0 20 rfl rfl)
theorem dX5_together_21 : decode cX5_together 21 = .ok (.getfield 151, 3) := dk_180 0 151 (dk_at dksX5_together_0 21 rfl rfl)
theorem dX5_together_24 : decode cX5_together 24 = .ok (.ifCond .ne 5, 3) := dk_154 0 5 (dk_at dksX5_together_1 0 rfl rfl)
theorem dX5_together_27 : decode cX5_together 27 = .ok (.iconst (-1), 1) := dk_2 (dk_at dksX5_together_1 3 rfl rfl)
theorem dX5_together_28 : decode cX5_together 28 = .ok (.ireturn, 1) := dk_172 (dk_at dksX5_together_1 4 rfl rfl)
theorem dX5_together_29 : decode cX5_together 29 = .ok (.aload_n 0, 1) := dk_42 (dk_at dksX5_together_1 5 rfl rfl)
theorem dX5_together_30 : decode cX5_together 30 = .ok (.getfield 199, 3) := dk_180 0 199 (dk_at dksX5_together_1 6 rfl rfl)
theorem dX5_together_33 : decode cX5_together 33 = .ok (.iconst 0, 1) := dk_3 (dk_at dksX5_together_1 9 rfl rfl)
theorem dX5_together_34 : decode cX5_together 34 = .ok (.iaload, 1) := dk_46 (dk_at dksX5_together_1 10 rfl rfl)
theorem dX5_together_35 : decode cX5_together 35 = .ok (.istore_n 3, 1) := dk_62 (dk_at dksX5_together_1 11 rfl rfl)
theorem dX5_together_36 : decode cX5_together 36 = .ok (.aload_n 0, 1) := dk_42 (dk_at dksX5_together_1 12 rfl rfl)
theorem dX5_together_37 : decode cX5_together 37 = .ok (.getfield 47, 3) := dk_180 0 47 (dk_at dksX5_together_1 13 rfl rfl)
theorem dX5_together_40 : decode cX5_together 40 = .ok (.iload_n 1, 1) := dk_27 (dk_at dksX5_together_1 16 rfl rfl)
theorem dX5_together_41 : decode cX5_together 41 = .ok (.iaload, 1) := dk_46 (dk_at dksX5_together_1 17 rfl rfl)
theorem dX5_together_42 : decode cX5_together 42 = .ok (.istore 4, 2) := dk_54 4 (dk_at dksX5_together_1 18 rfl rfl)
theorem dX5_together_44 : decode cX5_together 44 = .ok (.aload_n 0, 1) := dk_42 (dk_at dksX5_together_1 20 rfl rfl)
theorem dX5_together_45 : decode cX5_together 45 = .ok (.getfield 44, 3) := dk_180 0 44 (dk_at dksX5_together_1 21 rfl rfl)
theorem dX5_together_48 : decode cX5_together 48 = .ok (.iload_n 1, 1) := dk_27 (dk_at dksX5_together_2 0 rfl rfl)
theorem dX5_together_49 : decode cX5_together 49 = .ok (.iaload, 1) := dk_46 (dk_at dksX5_together_2 1 rfl rfl)
theorem dX5_together_50 : decode cX5_together 50 = .ok (.istore 5, 2) := dk_54 5 (dk_at dksX5_together_2 2 rfl rfl)
theorem dX5_together_52 : decode cX5_together 52 = .ok (.iconst 0, 1) := dk_3 (dk_at dksX5_together_2 4 rfl rfl)
theorem dX5_together_53 : decode cX5_together 53 = .ok (.istore 6, 2) := dk_54 6 (dk_at dksX5_together_2 5 rfl rfl)
theorem dX5_together_55 : decode cX5_together 55 = .ok (.iconst 0, 1) := dk_3 (dk_at dksX5_together_2 7 rfl rfl)
theorem dX5_together_56 : decode cX5_together 56 = .ok (.istore 7, 2) := dk_54 7 (dk_at dksX5_together_2 8 rfl rfl)
theorem dX5_together_58 : decode cX5_together 58 = .ok (.iload 7, 2) := dk_21 7 (dk_at dksX5_together_2 10 rfl rfl)
theorem dX5_together_60 : decode cX5_together 60 = .ok (.aload_n 0, 1) := dk_42 (dk_at dksX5_together_2 12 rfl rfl)
theorem dX5_together_61 : decode cX5_together 61 = .ok (.getfield 22, 3) := dk_180 0 22 (dk_at dksX5_together_2 13 rfl rfl)
theorem dX5_together_64 : decode cX5_together 64 = .ok (.if_icmp .ge 21, 3) := dk_162 0 21 (dk_at dksX5_together_2 16 rfl rfl)
theorem dX5_together_67 : decode cX5_together 67 = .ok (.iload 6, 2) := dk_21 6 (dk_at dksX5_together_2 19 rfl rfl)
theorem dX5_together_69 : decode cX5_together 69 = .ok (.aload_n 0, 1) := dk_42 (dk_at dksX5_together_2 21 rfl rfl)
theorem dX5_together_70 : decode cX5_together 70 = .ok (.getfield 44, 3) := dk_180 0 44 (dk_at dksX5_together_3 0 rfl rfl)
theorem dX5_together_73 : decode cX5_together 73 = .ok (.iload 7, 2) := dk_21 7 (dk_at dksX5_together_3 3 rfl rfl)
theorem dX5_together_75 : decode cX5_together 75 = .ok (.iaload, 1) := dk_46 (dk_at dksX5_together_3 5 rfl rfl)
theorem dX5_together_76 : decode cX5_together 76 = .ok (.iadd, 1) := dk_96 (dk_at dksX5_together_3 6 rfl rfl)
theorem dX5_together_77 : decode cX5_together 77 = .ok (.istore 6, 2) := dk_54 6 (dk_at dksX5_together_3 7 rfl rfl)
theorem dX5_together_79 : decode cX5_together 79 = .ok (.iinc 7 1, 3) := dk_132 7 1 (dk_at dksX5_together_3 9 rfl rfl)
theorem dX5_together_82 : decode cX5_together 82 = .ok (.goto (-24), 3) := dk_167 255 232 (dk_at dksX5_together_3 12 rfl rfl)
theorem dX5_together_85 : decode cX5_together 85 = .ok (.aload_n 0, 1) := dk_42 (dk_at dksX5_together_3 15 rfl rfl)
theorem dX5_together_86 : decode cX5_together 86 = .ok (.invokevirtual 419, 3) := dk_182 1 163 (dk_at dksX5_together_3 16 rfl rfl)
theorem dX5_together_89 : decode cX5_together 89 = .ok (.iconst 0, 1) := dk_3 (dk_at dksX5_together_3 19 rfl rfl)
theorem dX5_together_90 : decode cX5_together 90 = .ok (.istore 7, 2) := dk_54 7 (dk_at dksX5_together_3 20 rfl rfl)
theorem dX5_together_92 : decode cX5_together 92 = .ok (.iload 7, 2) := dk_21 7 (dk_at dksX5_together_3 22 rfl rfl)
theorem dX5_together_94 : decode cX5_together 94 = .ok (.aload_n 0, 1) := dk_42 (dk_at dksX5_together_4 0 rfl rfl)
theorem dX5_together_95 : decode cX5_together 95 = .ok (.getfield 151, 3) := dk_180 0 151 (dk_at dksX5_together_4 1 rfl rfl)
theorem dX5_together_98 : decode cX5_together 98 = .ok (.if_icmp .ge 17, 3) := dk_162 0 17 (dk_at dksX5_together_4 4 rfl rfl)
theorem dX5_together_101 : decode cX5_together 101 = .ok (.aload_n 0, 1) := dk_42 (dk_at dksX5_together_4 7 rfl rfl)
theorem dX5_together_102 : decode cX5_together 102 = .ok (.getfield 143, 3) := dk_180 0 143 (dk_at dksX5_together_4 8 rfl rfl)
theorem dX5_together_105 : decode cX5_together 105 = .ok (.iload 7, 2) := dk_21 7 (dk_at dksX5_together_4 11 rfl rfl)
theorem dX5_together_107 : decode cX5_together 107 = .ok (.iload_n 1, 1) := dk_27 (dk_at dksX5_together_4 13 rfl rfl)
theorem dX5_together_108 : decode cX5_together 108 = .ok (.iastore, 1) := dk_79 (dk_at dksX5_together_4 14 rfl rfl)
theorem dX5_together_109 : decode cX5_together 109 = .ok (.iinc 7 1, 3) := dk_132 7 1 (dk_at dksX5_together_4 15 rfl rfl)
theorem dX5_together_112 : decode cX5_together 112 = .ok (.goto (-20), 3) := dk_167 255 236 (dk_at dksX5_together_4 18 rfl rfl)
theorem dX5_together_115 : decode cX5_together 115 = .ok (.aload_n 0, 1) := dk_42 (dk_at dksX5_together_4 21 rfl rfl)
theorem dX5_together_116 : decode cX5_together 116 = .ok (.getfield 199, 3) := dk_180 0 199 (dk_at dksX5_together_5 0 rfl rfl)
theorem dX5_together_119 : decode cX5_together 119 = .ok (.iconst 0, 1) := dk_3 (dk_at dksX5_together_5 3 rfl rfl)
theorem dX5_together_120 : decode cX5_together 120 = .ok (.iconst 0, 1) := dk_3 (dk_at dksX5_together_5 4 rfl rfl)
theorem dX5_together_121 : decode cX5_together 121 = .ok (.iastore, 1) := dk_79 (dk_at dksX5_together_5 5 rfl rfl)
theorem dX5_together_122 : decode cX5_together 122 = .ok (.aload_n 0, 1) := dk_42 (dk_at dksX5_together_5 6 rfl rfl)
theorem dX5_together_123 : decode cX5_together 123 = .ok (.getfield 47, 3) := dk_180 0 47 (dk_at dksX5_together_5 7 rfl rfl)
theorem dX5_together_126 : decode cX5_together 126 = .ok (.iload_n 1, 1) := dk_27 (dk_at dksX5_together_5 10 rfl rfl)
theorem dX5_together_127 : decode cX5_together 127 = .ok (.bipush 63, 2) := dk_16 63 (dk_at dksX5_together_5 11 rfl rfl)
theorem dX5_together_129 : decode cX5_together 129 = .ok (.iastore, 1) := dk_79 (dk_at dksX5_together_5 13 rfl rfl)
theorem dX5_together_130 : decode cX5_together 130 = .ok (.aload_n 0, 1) := dk_42 (dk_at dksX5_together_5 14 rfl rfl)
theorem dX5_together_131 : decode cX5_together 131 = .ok (.getfield 44, 3) := dk_180 0 44 (dk_at dksX5_together_5 15 rfl rfl)
theorem dX5_together_134 : decode cX5_together 134 = .ok (.iload_n 1, 1) := dk_27 (dk_at dksX5_together_5 18 rfl rfl)
theorem dX5_together_135 : decode cX5_together 135 = .ok (.bipush 9, 2) := dk_16 9 (dk_at dksX5_together_5 19 rfl rfl)
theorem dX5_together_137 : decode cX5_together 137 = .ok (.iload 6, 2) := dk_21 6 (dk_at dksX5_together_5 21 rfl rfl)
theorem dX5_together_139 : decode cX5_together 139 = .ok (.invokestatic 95, 3) := dk_184 0 95 (dk_at dksX5_together_6 0 rfl rfl)
theorem dX5_together_142 : decode cX5_together 142 = .ok (.iastore, 1) := dk_79 (dk_at dksX5_together_6 3 rfl rfl)
theorem dX5_together_143 : decode cX5_together 143 = .ok (.aload_n 0, 1) := dk_42 (dk_at dksX5_together_6 4 rfl rfl)
theorem dX5_together_144 : decode cX5_together 144 = .ok (.iconst 1, 1) := dk_4 (dk_at dksX5_together_6 5 rfl rfl)
theorem dX5_together_145 : decode cX5_together 145 = .ok (.putfield 271, 3) := dk_181 1 15 (dk_at dksX5_together_6 6 rfl rfl)
theorem dX5_together_148 : decode cX5_together 148 = .ok (.aload_n 0, 1) := dk_42 (dk_at dksX5_together_6 9 rfl rfl)
theorem dX5_together_149 : decode cX5_together 149 = .ok (.aload_n 0, 1) := dk_42 (dk_at dksX5_together_6 10 rfl rfl)
theorem dX5_together_150 : decode cX5_together 150 = .ok (.getfield 322, 3) := dk_180 1 66 (dk_at dksX5_together_6 11 rfl rfl)
theorem dX5_together_153 : decode cX5_together 153 = .ok (.invokevirtual 325, 3) := dk_182 1 69 (dk_at dksX5_together_6 14 rfl rfl)
theorem dX5_together_156 : decode cX5_together 156 = .ok (.aload_n 0, 1) := dk_42 (dk_at dksX5_together_6 17 rfl rfl)
theorem dX5_together_157 : decode cX5_together 157 = .ok (.iload_n 2, 1) := dk_28 (dk_at dksX5_together_6 18 rfl rfl)
theorem dX5_together_158 : decode cX5_together 158 = .ok (.invokevirtual 303, 3) := dk_182 1 47 (dk_at dksX5_together_6 19 rfl rfl)
theorem dX5_together_161 : decode cX5_together 161 = .ok (.aload_n 0, 1) := dk_42 (dk_at dksX5_together_6 22 rfl rfl)
theorem dX5_together_162 : decode cX5_together 162 = .ok (.invokevirtual 329, 3) := dk_182 1 73 (dk_at dksX5_together_7 0 rfl rfl)
theorem dX5_together_165 : decode cX5_together 165 = .ok (.istore 7, 2) := dk_54 7 (dk_at dksX5_together_7 3 rfl rfl)
theorem dX5_together_167 : decode cX5_together 167 = .ok (.aload_n 0, 1) := dk_42 (dk_at dksX5_together_7 5 rfl rfl)
theorem dX5_together_168 : decode cX5_together 168 = .ok (.aload_n 0, 1) := dk_42 (dk_at dksX5_together_7 6 rfl rfl)
theorem dX5_together_169 : decode cX5_together 169 = .ok (.getfield 322, 3) := dk_180 1 66 (dk_at dksX5_together_7 7 rfl rfl)
theorem dX5_together_172 : decode cX5_together 172 = .ok (.invokevirtual 332, 3) := dk_182 1 76 (dk_at dksX5_together_7 10 rfl rfl)
theorem dX5_together_175 : decode cX5_together 175 = .ok (.aload_n 0, 1) := dk_42 (dk_at dksX5_together_7 13 rfl rfl)
theorem dX5_together_176 : decode cX5_together 176 = .ok (.iconst 0, 1) := dk_3 (dk_at dksX5_together_7 14 rfl rfl)
theorem dX5_together_177 : decode cX5_together 177 = .ok (.putfield 271, 3) := dk_181 1 15 (dk_at dksX5_together_7 15 rfl rfl)
theorem dX5_together_180 : decode cX5_together 180 = .ok (.aload_n 0, 1) := dk_42 (dk_at dksX5_together_7 18 rfl rfl)
theorem dX5_together_181 : decode cX5_together 181 = .ok (.getfield 44, 3) := dk_180 0 44 (dk_at dksX5_together_7 19 rfl rfl)
theorem dX5_together_184 : decode cX5_together 184 = .ok (.iload_n 1, 1) := dk_27 (dk_at dksX5_together_7 22 rfl rfl)
theorem dX5_together_185 : decode cX5_together 185 = .ok (.iload 5, 2) := dk_21 5 (dk_at dksX5_together_8 0 rfl rfl)
theorem dX5_together_187 : decode cX5_together 187 = .ok (.iastore, 1) := dk_79 (dk_at dksX5_together_8 2 rfl rfl)
theorem dX5_together_188 : decode cX5_together 188 = .ok (.aload_n 0, 1) := dk_42 (dk_at dksX5_together_8 3 rfl rfl)
theorem dX5_together_189 : decode cX5_together 189 = .ok (.getfield 47, 3) := dk_180 0 47 (dk_at dksX5_together_8 4 rfl rfl)
theorem dX5_together_192 : decode cX5_together 192 = .ok (.iload_n 1, 1) := dk_27 (dk_at dksX5_together_8 7 rfl rfl)
theorem dX5_together_193 : decode cX5_together 193 = .ok (.iload 4, 2) := dk_21 4 (dk_at dksX5_together_8 8 rfl rfl)
theorem dX5_together_195 : decode cX5_together 195 = .ok (.iastore, 1) := dk_79 (dk_at dksX5_together_8 10 rfl rfl)
theorem dX5_together_196 : decode cX5_together 196 = .ok (.aload_n 0, 1) := dk_42 (dk_at dksX5_together_8 11 rfl rfl)
theorem dX5_together_197 : decode cX5_together 197 = .ok (.getfield 199, 3) := dk_180 0 199 (dk_at dksX5_together_8 12 rfl rfl)
theorem dX5_together_200 : decode cX5_together 200 = .ok (.iconst 0, 1) := dk_3 (dk_at dksX5_together_8 15 rfl rfl)
theorem dX5_together_201 : decode cX5_together 201 = .ok (.iload_n 3, 1) := dk_29 (dk_at dksX5_together_8 16 rfl rfl)
theorem dX5_together_202 : decode cX5_together 202 = .ok (.iastore, 1) := dk_79 (dk_at dksX5_together_8 17 rfl rfl)
theorem dX5_together_203 : decode cX5_together 203 = .ok (.aload_n 0, 1) := dk_42 (dk_at dksX5_together_8 18 rfl rfl)
theorem dX5_together_204 : decode cX5_together 204 = .ok (.invokevirtual 431, 3) := dk_182 1 175 (dk_at dksX5_together_8 19 rfl rfl)
theorem dX5_together_207 : decode cX5_together 207 = .ok (.iload 7, 2) := dk_21 7 (dk_at dksX5_together_8 22 rfl rfl)
theorem dX5_together_209 : decode cX5_together 209 = .ok (.ireturn, 1) := dk_172 (dk_at dksX5_together_9 0 rfl rfl)
def dkwX5_sleeps_3 : List UInt8 := [167, 0, 7, 21, 4, 29, 100, 172]
abbrev dktX5_sleeps_3 : List UInt8 := dkwX5_sleeps_3 ++ []
def dkwX5_sleeps_2 : List UInt8 := [182, 1, 207, 62, 42, 27, 28, 182, 1, 210, 54, 4, 21, 4, 155, 0, 7, 29, 156, 0, 9, 17, 216, 241]
abbrev dktX5_sleeps_2 : List UInt8 := dkwX5_sleeps_2 ++ dktX5_sleeps_3
def dkwX5_sleeps_1 : List UInt8 := [154, 0, 5, 2, 172, 42, 180, 0, 56, 16, 100, 27, 104, 28, 96, 51, 153, 0, 7, 17, 216, 242, 172, 42]
abbrev dktX5_sleeps_1 : List UInt8 := dkwX5_sleeps_1 ++ dktX5_sleeps_2
def dkwX5_sleeps_0 : List UInt8 := [42, 3, 181, 0, 3, 42, 27, 182, 0, 77, 153, 0, 17, 28, 184, 0, 86, 153, 0, 10, 42, 180, 0, 151]
abbrev dktX5_sleeps_0 : List UInt8 := dkwX5_sleeps_0 ++ dktX5_sleeps_1
theorem dksX5_sleeps_0 : cX5_sleeps.data.toList.drop 0 = dktX5_sleeps_0 := by decide +kernel
theorem dksX5_sleeps_1 : cX5_sleeps.data.toList.drop 24 = dktX5_sleeps_1 := dk_seg dksX5_sleeps_0 24 rfl rfl
theorem dksX5_sleeps_2 : cX5_sleeps.data.toList.drop 48 = dktX5_sleeps_2 := dk_seg dksX5_sleeps_1 24 rfl rfl
theorem dksX5_sleeps_3 : cX5_sleeps.data.toList.drop 72 = dktX5_sleeps_3 := dk_seg dksX5_sleeps_2 24 rfl rfl
theorem dX5_sleeps_0 : decode cX5_sleeps 0 = .ok (.aload_n 0, 1) := dk_42 (dk_at dksX5_sleeps_0 0 rfl rfl)
theorem dX5_sleeps_1 : decode cX5_sleeps 1 = .ok (.iconst 0, 1) := dk_3 (dk_at dksX5_sleeps_0 1 rfl rfl)
theorem dX5_sleeps_2 : decode cX5_sleeps 2 = .ok (.putfield 3, 3) := dk_181 0 3 (dk_at dksX5_sleeps_0 2 rfl rfl)
theorem dX5_sleeps_5 : decode cX5_sleeps 5 = .ok (.aload_n 0, 1) := dk_42 (dk_at dksX5_sleeps_0 5 rfl rfl)
theorem dX5_sleeps_6 : decode cX5_sleeps 6 = .ok (.iload_n 1, 1) := dk_27 (dk_at dksX5_sleeps_0 6 rfl rfl)
theorem dX5_sleeps_7 : decode cX5_sleeps 7 = .ok (.invokevirtual 77, 3) := dk_182 0 77 (dk_at dksX5_sleeps_0 7 rfl rfl)
theorem dX5_sleeps_10 : decode cX5_sleeps 10 = .ok (.ifCond .eq 17, 3) := dk_153 0 17 (dk_at dksX5_sleeps_0 10 rfl rfl)
theorem dX5_sleeps_13 : decode cX5_sleeps 13 = .ok (.iload_n 2, 1) := dk_28 (dk_at dksX5_sleeps_0 13 rfl rfl)
theorem dX5_sleeps_14 : decode cX5_sleeps 14 = .ok (.invokestatic 86, 3) := dk_184 0 86 (dk_at dksX5_sleeps_0 14 rfl rfl)
theorem dX5_sleeps_17 : decode cX5_sleeps 17 = .ok (.ifCond .eq 10, 3) := dk_153 0 10 (dk_at dksX5_sleeps_0 17 rfl rfl)
theorem dX5_sleeps_20 : decode cX5_sleeps 20 = .ok (.aload_n 0, 1) := dk_42 (dk_at dksX5_sleeps_0 20 rfl rfl)
theorem dX5_sleeps_21 : decode cX5_sleeps 21 = .ok (.getfield 151, 3) := dk_180 0 151 (dk_at dksX5_sleeps_0 21 rfl rfl)
theorem dX5_sleeps_24 : decode cX5_sleeps 24 = .ok (.ifCond .ne 5, 3) := dk_154 0 5 (dk_at dksX5_sleeps_1 0 rfl rfl)
theorem dX5_sleeps_27 : decode cX5_sleeps 27 = .ok (.iconst (-1), 1) := dk_2 (dk_at dksX5_sleeps_1 3 rfl rfl)
theorem dX5_sleeps_28 : decode cX5_sleeps 28 = .ok (.ireturn, 1) := dk_172 (dk_at dksX5_sleeps_1 4 rfl rfl)
theorem dX5_sleeps_29 : decode cX5_sleeps 29 = .ok (.aload_n 0, 1) := dk_42 (dk_at dksX5_sleeps_1 5 rfl rfl)
theorem dX5_sleeps_30 : decode cX5_sleeps 30 = .ok (.getfield 56, 3) := dk_180 0 56 (dk_at dksX5_sleeps_1 6 rfl rfl)
theorem dX5_sleeps_33 : decode cX5_sleeps 33 = .ok (.bipush 100, 2) := dk_16 100 (dk_at dksX5_sleeps_1 9 rfl rfl)
theorem dX5_sleeps_35 : decode cX5_sleeps 35 = .ok (.iload_n 1, 1) := dk_27 (dk_at dksX5_sleeps_1 11 rfl rfl)
theorem dX5_sleeps_36 : decode cX5_sleeps 36 = .ok (.imul, 1) := dk_104 (dk_at dksX5_sleeps_1 12 rfl rfl)
theorem dX5_sleeps_37 : decode cX5_sleeps 37 = .ok (.iload_n 2, 1) := dk_28 (dk_at dksX5_sleeps_1 13 rfl rfl)
theorem dX5_sleeps_38 : decode cX5_sleeps 38 = .ok (.iadd, 1) := dk_96 (dk_at dksX5_sleeps_1 14 rfl rfl)
theorem dX5_sleeps_39 : decode cX5_sleeps 39 = .ok (.baload, 1) := dk_51 (dk_at dksX5_sleeps_1 15 rfl rfl)
theorem dX5_sleeps_40 : decode cX5_sleeps 40 = .ok (.ifCond .eq 7, 3) := dk_153 0 7 (dk_at dksX5_sleeps_1 16 rfl rfl)
theorem dX5_sleeps_43 : decode cX5_sleeps 43 = .ok (.sipush (-9998), 3) := dk_17 216 242 (dk_at dksX5_sleeps_1 19 rfl rfl)
theorem dX5_sleeps_46 : decode cX5_sleeps 46 = .ok (.ireturn, 1) := dk_172 (dk_at dksX5_sleeps_1 22 rfl rfl)
theorem dX5_sleeps_47 : decode cX5_sleeps 47 = .ok (.aload_n 0, 1) := dk_42 (dk_at dksX5_sleeps_1 23 rfl rfl)
theorem dX5_sleeps_48 : decode cX5_sleeps 48 = .ok (.invokevirtual 463, 3) := dk_182 1 207 (dk_at dksX5_sleeps_2 0 rfl rfl)
theorem dX5_sleeps_51 : decode cX5_sleeps 51 = .ok (.istore_n 3, 1) := dk_62 (dk_at dksX5_sleeps_2 3 rfl rfl)
theorem dX5_sleeps_52 : decode cX5_sleeps 52 = .ok (.aload_n 0, 1) := dk_42 (dk_at dksX5_sleeps_2 4 rfl rfl)
theorem dX5_sleeps_53 : decode cX5_sleeps 53 = .ok (.iload_n 1, 1) := dk_27 (dk_at dksX5_sleeps_2 5 rfl rfl)
theorem dX5_sleeps_54 : decode cX5_sleeps 54 = .ok (.iload_n 2, 1) := dk_28 (dk_at dksX5_sleeps_2 6 rfl rfl)
theorem dX5_sleeps_55 : decode cX5_sleeps 55 = .ok (.invokevirtual 466, 3) := dk_182 1 210 (dk_at dksX5_sleeps_2 7 rfl rfl)
theorem dX5_sleeps_58 : decode cX5_sleeps 58 = .ok (.istore 4, 2) := dk_54 4 (dk_at dksX5_sleeps_2 10 rfl rfl)
theorem dX5_sleeps_60 : decode cX5_sleeps 60 = .ok (.iload 4, 2) := dk_21 4 (dk_at dksX5_sleeps_2 12 rfl rfl)
theorem dX5_sleeps_62 : decode cX5_sleeps 62 = .ok (.ifCond .lt 7, 3) := dk_155 0 7 (dk_at dksX5_sleeps_2 14 rfl rfl)
theorem dX5_sleeps_65 : decode cX5_sleeps 65 = .ok (.iload_n 3, 1) := dk_29 (dk_at dksX5_sleeps_2 17 rfl rfl)
theorem dX5_sleeps_66 : decode cX5_sleeps 66 = .ok (.ifCond .ge 9, 3) := dk_156 0 9 (dk_at dksX5_sleeps_2 18 rfl rfl)
theorem dX5_sleeps_69 : decode cX5_sleeps 69 = .ok (.sipush (-9999), 3) := dk_17 216 241 (dk_at dksX5_sleeps_2 21 rfl rfl)
theorem dX5_sleeps_72 : decode cX5_sleeps 72 = .ok (.goto 7, 3) := dk_167 0 7 (dk_at dksX5_sleeps_3 0 rfl rfl)
theorem dX5_sleeps_75 : decode cX5_sleeps 75 = .ok (.iload 4, 2) := dk_21 4 (dk_at dksX5_sleeps_3 3 rfl rfl)
theorem dX5_sleeps_77 : decode cX5_sleeps 77 = .ok (.iload_n 3, 1) := dk_29 (dk_at dksX5_sleeps_3 5 rfl rfl)
theorem dX5_sleeps_78 : decode cX5_sleeps 78 = .ok (.isub, 1) := dk_100 (dk_at dksX5_sleeps_3 6 rfl rfl)
theorem dX5_sleeps_79 : decode cX5_sleeps 79 = .ok (.ireturn, 1) := dk_172 (dk_at dksX5_sleeps_3 7 rfl rfl)
def dkwX5_endsNow_0 : List UInt8 := [42, 42, 180, 1, 66, 182, 1, 69, 42, 182, 1, 63, 60, 42, 42, 180, 1, 66, 182, 1, 76, 27, 172]
abbrev dktX5_endsNow_0 : List UInt8 := dkwX5_endsNow_0 ++ []
theorem dksX5_endsNow_0 : cX5_endsNow.data.toList.drop 0 = dktX5_endsNow_0 := by decide +kernel
theorem dX5_endsNow_0 : decode cX5_endsNow 0 = .ok (.aload_n 0, 1) := dk_42 (dk_at dksX5_endsNow_0 0 rfl rfl)
theorem dX5_endsNow_1 : decode cX5_endsNow 1 = .ok (.aload_n 0, 1) := dk_42 (dk_at dksX5_endsNow_0 1 rfl rfl)
theorem dX5_endsNow_2 : decode cX5_endsNow 2 = .ok (.getfield 322, 3) := dk_180 1 66 (dk_at dksX5_endsNow_0 2 rfl rfl)
theorem dX5_endsNow_5 : decode cX5_endsNow 5 = .ok (.invokevirtual 325, 3) := dk_182 1 69 (dk_at dksX5_endsNow_0 5 rfl rfl)
theorem dX5_endsNow_8 : decode cX5_endsNow 8 = .ok (.aload_n 0, 1) := dk_42 (dk_at dksX5_endsNow_0 8 rfl rfl)
theorem dX5_endsNow_9 : decode cX5_endsNow 9 = .ok (.invokevirtual 319, 3) := dk_182 1 63 (dk_at dksX5_endsNow_0 9 rfl rfl)
theorem dX5_endsNow_12 : decode cX5_endsNow 12 = .ok (.istore_n 1, 1) := dk_60 (dk_at dksX5_endsNow_0 12 rfl rfl)
theorem dX5_endsNow_13 : decode cX5_endsNow 13 = .ok (.aload_n 0, 1) := dk_42 (dk_at dksX5_endsNow_0 13 rfl rfl)
theorem dX5_endsNow_14 : decode cX5_endsNow 14 = .ok (.aload_n 0, 1) := dk_42 (dk_at dksX5_endsNow_0 14 rfl rfl)
theorem dX5_endsNow_15 : decode cX5_endsNow 15 = .ok (.getfield 322, 3) := dk_180 1 66 (dk_at dksX5_endsNow_0 15 rfl rfl)
theorem dX5_endsNow_18 : decode cX5_endsNow 18 = .ok (.invokevirtual 332, 3) := dk_182 1 76 (dk_at dksX5_endsNow_0 18 rfl rfl)
theorem dX5_endsNow_21 : decode cX5_endsNow 21 = .ok (.iload_n 1, 1) := dk_27 (dk_at dksX5_endsNow_0 21 rfl rfl)
theorem dX5_endsNow_22 : decode cX5_endsNow 22 = .ok (.ireturn, 1) := dk_172 (dk_at dksX5_endsNow_0 22 rfl rfl)
def dkwX5_endsOn_1 : List UInt8 := [104, 28, 96, 3, 84, 29, 172]
abbrev dktX5_endsOn_1 : List UInt8 := dkwX5_endsOn_1 ++ []
def dkwX5_endsOn_0 : List UInt8 := [42, 180, 0, 56, 16, 100, 27, 104, 28, 96, 4, 84, 42, 182, 1, 207, 62, 42, 180, 0, 56, 16, 100, 27]
abbrev dktX5_endsOn_0 : List UInt8 := dkwX5_endsOn_0 ++ dktX5_endsOn_1
theorem dksX5_endsOn_0 : cX5_endsOn.data.toList.drop 0 = dktX5_endsOn_0 := by decide +kernel
theorem dksX5_endsOn_1 : cX5_endsOn.data.toList.drop 24 = dktX5_endsOn_1 := dk_seg dksX5_endsOn_0 24 rfl rfl
theorem dX5_endsOn_0 : decode cX5_endsOn 0 = .ok (.aload_n 0, 1) := dk_42 (dk_at dksX5_endsOn_0 0 rfl rfl)
theorem dX5_endsOn_1 : decode cX5_endsOn 1 = .ok (.getfield 56, 3) := dk_180 0 56 (dk_at dksX5_endsOn_0 1 rfl rfl)
theorem dX5_endsOn_4 : decode cX5_endsOn 4 = .ok (.bipush 100, 2) := dk_16 100 (dk_at dksX5_endsOn_0 4 rfl rfl)
theorem dX5_endsOn_6 : decode cX5_endsOn 6 = .ok (.iload_n 1, 1) := dk_27 (dk_at dksX5_endsOn_0 6 rfl rfl)
theorem dX5_endsOn_7 : decode cX5_endsOn 7 = .ok (.imul, 1) := dk_104 (dk_at dksX5_endsOn_0 7 rfl rfl)
theorem dX5_endsOn_8 : decode cX5_endsOn 8 = .ok (.iload_n 2, 1) := dk_28 (dk_at dksX5_endsOn_0 8 rfl rfl)
theorem dX5_endsOn_9 : decode cX5_endsOn 9 = .ok (.iadd, 1) := dk_96 (dk_at dksX5_endsOn_0 9 rfl rfl)
theorem dX5_endsOn_10 : decode cX5_endsOn 10 = .ok (.iconst 1, 1) := dk_4 (dk_at dksX5_endsOn_0 10 rfl rfl)
theorem dX5_endsOn_11 : decode cX5_endsOn 11 = .ok (.bastore, 1) := dk_84 (dk_at dksX5_endsOn_0 11 rfl rfl)
theorem dX5_endsOn_12 : decode cX5_endsOn 12 = .ok (.aload_n 0, 1) := dk_42 (dk_at dksX5_endsOn_0 12 rfl rfl)
theorem dX5_endsOn_13 : decode cX5_endsOn 13 = .ok (.invokevirtual 463, 3) := dk_182 1 207 (dk_at dksX5_endsOn_0 13 rfl rfl)
theorem dX5_endsOn_16 : decode cX5_endsOn 16 = .ok (.istore_n 3, 1) := dk_62 (dk_at dksX5_endsOn_0 16 rfl rfl)
theorem dX5_endsOn_17 : decode cX5_endsOn 17 = .ok (.aload_n 0, 1) := dk_42 (dk_at dksX5_endsOn_0 17 rfl rfl)
theorem dX5_endsOn_18 : decode cX5_endsOn 18 = .ok (.getfield 56, 3) := dk_180 0 56 (dk_at dksX5_endsOn_0 18 rfl rfl)
theorem dX5_endsOn_21 : decode cX5_endsOn 21 = .ok (.bipush 100, 2) := dk_16 100 (dk_at dksX5_endsOn_0 21 rfl rfl)
theorem dX5_endsOn_23 : decode cX5_endsOn 23 = .ok (.iload_n 1, 1) := dk_27 (dk_at dksX5_endsOn_0 23 rfl rfl)
theorem dX5_endsOn_24 : decode cX5_endsOn 24 = .ok (.imul, 1) := dk_104 (dk_at dksX5_endsOn_1 0 rfl rfl)
theorem dX5_endsOn_25 : decode cX5_endsOn 25 = .ok (.iload_n 2, 1) := dk_28 (dk_at dksX5_endsOn_1 1 rfl rfl)
theorem dX5_endsOn_26 : decode cX5_endsOn 26 = .ok (.iadd, 1) := dk_96 (dk_at dksX5_endsOn_1 2 rfl rfl)
theorem dX5_endsOn_27 : decode cX5_endsOn 27 = .ok (.iconst 0, 1) := dk_3 (dk_at dksX5_endsOn_1 3 rfl rfl)
theorem dX5_endsOn_28 : decode cX5_endsOn 28 = .ok (.bastore, 1) := dk_84 (dk_at dksX5_endsOn_1 4 rfl rfl)
theorem dX5_endsOn_29 : decode cX5_endsOn 29 = .ok (.iload_n 3, 1) := dk_29 (dk_at dksX5_endsOn_1 5 rfl rfl)
theorem dX5_endsOn_30 : decode cX5_endsOn 30 = .ok (.ireturn, 1) := dk_172 (dk_at dksX5_endsOn_1 6 rfl rfl)
def dkwX5_worst_5 : List UInt8 := [21, 4, 155, 0, 15, 42, 3, 181, 0, 11, 42, 21, 5, 133, 182, 0, 18, 21, 4, 172]
abbrev dktX5_worst_5 : List UInt8 := dkwX5_worst_5 ++ []
def dkwX5_worst_4 : List UInt8 := [155, 0, 10, 21, 7, 21, 5, 164, 0, 11, 21, 6, 54, 4, 21, 7, 54, 5, 132, 6, 1, 167, 255, 194]
abbrev dktX5_worst_4 : List UInt8 := dkwX5_worst_4 ++ dktX5_worst_5
def dkwX5_worst_3 : List UInt8 := [153, 0, 7, 2, 167, 0, 10, 42, 27, 21, 6, 182, 1, 210, 54, 7, 21, 7, 155, 0, 23, 21, 4]
abbrev dktX5_worst_3 : List UInt8 := dkwX5_worst_3 ++ dktX5_worst_4
def dkwX5_worst_2 : List UInt8 := [54, 5, 28, 54, 6, 21, 6, 29, 163, 0, 62, 42, 180, 0, 56, 16, 100, 27, 104, 21, 6, 96, 51]
abbrev dktX5_worst_2 : List UInt8 := dkwX5_worst_2 ++ dktX5_worst_3
def dkwX5_worst_1 : List UInt8 := [20, 0, 67, 184, 0, 25, 153, 0, 10, 42, 180, 0, 151, 154, 0, 5, 2, 172, 16, 254, 54, 4, 3]
abbrev dktX5_worst_1 : List UInt8 := dkwX5_worst_1 ++ dktX5_worst_2
def dkwX5_worst_0 : List UInt8 := [42, 3, 181, 0, 3, 42, 27, 182, 0, 77, 153, 0, 30, 28, 184, 0, 86, 153, 0, 23, 29, 133, 28, 133]
abbrev dktX5_worst_0 : List UInt8 := dkwX5_worst_0 ++ dktX5_worst_1
theorem dksX5_worst_0 : cX5_worst.data.toList.drop 0 = dktX5_worst_0 := by decide +kernel
theorem dksX5_worst_1 : cX5_worst.data.toList.drop 24 = dktX5_worst_1 := dk_seg dksX5_worst_0 24 rfl rfl
theorem dksX5_worst_2 : cX5_worst.data.toList.drop 47 = dktX5_worst_2 := dk_seg dksX5_worst_1 23 rfl rfl
theorem dksX5_worst_3 : cX5_worst.data.toList.drop 70 = dktX5_worst_3 := dk_seg dksX5_worst_2 23 rfl rfl
theorem dksX5_worst_4 : cX5_worst.data.toList.drop 93 = dktX5_worst_4 := dk_seg dksX5_worst_3 23 rfl rfl
theorem dksX5_worst_5 : cX5_worst.data.toList.drop 117 = dktX5_worst_5 := dk_seg dksX5_worst_4 24 rfl rfl
theorem dX5_worst_0 : decode cX5_worst 0 = .ok (.aload_n 0, 1) := dk_42 (dk_at dksX5_worst_0 0 rfl rfl)
theorem dX5_worst_1 : decode cX5_worst 1 = .ok (.iconst 0, 1) := dk_3 (dk_at dksX5_worst_0 1 rfl rfl)
theorem dX5_worst_2 : decode cX5_worst 2 = .ok (.putfield 3, 3) := dk_181 0 3 (dk_at dksX5_worst_0 2 rfl rfl)
theorem dX5_worst_5 : decode cX5_worst 5 = .ok (.aload_n 0, 1) := dk_42 (dk_at dksX5_worst_0 5 rfl rfl)
theorem dX5_worst_6 : decode cX5_worst 6 = .ok (.iload_n 1, 1) := dk_27 (dk_at dksX5_worst_0 6 rfl rfl)
theorem dX5_worst_7 : decode cX5_worst 7 = .ok (.invokevirtual 77, 3) := dk_182 0 77 (dk_at dksX5_worst_0 7 rfl rfl)
theorem dX5_worst_10 : decode cX5_worst 10 = .ok (.ifCond .eq 30, 3) := dk_153 0 30 (dk_at dksX5_worst_0 10 rfl rfl)
theorem dX5_worst_13 : decode cX5_worst 13 = .ok (.iload_n 2, 1) := dk_28 (dk_at dksX5_worst_0 13 rfl rfl)
theorem dX5_worst_14 : decode cX5_worst 14 = .ok (.invokestatic 86, 3) := dk_184 0 86 (dk_at dksX5_worst_0 14 rfl rfl)
theorem dX5_worst_17 : decode cX5_worst 17 = .ok (.ifCond .eq 23, 3) := dk_153 0 23 (dk_at dksX5_worst_0 17 rfl rfl)
theorem dX5_worst_20 : decode cX5_worst 20 = .ok (.iload_n 3, 1) := dk_29 (dk_at dksX5_worst_0 20 rfl rfl)
theorem dX5_worst_21 : decode cX5_worst 21 = .ok (.i2l, 1) := dk_133 (dk_at dksX5_worst_0 21 rfl rfl)
theorem dX5_worst_22 : decode cX5_worst 22 = .ok (.iload_n 2, 1) := dk_28 (dk_at dksX5_worst_0 22 rfl rfl)
theorem dX5_worst_23 : decode cX5_worst 23 = .ok (.i2l, 1) := dk_133 (dk_at dksX5_worst_0 23 rfl rfl)
theorem dX5_worst_24 : decode cX5_worst 24 = .ok (.ldc2_w 67, 3) := dk_20 0 67 (dk_at dksX5_worst_1 0 rfl rfl)
theorem dX5_worst_27 : decode cX5_worst 27 = .ok (.invokestatic 25, 3) := dk_184 0 25 (dk_at dksX5_worst_1 3 rfl rfl)
theorem dX5_worst_30 : decode cX5_worst 30 = .ok (.ifCond .eq 10, 3) := dk_153 0 10 (dk_at dksX5_worst_1 6 rfl rfl)
theorem dX5_worst_33 : decode cX5_worst 33 = .ok (.aload_n 0, 1) := dk_42 (dk_at dksX5_worst_1 9 rfl rfl)
theorem dX5_worst_34 : decode cX5_worst 34 = .ok (.getfield 151, 3) := dk_180 0 151 (dk_at dksX5_worst_1 10 rfl rfl)
theorem dX5_worst_37 : decode cX5_worst 37 = .ok (.ifCond .ne 5, 3) := dk_154 0 5 (dk_at dksX5_worst_1 13 rfl rfl)
theorem dX5_worst_40 : decode cX5_worst 40 = .ok (.iconst (-1), 1) := dk_2 (dk_at dksX5_worst_1 16 rfl rfl)
theorem dX5_worst_41 : decode cX5_worst 41 = .ok (.ireturn, 1) := dk_172 (dk_at dksX5_worst_1 17 rfl rfl)
theorem dX5_worst_42 : decode cX5_worst 42 = .ok (.bipush (-2), 2) := dk_16 254 (dk_at dksX5_worst_1 18 rfl rfl)
theorem dX5_worst_44 : decode cX5_worst 44 = .ok (.istore 4, 2) := dk_54 4 (dk_at dksX5_worst_1 20 rfl rfl)
theorem dX5_worst_46 : decode cX5_worst 46 = .ok (.iconst 0, 1) := dk_3 (dk_at dksX5_worst_1 22 rfl rfl)
theorem dX5_worst_47 : decode cX5_worst 47 = .ok (.istore 5, 2) := dk_54 5 (dk_at dksX5_worst_2 0 rfl rfl)
theorem dX5_worst_49 : decode cX5_worst 49 = .ok (.iload_n 2, 1) := dk_28 (dk_at dksX5_worst_2 2 rfl rfl)
theorem dX5_worst_50 : decode cX5_worst 50 = .ok (.istore 6, 2) := dk_54 6 (dk_at dksX5_worst_2 3 rfl rfl)
theorem dX5_worst_52 : decode cX5_worst 52 = .ok (.iload 6, 2) := dk_21 6 (dk_at dksX5_worst_2 5 rfl rfl)
theorem dX5_worst_54 : decode cX5_worst 54 = .ok (.iload_n 3, 1) := dk_29 (dk_at dksX5_worst_2 7 rfl rfl)
theorem dX5_worst_55 : decode cX5_worst 55 = .ok (.if_icmp .gt 62, 3) := dk_163 0 62 (dk_at dksX5_worst_2 8 rfl rfl)
theorem dX5_worst_58 : decode cX5_worst 58 = .ok (.aload_n 0, 1) := dk_42 (dk_at dksX5_worst_2 11 rfl rfl)
theorem dX5_worst_59 : decode cX5_worst 59 = .ok (.getfield 56, 3) := dk_180 0 56 (dk_at dksX5_worst_2 12 rfl rfl)
theorem dX5_worst_62 : decode cX5_worst 62 = .ok (.bipush 100, 2) := dk_16 100 (dk_at dksX5_worst_2 15 rfl rfl)
theorem dX5_worst_64 : decode cX5_worst 64 = .ok (.iload_n 1, 1) := dk_27 (dk_at dksX5_worst_2 17 rfl rfl)
theorem dX5_worst_65 : decode cX5_worst 65 = .ok (.imul, 1) := dk_104 (dk_at dksX5_worst_2 18 rfl rfl)
theorem dX5_worst_66 : decode cX5_worst 66 = .ok (.iload 6, 2) := dk_21 6 (dk_at dksX5_worst_2 19 rfl rfl)
theorem dX5_worst_68 : decode cX5_worst 68 = .ok (.iadd, 1) := dk_96 (dk_at dksX5_worst_2 21 rfl rfl)
theorem dX5_worst_69 : decode cX5_worst 69 = .ok (.baload, 1) := dk_51 (dk_at dksX5_worst_2 22 rfl rfl)
theorem dX5_worst_70 : decode cX5_worst 70 = .ok (.ifCond .eq 7, 3) := dk_153 0 7 (dk_at dksX5_worst_3 0 rfl rfl)
theorem dX5_worst_73 : decode cX5_worst 73 = .ok (.iconst (-1), 1) := dk_2 (dk_at dksX5_worst_3 3 rfl rfl)
theorem dX5_worst_74 : decode cX5_worst 74 = .ok (.goto 10, 3) := dk_167 0 10 (dk_at dksX5_worst_3 4 rfl rfl)
theorem dX5_worst_77 : decode cX5_worst 77 = .ok (.aload_n 0, 1) := dk_42 (dk_at dksX5_worst_3 7 rfl rfl)
theorem dX5_worst_78 : decode cX5_worst 78 = .ok (.iload_n 1, 1) := dk_27 (dk_at dksX5_worst_3 8 rfl rfl)
theorem dX5_worst_79 : decode cX5_worst 79 = .ok (.iload 6, 2) := dk_21 6 (dk_at dksX5_worst_3 9 rfl rfl)
theorem dX5_worst_81 : decode cX5_worst 81 = .ok (.invokevirtual 466, 3) := dk_182 1 210 (dk_at dksX5_worst_3 11 rfl rfl)
theorem dX5_worst_84 : decode cX5_worst 84 = .ok (.istore 7, 2) := dk_54 7 (dk_at dksX5_worst_3 14 rfl rfl)
theorem dX5_worst_86 : decode cX5_worst 86 = .ok (.iload 7, 2) := dk_21 7 (dk_at dksX5_worst_3 16 rfl rfl)
theorem dX5_worst_88 : decode cX5_worst 88 = .ok (.ifCond .lt 23, 3) := dk_155 0 23 (dk_at dksX5_worst_3 18 rfl rfl)
theorem dX5_worst_91 : decode cX5_worst 91 = .ok (.iload 4, 2) := dk_21 4 (dk_at dksX5_worst_3 21 rfl rfl)
theorem dX5_worst_93 : decode cX5_worst 93 = .ok (.ifCond .lt 10, 3) := dk_155 0 10 (dk_at dksX5_worst_4 0 rfl rfl)
theorem dX5_worst_96 : decode cX5_worst 96 = .ok (.iload 7, 2) := dk_21 7 (dk_at dksX5_worst_4 3 rfl rfl)
theorem dX5_worst_98 : decode cX5_worst 98 = .ok (.iload 5, 2) := dk_21 5 (dk_at dksX5_worst_4 5 rfl rfl)
theorem dX5_worst_100 : decode cX5_worst 100 = .ok (.if_icmp .le 11, 3) := dk_164 0 11 (dk_at dksX5_worst_4 7 rfl rfl)
theorem dX5_worst_103 : decode cX5_worst 103 = .ok (.iload 6, 2) := dk_21 6 (dk_at dksX5_worst_4 10 rfl rfl)
theorem dX5_worst_105 : decode cX5_worst 105 = .ok (.istore 4, 2) := dk_54 4 (dk_at dksX5_worst_4 12 rfl rfl)
theorem dX5_worst_107 : decode cX5_worst 107 = .ok (.iload 7, 2) := dk_21 7 (dk_at dksX5_worst_4 14 rfl rfl)
theorem dX5_worst_109 : decode cX5_worst 109 = .ok (.istore 5, 2) := dk_54 5 (dk_at dksX5_worst_4 16 rfl rfl)
theorem dX5_worst_111 : decode cX5_worst 111 = .ok (.iinc 6 1, 3) := dk_132 6 1 (dk_at dksX5_worst_4 18 rfl rfl)
theorem dX5_worst_114 : decode cX5_worst 114 = .ok (.goto (-62), 3) := dk_167 255 194 (dk_at dksX5_worst_4 21 rfl rfl)
theorem dX5_worst_117 : decode cX5_worst 117 = .ok (.iload 4, 2) := dk_21 4 (dk_at dksX5_worst_5 0 rfl rfl)
theorem dX5_worst_119 : decode cX5_worst 119 = .ok (.ifCond .lt 15, 3) := dk_155 0 15 (dk_at dksX5_worst_5 2 rfl rfl)
theorem dX5_worst_122 : decode cX5_worst 122 = .ok (.aload_n 0, 1) := dk_42 (dk_at dksX5_worst_5 5 rfl rfl)
theorem dX5_worst_123 : decode cX5_worst 123 = .ok (.iconst 0, 1) := dk_3 (dk_at dksX5_worst_5 6 rfl rfl)
theorem dX5_worst_124 : decode cX5_worst 124 = .ok (.putfield 11, 3) := dk_181 0 11 (dk_at dksX5_worst_5 7 rfl rfl)
theorem dX5_worst_127 : decode cX5_worst 127 = .ok (.aload_n 0, 1) := dk_42 (dk_at dksX5_worst_5 10 rfl rfl)
theorem dX5_worst_128 : decode cX5_worst 128 = .ok (.iload 5, 2) := dk_21 5 (dk_at dksX5_worst_5 11 rfl rfl)
theorem dX5_worst_130 : decode cX5_worst 130 = .ok (.i2l, 1) := dk_133 (dk_at dksX5_worst_5 13 rfl rfl)
theorem dX5_worst_131 : decode cX5_worst 131 = .ok (.invokevirtual 18, 3) := dk_182 0 18 (dk_at dksX5_worst_5 14 rfl rfl)
theorem dX5_worst_134 : decode cX5_worst 134 = .ok (.iload 4, 2) := dk_21 4 (dk_at dksX5_worst_5 17 rfl rfl)
theorem dX5_worst_136 : decode cX5_worst 136 = .ok (.ireturn, 1) := dk_172 (dk_at dksX5_worst_5 19 rfl rfl)
def dkwX5_march_4 : List UInt8 := [17, 216, 241, 167, 0, 7, 21, 6, 29, 100, 172]
abbrev dktX5_march_4 : List UInt8 := dkwX5_march_4 ++ []
def dkwX5_march_3 : List UInt8 := [180, 0, 50, 27, 21, 4, 79, 42, 180, 0, 53, 27, 21, 5, 79, 21, 6, 155, 0, 7, 29, 156, 0, 9]
abbrev dktX5_march_3 : List UInt8 := dkwX5_march_3 ++ dktX5_march_4
def dkwX5_march_2 : List UInt8 := [54, 5, 42, 180, 0, 50, 27, 28, 79, 42, 180, 0, 53, 27, 4, 79, 42, 182, 1, 207, 54, 6, 42]
abbrev dktX5_march_2 : List UInt8 := dkwX5_march_2 ++ dktX5_march_3
def dkwX5_march_1 : List UInt8 := [154, 0, 5, 2, 172, 42, 182, 1, 207, 62, 42, 180, 0, 50, 27, 46, 54, 4, 42, 180, 0, 53, 27, 46]
abbrev dktX5_march_1 : List UInt8 := dkwX5_march_1 ++ dktX5_march_2
def dkwX5_march_0 : List UInt8 := [42, 3, 181, 0, 3, 42, 27, 182, 0, 77, 153, 0, 17, 28, 184, 0, 81, 153, 0, 10, 42, 180, 0, 151]
abbrev dktX5_march_0 : List UInt8 := dkwX5_march_0 ++ dktX5_march_1
theorem dksX5_march_0 : cX5_march.data.toList.drop 0 = dktX5_march_0 := by decide +kernel
theorem dksX5_march_1 : cX5_march.data.toList.drop 24 = dktX5_march_1 := dk_seg dksX5_march_0 24 rfl rfl
theorem dksX5_march_2 : cX5_march.data.toList.drop 48 = dktX5_march_2 := dk_seg dksX5_march_1 24 rfl rfl
theorem dksX5_march_3 : cX5_march.data.toList.drop 71 = dktX5_march_3 := dk_seg dksX5_march_2 23 rfl rfl
theorem dksX5_march_4 : cX5_march.data.toList.drop 95 = dktX5_march_4 := dk_seg dksX5_march_3 24 rfl rfl
theorem dX5_march_0 : decode cX5_march 0 = .ok (.aload_n 0, 1) := dk_42 (dk_at dksX5_march_0 0 rfl rfl)
theorem dX5_march_1 : decode cX5_march 1 = .ok (.iconst 0, 1) := dk_3 (dk_at dksX5_march_0 1 rfl rfl)
theorem dX5_march_2 : decode cX5_march 2 = .ok (.putfield 3, 3) := dk_181 0 3 (dk_at dksX5_march_0 2 rfl rfl)
theorem dX5_march_5 : decode cX5_march 5 = .ok (.aload_n 0, 1) := dk_42 (dk_at dksX5_march_0 5 rfl rfl)
theorem dX5_march_6 : decode cX5_march 6 = .ok (.iload_n 1, 1) := dk_27 (dk_at dksX5_march_0 6 rfl rfl)
theorem dX5_march_7 : decode cX5_march 7 = .ok (.invokevirtual 77, 3) := dk_182 0 77 (dk_at dksX5_march_0 7 rfl rfl)
theorem dX5_march_10 : decode cX5_march 10 = .ok (.ifCond .eq 17, 3) := dk_153 0 17 (dk_at dksX5_march_0 10 rfl rfl)
theorem dX5_march_13 : decode cX5_march 13 = .ok (.iload_n 2, 1) := dk_28 (dk_at dksX5_march_0 13 rfl rfl)
theorem dX5_march_14 : decode cX5_march 14 = .ok (.invokestatic 81, 3) := dk_184 0 81 (dk_at dksX5_march_0 14 rfl rfl)
theorem dX5_march_17 : decode cX5_march 17 = .ok (.ifCond .eq 10, 3) := dk_153 0 10 (dk_at dksX5_march_0 17 rfl rfl)
theorem dX5_march_20 : decode cX5_march 20 = .ok (.aload_n 0, 1) := dk_42 (dk_at dksX5_march_0 20 rfl rfl)
theorem dX5_march_21 : decode cX5_march 21 = .ok (.getfield 151, 3) := dk_180 0 151 (dk_at dksX5_march_0 21 rfl rfl)
theorem dX5_march_24 : decode cX5_march 24 = .ok (.ifCond .ne 5, 3) := dk_154 0 5 (dk_at dksX5_march_1 0 rfl rfl)
theorem dX5_march_27 : decode cX5_march 27 = .ok (.iconst (-1), 1) := dk_2 (dk_at dksX5_march_1 3 rfl rfl)
theorem dX5_march_28 : decode cX5_march 28 = .ok (.ireturn, 1) := dk_172 (dk_at dksX5_march_1 4 rfl rfl)
theorem dX5_march_29 : decode cX5_march 29 = .ok (.aload_n 0, 1) := dk_42 (dk_at dksX5_march_1 5 rfl rfl)
theorem dX5_march_30 : decode cX5_march 30 = .ok (.invokevirtual 463, 3) := dk_182 1 207 (dk_at dksX5_march_1 6 rfl rfl)
theorem dX5_march_33 : decode cX5_march 33 = .ok (.istore_n 3, 1) := dk_62 (dk_at dksX5_march_1 9 rfl rfl)
theorem dX5_march_34 : decode cX5_march 34 = .ok (.aload_n 0, 1) := dk_42 (dk_at dksX5_march_1 10 rfl rfl)
theorem dX5_march_35 : decode cX5_march 35 = .ok (.getfield 50, 3) := dk_180 0 50 (dk_at dksX5_march_1 11 rfl rfl)
theorem dX5_march_38 : decode cX5_march 38 = .ok (.iload_n 1, 1) := dk_27 (dk_at dksX5_march_1 14 rfl rfl)
theorem dX5_march_39 : decode cX5_march 39 = .ok (.iaload, 1) := dk_46 (dk_at dksX5_march_1 15 rfl rfl)
theorem dX5_march_40 : decode cX5_march 40 = .ok (.istore 4, 2) := dk_54 4 (dk_at dksX5_march_1 16 rfl rfl)
theorem dX5_march_42 : decode cX5_march 42 = .ok (.aload_n 0, 1) := dk_42 (dk_at dksX5_march_1 18 rfl rfl)
theorem dX5_march_43 : decode cX5_march 43 = .ok (.getfield 53, 3) := dk_180 0 53 (dk_at dksX5_march_1 19 rfl rfl)
theorem dX5_march_46 : decode cX5_march 46 = .ok (.iload_n 1, 1) := dk_27 (dk_at dksX5_march_1 22 rfl rfl)
theorem dX5_march_47 : decode cX5_march 47 = .ok (.iaload, 1) := dk_46 (dk_at dksX5_march_1 23 rfl rfl)
theorem dX5_march_48 : decode cX5_march 48 = .ok (.istore 5, 2) := dk_54 5 (dk_at dksX5_march_2 0 rfl rfl)
theorem dX5_march_50 : decode cX5_march 50 = .ok (.aload_n 0, 1) := dk_42 (dk_at dksX5_march_2 2 rfl rfl)
theorem dX5_march_51 : decode cX5_march 51 = .ok (.getfield 50, 3) := dk_180 0 50 (dk_at dksX5_march_2 3 rfl rfl)
theorem dX5_march_54 : decode cX5_march 54 = .ok (.iload_n 1, 1) := dk_27 (dk_at dksX5_march_2 6 rfl rfl)
theorem dX5_march_55 : decode cX5_march 55 = .ok (.iload_n 2, 1) := dk_28 (dk_at dksX5_march_2 7 rfl rfl)
theorem dX5_march_56 : decode cX5_march 56 = .ok (.iastore, 1) := dk_79 (dk_at dksX5_march_2 8 rfl rfl)
theorem dX5_march_57 : decode cX5_march 57 = .ok (.aload_n 0, 1) := dk_42 (dk_at dksX5_march_2 9 rfl rfl)
theorem dX5_march_58 : decode cX5_march 58 = .ok (.getfield 53, 3) := dk_180 0 53 (dk_at dksX5_march_2 10 rfl rfl)
theorem dX5_march_61 : decode cX5_march 61 = .ok (.iload_n 1, 1) := dk_27 (dk_at dksX5_march_2 13 rfl rfl)
theorem dX5_march_62 : decode cX5_march 62 = .ok (.iconst 1, 1) := dk_4 (dk_at dksX5_march_2 14 rfl rfl)
theorem dX5_march_63 : decode cX5_march 63 = .ok (.iastore, 1) := dk_79 (dk_at dksX5_march_2 15 rfl rfl)
theorem dX5_march_64 : decode cX5_march 64 = .ok (.aload_n 0, 1) := dk_42 (dk_at dksX5_march_2 16 rfl rfl)
theorem dX5_march_65 : decode cX5_march 65 = .ok (.invokevirtual 463, 3) := dk_182 1 207 (dk_at dksX5_march_2 17 rfl rfl)
theorem dX5_march_68 : decode cX5_march 68 = .ok (.istore 6, 2) := dk_54 6 (dk_at dksX5_march_2 20 rfl rfl)
theorem dX5_march_70 : decode cX5_march 70 = .ok (.aload_n 0, 1) := dk_42 (dk_at dksX5_march_2 22 rfl rfl)
theorem dX5_march_71 : decode cX5_march 71 = .ok (.getfield 50, 3) := dk_180 0 50 (dk_at dksX5_march_3 0 rfl rfl)
theorem dX5_march_74 : decode cX5_march 74 = .ok (.iload_n 1, 1) := dk_27 (dk_at dksX5_march_3 3 rfl rfl)
theorem dX5_march_75 : decode cX5_march 75 = .ok (.iload 4, 2) := dk_21 4 (dk_at dksX5_march_3 4 rfl rfl)
theorem dX5_march_77 : decode cX5_march 77 = .ok (.iastore, 1) := dk_79 (dk_at dksX5_march_3 6 rfl rfl)
theorem dX5_march_78 : decode cX5_march 78 = .ok (.aload_n 0, 1) := dk_42 (dk_at dksX5_march_3 7 rfl rfl)
theorem dX5_march_79 : decode cX5_march 79 = .ok (.getfield 53, 3) := dk_180 0 53 (dk_at dksX5_march_3 8 rfl rfl)
theorem dX5_march_82 : decode cX5_march 82 = .ok (.iload_n 1, 1) := dk_27 (dk_at dksX5_march_3 11 rfl rfl)
theorem dX5_march_83 : decode cX5_march 83 = .ok (.iload 5, 2) := dk_21 5 (dk_at dksX5_march_3 12 rfl rfl)
theorem dX5_march_85 : decode cX5_march 85 = .ok (.iastore, 1) := dk_79 (dk_at dksX5_march_3 14 rfl rfl)
theorem dX5_march_86 : decode cX5_march 86 = .ok (.iload 6, 2) := dk_21 6 (dk_at dksX5_march_3 15 rfl rfl)
theorem dX5_march_88 : decode cX5_march 88 = .ok (.ifCond .lt 7, 3) := dk_155 0 7 (dk_at dksX5_march_3 17 rfl rfl)
theorem dX5_march_91 : decode cX5_march 91 = .ok (.iload_n 3, 1) := dk_29 (dk_at dksX5_march_3 20 rfl rfl)
theorem dX5_march_92 : decode cX5_march 92 = .ok (.ifCond .ge 9, 3) := dk_156 0 9 (dk_at dksX5_march_3 21 rfl rfl)
theorem dX5_march_95 : decode cX5_march 95 = .ok (.sipush (-9999), 3) := dk_17 216 241 (dk_at dksX5_march_4 0 rfl rfl)
theorem dX5_march_98 : decode cX5_march 98 = .ok (.goto 7, 3) := dk_167 0 7 (dk_at dksX5_march_4 3 rfl rfl)
theorem dX5_march_101 : decode cX5_march 101 = .ok (.iload 6, 2) := dk_21 6 (dk_at dksX5_march_4 6 rfl rfl)
theorem dX5_march_103 : decode cX5_march 103 = .ok (.iload_n 3, 1) := dk_29 (dk_at dksX5_march_4 8 rfl rfl)
theorem dX5_march_104 : decode cX5_march 104 = .ok (.isub, 1) := dk_100 (dk_at dksX5_march_4 9 rfl rfl)
theorem dX5_march_105 : decode cX5_march 105 = .ok (.ireturn, 1) := dk_172 (dk_at dksX5_march_4 10 rfl rfl)
def dkwX5_keep_2 : List UInt8 := [180, 0, 140, 28, 46, 79, 132, 2, 1, 167, 255, 230, 4, 172]
abbrev dktX5_keep_2 : List UInt8 := dkwX5_keep_2 ++ []
def dkwX5_keep_1 : List UInt8 := [42, 180, 0, 151, 79, 3, 61, 28, 16, 127, 162, 0, 26, 42, 180, 1, 216, 16, 127, 27, 104, 28, 96, 42]
abbrev dktX5_keep_1 : List UInt8 := dkwX5_keep_1 ++ dktX5_keep_2
def dkwX5_keep_0 : List UInt8 := [42, 3, 181, 0, 3, 27, 133, 9, 20, 1, 136, 184, 0, 25, 154, 0, 5, 3, 172, 42, 180, 1, 213, 27]
abbrev dktX5_keep_0 : List UInt8 := dkwX5_keep_0 ++ dktX5_keep_1
theorem dksX5_keep_0 : cX5_keep.data.toList.drop 0 = dktX5_keep_0 := by decide +kernel
theorem dksX5_keep_1 : cX5_keep.data.toList.drop 24 = dktX5_keep_1 := dk_seg dksX5_keep_0 24 rfl rfl
theorem dksX5_keep_2 : cX5_keep.data.toList.drop 48 = dktX5_keep_2 := dk_seg dksX5_keep_1 24 rfl rfl
theorem dX5_keep_0 : decode cX5_keep 0 = .ok (.aload_n 0, 1) := dk_42 (dk_at dksX5_keep_0 0 rfl rfl)
theorem dX5_keep_1 : decode cX5_keep 1 = .ok (.iconst 0, 1) := dk_3 (dk_at dksX5_keep_0 1 rfl rfl)
theorem dX5_keep_2 : decode cX5_keep 2 = .ok (.putfield 3, 3) := dk_181 0 3 (dk_at dksX5_keep_0 2 rfl rfl)
theorem dX5_keep_5 : decode cX5_keep 5 = .ok (.iload_n 1, 1) := dk_27 (dk_at dksX5_keep_0 5 rfl rfl)
theorem dX5_keep_6 : decode cX5_keep 6 = .ok (.i2l, 1) := dk_133 (dk_at dksX5_keep_0 6 rfl rfl)
theorem dX5_keep_7 : decode cX5_keep 7 = .ok (.lconst 0, 1) := dk_9 (dk_at dksX5_keep_0 7 rfl rfl)
theorem dX5_keep_8 : decode cX5_keep 8 = .ok (.ldc2_w 392, 3) := dk_20 1 136 (dk_at dksX5_keep_0 8 rfl rfl)
theorem dX5_keep_11 : decode cX5_keep 11 = .ok (.invokestatic 25, 3) := dk_184 0 25 (dk_at dksX5_keep_0 11 rfl rfl)
theorem dX5_keep_14 : decode cX5_keep 14 = .ok (.ifCond .ne 5, 3) := dk_154 0 5 (dk_at dksX5_keep_0 14 rfl rfl)
theorem dX5_keep_17 : decode cX5_keep 17 = .ok (.iconst 0, 1) := dk_3 (dk_at dksX5_keep_0 17 rfl rfl)
theorem dX5_keep_18 : decode cX5_keep 18 = .ok (.ireturn, 1) := dk_172 (dk_at dksX5_keep_0 18 rfl rfl)
theorem dX5_keep_19 : decode cX5_keep 19 = .ok (.aload_n 0, 1) := dk_42 (dk_at dksX5_keep_0 19 rfl rfl)
theorem dX5_keep_20 : decode cX5_keep 20 = .ok (.getfield 469, 3) := dk_180 1 213 (dk_at dksX5_keep_0 20 rfl rfl)
theorem dX5_keep_23 : decode cX5_keep 23 = .ok (.iload_n 1, 1) := dk_27 (dk_at dksX5_keep_0 23 rfl rfl)
theorem dX5_keep_24 : decode cX5_keep 24 = .ok (.aload_n 0, 1) := dk_42 (dk_at dksX5_keep_1 0 rfl rfl)
theorem dX5_keep_25 : decode cX5_keep 25 = .ok (.getfield 151, 3) := dk_180 0 151 (dk_at dksX5_keep_1 1 rfl rfl)
theorem dX5_keep_28 : decode cX5_keep 28 = .ok (.iastore, 1) := dk_79 (dk_at dksX5_keep_1 4 rfl rfl)
theorem dX5_keep_29 : decode cX5_keep 29 = .ok (.iconst 0, 1) := dk_3 (dk_at dksX5_keep_1 5 rfl rfl)
theorem dX5_keep_30 : decode cX5_keep 30 = .ok (.istore_n 2, 1) := dk_61 (dk_at dksX5_keep_1 6 rfl rfl)
theorem dX5_keep_31 : decode cX5_keep 31 = .ok (.iload_n 2, 1) := dk_28 (dk_at dksX5_keep_1 7 rfl rfl)
theorem dX5_keep_32 : decode cX5_keep 32 = .ok (.bipush 127, 2) := dk_16 127 (dk_at dksX5_keep_1 8 rfl rfl)
theorem dX5_keep_34 : decode cX5_keep 34 = .ok (.if_icmp .ge 26, 3) := dk_162 0 26 (dk_at dksX5_keep_1 10 rfl rfl)
theorem dX5_keep_37 : decode cX5_keep 37 = .ok (.aload_n 0, 1) := dk_42 (dk_at dksX5_keep_1 13 rfl rfl)
theorem dX5_keep_38 : decode cX5_keep 38 = .ok (.getfield 472, 3) := dk_180 1 216 (dk_at dksX5_keep_1 14 rfl rfl)
theorem dX5_keep_41 : decode cX5_keep 41 = .ok (.bipush 127, 2) := dk_16 127 (dk_at dksX5_keep_1 17 rfl rfl)
theorem dX5_keep_43 : decode cX5_keep 43 = .ok (.iload_n 1, 1) := dk_27 (dk_at dksX5_keep_1 19 rfl rfl)
theorem dX5_keep_44 : decode cX5_keep 44 = .ok (.imul, 1) := dk_104 (dk_at dksX5_keep_1 20 rfl rfl)
theorem dX5_keep_45 : decode cX5_keep 45 = .ok (.iload_n 2, 1) := dk_28 (dk_at dksX5_keep_1 21 rfl rfl)
theorem dX5_keep_46 : decode cX5_keep 46 = .ok (.iadd, 1) := dk_96 (dk_at dksX5_keep_1 22 rfl rfl)
theorem dX5_keep_47 : decode cX5_keep 47 = .ok (.aload_n 0, 1) := dk_42 (dk_at dksX5_keep_1 23 rfl rfl)
theorem dX5_keep_48 : decode cX5_keep 48 = .ok (.getfield 140, 3) := dk_180 0 140 (dk_at dksX5_keep_2 0 rfl rfl)
theorem dX5_keep_51 : decode cX5_keep 51 = .ok (.iload_n 2, 1) := dk_28 (dk_at dksX5_keep_2 3 rfl rfl)
theorem dX5_keep_52 : decode cX5_keep 52 = .ok (.iaload, 1) := dk_46 (dk_at dksX5_keep_2 4 rfl rfl)
theorem dX5_keep_53 : decode cX5_keep 53 = .ok (.iastore, 1) := dk_79 (dk_at dksX5_keep_2 5 rfl rfl)
theorem dX5_keep_54 : decode cX5_keep 54 = .ok (.iinc 2 1, 3) := dk_132 2 1 (dk_at dksX5_keep_2 6 rfl rfl)
theorem dX5_keep_57 : decode cX5_keep 57 = .ok (.goto (-26), 3) := dk_167 255 230 (dk_at dksX5_keep_2 9 rfl rfl)
theorem dX5_keep_60 : decode cX5_keep 60 = .ok (.iconst 1, 1) := dk_4 (dk_at dksX5_keep_2 12 rfl rfl)
theorem dX5_keep_61 : decode cX5_keep 61 = .ok (.ireturn, 1) := dk_172 (dk_at dksX5_keep_2 13 rfl rfl)
def dkwX5_again_2 : List UInt8 := [180, 1, 216, 16, 127, 27, 104, 28, 96, 46, 79, 132, 2, 1, 167, 255, 230, 4, 172]
abbrev dktX5_again_2 : List UInt8 := dkwX5_again_2 ++ []
def dkwX5_again_1 : List UInt8 := [180, 0, 151, 159, 0, 5, 3, 172, 3, 61, 28, 16, 127, 162, 0, 26, 42, 180, 0, 140, 28, 42]
abbrev dktX5_again_1 : List UInt8 := dkwX5_again_1 ++ dktX5_again_2
def dkwX5_again_0 : List UInt8 := [42, 3, 181, 0, 3, 27, 133, 9, 20, 1, 136, 184, 0, 25, 153, 0, 16, 42, 180, 1, 213, 27, 46, 42]
abbrev dktX5_again_0 : List UInt8 := dkwX5_again_0 ++ dktX5_again_1
theorem dksX5_again_0 : cX5_again.data.toList.drop 0 = dktX5_again_0 := by decide +kernel
theorem dksX5_again_1 : cX5_again.data.toList.drop 24 = dktX5_again_1 := dk_seg dksX5_again_0 24 rfl rfl
theorem dksX5_again_2 : cX5_again.data.toList.drop 46 = dktX5_again_2 := dk_seg dksX5_again_1 22 rfl rfl
theorem dX5_again_0 : decode cX5_again 0 = .ok (.aload_n 0, 1) := dk_42 (dk_at dksX5_again_0 0 rfl rfl)
theorem dX5_again_1 : decode cX5_again 1 = .ok (.iconst 0, 1) := dk_3 (dk_at dksX5_again_0 1 rfl rfl)
theorem dX5_again_2 : decode cX5_again 2 = .ok (.putfield 3, 3) := dk_181 0 3 (dk_at dksX5_again_0 2 rfl rfl)
theorem dX5_again_5 : decode cX5_again 5 = .ok (.iload_n 1, 1) := dk_27 (dk_at dksX5_again_0 5 rfl rfl)
theorem dX5_again_6 : decode cX5_again 6 = .ok (.i2l, 1) := dk_133 (dk_at dksX5_again_0 6 rfl rfl)
theorem dX5_again_7 : decode cX5_again 7 = .ok (.lconst 0, 1) := dk_9 (dk_at dksX5_again_0 7 rfl rfl)
theorem dX5_again_8 : decode cX5_again 8 = .ok (.ldc2_w 392, 3) := dk_20 1 136 (dk_at dksX5_again_0 8 rfl rfl)
theorem dX5_again_11 : decode cX5_again 11 = .ok (.invokestatic 25, 3) := dk_184 0 25 (dk_at dksX5_again_0 11 rfl rfl)
theorem dX5_again_14 : decode cX5_again 14 = .ok (.ifCond .eq 16, 3) := dk_153 0 16 (dk_at dksX5_again_0 14 rfl rfl)
theorem dX5_again_17 : decode cX5_again 17 = .ok (.aload_n 0, 1) := dk_42 (dk_at dksX5_again_0 17 rfl rfl)
theorem dX5_again_18 : decode cX5_again 18 = .ok (.getfield 469, 3) := dk_180 1 213 (dk_at dksX5_again_0 18 rfl rfl)
theorem dX5_again_21 : decode cX5_again 21 = .ok (.iload_n 1, 1) := dk_27 (dk_at dksX5_again_0 21 rfl rfl)
theorem dX5_again_22 : decode cX5_again 22 = .ok (.iaload, 1) := dk_46 (dk_at dksX5_again_0 22 rfl rfl)
theorem dX5_again_23 : decode cX5_again 23 = .ok (.aload_n 0, 1) := dk_42 (dk_at dksX5_again_0 23 rfl rfl)
theorem dX5_again_24 : decode cX5_again 24 = .ok (.getfield 151, 3) := dk_180 0 151 (dk_at dksX5_again_1 0 rfl rfl)
theorem dX5_again_27 : decode cX5_again 27 = .ok (.if_icmp .eq 5, 3) := dk_159 0 5 (dk_at dksX5_again_1 3 rfl rfl)
theorem dX5_again_30 : decode cX5_again 30 = .ok (.iconst 0, 1) := dk_3 (dk_at dksX5_again_1 6 rfl rfl)
theorem dX5_again_31 : decode cX5_again 31 = .ok (.ireturn, 1) := dk_172 (dk_at dksX5_again_1 7 rfl rfl)
theorem dX5_again_32 : decode cX5_again 32 = .ok (.iconst 0, 1) := dk_3 (dk_at dksX5_again_1 8 rfl rfl)
theorem dX5_again_33 : decode cX5_again 33 = .ok (.istore_n 2, 1) := dk_61 (dk_at dksX5_again_1 9 rfl rfl)
theorem dX5_again_34 : decode cX5_again 34 = .ok (.iload_n 2, 1) := dk_28 (dk_at dksX5_again_1 10 rfl rfl)
theorem dX5_again_35 : decode cX5_again 35 = .ok (.bipush 127, 2) := dk_16 127 (dk_at dksX5_again_1 11 rfl rfl)
theorem dX5_again_37 : decode cX5_again 37 = .ok (.if_icmp .ge 26, 3) := dk_162 0 26 (dk_at dksX5_again_1 13 rfl rfl)
theorem dX5_again_40 : decode cX5_again 40 = .ok (.aload_n 0, 1) := dk_42 (dk_at dksX5_again_1 16 rfl rfl)
theorem dX5_again_41 : decode cX5_again 41 = .ok (.getfield 140, 3) := dk_180 0 140 (dk_at dksX5_again_1 17 rfl rfl)
theorem dX5_again_44 : decode cX5_again 44 = .ok (.iload_n 2, 1) := dk_28 (dk_at dksX5_again_1 20 rfl rfl)
theorem dX5_again_45 : decode cX5_again 45 = .ok (.aload_n 0, 1) := dk_42 (dk_at dksX5_again_1 21 rfl rfl)
theorem dX5_again_46 : decode cX5_again 46 = .ok (.getfield 472, 3) := dk_180 1 216 (dk_at dksX5_again_2 0 rfl rfl)
theorem dX5_again_49 : decode cX5_again 49 = .ok (.bipush 127, 2) := dk_16 127 (dk_at dksX5_again_2 3 rfl rfl)
theorem dX5_again_51 : decode cX5_again 51 = .ok (.iload_n 1, 1) := dk_27 (dk_at dksX5_again_2 5 rfl rfl)
theorem dX5_again_52 : decode cX5_again 52 = .ok (.imul, 1) := dk_104 (dk_at dksX5_again_2 6 rfl rfl)
theorem dX5_again_53 : decode cX5_again 53 = .ok (.iload_n 2, 1) := dk_28 (dk_at dksX5_again_2 7 rfl rfl)
theorem dX5_again_54 : decode cX5_again 54 = .ok (.iadd, 1) := dk_96 (dk_at dksX5_again_2 8 rfl rfl)
theorem dX5_again_55 : decode cX5_again 55 = .ok (.iaload, 1) := dk_46 (dk_at dksX5_again_2 9 rfl rfl)
theorem dX5_again_56 : decode cX5_again 56 = .ok (.iastore, 1) := dk_79 (dk_at dksX5_again_2 10 rfl rfl)
theorem dX5_again_57 : decode cX5_again 57 = .ok (.iinc 2 1, 3) := dk_132 2 1 (dk_at dksX5_again_2 11 rfl rfl)
theorem dX5_again_60 : decode cX5_again 60 = .ok (.goto (-26), 3) := dk_167 255 230 (dk_at dksX5_again_2 14 rfl rfl)
theorem dX5_again_63 : decode cX5_again 63 = .ok (.iconst 1, 1) := dk_4 (dk_at dksX5_again_2 17 rfl rfl)
theorem dX5_again_64 : decode cX5_again 64 = .ok (.ireturn, 1) := dk_172 (dk_at dksX5_again_2 18 rfl rfl)
def dkwX5_count_4 : List UInt8 := [172, 42, 180, 0, 11, 172, 42, 180, 0, 170, 172, 2, 172]
abbrev dktX5_count_4 : List UInt8 := dkwX5_count_4 ++ []
def dkwX5_count_3 : List UInt8 := [180, 1, 178, 172, 42, 16, 51, 182, 1, 60, 172, 42, 16, 59, 182, 1, 60, 172, 42, 180, 0, 140, 4, 46]
abbrev dktX5_count_3 : List UInt8 := dkwX5_count_3 ++ dktX5_count_4
def dkwX5_count_2 : List UInt8 := [42, 180, 0, 22, 172, 42, 180, 0, 151, 172, 42, 180, 0, 140, 3, 46, 172, 42, 182, 1, 219, 172, 42]
abbrev dktX5_count_2 : List UInt8 := dkwX5_count_2 ++ dktX5_count_3
def dkwX5_count_1 : List UInt8 := [170, 0, 0, 0, 0, 112, 0, 0, 0, 0, 0, 0, 0, 9, 0, 0, 0, 54, 0, 0, 0, 59, 0, 0, 0, 64, 0, 0, 0, 71, 0, 0, 0, 76, 0, 0, 0, 81, 0, 0, 0, 88, 0, 0, 0, 95, 0, 0, 0, 102, 0, 0, 0, 107]
abbrev dktX5_count_1 : List UInt8 := dkwX5_count_1 ++ dktX5_count_2
def dkwX5_count_0 : List UInt8 := [42, 3, 181, 0, 3, 27]
abbrev dktX5_count_0 : List UInt8 := dkwX5_count_0 ++ dktX5_count_1
theorem dksX5_count_0 : cX5_count.data.toList.drop 0 = dktX5_count_0 := by decide +kernel
theorem dksX5_count_1 : cX5_count.data.toList.drop 6 = dktX5_count_1 := dk_seg dksX5_count_0 6 rfl rfl
theorem dksX5_count_2 : cX5_count.data.toList.drop 60 = dktX5_count_2 := dk_seg dksX5_count_1 54 rfl rfl
theorem dksX5_count_3 : cX5_count.data.toList.drop 83 = dktX5_count_3 := dk_seg dksX5_count_2 23 rfl rfl
theorem dksX5_count_4 : cX5_count.data.toList.drop 107 = dktX5_count_4 := dk_seg dksX5_count_3 24 rfl rfl
theorem dX5_count_0 : decode cX5_count 0 = .ok (.aload_n 0, 1) := dk_42 (dk_at dksX5_count_0 0 rfl rfl)
theorem dX5_count_1 : decode cX5_count 1 = .ok (.iconst 0, 1) := dk_3 (dk_at dksX5_count_0 1 rfl rfl)
theorem dX5_count_2 : decode cX5_count 2 = .ok (.putfield 3, 3) := dk_181 0 3 (dk_at dksX5_count_0 2 rfl rfl)
theorem dX5_count_5 : decode cX5_count 5 = .ok (.iload_n 1, 1) := dk_27 (dk_at dksX5_count_0 5 rfl rfl)
theorem dX5_count_6 : decode cX5_count 6 = .ok (.tableswitch 112 0 9 #[54, 59, 64, 71, 76, 81, 88, 95, 102, 107], 54) := by decide +kernel
theorem dX5_count_60 : decode cX5_count 60 = .ok (.aload_n 0, 1) := dk_42 (dk_at dksX5_count_2 0 rfl rfl)
theorem dX5_count_61 : decode cX5_count 61 = .ok (.getfield 22, 3) := dk_180 0 22 (dk_at dksX5_count_2 1 rfl rfl)
theorem dX5_count_64 : decode cX5_count 64 = .ok (.ireturn, 1) := dk_172 (dk_at dksX5_count_2 4 rfl rfl)
theorem dX5_count_65 : decode cX5_count 65 = .ok (.aload_n 0, 1) := dk_42 (dk_at dksX5_count_2 5 rfl rfl)
theorem dX5_count_66 : decode cX5_count 66 = .ok (.getfield 151, 3) := dk_180 0 151 (dk_at dksX5_count_2 6 rfl rfl)
theorem dX5_count_69 : decode cX5_count 69 = .ok (.ireturn, 1) := dk_172 (dk_at dksX5_count_2 9 rfl rfl)
theorem dX5_count_70 : decode cX5_count 70 = .ok (.aload_n 0, 1) := dk_42 (dk_at dksX5_count_2 10 rfl rfl)
theorem dX5_count_71 : decode cX5_count 71 = .ok (.getfield 140, 3) := dk_180 0 140 (dk_at dksX5_count_2 11 rfl rfl)
theorem dX5_count_74 : decode cX5_count 74 = .ok (.iconst 0, 1) := dk_3 (dk_at dksX5_count_2 14 rfl rfl)
theorem dX5_count_75 : decode cX5_count 75 = .ok (.iaload, 1) := dk_46 (dk_at dksX5_count_2 15 rfl rfl)
theorem dX5_count_76 : decode cX5_count 76 = .ok (.ireturn, 1) := dk_172 (dk_at dksX5_count_2 16 rfl rfl)
theorem dX5_count_77 : decode cX5_count 77 = .ok (.aload_n 0, 1) := dk_42 (dk_at dksX5_count_2 17 rfl rfl)
theorem dX5_count_78 : decode cX5_count 78 = .ok (.invokevirtual 475, 3) := dk_182 1 219 (dk_at dksX5_count_2 18 rfl rfl)
theorem dX5_count_81 : decode cX5_count 81 = .ok (.ireturn, 1) := dk_172 (dk_at dksX5_count_2 21 rfl rfl)
theorem dX5_count_82 : decode cX5_count 82 = .ok (.aload_n 0, 1) := dk_42 (dk_at dksX5_count_2 22 rfl rfl)
theorem dX5_count_83 : decode cX5_count 83 = .ok (.getfield 434, 3) := dk_180 1 178 (dk_at dksX5_count_3 0 rfl rfl)
theorem dX5_count_86 : decode cX5_count 86 = .ok (.ireturn, 1) := dk_172 (dk_at dksX5_count_3 3 rfl rfl)
theorem dX5_count_87 : decode cX5_count 87 = .ok (.aload_n 0, 1) := dk_42 (dk_at dksX5_count_3 4 rfl rfl)
theorem dX5_count_88 : decode cX5_count 88 = .ok (.bipush 51, 2) := dk_16 51 (dk_at dksX5_count_3 5 rfl rfl)
theorem dX5_count_90 : decode cX5_count 90 = .ok (.invokevirtual 316, 3) := dk_182 1 60 (dk_at dksX5_count_3 7 rfl rfl)
theorem dX5_count_93 : decode cX5_count 93 = .ok (.ireturn, 1) := dk_172 (dk_at dksX5_count_3 10 rfl rfl)
theorem dX5_count_94 : decode cX5_count 94 = .ok (.aload_n 0, 1) := dk_42 (dk_at dksX5_count_3 11 rfl rfl)
theorem dX5_count_95 : decode cX5_count 95 = .ok (.bipush 59, 2) := dk_16 59 (dk_at dksX5_count_3 12 rfl rfl)
theorem dX5_count_97 : decode cX5_count 97 = .ok (.invokevirtual 316, 3) := dk_182 1 60 (dk_at dksX5_count_3 14 rfl rfl)
theorem dX5_count_100 : decode cX5_count 100 = .ok (.ireturn, 1) := dk_172 (dk_at dksX5_count_3 17 rfl rfl)
theorem dX5_count_101 : decode cX5_count 101 = .ok (.aload_n 0, 1) := dk_42 (dk_at dksX5_count_3 18 rfl rfl)
theorem dX5_count_102 : decode cX5_count 102 = .ok (.getfield 140, 3) := dk_180 0 140 (dk_at dksX5_count_3 19 rfl rfl)
theorem dX5_count_105 : decode cX5_count 105 = .ok (.iconst 1, 1) := dk_4 (dk_at dksX5_count_3 22 rfl rfl)
theorem dX5_count_106 : decode cX5_count 106 = .ok (.iaload, 1) := dk_46 (dk_at dksX5_count_3 23 rfl rfl)
theorem dX5_count_107 : decode cX5_count 107 = .ok (.ireturn, 1) := dk_172 (dk_at dksX5_count_4 0 rfl rfl)
theorem dX5_count_108 : decode cX5_count 108 = .ok (.aload_n 0, 1) := dk_42 (dk_at dksX5_count_4 1 rfl rfl)
theorem dX5_count_109 : decode cX5_count 109 = .ok (.getfield 11, 3) := dk_180 0 11 (dk_at dksX5_count_4 2 rfl rfl)
theorem dX5_count_112 : decode cX5_count 112 = .ok (.ireturn, 1) := dk_172 (dk_at dksX5_count_4 5 rfl rfl)
theorem dX5_count_113 : decode cX5_count 113 = .ok (.aload_n 0, 1) := dk_42 (dk_at dksX5_count_4 6 rfl rfl)
theorem dX5_count_114 : decode cX5_count 114 = .ok (.getfield 170, 3) := dk_180 0 170 (dk_at dksX5_count_4 7 rfl rfl)
theorem dX5_count_117 : decode cX5_count 117 = .ok (.ireturn, 1) := dk_172 (dk_at dksX5_count_4 10 rfl rfl)
theorem dX5_count_118 : decode cX5_count 118 = .ok (.iconst (-1), 1) := dk_2 (dk_at dksX5_count_4 11 rfl rfl)
theorem dX5_count_119 : decode cX5_count 119 = .ok (.ireturn, 1) := dk_172 (dk_at dksX5_count_4 12 rfl rfl)
def dkwX5_doneBits_1 : List UInt8 := [167, 0, 4, 3, 128, 60, 132, 2, 1, 167, 255, 227, 27, 172]
abbrev dktX5_doneBits_1 : List UInt8 := dkwX5_doneBits_1 ++ []
def dkwX5_doneBits_0 : List UInt8 := [3, 60, 3, 61, 28, 42, 180, 0, 151, 162, 0, 27, 27, 42, 28, 182, 1, 9, 153, 0, 9, 4, 28, 120]
abbrev dktX5_doneBits_0 : List UInt8 := dkwX5_doneBits_0 ++ dktX5_doneBits_1
theorem dksX5_doneBits_0 : cX5_doneBits.data.toList.drop 0 = dktX5_doneBits_0 := by decide +kernel
theorem dksX5_doneBits_1 : cX5_doneBits.data.toList.drop 24 = dktX5_doneBits_1 := dk_seg dksX5_doneBits_0 24 rfl rfl
theorem dX5_doneBits_0 : decode cX5_doneBits 0 = .ok (.iconst 0, 1) := dk_3 (dk_at dksX5_doneBits_0 0 rfl rfl)
theorem dX5_doneBits_1 : decode cX5_doneBits 1 = .ok (.istore_n 1, 1) := dk_60 (dk_at dksX5_doneBits_0 1 rfl rfl)
theorem dX5_doneBits_2 : decode cX5_doneBits 2 = .ok (.iconst 0, 1) := dk_3 (dk_at dksX5_doneBits_0 2 rfl rfl)
theorem dX5_doneBits_3 : decode cX5_doneBits 3 = .ok (.istore_n 2, 1) := dk_61 (dk_at dksX5_doneBits_0 3 rfl rfl)
theorem dX5_doneBits_4 : decode cX5_doneBits 4 = .ok (.iload_n 2, 1) := dk_28 (dk_at dksX5_doneBits_0 4 rfl rfl)
theorem dX5_doneBits_5 : decode cX5_doneBits 5 = .ok (.aload_n 0, 1) := dk_42 (dk_at dksX5_doneBits_0 5 rfl rfl)
theorem dX5_doneBits_6 : decode cX5_doneBits 6 = .ok (.getfield 151, 3) := dk_180 0 151 (dk_at dksX5_doneBits_0 6 rfl rfl)
theorem dX5_doneBits_9 : decode cX5_doneBits 9 = .ok (.if_icmp .ge 27, 3) := dk_162 0 27 (dk_at dksX5_doneBits_0 9 rfl rfl)
theorem dX5_doneBits_12 : decode cX5_doneBits 12 = .ok (.iload_n 1, 1) := dk_27 (dk_at dksX5_doneBits_0 12 rfl rfl)
theorem dX5_doneBits_13 : decode cX5_doneBits 13 = .ok (.aload_n 0, 1) := dk_42 (dk_at dksX5_doneBits_0 13 rfl rfl)
theorem dX5_doneBits_14 : decode cX5_doneBits 14 = .ok (.iload_n 2, 1) := dk_28 (dk_at dksX5_doneBits_0 14 rfl rfl)
theorem dX5_doneBits_15 : decode cX5_doneBits 15 = .ok (.invokevirtual 265, 3) := dk_182 1 9 (dk_at dksX5_doneBits_0 15 rfl rfl)
theorem dX5_doneBits_18 : decode cX5_doneBits 18 = .ok (.ifCond .eq 9, 3) := dk_153 0 9 (dk_at dksX5_doneBits_0 18 rfl rfl)
theorem dX5_doneBits_21 : decode cX5_doneBits 21 = .ok (.iconst 1, 1) := dk_4 (dk_at dksX5_doneBits_0 21 rfl rfl)
theorem dX5_doneBits_22 : decode cX5_doneBits 22 = .ok (.iload_n 2, 1) := dk_28 (dk_at dksX5_doneBits_0 22 rfl rfl)
theorem dX5_doneBits_23 : decode cX5_doneBits 23 = .ok (.ishl, 1) := dk_120 (dk_at dksX5_doneBits_0 23 rfl rfl)
theorem dX5_doneBits_24 : decode cX5_doneBits 24 = .ok (.goto 4, 3) := dk_167 0 4 (dk_at dksX5_doneBits_1 0 rfl rfl)
theorem dX5_doneBits_27 : decode cX5_doneBits 27 = .ok (.iconst 0, 1) := dk_3 (dk_at dksX5_doneBits_1 3 rfl rfl)
theorem dX5_doneBits_28 : decode cX5_doneBits 28 = .ok (.ior, 1) := dk_128 (dk_at dksX5_doneBits_1 4 rfl rfl)
theorem dX5_doneBits_29 : decode cX5_doneBits 29 = .ok (.istore_n 1, 1) := dk_60 (dk_at dksX5_doneBits_1 5 rfl rfl)
theorem dX5_doneBits_30 : decode cX5_doneBits 30 = .ok (.iinc 2 1, 3) := dk_132 2 1 (dk_at dksX5_doneBits_1 6 rfl rfl)
theorem dX5_doneBits_33 : decode cX5_doneBits 33 = .ok (.goto (-29), 3) := dk_167 255 227 (dk_at dksX5_doneBits_1 9 rfl rfl)
theorem dX5_doneBits_36 : decode cX5_doneBits 36 = .ok (.iload_n 1, 1) := dk_27 (dk_at dksX5_doneBits_1 12 rfl rfl)
theorem dX5_doneBits_37 : decode cX5_doneBits 37 = .ok (.ireturn, 1) := dk_172 (dk_at dksX5_doneBits_1 13 rfl rfl)
def dkwX5_init_14 : List UInt8 := [17, 1, 125, 188, 10, 181, 1, 216, 177]
abbrev dktX5_init_14 : List UInt8 := dkwX5_init_14 ++ []
def dkwX5_init_13 : List UInt8 := [181, 1, 200, 42, 6, 188, 10, 89, 3, 2, 79, 89, 4, 2, 79, 89, 5, 2, 79, 181, 1, 213, 42]
abbrev dktX5_init_13 : List UInt8 := dkwX5_init_13 ++ dktX5_init_14
def dkwX5_init_12 : List UInt8 := [181, 1, 184, 42, 16, 9, 188, 10, 181, 1, 187, 42, 16, 36, 188, 10, 181, 1, 190, 42, 16, 9, 188, 11]
abbrev dktX5_init_12 : List UInt8 := dkwX5_init_12 ++ dktX5_init_13
def dkwX5_init_11 : List UInt8 := [181, 1, 155, 42, 16, 8, 188, 10, 181, 1, 169, 42, 16, 9, 188, 10, 181, 1, 181, 42, 16, 9, 188, 10]
abbrev dktX5_init_11 : List UInt8 := dkwX5_init_11 ++ dktX5_init_12
def dkwX5_init_10 : List UInt8 := [17, 12, 0, 188, 11, 181, 1, 138, 42, 17, 12, 0, 188, 11, 181, 1, 118, 42, 16, 8, 188, 10]
abbrev dktX5_init_10 : List UInt8 := dkwX5_init_10 ++ dktX5_init_11
def dkwX5_init_9 : List UInt8 := [188, 10, 181, 1, 82, 42, 17, 12, 0, 188, 10, 181, 1, 91, 42, 16, 36, 188, 10, 181, 1, 79, 42]
abbrev dktX5_init_9 : List UInt8 := dkwX5_init_9 ++ dktX5_init_10
def dkwX5_init_8 : List UInt8 := [181, 0, 246, 42, 16, 60, 188, 10, 181, 0, 173, 42, 16, 6, 188, 10, 181, 1, 31, 42, 17, 12, 0]
abbrev dktX5_init_8 : List UInt8 := dkwX5_init_8 ++ dktX5_init_9
def dkwX5_init_7 : List UInt8 := [181, 1, 66, 42, 16, 96, 188, 10, 181, 0, 196, 42, 5, 188, 10, 181, 0, 199, 42, 16, 48, 188, 10]
abbrev dktX5_init_7 : List UInt8 := dkwX5_init_7 ++ dktX5_init_8
def dkwX5_init_6 : List UInt8 := [181, 0, 163, 42, 16, 8, 188, 10, 181, 0, 157, 42, 16, 127, 188, 10, 181, 0, 140, 42, 16, 127, 188, 10]
abbrev dktX5_init_6 : List UInt8 := dkwX5_init_6 ++ dktX5_init_7
def dkwX5_init_5 : List UInt8 := [181, 0, 146, 42, 16, 8, 188, 10, 181, 0, 160, 42, 16, 8, 188, 10, 181, 0, 143, 42, 16, 8, 188, 10]
abbrev dktX5_init_5 : List UInt8 := dkwX5_init_5 ++ dktX5_init_6
def dkwX5_init_4 : List UInt8 := [181, 0, 108, 42, 16, 10, 181, 0, 111, 42, 16, 8, 188, 10, 181, 0, 154, 42, 16, 8, 188, 10]
abbrev dktX5_init_4 : List UInt8 := dkwX5_init_4 ++ dktX5_init_5
def dkwX5_init_3 : List UInt8 := [188, 10, 181, 0, 53, 42, 17, 2, 88, 188, 4, 181, 0, 56, 42, 16, 36, 188, 10, 181, 0, 60, 42, 7]
abbrev dktX5_init_3 : List UInt8 := dkwX5_init_3 ++ dktX5_init_4
def dkwX5_init_2 : List UInt8 := [188, 10, 181, 0, 44, 42, 16, 6, 188, 10, 181, 0, 47, 42, 16, 6, 188, 10, 181, 0, 50, 42, 16, 6]
abbrev dktX5_init_2 : List UInt8 := dkwX5_init_2 ++ dktX5_init_3
def dkwX5_init_1 : List UInt8 := [188, 10, 181, 0, 35, 42, 16, 6, 188, 10, 181, 0, 38, 42, 16, 6, 188, 10, 181, 0, 41, 42, 16, 6]
abbrev dktX5_init_1 : List UInt8 := dkwX5_init_1 ++ dktX5_init_2
def dkwX5_init_0 : List UInt8 := [42, 183, 1, 222, 42, 16, 24, 188, 11, 181, 0, 7, 42, 16, 6, 188, 10, 181, 0, 31, 42, 16, 6]
abbrev dktX5_init_0 : List UInt8 := dkwX5_init_0 ++ dktX5_init_1
theorem dksX5_init_0 : cX5_init.data.toList.drop 0 = dktX5_init_0 := by decide +kernel
theorem dksX5_init_1 : cX5_init.data.toList.drop 23 = dktX5_init_1 := dk_seg dksX5_init_0 23 rfl rfl
theorem dksX5_init_2 : cX5_init.data.toList.drop 47 = dktX5_init_2 := dk_seg dksX5_init_1 24 rfl rfl
theorem dksX5_init_3 : cX5_init.data.toList.drop 71 = dktX5_init_3 := dk_seg dksX5_init_2 24 rfl rfl
theorem dksX5_init_4 : cX5_init.data.toList.drop 95 = dktX5_init_4 := dk_seg dksX5_init_3 24 rfl rfl
theorem dksX5_init_5 : cX5_init.data.toList.drop 117 = dktX5_init_5 := dk_seg dksX5_init_4 22 rfl rfl
theorem dksX5_init_6 : cX5_init.data.toList.drop 141 = dktX5_init_6 := dk_seg dksX5_init_5 24 rfl rfl
theorem dksX5_init_7 : cX5_init.data.toList.drop 165 = dktX5_init_7 := dk_seg dksX5_init_6 24 rfl rfl
theorem dksX5_init_8 : cX5_init.data.toList.drop 188 = dktX5_init_8 := dk_seg dksX5_init_7 23 rfl rfl
theorem dksX5_init_9 : cX5_init.data.toList.drop 211 = dktX5_init_9 := dk_seg dksX5_init_8 23 rfl rfl
theorem dksX5_init_10 : cX5_init.data.toList.drop 234 = dktX5_init_10 := dk_seg dksX5_init_9 23 rfl rfl
theorem dksX5_init_11 : cX5_init.data.toList.drop 256 = dktX5_init_11 := dk_seg dksX5_init_10 22 rfl rfl
theorem dksX5_init_12 : cX5_init.data.toList.drop 280 = dktX5_init_12 := dk_seg dksX5_init_11 24 rfl rfl
theorem dksX5_init_13 : cX5_init.data.toList.drop 304 = dktX5_init_13 := dk_seg dksX5_init_12 24 rfl rfl
theorem dksX5_init_14 : cX5_init.data.toList.drop 327 = dktX5_init_14 := dk_seg dksX5_init_13 23 rfl rfl
theorem dX5_init_0 : decode cX5_init 0 = .ok (.aload_n 0, 1) := dk_42 (dk_at dksX5_init_0 0 rfl rfl)
theorem dX5_init_1 : decode cX5_init 1 = .ok (.invokespecial 478, 3) := dk_183 1 222 (dk_at dksX5_init_0 1 rfl rfl)
theorem dX5_init_4 : decode cX5_init 4 = .ok (.aload_n 0, 1) := dk_42 (dk_at dksX5_init_0 4 rfl rfl)
theorem dX5_init_5 : decode cX5_init 5 = .ok (.bipush 24, 2) := dk_16 24 (dk_at dksX5_init_0 5 rfl rfl)
theorem dX5_init_7 : decode cX5_init 7 = .ok (.newarray .long, 2) := dk_188_11 (dk_at dksX5_init_0 7 rfl rfl)
theorem dX5_init_9 : decode cX5_init 9 = .ok (.putfield 7, 3) := dk_181 0 7 (dk_at dksX5_init_0 9 rfl rfl)
theorem dX5_init_12 : decode cX5_init 12 = .ok (.aload_n 0, 1) := dk_42 (dk_at dksX5_init_0 12 rfl rfl)
theorem dX5_init_13 : decode cX5_init 13 = .ok (.bipush 6, 2) := dk_16 6 (dk_at dksX5_init_0 13 rfl rfl)
theorem dX5_init_15 : decode cX5_init 15 = .ok (.newarray .int, 2) := dk_188_10 (dk_at dksX5_init_0 15 rfl rfl)
theorem dX5_init_17 : decode cX5_init 17 = .ok (.putfield 31, 3) := dk_181 0 31 (dk_at dksX5_init_0 17 rfl rfl)
theorem dX5_init_20 : decode cX5_init 20 = .ok (.aload_n 0, 1) := dk_42 (dk_at dksX5_init_0 20 rfl rfl)
theorem dX5_init_21 : decode cX5_init 21 = .ok (.bipush 6, 2) := dk_16 6 (dk_at dksX5_init_0 21 rfl rfl)
theorem dX5_init_23 : decode cX5_init 23 = .ok (.newarray .int, 2) := dk_188_10 (dk_at dksX5_init_1 0 rfl rfl)
theorem dX5_init_25 : decode cX5_init 25 = .ok (.putfield 35, 3) := dk_181 0 35 (dk_at dksX5_init_1 2 rfl rfl)
theorem dX5_init_28 : decode cX5_init 28 = .ok (.aload_n 0, 1) := dk_42 (dk_at dksX5_init_1 5 rfl rfl)
theorem dX5_init_29 : decode cX5_init 29 = .ok (.bipush 6, 2) := dk_16 6 (dk_at dksX5_init_1 6 rfl rfl)
theorem dX5_init_31 : decode cX5_init 31 = .ok (.newarray .int, 2) := dk_188_10 (dk_at dksX5_init_1 8 rfl rfl)
theorem dX5_init_33 : decode cX5_init 33 = .ok (.putfield 38, 3) := dk_181 0 38 (dk_at dksX5_init_1 10 rfl rfl)
theorem dX5_init_36 : decode cX5_init 36 = .ok (.aload_n 0, 1) := dk_42 (dk_at dksX5_init_1 13 rfl rfl)
theorem dX5_init_37 : decode cX5_init 37 = .ok (.bipush 6, 2) := dk_16 6 (dk_at dksX5_init_1 14 rfl rfl)
theorem dX5_init_39 : decode cX5_init 39 = .ok (.newarray .int, 2) := dk_188_10 (dk_at dksX5_init_1 16 rfl rfl)
theorem dX5_init_41 : decode cX5_init 41 = .ok (.putfield 41, 3) := dk_181 0 41 (dk_at dksX5_init_1 18 rfl rfl)
theorem dX5_init_44 : decode cX5_init 44 = .ok (.aload_n 0, 1) := dk_42 (dk_at dksX5_init_1 21 rfl rfl)
theorem dX5_init_45 : decode cX5_init 45 = .ok (.bipush 6, 2) := dk_16 6 (dk_at dksX5_init_1 22 rfl rfl)
theorem dX5_init_47 : decode cX5_init 47 = .ok (.newarray .int, 2) := dk_188_10 (dk_at dksX5_init_2 0 rfl rfl)
theorem dX5_init_49 : decode cX5_init 49 = .ok (.putfield 44, 3) := dk_181 0 44 (dk_at dksX5_init_2 2 rfl rfl)
theorem dX5_init_52 : decode cX5_init 52 = .ok (.aload_n 0, 1) := dk_42 (dk_at dksX5_init_2 5 rfl rfl)
theorem dX5_init_53 : decode cX5_init 53 = .ok (.bipush 6, 2) := dk_16 6 (dk_at dksX5_init_2 6 rfl rfl)
theorem dX5_init_55 : decode cX5_init 55 = .ok (.newarray .int, 2) := dk_188_10 (dk_at dksX5_init_2 8 rfl rfl)
theorem dX5_init_57 : decode cX5_init 57 = .ok (.putfield 47, 3) := dk_181 0 47 (dk_at dksX5_init_2 10 rfl rfl)
theorem dX5_init_60 : decode cX5_init 60 = .ok (.aload_n 0, 1) := dk_42 (dk_at dksX5_init_2 13 rfl rfl)
theorem dX5_init_61 : decode cX5_init 61 = .ok (.bipush 6, 2) := dk_16 6 (dk_at dksX5_init_2 14 rfl rfl)
theorem dX5_init_63 : decode cX5_init 63 = .ok (.newarray .int, 2) := dk_188_10 (dk_at dksX5_init_2 16 rfl rfl)
theorem dX5_init_65 : decode cX5_init 65 = .ok (.putfield 50, 3) := dk_181 0 50 (dk_at dksX5_init_2 18 rfl rfl)
theorem dX5_init_68 : decode cX5_init 68 = .ok (.aload_n 0, 1) := dk_42 (dk_at dksX5_init_2 21 rfl rfl)
theorem dX5_init_69 : decode cX5_init 69 = .ok (.bipush 6, 2) := dk_16 6 (dk_at dksX5_init_2 22 rfl rfl)
theorem dX5_init_71 : decode cX5_init 71 = .ok (.newarray .int, 2) := dk_188_10 (dk_at dksX5_init_3 0 rfl rfl)
theorem dX5_init_73 : decode cX5_init 73 = .ok (.putfield 53, 3) := dk_181 0 53 (dk_at dksX5_init_3 2 rfl rfl)
theorem dX5_init_76 : decode cX5_init 76 = .ok (.aload_n 0, 1) := dk_42 (dk_at dksX5_init_3 5 rfl rfl)
theorem dX5_init_77 : decode cX5_init 77 = .ok (.sipush 600, 3) := dk_17 2 88 (dk_at dksX5_init_3 6 rfl rfl)
theorem dX5_init_80 : decode cX5_init 80 = .ok (.newarray .boolean, 2) := dk_188_4 (dk_at dksX5_init_3 9 rfl rfl)
theorem dX5_init_82 : decode cX5_init 82 = .ok (.putfield 56, 3) := dk_181 0 56 (dk_at dksX5_init_3 11 rfl rfl)
theorem dX5_init_85 : decode cX5_init 85 = .ok (.aload_n 0, 1) := dk_42 (dk_at dksX5_init_3 14 rfl rfl)
theorem dX5_init_86 : decode cX5_init 86 = .ok (.bipush 36, 2) := dk_16 36 (dk_at dksX5_init_3 15 rfl rfl)
theorem dX5_init_88 : decode cX5_init 88 = .ok (.newarray .int, 2) := dk_188_10 (dk_at dksX5_init_3 17 rfl rfl)
theorem dX5_init_90 : decode cX5_init 90 = .ok (.putfield 60, 3) := dk_181 0 60 (dk_at dksX5_init_3 19 rfl rfl)
theorem dX5_init_93 : decode cX5_init 93 = .ok (.aload_n 0, 1) := dk_42 (dk_at dksX5_init_3 22 rfl rfl)
theorem dX5_init_94 : decode cX5_init 94 = .ok (.iconst 4, 1) := dk_7 (dk_at dksX5_init_3 23 rfl rfl)
theorem dX5_init_95 : decode cX5_init 95 = .ok (.putfield 108, 3) := dk_181 0 108 (dk_at dksX5_init_4 0 rfl rfl)
theorem dX5_init_98 : decode cX5_init 98 = .ok (.aload_n 0, 1) := dk_42 (dk_at dksX5_init_4 3 rfl rfl)
theorem dX5_init_99 : decode cX5_init 99 = .ok (.bipush 10, 2) := dk_16 10 (dk_at dksX5_init_4 4 rfl rfl)
theorem dX5_init_101 : decode cX5_init 101 = .ok (.putfield 111, 3) := dk_181 0 111 (dk_at dksX5_init_4 6 rfl rfl)
theorem dX5_init_104 : decode cX5_init 104 = .ok (.aload_n 0, 1) := dk_42 (dk_at dksX5_init_4 9 rfl rfl)
theorem dX5_init_105 : decode cX5_init 105 = .ok (.bipush 8, 2) := dk_16 8 (dk_at dksX5_init_4 10 rfl rfl)
theorem dX5_init_107 : decode cX5_init 107 = .ok (.newarray .int, 2) := dk_188_10 (dk_at dksX5_init_4 12 rfl rfl)
theorem dX5_init_109 : decode cX5_init 109 = .ok (.putfield 154, 3) := dk_181 0 154 (dk_at dksX5_init_4 14 rfl rfl)
theorem dX5_init_112 : decode cX5_init 112 = .ok (.aload_n 0, 1) := dk_42 (dk_at dksX5_init_4 17 rfl rfl)
theorem dX5_init_113 : decode cX5_init 113 = .ok (.bipush 8, 2) := dk_16 8 (dk_at dksX5_init_4 18 rfl rfl)
theorem dX5_init_115 : decode cX5_init 115 = .ok (.newarray .int, 2) := dk_188_10 (dk_at dksX5_init_4 20 rfl rfl)
theorem dX5_init_117 : decode cX5_init 117 = .ok (.putfield 146, 3) := dk_181 0 146 (dk_at dksX5_init_5 0 rfl rfl)
theorem dX5_init_120 : decode cX5_init 120 = .ok (.aload_n 0, 1) := dk_42 (dk_at dksX5_init_5 3 rfl rfl)
theorem dX5_init_121 : decode cX5_init 121 = .ok (.bipush 8, 2) := dk_16 8 (dk_at dksX5_init_5 4 rfl rfl)
theorem dX5_init_123 : decode cX5_init 123 = .ok (.newarray .int, 2) := dk_188_10 (dk_at dksX5_init_5 6 rfl rfl)
theorem dX5_init_125 : decode cX5_init 125 = .ok (.putfield 160, 3) := dk_181 0 160 (dk_at dksX5_init_5 8 rfl rfl)
theorem dX5_init_128 : decode cX5_init 128 = .ok (.aload_n 0, 1) := dk_42 (dk_at dksX5_init_5 11 rfl rfl)
theorem dX5_init_129 : decode cX5_init 129 = .ok (.bipush 8, 2) := dk_16 8 (dk_at dksX5_init_5 12 rfl rfl)
theorem dX5_init_131 : decode cX5_init 131 = .ok (.newarray .int, 2) := dk_188_10 (dk_at dksX5_init_5 14 rfl rfl)
theorem dX5_init_133 : decode cX5_init 133 = .ok (.putfield 143, 3) := dk_181 0 143 (dk_at dksX5_init_5 16 rfl rfl)
theorem dX5_init_136 : decode cX5_init 136 = .ok (.aload_n 0, 1) := dk_42 (dk_at dksX5_init_5 19 rfl rfl)
theorem dX5_init_137 : decode cX5_init 137 = .ok (.bipush 8, 2) := dk_16 8 (dk_at dksX5_init_5 20 rfl rfl)
theorem dX5_init_139 : decode cX5_init 139 = .ok (.newarray .int, 2) := dk_188_10 (dk_at dksX5_init_5 22 rfl rfl)
theorem dX5_init_141 : decode cX5_init 141 = .ok (.putfield 163, 3) := dk_181 0 163 (dk_at dksX5_init_6 0 rfl rfl)
theorem dX5_init_144 : decode cX5_init 144 = .ok (.aload_n 0, 1) := dk_42 (dk_at dksX5_init_6 3 rfl rfl)
theorem dX5_init_145 : decode cX5_init 145 = .ok (.bipush 8, 2) := dk_16 8 (dk_at dksX5_init_6 4 rfl rfl)
theorem dX5_init_147 : decode cX5_init 147 = .ok (.newarray .int, 2) := dk_188_10 (dk_at dksX5_init_6 6 rfl rfl)
theorem dX5_init_149 : decode cX5_init 149 = .ok (.putfield 157, 3) := dk_181 0 157 (dk_at dksX5_init_6 8 rfl rfl)
theorem dX5_init_152 : decode cX5_init 152 = .ok (.aload_n 0, 1) := dk_42 (dk_at dksX5_init_6 11 rfl rfl)
theorem dX5_init_153 : decode cX5_init 153 = .ok (.bipush 127, 2) := dk_16 127 (dk_at dksX5_init_6 12 rfl rfl)
theorem dX5_init_155 : decode cX5_init 155 = .ok (.newarray .int, 2) := dk_188_10 (dk_at dksX5_init_6 14 rfl rfl)
theorem dX5_init_157 : decode cX5_init 157 = .ok (.putfield 140, 3) := dk_181 0 140 (dk_at dksX5_init_6 16 rfl rfl)
theorem dX5_init_160 : decode cX5_init 160 = .ok (.aload_n 0, 1) := dk_42 (dk_at dksX5_init_6 19 rfl rfl)
theorem dX5_init_161 : decode cX5_init 161 = .ok (.bipush 127, 2) := dk_16 127 (dk_at dksX5_init_6 20 rfl rfl)
theorem dX5_init_163 : decode cX5_init 163 = .ok (.newarray .int, 2) := dk_188_10 (dk_at dksX5_init_6 22 rfl rfl)
theorem dX5_init_165 : decode cX5_init 165 = .ok (.putfield 322, 3) := dk_181 1 66 (dk_at dksX5_init_7 0 rfl rfl)
theorem dX5_init_168 : decode cX5_init 168 = .ok (.aload_n 0, 1) := dk_42 (dk_at dksX5_init_7 3 rfl rfl)
theorem dX5_init_169 : decode cX5_init 169 = .ok (.bipush 96, 2) := dk_16 96 (dk_at dksX5_init_7 4 rfl rfl)
theorem dX5_init_171 : decode cX5_init 171 = .ok (.newarray .int, 2) := dk_188_10 (dk_at dksX5_init_7 6 rfl rfl)
theorem dX5_init_173 : decode cX5_init 173 = .ok (.putfield 196, 3) := dk_181 0 196 (dk_at dksX5_init_7 8 rfl rfl)
theorem dX5_init_176 : decode cX5_init 176 = .ok (.aload_n 0, 1) := dk_42 (dk_at dksX5_init_7 11 rfl rfl)
theorem dX5_init_177 : decode cX5_init 177 = .ok (.iconst 2, 1) := dk_5 (dk_at dksX5_init_7 12 rfl rfl)
theorem dX5_init_178 : decode cX5_init 178 = .ok (.newarray .int, 2) := dk_188_10 (dk_at dksX5_init_7 13 rfl rfl)
theorem dX5_init_180 : decode cX5_init 180 = .ok (.putfield 199, 3) := dk_181 0 199 (dk_at dksX5_init_7 15 rfl rfl)
theorem dX5_init_183 : decode cX5_init 183 = .ok (.aload_n 0, 1) := dk_42 (dk_at dksX5_init_7 18 rfl rfl)
theorem dX5_init_184 : decode cX5_init 184 = .ok (.bipush 48, 2) := dk_16 48 (dk_at dksX5_init_7 19 rfl rfl)
theorem dX5_init_186 : decode cX5_init 186 = .ok (.newarray .int, 2) := dk_188_10 (dk_at dksX5_init_7 21 rfl rfl)
theorem dX5_init_188 : decode cX5_init 188 = .ok (.putfield 246, 3) := dk_181 0 246 (dk_at dksX5_init_8 0 rfl rfl)
theorem dX5_init_191 : decode cX5_init 191 = .ok (.aload_n 0, 1) := dk_42 (dk_at dksX5_init_8 3 rfl rfl)
theorem dX5_init_192 : decode cX5_init 192 = .ok (.bipush 60, 2) := dk_16 60 (dk_at dksX5_init_8 4 rfl rfl)
theorem dX5_init_194 : decode cX5_init 194 = .ok (.newarray .int, 2) := dk_188_10 (dk_at dksX5_init_8 6 rfl rfl)
theorem dX5_init_196 : decode cX5_init 196 = .ok (.putfield 173, 3) := dk_181 0 173 (dk_at dksX5_init_8 8 rfl rfl)
theorem dX5_init_199 : decode cX5_init 199 = .ok (.aload_n 0, 1) := dk_42 (dk_at dksX5_init_8 11 rfl rfl)
theorem dX5_init_200 : decode cX5_init 200 = .ok (.bipush 6, 2) := dk_16 6 (dk_at dksX5_init_8 12 rfl rfl)
theorem dX5_init_202 : decode cX5_init 202 = .ok (.newarray .int, 2) := dk_188_10 (dk_at dksX5_init_8 14 rfl rfl)
theorem dX5_init_204 : decode cX5_init 204 = .ok (.putfield 287, 3) := dk_181 1 31 (dk_at dksX5_init_8 16 rfl rfl)
theorem dX5_init_207 : decode cX5_init 207 = .ok (.aload_n 0, 1) := dk_42 (dk_at dksX5_init_8 19 rfl rfl)
theorem dX5_init_208 : decode cX5_init 208 = .ok (.sipush 3072, 3) := dk_17 12 0 (dk_at dksX5_init_8 20 rfl rfl)
theorem dX5_init_211 : decode cX5_init 211 = .ok (.newarray .int, 2) := dk_188_10 (dk_at dksX5_init_9 0 rfl rfl)
theorem dX5_init_213 : decode cX5_init 213 = .ok (.putfield 338, 3) := dk_181 1 82 (dk_at dksX5_init_9 2 rfl rfl)
theorem dX5_init_216 : decode cX5_init 216 = .ok (.aload_n 0, 1) := dk_42 (dk_at dksX5_init_9 5 rfl rfl)
theorem dX5_init_217 : decode cX5_init 217 = .ok (.sipush 3072, 3) := dk_17 12 0 (dk_at dksX5_init_9 6 rfl rfl)
theorem dX5_init_220 : decode cX5_init 220 = .ok (.newarray .int, 2) := dk_188_10 (dk_at dksX5_init_9 9 rfl rfl)
theorem dX5_init_222 : decode cX5_init 222 = .ok (.putfield 347, 3) := dk_181 1 91 (dk_at dksX5_init_9 11 rfl rfl)
theorem dX5_init_225 : decode cX5_init 225 = .ok (.aload_n 0, 1) := dk_42 (dk_at dksX5_init_9 14 rfl rfl)
theorem dX5_init_226 : decode cX5_init 226 = .ok (.bipush 36, 2) := dk_16 36 (dk_at dksX5_init_9 15 rfl rfl)
theorem dX5_init_228 : decode cX5_init 228 = .ok (.newarray .int, 2) := dk_188_10 (dk_at dksX5_init_9 17 rfl rfl)
theorem dX5_init_230 : decode cX5_init 230 = .ok (.putfield 335, 3) := dk_181 1 79 (dk_at dksX5_init_9 19 rfl rfl)
theorem dX5_init_233 : decode cX5_init 233 = .ok (.aload_n 0, 1) := dk_42 (dk_at dksX5_init_9 22 rfl rfl)
theorem dX5_init_234 : decode cX5_init 234 = .ok (.sipush 3072, 3) := dk_17 12 0 (dk_at dksX5_init_10 0 rfl rfl)
theorem dX5_init_237 : decode cX5_init 237 = .ok (.newarray .long, 2) := dk_188_11 (dk_at dksX5_init_10 3 rfl rfl)
theorem dX5_init_239 : decode cX5_init 239 = .ok (.putfield 394, 3) := dk_181 1 138 (dk_at dksX5_init_10 5 rfl rfl)
theorem dX5_init_242 : decode cX5_init 242 = .ok (.aload_n 0, 1) := dk_42 (dk_at dksX5_init_10 8 rfl rfl)
theorem dX5_init_243 : decode cX5_init 243 = .ok (.sipush 3072, 3) := dk_17 12 0 (dk_at dksX5_init_10 9 rfl rfl)
theorem dX5_init_246 : decode cX5_init 246 = .ok (.newarray .long, 2) := dk_188_11 (dk_at dksX5_init_10 12 rfl rfl)
theorem dX5_init_248 : decode cX5_init 248 = .ok (.putfield 374, 3) := dk_181 1 118 (dk_at dksX5_init_10 14 rfl rfl)
theorem dX5_init_251 : decode cX5_init 251 = .ok (.aload_n 0, 1) := dk_42 (dk_at dksX5_init_10 17 rfl rfl)
theorem dX5_init_252 : decode cX5_init 252 = .ok (.bipush 8, 2) := dk_16 8 (dk_at dksX5_init_10 18 rfl rfl)
theorem dX5_init_254 : decode cX5_init 254 = .ok (.newarray .int, 2) := dk_188_10 (dk_at dksX5_init_10 20 rfl rfl)
theorem dX5_init_256 : decode cX5_init 256 = .ok (.putfield 411, 3) := dk_181 1 155 (dk_at dksX5_init_11 0 rfl rfl)
theorem dX5_init_259 : decode cX5_init 259 = .ok (.aload_n 0, 1) := dk_42 (dk_at dksX5_init_11 3 rfl rfl)
theorem dX5_init_260 : decode cX5_init 260 = .ok (.bipush 8, 2) := dk_16 8 (dk_at dksX5_init_11 4 rfl rfl)
theorem dX5_init_262 : decode cX5_init 262 = .ok (.newarray .int, 2) := dk_188_10 (dk_at dksX5_init_11 6 rfl rfl)
theorem dX5_init_264 : decode cX5_init 264 = .ok (.putfield 425, 3) := dk_181 1 169 (dk_at dksX5_init_11 8 rfl rfl)
theorem dX5_init_267 : decode cX5_init 267 = .ok (.aload_n 0, 1) := dk_42 (dk_at dksX5_init_11 11 rfl rfl)
theorem dX5_init_268 : decode cX5_init 268 = .ok (.bipush 9, 2) := dk_16 9 (dk_at dksX5_init_11 12 rfl rfl)
theorem dX5_init_270 : decode cX5_init 270 = .ok (.newarray .int, 2) := dk_188_10 (dk_at dksX5_init_11 14 rfl rfl)
theorem dX5_init_272 : decode cX5_init 272 = .ok (.putfield 437, 3) := dk_181 1 181 (dk_at dksX5_init_11 16 rfl rfl)
theorem dX5_init_275 : decode cX5_init 275 = .ok (.aload_n 0, 1) := dk_42 (dk_at dksX5_init_11 19 rfl rfl)
theorem dX5_init_276 : decode cX5_init 276 = .ok (.bipush 9, 2) := dk_16 9 (dk_at dksX5_init_11 20 rfl rfl)
theorem dX5_init_278 : decode cX5_init 278 = .ok (.newarray .int, 2) := dk_188_10 (dk_at dksX5_init_11 22 rfl rfl)
theorem dX5_init_280 : decode cX5_init 280 = .ok (.putfield 440, 3) := dk_181 1 184 (dk_at dksX5_init_12 0 rfl rfl)
theorem dX5_init_283 : decode cX5_init 283 = .ok (.aload_n 0, 1) := dk_42 (dk_at dksX5_init_12 3 rfl rfl)
theorem dX5_init_284 : decode cX5_init 284 = .ok (.bipush 9, 2) := dk_16 9 (dk_at dksX5_init_12 4 rfl rfl)
theorem dX5_init_286 : decode cX5_init 286 = .ok (.newarray .int, 2) := dk_188_10 (dk_at dksX5_init_12 6 rfl rfl)
theorem dX5_init_288 : decode cX5_init 288 = .ok (.putfield 443, 3) := dk_181 1 187 (dk_at dksX5_init_12 8 rfl rfl)
theorem dX5_init_291 : decode cX5_init 291 = .ok (.aload_n 0, 1) := dk_42 (dk_at dksX5_init_12 11 rfl rfl)
theorem dX5_init_292 : decode cX5_init 292 = .ok (.bipush 36, 2) := dk_16 36 (dk_at dksX5_init_12 12 rfl rfl)
theorem dX5_init_294 : decode cX5_init 294 = .ok (.newarray .int, 2) := dk_188_10 (dk_at dksX5_init_12 14 rfl rfl)
theorem dX5_init_296 : decode cX5_init 296 = .ok (.putfield 446, 3) := dk_181 1 190 (dk_at dksX5_init_12 16 rfl rfl)
theorem dX5_init_299 : decode cX5_init 299 = .ok (.aload_n 0, 1) := dk_42 (dk_at dksX5_init_12 19 rfl rfl)
theorem dX5_init_300 : decode cX5_init 300 = .ok (.bipush 9, 2) := dk_16 9 (dk_at dksX5_init_12 20 rfl rfl)
theorem dX5_init_302 : decode cX5_init 302 = .ok (.newarray .long, 2) := dk_188_11 (dk_at dksX5_init_12 22 rfl rfl)
theorem dX5_init_304 : decode cX5_init 304 = .ok (.putfield 456, 3) := dk_181 1 200 (dk_at dksX5_init_13 0 rfl rfl)
theorem dX5_init_307 : decode cX5_init 307 = .ok (.aload_n 0, 1) := dk_42 (dk_at dksX5_init_13 3 rfl rfl)
theorem dX5_init_308 : decode cX5_init 308 = .ok (.iconst 3, 1) := dk_6 (dk_at dksX5_init_13 4 rfl rfl)
theorem dX5_init_309 : decode cX5_init 309 = .ok (.newarray .int, 2) := dk_188_10 (dk_at dksX5_init_13 5 rfl rfl)
theorem dX5_init_311 : decode cX5_init 311 = .ok (.dup, 1) := dk_89 (dk_at dksX5_init_13 7 rfl rfl)
theorem dX5_init_312 : decode cX5_init 312 = .ok (.iconst 0, 1) := dk_3 (dk_at dksX5_init_13 8 rfl rfl)
theorem dX5_init_313 : decode cX5_init 313 = .ok (.iconst (-1), 1) := dk_2 (dk_at dksX5_init_13 9 rfl rfl)
theorem dX5_init_314 : decode cX5_init 314 = .ok (.iastore, 1) := dk_79 (dk_at dksX5_init_13 10 rfl rfl)
theorem dX5_init_315 : decode cX5_init 315 = .ok (.dup, 1) := dk_89 (dk_at dksX5_init_13 11 rfl rfl)
theorem dX5_init_316 : decode cX5_init 316 = .ok (.iconst 1, 1) := dk_4 (dk_at dksX5_init_13 12 rfl rfl)
theorem dX5_init_317 : decode cX5_init 317 = .ok (.iconst (-1), 1) := dk_2 (dk_at dksX5_init_13 13 rfl rfl)
theorem dX5_init_318 : decode cX5_init 318 = .ok (.iastore, 1) := dk_79 (dk_at dksX5_init_13 14 rfl rfl)
theorem dX5_init_319 : decode cX5_init 319 = .ok (.dup, 1) := dk_89 (dk_at dksX5_init_13 15 rfl rfl)
theorem dX5_init_320 : decode cX5_init 320 = .ok (.iconst 2, 1) := dk_5 (dk_at dksX5_init_13 16 rfl rfl)
theorem dX5_init_321 : decode cX5_init 321 = .ok (.iconst (-1), 1) := dk_2 (dk_at dksX5_init_13 17 rfl rfl)
theorem dX5_init_322 : decode cX5_init 322 = .ok (.iastore, 1) := dk_79 (dk_at dksX5_init_13 18 rfl rfl)
theorem dX5_init_323 : decode cX5_init 323 = .ok (.putfield 469, 3) := dk_181 1 213 (dk_at dksX5_init_13 19 rfl rfl)
theorem dX5_init_326 : decode cX5_init 326 = .ok (.aload_n 0, 1) := dk_42 (dk_at dksX5_init_13 22 rfl rfl)
theorem dX5_init_327 : decode cX5_init 327 = .ok (.sipush 381, 3) := dk_17 1 125 (dk_at dksX5_init_14 0 rfl rfl)
theorem dX5_init_330 : decode cX5_init 330 = .ok (.newarray .int, 2) := dk_188_10 (dk_at dksX5_init_14 3 rfl rfl)
theorem dX5_init_332 : decode cX5_init 332 = .ok (.putfield 472, 3) := dk_181 1 216 (dk_at dksX5_init_14 5 rfl rfl)
theorem dX5_init_335 : decode cX5_init 335 = .ok (.return_, 1) := dk_177 (dk_at dksX5_init_14 8 rfl rfl)
def dkwX5_row_1 : List UInt8 := [181, 0, 3, 9, 173, 42, 180, 0, 7, 27, 47, 173]
abbrev dktX5_row_1 : List UInt8 := dkwX5_row_1 ++ []
def dkwX5_row_0 : List UInt8 := [42, 3, 181, 0, 3, 27, 133, 9, 42, 180, 0, 11, 4, 100, 133, 184, 0, 25, 154, 0, 10, 42, 4]
abbrev dktX5_row_0 : List UInt8 := dkwX5_row_0 ++ dktX5_row_1
theorem dksX5_row_0 : cX5_row.data.toList.drop 0 = dktX5_row_0 := by decide +kernel
theorem dksX5_row_1 : cX5_row.data.toList.drop 23 = dktX5_row_1 := dk_seg dksX5_row_0 23 rfl rfl
theorem dX5_row_0 : decode cX5_row 0 = .ok (.aload_n 0, 1) := dk_42 (dk_at dksX5_row_0 0 rfl rfl)
theorem dX5_row_1 : decode cX5_row 1 = .ok (.iconst 0, 1) := dk_3 (dk_at dksX5_row_0 1 rfl rfl)
theorem dX5_row_2 : decode cX5_row 2 = .ok (.putfield 3, 3) := dk_181 0 3 (dk_at dksX5_row_0 2 rfl rfl)
theorem dX5_row_5 : decode cX5_row 5 = .ok (.iload_n 1, 1) := dk_27 (dk_at dksX5_row_0 5 rfl rfl)
theorem dX5_row_6 : decode cX5_row 6 = .ok (.i2l, 1) := dk_133 (dk_at dksX5_row_0 6 rfl rfl)
theorem dX5_row_7 : decode cX5_row 7 = .ok (.lconst 0, 1) := dk_9 (dk_at dksX5_row_0 7 rfl rfl)
theorem dX5_row_8 : decode cX5_row 8 = .ok (.aload_n 0, 1) := dk_42 (dk_at dksX5_row_0 8 rfl rfl)
theorem dX5_row_9 : decode cX5_row 9 = .ok (.getfield 11, 3) := dk_180 0 11 (dk_at dksX5_row_0 9 rfl rfl)
theorem dX5_row_12 : decode cX5_row 12 = .ok (.iconst 1, 1) := dk_4 (dk_at dksX5_row_0 12 rfl rfl)
theorem dX5_row_13 : decode cX5_row 13 = .ok (.isub, 1) := dk_100 (dk_at dksX5_row_0 13 rfl rfl)
theorem dX5_row_14 : decode cX5_row 14 = .ok (.i2l, 1) := dk_133 (dk_at dksX5_row_0 14 rfl rfl)
theorem dX5_row_15 : decode cX5_row 15 = .ok (.invokestatic 25, 3) := dk_184 0 25 (dk_at dksX5_row_0 15 rfl rfl)
theorem dX5_row_18 : decode cX5_row 18 = .ok (.ifCond .ne 10, 3) := dk_154 0 10 (dk_at dksX5_row_0 18 rfl rfl)
theorem dX5_row_21 : decode cX5_row 21 = .ok (.aload_n 0, 1) := dk_42 (dk_at dksX5_row_0 21 rfl rfl)
theorem dX5_row_22 : decode cX5_row 22 = .ok (.iconst 1, 1) := dk_4 (dk_at dksX5_row_0 22 rfl rfl)
theorem dX5_row_23 : decode cX5_row 23 = .ok (.putfield 3, 3) := dk_181 0 3 (dk_at dksX5_row_1 0 rfl rfl)
theorem dX5_row_26 : decode cX5_row 26 = .ok (.lconst 0, 1) := dk_9 (dk_at dksX5_row_1 3 rfl rfl)
theorem dX5_row_27 : decode cX5_row 27 = .ok (.lreturn, 1) := dk_173 (dk_at dksX5_row_1 4 rfl rfl)
theorem dX5_row_28 : decode cX5_row 28 = .ok (.aload_n 0, 1) := dk_42 (dk_at dksX5_row_1 5 rfl rfl)
theorem dX5_row_29 : decode cX5_row 29 = .ok (.getfield 7, 3) := dk_180 0 7 (dk_at dksX5_row_1 6 rfl rfl)
theorem dX5_row_32 : decode cX5_row 32 = .ok (.iload_n 1, 1) := dk_27 (dk_at dksX5_row_1 9 rfl rfl)
theorem dX5_row_33 : decode cX5_row 33 = .ok (.laload, 1) := dk_47 (dk_at dksX5_row_1 10 rfl rfl)
theorem dX5_row_34 : decode cX5_row 34 = .ok (.lreturn, 1) := dk_173 (dk_at dksX5_row_1 11 rfl rfl)
