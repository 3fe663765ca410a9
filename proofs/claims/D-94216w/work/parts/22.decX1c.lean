set_option maxRecDepth 100000
def dkwX1_kept_0 : List UInt8 := [16, 60, 42, 180, 0, 62, 180, 1, 4, 184, 0, 163, 172]
abbrev dktX1_kept_0 : List UInt8 := dkwX1_kept_0 ++ []
theorem dksX1_kept_0 : cX1_kept.data.toList.drop 0 = dktX1_kept_0 := by decide +kernel
theorem dX1_kept_0 : decode cX1_kept 0 = .ok (.bipush 60, 2) := dk_16 60 (dk_at dksX1_kept_0 0 rfl rfl)
theorem dX1_kept_2 : decode cX1_kept 2 = .ok (.aload_n 0, 1) := dk_42 (dk_at dksX1_kept_0 2 rfl rfl)
theorem dX1_kept_3 : decode cX1_kept 3 = .ok (.getfield 62, 3) := dk_180 0 62 (dk_at dksX1_kept_0 3 rfl rfl)
theorem dX1_kept_6 : decode cX1_kept 6 = .ok (.getfield 260, 3) := dk_180 1 4 (dk_at dksX1_kept_0 6 rfl rfl)
theorem dX1_kept_9 : decode cX1_kept 9 = .ok (.invokestatic 163, 3) := dk_184 0 163 (dk_at dksX1_kept_0 9 rfl rfl)
theorem dX1_kept_12 : decode cX1_kept 12 = .ok (.ireturn, 1) := dk_172 (dk_at dksX1_kept_0 12 rfl rfl)
def dkwX1_tellPart_1 : List UInt8 := [109, 182, 0, 101, 177]
abbrev dktX1_tellPart_1 : List UInt8 := dkwX1_tellPart_1 ++ []
def dkwX1_tellPart_0 : List UInt8 := [31, 33, 184, 0, 97, 55, 5, 42, 3, 181, 0, 94, 42, 31, 22, 5, 109, 182, 0, 101, 42, 33, 22, 5]
abbrev dktX1_tellPart_0 : List UInt8 := dkwX1_tellPart_0 ++ dktX1_tellPart_1
theorem dksX1_tellPart_0 : cX1_tellPart.data.toList.drop 0 = dktX1_tellPart_0 := by decide +kernel
theorem dksX1_tellPart_1 : cX1_tellPart.data.toList.drop 24 = dktX1_tellPart_1 := dk_seg dksX1_tellPart_0 24 rfl rfl
theorem dX1_tellPart_0 : decode cX1_tellPart 0 = .ok (.lload_n 1, 1) := dk_31 (dk_at dksX1_tellPart_0 0 rfl rfl)
theorem dX1_tellPart_1 : decode cX1_tellPart 1 = .ok (.lload_n 3, 1) := dk_33 (dk_at dksX1_tellPart_0 1 rfl rfl)
theorem dX1_tellPart_2 : decode cX1_tellPart 2 = .ok (.invokestatic 97, 3) := dk_184 0 97 (dk_at dksX1_tellPart_0 2 rfl rfl)
theorem dX1_tellPart_5 : decode cX1_tellPart 5 = .ok (.lstore 5, 2) := dk_55 5 (dk_at dksX1_tellPart_0 5 rfl rfl)
theorem dX1_tellPart_7 : decode cX1_tellPart 7 = .ok (.aload_n 0, 1) := dk_42 (dk_at dksX1_tellPart_0 7 rfl rfl)
theorem dX1_tellPart_8 : decode cX1_tellPart 8 = .ok (.iconst 0, 1) := dk_3 (dk_at dksX1_tellPart_0 8 rfl rfl)
theorem dX1_tellPart_9 : decode cX1_tellPart 9 = .ok (.putfield 94, 3) := dk_181 0 94 (dk_at dksX1_tellPart_0 9 rfl rfl)
theorem dX1_tellPart_12 : decode cX1_tellPart 12 = .ok (.aload_n 0, 1) := dk_42 (dk_at dksX1_tellPart_0 12 rfl rfl)
theorem dX1_tellPart_13 : decode cX1_tellPart 13 = .ok (.lload_n 1, 1) := dk_31 (dk_at dksX1_tellPart_0 13 rfl rfl)
theorem dX1_tellPart_14 : decode cX1_tellPart 14 = .ok (.lload 5, 2) := dk_22 5 (dk_at dksX1_tellPart_0 14 rfl rfl)
theorem dX1_tellPart_16 : decode cX1_tellPart 16 = .ok (.ldiv, 1) := dk_109 (dk_at dksX1_tellPart_0 16 rfl rfl)
theorem dX1_tellPart_17 : decode cX1_tellPart 17 = .ok (.invokevirtual 101, 3) := dk_182 0 101 (dk_at dksX1_tellPart_0 17 rfl rfl)
theorem dX1_tellPart_20 : decode cX1_tellPart 20 = .ok (.aload_n 0, 1) := dk_42 (dk_at dksX1_tellPart_0 20 rfl rfl)
theorem dX1_tellPart_21 : decode cX1_tellPart 21 = .ok (.lload_n 3, 1) := dk_33 (dk_at dksX1_tellPart_0 21 rfl rfl)
theorem dX1_tellPart_22 : decode cX1_tellPart 22 = .ok (.lload 5, 2) := dk_22 5 (dk_at dksX1_tellPart_0 22 rfl rfl)
theorem dX1_tellPart_24 : decode cX1_tellPart 24 = .ok (.ldiv, 1) := dk_109 (dk_at dksX1_tellPart_1 0 rfl rfl)
theorem dX1_tellPart_25 : decode cX1_tellPart 25 = .ok (.invokevirtual 101, 3) := dk_182 0 101 (dk_at dksX1_tellPart_1 1 rfl rfl)
theorem dX1_tellPart_28 : decode cX1_tellPart 28 = .ok (.return_, 1) := dk_177 (dk_at dksX1_tellPart_1 4 rfl rfl)
def dkwX1_common_1 : List UInt8 := [22, 8, 55, 6, 167, 255, 234, 22, 4, 173]
abbrev dktX1_common_1 : List UInt8 := dkwX1_common_1 ++ []
def dkwX1_common_0 : List UInt8 := [30, 55, 4, 32, 55, 6, 22, 6, 9, 148, 153, 0, 21, 22, 4, 22, 6, 113, 55, 8, 22, 6, 55, 4]
abbrev dktX1_common_0 : List UInt8 := dkwX1_common_0 ++ dktX1_common_1
theorem dksX1_common_0 : cX1_common.data.toList.drop 0 = dktX1_common_0 := by decide +kernel
theorem dksX1_common_1 : cX1_common.data.toList.drop 24 = dktX1_common_1 := dk_seg dksX1_common_0 24 rfl rfl
theorem dX1_common_0 : decode cX1_common 0 = .ok (.lload_n 0, 1) := dk_30 (dk_at dksX1_common_0 0 rfl rfl)
theorem dX1_common_1 : decode cX1_common 1 = .ok (.lstore 4, 2) := dk_55 4 (dk_at dksX1_common_0 1 rfl rfl)
theorem dX1_common_3 : decode cX1_common 3 = .ok (.lload_n 2, 1) := dk_32 (dk_at dksX1_common_0 3 rfl rfl)
theorem dX1_common_4 : decode cX1_common 4 = .ok (.lstore 6, 2) := dk_55 6 (dk_at dksX1_common_0 4 rfl rfl)
theorem dX1_common_6 : decode cX1_common 6 = .ok (.lload 6, 2) := dk_22 6 (dk_at dksX1_common_0 6 rfl rfl)
theorem dX1_common_8 : decode cX1_common 8 = .ok (.lconst 0, 1) := dk_9 (dk_at dksX1_common_0 8 rfl rfl)
theorem dX1_common_9 : decode cX1_common 9 = .ok (.lcmp, 1) := dk_148 (dk_at dksX1_common_0 9 rfl rfl)
theorem dX1_common_10 : decode cX1_common 10 = .ok (.ifCond .eq 21, 3) := dk_153 0 21 (dk_at dksX1_common_0 10 rfl rfl)
theorem dX1_common_13 : decode cX1_common 13 = .ok (.lload 4, 2) := dk_22 4 (dk_at dksX1_common_0 13 rfl rfl)
theorem dX1_common_15 : decode cX1_common 15 = .ok (.lload 6, 2) := dk_22 6 (dk_at dksX1_common_0 15 rfl rfl)
theorem dX1_common_17 : decode cX1_common 17 = .ok (.lrem, 1) := dk_113 (dk_at dksX1_common_0 17 rfl rfl)
theorem dX1_common_18 : decode cX1_common 18 = .ok (.lstore 8, 2) := dk_55 8 (dk_at dksX1_common_0 18 rfl rfl)
theorem dX1_common_20 : decode cX1_common 20 = .ok (.lload 6, 2) := dk_22 6 (dk_at dksX1_common_0 20 rfl rfl)
theorem dX1_common_22 : decode cX1_common 22 = .ok (.lstore 4, 2) := dk_55 4 (dk_at dksX1_common_0 22 rfl rfl)
theorem dX1_common_24 : decode cX1_common 24 = .ok (.lload 8, 2) := dk_22 8 (dk_at dksX1_common_1 0 rfl rfl)
theorem dX1_common_26 : decode cX1_common 26 = .ok (.lstore 6, 2) := dk_55 6 (dk_at dksX1_common_1 2 rfl rfl)
theorem dX1_common_28 : decode cX1_common 28 = .ok (.goto (-22), 3) := dk_167 255 234 (dk_at dksX1_common_1 4 rfl rfl)
theorem dX1_common_31 : decode cX1_common 31 = .ok (.lload 4, 2) := dk_22 4 (dk_at dksX1_common_1 7 rfl rfl)
theorem dX1_common_33 : decode cX1_common 33 = .ok (.lreturn, 1) := dk_173 (dk_at dksX1_common_1 9 rfl rfl)
def dkwX1_mean_2 : List UInt8 := [32, 27, 133, 105, 20, 1, 117, 182, 1, 119, 42, 182, 1, 110, 172]
abbrev dktX1_mean_2 : List UInt8 := dkwX1_mean_2 ++ []
def dkwX1_mean_1 : List UInt8 := [162, 0, 23, 32, 42, 180, 0, 62, 180, 1, 114, 21, 4, 46, 133, 97, 65, 132, 4, 1, 167, 255, 230, 42]
abbrev dktX1_mean_1 : List UInt8 := dkwX1_mean_1 ++ dktX1_mean_2
def dkwX1_mean_0 : List UInt8 := [27, 4, 16, 99, 184, 0, 3, 154, 0, 5, 2, 172, 9, 65, 3, 54, 4, 21, 4, 42, 182, 1, 110]
abbrev dktX1_mean_0 : List UInt8 := dkwX1_mean_0 ++ dktX1_mean_1
theorem dksX1_mean_0 : cX1_mean.data.toList.drop 0 = dktX1_mean_0 := by decide +kernel
theorem dksX1_mean_1 : cX1_mean.data.toList.drop 23 = dktX1_mean_1 := dk_seg dksX1_mean_0 23 rfl rfl
theorem dksX1_mean_2 : cX1_mean.data.toList.drop 47 = dktX1_mean_2 := dk_seg dksX1_mean_1 24 rfl rfl
theorem dX1_mean_0 : decode cX1_mean 0 = .ok (.iload_n 1, 1) := dk_27 (dk_at dksX1_mean_0 0 rfl rfl)
theorem dX1_mean_1 : decode cX1_mean 1 = .ok (.iconst 1, 1) := dk_4 (dk_at dksX1_mean_0 1 rfl rfl)
theorem dX1_mean_2 : decode cX1_mean 2 = .ok (.bipush 99, 2) := dk_16 99 (dk_at dksX1_mean_0 2 rfl rfl)
theorem dX1_mean_4 : decode cX1_mean 4 = .ok (.invokestatic 3, 3) := dk_184 0 3 (dk_at dksX1_mean_0 4 rfl rfl)
theorem dX1_mean_7 : decode cX1_mean 7 = .ok (.ifCond .ne 5, 3) := dk_154 0 5 (dk_at dksX1_mean_0 7 rfl rfl)
theorem dX1_mean_10 : decode cX1_mean 10 = .ok (.iconst (-1), 1) := dk_2 (dk_at dksX1_mean_0 10 rfl rfl)
theorem dX1_mean_11 : decode cX1_mean 11 = .ok (.ireturn, 1) := dk_172 (dk_at dksX1_mean_0 11 rfl rfl)
theorem dX1_mean_12 : decode cX1_mean 12 = .ok (.lconst 0, 1) := dk_9 (dk_at dksX1_mean_0 12 rfl rfl)
theorem dX1_mean_13 : decode cX1_mean 13 = .ok (.lstore_n 2, 1) := dk_65 (dk_at dksX1_mean_0 13 rfl rfl)
theorem dX1_mean_14 : decode cX1_mean 14 = .ok (.iconst 0, 1) := dk_3 (dk_at dksX1_mean_0 14 rfl rfl)
theorem dX1_mean_15 : decode cX1_mean 15 = .ok (.istore 4, 2) := dk_54 4 (dk_at dksX1_mean_0 15 rfl rfl)
theorem dX1_mean_17 : decode cX1_mean 17 = .ok (.iload 4, 2) := dk_21 4 (dk_at dksX1_mean_0 17 rfl rfl)
theorem dX1_mean_19 : decode cX1_mean 19 = .ok (.aload_n 0, 1) := dk_42 (dk_at dksX1_mean_0 19 rfl rfl)
theorem dX1_mean_20 : decode cX1_mean 20 = .ok (.invokevirtual 366, 3) := dk_182 1 110 (dk_at dksX1_mean_0 20 rfl rfl)
theorem dX1_mean_23 : decode cX1_mean 23 = .ok (.if_icmp .ge 23, 3) := dk_162 0 23 (dk_at dksX1_mean_1 0 rfl rfl)
theorem dX1_mean_26 : decode cX1_mean 26 = .ok (.lload_n 2, 1) := dk_32 (dk_at dksX1_mean_1 3 rfl rfl)
theorem dX1_mean_27 : decode cX1_mean 27 = .ok (.aload_n 0, 1) := dk_42 (dk_at dksX1_mean_1 4 rfl rfl)
theorem dX1_mean_28 : decode cX1_mean 28 = .ok (.getfield 62, 3) := dk_180 0 62 (dk_at dksX1_mean_1 5 rfl rfl)
theorem dX1_mean_31 : decode cX1_mean 31 = .ok (.getfield 370, 3) := dk_180 1 114 (dk_at dksX1_mean_1 8 rfl rfl)
theorem dX1_mean_34 : decode cX1_mean 34 = .ok (.iload 4, 2) := dk_21 4 (dk_at dksX1_mean_1 11 rfl rfl)
theorem dX1_mean_36 : decode cX1_mean 36 = .ok (.iaload, 1) := dk_46 (dk_at dksX1_mean_1 13 rfl rfl)
theorem dX1_mean_37 : decode cX1_mean 37 = .ok (.i2l, 1) := dk_133 (dk_at dksX1_mean_1 14 rfl rfl)
theorem dX1_mean_38 : decode cX1_mean 38 = .ok (.ladd, 1) := dk_97 (dk_at dksX1_mean_1 15 rfl rfl)
theorem dX1_mean_39 : decode cX1_mean 39 = .ok (.lstore_n 2, 1) := dk_65 (dk_at dksX1_mean_1 16 rfl rfl)
theorem dX1_mean_40 : decode cX1_mean 40 = .ok (.iinc 4 1, 3) := dk_132 4 1 (dk_at dksX1_mean_1 17 rfl rfl)
theorem dX1_mean_43 : decode cX1_mean 43 = .ok (.goto (-26), 3) := dk_167 255 230 (dk_at dksX1_mean_1 20 rfl rfl)
theorem dX1_mean_46 : decode cX1_mean 46 = .ok (.aload_n 0, 1) := dk_42 (dk_at dksX1_mean_1 23 rfl rfl)
theorem dX1_mean_47 : decode cX1_mean 47 = .ok (.lload_n 2, 1) := dk_32 (dk_at dksX1_mean_2 0 rfl rfl)
theorem dX1_mean_48 : decode cX1_mean 48 = .ok (.iload_n 1, 1) := dk_27 (dk_at dksX1_mean_2 1 rfl rfl)
theorem dX1_mean_49 : decode cX1_mean 49 = .ok (.i2l, 1) := dk_133 (dk_at dksX1_mean_2 2 rfl rfl)
theorem dX1_mean_50 : decode cX1_mean 50 = .ok (.lmul, 1) := dk_105 (dk_at dksX1_mean_2 3 rfl rfl)
theorem dX1_mean_51 : decode cX1_mean 51 = .ok (.ldc2_w 373, 3) := dk_20 1 117 (dk_at dksX1_mean_2 4 rfl rfl)
theorem dX1_mean_54 : decode cX1_mean 54 = .ok (.invokevirtual 375, 3) := dk_182 1 119 (dk_at dksX1_mean_2 7 rfl rfl)
theorem dX1_mean_57 : decode cX1_mean 57 = .ok (.aload_n 0, 1) := dk_42 (dk_at dksX1_mean_2 10 rfl rfl)
theorem dX1_mean_58 : decode cX1_mean 58 = .ok (.invokevirtual 366, 3) := dk_182 1 110 (dk_at dksX1_mean_2 11 rfl rfl)
theorem dX1_mean_61 : decode cX1_mean 61 = .ok (.ireturn, 1) := dk_172 (dk_at dksX1_mean_2 14 rfl rfl)
def dkwX1_riskiest_3 : List UInt8 := [182, 0, 101, 27, 172]
abbrev dktX1_riskiest_3 : List UInt8 := dkwX1_riskiest_3 ++ []
def dkwX1_riskiest_2 : List UInt8 := [156, 0, 6, 16, 254, 172, 42, 3, 181, 0, 94, 42, 42, 180, 0, 62, 180, 1, 114, 27, 46, 133]
abbrev dktX1_riskiest_2 : List UInt8 := dkwX1_riskiest_2 ++ dktX1_riskiest_3
def dkwX1_riskiest_1 : List UInt8 := [28, 46, 42, 180, 0, 62, 180, 1, 114, 27, 46, 164, 0, 5, 28, 60, 132, 2, 1, 167, 255, 218, 27]
abbrev dktX1_riskiest_1 : List UInt8 := dkwX1_riskiest_1 ++ dktX1_riskiest_2
def dkwX1_riskiest_0 : List UInt8 := [16, 254, 60, 3, 61, 28, 42, 182, 1, 110, 162, 0, 36, 27, 155, 0, 24, 42, 180, 0, 62, 180, 1, 114]
abbrev dktX1_riskiest_0 : List UInt8 := dkwX1_riskiest_0 ++ dktX1_riskiest_1
theorem dksX1_riskiest_0 : cX1_riskiest.data.toList.drop 0 = dktX1_riskiest_0 := by decide +kernel
theorem dksX1_riskiest_1 : cX1_riskiest.data.toList.drop 24 = dktX1_riskiest_1 := dk_seg dksX1_riskiest_0 24 rfl rfl
theorem dksX1_riskiest_2 : cX1_riskiest.data.toList.drop 47 = dktX1_riskiest_2 := dk_seg dksX1_riskiest_1 23 rfl rfl
theorem dksX1_riskiest_3 : cX1_riskiest.data.toList.drop 69 = dktX1_riskiest_3 := dk_seg dksX1_riskiest_2 22 rfl rfl
theorem dX1_riskiest_0 : decode cX1_riskiest 0 = .ok (.bipush (-2), 2) := dk_16 254 (dk_at dksX1_riskiest_0 0 rfl rfl)
theorem dX1_riskiest_2 : decode cX1_riskiest 2 = .ok (.istore_n 1, 1) := dk_60 (dk_at dksX1_riskiest_0 2 rfl rfl)
theorem dX1_riskiest_3 : decode cX1_riskiest 3 = .ok (.iconst 0, 1) := dk_3 (dk_at dksX1_riskiest_0 3 rfl rfl)
theorem dX1_riskiest_4 : decode cX1_riskiest 4 = .ok (.istore_n 2, 1) := dk_61 (dk_at dksX1_riskiest_0 4 rfl rfl)
theorem dX1_riskiest_5 : decode cX1_riskiest 5 = .ok (.iload_n 2, 1) := dk_28 (dk_at dksX1_riskiest_0 5 rfl rfl)
theorem dX1_riskiest_6 : decode cX1_riskiest 6 = .ok (.aload_n 0, 1) := dk_42 (dk_at dksX1_riskiest_0 6 rfl rfl)
theorem dX1_riskiest_7 : decode cX1_riskiest 7 = .ok (.invokevirtual 366, 3) := dk_182 1 110 (dk_at dksX1_riskiest_0 7 rfl rfl)
theorem dX1_riskiest_10 : decode cX1_riskiest 10 = .ok (.if_icmp .ge 36, 3) := dk_162 0 36 (dk_at dksX1_riskiest_0 10 rfl rfl)
theorem dX1_riskiest_13 : decode cX1_riskiest 13 = .ok (.iload_n 1, 1) := dk_27 (dk_at dksX1_riskiest_0 13 rfl rfl)
theorem dX1_riskiest_14 : decode cX1_riskiest 14 = .ok (.ifCond .lt 24, 3) := dk_155 0 24 (dk_at dksX1_riskiest_0 14 rfl rfl)
theorem dX1_riskiest_17 : decode cX1_riskiest 17 = .ok (.aload_n 0, 1) := dk_42 (dk_at dksX1_riskiest_0 17 rfl rfl)
theorem dX1_riskiest_18 : decode cX1_riskiest 18 = .ok (.getfield 62, 3) := dk_180 0 62 (dk_at dksX1_riskiest_0 18 rfl rfl)
theorem dX1_riskiest_21 : decode cX1_riskiest 21 = .ok (.getfield 370, 3) := dk_180 1 114 (dk_at dksX1_riskiest_0 21 rfl rfl)
theorem dX1_riskiest_24 : decode cX1_riskiest 24 = .ok (.iload_n 2, 1) := dk_28 (dk_at dksX1_riskiest_1 0 rfl rfl)
theorem dX1_riskiest_25 : decode cX1_riskiest 25 = .ok (.iaload, 1) := dk_46 (dk_at dksX1_riskiest_1 1 rfl rfl)
theorem dX1_riskiest_26 : decode cX1_riskiest 26 = .ok (.aload_n 0, 1) := dk_42 (dk_at dksX1_riskiest_1 2 rfl rfl)
theorem dX1_riskiest_27 : decode cX1_riskiest 27 = .ok (.getfield 62, 3) := dk_180 0 62 (dk_at dksX1_riskiest_1 3 rfl rfl)
theorem dX1_riskiest_30 : decode cX1_riskiest 30 = .ok (.getfield 370, 3) := dk_180 1 114 (dk_at dksX1_riskiest_1 6 rfl rfl)
theorem dX1_riskiest_33 : decode cX1_riskiest 33 = .ok (.iload_n 1, 1) := dk_27 (dk_at dksX1_riskiest_1 9 rfl rfl)
theorem dX1_riskiest_34 : decode cX1_riskiest 34 = .ok (.iaload, 1) := dk_46 (dk_at dksX1_riskiest_1 10 rfl rfl)
theorem dX1_riskiest_35 : decode cX1_riskiest 35 = .ok (.if_icmp .le 5, 3) := dk_164 0 5 (dk_at dksX1_riskiest_1 11 rfl rfl)
theorem dX1_riskiest_38 : decode cX1_riskiest 38 = .ok (.iload_n 2, 1) := dk_28 (dk_at dksX1_riskiest_1 14 rfl rfl)
theorem dX1_riskiest_39 : decode cX1_riskiest 39 = .ok (.istore_n 1, 1) := dk_60 (dk_at dksX1_riskiest_1 15 rfl rfl)
theorem dX1_riskiest_40 : decode cX1_riskiest 40 = .ok (.iinc 2 1, 3) := dk_132 2 1 (dk_at dksX1_riskiest_1 16 rfl rfl)
theorem dX1_riskiest_43 : decode cX1_riskiest 43 = .ok (.goto (-38), 3) := dk_167 255 218 (dk_at dksX1_riskiest_1 19 rfl rfl)
theorem dX1_riskiest_46 : decode cX1_riskiest 46 = .ok (.iload_n 1, 1) := dk_27 (dk_at dksX1_riskiest_1 22 rfl rfl)
theorem dX1_riskiest_47 : decode cX1_riskiest 47 = .ok (.ifCond .ge 6, 3) := dk_156 0 6 (dk_at dksX1_riskiest_2 0 rfl rfl)
theorem dX1_riskiest_50 : decode cX1_riskiest 50 = .ok (.bipush (-2), 2) := dk_16 254 (dk_at dksX1_riskiest_2 3 rfl rfl)
theorem dX1_riskiest_52 : decode cX1_riskiest 52 = .ok (.ireturn, 1) := dk_172 (dk_at dksX1_riskiest_2 5 rfl rfl)
theorem dX1_riskiest_53 : decode cX1_riskiest 53 = .ok (.aload_n 0, 1) := dk_42 (dk_at dksX1_riskiest_2 6 rfl rfl)
theorem dX1_riskiest_54 : decode cX1_riskiest 54 = .ok (.iconst 0, 1) := dk_3 (dk_at dksX1_riskiest_2 7 rfl rfl)
theorem dX1_riskiest_55 : decode cX1_riskiest 55 = .ok (.putfield 94, 3) := dk_181 0 94 (dk_at dksX1_riskiest_2 8 rfl rfl)
theorem dX1_riskiest_58 : decode cX1_riskiest 58 = .ok (.aload_n 0, 1) := dk_42 (dk_at dksX1_riskiest_2 11 rfl rfl)
theorem dX1_riskiest_59 : decode cX1_riskiest 59 = .ok (.aload_n 0, 1) := dk_42 (dk_at dksX1_riskiest_2 12 rfl rfl)
theorem dX1_riskiest_60 : decode cX1_riskiest 60 = .ok (.getfield 62, 3) := dk_180 0 62 (dk_at dksX1_riskiest_2 13 rfl rfl)
theorem dX1_riskiest_63 : decode cX1_riskiest 63 = .ok (.getfield 370, 3) := dk_180 1 114 (dk_at dksX1_riskiest_2 16 rfl rfl)
theorem dX1_riskiest_66 : decode cX1_riskiest 66 = .ok (.iload_n 1, 1) := dk_27 (dk_at dksX1_riskiest_2 19 rfl rfl)
theorem dX1_riskiest_67 : decode cX1_riskiest 67 = .ok (.iaload, 1) := dk_46 (dk_at dksX1_riskiest_2 20 rfl rfl)
theorem dX1_riskiest_68 : decode cX1_riskiest 68 = .ok (.i2l, 1) := dk_133 (dk_at dksX1_riskiest_2 21 rfl rfl)
theorem dX1_riskiest_69 : decode cX1_riskiest 69 = .ok (.invokevirtual 101, 3) := dk_182 0 101 (dk_at dksX1_riskiest_3 0 rfl rfl)
theorem dX1_riskiest_72 : decode cX1_riskiest 72 = .ok (.iload_n 1, 1) := dk_27 (dk_at dksX1_riskiest_3 3 rfl rfl)
theorem dX1_riskiest_73 : decode cX1_riskiest 73 = .ok (.ireturn, 1) := dk_172 (dk_at dksX1_riskiest_3 4 rfl rfl)
def dkwX1_site_10 : List UInt8 := [21, 5, 172]
abbrev dktX1_site_10 : List UInt8 := dkwX1_site_10 ++ []
def dkwX1_site_9 : List UInt8 := [21, 6, 133, 182, 0, 101, 42, 21, 7, 156, 0, 9, 20, 1, 123, 167, 0, 6, 21, 7, 133, 182, 0, 101]
abbrev dktX1_site_9 : List UInt8 := dkwX1_site_9 ++ dktX1_site_10
def dkwX1_site_8 : List UInt8 := [156, 0, 6, 16, 254, 172, 42, 42, 180, 0, 52, 21, 4, 182, 1, 106, 54, 7, 42, 3, 181, 0, 94, 42]
abbrev dktX1_site_8 : List UInt8 := dkwX1_site_8 ++ dktX1_site_9
def dkwX1_site_7 : List UInt8 := [161, 0, 6, 167, 0, 11, 21, 7, 54, 5, 21, 10, 54, 6, 132, 7, 1, 167, 255, 141, 21, 5]
abbrev dktX1_site_7 : List UInt8 := dkwX1_site_7 ++ dktX1_site_8
def dkwX1_site_6 : List UInt8 := [25, 8, 21, 4, 182, 1, 106, 54, 10, 21, 10, 155, 0, 26, 21, 5, 155, 0, 13, 21, 10, 21, 6]
abbrev dktX1_site_6 : List UInt8 := dkwX1_site_6 ++ dktX1_site_7
def dkwX1_site_5 : List UInt8 := [21, 10, 21, 9, 162, 0, 19, 25, 8, 21, 10, 21, 9, 29, 182, 0, 145, 132, 10, 1, 167, 255, 236, 42]
abbrev dktX1_site_5 : List UInt8 := dkwX1_site_5 ++ dktX1_site_6
def dkwX1_site_4 : List UInt8 := [16, 9, 27, 4, 28, 16, 64, 108, 28, 16, 64, 112, 183, 0, 114, 182, 0, 117, 54, 9, 3, 54, 10]
abbrev dktX1_site_4 : List UInt8 := dkwX1_site_4 ++ dktX1_site_5
def dkwX1_site_3 : List UInt8 := [162, 0, 114, 42, 180, 0, 56, 42, 180, 0, 52, 182, 1, 90, 58, 8, 25, 8, 187, 0, 112, 89, 21, 7]
abbrev dktX1_site_3 : List UInt8 := dkwX1_site_3 ++ dktX1_site_4
def dkwX1_site_2 : List UInt8 := [180, 0, 105, 154, 0, 5, 2, 172, 16, 254, 54, 5, 3, 54, 6, 3, 54, 7, 21, 7, 16, 24]
abbrev dktX1_site_2 : List UInt8 := dkwX1_site_2 ++ dktX1_site_3
def dkwX1_site_1 : List UInt8 := [153, 0, 30, 21, 4, 184, 0, 124, 153, 0, 22, 42, 180, 0, 52, 180, 0, 19, 16, 6, 159, 0, 10, 42]
abbrev dktX1_site_1 : List UInt8 := dkwX1_site_1 ++ dktX1_site_2
def dkwX1_site_0 : List UInt8 := [27, 4, 16, 16, 184, 0, 3, 153, 0, 47, 28, 184, 0, 108, 153, 0, 40, 29, 3, 16, 9, 184, 0, 3]
abbrev dktX1_site_0 : List UInt8 := dkwX1_site_0 ++ dktX1_site_1
theorem dksX1_site_0 : cX1_site.data.toList.drop 0 = dktX1_site_0 := by decide +kernel
theorem dksX1_site_1 : cX1_site.data.toList.drop 24 = dktX1_site_1 := dk_seg dksX1_site_0 24 rfl rfl
theorem dksX1_site_2 : cX1_site.data.toList.drop 48 = dktX1_site_2 := dk_seg dksX1_site_1 24 rfl rfl
theorem dksX1_site_3 : cX1_site.data.toList.drop 70 = dktX1_site_3 := dk_seg dksX1_site_2 22 rfl rfl
theorem dksX1_site_4 : cX1_site.data.toList.drop 94 = dktX1_site_4 := dk_seg dksX1_site_3 24 rfl rfl
theorem dksX1_site_5 : cX1_site.data.toList.drop 117 = dktX1_site_5 := dk_seg dksX1_site_4 23 rfl rfl
theorem dksX1_site_6 : cX1_site.data.toList.drop 141 = dktX1_site_6 := dk_seg dksX1_site_5 24 rfl rfl
theorem dksX1_site_7 : cX1_site.data.toList.drop 164 = dktX1_site_7 := dk_seg dksX1_site_6 23 rfl rfl
theorem dksX1_site_8 : cX1_site.data.toList.drop 186 = dktX1_site_8 := dk_seg dksX1_site_7 22 rfl rfl
theorem dksX1_site_9 : cX1_site.data.toList.drop 210 = dktX1_site_9 := dk_seg dksX1_site_8 24 rfl rfl
theorem dksX1_site_10 : cX1_site.data.toList.drop 234 = dktX1_site_10 := dk_seg dksX1_site_9 24 rfl rfl
theorem dX1_site_0 : decode cX1_site 0 = .ok (.iload_n 1, 1) := dk_27 (dk_at dksX1_site_0 0 rfl rfl)
theorem dX1_site_1 : decode cX1_site 1 = .ok (.iconst 1, 1) := dk_4 (dk_at dksX1_site_0 1 rfl rfl)
theorem dX1_site_2 : decode cX1_site 2 = .ok (.bipush 16, 2) := dk_16 16 (dk_at dksX1_site_0 2 rfl rfl)
theorem dX1_site_4 : decode cX1_site 4 = .ok (.invokestatic 3, 3) := dk_184 0 3 (dk_at dksX1_site_0 4 rfl rfl)
theorem dX1_site_7 : decode cX1_site 7 = .ok (.ifCond .eq 47, 3) := dk_153 0 47 (dk_at dksX1_site_0 7 rfl rfl)
theorem dX1_site_10 : decode cX1_site 10 = .ok (.iload_n 2, 1) := dk_28 (dk_at dksX1_site_0 10 rfl rfl)
theorem dX1_site_11 : decode cX1_site 11 = .ok (.invokestatic 108, 3) := dk_184 0 108 (dk_at dksX1_site_0 11 rfl rfl)
theorem dX1_site_14 : decode cX1_site 14 = .ok (.ifCond .eq 40, 3) := dk_153 0 40 (dk_at dksX1_site_0 14 rfl rfl)
theorem dX1_site_17 : decode cX1_site 17 = .ok (.iload_n 3, 1) := dk_29 (dk_at dksX1_site_0 17 rfl rfl)
theorem dX1_site_18 : decode cX1_site 18 = .ok (.iconst 0, 1) := dk_3 (dk_at dksX1_site_0 18 rfl rfl)
theorem dX1_site_19 : decode cX1_site 19 = .ok (.bipush 9, 2) := dk_16 9 (dk_at dksX1_site_0 19 rfl rfl)
theorem dX1_site_21 : decode cX1_site 21 = .ok (.invokestatic 3, 3) := dk_184 0 3 (dk_at dksX1_site_0 21 rfl rfl)
theorem dX1_site_24 : decode cX1_site 24 = .ok (.ifCond .eq 30, 3) := dk_153 0 30 (dk_at dksX1_site_1 0 rfl rfl)
theorem dX1_site_27 : decode cX1_site 27 = .ok (.iload 4, 2) := dk_21 4 (dk_at dksX1_site_1 3 rfl rfl)
theorem dX1_site_29 : decode cX1_site 29 = .ok (.invokestatic 124, 3) := dk_184 0 124 (dk_at dksX1_site_1 5 rfl rfl)
theorem dX1_site_32 : decode cX1_site 32 = .ok (.ifCond .eq 22, 3) := dk_153 0 22 (dk_at dksX1_site_1 8 rfl rfl)
theorem dX1_site_35 : decode cX1_site 35 = .ok (.aload_n 0, 1) := dk_42 (dk_at dksX1_site_1 11 rfl rfl)
theorem dX1_site_36 : decode cX1_site 36 = .ok (.getfield 52, 3) := dk_180 0 52 (dk_at dksX1_site_1 12 rfl rfl)
theorem dX1_site_39 : decode cX1_site 39 = .ok (.getfield 19, 3) := dk_180 0 19 (dk_at dksX1_site_1 15 rfl rfl)
theorem dX1_site_42 : decode cX1_site 42 = .ok (.bipush 6, 2) := dk_16 6 (dk_at dksX1_site_1 18 rfl rfl)
theorem dX1_site_44 : decode cX1_site 44 = .ok (.if_icmp .eq 10, 3) := dk_159 0 10 (dk_at dksX1_site_1 20 rfl rfl)
theorem dX1_site_47 : decode cX1_site 47 = .ok (.aload_n 0, 1) := dk_42 (dk_at dksX1_site_1 23 rfl rfl)
theorem dX1_site_48 : decode cX1_site 48 = .ok (.getfield 105, 3) := dk_180 0 105 (dk_at dksX1_site_2 0 rfl rfl)
theorem dX1_site_51 : decode cX1_site 51 = .ok (.ifCond .ne 5, 3) := dk_154 0 5 (dk_at dksX1_site_2 3 rfl rfl)
theorem dX1_site_54 : decode cX1_site 54 = .ok (.iconst (-1), 1) := dk_2 (dk_at dksX1_site_2 6 rfl rfl)
theorem dX1_site_55 : decode cX1_site 55 = .ok (.ireturn, 1) := dk_172 (dk_at dksX1_site_2 7 rfl rfl)
theorem dX1_site_56 : decode cX1_site 56 = .ok (.bipush (-2), 2) := dk_16 254 (dk_at dksX1_site_2 8 rfl rfl)
theorem dX1_site_58 : decode cX1_site 58 = .ok (.istore 5, 2) := dk_54 5 (dk_at dksX1_site_2 10 rfl rfl)
theorem dX1_site_60 : decode cX1_site 60 = .ok (.iconst 0, 1) := dk_3 (dk_at dksX1_site_2 12 rfl rfl)
theorem dX1_site_61 : decode cX1_site 61 = .ok (.istore 6, 2) := dk_54 6 (dk_at dksX1_site_2 13 rfl rfl)
theorem dX1_site_63 : decode cX1_site 63 = .ok (.iconst 0, 1) := dk_3 (dk_at dksX1_site_2 15 rfl rfl)
theorem dX1_site_64 : decode cX1_site 64 = .ok (.istore 7, 2) := dk_54 7 (dk_at dksX1_site_2 16 rfl rfl)
theorem dX1_site_66 : decode cX1_site 66 = .ok (.iload 7, 2) := dk_21 7 (dk_at dksX1_site_2 18 rfl rfl)
theorem dX1_site_68 : decode cX1_site 68 = .ok (.bipush 24, 2) := dk_16 24 (dk_at dksX1_site_2 20 rfl rfl)
theorem dX1_site_70 : decode cX1_site 70 = .ok (.if_icmp .ge 114, 3) := dk_162 0 114 (dk_at dksX1_site_3 0 rfl rfl)
theorem dX1_site_73 : decode cX1_site 73 = .ok (.aload_n 0, 1) := dk_42 (dk_at dksX1_site_3 3 rfl rfl)
theorem dX1_site_74 : decode cX1_site 74 = .ok (.getfield 56, 3) := dk_180 0 56 (dk_at dksX1_site_3 4 rfl rfl)
theorem dX1_site_77 : decode cX1_site 77 = .ok (.aload_n 0, 1) := dk_42 (dk_at dksX1_site_3 7 rfl rfl)
theorem dX1_site_78 : decode cX1_site 78 = .ok (.getfield 52, 3) := dk_180 0 52 (dk_at dksX1_site_3 8 rfl rfl)
theorem dX1_site_81 : decode cX1_site 81 = .ok (.invokevirtual 346, 3) := dk_182 1 90 (dk_at dksX1_site_3 11 rfl rfl)
theorem dX1_site_84 : decode cX1_site 84 = .ok (.astore 8, 2) := dk_58 8 (dk_at dksX1_site_3 14 rfl rfl)
theorem dX1_site_86 : decode cX1_site 86 = .ok (.aload 8, 2) := dk_25 8 (dk_at dksX1_site_3 16 rfl rfl)
theorem dX1_site_88 : decode cX1_site 88 = .ok (.new 112, 3) := dk_187 0 112 (dk_at dksX1_site_3 18 rfl rfl)
theorem dX1_site_91 : decode cX1_site 91 = .ok (.dup, 1) := dk_89 (dk_at dksX1_site_3 21 rfl rfl)
theorem dX1_site_92 : decode cX1_site 92 = .ok (.iload 7, 2) := dk_21 7 (dk_at dksX1_site_3 22 rfl rfl)
theorem dX1_site_94 : decode cX1_site 94 = .ok (.bipush 9, 2) := dk_16 9 (dk_at dksX1_site_4 0 rfl rfl)
theorem dX1_site_96 : decode cX1_site 96 = .ok (.iload_n 1, 1) := dk_27 (dk_at dksX1_site_4 2 rfl rfl)
theorem dX1_site_97 : decode cX1_site 97 = .ok (.iconst 1, 1) := dk_4 (dk_at dksX1_site_4 3 rfl rfl)
theorem dX1_site_98 : decode cX1_site 98 = .ok (.iload_n 2, 1) := dk_28 (dk_at dksX1_site_4 4 rfl rfl)
theorem dX1_site_99 : decode cX1_site 99 = .ok (.bipush 64, 2) := dk_16 64 (dk_at dksX1_site_4 5 rfl rfl)
theorem dX1_site_101 : decode cX1_site 101 = .ok (.idiv, 1) := dk_108 (dk_at dksX1_site_4 7 rfl rfl)
theorem dX1_site_102 : decode cX1_site 102 = .ok (.iload_n 2, 1) := dk_28 (dk_at dksX1_site_4 8 rfl rfl)
theorem dX1_site_103 : decode cX1_site 103 = .ok (.bipush 64, 2) := dk_16 64 (dk_at dksX1_site_4 9 rfl rfl)
theorem dX1_site_105 : decode cX1_site 105 = .ok (.irem, 1) := dk_112 (dk_at dksX1_site_4 11 rfl rfl)
theorem dX1_site_106 : decode cX1_site 106 = .ok (.invokespecial 114, 3) := dk_183 0 114 (dk_at dksX1_site_4 12 rfl rfl)
theorem dX1_site_109 : decode cX1_site 109 = .ok (.invokevirtual 117, 3) := dk_182 0 117 (dk_at dksX1_site_4 15 rfl rfl)
theorem dX1_site_112 : decode cX1_site 112 = .ok (.istore 9, 2) := dk_54 9 (dk_at dksX1_site_4 18 rfl rfl)
theorem dX1_site_114 : decode cX1_site 114 = .ok (.iconst 0, 1) := dk_3 (dk_at dksX1_site_4 20 rfl rfl)
theorem dX1_site_115 : decode cX1_site 115 = .ok (.istore 10, 2) := dk_54 10 (dk_at dksX1_site_4 21 rfl rfl)
theorem dX1_site_117 : decode cX1_site 117 = .ok (.iload 10, 2) := dk_21 10 (dk_at dksX1_site_5 0 rfl rfl)
theorem dX1_site_119 : decode cX1_site 119 = .ok (.iload 9, 2) := dk_21 9 (dk_at dksX1_site_5 2 rfl rfl)
theorem dX1_site_121 : decode cX1_site 121 = .ok (.if_icmp .ge 19, 3) := dk_162 0 19 (dk_at dksX1_site_5 4 rfl rfl)
theorem dX1_site_124 : decode cX1_site 124 = .ok (.aload 8, 2) := dk_25 8 (dk_at dksX1_site_5 7 rfl rfl)
theorem dX1_site_126 : decode cX1_site 126 = .ok (.iload 10, 2) := dk_21 10 (dk_at dksX1_site_5 9 rfl rfl)
theorem dX1_site_128 : decode cX1_site 128 = .ok (.iload 9, 2) := dk_21 9 (dk_at dksX1_site_5 11 rfl rfl)
theorem dX1_site_130 : decode cX1_site 130 = .ok (.iload_n 3, 1) := dk_29 (dk_at dksX1_site_5 13 rfl rfl)
theorem dX1_site_131 : decode cX1_site 131 = .ok (.invokevirtual 145, 3) := dk_182 0 145 (dk_at dksX1_site_5 14 rfl rfl)
theorem dX1_site_134 : decode cX1_site 134 = .ok (.iinc 10 1, 3) := dk_132 10 1 (dk_at dksX1_site_5 17 rfl rfl)
theorem dX1_site_137 : decode cX1_site 137 = .ok (.goto (-20), 3) := dk_167 255 236 (dk_at dksX1_site_5 20 rfl rfl)
theorem dX1_site_140 : decode cX1_site 140 = .ok (.aload_n 0, 1) := dk_42 (dk_at dksX1_site_5 23 rfl rfl)
theorem dX1_site_141 : decode cX1_site 141 = .ok (.aload 8, 2) := dk_25 8 (dk_at dksX1_site_6 0 rfl rfl)
theorem dX1_site_143 : decode cX1_site 143 = .ok (.iload 4, 2) := dk_21 4 (dk_at dksX1_site_6 2 rfl rfl)
theorem dX1_site_145 : decode cX1_site 145 = .ok (.invokevirtual 362, 3) := dk_182 1 106 (dk_at dksX1_site_6 4 rfl rfl)
theorem dX1_site_148 : decode cX1_site 148 = .ok (.istore 10, 2) := dk_54 10 (dk_at dksX1_site_6 7 rfl rfl)
theorem dX1_site_150 : decode cX1_site 150 = .ok (.iload 10, 2) := dk_21 10 (dk_at dksX1_site_6 9 rfl rfl)
theorem dX1_site_152 : decode cX1_site 152 = .ok (.ifCond .lt 26, 3) := dk_155 0 26 (dk_at dksX1_site_6 11 rfl rfl)
theorem dX1_site_155 : decode cX1_site 155 = .ok (.iload 5, 2) := dk_21 5 (dk_at dksX1_site_6 14 rfl rfl)
theorem dX1_site_157 : decode cX1_site 157 = .ok (.ifCond .lt 13, 3) := dk_155 0 13 (dk_at dksX1_site_6 16 rfl rfl)
theorem dX1_site_160 : decode cX1_site 160 = .ok (.iload 10, 2) := dk_21 10 (dk_at dksX1_site_6 19 rfl rfl)
theorem dX1_site_162 : decode cX1_site 162 = .ok (.iload 6, 2) := dk_21 6 (dk_at dksX1_site_6 21 rfl rfl)
theorem dX1_site_164 : decode cX1_site 164 = .ok (.if_icmp .lt 6, 3) := dk_161 0 6 (dk_at dksX1_site_7 0 rfl rfl)
theorem dX1_site_167 : decode cX1_site 167 = .ok (.goto 11, 3) := dk_167 0 11 (dk_at dksX1_site_7 3 rfl rfl)
theorem dX1_site_170 : decode cX1_site 170 = .ok (.iload 7, 2) := dk_21 7 (dk_at dksX1_site_7 6 rfl rfl)
theorem dX1_site_172 : decode cX1_site 172 = .ok (.istore 5, 2) := dk_54 5 (dk_at dksX1_site_7 8 rfl rfl)
theorem dX1_site_174 : decode cX1_site 174 = .ok (.iload 10, 2) := dk_21 10 (dk_at dksX1_site_7 10 rfl rfl)
theorem dX1_site_176 : decode cX1_site 176 = .ok (.istore 6, 2) := dk_54 6 (dk_at dksX1_site_7 12 rfl rfl)
theorem dX1_site_178 : decode cX1_site 178 = .ok (.iinc 7 1, 3) := dk_132 7 1 (dk_at dksX1_site_7 14 rfl rfl)
theorem dX1_site_181 : decode cX1_site 181 = .ok (.goto (-115), 3) := dk_167 255 141 (dk_at dksX1_site_7 17 rfl rfl)
theorem dX1_site_184 : decode cX1_site 184 = .ok (.iload 5, 2) := dk_21 5 (dk_at dksX1_site_7 20 rfl rfl)
theorem dX1_site_186 : decode cX1_site 186 = .ok (.ifCond .ge 6, 3) := dk_156 0 6 (dk_at dksX1_site_8 0 rfl rfl)
theorem dX1_site_189 : decode cX1_site 189 = .ok (.bipush (-2), 2) := dk_16 254 (dk_at dksX1_site_8 3 rfl rfl)
theorem dX1_site_191 : decode cX1_site 191 = .ok (.ireturn, 1) := dk_172 (dk_at dksX1_site_8 5 rfl rfl)
theorem dX1_site_192 : decode cX1_site 192 = .ok (.aload_n 0, 1) := dk_42 (dk_at dksX1_site_8 6 rfl rfl)
theorem dX1_site_193 : decode cX1_site 193 = .ok (.aload_n 0, 1) := dk_42 (dk_at dksX1_site_8 7 rfl rfl)
theorem dX1_site_194 : decode cX1_site 194 = .ok (.getfield 52, 3) := dk_180 0 52 (dk_at dksX1_site_8 8 rfl rfl)
theorem dX1_site_197 : decode cX1_site 197 = .ok (.iload 4, 2) := dk_21 4 (dk_at dksX1_site_8 11 rfl rfl)
theorem dX1_site_199 : decode cX1_site 199 = .ok (.invokevirtual 362, 3) := dk_182 1 106 (dk_at dksX1_site_8 13 rfl rfl)
theorem dX1_site_202 : decode cX1_site 202 = .ok (.istore 7, 2) := dk_54 7 (dk_at dksX1_site_8 16 rfl rfl)
theorem dX1_site_204 : decode cX1_site 204 = .ok (.aload_n 0, 1) := dk_42 (dk_at dksX1_site_8 18 rfl rfl)
theorem dX1_site_205 : decode cX1_site 205 = .ok (.iconst 0, 1) := dk_3 (dk_at dksX1_site_8 19 rfl rfl)
theorem dX1_site_206 : decode cX1_site 206 = .ok (.putfield 94, 3) := dk_181 0 94 (dk_at dksX1_site_8 20 rfl rfl)
theorem dX1_site_209 : decode cX1_site 209 = .ok (.aload_n 0, 1) := dk_42 (dk_at dksX1_site_8 23 rfl rfl)
theorem dX1_site_210 : decode cX1_site 210 = .ok (.iload 6, 2) := dk_21 6 (dk_at dksX1_site_9 0 rfl rfl)
theorem dX1_site_212 : decode cX1_site 212 = .ok (.i2l, 1) := dk_133 (dk_at dksX1_site_9 2 rfl rfl)
theorem dX1_site_213 : decode cX1_site 213 = .ok (.invokevirtual 101, 3) := dk_182 0 101 (dk_at dksX1_site_9 3 rfl rfl)
theorem dX1_site_216 : decode cX1_site 216 = .ok (.aload_n 0, 1) := dk_42 (dk_at dksX1_site_9 6 rfl rfl)
theorem dX1_site_217 : decode cX1_site 217 = .ok (.iload 7, 2) := dk_21 7 (dk_at dksX1_site_9 7 rfl rfl)
theorem dX1_site_219 : decode cX1_site 219 = .ok (.ifCond .ge 9, 3) := dk_156 0 9 (dk_at dksX1_site_9 9 rfl rfl)
theorem dX1_site_222 : decode cX1_site 222 = .ok (.ldc2_w 379, 3) := dk_20 1 123 (dk_at dksX1_site_9 12 rfl rfl)
theorem dX1_site_225 : decode cX1_site 225 = .ok (.goto 6, 3) := dk_167 0 6 (dk_at dksX1_site_9 15 rfl rfl)
theorem dX1_site_228 : decode cX1_site 228 = .ok (.iload 7, 2) := dk_21 7 (dk_at dksX1_site_9 18 rfl rfl)
theorem dX1_site_230 : decode cX1_site 230 = .ok (.i2l, 1) := dk_133 (dk_at dksX1_site_9 20 rfl rfl)
theorem dX1_site_231 : decode cX1_site 231 = .ok (.invokevirtual 101, 3) := dk_182 0 101 (dk_at dksX1_site_9 21 rfl rfl)
theorem dX1_site_234 : decode cX1_site 234 = .ok (.iload 5, 2) := dk_21 5 (dk_at dksX1_site_10 0 rfl rfl)
theorem dX1_site_236 : decode cX1_site 236 = .ok (.ireturn, 1) := dk_172 (dk_at dksX1_site_10 2 rfl rfl)
def dkwX1_together_10 : List UInt8 := [180, 0, 47, 3, 16, 8, 184, 1, 137, 25, 8, 191]
abbrev dktX1_together_10 : List UInt8 := dkwX1_together_10 ++ []
def dkwX1_together_9 : List UInt8 := [25, 6, 3, 42, 180, 0, 47, 3, 16, 8, 184, 1, 137, 21, 7, 172, 58, 8, 25, 6, 3, 42]
abbrev dktX1_together_9 : List UInt8 := dkwX1_together_9 ++ dktX1_together_10
def dkwX1_together_8 : List UInt8 := [83, 132, 7, 1, 167, 255, 196, 42, 42, 180, 0, 66, 28, 182, 0, 221, 1, 25, 5, 182, 1, 20, 54, 7]
abbrev dktX1_together_8 : List UInt8 := dkwX1_together_8 ++ dktX1_together_9
def dkwX1_together_7 : List UInt8 := [180, 1, 75, 25, 6, 21, 7, 50, 180, 1, 134, 27, 2, 25, 6, 21, 7, 50, 180, 1, 81, 183, 0, 192]
abbrev dktX1_together_7 : List UInt8 := dkwX1_together_7 ++ dktX1_together_8
def dkwX1_together_6 : List UInt8 := [180, 0, 47, 21, 7, 187, 0, 45, 89, 25, 6, 21, 7, 50, 180, 1, 34, 25, 6, 21, 7, 50]
abbrev dktX1_together_6 : List UInt8 := dkwX1_together_6 ++ dktX1_together_7
def dkwX1_together_5 : List UInt8 := [180, 0, 47, 182, 1, 129, 192, 1, 130, 58, 6, 3, 54, 7, 21, 7, 42, 180, 0, 105, 162, 0, 57, 42]
abbrev dktX1_together_5 : List UInt8 := dkwX1_together_5 ++ dktX1_together_6
def dkwX1_together_4 : List UInt8 := [181, 0, 13, 25, 5, 180, 0, 127, 27, 45, 16, 9, 21, 4, 184, 0, 163, 16, 63, 184, 1, 125, 83, 42]
abbrev dktX1_together_4 : List UInt8 := dkwX1_together_4 ++ dktX1_together_5
def dkwX1_together_3 : List UInt8 := [132, 5, 1, 167, 255, 223, 42, 180, 0, 56, 42, 180, 0, 52, 182, 1, 90, 58, 5, 25, 5, 1]
abbrev dktX1_together_3 : List UInt8 := dkwX1_together_3 ++ dktX1_together_4
def dkwX1_together_2 : List UInt8 := [180, 0, 19, 162, 0, 27, 21, 4, 42, 180, 0, 52, 180, 0, 127, 21, 5, 50, 180, 1, 40, 96, 54, 4]
abbrev dktX1_together_2 : List UInt8 := dkwX1_together_2 ++ dktX1_together_3
def dkwX1_together_1 : List UInt8 := [42, 180, 0, 52, 180, 0, 127, 27, 50, 78, 3, 54, 4, 3, 54, 5, 21, 5, 42, 180, 0, 52]
abbrev dktX1_together_1 : List UInt8 := dkwX1_together_1 ++ dktX1_together_2
def dkwX1_together_0 : List UInt8 := [42, 27, 182, 0, 121, 153, 0, 17, 28, 184, 0, 124, 153, 0, 10, 42, 180, 0, 105, 154, 0, 5, 2, 172]
abbrev dktX1_together_0 : List UInt8 := dkwX1_together_0 ++ dktX1_together_1
theorem dksX1_together_0 : cX1_together.data.toList.drop 0 = dktX1_together_0 := by decide +kernel
theorem dksX1_together_1 : cX1_together.data.toList.drop 24 = dktX1_together_1 := dk_seg dksX1_together_0 24 rfl rfl
theorem dksX1_together_2 : cX1_together.data.toList.drop 46 = dktX1_together_2 := dk_seg dksX1_together_1 22 rfl rfl
theorem dksX1_together_3 : cX1_together.data.toList.drop 70 = dktX1_together_3 := dk_seg dksX1_together_2 24 rfl rfl
theorem dksX1_together_4 : cX1_together.data.toList.drop 92 = dktX1_together_4 := dk_seg dksX1_together_3 22 rfl rfl
theorem dksX1_together_5 : cX1_together.data.toList.drop 116 = dktX1_together_5 := dk_seg dksX1_together_4 24 rfl rfl
theorem dksX1_together_6 : cX1_together.data.toList.drop 140 = dktX1_together_6 := dk_seg dksX1_together_5 24 rfl rfl
theorem dksX1_together_7 : cX1_together.data.toList.drop 162 = dktX1_together_7 := dk_seg dksX1_together_6 22 rfl rfl
theorem dksX1_together_8 : cX1_together.data.toList.drop 186 = dktX1_together_8 := dk_seg dksX1_together_7 24 rfl rfl
theorem dksX1_together_9 : cX1_together.data.toList.drop 210 = dktX1_together_9 := dk_seg dksX1_together_8 24 rfl rfl
theorem dksX1_together_10 : cX1_together.data.toList.drop 232 = dktX1_together_10 := dk_seg dksX1_together_9 22 rfl rfl
theorem dX1_together_0 : decode cX1_together 0 = .ok (.aload_n 0, 1) := dk_42 (dk_at dksX1_together_0 0 rfl rfl)
theorem dX1_together_1 : decode cX1_together 1 = .ok (.iload_n 1, 1) := dk_27 (dk_at dksX1_together_0 1 rfl rfl)
theorem dX1_together_2 : decode cX1_together 2 = .ok (.invokevirtual 121, 3) := dk_182 0 121 (dk_at dksX1_together_0 2 rfl rfl)
theorem dX1_together_5 : decode cX1_together 5 = .ok (.ifCond .eq 17, 3) := dk_153 0 17 (dk_at dksX1_together_0 5 rfl rfl)
theorem dX1_together_8 : decode cX1_together 8 = .ok (.iload_n 2, 1) := dk_28 (dk_at dksX1_together_0 8 rfl rfl)
theorem dX1_together_9 : decode cX1_together 9 = .ok (.invokestatic 124, 3) := dk_184 0 124 (dk_at dksX1_together_0 9 rfl rfl)
theorem dX1_together_12 : decode cX1_together 12 = .ok (.ifCond .eq 10, 3) := dk_153 0 10 (dk_at dksX1_together_0 12 rfl rfl)
theorem dX1_together_15 : decode cX1_together 15 = .ok (.aload_n 0, 1) := dk_42 (dk_at dksX1_together_0 15 rfl rfl)
theorem dX1_together_16 : decode cX1_together 16 = .ok (.getfield 105, 3) := dk_180 0 105 (dk_at dksX1_together_0 16 rfl rfl)
theorem dX1_together_19 : decode cX1_together 19 = .ok (.ifCond .ne 5, 3) := dk_154 0 5 (dk_at dksX1_together_0 19 rfl rfl)
theorem dX1_together_22 : decode cX1_together 22 = .ok (.iconst (-1), 1) := dk_2 (dk_at dksX1_together_0 22 rfl rfl)
theorem dX1_together_23 : decode cX1_together 23 = .ok (.ireturn, 1) := dk_172 (dk_at dksX1_together_0 23 rfl rfl)
theorem dX1_together_24 : decode cX1_together 24 = .ok (.aload_n 0, 1) := dk_42 (dk_at dksX1_together_1 0 rfl rfl)
theorem dX1_together_25 : decode cX1_together 25 = .ok (.getfield 52, 3) := dk_180 0 52 (dk_at dksX1_together_1 1 rfl rfl)
theorem dX1_together_28 : decode cX1_together 28 = .ok (.getfield 127, 3) := dk_180 0 127 (dk_at dksX1_together_1 4 rfl rfl)
theorem dX1_together_31 : decode cX1_together 31 = .ok (.iload_n 1, 1) := dk_27 (dk_at dksX1_together_1 7 rfl rfl)
theorem dX1_together_32 : decode cX1_together 32 = .ok (.aaload, 1) := dk_50 (dk_at dksX1_together_1 8 rfl rfl)
theorem dX1_together_33 : decode cX1_together 33 = .ok (.astore_n 3, 1) := dk_78 (dk_at dksX1_together_1 9 rfl rfl)
theorem dX1_together_34 : decode cX1_together 34 = .ok (.iconst 0, 1) := dk_3 (dk_at dksX1_together_1 10 rfl rfl)
theorem dX1_together_35 : decode cX1_together 35 = .ok (.istore 4, 2) := dk_54 4 (dk_at dksX1_together_1 11 rfl rfl)
theorem dX1_together_37 : decode cX1_together 37 = .ok (.iconst 0, 1) := dk_3 (dk_at dksX1_together_1 13 rfl rfl)
theorem dX1_together_38 : decode cX1_together 38 = .ok (.istore 5, 2) := dk_54 5 (dk_at dksX1_together_1 14 rfl rfl)
theorem dX1_together_40 : decode cX1_together 40 = .ok (.iload 5, 2) := dk_21 5 (dk_at dksX1_together_1 16 rfl rfl)
theorem dX1_together_42 : decode cX1_together 42 = .ok (.aload_n 0, 1) := dk_42 (dk_at dksX1_together_1 18 rfl rfl)
theorem dX1_together_43 : decode cX1_together 43 = .ok (.getfield 52, 3) := dk_180 0 52 (dk_at dksX1_together_1 19 rfl rfl)
theorem dX1_together_46 : decode cX1_together 46 = .ok (.getfield 19, 3) := dk_180 0 19 (dk_at dksX1_together_2 0 rfl rfl)
theorem dX1_together_49 : decode cX1_together 49 = .ok (.if_icmp .ge 27, 3) := dk_162 0 27 (dk_at dksX1_together_2 3 rfl rfl)
theorem dX1_together_52 : decode cX1_together 52 = .ok (.iload 4, 2) := dk_21 4 (dk_at dksX1_together_2 6 rfl rfl)
theorem dX1_together_54 : decode cX1_together 54 = .ok (.aload_n 0, 1) := dk_42 (dk_at dksX1_together_2 8 rfl rfl)
theorem dX1_together_55 : decode cX1_together 55 = .ok (.getfield 52, 3) := dk_180 0 52 (dk_at dksX1_together_2 9 rfl rfl)
theorem dX1_together_58 : decode cX1_together 58 = .ok (.getfield 127, 3) := dk_180 0 127 (dk_at dksX1_together_2 12 rfl rfl)
theorem dX1_together_61 : decode cX1_together 61 = .ok (.iload 5, 2) := dk_21 5 (dk_at dksX1_together_2 15 rfl rfl)
theorem dX1_together_63 : decode cX1_together 63 = .ok (.aaload, 1) := dk_50 (dk_at dksX1_together_2 17 rfl rfl)
theorem dX1_together_64 : decode cX1_together 64 = .ok (.getfield 296, 3) := dk_180 1 40 (dk_at dksX1_together_2 18 rfl rfl)
theorem dX1_together_67 : decode cX1_together 67 = .ok (.iadd, 1) := dk_96 (dk_at dksX1_together_2 21 rfl rfl)
theorem dX1_together_68 : decode cX1_together 68 = .ok (.istore 4, 2) := dk_54 4 (dk_at dksX1_together_2 22 rfl rfl)
theorem dX1_together_70 : decode cX1_together 70 = .ok (.iinc 5 1, 3) := dk_132 5 1 (dk_at dksX1_together_3 0 rfl rfl)
theorem dX1_together_73 : decode cX1_together 73 = .ok (.goto (-33), 3) := dk_167 255 223 (dk_at dksX1_together_3 3 rfl rfl)
theorem dX1_together_76 : decode cX1_together 76 = .ok (.aload_n 0, 1) := dk_42 (dk_at dksX1_together_3 6 rfl rfl)
theorem dX1_together_77 : decode cX1_together 77 = .ok (.getfield 56, 3) := dk_180 0 56 (dk_at dksX1_together_3 7 rfl rfl)
theorem dX1_together_80 : decode cX1_together 80 = .ok (.aload_n 0, 1) := dk_42 (dk_at dksX1_together_3 10 rfl rfl)
theorem dX1_together_81 : decode cX1_together 81 = .ok (.getfield 52, 3) := dk_180 0 52 (dk_at dksX1_together_3 11 rfl rfl)
theorem dX1_together_84 : decode cX1_together 84 = .ok (.invokevirtual 346, 3) := dk_182 1 90 (dk_at dksX1_together_3 14 rfl rfl)
theorem dX1_together_87 : decode cX1_together 87 = .ok (.astore 5, 2) := dk_58 5 (dk_at dksX1_together_3 17 rfl rfl)
theorem dX1_together_89 : decode cX1_together 89 = .ok (.aload 5, 2) := dk_25 5 (dk_at dksX1_together_3 19 rfl rfl)
theorem dX1_together_91 : decode cX1_together 91 = .ok (.aconst_null, 1) := dk_1 (dk_at dksX1_together_3 21 rfl rfl)
theorem dX1_together_92 : decode cX1_together 92 = .ok (.putfield 13, 3) := dk_181 0 13 (dk_at dksX1_together_4 0 rfl rfl)
theorem dX1_together_95 : decode cX1_together 95 = .ok (.aload 5, 2) := dk_25 5 (dk_at dksX1_together_4 3 rfl rfl)
theorem dX1_together_97 : decode cX1_together 97 = .ok (.getfield 127, 3) := dk_180 0 127 (dk_at dksX1_together_4 5 rfl rfl)
theorem dX1_together_100 : decode cX1_together 100 = .ok (.iload_n 1, 1) := dk_27 (dk_at dksX1_together_4 8 rfl rfl)
theorem dX1_together_101 : decode cX1_together 101 = .ok (.aload_n 3, 1) := dk_45 (dk_at dksX1_together_4 9 rfl rfl)
theorem dX1_together_102 : decode cX1_together 102 = .ok (.bipush 9, 2) := dk_16 9 (dk_at dksX1_together_4 10 rfl rfl)
theorem dX1_together_104 : decode cX1_together 104 = .ok (.iload 4, 2) := dk_21 4 (dk_at dksX1_together_4 12 rfl rfl)
theorem dX1_together_106 : decode cX1_together 106 = .ok (.invokestatic 163, 3) := dk_184 0 163 (dk_at dksX1_together_4 14 rfl rfl)
theorem dX1_together_109 : decode cX1_together 109 = .ok (.bipush 63, 2) := dk_16 63 (dk_at dksX1_together_4 17 rfl rfl)
theorem dX1_together_111 : decode cX1_together 111 = .ok (.invokestatic 381, 3) := dk_184 1 125 (dk_at dksX1_together_4 19 rfl rfl)
theorem dX1_together_114 : decode cX1_together 114 = .ok (.aastore, 1) := dk_83 (dk_at dksX1_together_4 22 rfl rfl)
theorem dX1_together_115 : decode cX1_together 115 = .ok (.aload_n 0, 1) := dk_42 (dk_at dksX1_together_4 23 rfl rfl)
theorem dX1_together_116 : decode cX1_together 116 = .ok (.getfield 47, 3) := dk_180 0 47 (dk_at dksX1_together_5 0 rfl rfl)
theorem dX1_together_119 : decode cX1_together 119 = .ok (.invokevirtual 385, 3) := dk_182 1 129 (dk_at dksX1_together_5 3 rfl rfl)
theorem dX1_together_122 : decode cX1_together 122 = .ok (.checkcast 386, 3) := dk_192 1 130 (dk_at dksX1_together_5 6 rfl rfl)
theorem dX1_together_125 : decode cX1_together 125 = .ok (.astore 6, 2) := dk_58 6 (dk_at dksX1_together_5 9 rfl rfl)
theorem dX1_together_127 : decode cX1_together 127 = .ok (.iconst 0, 1) := dk_3 (dk_at dksX1_together_5 11 rfl rfl)
theorem dX1_together_128 : decode cX1_together 128 = .ok (.istore 7, 2) := dk_54 7 (dk_at dksX1_together_5 12 rfl rfl)
theorem dX1_together_130 : decode cX1_together 130 = .ok (.iload 7, 2) := dk_21 7 (dk_at dksX1_together_5 14 rfl rfl)
theorem dX1_together_132 : decode cX1_together 132 = .ok (.aload_n 0, 1) := dk_42 (dk_at dksX1_together_5 16 rfl rfl)
theorem dX1_together_133 : decode cX1_together 133 = .ok (.getfield 105, 3) := dk_180 0 105 (dk_at dksX1_together_5 17 rfl rfl)
theorem dX1_together_136 : decode cX1_together 136 = .ok (.if_icmp .ge 57, 3) := dk_162 0 57 (dk_at dksX1_together_5 20 rfl rfl)
theorem dX1_together_139 : decode cX1_together 139 = .ok (.aload_n 0, 1) := dk_42 (dk_at dksX1_together_5 23 rfl rfl)
theorem dX1_together_140 : decode cX1_together 140 = .ok (.getfield 47, 3) := dk_180 0 47 (dk_at dksX1_together_6 0 rfl rfl)
theorem dX1_together_143 : decode cX1_together 143 = .ok (.iload 7, 2) := dk_21 7 (dk_at dksX1_together_6 3 rfl rfl)
theorem dX1_together_145 : decode cX1_together 145 = .ok (.new 45, 3) := dk_187 0 45 (dk_at dksX1_together_6 5 rfl rfl)
theorem dX1_together_148 : decode cX1_together 148 = .ok (.dup, 1) := dk_89 (dk_at dksX1_together_6 8 rfl rfl)
theorem dX1_together_149 : decode cX1_together 149 = .ok (.aload 6, 2) := dk_25 6 (dk_at dksX1_together_6 9 rfl rfl)
theorem dX1_together_151 : decode cX1_together 151 = .ok (.iload 7, 2) := dk_21 7 (dk_at dksX1_together_6 11 rfl rfl)
theorem dX1_together_153 : decode cX1_together 153 = .ok (.aaload, 1) := dk_50 (dk_at dksX1_together_6 13 rfl rfl)
theorem dX1_together_154 : decode cX1_together 154 = .ok (.getfield 290, 3) := dk_180 1 34 (dk_at dksX1_together_6 14 rfl rfl)
theorem dX1_together_157 : decode cX1_together 157 = .ok (.aload 6, 2) := dk_25 6 (dk_at dksX1_together_6 17 rfl rfl)
theorem dX1_together_159 : decode cX1_together 159 = .ok (.iload 7, 2) := dk_21 7 (dk_at dksX1_together_6 19 rfl rfl)
theorem dX1_together_161 : decode cX1_together 161 = .ok (.aaload, 1) := dk_50 (dk_at dksX1_together_6 21 rfl rfl)
theorem dX1_together_162 : decode cX1_together 162 = .ok (.getfield 331, 3) := dk_180 1 75 (dk_at dksX1_together_7 0 rfl rfl)
theorem dX1_together_165 : decode cX1_together 165 = .ok (.aload 6, 2) := dk_25 6 (dk_at dksX1_together_7 3 rfl rfl)
theorem dX1_together_167 : decode cX1_together 167 = .ok (.iload 7, 2) := dk_21 7 (dk_at dksX1_together_7 5 rfl rfl)
theorem dX1_together_169 : decode cX1_together 169 = .ok (.aaload, 1) := dk_50 (dk_at dksX1_together_7 7 rfl rfl)
theorem dX1_together_170 : decode cX1_together 170 = .ok (.getfield 390, 3) := dk_180 1 134 (dk_at dksX1_together_7 8 rfl rfl)
theorem dX1_together_173 : decode cX1_together 173 = .ok (.iload_n 1, 1) := dk_27 (dk_at dksX1_together_7 11 rfl rfl)
theorem dX1_together_174 : decode cX1_together 174 = .ok (.iconst (-1), 1) := dk_2 (dk_at dksX1_together_7 12 rfl rfl)
theorem dX1_together_175 : decode cX1_together 175 = .ok (.aload 6, 2) := dk_25 6 (dk_at dksX1_together_7 13 rfl rfl)
theorem dX1_together_177 : decode cX1_together 177 = .ok (.iload 7, 2) := dk_21 7 (dk_at dksX1_together_7 15 rfl rfl)
theorem dX1_together_179 : decode cX1_together 179 = .ok (.aaload, 1) := dk_50 (dk_at dksX1_together_7 17 rfl rfl)
theorem dX1_together_180 : decode cX1_together 180 = .ok (.getfield 337, 3) := dk_180 1 81 (dk_at dksX1_together_7 18 rfl rfl)
theorem dX1_together_183 : decode cX1_together 183 = .ok (.invokespecial 192, 3) := dk_183 0 192 (dk_at dksX1_together_7 21 rfl rfl)
theorem dX1_together_186 : decode cX1_together 186 = .ok (.aastore, 1) := dk_83 (dk_at dksX1_together_8 0 rfl rfl)
theorem dX1_together_187 : decode cX1_together 187 = .ok (.iinc 7 1, 3) := dk_132 7 1 (dk_at dksX1_together_8 1 rfl rfl)
theorem dX1_together_190 : decode cX1_together 190 = .ok (.goto (-60), 3) := dk_167 255 196 (dk_at dksX1_together_8 4 rfl rfl)
theorem dX1_together_193 : decode cX1_together 193 = .ok (.aload_n 0, 1) := dk_42 (dk_at dksX1_together_8 7 rfl rfl)
theorem dX1_together_194 : decode cX1_together 194 = .ok (.aload_n 0, 1) := dk_42 (dk_at dksX1_together_8 8 rfl rfl)
theorem dX1_together_195 : decode cX1_together 195 = .ok (.getfield 66, 3) := dk_180 0 66 (dk_at dksX1_together_8 9 rfl rfl)
theorem dX1_together_198 : decode cX1_together 198 = .ok (.iload_n 2, 1) := dk_28 (dk_at dksX1_together_8 12 rfl rfl)
theorem dX1_together_199 : decode cX1_together 199 = .ok (.invokevirtual 221, 3) := dk_182 0 221 (dk_at dksX1_together_8 13 rfl rfl)
theorem dX1_together_202 : decode cX1_together 202 = .ok (.aconst_null, 1) := dk_1 (dk_at dksX1_together_8 16 rfl rfl)
theorem dX1_together_203 : decode cX1_together 203 = .ok (.aload 5, 2) := dk_25 5 (dk_at dksX1_together_8 17 rfl rfl)
theorem dX1_together_205 : decode cX1_together 205 = .ok (.invokevirtual 276, 3) := dk_182 1 20 (dk_at dksX1_together_8 19 rfl rfl)
theorem dX1_together_208 : decode cX1_together 208 = .ok (.istore 7, 2) := dk_54 7 (dk_at dksX1_together_8 22 rfl rfl)
theorem dX1_together_210 : decode cX1_together 210 = .ok (.aload 6, 2) := dk_25 6 (dk_at dksX1_together_9 0 rfl rfl)
theorem dX1_together_212 : decode cX1_together 212 = .ok (.iconst 0, 1) := dk_3 (dk_at dksX1_together_9 2 rfl rfl)
theorem dX1_together_213 : decode cX1_together 213 = .ok (.aload_n 0, 1) := dk_42 (dk_at dksX1_together_9 3 rfl rfl)
theorem dX1_together_214 : decode cX1_together 214 = .ok (.getfield 47, 3) := dk_180 0 47 (dk_at dksX1_together_9 4 rfl rfl)
theorem dX1_together_217 : decode cX1_together 217 = .ok (.iconst 0, 1) := dk_3 (dk_at dksX1_together_9 7 rfl rfl)
theorem dX1_together_218 : decode cX1_together 218 = .ok (.bipush 8, 2) := dk_16 8 (dk_at dksX1_together_9 8 rfl rfl)
theorem dX1_together_220 : decode cX1_together 220 = .ok (.invokestatic 393, 3) := dk_184 1 137 (dk_at dksX1_together_9 10 rfl rfl)
theorem dX1_together_223 : decode cX1_together 223 = .ok (.iload 7, 2) := dk_21 7 (dk_at dksX1_together_9 13 rfl rfl)
theorem dX1_together_225 : decode cX1_together 225 = .ok (.ireturn, 1) := dk_172 (dk_at dksX1_together_9 15 rfl rfl)
theorem dX1_together_226 : decode cX1_together 226 = .ok (.astore 8, 2) := dk_58 8 (dk_at dksX1_together_9 16 rfl rfl)
theorem dX1_together_228 : decode cX1_together 228 = .ok (.aload 6, 2) := dk_25 6 (dk_at dksX1_together_9 18 rfl rfl)
theorem dX1_together_230 : decode cX1_together 230 = .ok (.iconst 0, 1) := dk_3 (dk_at dksX1_together_9 20 rfl rfl)
theorem dX1_together_231 : decode cX1_together 231 = .ok (.aload_n 0, 1) := dk_42 (dk_at dksX1_together_9 21 rfl rfl)
theorem dX1_together_232 : decode cX1_together 232 = .ok (.getfield 47, 3) := dk_180 0 47 (dk_at dksX1_together_10 0 rfl rfl)
theorem dX1_together_235 : decode cX1_together 235 = .ok (.iconst 0, 1) := dk_3 (dk_at dksX1_together_10 3 rfl rfl)
theorem dX1_together_236 : decode cX1_together 236 = .ok (.bipush 8, 2) := dk_16 8 (dk_at dksX1_together_10 4 rfl rfl)
theorem dX1_together_238 : decode cX1_together 238 = .ok (.invokestatic 393, 3) := dk_184 1 137 (dk_at dksX1_together_10 6 rfl rfl)
theorem dX1_together_241 : decode cX1_together 241 = .ok (.aload 8, 2) := dk_25 8 (dk_at dksX1_together_10 9 rfl rfl)
theorem dX1_together_243 : decode cX1_together 243 = .ok (.athrow, 1) := dk_191 (dk_at dksX1_together_10 11 rfl rfl)
def dkwX1_like_2 : List UInt8 := [3, 45, 180, 0, 137, 3, 16, 100, 184, 1, 137, 45, 176]
abbrev dktX1_like_2 : List UInt8 := dkwX1_like_2 ++ []
def dkwX1_like_1 : List UInt8 := [183, 0, 114, 78, 45, 42, 180, 0, 131, 181, 0, 131, 45, 42, 180, 0, 134, 181, 0, 134, 42, 180, 0, 137]
abbrev dktX1_like_1 : List UInt8 := dkwX1_like_1 ++ dktX1_like_2
def dkwX1_like_0 : List UInt8 := [187, 0, 112, 89, 42, 180, 1, 143, 42, 180, 1, 146, 42, 180, 1, 149, 42, 180, 1, 150, 27, 28]
abbrev dktX1_like_0 : List UInt8 := dkwX1_like_0 ++ dktX1_like_1
theorem dksX1_like_0 : cX1_like.data.toList.drop 0 = dktX1_like_0 := by decide +kernel
theorem dksX1_like_1 : cX1_like.data.toList.drop 22 = dktX1_like_1 := dk_seg dksX1_like_0 22 rfl rfl
theorem dksX1_like_2 : cX1_like.data.toList.drop 46 = dktX1_like_2 := dk_seg dksX1_like_1 24 rfl rfl
theorem dX1_like_0 : decode cX1_like 0 = .ok (.new 112, 3) := dk_187 0 112 (dk_at dksX1_like_0 0 rfl rfl)
theorem dX1_like_3 : decode cX1_like 3 = .ok (.dup, 1) := dk_89 (dk_at dksX1_like_0 3 rfl rfl)
theorem dX1_like_4 : decode cX1_like 4 = .ok (.aload_n 0, 1) := dk_42 (dk_at dksX1_like_0 4 rfl rfl)
theorem dX1_like_5 : decode cX1_like 5 = .ok (.getfield 399, 3) := dk_180 1 143 (dk_at dksX1_like_0 5 rfl rfl)
theorem dX1_like_8 : decode cX1_like 8 = .ok (.aload_n 0, 1) := dk_42 (dk_at dksX1_like_0 8 rfl rfl)
theorem dX1_like_9 : decode cX1_like 9 = .ok (.getfield 402, 3) := dk_180 1 146 (dk_at dksX1_like_0 9 rfl rfl)
theorem dX1_like_12 : decode cX1_like 12 = .ok (.aload_n 0, 1) := dk_42 (dk_at dksX1_like_0 12 rfl rfl)
theorem dX1_like_13 : decode cX1_like 13 = .ok (.getfield 405, 3) := dk_180 1 149 (dk_at dksX1_like_0 13 rfl rfl)
theorem dX1_like_16 : decode cX1_like 16 = .ok (.aload_n 0, 1) := dk_42 (dk_at dksX1_like_0 16 rfl rfl)
theorem dX1_like_17 : decode cX1_like 17 = .ok (.getfield 406, 3) := dk_180 1 150 (dk_at dksX1_like_0 17 rfl rfl)
theorem dX1_like_20 : decode cX1_like 20 = .ok (.iload_n 1, 1) := dk_27 (dk_at dksX1_like_0 20 rfl rfl)
theorem dX1_like_21 : decode cX1_like 21 = .ok (.iload_n 2, 1) := dk_28 (dk_at dksX1_like_0 21 rfl rfl)
theorem dX1_like_22 : decode cX1_like 22 = .ok (.invokespecial 114, 3) := dk_183 0 114 (dk_at dksX1_like_1 0 rfl rfl)
theorem dX1_like_25 : decode cX1_like 25 = .ok (.astore_n 3, 1) := dk_78 (dk_at dksX1_like_1 3 rfl rfl)
theorem dX1_like_26 : decode cX1_like 26 = .ok (.aload_n 3, 1) := dk_45 (dk_at dksX1_like_1 4 rfl rfl)
theorem dX1_like_27 : decode cX1_like 27 = .ok (.aload_n 0, 1) := dk_42 (dk_at dksX1_like_1 5 rfl rfl)
theorem dX1_like_28 : decode cX1_like 28 = .ok (.getfield 131, 3) := dk_180 0 131 (dk_at dksX1_like_1 6 rfl rfl)
theorem dX1_like_31 : decode cX1_like 31 = .ok (.putfield 131, 3) := dk_181 0 131 (dk_at dksX1_like_1 9 rfl rfl)
theorem dX1_like_34 : decode cX1_like 34 = .ok (.aload_n 3, 1) := dk_45 (dk_at dksX1_like_1 12 rfl rfl)
theorem dX1_like_35 : decode cX1_like 35 = .ok (.aload_n 0, 1) := dk_42 (dk_at dksX1_like_1 13 rfl rfl)
theorem dX1_like_36 : decode cX1_like 36 = .ok (.getfield 134, 3) := dk_180 0 134 (dk_at dksX1_like_1 14 rfl rfl)
theorem dX1_like_39 : decode cX1_like 39 = .ok (.putfield 134, 3) := dk_181 0 134 (dk_at dksX1_like_1 17 rfl rfl)
theorem dX1_like_42 : decode cX1_like 42 = .ok (.aload_n 0, 1) := dk_42 (dk_at dksX1_like_1 20 rfl rfl)
theorem dX1_like_43 : decode cX1_like 43 = .ok (.getfield 137, 3) := dk_180 0 137 (dk_at dksX1_like_1 21 rfl rfl)
theorem dX1_like_46 : decode cX1_like 46 = .ok (.iconst 0, 1) := dk_3 (dk_at dksX1_like_2 0 rfl rfl)
theorem dX1_like_47 : decode cX1_like 47 = .ok (.aload_n 3, 1) := dk_45 (dk_at dksX1_like_2 1 rfl rfl)
theorem dX1_like_48 : decode cX1_like 48 = .ok (.getfield 137, 3) := dk_180 0 137 (dk_at dksX1_like_2 2 rfl rfl)
theorem dX1_like_51 : decode cX1_like 51 = .ok (.iconst 0, 1) := dk_3 (dk_at dksX1_like_2 5 rfl rfl)
theorem dX1_like_52 : decode cX1_like 52 = .ok (.bipush 100, 2) := dk_16 100 (dk_at dksX1_like_2 6 rfl rfl)
theorem dX1_like_54 : decode cX1_like 54 = .ok (.invokestatic 393, 3) := dk_184 1 137 (dk_at dksX1_like_2 8 rfl rfl)
theorem dX1_like_57 : decode cX1_like 57 = .ok (.aload_n 3, 1) := dk_45 (dk_at dksX1_like_2 11 rfl rfl)
theorem dX1_like_58 : decode cX1_like 58 = .ok (.areturn, 1) := dk_176 (dk_at dksX1_like_2 12 rfl rfl)
def dkwX1_sleeps_4 : List UInt8 := [167, 0, 7, 21, 4, 29, 100, 172]
abbrev dktX1_sleeps_4 : List UInt8 := dkwX1_sleeps_4 ++ []
def dkwX1_sleeps_3 : List UInt8 := [27, 42, 27, 28, 182, 1, 154, 182, 1, 158, 54, 4, 21, 4, 155, 0, 7, 29, 156, 0, 9, 17, 216, 241]
abbrev dktX1_sleeps_3 : List UInt8 := dkwX1_sleeps_3 ++ dktX1_sleeps_4
def dkwX1_sleeps_2 : List UInt8 := [17, 216, 242, 172, 42, 180, 0, 66, 42, 180, 0, 62, 182, 1, 16, 42, 180, 0, 52, 182, 1, 12, 62, 42]
abbrev dktX1_sleeps_2 : List UInt8 := dkwX1_sleeps_2 ++ dktX1_sleeps_3
def dkwX1_sleeps_1 : List UInt8 := [154, 0, 5, 2, 172, 42, 180, 0, 52, 180, 0, 127, 27, 50, 180, 0, 137, 28, 51, 153, 0, 7]
abbrev dktX1_sleeps_1 : List UInt8 := dkwX1_sleeps_1 ++ dktX1_sleeps_2
def dkwX1_sleeps_0 : List UInt8 := [42, 27, 182, 0, 121, 153, 0, 20, 28, 3, 16, 99, 184, 0, 3, 153, 0, 10, 42, 180, 0, 105]
abbrev dktX1_sleeps_0 : List UInt8 := dkwX1_sleeps_0 ++ dktX1_sleeps_1
theorem dksX1_sleeps_0 : cX1_sleeps.data.toList.drop 0 = dktX1_sleeps_0 := by decide +kernel
theorem dksX1_sleeps_1 : cX1_sleeps.data.toList.drop 22 = dktX1_sleeps_1 := dk_seg dksX1_sleeps_0 22 rfl rfl
theorem dksX1_sleeps_2 : cX1_sleeps.data.toList.drop 44 = dktX1_sleeps_2 := dk_seg dksX1_sleeps_1 22 rfl rfl
theorem dksX1_sleeps_3 : cX1_sleeps.data.toList.drop 68 = dktX1_sleeps_3 := dk_seg dksX1_sleeps_2 24 rfl rfl
theorem dksX1_sleeps_4 : cX1_sleeps.data.toList.drop 92 = dktX1_sleeps_4 := dk_seg dksX1_sleeps_3 24 rfl rfl
theorem dX1_sleeps_0 : decode cX1_sleeps 0 = .ok (.aload_n 0, 1) := dk_42 (dk_at dksX1_sleeps_0 0 rfl rfl)
theorem dX1_sleeps_1 : decode cX1_sleeps 1 = .ok (.iload_n 1, 1) := dk_27 (dk_at dksX1_sleeps_0 1 rfl rfl)
theorem dX1_sleeps_2 : decode cX1_sleeps 2 = .ok (.invokevirtual 121, 3) := dk_182 0 121 (dk_at dksX1_sleeps_0 2 rfl rfl)
theorem dX1_sleeps_5 : decode cX1_sleeps 5 = .ok (.ifCond .eq 20, 3) := dk_153 0 20 (dk_at dksX1_sleeps_0 5 rfl rfl)
theorem dX1_sleeps_8 : decode cX1_sleeps 8 = .ok (.iload_n 2, 1) := dk_28 (dk_at dksX1_sleeps_0 8 rfl rfl)
theorem dX1_sleeps_9 : decode cX1_sleeps 9 = .ok (.iconst 0, 1) := dk_3 (dk_at dksX1_sleeps_0 9 rfl rfl)
theorem dX1_sleeps_10 : decode cX1_sleeps 10 = .ok (.bipush 99, 2) := dk_16 99 (dk_at dksX1_sleeps_0 10 rfl rfl)
theorem dX1_sleeps_12 : decode cX1_sleeps 12 = .ok (.invokestatic 3, 3) := dk_184 0 3 (dk_at dksX1_sleeps_0 12 rfl rfl)
theorem dX1_sleeps_15 : decode cX1_sleeps 15 = .ok (.ifCond .eq 10, 3) := dk_153 0 10 (dk_at dksX1_sleeps_0 15 rfl rfl)
theorem dX1_sleeps_18 : decode cX1_sleeps 18 = .ok (.aload_n 0, 1) := dk_42 (dk_at dksX1_sleeps_0 18 rfl rfl)
theorem dX1_sleeps_19 : decode cX1_sleeps 19 = .ok (.getfield 105, 3) := dk_180 0 105 (dk_at dksX1_sleeps_0 19 rfl rfl)
theorem dX1_sleeps_22 : decode cX1_sleeps 22 = .ok (.ifCond .ne 5, 3) := dk_154 0 5 (dk_at dksX1_sleeps_1 0 rfl rfl)
theorem dX1_sleeps_25 : decode cX1_sleeps 25 = .ok (.iconst (-1), 1) := dk_2 (dk_at dksX1_sleeps_1 3 rfl rfl)
theorem dX1_sleeps_26 : decode cX1_sleeps 26 = .ok (.ireturn, 1) := dk_172 (dk_at dksX1_sleeps_1 4 rfl rfl)
theorem dX1_sleeps_27 : decode cX1_sleeps 27 = .ok (.aload_n 0, 1) := dk_42 (dk_at dksX1_sleeps_1 5 rfl rfl)
theorem dX1_sleeps_28 : decode cX1_sleeps 28 = .ok (.getfield 52, 3) := dk_180 0 52 (dk_at dksX1_sleeps_1 6 rfl rfl)
theorem dX1_sleeps_31 : decode cX1_sleeps 31 = .ok (.getfield 127, 3) := dk_180 0 127 (dk_at dksX1_sleeps_1 9 rfl rfl)
theorem dX1_sleeps_34 : decode cX1_sleeps 34 = .ok (.iload_n 1, 1) := dk_27 (dk_at dksX1_sleeps_1 12 rfl rfl)
theorem dX1_sleeps_35 : decode cX1_sleeps 35 = .ok (.aaload, 1) := dk_50 (dk_at dksX1_sleeps_1 13 rfl rfl)
theorem dX1_sleeps_36 : decode cX1_sleeps 36 = .ok (.getfield 137, 3) := dk_180 0 137 (dk_at dksX1_sleeps_1 14 rfl rfl)
theorem dX1_sleeps_39 : decode cX1_sleeps 39 = .ok (.iload_n 2, 1) := dk_28 (dk_at dksX1_sleeps_1 17 rfl rfl)
theorem dX1_sleeps_40 : decode cX1_sleeps 40 = .ok (.baload, 1) := dk_51 (dk_at dksX1_sleeps_1 18 rfl rfl)
theorem dX1_sleeps_41 : decode cX1_sleeps 41 = .ok (.ifCond .eq 7, 3) := dk_153 0 7 (dk_at dksX1_sleeps_1 19 rfl rfl)
theorem dX1_sleeps_44 : decode cX1_sleeps 44 = .ok (.sipush (-9998), 3) := dk_17 216 242 (dk_at dksX1_sleeps_2 0 rfl rfl)
theorem dX1_sleeps_47 : decode cX1_sleeps 47 = .ok (.ireturn, 1) := dk_172 (dk_at dksX1_sleeps_2 3 rfl rfl)
theorem dX1_sleeps_48 : decode cX1_sleeps 48 = .ok (.aload_n 0, 1) := dk_42 (dk_at dksX1_sleeps_2 4 rfl rfl)
theorem dX1_sleeps_49 : decode cX1_sleeps 49 = .ok (.getfield 66, 3) := dk_180 0 66 (dk_at dksX1_sleeps_2 5 rfl rfl)
theorem dX1_sleeps_52 : decode cX1_sleeps 52 = .ok (.aload_n 0, 1) := dk_42 (dk_at dksX1_sleeps_2 8 rfl rfl)
theorem dX1_sleeps_53 : decode cX1_sleeps 53 = .ok (.getfield 62, 3) := dk_180 0 62 (dk_at dksX1_sleeps_2 9 rfl rfl)
theorem dX1_sleeps_56 : decode cX1_sleeps 56 = .ok (.invokevirtual 272, 3) := dk_182 1 16 (dk_at dksX1_sleeps_2 12 rfl rfl)
theorem dX1_sleeps_59 : decode cX1_sleeps 59 = .ok (.aload_n 0, 1) := dk_42 (dk_at dksX1_sleeps_2 15 rfl rfl)
theorem dX1_sleeps_60 : decode cX1_sleeps 60 = .ok (.getfield 52, 3) := dk_180 0 52 (dk_at dksX1_sleeps_2 16 rfl rfl)
theorem dX1_sleeps_63 : decode cX1_sleeps 63 = .ok (.invokevirtual 268, 3) := dk_182 1 12 (dk_at dksX1_sleeps_2 19 rfl rfl)
theorem dX1_sleeps_66 : decode cX1_sleeps 66 = .ok (.istore_n 3, 1) := dk_62 (dk_at dksX1_sleeps_2 22 rfl rfl)
theorem dX1_sleeps_67 : decode cX1_sleeps 67 = .ok (.aload_n 0, 1) := dk_42 (dk_at dksX1_sleeps_2 23 rfl rfl)
theorem dX1_sleeps_68 : decode cX1_sleeps 68 = .ok (.iload_n 1, 1) := dk_27 (dk_at dksX1_sleeps_3 0 rfl rfl)
theorem dX1_sleeps_69 : decode cX1_sleeps 69 = .ok (.aload_n 0, 1) := dk_42 (dk_at dksX1_sleeps_3 1 rfl rfl)
theorem dX1_sleeps_70 : decode cX1_sleeps 70 = .ok (.iload_n 1, 1) := dk_27 (dk_at dksX1_sleeps_3 2 rfl rfl)
theorem dX1_sleeps_71 : decode cX1_sleeps 71 = .ok (.iload_n 2, 1) := dk_28 (dk_at dksX1_sleeps_3 3 rfl rfl)
theorem dX1_sleeps_72 : decode cX1_sleeps 72 = .ok (.invokevirtual 410, 3) := dk_182 1 154 (dk_at dksX1_sleeps_3 4 rfl rfl)
theorem dX1_sleeps_75 : decode cX1_sleeps 75 = .ok (.invokevirtual 414, 3) := dk_182 1 158 (dk_at dksX1_sleeps_3 7 rfl rfl)
theorem dX1_sleeps_78 : decode cX1_sleeps 78 = .ok (.istore 4, 2) := dk_54 4 (dk_at dksX1_sleeps_3 10 rfl rfl)
theorem dX1_sleeps_80 : decode cX1_sleeps 80 = .ok (.iload 4, 2) := dk_21 4 (dk_at dksX1_sleeps_3 12 rfl rfl)
theorem dX1_sleeps_82 : decode cX1_sleeps 82 = .ok (.ifCond .lt 7, 3) := dk_155 0 7 (dk_at dksX1_sleeps_3 14 rfl rfl)
theorem dX1_sleeps_85 : decode cX1_sleeps 85 = .ok (.iload_n 3, 1) := dk_29 (dk_at dksX1_sleeps_3 17 rfl rfl)
theorem dX1_sleeps_86 : decode cX1_sleeps 86 = .ok (.ifCond .ge 9, 3) := dk_156 0 9 (dk_at dksX1_sleeps_3 18 rfl rfl)
theorem dX1_sleeps_89 : decode cX1_sleeps 89 = .ok (.sipush (-9999), 3) := dk_17 216 241 (dk_at dksX1_sleeps_3 21 rfl rfl)
theorem dX1_sleeps_92 : decode cX1_sleeps 92 = .ok (.goto 7, 3) := dk_167 0 7 (dk_at dksX1_sleeps_4 0 rfl rfl)
theorem dX1_sleeps_95 : decode cX1_sleeps 95 = .ok (.iload 4, 2) := dk_21 4 (dk_at dksX1_sleeps_4 3 rfl rfl)
theorem dX1_sleeps_97 : decode cX1_sleeps 97 = .ok (.iload_n 3, 1) := dk_29 (dk_at dksX1_sleeps_4 5 rfl rfl)
theorem dX1_sleeps_98 : decode cX1_sleeps 98 = .ok (.isub, 1) := dk_100 (dk_at dksX1_sleeps_4 6 rfl rfl)
theorem dX1_sleeps_99 : decode cX1_sleeps 99 = .ok (.ireturn, 1) := dk_172 (dk_at dksX1_sleeps_4 7 rfl rfl)
def dkwX1_sleeping_1 : List UInt8 := [180, 0, 52, 180, 0, 127, 27, 50, 180, 1, 151, 184, 1, 125, 78, 45, 180, 0, 137, 28, 4, 84, 45, 176]
abbrev dktX1_sleeping_1 : List UInt8 := dkwX1_sleeping_1 ++ []
def dkwX1_sleeping_0 : List UInt8 := [42, 180, 0, 52, 180, 0, 127, 27, 50, 42, 180, 0, 52, 180, 0, 127, 27, 50, 180, 1, 40, 42]
abbrev dktX1_sleeping_0 : List UInt8 := dkwX1_sleeping_0 ++ dktX1_sleeping_1
theorem dksX1_sleeping_0 : cX1_sleeping.data.toList.drop 0 = dktX1_sleeping_0 := by decide +kernel
theorem dksX1_sleeping_1 : cX1_sleeping.data.toList.drop 22 = dktX1_sleeping_1 := dk_seg dksX1_sleeping_0 22 rfl rfl
theorem dX1_sleeping_0 : decode cX1_sleeping 0 = .ok (.aload_n 0, 1) := dk_42 (dk_at dksX1_sleeping_0 0 rfl rfl)
theorem dX1_sleeping_1 : decode cX1_sleeping 1 = .ok (.getfield 52, 3) := dk_180 0 52 (dk_at dksX1_sleeping_0 1 rfl rfl)
theorem dX1_sleeping_4 : decode cX1_sleeping 4 = .ok (.getfield 127, 3) := dk_180 0 127 (dk_at dksX1_sleeping_0 4 rfl rfl)
theorem dX1_sleeping_7 : decode cX1_sleeping 7 = .ok (.iload_n 1, 1) := dk_27 (dk_at dksX1_sleeping_0 7 rfl rfl)
theorem dX1_sleeping_8 : decode cX1_sleeping 8 = .ok (.aaload, 1) := dk_50 (dk_at dksX1_sleeping_0 8 rfl rfl)
theorem dX1_sleeping_9 : decode cX1_sleeping 9 = .ok (.aload_n 0, 1) := dk_42 (dk_at dksX1_sleeping_0 9 rfl rfl)
theorem dX1_sleeping_10 : decode cX1_sleeping 10 = .ok (.getfield 52, 3) := dk_180 0 52 (dk_at dksX1_sleeping_0 10 rfl rfl)
theorem dX1_sleeping_13 : decode cX1_sleeping 13 = .ok (.getfield 127, 3) := dk_180 0 127 (dk_at dksX1_sleeping_0 13 rfl rfl)
theorem dX1_sleeping_16 : decode cX1_sleeping 16 = .ok (.iload_n 1, 1) := dk_27 (dk_at dksX1_sleeping_0 16 rfl rfl)
theorem dX1_sleeping_17 : decode cX1_sleeping 17 = .ok (.aaload, 1) := dk_50 (dk_at dksX1_sleeping_0 17 rfl rfl)
theorem dX1_sleeping_18 : decode cX1_sleeping 18 = .ok (.getfield 296, 3) := dk_180 1 40 (dk_at dksX1_sleeping_0 18 rfl rfl)
theorem dX1_sleeping_21 : decode cX1_sleeping 21 = .ok (.aload_n 0, 1) := dk_42 (dk_at dksX1_sleeping_0 21 rfl rfl)
theorem dX1_sleeping_22 : decode cX1_sleeping 22 = .ok (.getfield 52, 3) := dk_180 0 52 (dk_at dksX1_sleeping_1 0 rfl rfl)
theorem dX1_sleeping_25 : decode cX1_sleeping 25 = .ok (.getfield 127, 3) := dk_180 0 127 (dk_at dksX1_sleeping_1 3 rfl rfl)
theorem dX1_sleeping_28 : decode cX1_sleeping 28 = .ok (.iload_n 1, 1) := dk_27 (dk_at dksX1_sleeping_1 6 rfl rfl)
theorem dX1_sleeping_29 : decode cX1_sleeping 29 = .ok (.aaload, 1) := dk_50 (dk_at dksX1_sleeping_1 7 rfl rfl)
theorem dX1_sleeping_30 : decode cX1_sleeping 30 = .ok (.getfield 407, 3) := dk_180 1 151 (dk_at dksX1_sleeping_1 8 rfl rfl)
theorem dX1_sleeping_33 : decode cX1_sleeping 33 = .ok (.invokestatic 381, 3) := dk_184 1 125 (dk_at dksX1_sleeping_1 11 rfl rfl)
theorem dX1_sleeping_36 : decode cX1_sleeping 36 = .ok (.astore_n 3, 1) := dk_78 (dk_at dksX1_sleeping_1 14 rfl rfl)
theorem dX1_sleeping_37 : decode cX1_sleeping 37 = .ok (.aload_n 3, 1) := dk_45 (dk_at dksX1_sleeping_1 15 rfl rfl)
theorem dX1_sleeping_38 : decode cX1_sleeping 38 = .ok (.getfield 137, 3) := dk_180 0 137 (dk_at dksX1_sleeping_1 16 rfl rfl)
theorem dX1_sleeping_41 : decode cX1_sleeping 41 = .ok (.iload_n 2, 1) := dk_28 (dk_at dksX1_sleeping_1 19 rfl rfl)
theorem dX1_sleeping_42 : decode cX1_sleeping 42 = .ok (.iconst 1, 1) := dk_4 (dk_at dksX1_sleeping_1 20 rfl rfl)
theorem dX1_sleeping_43 : decode cX1_sleeping 43 = .ok (.bastore, 1) := dk_84 (dk_at dksX1_sleeping_1 21 rfl rfl)
theorem dX1_sleeping_44 : decode cX1_sleeping 44 = .ok (.aload_n 3, 1) := dk_45 (dk_at dksX1_sleeping_1 22 rfl rfl)
theorem dX1_sleeping_45 : decode cX1_sleeping 45 = .ok (.areturn, 1) := dk_176 (dk_at dksX1_sleeping_1 23 rfl rfl)
def dkwX1_endWith_1 : List UInt8 := [180, 0, 62, 182, 1, 16, 45, 182, 1, 12, 172]
abbrev dktX1_endWith_1 : List UInt8 := dkwX1_endWith_1 ++ []
def dkwX1_endWith_0 : List UInt8 := [42, 180, 0, 56, 42, 180, 0, 52, 182, 1, 90, 78, 45, 180, 0, 127, 27, 44, 83, 42, 180, 0, 66, 42]
abbrev dktX1_endWith_0 : List UInt8 := dkwX1_endWith_0 ++ dktX1_endWith_1
theorem dksX1_endWith_0 : cX1_endWith.data.toList.drop 0 = dktX1_endWith_0 := by decide +kernel
theorem dksX1_endWith_1 : cX1_endWith.data.toList.drop 24 = dktX1_endWith_1 := dk_seg dksX1_endWith_0 24 rfl rfl
theorem dX1_endWith_0 : decode cX1_endWith 0 = .ok (.aload_n 0, 1) := dk_42 (dk_at dksX1_endWith_0 0 rfl rfl)
theorem dX1_endWith_1 : decode cX1_endWith 1 = .ok (.getfield 56, 3) := dk_180 0 56 (dk_at dksX1_endWith_0 1 rfl rfl)
theorem dX1_endWith_4 : decode cX1_endWith 4 = .ok (.aload_n 0, 1) := dk_42 (dk_at dksX1_endWith_0 4 rfl rfl)
theorem dX1_endWith_5 : decode cX1_endWith 5 = .ok (.getfield 52, 3) := dk_180 0 52 (dk_at dksX1_endWith_0 5 rfl rfl)
theorem dX1_endWith_8 : decode cX1_endWith 8 = .ok (.invokevirtual 346, 3) := dk_182 1 90 (dk_at dksX1_endWith_0 8 rfl rfl)
theorem dX1_endWith_11 : decode cX1_endWith 11 = .ok (.astore_n 3, 1) := dk_78 (dk_at dksX1_endWith_0 11 rfl rfl)
theorem dX1_endWith_12 : decode cX1_endWith 12 = .ok (.aload_n 3, 1) := dk_45 (dk_at dksX1_endWith_0 12 rfl rfl)
theorem dX1_endWith_13 : decode cX1_endWith 13 = .ok (.getfield 127, 3) := dk_180 0 127 (dk_at dksX1_endWith_0 13 rfl rfl)
theorem dX1_endWith_16 : decode cX1_endWith 16 = .ok (.iload_n 1, 1) := dk_27 (dk_at dksX1_endWith_0 16 rfl rfl)
theorem dX1_endWith_17 : decode cX1_endWith 17 = .ok (.aload_n 2, 1) := dk_44 (dk_at dksX1_endWith_0 17 rfl rfl)
theorem dX1_endWith_18 : decode cX1_endWith 18 = .ok (.aastore, 1) := dk_83 (dk_at dksX1_endWith_0 18 rfl rfl)
theorem dX1_endWith_19 : decode cX1_endWith 19 = .ok (.aload_n 0, 1) := dk_42 (dk_at dksX1_endWith_0 19 rfl rfl)
theorem dX1_endWith_20 : decode cX1_endWith 20 = .ok (.getfield 66, 3) := dk_180 0 66 (dk_at dksX1_endWith_0 20 rfl rfl)
theorem dX1_endWith_23 : decode cX1_endWith 23 = .ok (.aload_n 0, 1) := dk_42 (dk_at dksX1_endWith_0 23 rfl rfl)
theorem dX1_endWith_24 : decode cX1_endWith 24 = .ok (.getfield 62, 3) := dk_180 0 62 (dk_at dksX1_endWith_1 0 rfl rfl)
theorem dX1_endWith_27 : decode cX1_endWith 27 = .ok (.invokevirtual 272, 3) := dk_182 1 16 (dk_at dksX1_endWith_1 3 rfl rfl)
theorem dX1_endWith_30 : decode cX1_endWith 30 = .ok (.aload_n 3, 1) := dk_45 (dk_at dksX1_endWith_1 6 rfl rfl)
theorem dX1_endWith_31 : decode cX1_endWith 31 = .ok (.invokevirtual 268, 3) := dk_182 1 12 (dk_at dksX1_endWith_1 7 rfl rfl)
theorem dX1_endWith_34 : decode cX1_endWith 34 = .ok (.ireturn, 1) := dk_172 (dk_at dksX1_endWith_1 10 rfl rfl)
def dkwX1_worst_6 : List UInt8 := [133, 182, 0, 101, 21, 4, 172]
abbrev dktX1_worst_6 : List UInt8 := dkwX1_worst_6 ++ []
def dkwX1_worst_5 : List UInt8 := [54, 5, 132, 6, 1, 167, 255, 184, 21, 4, 156, 0, 6, 16, 254, 172, 42, 3, 181, 0, 94, 42, 21, 5]
abbrev dktX1_worst_5 : List UInt8 := dkwX1_worst_5 ++ dktX1_worst_6
def dkwX1_worst_4 : List UInt8 := [155, 0, 26, 21, 4, 155, 0, 13, 21, 7, 21, 5, 163, 0, 6, 167, 0, 11, 21, 6, 54, 4, 21, 7]
abbrev dktX1_worst_4 : List UInt8 := dkwX1_worst_4 ++ dktX1_worst_5
def dkwX1_worst_3 : List UInt8 := [153, 0, 6, 167, 0, 45, 42, 27, 42, 27, 21, 6, 182, 1, 154, 182, 1, 158, 54, 7, 21, 7]
abbrev dktX1_worst_3 : List UInt8 := dkwX1_worst_3 ++ dktX1_worst_4
def dkwX1_worst_2 : List UInt8 := [54, 6, 21, 6, 29, 163, 0, 72, 42, 180, 0, 52, 180, 0, 127, 27, 50, 180, 0, 137, 21, 6, 51]
abbrev dktX1_worst_2 : List UInt8 := dkwX1_worst_2 ++ dktX1_worst_3
def dkwX1_worst_1 : List UInt8 := [184, 0, 3, 153, 0, 10, 42, 180, 0, 105, 154, 0, 5, 2, 172, 16, 254, 54, 4, 3, 54, 5, 28]
abbrev dktX1_worst_1 : List UInt8 := dkwX1_worst_1 ++ dktX1_worst_2
def dkwX1_worst_0 : List UInt8 := [42, 27, 182, 0, 121, 153, 0, 30, 28, 3, 16, 99, 184, 0, 3, 153, 0, 20, 29, 28, 16, 99]
abbrev dktX1_worst_0 : List UInt8 := dkwX1_worst_0 ++ dktX1_worst_1
theorem dksX1_worst_0 : cX1_worst.data.toList.drop 0 = dktX1_worst_0 := by decide +kernel
theorem dksX1_worst_1 : cX1_worst.data.toList.drop 22 = dktX1_worst_1 := dk_seg dksX1_worst_0 22 rfl rfl
theorem dksX1_worst_2 : cX1_worst.data.toList.drop 45 = dktX1_worst_2 := dk_seg dksX1_worst_1 23 rfl rfl
theorem dksX1_worst_3 : cX1_worst.data.toList.drop 68 = dktX1_worst_3 := dk_seg dksX1_worst_2 23 rfl rfl
theorem dksX1_worst_4 : cX1_worst.data.toList.drop 90 = dktX1_worst_4 := dk_seg dksX1_worst_3 22 rfl rfl
theorem dksX1_worst_5 : cX1_worst.data.toList.drop 114 = dktX1_worst_5 := dk_seg dksX1_worst_4 24 rfl rfl
theorem dksX1_worst_6 : cX1_worst.data.toList.drop 138 = dktX1_worst_6 := dk_seg dksX1_worst_5 24 rfl rfl
theorem dX1_worst_0 : decode cX1_worst 0 = .ok (.aload_n 0, 1) := dk_42 (dk_at dksX1_worst_0 0 rfl rfl)
theorem dX1_worst_1 : decode cX1_worst 1 = .ok (.iload_n 1, 1) := dk_27 (dk_at dksX1_worst_0 1 rfl rfl)
theorem dX1_worst_2 : decode cX1_worst 2 = .ok (.invokevirtual 121, 3) := dk_182 0 121 (dk_at dksX1_worst_0 2 rfl rfl)
theorem dX1_worst_5 : decode cX1_worst 5 = .ok (.ifCond .eq 30, 3) := dk_153 0 30 (dk_at dksX1_worst_0 5 rfl rfl)
theorem dX1_worst_8 : decode cX1_worst 8 = .ok (.iload_n 2, 1) := dk_28 (dk_at dksX1_worst_0 8 rfl rfl)
theorem dX1_worst_9 : decode cX1_worst 9 = .ok (.iconst 0, 1) := dk_3 (dk_at dksX1_worst_0 9 rfl rfl)
theorem dX1_worst_10 : decode cX1_worst 10 = .ok (.bipush 99, 2) := dk_16 99 (dk_at dksX1_worst_0 10 rfl rfl)
theorem dX1_worst_12 : decode cX1_worst 12 = .ok (.invokestatic 3, 3) := dk_184 0 3 (dk_at dksX1_worst_0 12 rfl rfl)
theorem dX1_worst_15 : decode cX1_worst 15 = .ok (.ifCond .eq 20, 3) := dk_153 0 20 (dk_at dksX1_worst_0 15 rfl rfl)
theorem dX1_worst_18 : decode cX1_worst 18 = .ok (.iload_n 3, 1) := dk_29 (dk_at dksX1_worst_0 18 rfl rfl)
theorem dX1_worst_19 : decode cX1_worst 19 = .ok (.iload_n 2, 1) := dk_28 (dk_at dksX1_worst_0 19 rfl rfl)
theorem dX1_worst_20 : decode cX1_worst 20 = .ok (.bipush 99, 2) := dk_16 99 (dk_at dksX1_worst_0 20 rfl rfl)
theorem dX1_worst_22 : decode cX1_worst 22 = .ok (.invokestatic 3, 3) := dk_184 0 3 (dk_at dksX1_worst_1 0 rfl rfl)
theorem dX1_worst_25 : decode cX1_worst 25 = .ok (.ifCond .eq 10, 3) := dk_153 0 10 (dk_at dksX1_worst_1 3 rfl rfl)
theorem dX1_worst_28 : decode cX1_worst 28 = .ok (.aload_n 0, 1) := dk_42 (dk_at dksX1_worst_1 6 rfl rfl)
theorem dX1_worst_29 : decode cX1_worst 29 = .ok (.getfield 105, 3) := dk_180 0 105 (dk_at dksX1_worst_1 7 rfl rfl)
theorem dX1_worst_32 : decode cX1_worst 32 = .ok (.ifCond .ne 5, 3) := dk_154 0 5 (dk_at dksX1_worst_1 10 rfl rfl)
theorem dX1_worst_35 : decode cX1_worst 35 = .ok (.iconst (-1), 1) := dk_2 (dk_at dksX1_worst_1 13 rfl rfl)
theorem dX1_worst_36 : decode cX1_worst 36 = .ok (.ireturn, 1) := dk_172 (dk_at dksX1_worst_1 14 rfl rfl)
theorem dX1_worst_37 : decode cX1_worst 37 = .ok (.bipush (-2), 2) := dk_16 254 (dk_at dksX1_worst_1 15 rfl rfl)
theorem dX1_worst_39 : decode cX1_worst 39 = .ok (.istore 4, 2) := dk_54 4 (dk_at dksX1_worst_1 17 rfl rfl)
theorem dX1_worst_41 : decode cX1_worst 41 = .ok (.iconst 0, 1) := dk_3 (dk_at dksX1_worst_1 19 rfl rfl)
theorem dX1_worst_42 : decode cX1_worst 42 = .ok (.istore 5, 2) := dk_54 5 (dk_at dksX1_worst_1 20 rfl rfl)
theorem dX1_worst_44 : decode cX1_worst 44 = .ok (.iload_n 2, 1) := dk_28 (dk_at dksX1_worst_1 22 rfl rfl)
theorem dX1_worst_45 : decode cX1_worst 45 = .ok (.istore 6, 2) := dk_54 6 (dk_at dksX1_worst_2 0 rfl rfl)
theorem dX1_worst_47 : decode cX1_worst 47 = .ok (.iload 6, 2) := dk_21 6 (dk_at dksX1_worst_2 2 rfl rfl)
theorem dX1_worst_49 : decode cX1_worst 49 = .ok (.iload_n 3, 1) := dk_29 (dk_at dksX1_worst_2 4 rfl rfl)
theorem dX1_worst_50 : decode cX1_worst 50 = .ok (.if_icmp .gt 72, 3) := dk_163 0 72 (dk_at dksX1_worst_2 5 rfl rfl)
theorem dX1_worst_53 : decode cX1_worst 53 = .ok (.aload_n 0, 1) := dk_42 (dk_at dksX1_worst_2 8 rfl rfl)
theorem dX1_worst_54 : decode cX1_worst 54 = .ok (.getfield 52, 3) := dk_180 0 52 (dk_at dksX1_worst_2 9 rfl rfl)
theorem dX1_worst_57 : decode cX1_worst 57 = .ok (.getfield 127, 3) := dk_180 0 127 (dk_at dksX1_worst_2 12 rfl rfl)
theorem dX1_worst_60 : decode cX1_worst 60 = .ok (.iload_n 1, 1) := dk_27 (dk_at dksX1_worst_2 15 rfl rfl)
theorem dX1_worst_61 : decode cX1_worst 61 = .ok (.aaload, 1) := dk_50 (dk_at dksX1_worst_2 16 rfl rfl)
theorem dX1_worst_62 : decode cX1_worst 62 = .ok (.getfield 137, 3) := dk_180 0 137 (dk_at dksX1_worst_2 17 rfl rfl)
theorem dX1_worst_65 : decode cX1_worst 65 = .ok (.iload 6, 2) := dk_21 6 (dk_at dksX1_worst_2 20 rfl rfl)
theorem dX1_worst_67 : decode cX1_worst 67 = .ok (.baload, 1) := dk_51 (dk_at dksX1_worst_2 22 rfl rfl)
theorem dX1_worst_68 : decode cX1_worst 68 = .ok (.ifCond .eq 6, 3) := dk_153 0 6 (dk_at dksX1_worst_3 0 rfl rfl)
theorem dX1_worst_71 : decode cX1_worst 71 = .ok (.goto 45, 3) := dk_167 0 45 (dk_at dksX1_worst_3 3 rfl rfl)
theorem dX1_worst_74 : decode cX1_worst 74 = .ok (.aload_n 0, 1) := dk_42 (dk_at dksX1_worst_3 6 rfl rfl)
theorem dX1_worst_75 : decode cX1_worst 75 = .ok (.iload_n 1, 1) := dk_27 (dk_at dksX1_worst_3 7 rfl rfl)
theorem dX1_worst_76 : decode cX1_worst 76 = .ok (.aload_n 0, 1) := dk_42 (dk_at dksX1_worst_3 8 rfl rfl)
theorem dX1_worst_77 : decode cX1_worst 77 = .ok (.iload_n 1, 1) := dk_27 (dk_at dksX1_worst_3 9 rfl rfl)
theorem dX1_worst_78 : decode cX1_worst 78 = .ok (.iload 6, 2) := dk_21 6 (dk_at dksX1_worst_3 10 rfl rfl)
theorem dX1_worst_80 : decode cX1_worst 80 = .ok (.invokevirtual 410, 3) := dk_182 1 154 (dk_at dksX1_worst_3 12 rfl rfl)
theorem dX1_worst_83 : decode cX1_worst 83 = .ok (.invokevirtual 414, 3) := dk_182 1 158 (dk_at dksX1_worst_3 15 rfl rfl)
theorem dX1_worst_86 : decode cX1_worst 86 = .ok (.istore 7, 2) := dk_54 7 (dk_at dksX1_worst_3 18 rfl rfl)
theorem dX1_worst_88 : decode cX1_worst 88 = .ok (.iload 7, 2) := dk_21 7 (dk_at dksX1_worst_3 20 rfl rfl)
theorem dX1_worst_90 : decode cX1_worst 90 = .ok (.ifCond .lt 26, 3) := dk_155 0 26 (dk_at dksX1_worst_4 0 rfl rfl)
theorem dX1_worst_93 : decode cX1_worst 93 = .ok (.iload 4, 2) := dk_21 4 (dk_at dksX1_worst_4 3 rfl rfl)
theorem dX1_worst_95 : decode cX1_worst 95 = .ok (.ifCond .lt 13, 3) := dk_155 0 13 (dk_at dksX1_worst_4 5 rfl rfl)
theorem dX1_worst_98 : decode cX1_worst 98 = .ok (.iload 7, 2) := dk_21 7 (dk_at dksX1_worst_4 8 rfl rfl)
theorem dX1_worst_100 : decode cX1_worst 100 = .ok (.iload 5, 2) := dk_21 5 (dk_at dksX1_worst_4 10 rfl rfl)
theorem dX1_worst_102 : decode cX1_worst 102 = .ok (.if_icmp .gt 6, 3) := dk_163 0 6 (dk_at dksX1_worst_4 12 rfl rfl)
theorem dX1_worst_105 : decode cX1_worst 105 = .ok (.goto 11, 3) := dk_167 0 11 (dk_at dksX1_worst_4 15 rfl rfl)
theorem dX1_worst_108 : decode cX1_worst 108 = .ok (.iload 6, 2) := dk_21 6 (dk_at dksX1_worst_4 18 rfl rfl)
theorem dX1_worst_110 : decode cX1_worst 110 = .ok (.istore 4, 2) := dk_54 4 (dk_at dksX1_worst_4 20 rfl rfl)
theorem dX1_worst_112 : decode cX1_worst 112 = .ok (.iload 7, 2) := dk_21 7 (dk_at dksX1_worst_4 22 rfl rfl)
theorem dX1_worst_114 : decode cX1_worst 114 = .ok (.istore 5, 2) := dk_54 5 (dk_at dksX1_worst_5 0 rfl rfl)
theorem dX1_worst_116 : decode cX1_worst 116 = .ok (.iinc 6 1, 3) := dk_132 6 1 (dk_at dksX1_worst_5 2 rfl rfl)
theorem dX1_worst_119 : decode cX1_worst 119 = .ok (.goto (-72), 3) := dk_167 255 184 (dk_at dksX1_worst_5 5 rfl rfl)
theorem dX1_worst_122 : decode cX1_worst 122 = .ok (.iload 4, 2) := dk_21 4 (dk_at dksX1_worst_5 8 rfl rfl)
theorem dX1_worst_124 : decode cX1_worst 124 = .ok (.ifCond .ge 6, 3) := dk_156 0 6 (dk_at dksX1_worst_5 10 rfl rfl)
theorem dX1_worst_127 : decode cX1_worst 127 = .ok (.bipush (-2), 2) := dk_16 254 (dk_at dksX1_worst_5 13 rfl rfl)
theorem dX1_worst_129 : decode cX1_worst 129 = .ok (.ireturn, 1) := dk_172 (dk_at dksX1_worst_5 15 rfl rfl)
theorem dX1_worst_130 : decode cX1_worst 130 = .ok (.aload_n 0, 1) := dk_42 (dk_at dksX1_worst_5 16 rfl rfl)
theorem dX1_worst_131 : decode cX1_worst 131 = .ok (.iconst 0, 1) := dk_3 (dk_at dksX1_worst_5 17 rfl rfl)
theorem dX1_worst_132 : decode cX1_worst 132 = .ok (.putfield 94, 3) := dk_181 0 94 (dk_at dksX1_worst_5 18 rfl rfl)
theorem dX1_worst_135 : decode cX1_worst 135 = .ok (.aload_n 0, 1) := dk_42 (dk_at dksX1_worst_5 21 rfl rfl)
theorem dX1_worst_136 : decode cX1_worst 136 = .ok (.iload 5, 2) := dk_21 5 (dk_at dksX1_worst_5 22 rfl rfl)
theorem dX1_worst_138 : decode cX1_worst 138 = .ok (.i2l, 1) := dk_133 (dk_at dksX1_worst_6 0 rfl rfl)
theorem dX1_worst_139 : decode cX1_worst 139 = .ok (.invokevirtual 101, 3) := dk_182 0 101 (dk_at dksX1_worst_6 1 rfl rfl)
theorem dX1_worst_142 : decode cX1_worst 142 = .ok (.iload 4, 2) := dk_21 4 (dk_at dksX1_worst_6 4 rfl rfl)
theorem dX1_worst_144 : decode cX1_worst 144 = .ok (.ireturn, 1) := dk_172 (dk_at dksX1_worst_6 6 rfl rfl)
def dkwX1_march_5 : List UInt8 := [21, 5, 21, 4, 100, 172]
abbrev dktX1_march_5 : List UInt8 := dkwX1_march_5 ++ []
def dkwX1_march_4 : List UInt8 := [27, 45, 182, 1, 158, 54, 5, 21, 5, 155, 0, 8, 21, 4, 156, 0, 9, 17, 216, 241, 167, 0, 8]
abbrev dktX1_march_4 : List UInt8 := dkwX1_march_4 ++ dktX1_march_5
def dkwX1_march_3 : List UInt8 := [181, 0, 134, 42, 180, 0, 66, 42, 180, 0, 62, 182, 1, 16, 42, 180, 0, 52, 182, 1, 12, 54, 4, 42]
abbrev dktX1_march_3 : List UInt8 := dkwX1_march_3 ++ dktX1_march_4
def dkwX1_march_2 : List UInt8 := [180, 0, 52, 180, 0, 127, 27, 50, 180, 1, 151, 184, 1, 125, 78, 45, 28, 181, 0, 131, 45, 4]
abbrev dktX1_march_2 : List UInt8 := dkwX1_march_2 ++ dktX1_march_3
def dkwX1_march_1 : List UInt8 := [42, 180, 0, 52, 180, 0, 127, 27, 50, 42, 180, 0, 52, 180, 0, 127, 27, 50, 180, 1, 40, 42]
abbrev dktX1_march_1 : List UInt8 := dkwX1_march_1 ++ dktX1_march_2
def dkwX1_march_0 : List UInt8 := [42, 27, 182, 0, 121, 153, 0, 17, 28, 184, 0, 124, 153, 0, 10, 42, 180, 0, 105, 154, 0, 5, 2, 172]
abbrev dktX1_march_0 : List UInt8 := dkwX1_march_0 ++ dktX1_march_1
theorem dksX1_march_0 : cX1_march.data.toList.drop 0 = dktX1_march_0 := by decide +kernel
theorem dksX1_march_1 : cX1_march.data.toList.drop 24 = dktX1_march_1 := dk_seg dksX1_march_0 24 rfl rfl
theorem dksX1_march_2 : cX1_march.data.toList.drop 46 = dktX1_march_2 := dk_seg dksX1_march_1 22 rfl rfl
theorem dksX1_march_3 : cX1_march.data.toList.drop 68 = dktX1_march_3 := dk_seg dksX1_march_2 22 rfl rfl
theorem dksX1_march_4 : cX1_march.data.toList.drop 92 = dktX1_march_4 := dk_seg dksX1_march_3 24 rfl rfl
theorem dksX1_march_5 : cX1_march.data.toList.drop 115 = dktX1_march_5 := dk_seg dksX1_march_4 23 rfl rfl
theorem dX1_march_0 : decode cX1_march 0 = .ok (.aload_n 0, 1) := dk_42 (dk_at dksX1_march_0 0 rfl rfl)
theorem dX1_march_1 : decode cX1_march 1 = .ok (.iload_n 1, 1) := dk_27 (dk_at dksX1_march_0 1 rfl rfl)
theorem dX1_march_2 : decode cX1_march 2 = .ok (.invokevirtual 121, 3) := dk_182 0 121 (dk_at dksX1_march_0 2 rfl rfl)
theorem dX1_march_5 : decode cX1_march 5 = .ok (.ifCond .eq 17, 3) := dk_153 0 17 (dk_at dksX1_march_0 5 rfl rfl)
theorem dX1_march_8 : decode cX1_march 8 = .ok (.iload_n 2, 1) := dk_28 (dk_at dksX1_march_0 8 rfl rfl)
theorem dX1_march_9 : decode cX1_march 9 = .ok (.invokestatic 124, 3) := dk_184 0 124 (dk_at dksX1_march_0 9 rfl rfl)
theorem dX1_march_12 : decode cX1_march 12 = .ok (.ifCond .eq 10, 3) := dk_153 0 10 (dk_at dksX1_march_0 12 rfl rfl)
theorem dX1_march_15 : decode cX1_march 15 = .ok (.aload_n 0, 1) := dk_42 (dk_at dksX1_march_0 15 rfl rfl)
theorem dX1_march_16 : decode cX1_march 16 = .ok (.getfield 105, 3) := dk_180 0 105 (dk_at dksX1_march_0 16 rfl rfl)
theorem dX1_march_19 : decode cX1_march 19 = .ok (.ifCond .ne 5, 3) := dk_154 0 5 (dk_at dksX1_march_0 19 rfl rfl)
theorem dX1_march_22 : decode cX1_march 22 = .ok (.iconst (-1), 1) := dk_2 (dk_at dksX1_march_0 22 rfl rfl)
theorem dX1_march_23 : decode cX1_march 23 = .ok (.ireturn, 1) := dk_172 (dk_at dksX1_march_0 23 rfl rfl)
theorem dX1_march_24 : decode cX1_march 24 = .ok (.aload_n 0, 1) := dk_42 (dk_at dksX1_march_1 0 rfl rfl)
theorem dX1_march_25 : decode cX1_march 25 = .ok (.getfield 52, 3) := dk_180 0 52 (dk_at dksX1_march_1 1 rfl rfl)
theorem dX1_march_28 : decode cX1_march 28 = .ok (.getfield 127, 3) := dk_180 0 127 (dk_at dksX1_march_1 4 rfl rfl)
theorem dX1_march_31 : decode cX1_march 31 = .ok (.iload_n 1, 1) := dk_27 (dk_at dksX1_march_1 7 rfl rfl)
theorem dX1_march_32 : decode cX1_march 32 = .ok (.aaload, 1) := dk_50 (dk_at dksX1_march_1 8 rfl rfl)
theorem dX1_march_33 : decode cX1_march 33 = .ok (.aload_n 0, 1) := dk_42 (dk_at dksX1_march_1 9 rfl rfl)
theorem dX1_march_34 : decode cX1_march 34 = .ok (.getfield 52, 3) := dk_180 0 52 (dk_at dksX1_march_1 10 rfl rfl)
theorem dX1_march_37 : decode cX1_march 37 = .ok (.getfield 127, 3) := dk_180 0 127 (dk_at dksX1_march_1 13 rfl rfl)
theorem dX1_march_40 : decode cX1_march 40 = .ok (.iload_n 1, 1) := dk_27 (dk_at dksX1_march_1 16 rfl rfl)
theorem dX1_march_41 : decode cX1_march 41 = .ok (.aaload, 1) := dk_50 (dk_at dksX1_march_1 17 rfl rfl)
theorem dX1_march_42 : decode cX1_march 42 = .ok (.getfield 296, 3) := dk_180 1 40 (dk_at dksX1_march_1 18 rfl rfl)
theorem dX1_march_45 : decode cX1_march 45 = .ok (.aload_n 0, 1) := dk_42 (dk_at dksX1_march_1 21 rfl rfl)
theorem dX1_march_46 : decode cX1_march 46 = .ok (.getfield 52, 3) := dk_180 0 52 (dk_at dksX1_march_2 0 rfl rfl)
theorem dX1_march_49 : decode cX1_march 49 = .ok (.getfield 127, 3) := dk_180 0 127 (dk_at dksX1_march_2 3 rfl rfl)
theorem dX1_march_52 : decode cX1_march 52 = .ok (.iload_n 1, 1) := dk_27 (dk_at dksX1_march_2 6 rfl rfl)
theorem dX1_march_53 : decode cX1_march 53 = .ok (.aaload, 1) := dk_50 (dk_at dksX1_march_2 7 rfl rfl)
theorem dX1_march_54 : decode cX1_march 54 = .ok (.getfield 407, 3) := dk_180 1 151 (dk_at dksX1_march_2 8 rfl rfl)
theorem dX1_march_57 : decode cX1_march 57 = .ok (.invokestatic 381, 3) := dk_184 1 125 (dk_at dksX1_march_2 11 rfl rfl)
theorem dX1_march_60 : decode cX1_march 60 = .ok (.astore_n 3, 1) := dk_78 (dk_at dksX1_march_2 14 rfl rfl)
theorem dX1_march_61 : decode cX1_march 61 = .ok (.aload_n 3, 1) := dk_45 (dk_at dksX1_march_2 15 rfl rfl)
theorem dX1_march_62 : decode cX1_march 62 = .ok (.iload_n 2, 1) := dk_28 (dk_at dksX1_march_2 16 rfl rfl)
theorem dX1_march_63 : decode cX1_march 63 = .ok (.putfield 131, 3) := dk_181 0 131 (dk_at dksX1_march_2 17 rfl rfl)
theorem dX1_march_66 : decode cX1_march 66 = .ok (.aload_n 3, 1) := dk_45 (dk_at dksX1_march_2 20 rfl rfl)
theorem dX1_march_67 : decode cX1_march 67 = .ok (.iconst 1, 1) := dk_4 (dk_at dksX1_march_2 21 rfl rfl)
theorem dX1_march_68 : decode cX1_march 68 = .ok (.putfield 134, 3) := dk_181 0 134 (dk_at dksX1_march_3 0 rfl rfl)
theorem dX1_march_71 : decode cX1_march 71 = .ok (.aload_n 0, 1) := dk_42 (dk_at dksX1_march_3 3 rfl rfl)
theorem dX1_march_72 : decode cX1_march 72 = .ok (.getfield 66, 3) := dk_180 0 66 (dk_at dksX1_march_3 4 rfl rfl)
theorem dX1_march_75 : decode cX1_march 75 = .ok (.aload_n 0, 1) := dk_42 (dk_at dksX1_march_3 7 rfl rfl)
theorem dX1_march_76 : decode cX1_march 76 = .ok (.getfield 62, 3) := dk_180 0 62 (dk_at dksX1_march_3 8 rfl rfl)
theorem dX1_march_79 : decode cX1_march 79 = .ok (.invokevirtual 272, 3) := dk_182 1 16 (dk_at dksX1_march_3 11 rfl rfl)
theorem dX1_march_82 : decode cX1_march 82 = .ok (.aload_n 0, 1) := dk_42 (dk_at dksX1_march_3 14 rfl rfl)
theorem dX1_march_83 : decode cX1_march 83 = .ok (.getfield 52, 3) := dk_180 0 52 (dk_at dksX1_march_3 15 rfl rfl)
theorem dX1_march_86 : decode cX1_march 86 = .ok (.invokevirtual 268, 3) := dk_182 1 12 (dk_at dksX1_march_3 18 rfl rfl)
theorem dX1_march_89 : decode cX1_march 89 = .ok (.istore 4, 2) := dk_54 4 (dk_at dksX1_march_3 21 rfl rfl)
theorem dX1_march_91 : decode cX1_march 91 = .ok (.aload_n 0, 1) := dk_42 (dk_at dksX1_march_3 23 rfl rfl)
theorem dX1_march_92 : decode cX1_march 92 = .ok (.iload_n 1, 1) := dk_27 (dk_at dksX1_march_4 0 rfl rfl)
theorem dX1_march_93 : decode cX1_march 93 = .ok (.aload_n 3, 1) := dk_45 (dk_at dksX1_march_4 1 rfl rfl)
theorem dX1_march_94 : decode cX1_march 94 = .ok (.invokevirtual 414, 3) := dk_182 1 158 (dk_at dksX1_march_4 2 rfl rfl)
theorem dX1_march_97 : decode cX1_march 97 = .ok (.istore 5, 2) := dk_54 5 (dk_at dksX1_march_4 5 rfl rfl)
theorem dX1_march_99 : decode cX1_march 99 = .ok (.iload 5, 2) := dk_21 5 (dk_at dksX1_march_4 7 rfl rfl)
theorem dX1_march_101 : decode cX1_march 101 = .ok (.ifCond .lt 8, 3) := dk_155 0 8 (dk_at dksX1_march_4 9 rfl rfl)
theorem dX1_march_104 : decode cX1_march 104 = .ok (.iload 4, 2) := dk_21 4 (dk_at dksX1_march_4 12 rfl rfl)
theorem dX1_march_106 : decode cX1_march 106 = .ok (.ifCond .ge 9, 3) := dk_156 0 9 (dk_at dksX1_march_4 14 rfl rfl)
theorem dX1_march_109 : decode cX1_march 109 = .ok (.sipush (-9999), 3) := dk_17 216 241 (dk_at dksX1_march_4 17 rfl rfl)
theorem dX1_march_112 : decode cX1_march 112 = .ok (.goto 8, 3) := dk_167 0 8 (dk_at dksX1_march_4 20 rfl rfl)
theorem dX1_march_115 : decode cX1_march 115 = .ok (.iload 5, 2) := dk_21 5 (dk_at dksX1_march_5 0 rfl rfl)
theorem dX1_march_117 : decode cX1_march 117 = .ok (.iload 4, 2) := dk_21 4 (dk_at dksX1_march_5 2 rfl rfl)
theorem dX1_march_119 : decode cX1_march 119 = .ok (.isub, 1) := dk_100 (dk_at dksX1_march_5 4 rfl rfl)
theorem dX1_march_120 : decode cX1_march 120 = .ok (.ireturn, 1) := dk_172 (dk_at dksX1_march_5 5 rfl rfl)
def dkwX1_keep_1 : List UInt8 := [42, 180, 0, 62, 182, 1, 16, 83, 42, 180, 0, 91, 27, 42, 180, 0, 105, 79, 4, 172]
abbrev dktX1_keep_1 : List UInt8 := dkwX1_keep_1 ++ []
def dkwX1_keep_0 : List UInt8 := [27, 3, 5, 184, 0, 3, 154, 0, 5, 3, 172, 42, 180, 0, 87, 27, 187, 0, 8, 89, 42, 183, 0, 59]
abbrev dktX1_keep_0 : List UInt8 := dkwX1_keep_0 ++ dktX1_keep_1
theorem dksX1_keep_0 : cX1_keep.data.toList.drop 0 = dktX1_keep_0 := by decide +kernel
theorem dksX1_keep_1 : cX1_keep.data.toList.drop 24 = dktX1_keep_1 := dk_seg dksX1_keep_0 24 rfl rfl
theorem dX1_keep_0 : decode cX1_keep 0 = .ok (.iload_n 1, 1) := dk_27 (dk_at dksX1_keep_0 0 rfl rfl)
theorem dX1_keep_1 : decode cX1_keep 1 = .ok (.iconst 0, 1) := dk_3 (dk_at dksX1_keep_0 1 rfl rfl)
theorem dX1_keep_2 : decode cX1_keep 2 = .ok (.iconst 2, 1) := dk_5 (dk_at dksX1_keep_0 2 rfl rfl)
theorem dX1_keep_3 : decode cX1_keep 3 = .ok (.invokestatic 3, 3) := dk_184 0 3 (dk_at dksX1_keep_0 3 rfl rfl)
theorem dX1_keep_6 : decode cX1_keep 6 = .ok (.ifCond .ne 5, 3) := dk_154 0 5 (dk_at dksX1_keep_0 6 rfl rfl)
theorem dX1_keep_9 : decode cX1_keep 9 = .ok (.iconst 0, 1) := dk_3 (dk_at dksX1_keep_0 9 rfl rfl)
theorem dX1_keep_10 : decode cX1_keep 10 = .ok (.ireturn, 1) := dk_172 (dk_at dksX1_keep_0 10 rfl rfl)
theorem dX1_keep_11 : decode cX1_keep 11 = .ok (.aload_n 0, 1) := dk_42 (dk_at dksX1_keep_0 11 rfl rfl)
theorem dX1_keep_12 : decode cX1_keep 12 = .ok (.getfield 87, 3) := dk_180 0 87 (dk_at dksX1_keep_0 12 rfl rfl)
theorem dX1_keep_15 : decode cX1_keep 15 = .ok (.iload_n 1, 1) := dk_27 (dk_at dksX1_keep_0 15 rfl rfl)
theorem dX1_keep_16 : decode cX1_keep 16 = .ok (.new 8, 3) := dk_187 0 8 (dk_at dksX1_keep_0 16 rfl rfl)
theorem dX1_keep_19 : decode cX1_keep 19 = .ok (.dup, 1) := dk_89 (dk_at dksX1_keep_0 19 rfl rfl)
theorem dX1_keep_20 : decode cX1_keep 20 = .ok (.aload_n 0, 1) := dk_42 (dk_at dksX1_keep_0 20 rfl rfl)
theorem dX1_keep_21 : decode cX1_keep 21 = .ok (.invokespecial 59, 3) := dk_183 0 59 (dk_at dksX1_keep_0 21 rfl rfl)
theorem dX1_keep_24 : decode cX1_keep 24 = .ok (.aload_n 0, 1) := dk_42 (dk_at dksX1_keep_1 0 rfl rfl)
theorem dX1_keep_25 : decode cX1_keep 25 = .ok (.getfield 62, 3) := dk_180 0 62 (dk_at dksX1_keep_1 1 rfl rfl)
theorem dX1_keep_28 : decode cX1_keep 28 = .ok (.invokevirtual 272, 3) := dk_182 1 16 (dk_at dksX1_keep_1 4 rfl rfl)
theorem dX1_keep_31 : decode cX1_keep 31 = .ok (.aastore, 1) := dk_83 (dk_at dksX1_keep_1 7 rfl rfl)
theorem dX1_keep_32 : decode cX1_keep 32 = .ok (.aload_n 0, 1) := dk_42 (dk_at dksX1_keep_1 8 rfl rfl)
theorem dX1_keep_33 : decode cX1_keep 33 = .ok (.getfield 91, 3) := dk_180 0 91 (dk_at dksX1_keep_1 9 rfl rfl)
theorem dX1_keep_36 : decode cX1_keep 36 = .ok (.iload_n 1, 1) := dk_27 (dk_at dksX1_keep_1 12 rfl rfl)
theorem dX1_keep_37 : decode cX1_keep 37 = .ok (.aload_n 0, 1) := dk_42 (dk_at dksX1_keep_1 13 rfl rfl)
theorem dX1_keep_38 : decode cX1_keep 38 = .ok (.getfield 105, 3) := dk_180 0 105 (dk_at dksX1_keep_1 14 rfl rfl)
theorem dX1_keep_41 : decode cX1_keep 41 = .ok (.iastore, 1) := dk_79 (dk_at dksX1_keep_1 17 rfl rfl)
theorem dX1_keep_42 : decode cX1_keep 42 = .ok (.iconst 1, 1) := dk_4 (dk_at dksX1_keep_1 18 rfl rfl)
theorem dX1_keep_43 : decode cX1_keep 43 = .ok (.ireturn, 1) := dk_172 (dk_at dksX1_keep_1 19 rfl rfl)
def dkwX1_again_2 : List UInt8 := [172]
abbrev dktX1_again_2 : List UInt8 := dkwX1_again_2 ++ []
def dkwX1_again_1 : List UInt8 := [42, 180, 0, 105, 159, 0, 5, 3, 172, 42, 180, 0, 62, 42, 180, 0, 87, 27, 50, 182, 1, 16, 87, 4]
abbrev dktX1_again_1 : List UInt8 := dkwX1_again_1 ++ dktX1_again_2
def dkwX1_again_0 : List UInt8 := [27, 3, 5, 184, 0, 3, 153, 0, 25, 42, 180, 0, 87, 27, 50, 198, 0, 16, 42, 180, 0, 91, 27, 46]
abbrev dktX1_again_0 : List UInt8 := dkwX1_again_0 ++ dktX1_again_1
theorem dksX1_again_0 : cX1_again.data.toList.drop 0 = dktX1_again_0 := by decide +kernel
theorem dksX1_again_1 : cX1_again.data.toList.drop 24 = dktX1_again_1 := dk_seg dksX1_again_0 24 rfl rfl
theorem dksX1_again_2 : cX1_again.data.toList.drop 48 = dktX1_again_2 := dk_seg dksX1_again_1 24 rfl rfl
theorem dX1_again_0 : decode cX1_again 0 = .ok (.iload_n 1, 1) := dk_27 (dk_at dksX1_again_0 0 rfl rfl)
theorem dX1_again_1 : decode cX1_again 1 = .ok (.iconst 0, 1) := dk_3 (dk_at dksX1_again_0 1 rfl rfl)
theorem dX1_again_2 : decode cX1_again 2 = .ok (.iconst 2, 1) := dk_5 (dk_at dksX1_again_0 2 rfl rfl)
theorem dX1_again_3 : decode cX1_again 3 = .ok (.invokestatic 3, 3) := dk_184 0 3 (dk_at dksX1_again_0 3 rfl rfl)
theorem dX1_again_6 : decode cX1_again 6 = .ok (.ifCond .eq 25, 3) := dk_153 0 25 (dk_at dksX1_again_0 6 rfl rfl)
theorem dX1_again_9 : decode cX1_again 9 = .ok (.aload_n 0, 1) := dk_42 (dk_at dksX1_again_0 9 rfl rfl)
theorem dX1_again_10 : decode cX1_again 10 = .ok (.getfield 87, 3) := dk_180 0 87 (dk_at dksX1_again_0 10 rfl rfl)
theorem dX1_again_13 : decode cX1_again 13 = .ok (.iload_n 1, 1) := dk_27 (dk_at dksX1_again_0 13 rfl rfl)
theorem dX1_again_14 : decode cX1_again 14 = .ok (.aaload, 1) := dk_50 (dk_at dksX1_again_0 14 rfl rfl)
theorem dX1_again_15 : decode cX1_again 15 = .ok (.ifnull 16, 3) := dk_198 0 16 (dk_at dksX1_again_0 15 rfl rfl)
theorem dX1_again_18 : decode cX1_again 18 = .ok (.aload_n 0, 1) := dk_42 (dk_at dksX1_again_0 18 rfl rfl)
theorem dX1_again_19 : decode cX1_again 19 = .ok (.getfield 91, 3) := dk_180 0 91 (dk_at dksX1_again_0 19 rfl rfl)
theorem dX1_again_22 : decode cX1_again 22 = .ok (.iload_n 1, 1) := dk_27 (dk_at dksX1_again_0 22 rfl rfl)
theorem dX1_again_23 : decode cX1_again 23 = .ok (.iaload, 1) := dk_46 (dk_at dksX1_again_0 23 rfl rfl)
theorem dX1_again_24 : decode cX1_again 24 = .ok (.aload_n 0, 1) := dk_42 (dk_at dksX1_again_1 0 rfl rfl)
theorem dX1_again_25 : decode cX1_again 25 = .ok (.getfield 105, 3) := dk_180 0 105 (dk_at dksX1_again_1 1 rfl rfl)
theorem dX1_again_28 : decode cX1_again 28 = .ok (.if_icmp .eq 5, 3) := dk_159 0 5 (dk_at dksX1_again_1 4 rfl rfl)
theorem dX1_again_31 : decode cX1_again 31 = .ok (.iconst 0, 1) := dk_3 (dk_at dksX1_again_1 7 rfl rfl)
theorem dX1_again_32 : decode cX1_again 32 = .ok (.ireturn, 1) := dk_172 (dk_at dksX1_again_1 8 rfl rfl)
theorem dX1_again_33 : decode cX1_again 33 = .ok (.aload_n 0, 1) := dk_42 (dk_at dksX1_again_1 9 rfl rfl)
theorem dX1_again_34 : decode cX1_again 34 = .ok (.getfield 62, 3) := dk_180 0 62 (dk_at dksX1_again_1 10 rfl rfl)
theorem dX1_again_37 : decode cX1_again 37 = .ok (.aload_n 0, 1) := dk_42 (dk_at dksX1_again_1 13 rfl rfl)
theorem dX1_again_38 : decode cX1_again 38 = .ok (.getfield 87, 3) := dk_180 0 87 (dk_at dksX1_again_1 14 rfl rfl)
theorem dX1_again_41 : decode cX1_again 41 = .ok (.iload_n 1, 1) := dk_27 (dk_at dksX1_again_1 17 rfl rfl)
theorem dX1_again_42 : decode cX1_again 42 = .ok (.aaload, 1) := dk_50 (dk_at dksX1_again_1 18 rfl rfl)
theorem dX1_again_43 : decode cX1_again 43 = .ok (.invokevirtual 272, 3) := dk_182 1 16 (dk_at dksX1_again_1 19 rfl rfl)
theorem dX1_again_46 : decode cX1_again 46 = .ok (.pop, 1) := dk_87 (dk_at dksX1_again_1 22 rfl rfl)
theorem dX1_again_47 : decode cX1_again 47 = .ok (.iconst 1, 1) := dk_4 (dk_at dksX1_again_1 23 rfl rfl)
theorem dX1_again_48 : decode cX1_again 48 = .ok (.ireturn, 1) := dk_172 (dk_at dksX1_again_2 0 rfl rfl)
def dkwX1_count_4 : List UInt8 := [180, 1, 7, 172, 42, 180, 0, 62, 180, 1, 9, 172, 42, 180, 0, 94, 172, 42, 180, 0, 197, 172, 2, 172]
abbrev dktX1_count_4 : List UInt8 := dkwX1_count_4 ++ []
def dkwX1_count_3 : List UInt8 := [180, 0, 62, 182, 1, 162, 172, 42, 180, 1, 96, 172, 42, 180, 0, 62, 180, 1, 4, 172, 42, 180, 0, 62]
abbrev dktX1_count_3 : List UInt8 := dkwX1_count_3 ++ dktX1_count_4
def dkwX1_count_2 : List UInt8 := [42, 180, 0, 52, 180, 0, 19, 172, 42, 180, 0, 105, 172, 42, 180, 0, 62, 180, 0, 225, 172, 42]
abbrev dktX1_count_2 : List UInt8 := dkwX1_count_2 ++ dktX1_count_3
def dkwX1_count_1 : List UInt8 := [170, 0, 0, 0, 0, 0, 123, 0, 0, 0, 0, 0, 0, 0, 9, 0, 0, 0, 55, 0, 0, 0, 63, 0, 0, 0, 68, 0, 0, 0, 76, 0, 0, 0, 84, 0, 0, 0, 89, 0, 0, 0, 97, 0, 0, 0, 105, 0, 0, 0, 113, 0, 0, 0, 118]
abbrev dktX1_count_1 : List UInt8 := dkwX1_count_1 ++ dktX1_count_2
def dkwX1_count_0 : List UInt8 := [27]
abbrev dktX1_count_0 : List UInt8 := dkwX1_count_0 ++ dktX1_count_1
theorem dksX1_count_0 : cX1_count.data.toList.drop 0 = dktX1_count_0 := by decide +kernel
theorem dksX1_count_1 : cX1_count.data.toList.drop 1 = dktX1_count_1 := dk_seg dksX1_count_0 1 rfl rfl
theorem dksX1_count_2 : cX1_count.data.toList.drop 56 = dktX1_count_2 := dk_seg dksX1_count_1 55 rfl rfl
theorem dksX1_count_3 : cX1_count.data.toList.drop 78 = dktX1_count_3 := dk_seg dksX1_count_2 22 rfl rfl
theorem dksX1_count_4 : cX1_count.data.toList.drop 102 = dktX1_count_4 := dk_seg dksX1_count_3 24 rfl rfl
theorem dX1_count_0 : decode cX1_count 0 = .ok (.iload_n 1, 1) := dk_27 (dk_at dksX1_count_0 0 rfl rfl)
theorem dX1_count_1 : decode cX1_count 1 = .ok (.tableswitch 123 0 9 #[55, 63, 68, 76, 84, 89, 97, 105, 113, 118], 55) := by decide +kernel
theorem dX1_count_56 : decode cX1_count 56 = .ok (.aload_n 0, 1) := dk_42 (dk_at dksX1_count_2 0 rfl rfl)
theorem dX1_count_57 : decode cX1_count 57 = .ok (.getfield 52, 3) := dk_180 0 52 (dk_at dksX1_count_2 1 rfl rfl)
theorem dX1_count_60 : decode cX1_count 60 = .ok (.getfield 19, 3) := dk_180 0 19 (dk_at dksX1_count_2 4 rfl rfl)
theorem dX1_count_63 : decode cX1_count 63 = .ok (.ireturn, 1) := dk_172 (dk_at dksX1_count_2 7 rfl rfl)
theorem dX1_count_64 : decode cX1_count 64 = .ok (.aload_n 0, 1) := dk_42 (dk_at dksX1_count_2 8 rfl rfl)
theorem dX1_count_65 : decode cX1_count 65 = .ok (.getfield 105, 3) := dk_180 0 105 (dk_at dksX1_count_2 9 rfl rfl)
theorem dX1_count_68 : decode cX1_count 68 = .ok (.ireturn, 1) := dk_172 (dk_at dksX1_count_2 12 rfl rfl)
theorem dX1_count_69 : decode cX1_count 69 = .ok (.aload_n 0, 1) := dk_42 (dk_at dksX1_count_2 13 rfl rfl)
theorem dX1_count_70 : decode cX1_count 70 = .ok (.getfield 62, 3) := dk_180 0 62 (dk_at dksX1_count_2 14 rfl rfl)
theorem dX1_count_73 : decode cX1_count 73 = .ok (.getfield 225, 3) := dk_180 0 225 (dk_at dksX1_count_2 17 rfl rfl)
theorem dX1_count_76 : decode cX1_count 76 = .ok (.ireturn, 1) := dk_172 (dk_at dksX1_count_2 20 rfl rfl)
theorem dX1_count_77 : decode cX1_count 77 = .ok (.aload_n 0, 1) := dk_42 (dk_at dksX1_count_2 21 rfl rfl)
theorem dX1_count_78 : decode cX1_count 78 = .ok (.getfield 62, 3) := dk_180 0 62 (dk_at dksX1_count_3 0 rfl rfl)
theorem dX1_count_81 : decode cX1_count 81 = .ok (.invokevirtual 418, 3) := dk_182 1 162 (dk_at dksX1_count_3 3 rfl rfl)
theorem dX1_count_84 : decode cX1_count 84 = .ok (.ireturn, 1) := dk_172 (dk_at dksX1_count_3 6 rfl rfl)
theorem dX1_count_85 : decode cX1_count 85 = .ok (.aload_n 0, 1) := dk_42 (dk_at dksX1_count_3 7 rfl rfl)
theorem dX1_count_86 : decode cX1_count 86 = .ok (.getfield 352, 3) := dk_180 1 96 (dk_at dksX1_count_3 8 rfl rfl)
theorem dX1_count_89 : decode cX1_count 89 = .ok (.ireturn, 1) := dk_172 (dk_at dksX1_count_3 11 rfl rfl)
theorem dX1_count_90 : decode cX1_count 90 = .ok (.aload_n 0, 1) := dk_42 (dk_at dksX1_count_3 12 rfl rfl)
theorem dX1_count_91 : decode cX1_count 91 = .ok (.getfield 62, 3) := dk_180 0 62 (dk_at dksX1_count_3 13 rfl rfl)
theorem dX1_count_94 : decode cX1_count 94 = .ok (.getfield 260, 3) := dk_180 1 4 (dk_at dksX1_count_3 16 rfl rfl)
theorem dX1_count_97 : decode cX1_count 97 = .ok (.ireturn, 1) := dk_172 (dk_at dksX1_count_3 19 rfl rfl)
theorem dX1_count_98 : decode cX1_count 98 = .ok (.aload_n 0, 1) := dk_42 (dk_at dksX1_count_3 20 rfl rfl)
theorem dX1_count_99 : decode cX1_count 99 = .ok (.getfield 62, 3) := dk_180 0 62 (dk_at dksX1_count_3 21 rfl rfl)
theorem dX1_count_102 : decode cX1_count 102 = .ok (.getfield 263, 3) := dk_180 1 7 (dk_at dksX1_count_4 0 rfl rfl)
theorem dX1_count_105 : decode cX1_count 105 = .ok (.ireturn, 1) := dk_172 (dk_at dksX1_count_4 3 rfl rfl)
theorem dX1_count_106 : decode cX1_count 106 = .ok (.aload_n 0, 1) := dk_42 (dk_at dksX1_count_4 4 rfl rfl)
theorem dX1_count_107 : decode cX1_count 107 = .ok (.getfield 62, 3) := dk_180 0 62 (dk_at dksX1_count_4 5 rfl rfl)
theorem dX1_count_110 : decode cX1_count 110 = .ok (.getfield 265, 3) := dk_180 1 9 (dk_at dksX1_count_4 8 rfl rfl)
theorem dX1_count_113 : decode cX1_count 113 = .ok (.ireturn, 1) := dk_172 (dk_at dksX1_count_4 11 rfl rfl)
theorem dX1_count_114 : decode cX1_count 114 = .ok (.aload_n 0, 1) := dk_42 (dk_at dksX1_count_4 12 rfl rfl)
theorem dX1_count_115 : decode cX1_count 115 = .ok (.getfield 94, 3) := dk_180 0 94 (dk_at dksX1_count_4 13 rfl rfl)
theorem dX1_count_118 : decode cX1_count 118 = .ok (.ireturn, 1) := dk_172 (dk_at dksX1_count_4 16 rfl rfl)
theorem dX1_count_119 : decode cX1_count 119 = .ok (.aload_n 0, 1) := dk_42 (dk_at dksX1_count_4 17 rfl rfl)
theorem dX1_count_120 : decode cX1_count 120 = .ok (.getfield 197, 3) := dk_180 0 197 (dk_at dksX1_count_4 18 rfl rfl)
theorem dX1_count_123 : decode cX1_count 123 = .ok (.ireturn, 1) := dk_172 (dk_at dksX1_count_4 21 rfl rfl)
theorem dX1_count_124 : decode cX1_count 124 = .ok (.iconst (-1), 1) := dk_2 (dk_at dksX1_count_4 22 rfl rfl)
theorem dX1_count_125 : decode cX1_count 125 = .ok (.ireturn, 1) := dk_172 (dk_at dksX1_count_4 23 rfl rfl)
def dkwX1_value_2 : List UInt8 := [180, 0, 52, 42, 180, 0, 62, 27, 28, 182, 0, 27, 185, 0, 218, 2, 0, 172]
abbrev dktX1_value_2 : List UInt8 := dkwX1_value_2 ++ []
def dkwX1_value_1 : List UInt8 := [199, 0, 11, 187, 0, 215, 89, 183, 0, 217, 191, 42, 180, 0, 52, 180, 0, 13, 42, 180, 0, 23, 42]
abbrev dktX1_value_1 : List UInt8 := dkwX1_value_1 ++ dktX1_value_2
def dkwX1_value_0 : List UInt8 := [42, 27, 182, 0, 212, 153, 0, 21, 42, 28, 182, 0, 121, 153, 0, 13, 42, 180, 0, 52, 180, 0, 13]
abbrev dktX1_value_0 : List UInt8 := dkwX1_value_0 ++ dktX1_value_1
theorem dksX1_value_0 : cX1_value.data.toList.drop 0 = dktX1_value_0 := by decide +kernel
theorem dksX1_value_1 : cX1_value.data.toList.drop 23 = dktX1_value_1 := dk_seg dksX1_value_0 23 rfl rfl
theorem dksX1_value_2 : cX1_value.data.toList.drop 46 = dktX1_value_2 := dk_seg dksX1_value_1 23 rfl rfl
theorem dX1_value_0 : decode cX1_value 0 = .ok (.aload_n 0, 1) := dk_42 (dk_at dksX1_value_0 0 rfl rfl)
theorem dX1_value_1 : decode cX1_value 1 = .ok (.iload_n 1, 1) := dk_27 (dk_at dksX1_value_0 1 rfl rfl)
theorem dX1_value_2 : decode cX1_value 2 = .ok (.invokevirtual 212, 3) := dk_182 0 212 (dk_at dksX1_value_0 2 rfl rfl)
theorem dX1_value_5 : decode cX1_value 5 = .ok (.ifCond .eq 21, 3) := dk_153 0 21 (dk_at dksX1_value_0 5 rfl rfl)
theorem dX1_value_8 : decode cX1_value 8 = .ok (.aload_n 0, 1) := dk_42 (dk_at dksX1_value_0 8 rfl rfl)
theorem dX1_value_9 : decode cX1_value 9 = .ok (.iload_n 2, 1) := dk_28 (dk_at dksX1_value_0 9 rfl rfl)
theorem dX1_value_10 : decode cX1_value 10 = .ok (.invokevirtual 121, 3) := dk_182 0 121 (dk_at dksX1_value_0 10 rfl rfl)
theorem dX1_value_13 : decode cX1_value 13 = .ok (.ifCond .eq 13, 3) := dk_153 0 13 (dk_at dksX1_value_0 13 rfl rfl)
theorem dX1_value_16 : decode cX1_value 16 = .ok (.aload_n 0, 1) := dk_42 (dk_at dksX1_value_0 16 rfl rfl)
theorem dX1_value_17 : decode cX1_value 17 = .ok (.getfield 52, 3) := dk_180 0 52 (dk_at dksX1_value_0 17 rfl rfl)
theorem dX1_value_20 : decode cX1_value 20 = .ok (.getfield 13, 3) := dk_180 0 13 (dk_at dksX1_value_0 20 rfl rfl)
theorem dX1_value_23 : decode cX1_value 23 = .ok (.ifnonnull 11, 3) := dk_199 0 11 (dk_at dksX1_value_1 0 rfl rfl)
theorem dX1_value_26 : decode cX1_value 26 = .ok (.new 215, 3) := dk_187 0 215 (dk_at dksX1_value_1 3 rfl rfl)
theorem dX1_value_29 : decode cX1_value 29 = .ok (.dup, 1) := dk_89 (dk_at dksX1_value_1 6 rfl rfl)
theorem dX1_value_30 : decode cX1_value 30 = .ok (.invokespecial 217, 3) := dk_183 0 217 (dk_at dksX1_value_1 7 rfl rfl)
theorem dX1_value_33 : decode cX1_value 33 = .ok (.athrow, 1) := dk_191 (dk_at dksX1_value_1 10 rfl rfl)
theorem dX1_value_34 : decode cX1_value 34 = .ok (.aload_n 0, 1) := dk_42 (dk_at dksX1_value_1 11 rfl rfl)
theorem dX1_value_35 : decode cX1_value 35 = .ok (.getfield 52, 3) := dk_180 0 52 (dk_at dksX1_value_1 12 rfl rfl)
theorem dX1_value_38 : decode cX1_value 38 = .ok (.getfield 13, 3) := dk_180 0 13 (dk_at dksX1_value_1 15 rfl rfl)
theorem dX1_value_41 : decode cX1_value 41 = .ok (.aload_n 0, 1) := dk_42 (dk_at dksX1_value_1 18 rfl rfl)
theorem dX1_value_42 : decode cX1_value 42 = .ok (.getfield 23, 3) := dk_180 0 23 (dk_at dksX1_value_1 19 rfl rfl)
theorem dX1_value_45 : decode cX1_value 45 = .ok (.aload_n 0, 1) := dk_42 (dk_at dksX1_value_1 22 rfl rfl)
theorem dX1_value_46 : decode cX1_value 46 = .ok (.getfield 52, 3) := dk_180 0 52 (dk_at dksX1_value_2 0 rfl rfl)
theorem dX1_value_49 : decode cX1_value 49 = .ok (.aload_n 0, 1) := dk_42 (dk_at dksX1_value_2 3 rfl rfl)
theorem dX1_value_50 : decode cX1_value 50 = .ok (.getfield 62, 3) := dk_180 0 62 (dk_at dksX1_value_2 4 rfl rfl)
theorem dX1_value_53 : decode cX1_value 53 = .ok (.iload_n 1, 1) := dk_27 (dk_at dksX1_value_2 7 rfl rfl)
theorem dX1_value_54 : decode cX1_value 54 = .ok (.iload_n 2, 1) := dk_28 (dk_at dksX1_value_2 8 rfl rfl)
theorem dX1_value_55 : decode cX1_value 55 = .ok (.invokevirtual 27, 3) := dk_182 0 27 (dk_at dksX1_value_2 9 rfl rfl)
theorem dX1_value_58 : decode cX1_value 58 = .ok (.invokeinterface 218 2, 5) := by decide +kernel
theorem dX1_value_63 : decode cX1_value 63 = .ok (.ireturn, 1) := dk_172 (dk_at dksX1_value_2 17 rfl rfl)
def dkwX1_of_6 : List UInt8 := [153, 0, 7, 4, 167, 0, 4, 3, 172, 187, 0, 215, 89, 183, 0, 217, 191]
abbrev dktX1_of_6 : List UInt8 := dkwX1_of_6 ++ []
def dkwX1_of_5 : List UInt8 := [180, 0, 247, 27, 46, 172, 42, 180, 0, 62, 180, 0, 250, 27, 46, 172, 42, 180, 0, 62, 27, 182, 0, 253]
abbrev dktX1_of_5 : List UInt8 := dkwX1_of_5 ++ dktX1_of_6
def dkwX1_of_4 : List UInt8 := [42, 180, 0, 62, 180, 0, 241, 27, 46, 172, 42, 180, 0, 62, 180, 0, 244, 27, 46, 172, 42, 180, 0, 62]
abbrev dktX1_of_4 : List UInt8 := dkwX1_of_4 ++ dktX1_of_5
def dkwX1_of_3 : List UInt8 := [180, 0, 235, 27, 46, 172, 42, 180, 0, 62, 180, 0, 238, 27, 51, 153, 0, 7, 4, 167, 0, 4, 3, 172]
abbrev dktX1_of_3 : List UInt8 := dkwX1_of_3 ++ dktX1_of_4
def dkwX1_of_2 : List UInt8 := [42, 180, 0, 62, 180, 0, 7, 27, 46, 172, 42, 180, 0, 62, 180, 0, 232, 27, 46, 172, 42, 180, 0, 62]
abbrev dktX1_of_2 : List UInt8 := dkwX1_of_2 ++ dktX1_of_3
def dkwX1_of_1 : List UInt8 := [170, 0, 0, 0, 0, 0, 156, 0, 0, 0, 0, 0, 0, 0, 8, 0, 0, 0, 51, 0, 0, 0, 61, 0, 0, 0, 71, 0, 0, 0, 81, 0, 0, 0, 99, 0, 0, 0, 109, 0, 0, 0, 119, 0, 0, 0, 129, 0, 0, 0, 139]
abbrev dktX1_of_1 : List UInt8 := dkwX1_of_1 ++ dktX1_of_2
def dkwX1_of_0 : List UInt8 := [42, 27, 182, 0, 212, 154, 0, 11, 187, 0, 215, 89, 183, 0, 217, 191, 28]
abbrev dktX1_of_0 : List UInt8 := dkwX1_of_0 ++ dktX1_of_1
theorem dksX1_of_0 : cX1_of.data.toList.drop 0 = dktX1_of_0 := by decide +kernel
theorem dksX1_of_1 : cX1_of.data.toList.drop 17 = dktX1_of_1 := dk_seg dksX1_of_0 17 rfl rfl
theorem dksX1_of_2 : cX1_of.data.toList.drop 68 = dktX1_of_2 := dk_seg dksX1_of_1 51 rfl rfl
theorem dksX1_of_3 : cX1_of.data.toList.drop 92 = dktX1_of_3 := dk_seg dksX1_of_2 24 rfl rfl
theorem dksX1_of_4 : cX1_of.data.toList.drop 116 = dktX1_of_4 := dk_seg dksX1_of_3 24 rfl rfl
theorem dksX1_of_5 : cX1_of.data.toList.drop 140 = dktX1_of_5 := dk_seg dksX1_of_4 24 rfl rfl
theorem dksX1_of_6 : cX1_of.data.toList.drop 164 = dktX1_of_6 := dk_seg dksX1_of_5 24 rfl rfl
theorem dX1_of_0 : decode cX1_of 0 = .ok (.aload_n 0, 1) := dk_42 (dk_at dksX1_of_0 0 rfl rfl)
theorem dX1_of_1 : decode cX1_of 1 = .ok (.iload_n 1, 1) := dk_27 (dk_at dksX1_of_0 1 rfl rfl)
theorem dX1_of_2 : decode cX1_of 2 = .ok (.invokevirtual 212, 3) := dk_182 0 212 (dk_at dksX1_of_0 2 rfl rfl)
theorem dX1_of_5 : decode cX1_of 5 = .ok (.ifCond .ne 11, 3) := dk_154 0 11 (dk_at dksX1_of_0 5 rfl rfl)
theorem dX1_of_8 : decode cX1_of 8 = .ok (.new 215, 3) := dk_187 0 215 (dk_at dksX1_of_0 8 rfl rfl)
theorem dX1_of_11 : decode cX1_of 11 = .ok (.dup, 1) := dk_89 (dk_at dksX1_of_0 11 rfl rfl)
theorem dX1_of_12 : decode cX1_of 12 = .ok (.invokespecial 217, 3) := dk_183 0 217 (dk_at dksX1_of_0 12 rfl rfl)
theorem dX1_of_15 : decode cX1_of 15 = .ok (.athrow, 1) := dk_191 (dk_at dksX1_of_0 15 rfl rfl)
theorem dX1_of_16 : decode cX1_of 16 = .ok (.iload_n 2, 1) := dk_28 (dk_at dksX1_of_0 16 rfl rfl)
theorem dX1_of_17 : decode cX1_of 17 = .ok (.tableswitch 156 0 8 #[51, 61, 71, 81, 99, 109, 119, 129, 139], 51) := by decide +kernel
theorem dX1_of_68 : decode cX1_of 68 = .ok (.aload_n 0, 1) := dk_42 (dk_at dksX1_of_2 0 rfl rfl)
theorem dX1_of_69 : decode cX1_of 69 = .ok (.getfield 62, 3) := dk_180 0 62 (dk_at dksX1_of_2 1 rfl rfl)
theorem dX1_of_72 : decode cX1_of 72 = .ok (.getfield 7, 3) := dk_180 0 7 (dk_at dksX1_of_2 4 rfl rfl)
theorem dX1_of_75 : decode cX1_of 75 = .ok (.iload_n 1, 1) := dk_27 (dk_at dksX1_of_2 7 rfl rfl)
theorem dX1_of_76 : decode cX1_of 76 = .ok (.iaload, 1) := dk_46 (dk_at dksX1_of_2 8 rfl rfl)
theorem dX1_of_77 : decode cX1_of 77 = .ok (.ireturn, 1) := dk_172 (dk_at dksX1_of_2 9 rfl rfl)
theorem dX1_of_78 : decode cX1_of 78 = .ok (.aload_n 0, 1) := dk_42 (dk_at dksX1_of_2 10 rfl rfl)
theorem dX1_of_79 : decode cX1_of 79 = .ok (.getfield 62, 3) := dk_180 0 62 (dk_at dksX1_of_2 11 rfl rfl)
theorem dX1_of_82 : decode cX1_of 82 = .ok (.getfield 232, 3) := dk_180 0 232 (dk_at dksX1_of_2 14 rfl rfl)
theorem dX1_of_85 : decode cX1_of 85 = .ok (.iload_n 1, 1) := dk_27 (dk_at dksX1_of_2 17 rfl rfl)
theorem dX1_of_86 : decode cX1_of 86 = .ok (.iaload, 1) := dk_46 (dk_at dksX1_of_2 18 rfl rfl)
theorem dX1_of_87 : decode cX1_of 87 = .ok (.ireturn, 1) := dk_172 (dk_at dksX1_of_2 19 rfl rfl)
theorem dX1_of_88 : decode cX1_of 88 = .ok (.aload_n 0, 1) := dk_42 (dk_at dksX1_of_2 20 rfl rfl)
theorem dX1_of_89 : decode cX1_of 89 = .ok (.getfield 62, 3) := dk_180 0 62 (dk_at dksX1_of_2 21 rfl rfl)
theorem dX1_of_92 : decode cX1_of 92 = .ok (.getfield 235, 3) := dk_180 0 235 (dk_at dksX1_of_3 0 rfl rfl)
theorem dX1_of_95 : decode cX1_of 95 = .ok (.iload_n 1, 1) := dk_27 (dk_at dksX1_of_3 3 rfl rfl)
theorem dX1_of_96 : decode cX1_of 96 = .ok (.iaload, 1) := dk_46 (dk_at dksX1_of_3 4 rfl rfl)
theorem dX1_of_97 : decode cX1_of 97 = .ok (.ireturn, 1) := dk_172 (dk_at dksX1_of_3 5 rfl rfl)
theorem dX1_of_98 : decode cX1_of 98 = .ok (.aload_n 0, 1) := dk_42 (dk_at dksX1_of_3 6 rfl rfl)
theorem dX1_of_99 : decode cX1_of 99 = .ok (.getfield 62, 3) := dk_180 0 62 (dk_at dksX1_of_3 7 rfl rfl)
theorem dX1_of_102 : decode cX1_of 102 = .ok (.getfield 238, 3) := dk_180 0 238 (dk_at dksX1_of_3 10 rfl rfl)
theorem dX1_of_105 : decode cX1_of 105 = .ok (.iload_n 1, 1) := dk_27 (dk_at dksX1_of_3 13 rfl rfl)
theorem dX1_of_106 : decode cX1_of 106 = .ok (.baload, 1) := dk_51 (dk_at dksX1_of_3 14 rfl rfl)
theorem dX1_of_107 : decode cX1_of 107 = .ok (.ifCond .eq 7, 3) := dk_153 0 7 (dk_at dksX1_of_3 15 rfl rfl)
theorem dX1_of_110 : decode cX1_of 110 = .ok (.iconst 1, 1) := dk_4 (dk_at dksX1_of_3 18 rfl rfl)
theorem dX1_of_111 : decode cX1_of 111 = .ok (.goto 4, 3) := dk_167 0 4 (dk_at dksX1_of_3 19 rfl rfl)
theorem dX1_of_114 : decode cX1_of 114 = .ok (.iconst 0, 1) := dk_3 (dk_at dksX1_of_3 22 rfl rfl)
theorem dX1_of_115 : decode cX1_of 115 = .ok (.ireturn, 1) := dk_172 (dk_at dksX1_of_3 23 rfl rfl)
theorem dX1_of_116 : decode cX1_of 116 = .ok (.aload_n 0, 1) := dk_42 (dk_at dksX1_of_4 0 rfl rfl)
theorem dX1_of_117 : decode cX1_of 117 = .ok (.getfield 62, 3) := dk_180 0 62 (dk_at dksX1_of_4 1 rfl rfl)
theorem dX1_of_120 : decode cX1_of 120 = .ok (.getfield 241, 3) := dk_180 0 241 (dk_at dksX1_of_4 4 rfl rfl)
theorem dX1_of_123 : decode cX1_of 123 = .ok (.iload_n 1, 1) := dk_27 (dk_at dksX1_of_4 7 rfl rfl)
theorem dX1_of_124 : decode cX1_of 124 = .ok (.iaload, 1) := dk_46 (dk_at dksX1_of_4 8 rfl rfl)
theorem dX1_of_125 : decode cX1_of 125 = .ok (.ireturn, 1) := dk_172 (dk_at dksX1_of_4 9 rfl rfl)
theorem dX1_of_126 : decode cX1_of 126 = .ok (.aload_n 0, 1) := dk_42 (dk_at dksX1_of_4 10 rfl rfl)
theorem dX1_of_127 : decode cX1_of 127 = .ok (.getfield 62, 3) := dk_180 0 62 (dk_at dksX1_of_4 11 rfl rfl)
theorem dX1_of_130 : decode cX1_of 130 = .ok (.getfield 244, 3) := dk_180 0 244 (dk_at dksX1_of_4 14 rfl rfl)
theorem dX1_of_133 : decode cX1_of 133 = .ok (.iload_n 1, 1) := dk_27 (dk_at dksX1_of_4 17 rfl rfl)
theorem dX1_of_134 : decode cX1_of 134 = .ok (.iaload, 1) := dk_46 (dk_at dksX1_of_4 18 rfl rfl)
theorem dX1_of_135 : decode cX1_of 135 = .ok (.ireturn, 1) := dk_172 (dk_at dksX1_of_4 19 rfl rfl)
theorem dX1_of_136 : decode cX1_of 136 = .ok (.aload_n 0, 1) := dk_42 (dk_at dksX1_of_4 20 rfl rfl)
theorem dX1_of_137 : decode cX1_of 137 = .ok (.getfield 62, 3) := dk_180 0 62 (dk_at dksX1_of_4 21 rfl rfl)
theorem dX1_of_140 : decode cX1_of 140 = .ok (.getfield 247, 3) := dk_180 0 247 (dk_at dksX1_of_5 0 rfl rfl)
theorem dX1_of_143 : decode cX1_of 143 = .ok (.iload_n 1, 1) := dk_27 (dk_at dksX1_of_5 3 rfl rfl)
theorem dX1_of_144 : decode cX1_of 144 = .ok (.iaload, 1) := dk_46 (dk_at dksX1_of_5 4 rfl rfl)
theorem dX1_of_145 : decode cX1_of 145 = .ok (.ireturn, 1) := dk_172 (dk_at dksX1_of_5 5 rfl rfl)
theorem dX1_of_146 : decode cX1_of 146 = .ok (.aload_n 0, 1) := dk_42 (dk_at dksX1_of_5 6 rfl rfl)
theorem dX1_of_147 : decode cX1_of 147 = .ok (.getfield 62, 3) := dk_180 0 62 (dk_at dksX1_of_5 7 rfl rfl)
theorem dX1_of_150 : decode cX1_of 150 = .ok (.getfield 250, 3) := dk_180 0 250 (dk_at dksX1_of_5 10 rfl rfl)
theorem dX1_of_153 : decode cX1_of 153 = .ok (.iload_n 1, 1) := dk_27 (dk_at dksX1_of_5 13 rfl rfl)
theorem dX1_of_154 : decode cX1_of 154 = .ok (.iaload, 1) := dk_46 (dk_at dksX1_of_5 14 rfl rfl)
theorem dX1_of_155 : decode cX1_of 155 = .ok (.ireturn, 1) := dk_172 (dk_at dksX1_of_5 15 rfl rfl)
theorem dX1_of_156 : decode cX1_of 156 = .ok (.aload_n 0, 1) := dk_42 (dk_at dksX1_of_5 16 rfl rfl)
theorem dX1_of_157 : decode cX1_of 157 = .ok (.getfield 62, 3) := dk_180 0 62 (dk_at dksX1_of_5 17 rfl rfl)
theorem dX1_of_160 : decode cX1_of 160 = .ok (.iload_n 1, 1) := dk_27 (dk_at dksX1_of_5 20 rfl rfl)
theorem dX1_of_161 : decode cX1_of 161 = .ok (.invokevirtual 253, 3) := dk_182 0 253 (dk_at dksX1_of_5 21 rfl rfl)
theorem dX1_of_164 : decode cX1_of 164 = .ok (.ifCond .eq 7, 3) := dk_153 0 7 (dk_at dksX1_of_6 0 rfl rfl)
theorem dX1_of_167 : decode cX1_of 167 = .ok (.iconst 1, 1) := dk_4 (dk_at dksX1_of_6 3 rfl rfl)
theorem dX1_of_168 : decode cX1_of 168 = .ok (.goto 4, 3) := dk_167 0 4 (dk_at dksX1_of_6 4 rfl rfl)
theorem dX1_of_171 : decode cX1_of 171 = .ok (.iconst 0, 1) := dk_3 (dk_at dksX1_of_6 7 rfl rfl)
theorem dX1_of_172 : decode cX1_of 172 = .ok (.ireturn, 1) := dk_172 (dk_at dksX1_of_6 8 rfl rfl)
theorem dX1_of_173 : decode cX1_of 173 = .ok (.new 215, 3) := dk_187 0 215 (dk_at dksX1_of_6 9 rfl rfl)
theorem dX1_of_176 : decode cX1_of 176 = .ok (.dup, 1) := dk_89 (dk_at dksX1_of_6 12 rfl rfl)
theorem dX1_of_177 : decode cX1_of 177 = .ok (.invokespecial 217, 3) := dk_183 0 217 (dk_at dksX1_of_6 13 rfl rfl)
theorem dX1_of_180 : decode cX1_of 180 = .ok (.athrow, 1) := dk_191 (dk_at dksX1_of_6 16 rfl rfl)
def dkwX1_row_1 : List UInt8 := [180, 0, 74, 27, 47, 173]
abbrev dktX1_row_1 : List UInt8 := dkwX1_row_1 ++ []
def dkwX1_row_0 : List UInt8 := [27, 3, 42, 180, 0, 94, 4, 100, 184, 0, 3, 154, 0, 11, 187, 0, 215, 89, 183, 0, 217, 191, 42]
abbrev dktX1_row_0 : List UInt8 := dkwX1_row_0 ++ dktX1_row_1
theorem dksX1_row_0 : cX1_row.data.toList.drop 0 = dktX1_row_0 := by decide +kernel
theorem dksX1_row_1 : cX1_row.data.toList.drop 23 = dktX1_row_1 := dk_seg dksX1_row_0 23 rfl rfl
theorem dX1_row_0 : decode cX1_row 0 = .ok (.iload_n 1, 1) := dk_27 (dk_at dksX1_row_0 0 rfl rfl)
theorem dX1_row_1 : decode cX1_row 1 = .ok (.iconst 0, 1) := dk_3 (dk_at dksX1_row_0 1 rfl rfl)
theorem dX1_row_2 : decode cX1_row 2 = .ok (.aload_n 0, 1) := dk_42 (dk_at dksX1_row_0 2 rfl rfl)
theorem dX1_row_3 : decode cX1_row 3 = .ok (.getfield 94, 3) := dk_180 0 94 (dk_at dksX1_row_0 3 rfl rfl)
theorem dX1_row_6 : decode cX1_row 6 = .ok (.iconst 1, 1) := dk_4 (dk_at dksX1_row_0 6 rfl rfl)
theorem dX1_row_7 : decode cX1_row 7 = .ok (.isub, 1) := dk_100 (dk_at dksX1_row_0 7 rfl rfl)
theorem dX1_row_8 : decode cX1_row 8 = .ok (.invokestatic 3, 3) := dk_184 0 3 (dk_at dksX1_row_0 8 rfl rfl)
theorem dX1_row_11 : decode cX1_row 11 = .ok (.ifCond .ne 11, 3) := dk_154 0 11 (dk_at dksX1_row_0 11 rfl rfl)
theorem dX1_row_14 : decode cX1_row 14 = .ok (.new 215, 3) := dk_187 0 215 (dk_at dksX1_row_0 14 rfl rfl)
theorem dX1_row_17 : decode cX1_row 17 = .ok (.dup, 1) := dk_89 (dk_at dksX1_row_0 17 rfl rfl)
theorem dX1_row_18 : decode cX1_row 18 = .ok (.invokespecial 217, 3) := dk_183 0 217 (dk_at dksX1_row_0 18 rfl rfl)
theorem dX1_row_21 : decode cX1_row 21 = .ok (.athrow, 1) := dk_191 (dk_at dksX1_row_0 21 rfl rfl)
theorem dX1_row_22 : decode cX1_row 22 = .ok (.aload_n 0, 1) := dk_42 (dk_at dksX1_row_0 22 rfl rfl)
theorem dX1_row_23 : decode cX1_row 23 = .ok (.getfield 74, 3) := dk_180 0 74 (dk_at dksX1_row_1 0 rfl rfl)
theorem dX1_row_26 : decode cX1_row 26 = .ok (.iload_n 1, 1) := dk_27 (dk_at dksX1_row_1 3 rfl rfl)
theorem dX1_row_27 : decode cX1_row 27 = .ok (.laload, 1) := dk_47 (dk_at dksX1_row_1 4 rfl rfl)
theorem dX1_row_28 : decode cX1_row 28 = .ok (.lreturn, 1) := dk_173 (dk_at dksX1_row_1 5 rfl rfl)
