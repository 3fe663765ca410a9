set_option maxRecDepth 100000
def dkwX1_judge_8 : List UInt8 := [167, 255, 91, 16, 254, 172]
abbrev dktX1_judge_8 : List UInt8 := dkwX1_judge_8 ++ []
def dkwX1_judge_7 : List UInt8 := [182, 0, 101, 42, 21, 4, 133, 182, 0, 101, 28, 172, 132, 4, 1, 167, 255, 157, 132, 3, 1, 167, 255, 126]
abbrev dktX1_judge_7 : List UInt8 := dkwX1_judge_7 ++ dktX1_judge_8
def dkwX1_judge_6 : List UInt8 := [180, 0, 127, 21, 4, 50, 180, 1, 40, 161, 0, 6, 167, 0, 23, 42, 3, 181, 0, 94, 42, 29, 133]
abbrev dktX1_judge_6 : List UInt8 := dkwX1_judge_6 ++ dktX1_judge_7
def dkwX1_judge_5 : List UInt8 := [180, 0, 127, 21, 4, 50, 28, 182, 0, 178, 153, 0, 49, 43, 180, 1, 37, 21, 4, 46, 42, 180, 0, 52]
abbrev dktX1_judge_5 : List UInt8 := dkwX1_judge_5 ++ dktX1_judge_6
def dkwX1_judge_4 : List UInt8 := [180, 0, 52, 21, 4, 42, 180, 0, 47, 29, 50, 180, 1, 34, 182, 0, 188, 153, 0, 66, 42, 180, 0, 52]
abbrev dktX1_judge_4 : List UInt8 := dkwX1_judge_4 ++ dktX1_judge_5
def dkwX1_judge_3 : List UInt8 := [154, 0, 6, 167, 0, 108, 3, 54, 4, 21, 4, 42, 180, 0, 52, 180, 0, 19, 162, 0, 93, 42]
abbrev dktX1_judge_3 : List UInt8 := dkwX1_judge_3 ++ dktX1_judge_4
def dkwX1_judge_2 : List UInt8 := [180, 0, 52, 182, 0, 228, 3, 62, 29, 42, 180, 0, 105, 162, 0, 128, 43, 180, 1, 28, 29, 184, 1, 31]
abbrev dktX1_judge_2 : List UInt8 := dkwX1_judge_2 ++ dktX1_judge_3
def dkwX1_judge_1 : List UInt8 := [182, 1, 24, 154, 0, 164, 43, 180, 0, 225, 17, 9, 95, 162, 0, 154, 43, 180, 0, 225, 61, 43, 42]
abbrev dktX1_judge_1 : List UInt8 := dkwX1_judge_1 ++ dktX1_judge_2
def dkwX1_judge_0 : List UInt8 := [42, 180, 0, 105, 154, 0, 5, 2, 172, 42, 180, 0, 66, 42, 180, 0, 62, 182, 1, 16, 76, 43]
abbrev dktX1_judge_0 : List UInt8 := dkwX1_judge_0 ++ dktX1_judge_1
theorem dksX1_judge_0 : cX1_judge.data.toList.drop 0 = dktX1_judge_0 := by decide +kernel
theorem dksX1_judge_1 : cX1_judge.data.toList.drop 22 = dktX1_judge_1 := dk_seg dksX1_judge_0 22 rfl rfl
theorem dksX1_judge_2 : cX1_judge.data.toList.drop 45 = dktX1_judge_2 := dk_seg dksX1_judge_1 23 rfl rfl
theorem dksX1_judge_3 : cX1_judge.data.toList.drop 69 = dktX1_judge_3 := dk_seg dksX1_judge_2 24 rfl rfl
theorem dksX1_judge_4 : cX1_judge.data.toList.drop 91 = dktX1_judge_4 := dk_seg dksX1_judge_3 22 rfl rfl
theorem dksX1_judge_5 : cX1_judge.data.toList.drop 115 = dktX1_judge_5 := dk_seg dksX1_judge_4 24 rfl rfl
theorem dksX1_judge_6 : cX1_judge.data.toList.drop 139 = dktX1_judge_6 := dk_seg dksX1_judge_5 24 rfl rfl
theorem dksX1_judge_7 : cX1_judge.data.toList.drop 162 = dktX1_judge_7 := dk_seg dksX1_judge_6 23 rfl rfl
theorem dksX1_judge_8 : cX1_judge.data.toList.drop 186 = dktX1_judge_8 := dk_seg dksX1_judge_7 24 rfl rfl
theorem dX1_judge_0 : decode cX1_judge 0 = .ok (.aload_n 0, 1) := dk_42 (dk_at dksX1_judge_0 0 rfl rfl)
theorem dX1_judge_1 : decode cX1_judge 1 = .ok (.getfield 105, 3) := dk_180 0 105 (dk_at dksX1_judge_0 1 rfl rfl)
theorem dX1_judge_4 : decode cX1_judge 4 = .ok (.ifCond .ne 5, 3) := dk_154 0 5 (dk_at dksX1_judge_0 4 rfl rfl)
theorem dX1_judge_7 : decode cX1_judge 7 = .ok (.iconst (-1), 1) := dk_2 (dk_at dksX1_judge_0 7 rfl rfl)
theorem dX1_judge_8 : decode cX1_judge 8 = .ok (.ireturn, 1) := dk_172 (dk_at dksX1_judge_0 8 rfl rfl)
theorem dX1_judge_9 : decode cX1_judge 9 = .ok (.aload_n 0, 1) := dk_42 (dk_at dksX1_judge_0 9 rfl rfl)
theorem dX1_judge_10 : decode cX1_judge 10 = .ok (.getfield 66, 3) := dk_180 0 66 (dk_at dksX1_judge_0 10 rfl rfl)
theorem dX1_judge_13 : decode cX1_judge 13 = .ok (.aload_n 0, 1) := dk_42 (dk_at dksX1_judge_0 13 rfl rfl)
theorem dX1_judge_14 : decode cX1_judge 14 = .ok (.getfield 62, 3) := dk_180 0 62 (dk_at dksX1_judge_0 14 rfl rfl)
theorem dX1_judge_17 : decode cX1_judge 17 = .ok (.invokevirtual 272, 3) := dk_182 1 16 (dk_at dksX1_judge_0 17 rfl rfl)
theorem dX1_judge_20 : decode cX1_judge 20 = .ok (.astore_n 1, 1) := dk_76 (dk_at dksX1_judge_0 20 rfl rfl)
theorem dX1_judge_21 : decode cX1_judge 21 = .ok (.aload_n 1, 1) := dk_43 (dk_at dksX1_judge_0 21 rfl rfl)
theorem dX1_judge_22 : decode cX1_judge 22 = .ok (.invokevirtual 280, 3) := dk_182 1 24 (dk_at dksX1_judge_1 0 rfl rfl)
theorem dX1_judge_25 : decode cX1_judge 25 = .ok (.ifCond .ne 164, 3) := dk_154 0 164 (dk_at dksX1_judge_1 3 rfl rfl)
theorem dX1_judge_28 : decode cX1_judge 28 = .ok (.aload_n 1, 1) := dk_43 (dk_at dksX1_judge_1 6 rfl rfl)
theorem dX1_judge_29 : decode cX1_judge 29 = .ok (.getfield 225, 3) := dk_180 0 225 (dk_at dksX1_judge_1 7 rfl rfl)
theorem dX1_judge_32 : decode cX1_judge 32 = .ok (.sipush 2399, 3) := dk_17 9 95 (dk_at dksX1_judge_1 10 rfl rfl)
theorem dX1_judge_35 : decode cX1_judge 35 = .ok (.if_icmp .ge 154, 3) := dk_162 0 154 (dk_at dksX1_judge_1 13 rfl rfl)
theorem dX1_judge_38 : decode cX1_judge 38 = .ok (.aload_n 1, 1) := dk_43 (dk_at dksX1_judge_1 16 rfl rfl)
theorem dX1_judge_39 : decode cX1_judge 39 = .ok (.getfield 225, 3) := dk_180 0 225 (dk_at dksX1_judge_1 17 rfl rfl)
theorem dX1_judge_42 : decode cX1_judge 42 = .ok (.istore_n 2, 1) := dk_61 (dk_at dksX1_judge_1 20 rfl rfl)
theorem dX1_judge_43 : decode cX1_judge 43 = .ok (.aload_n 1, 1) := dk_43 (dk_at dksX1_judge_1 21 rfl rfl)
theorem dX1_judge_44 : decode cX1_judge 44 = .ok (.aload_n 0, 1) := dk_42 (dk_at dksX1_judge_1 22 rfl rfl)
theorem dX1_judge_45 : decode cX1_judge 45 = .ok (.getfield 52, 3) := dk_180 0 52 (dk_at dksX1_judge_2 0 rfl rfl)
theorem dX1_judge_48 : decode cX1_judge 48 = .ok (.invokevirtual 228, 3) := dk_182 0 228 (dk_at dksX1_judge_2 3 rfl rfl)
theorem dX1_judge_51 : decode cX1_judge 51 = .ok (.iconst 0, 1) := dk_3 (dk_at dksX1_judge_2 6 rfl rfl)
theorem dX1_judge_52 : decode cX1_judge 52 = .ok (.istore_n 3, 1) := dk_62 (dk_at dksX1_judge_2 7 rfl rfl)
theorem dX1_judge_53 : decode cX1_judge 53 = .ok (.iload_n 3, 1) := dk_29 (dk_at dksX1_judge_2 8 rfl rfl)
theorem dX1_judge_54 : decode cX1_judge 54 = .ok (.aload_n 0, 1) := dk_42 (dk_at dksX1_judge_2 9 rfl rfl)
theorem dX1_judge_55 : decode cX1_judge 55 = .ok (.getfield 105, 3) := dk_180 0 105 (dk_at dksX1_judge_2 10 rfl rfl)
theorem dX1_judge_58 : decode cX1_judge 58 = .ok (.if_icmp .ge 128, 3) := dk_162 0 128 (dk_at dksX1_judge_2 13 rfl rfl)
theorem dX1_judge_61 : decode cX1_judge 61 = .ok (.aload_n 1, 1) := dk_43 (dk_at dksX1_judge_2 16 rfl rfl)
theorem dX1_judge_62 : decode cX1_judge 62 = .ok (.getfield 284, 3) := dk_180 1 28 (dk_at dksX1_judge_2 17 rfl rfl)
theorem dX1_judge_65 : decode cX1_judge 65 = .ok (.iload_n 3, 1) := dk_29 (dk_at dksX1_judge_2 20 rfl rfl)
theorem dX1_judge_66 : decode cX1_judge 66 = .ok (.invokestatic 287, 3) := dk_184 1 31 (dk_at dksX1_judge_2 21 rfl rfl)
theorem dX1_judge_69 : decode cX1_judge 69 = .ok (.ifCond .ne 6, 3) := dk_154 0 6 (dk_at dksX1_judge_3 0 rfl rfl)
theorem dX1_judge_72 : decode cX1_judge 72 = .ok (.goto 108, 3) := dk_167 0 108 (dk_at dksX1_judge_3 3 rfl rfl)
theorem dX1_judge_75 : decode cX1_judge 75 = .ok (.iconst 0, 1) := dk_3 (dk_at dksX1_judge_3 6 rfl rfl)
theorem dX1_judge_76 : decode cX1_judge 76 = .ok (.istore 4, 2) := dk_54 4 (dk_at dksX1_judge_3 7 rfl rfl)
theorem dX1_judge_78 : decode cX1_judge 78 = .ok (.iload 4, 2) := dk_21 4 (dk_at dksX1_judge_3 9 rfl rfl)
theorem dX1_judge_80 : decode cX1_judge 80 = .ok (.aload_n 0, 1) := dk_42 (dk_at dksX1_judge_3 11 rfl rfl)
theorem dX1_judge_81 : decode cX1_judge 81 = .ok (.getfield 52, 3) := dk_180 0 52 (dk_at dksX1_judge_3 12 rfl rfl)
theorem dX1_judge_84 : decode cX1_judge 84 = .ok (.getfield 19, 3) := dk_180 0 19 (dk_at dksX1_judge_3 15 rfl rfl)
theorem dX1_judge_87 : decode cX1_judge 87 = .ok (.if_icmp .ge 93, 3) := dk_162 0 93 (dk_at dksX1_judge_3 18 rfl rfl)
theorem dX1_judge_90 : decode cX1_judge 90 = .ok (.aload_n 0, 1) := dk_42 (dk_at dksX1_judge_3 21 rfl rfl)
theorem dX1_judge_91 : decode cX1_judge 91 = .ok (.getfield 52, 3) := dk_180 0 52 (dk_at dksX1_judge_4 0 rfl rfl)
theorem dX1_judge_94 : decode cX1_judge 94 = .ok (.iload 4, 2) := dk_21 4 (dk_at dksX1_judge_4 3 rfl rfl)
theorem dX1_judge_96 : decode cX1_judge 96 = .ok (.aload_n 0, 1) := dk_42 (dk_at dksX1_judge_4 5 rfl rfl)
theorem dX1_judge_97 : decode cX1_judge 97 = .ok (.getfield 47, 3) := dk_180 0 47 (dk_at dksX1_judge_4 6 rfl rfl)
theorem dX1_judge_100 : decode cX1_judge 100 = .ok (.iload_n 3, 1) := dk_29 (dk_at dksX1_judge_4 9 rfl rfl)
theorem dX1_judge_101 : decode cX1_judge 101 = .ok (.aaload, 1) := dk_50 (dk_at dksX1_judge_4 10 rfl rfl)
theorem dX1_judge_102 : decode cX1_judge 102 = .ok (.getfield 290, 3) := dk_180 1 34 (dk_at dksX1_judge_4 11 rfl rfl)
theorem dX1_judge_105 : decode cX1_judge 105 = .ok (.invokevirtual 188, 3) := dk_182 0 188 (dk_at dksX1_judge_4 14 rfl rfl)
theorem dX1_judge_108 : decode cX1_judge 108 = .ok (.ifCond .eq 66, 3) := dk_153 0 66 (dk_at dksX1_judge_4 17 rfl rfl)
theorem dX1_judge_111 : decode cX1_judge 111 = .ok (.aload_n 0, 1) := dk_42 (dk_at dksX1_judge_4 20 rfl rfl)
theorem dX1_judge_112 : decode cX1_judge 112 = .ok (.getfield 52, 3) := dk_180 0 52 (dk_at dksX1_judge_4 21 rfl rfl)
theorem dX1_judge_115 : decode cX1_judge 115 = .ok (.getfield 127, 3) := dk_180 0 127 (dk_at dksX1_judge_5 0 rfl rfl)
theorem dX1_judge_118 : decode cX1_judge 118 = .ok (.iload 4, 2) := dk_21 4 (dk_at dksX1_judge_5 3 rfl rfl)
theorem dX1_judge_120 : decode cX1_judge 120 = .ok (.aaload, 1) := dk_50 (dk_at dksX1_judge_5 5 rfl rfl)
theorem dX1_judge_121 : decode cX1_judge 121 = .ok (.iload_n 2, 1) := dk_28 (dk_at dksX1_judge_5 6 rfl rfl)
theorem dX1_judge_122 : decode cX1_judge 122 = .ok (.invokevirtual 178, 3) := dk_182 0 178 (dk_at dksX1_judge_5 7 rfl rfl)
theorem dX1_judge_125 : decode cX1_judge 125 = .ok (.ifCond .eq 49, 3) := dk_153 0 49 (dk_at dksX1_judge_5 10 rfl rfl)
theorem dX1_judge_128 : decode cX1_judge 128 = .ok (.aload_n 1, 1) := dk_43 (dk_at dksX1_judge_5 13 rfl rfl)
theorem dX1_judge_129 : decode cX1_judge 129 = .ok (.getfield 293, 3) := dk_180 1 37 (dk_at dksX1_judge_5 14 rfl rfl)
theorem dX1_judge_132 : decode cX1_judge 132 = .ok (.iload 4, 2) := dk_21 4 (dk_at dksX1_judge_5 17 rfl rfl)
theorem dX1_judge_134 : decode cX1_judge 134 = .ok (.iaload, 1) := dk_46 (dk_at dksX1_judge_5 19 rfl rfl)
theorem dX1_judge_135 : decode cX1_judge 135 = .ok (.aload_n 0, 1) := dk_42 (dk_at dksX1_judge_5 20 rfl rfl)
theorem dX1_judge_136 : decode cX1_judge 136 = .ok (.getfield 52, 3) := dk_180 0 52 (dk_at dksX1_judge_5 21 rfl rfl)
theorem dX1_judge_139 : decode cX1_judge 139 = .ok (.getfield 127, 3) := dk_180 0 127 (dk_at dksX1_judge_6 0 rfl rfl)
theorem dX1_judge_142 : decode cX1_judge 142 = .ok (.iload 4, 2) := dk_21 4 (dk_at dksX1_judge_6 3 rfl rfl)
theorem dX1_judge_144 : decode cX1_judge 144 = .ok (.aaload, 1) := dk_50 (dk_at dksX1_judge_6 5 rfl rfl)
theorem dX1_judge_145 : decode cX1_judge 145 = .ok (.getfield 296, 3) := dk_180 1 40 (dk_at dksX1_judge_6 6 rfl rfl)
theorem dX1_judge_148 : decode cX1_judge 148 = .ok (.if_icmp .lt 6, 3) := dk_161 0 6 (dk_at dksX1_judge_6 9 rfl rfl)
theorem dX1_judge_151 : decode cX1_judge 151 = .ok (.goto 23, 3) := dk_167 0 23 (dk_at dksX1_judge_6 12 rfl rfl)
theorem dX1_judge_154 : decode cX1_judge 154 = .ok (.aload_n 0, 1) := dk_42 (dk_at dksX1_judge_6 15 rfl rfl)
theorem dX1_judge_155 : decode cX1_judge 155 = .ok (.iconst 0, 1) := dk_3 (dk_at dksX1_judge_6 16 rfl rfl)
theorem dX1_judge_156 : decode cX1_judge 156 = .ok (.putfield 94, 3) := dk_181 0 94 (dk_at dksX1_judge_6 17 rfl rfl)
theorem dX1_judge_159 : decode cX1_judge 159 = .ok (.aload_n 0, 1) := dk_42 (dk_at dksX1_judge_6 20 rfl rfl)
theorem dX1_judge_160 : decode cX1_judge 160 = .ok (.iload_n 3, 1) := dk_29 (dk_at dksX1_judge_6 21 rfl rfl)
theorem dX1_judge_161 : decode cX1_judge 161 = .ok (.i2l, 1) := dk_133 (dk_at dksX1_judge_6 22 rfl rfl)
theorem dX1_judge_162 : decode cX1_judge 162 = .ok (.invokevirtual 101, 3) := dk_182 0 101 (dk_at dksX1_judge_7 0 rfl rfl)
theorem dX1_judge_165 : decode cX1_judge 165 = .ok (.aload_n 0, 1) := dk_42 (dk_at dksX1_judge_7 3 rfl rfl)
theorem dX1_judge_166 : decode cX1_judge 166 = .ok (.iload 4, 2) := dk_21 4 (dk_at dksX1_judge_7 4 rfl rfl)
theorem dX1_judge_168 : decode cX1_judge 168 = .ok (.i2l, 1) := dk_133 (dk_at dksX1_judge_7 6 rfl rfl)
theorem dX1_judge_169 : decode cX1_judge 169 = .ok (.invokevirtual 101, 3) := dk_182 0 101 (dk_at dksX1_judge_7 7 rfl rfl)
theorem dX1_judge_172 : decode cX1_judge 172 = .ok (.iload_n 2, 1) := dk_28 (dk_at dksX1_judge_7 10 rfl rfl)
theorem dX1_judge_173 : decode cX1_judge 173 = .ok (.ireturn, 1) := dk_172 (dk_at dksX1_judge_7 11 rfl rfl)
theorem dX1_judge_174 : decode cX1_judge 174 = .ok (.iinc 4 1, 3) := dk_132 4 1 (dk_at dksX1_judge_7 12 rfl rfl)
theorem dX1_judge_177 : decode cX1_judge 177 = .ok (.goto (-99), 3) := dk_167 255 157 (dk_at dksX1_judge_7 15 rfl rfl)
theorem dX1_judge_180 : decode cX1_judge 180 = .ok (.iinc 3 1, 3) := dk_132 3 1 (dk_at dksX1_judge_7 18 rfl rfl)
theorem dX1_judge_183 : decode cX1_judge 183 = .ok (.goto (-130), 3) := dk_167 255 126 (dk_at dksX1_judge_7 21 rfl rfl)
theorem dX1_judge_186 : decode cX1_judge 186 = .ok (.goto (-165), 3) := dk_167 255 91 (dk_at dksX1_judge_8 0 rfl rfl)
theorem dX1_judge_189 : decode cX1_judge 189 = .ok (.bipush (-2), 2) := dk_16 254 (dk_at dksX1_judge_8 3 rfl rfl)
theorem dX1_judge_191 : decode cX1_judge 191 = .ok (.ireturn, 1) := dk_172 (dk_at dksX1_judge_8 5 rfl rfl)
def dkwX1_one_2 : List UInt8 := [25, 4, 180, 1, 57, 172]
abbrev dktX1_one_2 : List UInt8 := dkwX1_one_2 ++ []
def dkwX1_one_1 : List UInt8 := [58, 4, 25, 4, 182, 1, 52, 25, 4, 180, 1, 57, 2, 160, 0, 6, 16, 254, 172, 25, 4, 182, 1, 60]
abbrev dktX1_one_1 : List UInt8 := dkwX1_one_1 ++ dktX1_one_2
def dkwX1_one_0 : List UInt8 := [42, 27, 28, 29, 6, 182, 1, 43, 154, 0, 5, 2, 172, 187, 1, 47, 89, 42, 27, 28, 29, 183, 1, 49]
abbrev dktX1_one_0 : List UInt8 := dkwX1_one_0 ++ dktX1_one_1
theorem dksX1_one_0 : cX1_one.data.toList.drop 0 = dktX1_one_0 := by decide +kernel
theorem dksX1_one_1 : cX1_one.data.toList.drop 24 = dktX1_one_1 := dk_seg dksX1_one_0 24 rfl rfl
theorem dksX1_one_2 : cX1_one.data.toList.drop 48 = dktX1_one_2 := dk_seg dksX1_one_1 24 rfl rfl
theorem dX1_one_0 : decode cX1_one 0 = .ok (.aload_n 0, 1) := dk_42 (dk_at dksX1_one_0 0 rfl rfl)
theorem dX1_one_1 : decode cX1_one 1 = .ok (.iload_n 1, 1) := dk_27 (dk_at dksX1_one_0 1 rfl rfl)
theorem dX1_one_2 : decode cX1_one 2 = .ok (.iload_n 2, 1) := dk_28 (dk_at dksX1_one_0 2 rfl rfl)
theorem dX1_one_3 : decode cX1_one 3 = .ok (.iload_n 3, 1) := dk_29 (dk_at dksX1_one_0 3 rfl rfl)
theorem dX1_one_4 : decode cX1_one 4 = .ok (.iconst 3, 1) := dk_6 (dk_at dksX1_one_0 4 rfl rfl)
theorem dX1_one_5 : decode cX1_one 5 = .ok (.invokevirtual 299, 3) := dk_182 1 43 (dk_at dksX1_one_0 5 rfl rfl)
theorem dX1_one_8 : decode cX1_one 8 = .ok (.ifCond .ne 5, 3) := dk_154 0 5 (dk_at dksX1_one_0 8 rfl rfl)
theorem dX1_one_11 : decode cX1_one 11 = .ok (.iconst (-1), 1) := dk_2 (dk_at dksX1_one_0 11 rfl rfl)
theorem dX1_one_12 : decode cX1_one 12 = .ok (.ireturn, 1) := dk_172 (dk_at dksX1_one_0 12 rfl rfl)
theorem dX1_one_13 : decode cX1_one 13 = .ok (.new 303, 3) := dk_187 1 47 (dk_at dksX1_one_0 13 rfl rfl)
theorem dX1_one_16 : decode cX1_one 16 = .ok (.dup, 1) := dk_89 (dk_at dksX1_one_0 16 rfl rfl)
theorem dX1_one_17 : decode cX1_one 17 = .ok (.aload_n 0, 1) := dk_42 (dk_at dksX1_one_0 17 rfl rfl)
theorem dX1_one_18 : decode cX1_one 18 = .ok (.iload_n 1, 1) := dk_27 (dk_at dksX1_one_0 18 rfl rfl)
theorem dX1_one_19 : decode cX1_one 19 = .ok (.iload_n 2, 1) := dk_28 (dk_at dksX1_one_0 19 rfl rfl)
theorem dX1_one_20 : decode cX1_one 20 = .ok (.iload_n 3, 1) := dk_29 (dk_at dksX1_one_0 20 rfl rfl)
theorem dX1_one_21 : decode cX1_one 21 = .ok (.invokespecial 305, 3) := dk_183 1 49 (dk_at dksX1_one_0 21 rfl rfl)
theorem dX1_one_24 : decode cX1_one 24 = .ok (.astore 4, 2) := dk_58 4 (dk_at dksX1_one_1 0 rfl rfl)
theorem dX1_one_26 : decode cX1_one 26 = .ok (.aload 4, 2) := dk_25 4 (dk_at dksX1_one_1 2 rfl rfl)
theorem dX1_one_28 : decode cX1_one 28 = .ok (.invokevirtual 308, 3) := dk_182 1 52 (dk_at dksX1_one_1 4 rfl rfl)
theorem dX1_one_31 : decode cX1_one 31 = .ok (.aload 4, 2) := dk_25 4 (dk_at dksX1_one_1 7 rfl rfl)
theorem dX1_one_33 : decode cX1_one 33 = .ok (.getfield 313, 3) := dk_180 1 57 (dk_at dksX1_one_1 9 rfl rfl)
theorem dX1_one_36 : decode cX1_one 36 = .ok (.iconst (-1), 1) := dk_2 (dk_at dksX1_one_1 12 rfl rfl)
theorem dX1_one_37 : decode cX1_one 37 = .ok (.if_icmp .ne 6, 3) := dk_160 0 6 (dk_at dksX1_one_1 13 rfl rfl)
theorem dX1_one_40 : decode cX1_one 40 = .ok (.bipush (-2), 2) := dk_16 254 (dk_at dksX1_one_1 16 rfl rfl)
theorem dX1_one_42 : decode cX1_one 42 = .ok (.ireturn, 1) := dk_172 (dk_at dksX1_one_1 18 rfl rfl)
theorem dX1_one_43 : decode cX1_one 43 = .ok (.aload 4, 2) := dk_25 4 (dk_at dksX1_one_1 19 rfl rfl)
theorem dX1_one_45 : decode cX1_one 45 = .ok (.invokevirtual 316, 3) := dk_182 1 60 (dk_at dksX1_one_1 21 rfl rfl)
theorem dX1_one_48 : decode cX1_one 48 = .ok (.aload 4, 2) := dk_25 4 (dk_at dksX1_one_2 0 rfl rfl)
theorem dX1_one_50 : decode cX1_one 50 = .ok (.getfield 313, 3) := dk_180 1 57 (dk_at dksX1_one_2 2 rfl rfl)
theorem dX1_one_53 : decode cX1_one 53 = .ok (.ireturn, 1) := dk_172 (dk_at dksX1_one_2 5 rfl rfl)
def dkwX1_canAsk_1 : List UInt8 := [153, 0, 7, 4, 167, 0, 4, 3, 172]
abbrev dktX1_canAsk_1 : List UInt8 := dkwX1_canAsk_1 ++ []
def dkwX1_canAsk_0 : List UInt8 := [42, 27, 182, 0, 212, 153, 0, 24, 28, 184, 0, 124, 153, 0, 17, 29, 3, 21, 4, 184, 0, 3]
abbrev dktX1_canAsk_0 : List UInt8 := dkwX1_canAsk_0 ++ dktX1_canAsk_1
theorem dksX1_canAsk_0 : cX1_canAsk.data.toList.drop 0 = dktX1_canAsk_0 := by decide +kernel
theorem dksX1_canAsk_1 : cX1_canAsk.data.toList.drop 22 = dktX1_canAsk_1 := dk_seg dksX1_canAsk_0 22 rfl rfl
theorem dX1_canAsk_0 : decode cX1_canAsk 0 = .ok (.aload_n 0, 1) := dk_42 (dk_at dksX1_canAsk_0 0 rfl rfl)
theorem dX1_canAsk_1 : decode cX1_canAsk 1 = .ok (.iload_n 1, 1) := dk_27 (dk_at dksX1_canAsk_0 1 rfl rfl)
theorem dX1_canAsk_2 : decode cX1_canAsk 2 = .ok (.invokevirtual 212, 3) := dk_182 0 212 (dk_at dksX1_canAsk_0 2 rfl rfl)
theorem dX1_canAsk_5 : decode cX1_canAsk 5 = .ok (.ifCond .eq 24, 3) := dk_153 0 24 (dk_at dksX1_canAsk_0 5 rfl rfl)
theorem dX1_canAsk_8 : decode cX1_canAsk 8 = .ok (.iload_n 2, 1) := dk_28 (dk_at dksX1_canAsk_0 8 rfl rfl)
theorem dX1_canAsk_9 : decode cX1_canAsk 9 = .ok (.invokestatic 124, 3) := dk_184 0 124 (dk_at dksX1_canAsk_0 9 rfl rfl)
theorem dX1_canAsk_12 : decode cX1_canAsk 12 = .ok (.ifCond .eq 17, 3) := dk_153 0 17 (dk_at dksX1_canAsk_0 12 rfl rfl)
theorem dX1_canAsk_15 : decode cX1_canAsk 15 = .ok (.iload_n 3, 1) := dk_29 (dk_at dksX1_canAsk_0 15 rfl rfl)
theorem dX1_canAsk_16 : decode cX1_canAsk 16 = .ok (.iconst 0, 1) := dk_3 (dk_at dksX1_canAsk_0 16 rfl rfl)
theorem dX1_canAsk_17 : decode cX1_canAsk 17 = .ok (.iload 4, 2) := dk_21 4 (dk_at dksX1_canAsk_0 17 rfl rfl)
theorem dX1_canAsk_19 : decode cX1_canAsk 19 = .ok (.invokestatic 3, 3) := dk_184 0 3 (dk_at dksX1_canAsk_0 19 rfl rfl)
theorem dX1_canAsk_22 : decode cX1_canAsk 22 = .ok (.ifCond .eq 7, 3) := dk_153 0 7 (dk_at dksX1_canAsk_1 0 rfl rfl)
theorem dX1_canAsk_25 : decode cX1_canAsk 25 = .ok (.iconst 1, 1) := dk_4 (dk_at dksX1_canAsk_1 3 rfl rfl)
theorem dX1_canAsk_26 : decode cX1_canAsk 26 = .ok (.goto 4, 3) := dk_167 0 4 (dk_at dksX1_canAsk_1 4 rfl rfl)
theorem dX1_canAsk_29 : decode cX1_canAsk 29 = .ok (.iconst 0, 1) := dk_3 (dk_at dksX1_canAsk_1 7 rfl rfl)
theorem dX1_canAsk_30 : decode cX1_canAsk 30 = .ok (.ireturn, 1) := dk_172 (dk_at dksX1_canAsk_1 8 rfl rfl)
def dkwX1_cheap_3 : List UInt8 := [25, 5, 180, 1, 57, 172]
abbrev dktX1_cheap_3 : List UInt8 := dkwX1_cheap_3 ++ []
def dkwX1_cheap_2 : List UInt8 := [58, 5, 25, 5, 182, 1, 52, 25, 5, 180, 1, 57, 2, 160, 0, 6, 16, 254, 172, 25, 5, 182, 1, 60]
abbrev dktX1_cheap_2 : List UInt8 := dkwX1_cheap_2 ++ dktX1_cheap_3
def dkwX1_cheap_1 : List UInt8 := [184, 0, 163, 184, 0, 3, 154, 0, 5, 2, 172, 187, 1, 63, 89, 42, 27, 28, 29, 21, 4, 183, 1, 65]
abbrev dktX1_cheap_1 : List UInt8 := dkwX1_cheap_1 ++ dktX1_cheap_2
def dkwX1_cheap_0 : List UInt8 := [42, 27, 28, 29, 5, 182, 1, 43, 153, 0, 23, 21, 4, 28, 17, 9, 95, 28, 17, 1, 144, 96]
abbrev dktX1_cheap_0 : List UInt8 := dkwX1_cheap_0 ++ dktX1_cheap_1
theorem dksX1_cheap_0 : cX1_cheap.data.toList.drop 0 = dktX1_cheap_0 := by decide +kernel
theorem dksX1_cheap_1 : cX1_cheap.data.toList.drop 22 = dktX1_cheap_1 := dk_seg dksX1_cheap_0 22 rfl rfl
theorem dksX1_cheap_2 : cX1_cheap.data.toList.drop 46 = dktX1_cheap_2 := dk_seg dksX1_cheap_1 24 rfl rfl
theorem dksX1_cheap_3 : cX1_cheap.data.toList.drop 70 = dktX1_cheap_3 := dk_seg dksX1_cheap_2 24 rfl rfl
theorem dX1_cheap_0 : decode cX1_cheap 0 = .ok (.aload_n 0, 1) := dk_42 (dk_at dksX1_cheap_0 0 rfl rfl)
theorem dX1_cheap_1 : decode cX1_cheap 1 = .ok (.iload_n 1, 1) := dk_27 (dk_at dksX1_cheap_0 1 rfl rfl)
theorem dX1_cheap_2 : decode cX1_cheap 2 = .ok (.iload_n 2, 1) := dk_28 (dk_at dksX1_cheap_0 2 rfl rfl)
theorem dX1_cheap_3 : decode cX1_cheap 3 = .ok (.iload_n 3, 1) := dk_29 (dk_at dksX1_cheap_0 3 rfl rfl)
theorem dX1_cheap_4 : decode cX1_cheap 4 = .ok (.iconst 2, 1) := dk_5 (dk_at dksX1_cheap_0 4 rfl rfl)
theorem dX1_cheap_5 : decode cX1_cheap 5 = .ok (.invokevirtual 299, 3) := dk_182 1 43 (dk_at dksX1_cheap_0 5 rfl rfl)
theorem dX1_cheap_8 : decode cX1_cheap 8 = .ok (.ifCond .eq 23, 3) := dk_153 0 23 (dk_at dksX1_cheap_0 8 rfl rfl)
theorem dX1_cheap_11 : decode cX1_cheap 11 = .ok (.iload 4, 2) := dk_21 4 (dk_at dksX1_cheap_0 11 rfl rfl)
theorem dX1_cheap_13 : decode cX1_cheap 13 = .ok (.iload_n 2, 1) := dk_28 (dk_at dksX1_cheap_0 13 rfl rfl)
theorem dX1_cheap_14 : decode cX1_cheap 14 = .ok (.sipush 2399, 3) := dk_17 9 95 (dk_at dksX1_cheap_0 14 rfl rfl)
theorem dX1_cheap_17 : decode cX1_cheap 17 = .ok (.iload_n 2, 1) := dk_28 (dk_at dksX1_cheap_0 17 rfl rfl)
theorem dX1_cheap_18 : decode cX1_cheap 18 = .ok (.sipush 400, 3) := dk_17 1 144 (dk_at dksX1_cheap_0 18 rfl rfl)
theorem dX1_cheap_21 : decode cX1_cheap 21 = .ok (.iadd, 1) := dk_96 (dk_at dksX1_cheap_0 21 rfl rfl)
theorem dX1_cheap_22 : decode cX1_cheap 22 = .ok (.invokestatic 163, 3) := dk_184 0 163 (dk_at dksX1_cheap_1 0 rfl rfl)
theorem dX1_cheap_25 : decode cX1_cheap 25 = .ok (.invokestatic 3, 3) := dk_184 0 3 (dk_at dksX1_cheap_1 3 rfl rfl)
theorem dX1_cheap_28 : decode cX1_cheap 28 = .ok (.ifCond .ne 5, 3) := dk_154 0 5 (dk_at dksX1_cheap_1 6 rfl rfl)
theorem dX1_cheap_31 : decode cX1_cheap 31 = .ok (.iconst (-1), 1) := dk_2 (dk_at dksX1_cheap_1 9 rfl rfl)
theorem dX1_cheap_32 : decode cX1_cheap 32 = .ok (.ireturn, 1) := dk_172 (dk_at dksX1_cheap_1 10 rfl rfl)
theorem dX1_cheap_33 : decode cX1_cheap 33 = .ok (.new 319, 3) := dk_187 1 63 (dk_at dksX1_cheap_1 11 rfl rfl)
theorem dX1_cheap_36 : decode cX1_cheap 36 = .ok (.dup, 1) := dk_89 (dk_at dksX1_cheap_1 14 rfl rfl)
theorem dX1_cheap_37 : decode cX1_cheap 37 = .ok (.aload_n 0, 1) := dk_42 (dk_at dksX1_cheap_1 15 rfl rfl)
theorem dX1_cheap_38 : decode cX1_cheap 38 = .ok (.iload_n 1, 1) := dk_27 (dk_at dksX1_cheap_1 16 rfl rfl)
theorem dX1_cheap_39 : decode cX1_cheap 39 = .ok (.iload_n 2, 1) := dk_28 (dk_at dksX1_cheap_1 17 rfl rfl)
theorem dX1_cheap_40 : decode cX1_cheap 40 = .ok (.iload_n 3, 1) := dk_29 (dk_at dksX1_cheap_1 18 rfl rfl)
theorem dX1_cheap_41 : decode cX1_cheap 41 = .ok (.iload 4, 2) := dk_21 4 (dk_at dksX1_cheap_1 19 rfl rfl)
theorem dX1_cheap_43 : decode cX1_cheap 43 = .ok (.invokespecial 321, 3) := dk_183 1 65 (dk_at dksX1_cheap_1 21 rfl rfl)
theorem dX1_cheap_46 : decode cX1_cheap 46 = .ok (.astore 5, 2) := dk_58 5 (dk_at dksX1_cheap_2 0 rfl rfl)
theorem dX1_cheap_48 : decode cX1_cheap 48 = .ok (.aload 5, 2) := dk_25 5 (dk_at dksX1_cheap_2 2 rfl rfl)
theorem dX1_cheap_50 : decode cX1_cheap 50 = .ok (.invokevirtual 308, 3) := dk_182 1 52 (dk_at dksX1_cheap_2 4 rfl rfl)
theorem dX1_cheap_53 : decode cX1_cheap 53 = .ok (.aload 5, 2) := dk_25 5 (dk_at dksX1_cheap_2 7 rfl rfl)
theorem dX1_cheap_55 : decode cX1_cheap 55 = .ok (.getfield 313, 3) := dk_180 1 57 (dk_at dksX1_cheap_2 9 rfl rfl)
theorem dX1_cheap_58 : decode cX1_cheap 58 = .ok (.iconst (-1), 1) := dk_2 (dk_at dksX1_cheap_2 12 rfl rfl)
theorem dX1_cheap_59 : decode cX1_cheap 59 = .ok (.if_icmp .ne 6, 3) := dk_160 0 6 (dk_at dksX1_cheap_2 13 rfl rfl)
theorem dX1_cheap_62 : decode cX1_cheap 62 = .ok (.bipush (-2), 2) := dk_16 254 (dk_at dksX1_cheap_2 16 rfl rfl)
theorem dX1_cheap_64 : decode cX1_cheap 64 = .ok (.ireturn, 1) := dk_172 (dk_at dksX1_cheap_2 18 rfl rfl)
theorem dX1_cheap_65 : decode cX1_cheap 65 = .ok (.aload 5, 2) := dk_25 5 (dk_at dksX1_cheap_2 19 rfl rfl)
theorem dX1_cheap_67 : decode cX1_cheap 67 = .ok (.invokevirtual 316, 3) := dk_182 1 60 (dk_at dksX1_cheap_2 21 rfl rfl)
theorem dX1_cheap_70 : decode cX1_cheap 70 = .ok (.aload 5, 2) := dk_25 5 (dk_at dksX1_cheap_3 0 rfl rfl)
theorem dX1_cheap_72 : decode cX1_cheap 72 = .ok (.getfield 313, 3) := dk_180 1 57 (dk_at dksX1_cheap_3 2 rfl rfl)
theorem dX1_cheap_75 : decode cX1_cheap 75 = .ok (.ireturn, 1) := dk_172 (dk_at dksX1_cheap_3 5 rfl rfl)
def dkwX1_edge_5 : List UInt8 := [21, 6, 172]
abbrev dktX1_edge_5 : List UInt8 := dkwX1_edge_5 ++ []
def dkwX1_edge_4 : List UInt8 := [3, 181, 0, 94, 42, 21, 4, 133, 182, 0, 101, 21, 6, 16, 20, 164, 0, 8, 16, 254, 167, 0, 5]
abbrev dktX1_edge_4 : List UInt8 := dkwX1_edge_4 ++ dktX1_edge_5
def dkwX1_edge_3 : List UInt8 := [21, 4, 162, 0, 6, 167, 0, 9, 132, 6, 255, 167, 255, 222, 42, 180, 0, 52, 21, 5, 181, 0, 172, 42]
abbrev dktX1_edge_3 : List UInt8 := dkwX1_edge_3 ++ dktX1_edge_4
def dkwX1_edge_2 : List UInt8 := [21, 6, 158, 0, 35, 42, 180, 0, 52, 21, 6, 4, 100, 181, 0, 172, 42, 27, 28, 29, 182, 1, 68]
abbrev dktX1_edge_2 : List UInt8 := dkwX1_edge_2 ++ dktX1_edge_3
def dkwX1_edge_1 : List UInt8 := [54, 4, 21, 4, 2, 160, 0, 5, 2, 172, 42, 180, 0, 52, 180, 0, 172, 54, 5, 16, 21, 54, 6]
abbrev dktX1_edge_1 : List UInt8 := dkwX1_edge_1 ++ dktX1_edge_2
def dkwX1_edge_0 : List UInt8 := [42, 27, 28, 29, 6, 182, 1, 43, 153, 0, 7, 29, 154, 0, 5, 2, 172, 42, 27, 28, 3, 182, 1, 68]
abbrev dktX1_edge_0 : List UInt8 := dkwX1_edge_0 ++ dktX1_edge_1
theorem dksX1_edge_0 : cX1_edge.data.toList.drop 0 = dktX1_edge_0 := by decide +kernel
theorem dksX1_edge_1 : cX1_edge.data.toList.drop 24 = dktX1_edge_1 := dk_seg dksX1_edge_0 24 rfl rfl
theorem dksX1_edge_2 : cX1_edge.data.toList.drop 47 = dktX1_edge_2 := dk_seg dksX1_edge_1 23 rfl rfl
theorem dksX1_edge_3 : cX1_edge.data.toList.drop 70 = dktX1_edge_3 := dk_seg dksX1_edge_2 23 rfl rfl
theorem dksX1_edge_4 : cX1_edge.data.toList.drop 94 = dktX1_edge_4 := dk_seg dksX1_edge_3 24 rfl rfl
theorem dksX1_edge_5 : cX1_edge.data.toList.drop 117 = dktX1_edge_5 := dk_seg dksX1_edge_4 23 rfl rfl
theorem dX1_edge_0 : decode cX1_edge 0 = .ok (.aload_n 0, 1) := dk_42 (dk_at dksX1_edge_0 0 rfl rfl)
theorem dX1_edge_1 : decode cX1_edge 1 = .ok (.iload_n 1, 1) := dk_27 (dk_at dksX1_edge_0 1 rfl rfl)
theorem dX1_edge_2 : decode cX1_edge 2 = .ok (.iload_n 2, 1) := dk_28 (dk_at dksX1_edge_0 2 rfl rfl)
theorem dX1_edge_3 : decode cX1_edge 3 = .ok (.iload_n 3, 1) := dk_29 (dk_at dksX1_edge_0 3 rfl rfl)
theorem dX1_edge_4 : decode cX1_edge 4 = .ok (.iconst 3, 1) := dk_6 (dk_at dksX1_edge_0 4 rfl rfl)
theorem dX1_edge_5 : decode cX1_edge 5 = .ok (.invokevirtual 299, 3) := dk_182 1 43 (dk_at dksX1_edge_0 5 rfl rfl)
theorem dX1_edge_8 : decode cX1_edge 8 = .ok (.ifCond .eq 7, 3) := dk_153 0 7 (dk_at dksX1_edge_0 8 rfl rfl)
theorem dX1_edge_11 : decode cX1_edge 11 = .ok (.iload_n 3, 1) := dk_29 (dk_at dksX1_edge_0 11 rfl rfl)
theorem dX1_edge_12 : decode cX1_edge 12 = .ok (.ifCond .ne 5, 3) := dk_154 0 5 (dk_at dksX1_edge_0 12 rfl rfl)
theorem dX1_edge_15 : decode cX1_edge 15 = .ok (.iconst (-1), 1) := dk_2 (dk_at dksX1_edge_0 15 rfl rfl)
theorem dX1_edge_16 : decode cX1_edge 16 = .ok (.ireturn, 1) := dk_172 (dk_at dksX1_edge_0 16 rfl rfl)
theorem dX1_edge_17 : decode cX1_edge 17 = .ok (.aload_n 0, 1) := dk_42 (dk_at dksX1_edge_0 17 rfl rfl)
theorem dX1_edge_18 : decode cX1_edge 18 = .ok (.iload_n 1, 1) := dk_27 (dk_at dksX1_edge_0 18 rfl rfl)
theorem dX1_edge_19 : decode cX1_edge 19 = .ok (.iload_n 2, 1) := dk_28 (dk_at dksX1_edge_0 19 rfl rfl)
theorem dX1_edge_20 : decode cX1_edge 20 = .ok (.iconst 0, 1) := dk_3 (dk_at dksX1_edge_0 20 rfl rfl)
theorem dX1_edge_21 : decode cX1_edge 21 = .ok (.invokevirtual 324, 3) := dk_182 1 68 (dk_at dksX1_edge_0 21 rfl rfl)
theorem dX1_edge_24 : decode cX1_edge 24 = .ok (.istore 4, 2) := dk_54 4 (dk_at dksX1_edge_1 0 rfl rfl)
theorem dX1_edge_26 : decode cX1_edge 26 = .ok (.iload 4, 2) := dk_21 4 (dk_at dksX1_edge_1 2 rfl rfl)
theorem dX1_edge_28 : decode cX1_edge 28 = .ok (.iconst (-1), 1) := dk_2 (dk_at dksX1_edge_1 4 rfl rfl)
theorem dX1_edge_29 : decode cX1_edge 29 = .ok (.if_icmp .ne 5, 3) := dk_160 0 5 (dk_at dksX1_edge_1 5 rfl rfl)
theorem dX1_edge_32 : decode cX1_edge 32 = .ok (.iconst (-1), 1) := dk_2 (dk_at dksX1_edge_1 8 rfl rfl)
theorem dX1_edge_33 : decode cX1_edge 33 = .ok (.ireturn, 1) := dk_172 (dk_at dksX1_edge_1 9 rfl rfl)
theorem dX1_edge_34 : decode cX1_edge 34 = .ok (.aload_n 0, 1) := dk_42 (dk_at dksX1_edge_1 10 rfl rfl)
theorem dX1_edge_35 : decode cX1_edge 35 = .ok (.getfield 52, 3) := dk_180 0 52 (dk_at dksX1_edge_1 11 rfl rfl)
theorem dX1_edge_38 : decode cX1_edge 38 = .ok (.getfield 172, 3) := dk_180 0 172 (dk_at dksX1_edge_1 14 rfl rfl)
theorem dX1_edge_41 : decode cX1_edge 41 = .ok (.istore 5, 2) := dk_54 5 (dk_at dksX1_edge_1 17 rfl rfl)
theorem dX1_edge_43 : decode cX1_edge 43 = .ok (.bipush 21, 2) := dk_16 21 (dk_at dksX1_edge_1 19 rfl rfl)
theorem dX1_edge_45 : decode cX1_edge 45 = .ok (.istore 6, 2) := dk_54 6 (dk_at dksX1_edge_1 21 rfl rfl)
theorem dX1_edge_47 : decode cX1_edge 47 = .ok (.iload 6, 2) := dk_21 6 (dk_at dksX1_edge_2 0 rfl rfl)
theorem dX1_edge_49 : decode cX1_edge 49 = .ok (.ifCond .le 35, 3) := dk_158 0 35 (dk_at dksX1_edge_2 2 rfl rfl)
theorem dX1_edge_52 : decode cX1_edge 52 = .ok (.aload_n 0, 1) := dk_42 (dk_at dksX1_edge_2 5 rfl rfl)
theorem dX1_edge_53 : decode cX1_edge 53 = .ok (.getfield 52, 3) := dk_180 0 52 (dk_at dksX1_edge_2 6 rfl rfl)
theorem dX1_edge_56 : decode cX1_edge 56 = .ok (.iload 6, 2) := dk_21 6 (dk_at dksX1_edge_2 9 rfl rfl)
theorem dX1_edge_58 : decode cX1_edge 58 = .ok (.iconst 1, 1) := dk_4 (dk_at dksX1_edge_2 11 rfl rfl)
theorem dX1_edge_59 : decode cX1_edge 59 = .ok (.isub, 1) := dk_100 (dk_at dksX1_edge_2 12 rfl rfl)
theorem dX1_edge_60 : decode cX1_edge 60 = .ok (.putfield 172, 3) := dk_181 0 172 (dk_at dksX1_edge_2 13 rfl rfl)
theorem dX1_edge_63 : decode cX1_edge 63 = .ok (.aload_n 0, 1) := dk_42 (dk_at dksX1_edge_2 16 rfl rfl)
theorem dX1_edge_64 : decode cX1_edge 64 = .ok (.iload_n 1, 1) := dk_27 (dk_at dksX1_edge_2 17 rfl rfl)
theorem dX1_edge_65 : decode cX1_edge 65 = .ok (.iload_n 2, 1) := dk_28 (dk_at dksX1_edge_2 18 rfl rfl)
theorem dX1_edge_66 : decode cX1_edge 66 = .ok (.iload_n 3, 1) := dk_29 (dk_at dksX1_edge_2 19 rfl rfl)
theorem dX1_edge_67 : decode cX1_edge 67 = .ok (.invokevirtual 324, 3) := dk_182 1 68 (dk_at dksX1_edge_2 20 rfl rfl)
theorem dX1_edge_70 : decode cX1_edge 70 = .ok (.iload 4, 2) := dk_21 4 (dk_at dksX1_edge_3 0 rfl rfl)
theorem dX1_edge_72 : decode cX1_edge 72 = .ok (.if_icmp .ge 6, 3) := dk_162 0 6 (dk_at dksX1_edge_3 2 rfl rfl)
theorem dX1_edge_75 : decode cX1_edge 75 = .ok (.goto 9, 3) := dk_167 0 9 (dk_at dksX1_edge_3 5 rfl rfl)
theorem dX1_edge_78 : decode cX1_edge 78 = .ok (.iinc 6 (-1), 3) := dk_132 6 255 (dk_at dksX1_edge_3 8 rfl rfl)
theorem dX1_edge_81 : decode cX1_edge 81 = .ok (.goto (-34), 3) := dk_167 255 222 (dk_at dksX1_edge_3 11 rfl rfl)
theorem dX1_edge_84 : decode cX1_edge 84 = .ok (.aload_n 0, 1) := dk_42 (dk_at dksX1_edge_3 14 rfl rfl)
theorem dX1_edge_85 : decode cX1_edge 85 = .ok (.getfield 52, 3) := dk_180 0 52 (dk_at dksX1_edge_3 15 rfl rfl)
theorem dX1_edge_88 : decode cX1_edge 88 = .ok (.iload 5, 2) := dk_21 5 (dk_at dksX1_edge_3 18 rfl rfl)
theorem dX1_edge_90 : decode cX1_edge 90 = .ok (.putfield 172, 3) := dk_181 0 172 (dk_at dksX1_edge_3 20 rfl rfl)
theorem dX1_edge_93 : decode cX1_edge 93 = .ok (.aload_n 0, 1) := dk_42 (dk_at dksX1_edge_3 23 rfl rfl)
theorem dX1_edge_94 : decode cX1_edge 94 = .ok (.iconst 0, 1) := dk_3 (dk_at dksX1_edge_4 0 rfl rfl)
theorem dX1_edge_95 : decode cX1_edge 95 = .ok (.putfield 94, 3) := dk_181 0 94 (dk_at dksX1_edge_4 1 rfl rfl)
theorem dX1_edge_98 : decode cX1_edge 98 = .ok (.aload_n 0, 1) := dk_42 (dk_at dksX1_edge_4 4 rfl rfl)
theorem dX1_edge_99 : decode cX1_edge 99 = .ok (.iload 4, 2) := dk_21 4 (dk_at dksX1_edge_4 5 rfl rfl)
theorem dX1_edge_101 : decode cX1_edge 101 = .ok (.i2l, 1) := dk_133 (dk_at dksX1_edge_4 7 rfl rfl)
theorem dX1_edge_102 : decode cX1_edge 102 = .ok (.invokevirtual 101, 3) := dk_182 0 101 (dk_at dksX1_edge_4 8 rfl rfl)
theorem dX1_edge_105 : decode cX1_edge 105 = .ok (.iload 6, 2) := dk_21 6 (dk_at dksX1_edge_4 11 rfl rfl)
theorem dX1_edge_107 : decode cX1_edge 107 = .ok (.bipush 20, 2) := dk_16 20 (dk_at dksX1_edge_4 13 rfl rfl)
theorem dX1_edge_109 : decode cX1_edge 109 = .ok (.if_icmp .le 8, 3) := dk_164 0 8 (dk_at dksX1_edge_4 15 rfl rfl)
theorem dX1_edge_112 : decode cX1_edge 112 = .ok (.bipush (-2), 2) := dk_16 254 (dk_at dksX1_edge_4 18 rfl rfl)
theorem dX1_edge_114 : decode cX1_edge 114 = .ok (.goto 5, 3) := dk_167 0 5 (dk_at dksX1_edge_4 20 rfl rfl)
theorem dX1_edge_117 : decode cX1_edge 117 = .ok (.iload 6, 2) := dk_21 6 (dk_at dksX1_edge_5 0 rfl rfl)
theorem dX1_edge_119 : decode cX1_edge 119 = .ok (.ireturn, 1) := dk_172 (dk_at dksX1_edge_5 2 rfl rfl)
def dkwX1_soonest_0 : List UInt8 := [187, 1, 47, 89, 42, 27, 28, 29, 183, 1, 49, 58, 4, 25, 4, 182, 1, 52, 25, 4, 180, 1, 57, 172]
abbrev dktX1_soonest_0 : List UInt8 := dkwX1_soonest_0 ++ []
theorem dksX1_soonest_0 : cX1_soonest.data.toList.drop 0 = dktX1_soonest_0 := by decide +kernel
theorem dX1_soonest_0 : decode cX1_soonest 0 = .ok (.new 303, 3) := dk_187 1 47 (dk_at dksX1_soonest_0 0 rfl rfl)
theorem dX1_soonest_3 : decode cX1_soonest 3 = .ok (.dup, 1) := dk_89 (dk_at dksX1_soonest_0 3 rfl rfl)
theorem dX1_soonest_4 : decode cX1_soonest 4 = .ok (.aload_n 0, 1) := dk_42 (dk_at dksX1_soonest_0 4 rfl rfl)
theorem dX1_soonest_5 : decode cX1_soonest 5 = .ok (.iload_n 1, 1) := dk_27 (dk_at dksX1_soonest_0 5 rfl rfl)
theorem dX1_soonest_6 : decode cX1_soonest 6 = .ok (.iload_n 2, 1) := dk_28 (dk_at dksX1_soonest_0 6 rfl rfl)
theorem dX1_soonest_7 : decode cX1_soonest 7 = .ok (.iload_n 3, 1) := dk_29 (dk_at dksX1_soonest_0 7 rfl rfl)
theorem dX1_soonest_8 : decode cX1_soonest 8 = .ok (.invokespecial 305, 3) := dk_183 1 49 (dk_at dksX1_soonest_0 8 rfl rfl)
theorem dX1_soonest_11 : decode cX1_soonest 11 = .ok (.astore 4, 2) := dk_58 4 (dk_at dksX1_soonest_0 11 rfl rfl)
theorem dX1_soonest_13 : decode cX1_soonest 13 = .ok (.aload 4, 2) := dk_25 4 (dk_at dksX1_soonest_0 13 rfl rfl)
theorem dX1_soonest_15 : decode cX1_soonest 15 = .ok (.invokevirtual 308, 3) := dk_182 1 52 (dk_at dksX1_soonest_0 15 rfl rfl)
theorem dX1_soonest_18 : decode cX1_soonest 18 = .ok (.aload 4, 2) := dk_25 4 (dk_at dksX1_soonest_0 18 rfl rfl)
theorem dX1_soonest_20 : decode cX1_soonest 20 = .ok (.getfield 313, 3) := dk_180 1 57 (dk_at dksX1_soonest_0 20 rfl rfl)
theorem dX1_soonest_23 : decode cX1_soonest 23 = .ok (.ireturn, 1) := dk_172 (dk_at dksX1_soonest_0 23 rfl rfl)
def dkwX1_lie_6 : List UInt8 := [182, 0, 101, 42, 21, 5, 133, 182, 0, 101, 29, 172]
abbrev dktX1_lie_6 : List UInt8 := dkwX1_lie_6 ++ []
def dkwX1_lie_5 : List UInt8 := [54, 5, 132, 6, 1, 167, 255, 162, 29, 156, 0, 6, 16, 254, 172, 42, 3, 181, 0, 94, 42, 21, 4, 133]
abbrev dktX1_lie_5 : List UInt8 := dkwX1_lie_5 ++ dktX1_lie_6
def dkwX1_lie_4 : List UInt8 := [155, 0, 13, 21, 8, 21, 4, 161, 0, 6, 167, 0, 16, 21, 6, 62, 21, 8, 54, 4, 25, 7, 3, 46]
abbrev dktX1_lie_4 : List UInt8 := dkwX1_lie_4 ++ dktX1_lie_5
def dkwX1_lie_3 : List UInt8 := [180, 0, 47, 27, 50, 21, 6, 28, 25, 7, 182, 1, 71, 54, 8, 21, 8, 2, 159, 0, 30, 29]
abbrev dktX1_lie_3 : List UInt8 := dkwX1_lie_3 ++ dktX1_lie_4
def dkwX1_lie_2 : List UInt8 := [180, 0, 47, 27, 50, 180, 1, 34, 182, 0, 188, 154, 0, 6, 167, 0, 58, 4, 188, 10, 58, 7, 42, 42]
abbrev dktX1_lie_2 : List UInt8 := dkwX1_lie_2 ++ dktX1_lie_3
def dkwX1_lie_1 : List UInt8 := [54, 5, 3, 54, 6, 21, 6, 42, 180, 0, 52, 180, 0, 19, 162, 0, 88, 42, 180, 0, 52, 21, 6, 42]
abbrev dktX1_lie_1 : List UInt8 := dkwX1_lie_1 ++ dktX1_lie_2
def dkwX1_lie_0 : List UInt8 := [42, 27, 182, 0, 212, 153, 0, 10, 28, 184, 0, 124, 154, 0, 5, 2, 172, 16, 254, 62, 3, 54, 4, 3]
abbrev dktX1_lie_0 : List UInt8 := dkwX1_lie_0 ++ dktX1_lie_1
theorem dksX1_lie_0 : cX1_lie.data.toList.drop 0 = dktX1_lie_0 := by decide +kernel
theorem dksX1_lie_1 : cX1_lie.data.toList.drop 24 = dktX1_lie_1 := dk_seg dksX1_lie_0 24 rfl rfl
theorem dksX1_lie_2 : cX1_lie.data.toList.drop 48 = dktX1_lie_2 := dk_seg dksX1_lie_1 24 rfl rfl
theorem dksX1_lie_3 : cX1_lie.data.toList.drop 72 = dktX1_lie_3 := dk_seg dksX1_lie_2 24 rfl rfl
theorem dksX1_lie_4 : cX1_lie.data.toList.drop 94 = dktX1_lie_4 := dk_seg dksX1_lie_3 22 rfl rfl
theorem dksX1_lie_5 : cX1_lie.data.toList.drop 118 = dktX1_lie_5 := dk_seg dksX1_lie_4 24 rfl rfl
theorem dksX1_lie_6 : cX1_lie.data.toList.drop 142 = dktX1_lie_6 := dk_seg dksX1_lie_5 24 rfl rfl
theorem dX1_lie_0 : decode cX1_lie 0 = .ok (.aload_n 0, 1) := dk_42 (dk_at dksX1_lie_0 0 rfl rfl)
theorem dX1_lie_1 : decode cX1_lie 1 = .ok (.iload_n 1, 1) := dk_27 (dk_at dksX1_lie_0 1 rfl rfl)
theorem dX1_lie_2 : decode cX1_lie 2 = .ok (.invokevirtual 212, 3) := dk_182 0 212 (dk_at dksX1_lie_0 2 rfl rfl)
theorem dX1_lie_5 : decode cX1_lie 5 = .ok (.ifCond .eq 10, 3) := dk_153 0 10 (dk_at dksX1_lie_0 5 rfl rfl)
theorem dX1_lie_8 : decode cX1_lie 8 = .ok (.iload_n 2, 1) := dk_28 (dk_at dksX1_lie_0 8 rfl rfl)
theorem dX1_lie_9 : decode cX1_lie 9 = .ok (.invokestatic 124, 3) := dk_184 0 124 (dk_at dksX1_lie_0 9 rfl rfl)
theorem dX1_lie_12 : decode cX1_lie 12 = .ok (.ifCond .ne 5, 3) := dk_154 0 5 (dk_at dksX1_lie_0 12 rfl rfl)
theorem dX1_lie_15 : decode cX1_lie 15 = .ok (.iconst (-1), 1) := dk_2 (dk_at dksX1_lie_0 15 rfl rfl)
theorem dX1_lie_16 : decode cX1_lie 16 = .ok (.ireturn, 1) := dk_172 (dk_at dksX1_lie_0 16 rfl rfl)
theorem dX1_lie_17 : decode cX1_lie 17 = .ok (.bipush (-2), 2) := dk_16 254 (dk_at dksX1_lie_0 17 rfl rfl)
theorem dX1_lie_19 : decode cX1_lie 19 = .ok (.istore_n 3, 1) := dk_62 (dk_at dksX1_lie_0 19 rfl rfl)
theorem dX1_lie_20 : decode cX1_lie 20 = .ok (.iconst 0, 1) := dk_3 (dk_at dksX1_lie_0 20 rfl rfl)
theorem dX1_lie_21 : decode cX1_lie 21 = .ok (.istore 4, 2) := dk_54 4 (dk_at dksX1_lie_0 21 rfl rfl)
theorem dX1_lie_23 : decode cX1_lie 23 = .ok (.iconst 0, 1) := dk_3 (dk_at dksX1_lie_0 23 rfl rfl)
theorem dX1_lie_24 : decode cX1_lie 24 = .ok (.istore 5, 2) := dk_54 5 (dk_at dksX1_lie_1 0 rfl rfl)
theorem dX1_lie_26 : decode cX1_lie 26 = .ok (.iconst 0, 1) := dk_3 (dk_at dksX1_lie_1 2 rfl rfl)
theorem dX1_lie_27 : decode cX1_lie 27 = .ok (.istore 6, 2) := dk_54 6 (dk_at dksX1_lie_1 3 rfl rfl)
theorem dX1_lie_29 : decode cX1_lie 29 = .ok (.iload 6, 2) := dk_21 6 (dk_at dksX1_lie_1 5 rfl rfl)
theorem dX1_lie_31 : decode cX1_lie 31 = .ok (.aload_n 0, 1) := dk_42 (dk_at dksX1_lie_1 7 rfl rfl)
theorem dX1_lie_32 : decode cX1_lie 32 = .ok (.getfield 52, 3) := dk_180 0 52 (dk_at dksX1_lie_1 8 rfl rfl)
theorem dX1_lie_35 : decode cX1_lie 35 = .ok (.getfield 19, 3) := dk_180 0 19 (dk_at dksX1_lie_1 11 rfl rfl)
theorem dX1_lie_38 : decode cX1_lie 38 = .ok (.if_icmp .ge 88, 3) := dk_162 0 88 (dk_at dksX1_lie_1 14 rfl rfl)
theorem dX1_lie_41 : decode cX1_lie 41 = .ok (.aload_n 0, 1) := dk_42 (dk_at dksX1_lie_1 17 rfl rfl)
theorem dX1_lie_42 : decode cX1_lie 42 = .ok (.getfield 52, 3) := dk_180 0 52 (dk_at dksX1_lie_1 18 rfl rfl)
theorem dX1_lie_45 : decode cX1_lie 45 = .ok (.iload 6, 2) := dk_21 6 (dk_at dksX1_lie_1 21 rfl rfl)
theorem dX1_lie_47 : decode cX1_lie 47 = .ok (.aload_n 0, 1) := dk_42 (dk_at dksX1_lie_1 23 rfl rfl)
theorem dX1_lie_48 : decode cX1_lie 48 = .ok (.getfield 47, 3) := dk_180 0 47 (dk_at dksX1_lie_2 0 rfl rfl)
theorem dX1_lie_51 : decode cX1_lie 51 = .ok (.iload_n 1, 1) := dk_27 (dk_at dksX1_lie_2 3 rfl rfl)
theorem dX1_lie_52 : decode cX1_lie 52 = .ok (.aaload, 1) := dk_50 (dk_at dksX1_lie_2 4 rfl rfl)
theorem dX1_lie_53 : decode cX1_lie 53 = .ok (.getfield 290, 3) := dk_180 1 34 (dk_at dksX1_lie_2 5 rfl rfl)
theorem dX1_lie_56 : decode cX1_lie 56 = .ok (.invokevirtual 188, 3) := dk_182 0 188 (dk_at dksX1_lie_2 8 rfl rfl)
theorem dX1_lie_59 : decode cX1_lie 59 = .ok (.ifCond .ne 6, 3) := dk_154 0 6 (dk_at dksX1_lie_2 11 rfl rfl)
theorem dX1_lie_62 : decode cX1_lie 62 = .ok (.goto 58, 3) := dk_167 0 58 (dk_at dksX1_lie_2 14 rfl rfl)
theorem dX1_lie_65 : decode cX1_lie 65 = .ok (.iconst 1, 1) := dk_4 (dk_at dksX1_lie_2 17 rfl rfl)
theorem dX1_lie_66 : decode cX1_lie 66 = .ok (.newarray .int, 2) := dk_188_10 (dk_at dksX1_lie_2 18 rfl rfl)
theorem dX1_lie_68 : decode cX1_lie 68 = .ok (.astore 7, 2) := dk_58 7 (dk_at dksX1_lie_2 20 rfl rfl)
theorem dX1_lie_70 : decode cX1_lie 70 = .ok (.aload_n 0, 1) := dk_42 (dk_at dksX1_lie_2 22 rfl rfl)
theorem dX1_lie_71 : decode cX1_lie 71 = .ok (.aload_n 0, 1) := dk_42 (dk_at dksX1_lie_2 23 rfl rfl)
theorem dX1_lie_72 : decode cX1_lie 72 = .ok (.getfield 47, 3) := dk_180 0 47 (dk_at dksX1_lie_3 0 rfl rfl)
theorem dX1_lie_75 : decode cX1_lie 75 = .ok (.iload_n 1, 1) := dk_27 (dk_at dksX1_lie_3 3 rfl rfl)
theorem dX1_lie_76 : decode cX1_lie 76 = .ok (.aaload, 1) := dk_50 (dk_at dksX1_lie_3 4 rfl rfl)
theorem dX1_lie_77 : decode cX1_lie 77 = .ok (.iload 6, 2) := dk_21 6 (dk_at dksX1_lie_3 5 rfl rfl)
theorem dX1_lie_79 : decode cX1_lie 79 = .ok (.iload_n 2, 1) := dk_28 (dk_at dksX1_lie_3 7 rfl rfl)
theorem dX1_lie_80 : decode cX1_lie 80 = .ok (.aload 7, 2) := dk_25 7 (dk_at dksX1_lie_3 8 rfl rfl)
theorem dX1_lie_82 : decode cX1_lie 82 = .ok (.invokevirtual 327, 3) := dk_182 1 71 (dk_at dksX1_lie_3 10 rfl rfl)
theorem dX1_lie_85 : decode cX1_lie 85 = .ok (.istore 8, 2) := dk_54 8 (dk_at dksX1_lie_3 13 rfl rfl)
theorem dX1_lie_87 : decode cX1_lie 87 = .ok (.iload 8, 2) := dk_21 8 (dk_at dksX1_lie_3 15 rfl rfl)
theorem dX1_lie_89 : decode cX1_lie 89 = .ok (.iconst (-1), 1) := dk_2 (dk_at dksX1_lie_3 17 rfl rfl)
theorem dX1_lie_90 : decode cX1_lie 90 = .ok (.if_icmp .eq 30, 3) := dk_159 0 30 (dk_at dksX1_lie_3 18 rfl rfl)
theorem dX1_lie_93 : decode cX1_lie 93 = .ok (.iload_n 3, 1) := dk_29 (dk_at dksX1_lie_3 21 rfl rfl)
theorem dX1_lie_94 : decode cX1_lie 94 = .ok (.ifCond .lt 13, 3) := dk_155 0 13 (dk_at dksX1_lie_4 0 rfl rfl)
theorem dX1_lie_97 : decode cX1_lie 97 = .ok (.iload 8, 2) := dk_21 8 (dk_at dksX1_lie_4 3 rfl rfl)
theorem dX1_lie_99 : decode cX1_lie 99 = .ok (.iload 4, 2) := dk_21 4 (dk_at dksX1_lie_4 5 rfl rfl)
theorem dX1_lie_101 : decode cX1_lie 101 = .ok (.if_icmp .lt 6, 3) := dk_161 0 6 (dk_at dksX1_lie_4 7 rfl rfl)
theorem dX1_lie_104 : decode cX1_lie 104 = .ok (.goto 16, 3) := dk_167 0 16 (dk_at dksX1_lie_4 10 rfl rfl)
theorem dX1_lie_107 : decode cX1_lie 107 = .ok (.iload 6, 2) := dk_21 6 (dk_at dksX1_lie_4 13 rfl rfl)
theorem dX1_lie_109 : decode cX1_lie 109 = .ok (.istore_n 3, 1) := dk_62 (dk_at dksX1_lie_4 15 rfl rfl)
theorem dX1_lie_110 : decode cX1_lie 110 = .ok (.iload 8, 2) := dk_21 8 (dk_at dksX1_lie_4 16 rfl rfl)
theorem dX1_lie_112 : decode cX1_lie 112 = .ok (.istore 4, 2) := dk_54 4 (dk_at dksX1_lie_4 18 rfl rfl)
theorem dX1_lie_114 : decode cX1_lie 114 = .ok (.aload 7, 2) := dk_25 7 (dk_at dksX1_lie_4 20 rfl rfl)
theorem dX1_lie_116 : decode cX1_lie 116 = .ok (.iconst 0, 1) := dk_3 (dk_at dksX1_lie_4 22 rfl rfl)
theorem dX1_lie_117 : decode cX1_lie 117 = .ok (.iaload, 1) := dk_46 (dk_at dksX1_lie_4 23 rfl rfl)
theorem dX1_lie_118 : decode cX1_lie 118 = .ok (.istore 5, 2) := dk_54 5 (dk_at dksX1_lie_5 0 rfl rfl)
theorem dX1_lie_120 : decode cX1_lie 120 = .ok (.iinc 6 1, 3) := dk_132 6 1 (dk_at dksX1_lie_5 2 rfl rfl)
theorem dX1_lie_123 : decode cX1_lie 123 = .ok (.goto (-94), 3) := dk_167 255 162 (dk_at dksX1_lie_5 5 rfl rfl)
theorem dX1_lie_126 : decode cX1_lie 126 = .ok (.iload_n 3, 1) := dk_29 (dk_at dksX1_lie_5 8 rfl rfl)
theorem dX1_lie_127 : decode cX1_lie 127 = .ok (.ifCond .ge 6, 3) := dk_156 0 6 (dk_at dksX1_lie_5 9 rfl rfl)
theorem dX1_lie_130 : decode cX1_lie 130 = .ok (.bipush (-2), 2) := dk_16 254 (dk_at dksX1_lie_5 12 rfl rfl)
theorem dX1_lie_132 : decode cX1_lie 132 = .ok (.ireturn, 1) := dk_172 (dk_at dksX1_lie_5 14 rfl rfl)
theorem dX1_lie_133 : decode cX1_lie 133 = .ok (.aload_n 0, 1) := dk_42 (dk_at dksX1_lie_5 15 rfl rfl)
theorem dX1_lie_134 : decode cX1_lie 134 = .ok (.iconst 0, 1) := dk_3 (dk_at dksX1_lie_5 16 rfl rfl)
theorem dX1_lie_135 : decode cX1_lie 135 = .ok (.putfield 94, 3) := dk_181 0 94 (dk_at dksX1_lie_5 17 rfl rfl)
theorem dX1_lie_138 : decode cX1_lie 138 = .ok (.aload_n 0, 1) := dk_42 (dk_at dksX1_lie_5 20 rfl rfl)
theorem dX1_lie_139 : decode cX1_lie 139 = .ok (.iload 4, 2) := dk_21 4 (dk_at dksX1_lie_5 21 rfl rfl)
theorem dX1_lie_141 : decode cX1_lie 141 = .ok (.i2l, 1) := dk_133 (dk_at dksX1_lie_5 23 rfl rfl)
theorem dX1_lie_142 : decode cX1_lie 142 = .ok (.invokevirtual 101, 3) := dk_182 0 101 (dk_at dksX1_lie_6 0 rfl rfl)
theorem dX1_lie_145 : decode cX1_lie 145 = .ok (.aload_n 0, 1) := dk_42 (dk_at dksX1_lie_6 3 rfl rfl)
theorem dX1_lie_146 : decode cX1_lie 146 = .ok (.iload 5, 2) := dk_21 5 (dk_at dksX1_lie_6 4 rfl rfl)
theorem dX1_lie_148 : decode cX1_lie 148 = .ok (.i2l, 1) := dk_133 (dk_at dksX1_lie_6 6 rfl rfl)
theorem dX1_lie_149 : decode cX1_lie 149 = .ok (.invokevirtual 101, 3) := dk_182 0 101 (dk_at dksX1_lie_6 7 rfl rfl)
theorem dX1_lie_152 : decode cX1_lie 152 = .ok (.iload_n 3, 1) := dk_29 (dk_at dksX1_lie_6 10 rfl rfl)
theorem dX1_lie_153 : decode cX1_lie 153 = .ok (.ireturn, 1) := dk_172 (dk_at dksX1_lie_6 11 rfl rfl)
def dkwX1_alone_6 : List UInt8 := [2, 172]
abbrev dktX1_alone_6 : List UInt8 := dkwX1_alone_6 ++ []
def dkwX1_alone_5 : List UInt8 := [21, 6, 43, 180, 1, 81, 162, 0, 6, 167, 0, 9, 4, 54, 7, 3, 54, 6, 132, 8, 1, 167, 255, 131]
abbrev dktX1_alone_5 : List UInt8 := dkwX1_alone_5 ++ dktX1_alone_6
def dkwX1_alone_4 : List UInt8 := [132, 5, 255, 132, 6, 1, 21, 5, 154, 0, 8, 21, 8, 4, 96, 172, 43, 180, 1, 78, 2, 159, 0, 21]
abbrev dktX1_alone_4 : List UInt8 := dkwX1_alone_4 ++ dktX1_alone_5
def dkwX1_alone_3 : List UInt8 := [182, 0, 178, 154, 0, 7, 4, 167, 0, 4, 3, 54, 7, 167, 0, 53, 21, 9, 154, 0, 6, 167, 0, 45]
abbrev dktX1_alone_3 : List UInt8 := dkwX1_alone_3 ++ dktX1_alone_4
def dkwX1_alone_2 : List UInt8 := [46, 4, 96, 79, 21, 9, 153, 0, 23, 42, 180, 0, 52, 180, 0, 127, 43, 180, 1, 78, 50, 21, 8]
abbrev dktX1_alone_2 : List UInt8 := dkwX1_alone_2 ++ dktX1_alone_3
def dkwX1_alone_1 : List UInt8 := [180, 0, 52, 180, 0, 127, 28, 50, 21, 8, 182, 0, 178, 54, 9, 21, 7, 153, 0, 46, 25, 4, 3, 92]
abbrev dktX1_alone_1 : List UInt8 := dkwX1_alone_1 ++ dktX1_alone_2
def dkwX1_alone_0 : List UInt8 := [43, 180, 1, 75, 54, 5, 3, 54, 6, 3, 54, 7, 29, 54, 8, 21, 8, 17, 9, 95, 162, 0, 123, 42]
abbrev dktX1_alone_0 : List UInt8 := dkwX1_alone_0 ++ dktX1_alone_1
theorem dksX1_alone_0 : cX1_alone.data.toList.drop 0 = dktX1_alone_0 := by decide +kernel
theorem dksX1_alone_1 : cX1_alone.data.toList.drop 24 = dktX1_alone_1 := dk_seg dksX1_alone_0 24 rfl rfl
theorem dksX1_alone_2 : cX1_alone.data.toList.drop 48 = dktX1_alone_2 := dk_seg dksX1_alone_1 24 rfl rfl
theorem dksX1_alone_3 : cX1_alone.data.toList.drop 71 = dktX1_alone_3 := dk_seg dksX1_alone_2 23 rfl rfl
theorem dksX1_alone_4 : cX1_alone.data.toList.drop 95 = dktX1_alone_4 := dk_seg dksX1_alone_3 24 rfl rfl
theorem dksX1_alone_5 : cX1_alone.data.toList.drop 119 = dktX1_alone_5 := dk_seg dksX1_alone_4 24 rfl rfl
theorem dksX1_alone_6 : cX1_alone.data.toList.drop 143 = dktX1_alone_6 := dk_seg dksX1_alone_5 24 rfl rfl
theorem dX1_alone_0 : decode cX1_alone 0 = .ok (.aload_n 1, 1) := dk_43 (dk_at dksX1_alone_0 0 rfl rfl)
theorem dX1_alone_1 : decode cX1_alone 1 = .ok (.getfield 331, 3) := dk_180 1 75 (dk_at dksX1_alone_0 1 rfl rfl)
theorem dX1_alone_4 : decode cX1_alone 4 = .ok (.istore 5, 2) := dk_54 5 (dk_at dksX1_alone_0 4 rfl rfl)
theorem dX1_alone_6 : decode cX1_alone 6 = .ok (.iconst 0, 1) := dk_3 (dk_at dksX1_alone_0 6 rfl rfl)
theorem dX1_alone_7 : decode cX1_alone 7 = .ok (.istore 6, 2) := dk_54 6 (dk_at dksX1_alone_0 7 rfl rfl)
theorem dX1_alone_9 : decode cX1_alone 9 = .ok (.iconst 0, 1) := dk_3 (dk_at dksX1_alone_0 9 rfl rfl)
theorem dX1_alone_10 : decode cX1_alone 10 = .ok (.istore 7, 2) := dk_54 7 (dk_at dksX1_alone_0 10 rfl rfl)
theorem dX1_alone_12 : decode cX1_alone 12 = .ok (.iload_n 3, 1) := dk_29 (dk_at dksX1_alone_0 12 rfl rfl)
theorem dX1_alone_13 : decode cX1_alone 13 = .ok (.istore 8, 2) := dk_54 8 (dk_at dksX1_alone_0 13 rfl rfl)
theorem dX1_alone_15 : decode cX1_alone 15 = .ok (.iload 8, 2) := dk_21 8 (dk_at dksX1_alone_0 15 rfl rfl)
theorem dX1_alone_17 : decode cX1_alone 17 = .ok (.sipush 2399, 3) := dk_17 9 95 (dk_at dksX1_alone_0 17 rfl rfl)
theorem dX1_alone_20 : decode cX1_alone 20 = .ok (.if_icmp .ge 123, 3) := dk_162 0 123 (dk_at dksX1_alone_0 20 rfl rfl)
theorem dX1_alone_23 : decode cX1_alone 23 = .ok (.aload_n 0, 1) := dk_42 (dk_at dksX1_alone_0 23 rfl rfl)
theorem dX1_alone_24 : decode cX1_alone 24 = .ok (.getfield 52, 3) := dk_180 0 52 (dk_at dksX1_alone_1 0 rfl rfl)
theorem dX1_alone_27 : decode cX1_alone 27 = .ok (.getfield 127, 3) := dk_180 0 127 (dk_at dksX1_alone_1 3 rfl rfl)
theorem dX1_alone_30 : decode cX1_alone 30 = .ok (.iload_n 2, 1) := dk_28 (dk_at dksX1_alone_1 6 rfl rfl)
theorem dX1_alone_31 : decode cX1_alone 31 = .ok (.aaload, 1) := dk_50 (dk_at dksX1_alone_1 7 rfl rfl)
theorem dX1_alone_32 : decode cX1_alone 32 = .ok (.iload 8, 2) := dk_21 8 (dk_at dksX1_alone_1 8 rfl rfl)
theorem dX1_alone_34 : decode cX1_alone 34 = .ok (.invokevirtual 178, 3) := dk_182 0 178 (dk_at dksX1_alone_1 10 rfl rfl)
theorem dX1_alone_37 : decode cX1_alone 37 = .ok (.istore 9, 2) := dk_54 9 (dk_at dksX1_alone_1 13 rfl rfl)
theorem dX1_alone_39 : decode cX1_alone 39 = .ok (.iload 7, 2) := dk_21 7 (dk_at dksX1_alone_1 15 rfl rfl)
theorem dX1_alone_41 : decode cX1_alone 41 = .ok (.ifCond .eq 46, 3) := dk_153 0 46 (dk_at dksX1_alone_1 17 rfl rfl)
theorem dX1_alone_44 : decode cX1_alone 44 = .ok (.aload 4, 2) := dk_25 4 (dk_at dksX1_alone_1 20 rfl rfl)
theorem dX1_alone_46 : decode cX1_alone 46 = .ok (.iconst 0, 1) := dk_3 (dk_at dksX1_alone_1 22 rfl rfl)
theorem dX1_alone_47 : decode cX1_alone 47 = .ok (.dup2, 1) := dk_92 (dk_at dksX1_alone_1 23 rfl rfl)
theorem dX1_alone_48 : decode cX1_alone 48 = .ok (.iaload, 1) := dk_46 (dk_at dksX1_alone_2 0 rfl rfl)
theorem dX1_alone_49 : decode cX1_alone 49 = .ok (.iconst 1, 1) := dk_4 (dk_at dksX1_alone_2 1 rfl rfl)
theorem dX1_alone_50 : decode cX1_alone 50 = .ok (.iadd, 1) := dk_96 (dk_at dksX1_alone_2 2 rfl rfl)
theorem dX1_alone_51 : decode cX1_alone 51 = .ok (.iastore, 1) := dk_79 (dk_at dksX1_alone_2 3 rfl rfl)
theorem dX1_alone_52 : decode cX1_alone 52 = .ok (.iload 9, 2) := dk_21 9 (dk_at dksX1_alone_2 4 rfl rfl)
theorem dX1_alone_54 : decode cX1_alone 54 = .ok (.ifCond .eq 23, 3) := dk_153 0 23 (dk_at dksX1_alone_2 6 rfl rfl)
theorem dX1_alone_57 : decode cX1_alone 57 = .ok (.aload_n 0, 1) := dk_42 (dk_at dksX1_alone_2 9 rfl rfl)
theorem dX1_alone_58 : decode cX1_alone 58 = .ok (.getfield 52, 3) := dk_180 0 52 (dk_at dksX1_alone_2 10 rfl rfl)
theorem dX1_alone_61 : decode cX1_alone 61 = .ok (.getfield 127, 3) := dk_180 0 127 (dk_at dksX1_alone_2 13 rfl rfl)
theorem dX1_alone_64 : decode cX1_alone 64 = .ok (.aload_n 1, 1) := dk_43 (dk_at dksX1_alone_2 16 rfl rfl)
theorem dX1_alone_65 : decode cX1_alone 65 = .ok (.getfield 334, 3) := dk_180 1 78 (dk_at dksX1_alone_2 17 rfl rfl)
theorem dX1_alone_68 : decode cX1_alone 68 = .ok (.aaload, 1) := dk_50 (dk_at dksX1_alone_2 20 rfl rfl)
theorem dX1_alone_69 : decode cX1_alone 69 = .ok (.iload 8, 2) := dk_21 8 (dk_at dksX1_alone_2 21 rfl rfl)
theorem dX1_alone_71 : decode cX1_alone 71 = .ok (.invokevirtual 178, 3) := dk_182 0 178 (dk_at dksX1_alone_3 0 rfl rfl)
theorem dX1_alone_74 : decode cX1_alone 74 = .ok (.ifCond .ne 7, 3) := dk_154 0 7 (dk_at dksX1_alone_3 3 rfl rfl)
theorem dX1_alone_77 : decode cX1_alone 77 = .ok (.iconst 1, 1) := dk_4 (dk_at dksX1_alone_3 6 rfl rfl)
theorem dX1_alone_78 : decode cX1_alone 78 = .ok (.goto 4, 3) := dk_167 0 4 (dk_at dksX1_alone_3 7 rfl rfl)
theorem dX1_alone_81 : decode cX1_alone 81 = .ok (.iconst 0, 1) := dk_3 (dk_at dksX1_alone_3 10 rfl rfl)
theorem dX1_alone_82 : decode cX1_alone 82 = .ok (.istore 7, 2) := dk_54 7 (dk_at dksX1_alone_3 11 rfl rfl)
theorem dX1_alone_84 : decode cX1_alone 84 = .ok (.goto 53, 3) := dk_167 0 53 (dk_at dksX1_alone_3 13 rfl rfl)
theorem dX1_alone_87 : decode cX1_alone 87 = .ok (.iload 9, 2) := dk_21 9 (dk_at dksX1_alone_3 16 rfl rfl)
theorem dX1_alone_89 : decode cX1_alone 89 = .ok (.ifCond .ne 6, 3) := dk_154 0 6 (dk_at dksX1_alone_3 18 rfl rfl)
theorem dX1_alone_92 : decode cX1_alone 92 = .ok (.goto 45, 3) := dk_167 0 45 (dk_at dksX1_alone_3 21 rfl rfl)
theorem dX1_alone_95 : decode cX1_alone 95 = .ok (.iinc 5 (-1), 3) := dk_132 5 255 (dk_at dksX1_alone_4 0 rfl rfl)
theorem dX1_alone_98 : decode cX1_alone 98 = .ok (.iinc 6 1, 3) := dk_132 6 1 (dk_at dksX1_alone_4 3 rfl rfl)
theorem dX1_alone_101 : decode cX1_alone 101 = .ok (.iload 5, 2) := dk_21 5 (dk_at dksX1_alone_4 6 rfl rfl)
theorem dX1_alone_103 : decode cX1_alone 103 = .ok (.ifCond .ne 8, 3) := dk_154 0 8 (dk_at dksX1_alone_4 8 rfl rfl)
theorem dX1_alone_106 : decode cX1_alone 106 = .ok (.iload 8, 2) := dk_21 8 (dk_at dksX1_alone_4 11 rfl rfl)
theorem dX1_alone_108 : decode cX1_alone 108 = .ok (.iconst 1, 1) := dk_4 (dk_at dksX1_alone_4 13 rfl rfl)
theorem dX1_alone_109 : decode cX1_alone 109 = .ok (.iadd, 1) := dk_96 (dk_at dksX1_alone_4 14 rfl rfl)
theorem dX1_alone_110 : decode cX1_alone 110 = .ok (.ireturn, 1) := dk_172 (dk_at dksX1_alone_4 15 rfl rfl)
theorem dX1_alone_111 : decode cX1_alone 111 = .ok (.aload_n 1, 1) := dk_43 (dk_at dksX1_alone_4 16 rfl rfl)
theorem dX1_alone_112 : decode cX1_alone 112 = .ok (.getfield 334, 3) := dk_180 1 78 (dk_at dksX1_alone_4 17 rfl rfl)
theorem dX1_alone_115 : decode cX1_alone 115 = .ok (.iconst (-1), 1) := dk_2 (dk_at dksX1_alone_4 20 rfl rfl)
theorem dX1_alone_116 : decode cX1_alone 116 = .ok (.if_icmp .eq 21, 3) := dk_159 0 21 (dk_at dksX1_alone_4 21 rfl rfl)
theorem dX1_alone_119 : decode cX1_alone 119 = .ok (.iload 6, 2) := dk_21 6 (dk_at dksX1_alone_5 0 rfl rfl)
theorem dX1_alone_121 : decode cX1_alone 121 = .ok (.aload_n 1, 1) := dk_43 (dk_at dksX1_alone_5 2 rfl rfl)
theorem dX1_alone_122 : decode cX1_alone 122 = .ok (.getfield 337, 3) := dk_180 1 81 (dk_at dksX1_alone_5 3 rfl rfl)
theorem dX1_alone_125 : decode cX1_alone 125 = .ok (.if_icmp .ge 6, 3) := dk_162 0 6 (dk_at dksX1_alone_5 6 rfl rfl)
theorem dX1_alone_128 : decode cX1_alone 128 = .ok (.goto 9, 3) := dk_167 0 9 (dk_at dksX1_alone_5 9 rfl rfl)
theorem dX1_alone_131 : decode cX1_alone 131 = .ok (.iconst 1, 1) := dk_4 (dk_at dksX1_alone_5 12 rfl rfl)
theorem dX1_alone_132 : decode cX1_alone 132 = .ok (.istore 7, 2) := dk_54 7 (dk_at dksX1_alone_5 13 rfl rfl)
theorem dX1_alone_134 : decode cX1_alone 134 = .ok (.iconst 0, 1) := dk_3 (dk_at dksX1_alone_5 15 rfl rfl)
theorem dX1_alone_135 : decode cX1_alone 135 = .ok (.istore 6, 2) := dk_54 6 (dk_at dksX1_alone_5 16 rfl rfl)
theorem dX1_alone_137 : decode cX1_alone 137 = .ok (.iinc 8 1, 3) := dk_132 8 1 (dk_at dksX1_alone_5 18 rfl rfl)
theorem dX1_alone_140 : decode cX1_alone 140 = .ok (.goto (-125), 3) := dk_167 255 131 (dk_at dksX1_alone_5 21 rfl rfl)
theorem dX1_alone_143 : decode cX1_alone 143 = .ok (.iconst (-1), 1) := dk_2 (dk_at dksX1_alone_6 0 rfl rfl)
theorem dX1_alone_144 : decode cX1_alone 144 = .ok (.ireturn, 1) := dk_172 (dk_at dksX1_alone_6 1 rfl rfl)
def dkwX1_homes_9 : List UInt8 := [42, 25, 7, 180, 0, 7, 21, 8, 46, 133, 182, 0, 101, 132, 8, 1, 167, 255, 222, 21, 6, 172]
abbrev dktX1_homes_9 : List UInt8 := dkwX1_homes_9 ++ []
def dkwX1_homes_8 : List UInt8 := [181, 0, 94, 3, 54, 8, 21, 8, 42, 180, 0, 105, 162, 0, 31, 27, 21, 8, 184, 1, 31, 153, 0, 16]
abbrev dktX1_homes_8 : List UInt8 := dkwX1_homes_8 ++ dktX1_homes_9
def dkwX1_homes_7 : List UInt8 := [172, 42, 180, 0, 66, 28, 182, 0, 221, 58, 7, 42, 25, 7, 27, 21, 5, 182, 1, 93, 42, 3]
abbrev dktX1_homes_7 : List UInt8 := dkwX1_homes_7 ++ dktX1_homes_8
def dkwX1_homes_6 : List UInt8 := [167, 0, 11, 21, 7, 54, 5, 21, 9, 54, 6, 132, 7, 1, 167, 255, 191, 21, 5, 156, 0, 6, 16, 254]
abbrev dktX1_homes_6 : List UInt8 := dkwX1_homes_6 ++ dktX1_homes_7
def dkwX1_homes_5 : List UInt8 := [45, 182, 1, 12, 54, 9, 21, 9, 155, 0, 26, 21, 5, 155, 0, 13, 21, 9, 21, 6, 161, 0, 6]
abbrev dktX1_homes_5 : List UInt8 := dkwX1_homes_5 ++ dktX1_homes_6
def dkwX1_homes_4 : List UInt8 := [162, 0, 64, 42, 180, 0, 66, 28, 182, 0, 221, 58, 8, 42, 25, 8, 27, 21, 7, 182, 1, 93, 25, 8]
abbrev dktX1_homes_4 : List UInt8 := dkwX1_homes_4 ++ dktX1_homes_5
def dkwX1_homes_3 : List UInt8 := [104, 54, 4, 132, 5, 1, 167, 255, 235, 16, 254, 54, 5, 3, 54, 6, 3, 54, 7, 21, 7, 21, 4]
abbrev dktX1_homes_3 : List UInt8 := dkwX1_homes_3 ++ dktX1_homes_4
def dkwX1_homes_2 : List UInt8 := [181, 0, 13, 4, 54, 4, 3, 54, 5, 21, 5, 27, 184, 1, 84, 162, 0, 18, 21, 4, 45, 180, 0, 19]
abbrev dktX1_homes_2 : List UInt8 := dkwX1_homes_2 ++ dktX1_homes_3
def dkwX1_homes_1 : List UInt8 := [28, 184, 0, 124, 154, 0, 5, 2, 172, 42, 180, 0, 56, 42, 180, 0, 52, 182, 1, 90, 78, 45, 1]
abbrev dktX1_homes_1 : List UInt8 := dkwX1_homes_1 ++ dktX1_homes_2
def dkwX1_homes_0 : List UInt8 := [27, 4, 4, 42, 180, 0, 105, 120, 4, 100, 184, 0, 3, 153, 0, 18, 27, 184, 1, 84, 7, 163, 0, 10]
abbrev dktX1_homes_0 : List UInt8 := dkwX1_homes_0 ++ dktX1_homes_1
theorem dksX1_homes_0 : cX1_homes.data.toList.drop 0 = dktX1_homes_0 := by decide +kernel
theorem dksX1_homes_1 : cX1_homes.data.toList.drop 24 = dktX1_homes_1 := dk_seg dksX1_homes_0 24 rfl rfl
theorem dksX1_homes_2 : cX1_homes.data.toList.drop 47 = dktX1_homes_2 := dk_seg dksX1_homes_1 23 rfl rfl
theorem dksX1_homes_3 : cX1_homes.data.toList.drop 71 = dktX1_homes_3 := dk_seg dksX1_homes_2 24 rfl rfl
theorem dksX1_homes_4 : cX1_homes.data.toList.drop 94 = dktX1_homes_4 := dk_seg dksX1_homes_3 23 rfl rfl
theorem dksX1_homes_5 : cX1_homes.data.toList.drop 118 = dktX1_homes_5 := dk_seg dksX1_homes_4 24 rfl rfl
theorem dksX1_homes_6 : cX1_homes.data.toList.drop 141 = dktX1_homes_6 := dk_seg dksX1_homes_5 23 rfl rfl
theorem dksX1_homes_7 : cX1_homes.data.toList.drop 165 = dktX1_homes_7 := dk_seg dksX1_homes_6 24 rfl rfl
theorem dksX1_homes_8 : cX1_homes.data.toList.drop 187 = dktX1_homes_8 := dk_seg dksX1_homes_7 22 rfl rfl
theorem dksX1_homes_9 : cX1_homes.data.toList.drop 211 = dktX1_homes_9 := dk_seg dksX1_homes_8 24 rfl rfl
theorem dX1_homes_0 : decode cX1_homes 0 = .ok (.iload_n 1, 1) := dk_27 (dk_at dksX1_homes_0 0 rfl rfl)
theorem dX1_homes_1 : decode cX1_homes 1 = .ok (.iconst 1, 1) := dk_4 (dk_at dksX1_homes_0 1 rfl rfl)
theorem dX1_homes_2 : decode cX1_homes 2 = .ok (.iconst 1, 1) := dk_4 (dk_at dksX1_homes_0 2 rfl rfl)
theorem dX1_homes_3 : decode cX1_homes 3 = .ok (.aload_n 0, 1) := dk_42 (dk_at dksX1_homes_0 3 rfl rfl)
theorem dX1_homes_4 : decode cX1_homes 4 = .ok (.getfield 105, 3) := dk_180 0 105 (dk_at dksX1_homes_0 4 rfl rfl)
theorem dX1_homes_7 : decode cX1_homes 7 = .ok (.ishl, 1) := dk_120 (dk_at dksX1_homes_0 7 rfl rfl)
theorem dX1_homes_8 : decode cX1_homes 8 = .ok (.iconst 1, 1) := dk_4 (dk_at dksX1_homes_0 8 rfl rfl)
theorem dX1_homes_9 : decode cX1_homes 9 = .ok (.isub, 1) := dk_100 (dk_at dksX1_homes_0 9 rfl rfl)
theorem dX1_homes_10 : decode cX1_homes 10 = .ok (.invokestatic 3, 3) := dk_184 0 3 (dk_at dksX1_homes_0 10 rfl rfl)
theorem dX1_homes_13 : decode cX1_homes 13 = .ok (.ifCond .eq 18, 3) := dk_153 0 18 (dk_at dksX1_homes_0 13 rfl rfl)
theorem dX1_homes_16 : decode cX1_homes 16 = .ok (.iload_n 1, 1) := dk_27 (dk_at dksX1_homes_0 16 rfl rfl)
theorem dX1_homes_17 : decode cX1_homes 17 = .ok (.invokestatic 340, 3) := dk_184 1 84 (dk_at dksX1_homes_0 17 rfl rfl)
theorem dX1_homes_20 : decode cX1_homes 20 = .ok (.iconst 4, 1) := dk_7 (dk_at dksX1_homes_0 20 rfl rfl)
theorem dX1_homes_21 : decode cX1_homes 21 = .ok (.if_icmp .gt 10, 3) := dk_163 0 10 (dk_at dksX1_homes_0 21 rfl rfl)
theorem dX1_homes_24 : decode cX1_homes 24 = .ok (.iload_n 2, 1) := dk_28 (dk_at dksX1_homes_1 0 rfl rfl)
theorem dX1_homes_25 : decode cX1_homes 25 = .ok (.invokestatic 124, 3) := dk_184 0 124 (dk_at dksX1_homes_1 1 rfl rfl)
theorem dX1_homes_28 : decode cX1_homes 28 = .ok (.ifCond .ne 5, 3) := dk_154 0 5 (dk_at dksX1_homes_1 4 rfl rfl)
theorem dX1_homes_31 : decode cX1_homes 31 = .ok (.iconst (-1), 1) := dk_2 (dk_at dksX1_homes_1 7 rfl rfl)
theorem dX1_homes_32 : decode cX1_homes 32 = .ok (.ireturn, 1) := dk_172 (dk_at dksX1_homes_1 8 rfl rfl)
theorem dX1_homes_33 : decode cX1_homes 33 = .ok (.aload_n 0, 1) := dk_42 (dk_at dksX1_homes_1 9 rfl rfl)
theorem dX1_homes_34 : decode cX1_homes 34 = .ok (.getfield 56, 3) := dk_180 0 56 (dk_at dksX1_homes_1 10 rfl rfl)
theorem dX1_homes_37 : decode cX1_homes 37 = .ok (.aload_n 0, 1) := dk_42 (dk_at dksX1_homes_1 13 rfl rfl)
theorem dX1_homes_38 : decode cX1_homes 38 = .ok (.getfield 52, 3) := dk_180 0 52 (dk_at dksX1_homes_1 14 rfl rfl)
theorem dX1_homes_41 : decode cX1_homes 41 = .ok (.invokevirtual 346, 3) := dk_182 1 90 (dk_at dksX1_homes_1 17 rfl rfl)
theorem dX1_homes_44 : decode cX1_homes 44 = .ok (.astore_n 3, 1) := dk_78 (dk_at dksX1_homes_1 20 rfl rfl)
theorem dX1_homes_45 : decode cX1_homes 45 = .ok (.aload_n 3, 1) := dk_45 (dk_at dksX1_homes_1 21 rfl rfl)
theorem dX1_homes_46 : decode cX1_homes 46 = .ok (.aconst_null, 1) := dk_1 (dk_at dksX1_homes_1 22 rfl rfl)
theorem dX1_homes_47 : decode cX1_homes 47 = .ok (.putfield 13, 3) := dk_181 0 13 (dk_at dksX1_homes_2 0 rfl rfl)
theorem dX1_homes_50 : decode cX1_homes 50 = .ok (.iconst 1, 1) := dk_4 (dk_at dksX1_homes_2 3 rfl rfl)
theorem dX1_homes_51 : decode cX1_homes 51 = .ok (.istore 4, 2) := dk_54 4 (dk_at dksX1_homes_2 4 rfl rfl)
theorem dX1_homes_53 : decode cX1_homes 53 = .ok (.iconst 0, 1) := dk_3 (dk_at dksX1_homes_2 6 rfl rfl)
theorem dX1_homes_54 : decode cX1_homes 54 = .ok (.istore 5, 2) := dk_54 5 (dk_at dksX1_homes_2 7 rfl rfl)
theorem dX1_homes_56 : decode cX1_homes 56 = .ok (.iload 5, 2) := dk_21 5 (dk_at dksX1_homes_2 9 rfl rfl)
theorem dX1_homes_58 : decode cX1_homes 58 = .ok (.iload_n 1, 1) := dk_27 (dk_at dksX1_homes_2 11 rfl rfl)
theorem dX1_homes_59 : decode cX1_homes 59 = .ok (.invokestatic 340, 3) := dk_184 1 84 (dk_at dksX1_homes_2 12 rfl rfl)
theorem dX1_homes_62 : decode cX1_homes 62 = .ok (.if_icmp .ge 18, 3) := dk_162 0 18 (dk_at dksX1_homes_2 15 rfl rfl)
theorem dX1_homes_65 : decode cX1_homes 65 = .ok (.iload 4, 2) := dk_21 4 (dk_at dksX1_homes_2 18 rfl rfl)
theorem dX1_homes_67 : decode cX1_homes 67 = .ok (.aload_n 3, 1) := dk_45 (dk_at dksX1_homes_2 20 rfl rfl)
theorem dX1_homes_68 : decode cX1_homes 68 = .ok (.getfield 19, 3) := dk_180 0 19 (dk_at dksX1_homes_2 21 rfl rfl)
theorem dX1_homes_71 : decode cX1_homes 71 = .ok (.imul, 1) := dk_104 (dk_at dksX1_homes_3 0 rfl rfl)
theorem dX1_homes_72 : decode cX1_homes 72 = .ok (.istore 4, 2) := dk_54 4 (dk_at dksX1_homes_3 1 rfl rfl)
theorem dX1_homes_74 : decode cX1_homes 74 = .ok (.iinc 5 1, 3) := dk_132 5 1 (dk_at dksX1_homes_3 3 rfl rfl)
theorem dX1_homes_77 : decode cX1_homes 77 = .ok (.goto (-21), 3) := dk_167 255 235 (dk_at dksX1_homes_3 6 rfl rfl)
theorem dX1_homes_80 : decode cX1_homes 80 = .ok (.bipush (-2), 2) := dk_16 254 (dk_at dksX1_homes_3 9 rfl rfl)
theorem dX1_homes_82 : decode cX1_homes 82 = .ok (.istore 5, 2) := dk_54 5 (dk_at dksX1_homes_3 11 rfl rfl)
theorem dX1_homes_84 : decode cX1_homes 84 = .ok (.iconst 0, 1) := dk_3 (dk_at dksX1_homes_3 13 rfl rfl)
theorem dX1_homes_85 : decode cX1_homes 85 = .ok (.istore 6, 2) := dk_54 6 (dk_at dksX1_homes_3 14 rfl rfl)
theorem dX1_homes_87 : decode cX1_homes 87 = .ok (.iconst 0, 1) := dk_3 (dk_at dksX1_homes_3 16 rfl rfl)
theorem dX1_homes_88 : decode cX1_homes 88 = .ok (.istore 7, 2) := dk_54 7 (dk_at dksX1_homes_3 17 rfl rfl)
theorem dX1_homes_90 : decode cX1_homes 90 = .ok (.iload 7, 2) := dk_21 7 (dk_at dksX1_homes_3 19 rfl rfl)
theorem dX1_homes_92 : decode cX1_homes 92 = .ok (.iload 4, 2) := dk_21 4 (dk_at dksX1_homes_3 21 rfl rfl)
theorem dX1_homes_94 : decode cX1_homes 94 = .ok (.if_icmp .ge 64, 3) := dk_162 0 64 (dk_at dksX1_homes_4 0 rfl rfl)
theorem dX1_homes_97 : decode cX1_homes 97 = .ok (.aload_n 0, 1) := dk_42 (dk_at dksX1_homes_4 3 rfl rfl)
theorem dX1_homes_98 : decode cX1_homes 98 = .ok (.getfield 66, 3) := dk_180 0 66 (dk_at dksX1_homes_4 4 rfl rfl)
theorem dX1_homes_101 : decode cX1_homes 101 = .ok (.iload_n 2, 1) := dk_28 (dk_at dksX1_homes_4 7 rfl rfl)
theorem dX1_homes_102 : decode cX1_homes 102 = .ok (.invokevirtual 221, 3) := dk_182 0 221 (dk_at dksX1_homes_4 8 rfl rfl)
theorem dX1_homes_105 : decode cX1_homes 105 = .ok (.astore 8, 2) := dk_58 8 (dk_at dksX1_homes_4 11 rfl rfl)
theorem dX1_homes_107 : decode cX1_homes 107 = .ok (.aload_n 0, 1) := dk_42 (dk_at dksX1_homes_4 13 rfl rfl)
theorem dX1_homes_108 : decode cX1_homes 108 = .ok (.aload 8, 2) := dk_25 8 (dk_at dksX1_homes_4 14 rfl rfl)
theorem dX1_homes_110 : decode cX1_homes 110 = .ok (.iload_n 1, 1) := dk_27 (dk_at dksX1_homes_4 16 rfl rfl)
theorem dX1_homes_111 : decode cX1_homes 111 = .ok (.iload 7, 2) := dk_21 7 (dk_at dksX1_homes_4 17 rfl rfl)
theorem dX1_homes_113 : decode cX1_homes 113 = .ok (.invokevirtual 349, 3) := dk_182 1 93 (dk_at dksX1_homes_4 19 rfl rfl)
theorem dX1_homes_116 : decode cX1_homes 116 = .ok (.aload 8, 2) := dk_25 8 (dk_at dksX1_homes_4 22 rfl rfl)
theorem dX1_homes_118 : decode cX1_homes 118 = .ok (.aload_n 3, 1) := dk_45 (dk_at dksX1_homes_5 0 rfl rfl)
theorem dX1_homes_119 : decode cX1_homes 119 = .ok (.invokevirtual 268, 3) := dk_182 1 12 (dk_at dksX1_homes_5 1 rfl rfl)
theorem dX1_homes_122 : decode cX1_homes 122 = .ok (.istore 9, 2) := dk_54 9 (dk_at dksX1_homes_5 4 rfl rfl)
theorem dX1_homes_124 : decode cX1_homes 124 = .ok (.iload 9, 2) := dk_21 9 (dk_at dksX1_homes_5 6 rfl rfl)
theorem dX1_homes_126 : decode cX1_homes 126 = .ok (.ifCond .lt 26, 3) := dk_155 0 26 (dk_at dksX1_homes_5 8 rfl rfl)
theorem dX1_homes_129 : decode cX1_homes 129 = .ok (.iload 5, 2) := dk_21 5 (dk_at dksX1_homes_5 11 rfl rfl)
theorem dX1_homes_131 : decode cX1_homes 131 = .ok (.ifCond .lt 13, 3) := dk_155 0 13 (dk_at dksX1_homes_5 13 rfl rfl)
theorem dX1_homes_134 : decode cX1_homes 134 = .ok (.iload 9, 2) := dk_21 9 (dk_at dksX1_homes_5 16 rfl rfl)
theorem dX1_homes_136 : decode cX1_homes 136 = .ok (.iload 6, 2) := dk_21 6 (dk_at dksX1_homes_5 18 rfl rfl)
theorem dX1_homes_138 : decode cX1_homes 138 = .ok (.if_icmp .lt 6, 3) := dk_161 0 6 (dk_at dksX1_homes_5 20 rfl rfl)
theorem dX1_homes_141 : decode cX1_homes 141 = .ok (.goto 11, 3) := dk_167 0 11 (dk_at dksX1_homes_6 0 rfl rfl)
theorem dX1_homes_144 : decode cX1_homes 144 = .ok (.iload 7, 2) := dk_21 7 (dk_at dksX1_homes_6 3 rfl rfl)
theorem dX1_homes_146 : decode cX1_homes 146 = .ok (.istore 5, 2) := dk_54 5 (dk_at dksX1_homes_6 5 rfl rfl)
theorem dX1_homes_148 : decode cX1_homes 148 = .ok (.iload 9, 2) := dk_21 9 (dk_at dksX1_homes_6 7 rfl rfl)
theorem dX1_homes_150 : decode cX1_homes 150 = .ok (.istore 6, 2) := dk_54 6 (dk_at dksX1_homes_6 9 rfl rfl)
theorem dX1_homes_152 : decode cX1_homes 152 = .ok (.iinc 7 1, 3) := dk_132 7 1 (dk_at dksX1_homes_6 11 rfl rfl)
theorem dX1_homes_155 : decode cX1_homes 155 = .ok (.goto (-65), 3) := dk_167 255 191 (dk_at dksX1_homes_6 14 rfl rfl)
theorem dX1_homes_158 : decode cX1_homes 158 = .ok (.iload 5, 2) := dk_21 5 (dk_at dksX1_homes_6 17 rfl rfl)
theorem dX1_homes_160 : decode cX1_homes 160 = .ok (.ifCond .ge 6, 3) := dk_156 0 6 (dk_at dksX1_homes_6 19 rfl rfl)
theorem dX1_homes_163 : decode cX1_homes 163 = .ok (.bipush (-2), 2) := dk_16 254 (dk_at dksX1_homes_6 22 rfl rfl)
theorem dX1_homes_165 : decode cX1_homes 165 = .ok (.ireturn, 1) := dk_172 (dk_at dksX1_homes_7 0 rfl rfl)
theorem dX1_homes_166 : decode cX1_homes 166 = .ok (.aload_n 0, 1) := dk_42 (dk_at dksX1_homes_7 1 rfl rfl)
theorem dX1_homes_167 : decode cX1_homes 167 = .ok (.getfield 66, 3) := dk_180 0 66 (dk_at dksX1_homes_7 2 rfl rfl)
theorem dX1_homes_170 : decode cX1_homes 170 = .ok (.iload_n 2, 1) := dk_28 (dk_at dksX1_homes_7 5 rfl rfl)
theorem dX1_homes_171 : decode cX1_homes 171 = .ok (.invokevirtual 221, 3) := dk_182 0 221 (dk_at dksX1_homes_7 6 rfl rfl)
theorem dX1_homes_174 : decode cX1_homes 174 = .ok (.astore 7, 2) := dk_58 7 (dk_at dksX1_homes_7 9 rfl rfl)
theorem dX1_homes_176 : decode cX1_homes 176 = .ok (.aload_n 0, 1) := dk_42 (dk_at dksX1_homes_7 11 rfl rfl)
theorem dX1_homes_177 : decode cX1_homes 177 = .ok (.aload 7, 2) := dk_25 7 (dk_at dksX1_homes_7 12 rfl rfl)
theorem dX1_homes_179 : decode cX1_homes 179 = .ok (.iload_n 1, 1) := dk_27 (dk_at dksX1_homes_7 14 rfl rfl)
theorem dX1_homes_180 : decode cX1_homes 180 = .ok (.iload 5, 2) := dk_21 5 (dk_at dksX1_homes_7 15 rfl rfl)
theorem dX1_homes_182 : decode cX1_homes 182 = .ok (.invokevirtual 349, 3) := dk_182 1 93 (dk_at dksX1_homes_7 17 rfl rfl)
theorem dX1_homes_185 : decode cX1_homes 185 = .ok (.aload_n 0, 1) := dk_42 (dk_at dksX1_homes_7 20 rfl rfl)
theorem dX1_homes_186 : decode cX1_homes 186 = .ok (.iconst 0, 1) := dk_3 (dk_at dksX1_homes_7 21 rfl rfl)
theorem dX1_homes_187 : decode cX1_homes 187 = .ok (.putfield 94, 3) := dk_181 0 94 (dk_at dksX1_homes_8 0 rfl rfl)
theorem dX1_homes_190 : decode cX1_homes 190 = .ok (.iconst 0, 1) := dk_3 (dk_at dksX1_homes_8 3 rfl rfl)
theorem dX1_homes_191 : decode cX1_homes 191 = .ok (.istore 8, 2) := dk_54 8 (dk_at dksX1_homes_8 4 rfl rfl)
theorem dX1_homes_193 : decode cX1_homes 193 = .ok (.iload 8, 2) := dk_21 8 (dk_at dksX1_homes_8 6 rfl rfl)
theorem dX1_homes_195 : decode cX1_homes 195 = .ok (.aload_n 0, 1) := dk_42 (dk_at dksX1_homes_8 8 rfl rfl)
theorem dX1_homes_196 : decode cX1_homes 196 = .ok (.getfield 105, 3) := dk_180 0 105 (dk_at dksX1_homes_8 9 rfl rfl)
theorem dX1_homes_199 : decode cX1_homes 199 = .ok (.if_icmp .ge 31, 3) := dk_162 0 31 (dk_at dksX1_homes_8 12 rfl rfl)
theorem dX1_homes_202 : decode cX1_homes 202 = .ok (.iload_n 1, 1) := dk_27 (dk_at dksX1_homes_8 15 rfl rfl)
theorem dX1_homes_203 : decode cX1_homes 203 = .ok (.iload 8, 2) := dk_21 8 (dk_at dksX1_homes_8 16 rfl rfl)
theorem dX1_homes_205 : decode cX1_homes 205 = .ok (.invokestatic 287, 3) := dk_184 1 31 (dk_at dksX1_homes_8 18 rfl rfl)
theorem dX1_homes_208 : decode cX1_homes 208 = .ok (.ifCond .eq 16, 3) := dk_153 0 16 (dk_at dksX1_homes_8 21 rfl rfl)
theorem dX1_homes_211 : decode cX1_homes 211 = .ok (.aload_n 0, 1) := dk_42 (dk_at dksX1_homes_9 0 rfl rfl)
theorem dX1_homes_212 : decode cX1_homes 212 = .ok (.aload 7, 2) := dk_25 7 (dk_at dksX1_homes_9 1 rfl rfl)
theorem dX1_homes_214 : decode cX1_homes 214 = .ok (.getfield 7, 3) := dk_180 0 7 (dk_at dksX1_homes_9 3 rfl rfl)
theorem dX1_homes_217 : decode cX1_homes 217 = .ok (.iload 8, 2) := dk_21 8 (dk_at dksX1_homes_9 6 rfl rfl)
theorem dX1_homes_219 : decode cX1_homes 219 = .ok (.iaload, 1) := dk_46 (dk_at dksX1_homes_9 8 rfl rfl)
theorem dX1_homes_220 : decode cX1_homes 220 = .ok (.i2l, 1) := dk_133 (dk_at dksX1_homes_9 9 rfl rfl)
theorem dX1_homes_221 : decode cX1_homes 221 = .ok (.invokevirtual 101, 3) := dk_182 0 101 (dk_at dksX1_homes_9 10 rfl rfl)
theorem dX1_homes_224 : decode cX1_homes 224 = .ok (.iinc 8 1, 3) := dk_132 8 1 (dk_at dksX1_homes_9 13 rfl rfl)
theorem dX1_homes_227 : decode cX1_homes 227 = .ok (.goto (-34), 3) := dk_167 255 222 (dk_at dksX1_homes_9 16 rfl rfl)
theorem dX1_homes_230 : decode cX1_homes 230 = .ok (.iload 6, 2) := dk_21 6 (dk_at dksX1_homes_9 19 rfl rfl)
theorem dX1_homes_232 : decode cX1_homes 232 = .ok (.ireturn, 1) := dk_172 (dk_at dksX1_homes_9 21 rfl rfl)
def dkwX1_place_2 : List UInt8 := [21, 4, 42, 180, 0, 52, 180, 0, 19, 108, 54, 4, 132, 5, 255, 167, 255, 207, 177]
abbrev dktX1_place_2 : List UInt8 := dkwX1_place_2 ++ []
def dkwX1_place_1 : List UInt8 := [154, 0, 6, 167, 0, 32, 43, 180, 0, 7, 21, 5, 21, 4, 42, 180, 0, 52, 180, 0, 19, 112, 79]
abbrev dktX1_place_1 : List UInt8 := dkwX1_place_1 ++ dktX1_place_2
def dkwX1_place_0 : List UInt8 := [29, 54, 4, 42, 180, 0, 105, 4, 100, 54, 5, 21, 5, 155, 0, 50, 28, 21, 5, 184, 1, 31]
abbrev dktX1_place_0 : List UInt8 := dkwX1_place_0 ++ dktX1_place_1
theorem dksX1_place_0 : cX1_place.data.toList.drop 0 = dktX1_place_0 := by decide +kernel
theorem dksX1_place_1 : cX1_place.data.toList.drop 22 = dktX1_place_1 := dk_seg dksX1_place_0 22 rfl rfl
theorem dksX1_place_2 : cX1_place.data.toList.drop 45 = dktX1_place_2 := dk_seg dksX1_place_1 23 rfl rfl
theorem dX1_place_0 : decode cX1_place 0 = .ok (.iload_n 3, 1) := dk_29 (dk_at dksX1_place_0 0 rfl rfl)
theorem dX1_place_1 : decode cX1_place 1 = .ok (.istore 4, 2) := dk_54 4 (dk_at dksX1_place_0 1 rfl rfl)
theorem dX1_place_3 : decode cX1_place 3 = .ok (.aload_n 0, 1) := dk_42 (dk_at dksX1_place_0 3 rfl rfl)
theorem dX1_place_4 : decode cX1_place 4 = .ok (.getfield 105, 3) := dk_180 0 105 (dk_at dksX1_place_0 4 rfl rfl)
theorem dX1_place_7 : decode cX1_place 7 = .ok (.iconst 1, 1) := dk_4 (dk_at dksX1_place_0 7 rfl rfl)
theorem dX1_place_8 : decode cX1_place 8 = .ok (.isub, 1) := dk_100 (dk_at dksX1_place_0 8 rfl rfl)
theorem dX1_place_9 : decode cX1_place 9 = .ok (.istore 5, 2) := dk_54 5 (dk_at dksX1_place_0 9 rfl rfl)
theorem dX1_place_11 : decode cX1_place 11 = .ok (.iload 5, 2) := dk_21 5 (dk_at dksX1_place_0 11 rfl rfl)
theorem dX1_place_13 : decode cX1_place 13 = .ok (.ifCond .lt 50, 3) := dk_155 0 50 (dk_at dksX1_place_0 13 rfl rfl)
theorem dX1_place_16 : decode cX1_place 16 = .ok (.iload_n 2, 1) := dk_28 (dk_at dksX1_place_0 16 rfl rfl)
theorem dX1_place_17 : decode cX1_place 17 = .ok (.iload 5, 2) := dk_21 5 (dk_at dksX1_place_0 17 rfl rfl)
theorem dX1_place_19 : decode cX1_place 19 = .ok (.invokestatic 287, 3) := dk_184 1 31 (dk_at dksX1_place_0 19 rfl rfl)
theorem dX1_place_22 : decode cX1_place 22 = .ok (.ifCond .ne 6, 3) := dk_154 0 6 (dk_at dksX1_place_1 0 rfl rfl)
theorem dX1_place_25 : decode cX1_place 25 = .ok (.goto 32, 3) := dk_167 0 32 (dk_at dksX1_place_1 3 rfl rfl)
theorem dX1_place_28 : decode cX1_place 28 = .ok (.aload_n 1, 1) := dk_43 (dk_at dksX1_place_1 6 rfl rfl)
theorem dX1_place_29 : decode cX1_place 29 = .ok (.getfield 7, 3) := dk_180 0 7 (dk_at dksX1_place_1 7 rfl rfl)
theorem dX1_place_32 : decode cX1_place 32 = .ok (.iload 5, 2) := dk_21 5 (dk_at dksX1_place_1 10 rfl rfl)
theorem dX1_place_34 : decode cX1_place 34 = .ok (.iload 4, 2) := dk_21 4 (dk_at dksX1_place_1 12 rfl rfl)
theorem dX1_place_36 : decode cX1_place 36 = .ok (.aload_n 0, 1) := dk_42 (dk_at dksX1_place_1 14 rfl rfl)
theorem dX1_place_37 : decode cX1_place 37 = .ok (.getfield 52, 3) := dk_180 0 52 (dk_at dksX1_place_1 15 rfl rfl)
theorem dX1_place_40 : decode cX1_place 40 = .ok (.getfield 19, 3) := dk_180 0 19 (dk_at dksX1_place_1 18 rfl rfl)
theorem dX1_place_43 : decode cX1_place 43 = .ok (.irem, 1) := dk_112 (dk_at dksX1_place_1 21 rfl rfl)
theorem dX1_place_44 : decode cX1_place 44 = .ok (.iastore, 1) := dk_79 (dk_at dksX1_place_1 22 rfl rfl)
theorem dX1_place_45 : decode cX1_place 45 = .ok (.iload 4, 2) := dk_21 4 (dk_at dksX1_place_2 0 rfl rfl)
theorem dX1_place_47 : decode cX1_place 47 = .ok (.aload_n 0, 1) := dk_42 (dk_at dksX1_place_2 2 rfl rfl)
theorem dX1_place_48 : decode cX1_place 48 = .ok (.getfield 52, 3) := dk_180 0 52 (dk_at dksX1_place_2 3 rfl rfl)
theorem dX1_place_51 : decode cX1_place 51 = .ok (.getfield 19, 3) := dk_180 0 19 (dk_at dksX1_place_2 6 rfl rfl)
theorem dX1_place_54 : decode cX1_place 54 = .ok (.idiv, 1) := dk_108 (dk_at dksX1_place_2 9 rfl rfl)
theorem dX1_place_55 : decode cX1_place 55 = .ok (.istore 4, 2) := dk_54 4 (dk_at dksX1_place_2 10 rfl rfl)
theorem dX1_place_57 : decode cX1_place 57 = .ok (.iinc 5 (-1), 3) := dk_132 5 255 (dk_at dksX1_place_2 12 rfl rfl)
theorem dX1_place_60 : decode cX1_place 60 = .ok (.goto (-49), 3) := dk_167 255 207 (dk_at dksX1_place_2 15 rfl rfl)
theorem dX1_place_63 : decode cX1_place 63 = .ok (.return_, 1) := dk_177 (dk_at dksX1_place_2 18 rfl rfl)
def dkwX1_pair_6 : List UInt8 := [4, 96, 181, 1, 96, 42, 180, 1, 96, 172]
abbrev dktX1_pair_6 : List UInt8 := dkwX1_pair_6 ++ []
def dkwX1_pair_5 : List UInt8 := [180, 0, 81, 42, 180, 1, 96, 28, 79, 42, 180, 0, 84, 42, 180, 1, 96, 29, 79, 42, 89, 180, 1, 96]
abbrev dktX1_pair_5 : List UInt8 := dkwX1_pair_5 ++ dktX1_pair_6
def dkwX1_pair_4 : List UInt8 := [160, 0, 5, 2, 172, 132, 4, 1, 167, 255, 198, 42, 180, 0, 78, 42, 180, 1, 96, 27, 79, 42]
abbrev dktX1_pair_4 : List UInt8 := dkwX1_pair_4 ++ dktX1_pair_5
def dkwX1_pair_3 : List UInt8 := [46, 28, 159, 0, 25, 42, 180, 0, 78, 21, 4, 46, 28, 160, 0, 16, 42, 180, 0, 81, 21, 4, 46, 27]
abbrev dktX1_pair_3 : List UInt8 := dkwX1_pair_3 ++ dktX1_pair_4
def dkwX1_pair_2 : List UInt8 := [42, 180, 1, 96, 162, 0, 55, 42, 180, 0, 78, 21, 4, 46, 27, 160, 0, 14, 42, 180, 0, 81, 21, 4]
abbrev dktX1_pair_2 : List UInt8 := dkwX1_pair_2 ++ dktX1_pair_3
def dkwX1_pair_1 : List UInt8 := [16, 99, 184, 0, 3, 153, 0, 12, 42, 180, 1, 96, 16, 9, 160, 0, 5, 2, 172, 3, 54, 4, 21, 4]
abbrev dktX1_pair_1 : List UInt8 := dkwX1_pair_1 ++ dktX1_pair_2
def dkwX1_pair_0 : List UInt8 := [42, 27, 182, 0, 121, 153, 0, 35, 42, 28, 182, 0, 121, 153, 0, 27, 27, 28, 159, 0, 22, 29, 4]
abbrev dktX1_pair_0 : List UInt8 := dkwX1_pair_0 ++ dktX1_pair_1
theorem dksX1_pair_0 : cX1_pair.data.toList.drop 0 = dktX1_pair_0 := by decide +kernel
theorem dksX1_pair_1 : cX1_pair.data.toList.drop 23 = dktX1_pair_1 := dk_seg dksX1_pair_0 23 rfl rfl
theorem dksX1_pair_2 : cX1_pair.data.toList.drop 47 = dktX1_pair_2 := dk_seg dksX1_pair_1 24 rfl rfl
theorem dksX1_pair_3 : cX1_pair.data.toList.drop 71 = dktX1_pair_3 := dk_seg dksX1_pair_2 24 rfl rfl
theorem dksX1_pair_4 : cX1_pair.data.toList.drop 95 = dktX1_pair_4 := dk_seg dksX1_pair_3 24 rfl rfl
theorem dksX1_pair_5 : cX1_pair.data.toList.drop 117 = dktX1_pair_5 := dk_seg dksX1_pair_4 22 rfl rfl
theorem dksX1_pair_6 : cX1_pair.data.toList.drop 141 = dktX1_pair_6 := dk_seg dksX1_pair_5 24 rfl rfl
theorem dX1_pair_0 : decode cX1_pair 0 = .ok (.aload_n 0, 1) := dk_42 (dk_at dksX1_pair_0 0 rfl rfl)
theorem dX1_pair_1 : decode cX1_pair 1 = .ok (.iload_n 1, 1) := dk_27 (dk_at dksX1_pair_0 1 rfl rfl)
theorem dX1_pair_2 : decode cX1_pair 2 = .ok (.invokevirtual 121, 3) := dk_182 0 121 (dk_at dksX1_pair_0 2 rfl rfl)
theorem dX1_pair_5 : decode cX1_pair 5 = .ok (.ifCond .eq 35, 3) := dk_153 0 35 (dk_at dksX1_pair_0 5 rfl rfl)
theorem dX1_pair_8 : decode cX1_pair 8 = .ok (.aload_n 0, 1) := dk_42 (dk_at dksX1_pair_0 8 rfl rfl)
theorem dX1_pair_9 : decode cX1_pair 9 = .ok (.iload_n 2, 1) := dk_28 (dk_at dksX1_pair_0 9 rfl rfl)
theorem dX1_pair_10 : decode cX1_pair 10 = .ok (.invokevirtual 121, 3) := dk_182 0 121 (dk_at dksX1_pair_0 10 rfl rfl)
theorem dX1_pair_13 : decode cX1_pair 13 = .ok (.ifCond .eq 27, 3) := dk_153 0 27 (dk_at dksX1_pair_0 13 rfl rfl)
theorem dX1_pair_16 : decode cX1_pair 16 = .ok (.iload_n 1, 1) := dk_27 (dk_at dksX1_pair_0 16 rfl rfl)
theorem dX1_pair_17 : decode cX1_pair 17 = .ok (.iload_n 2, 1) := dk_28 (dk_at dksX1_pair_0 17 rfl rfl)
theorem dX1_pair_18 : decode cX1_pair 18 = .ok (.if_icmp .eq 22, 3) := dk_159 0 22 (dk_at dksX1_pair_0 18 rfl rfl)
theorem dX1_pair_21 : decode cX1_pair 21 = .ok (.iload_n 3, 1) := dk_29 (dk_at dksX1_pair_0 21 rfl rfl)
theorem dX1_pair_22 : decode cX1_pair 22 = .ok (.iconst 1, 1) := dk_4 (dk_at dksX1_pair_0 22 rfl rfl)
theorem dX1_pair_23 : decode cX1_pair 23 = .ok (.bipush 99, 2) := dk_16 99 (dk_at dksX1_pair_1 0 rfl rfl)
theorem dX1_pair_25 : decode cX1_pair 25 = .ok (.invokestatic 3, 3) := dk_184 0 3 (dk_at dksX1_pair_1 2 rfl rfl)
theorem dX1_pair_28 : decode cX1_pair 28 = .ok (.ifCond .eq 12, 3) := dk_153 0 12 (dk_at dksX1_pair_1 5 rfl rfl)
theorem dX1_pair_31 : decode cX1_pair 31 = .ok (.aload_n 0, 1) := dk_42 (dk_at dksX1_pair_1 8 rfl rfl)
theorem dX1_pair_32 : decode cX1_pair 32 = .ok (.getfield 352, 3) := dk_180 1 96 (dk_at dksX1_pair_1 9 rfl rfl)
theorem dX1_pair_35 : decode cX1_pair 35 = .ok (.bipush 9, 2) := dk_16 9 (dk_at dksX1_pair_1 12 rfl rfl)
theorem dX1_pair_37 : decode cX1_pair 37 = .ok (.if_icmp .ne 5, 3) := dk_160 0 5 (dk_at dksX1_pair_1 14 rfl rfl)
theorem dX1_pair_40 : decode cX1_pair 40 = .ok (.iconst (-1), 1) := dk_2 (dk_at dksX1_pair_1 17 rfl rfl)
theorem dX1_pair_41 : decode cX1_pair 41 = .ok (.ireturn, 1) := dk_172 (dk_at dksX1_pair_1 18 rfl rfl)
theorem dX1_pair_42 : decode cX1_pair 42 = .ok (.iconst 0, 1) := dk_3 (dk_at dksX1_pair_1 19 rfl rfl)
theorem dX1_pair_43 : decode cX1_pair 43 = .ok (.istore 4, 2) := dk_54 4 (dk_at dksX1_pair_1 20 rfl rfl)
theorem dX1_pair_45 : decode cX1_pair 45 = .ok (.iload 4, 2) := dk_21 4 (dk_at dksX1_pair_1 22 rfl rfl)
theorem dX1_pair_47 : decode cX1_pair 47 = .ok (.aload_n 0, 1) := dk_42 (dk_at dksX1_pair_2 0 rfl rfl)
theorem dX1_pair_48 : decode cX1_pair 48 = .ok (.getfield 352, 3) := dk_180 1 96 (dk_at dksX1_pair_2 1 rfl rfl)
theorem dX1_pair_51 : decode cX1_pair 51 = .ok (.if_icmp .ge 55, 3) := dk_162 0 55 (dk_at dksX1_pair_2 4 rfl rfl)
theorem dX1_pair_54 : decode cX1_pair 54 = .ok (.aload_n 0, 1) := dk_42 (dk_at dksX1_pair_2 7 rfl rfl)
theorem dX1_pair_55 : decode cX1_pair 55 = .ok (.getfield 78, 3) := dk_180 0 78 (dk_at dksX1_pair_2 8 rfl rfl)
theorem dX1_pair_58 : decode cX1_pair 58 = .ok (.iload 4, 2) := dk_21 4 (dk_at dksX1_pair_2 11 rfl rfl)
theorem dX1_pair_60 : decode cX1_pair 60 = .ok (.iaload, 1) := dk_46 (dk_at dksX1_pair_2 13 rfl rfl)
theorem dX1_pair_61 : decode cX1_pair 61 = .ok (.iload_n 1, 1) := dk_27 (dk_at dksX1_pair_2 14 rfl rfl)
theorem dX1_pair_62 : decode cX1_pair 62 = .ok (.if_icmp .ne 14, 3) := dk_160 0 14 (dk_at dksX1_pair_2 15 rfl rfl)
theorem dX1_pair_65 : decode cX1_pair 65 = .ok (.aload_n 0, 1) := dk_42 (dk_at dksX1_pair_2 18 rfl rfl)
theorem dX1_pair_66 : decode cX1_pair 66 = .ok (.getfield 81, 3) := dk_180 0 81 (dk_at dksX1_pair_2 19 rfl rfl)
theorem dX1_pair_69 : decode cX1_pair 69 = .ok (.iload 4, 2) := dk_21 4 (dk_at dksX1_pair_2 22 rfl rfl)
theorem dX1_pair_71 : decode cX1_pair 71 = .ok (.iaload, 1) := dk_46 (dk_at dksX1_pair_3 0 rfl rfl)
theorem dX1_pair_72 : decode cX1_pair 72 = .ok (.iload_n 2, 1) := dk_28 (dk_at dksX1_pair_3 1 rfl rfl)
theorem dX1_pair_73 : decode cX1_pair 73 = .ok (.if_icmp .eq 25, 3) := dk_159 0 25 (dk_at dksX1_pair_3 2 rfl rfl)
theorem dX1_pair_76 : decode cX1_pair 76 = .ok (.aload_n 0, 1) := dk_42 (dk_at dksX1_pair_3 5 rfl rfl)
theorem dX1_pair_77 : decode cX1_pair 77 = .ok (.getfield 78, 3) := dk_180 0 78 (dk_at dksX1_pair_3 6 rfl rfl)
theorem dX1_pair_80 : decode cX1_pair 80 = .ok (.iload 4, 2) := dk_21 4 (dk_at dksX1_pair_3 9 rfl rfl)
theorem dX1_pair_82 : decode cX1_pair 82 = .ok (.iaload, 1) := dk_46 (dk_at dksX1_pair_3 11 rfl rfl)
theorem dX1_pair_83 : decode cX1_pair 83 = .ok (.iload_n 2, 1) := dk_28 (dk_at dksX1_pair_3 12 rfl rfl)
theorem dX1_pair_84 : decode cX1_pair 84 = .ok (.if_icmp .ne 16, 3) := dk_160 0 16 (dk_at dksX1_pair_3 13 rfl rfl)
theorem dX1_pair_87 : decode cX1_pair 87 = .ok (.aload_n 0, 1) := dk_42 (dk_at dksX1_pair_3 16 rfl rfl)
theorem dX1_pair_88 : decode cX1_pair 88 = .ok (.getfield 81, 3) := dk_180 0 81 (dk_at dksX1_pair_3 17 rfl rfl)
theorem dX1_pair_91 : decode cX1_pair 91 = .ok (.iload 4, 2) := dk_21 4 (dk_at dksX1_pair_3 20 rfl rfl)
theorem dX1_pair_93 : decode cX1_pair 93 = .ok (.iaload, 1) := dk_46 (dk_at dksX1_pair_3 22 rfl rfl)
theorem dX1_pair_94 : decode cX1_pair 94 = .ok (.iload_n 1, 1) := dk_27 (dk_at dksX1_pair_3 23 rfl rfl)
theorem dX1_pair_95 : decode cX1_pair 95 = .ok (.if_icmp .ne 5, 3) := dk_160 0 5 (dk_at dksX1_pair_4 0 rfl rfl)
theorem dX1_pair_98 : decode cX1_pair 98 = .ok (.iconst (-1), 1) := dk_2 (dk_at dksX1_pair_4 3 rfl rfl)
theorem dX1_pair_99 : decode cX1_pair 99 = .ok (.ireturn, 1) := dk_172 (dk_at dksX1_pair_4 4 rfl rfl)
theorem dX1_pair_100 : decode cX1_pair 100 = .ok (.iinc 4 1, 3) := dk_132 4 1 (dk_at dksX1_pair_4 5 rfl rfl)
theorem dX1_pair_103 : decode cX1_pair 103 = .ok (.goto (-58), 3) := dk_167 255 198 (dk_at dksX1_pair_4 8 rfl rfl)
theorem dX1_pair_106 : decode cX1_pair 106 = .ok (.aload_n 0, 1) := dk_42 (dk_at dksX1_pair_4 11 rfl rfl)
theorem dX1_pair_107 : decode cX1_pair 107 = .ok (.getfield 78, 3) := dk_180 0 78 (dk_at dksX1_pair_4 12 rfl rfl)
theorem dX1_pair_110 : decode cX1_pair 110 = .ok (.aload_n 0, 1) := dk_42 (dk_at dksX1_pair_4 15 rfl rfl)
theorem dX1_pair_111 : decode cX1_pair 111 = .ok (.getfield 352, 3) := dk_180 1 96 (dk_at dksX1_pair_4 16 rfl rfl)
theorem dX1_pair_114 : decode cX1_pair 114 = .ok (.iload_n 1, 1) := dk_27 (dk_at dksX1_pair_4 19 rfl rfl)
theorem dX1_pair_115 : decode cX1_pair 115 = .ok (.iastore, 1) := dk_79 (dk_at dksX1_pair_4 20 rfl rfl)
theorem dX1_pair_116 : decode cX1_pair 116 = .ok (.aload_n 0, 1) := dk_42 (dk_at dksX1_pair_4 21 rfl rfl)
theorem dX1_pair_117 : decode cX1_pair 117 = .ok (.getfield 81, 3) := dk_180 0 81 (dk_at dksX1_pair_5 0 rfl rfl)
theorem dX1_pair_120 : decode cX1_pair 120 = .ok (.aload_n 0, 1) := dk_42 (dk_at dksX1_pair_5 3 rfl rfl)
theorem dX1_pair_121 : decode cX1_pair 121 = .ok (.getfield 352, 3) := dk_180 1 96 (dk_at dksX1_pair_5 4 rfl rfl)
theorem dX1_pair_124 : decode cX1_pair 124 = .ok (.iload_n 2, 1) := dk_28 (dk_at dksX1_pair_5 7 rfl rfl)
theorem dX1_pair_125 : decode cX1_pair 125 = .ok (.iastore, 1) := dk_79 (dk_at dksX1_pair_5 8 rfl rfl)
theorem dX1_pair_126 : decode cX1_pair 126 = .ok (.aload_n 0, 1) := dk_42 (dk_at dksX1_pair_5 9 rfl rfl)
theorem dX1_pair_127 : decode cX1_pair 127 = .ok (.getfield 84, 3) := dk_180 0 84 (dk_at dksX1_pair_5 10 rfl rfl)
theorem dX1_pair_130 : decode cX1_pair 130 = .ok (.aload_n 0, 1) := dk_42 (dk_at dksX1_pair_5 13 rfl rfl)
theorem dX1_pair_131 : decode cX1_pair 131 = .ok (.getfield 352, 3) := dk_180 1 96 (dk_at dksX1_pair_5 14 rfl rfl)
theorem dX1_pair_134 : decode cX1_pair 134 = .ok (.iload_n 3, 1) := dk_29 (dk_at dksX1_pair_5 17 rfl rfl)
theorem dX1_pair_135 : decode cX1_pair 135 = .ok (.iastore, 1) := dk_79 (dk_at dksX1_pair_5 18 rfl rfl)
theorem dX1_pair_136 : decode cX1_pair 136 = .ok (.aload_n 0, 1) := dk_42 (dk_at dksX1_pair_5 19 rfl rfl)
theorem dX1_pair_137 : decode cX1_pair 137 = .ok (.dup, 1) := dk_89 (dk_at dksX1_pair_5 20 rfl rfl)
theorem dX1_pair_138 : decode cX1_pair 138 = .ok (.getfield 352, 3) := dk_180 1 96 (dk_at dksX1_pair_5 21 rfl rfl)
theorem dX1_pair_141 : decode cX1_pair 141 = .ok (.iconst 1, 1) := dk_4 (dk_at dksX1_pair_6 0 rfl rfl)
theorem dX1_pair_142 : decode cX1_pair 142 = .ok (.iadd, 1) := dk_96 (dk_at dksX1_pair_6 1 rfl rfl)
theorem dX1_pair_143 : decode cX1_pair 143 = .ok (.putfield 352, 3) := dk_181 1 96 (dk_at dksX1_pair_6 2 rfl rfl)
theorem dX1_pair_146 : decode cX1_pair 146 = .ok (.aload_n 0, 1) := dk_42 (dk_at dksX1_pair_6 5 rfl rfl)
theorem dX1_pair_147 : decode cX1_pair 147 = .ok (.getfield 352, 3) := dk_180 1 96 (dk_at dksX1_pair_6 6 rfl rfl)
theorem dX1_pair_150 : decode cX1_pair 150 = .ok (.ireturn, 1) := dk_172 (dk_at dksX1_pair_6 9 rfl rfl)
def dkwX1_whom_6 : List UInt8 := [29, 133, 182, 0, 101, 42, 42, 29, 182, 1, 99, 133, 182, 0, 101, 21, 4, 172]
abbrev dktX1_whom_6 : List UInt8 := dkwX1_whom_6 ++ []
def dkwX1_whom_5 : List UInt8 := [21, 6, 54, 4, 132, 5, 1, 167, 255, 168, 29, 2, 160, 0, 6, 16, 254, 172, 42, 3, 181, 0, 94, 42]
abbrev dktX1_whom_5 : List UInt8 := dkwX1_whom_5 ++ dktX1_whom_6
def dkwX1_whom_4 : List UInt8 := [160, 0, 20, 42, 21, 5, 182, 1, 99, 42, 29, 182, 1, 99, 161, 0, 6, 167, 0, 10, 21, 5, 62]
abbrev dktX1_whom_4 : List UInt8 := dkwX1_whom_4 ++ dktX1_whom_5
def dkwX1_whom_3 : List UInt8 := [54, 6, 21, 6, 155, 0, 46, 29, 2, 159, 0, 34, 21, 6, 21, 4, 163, 0, 34, 21, 6, 21, 4]
abbrev dktX1_whom_3 : List UInt8 := dkwX1_whom_3 ++ dktX1_whom_4
def dkwX1_whom_2 : List UInt8 := [42, 21, 5, 182, 1, 99, 27, 164, 0, 6, 167, 0, 64, 42, 42, 21, 5, 182, 1, 102, 28, 182, 1, 106]
abbrev dktX1_whom_2 : List UInt8 := dkwX1_whom_2 ++ dktX1_whom_3
def dkwX1_whom_1 : List UInt8 := [154, 0, 5, 2, 172, 2, 62, 3, 54, 4, 3, 54, 5, 21, 5, 4, 42, 180, 1, 96, 120, 162, 0, 83]
abbrev dktX1_whom_1 : List UInt8 := dkwX1_whom_1 ++ dktX1_whom_2
def dkwX1_whom_0 : List UInt8 := [27, 3, 17, 3, 231, 184, 0, 3, 153, 0, 17, 28, 184, 0, 124, 153, 0, 10, 42, 180, 0, 105]
abbrev dktX1_whom_0 : List UInt8 := dkwX1_whom_0 ++ dktX1_whom_1
theorem dksX1_whom_0 : cX1_whom.data.toList.drop 0 = dktX1_whom_0 := by decide +kernel
theorem dksX1_whom_1 : cX1_whom.data.toList.drop 22 = dktX1_whom_1 := dk_seg dksX1_whom_0 22 rfl rfl
theorem dksX1_whom_2 : cX1_whom.data.toList.drop 46 = dktX1_whom_2 := dk_seg dksX1_whom_1 24 rfl rfl
theorem dksX1_whom_3 : cX1_whom.data.toList.drop 70 = dktX1_whom_3 := dk_seg dksX1_whom_2 24 rfl rfl
theorem dksX1_whom_4 : cX1_whom.data.toList.drop 93 = dktX1_whom_4 := dk_seg dksX1_whom_3 23 rfl rfl
theorem dksX1_whom_5 : cX1_whom.data.toList.drop 116 = dktX1_whom_5 := dk_seg dksX1_whom_4 23 rfl rfl
theorem dksX1_whom_6 : cX1_whom.data.toList.drop 140 = dktX1_whom_6 := dk_seg dksX1_whom_5 24 rfl rfl
theorem dX1_whom_0 : decode cX1_whom 0 = .ok (.iload_n 1, 1) := dk_27 (dk_at dksX1_whom_0 0 rfl rfl)
theorem dX1_whom_1 : decode cX1_whom 1 = .ok (.iconst 0, 1) := dk_3 (dk_at dksX1_whom_0 1 rfl rfl)
theorem dX1_whom_2 : decode cX1_whom 2 = .ok (.sipush 999, 3) := dk_17 3 231 (dk_at dksX1_whom_0 2 rfl rfl)
theorem dX1_whom_5 : decode cX1_whom 5 = .ok (.invokestatic 3, 3) := dk_184 0 3 (dk_at dksX1_whom_0 5 rfl rfl)
theorem dX1_whom_8 : decode cX1_whom 8 = .ok (.ifCond .eq 17, 3) := dk_153 0 17 (dk_at dksX1_whom_0 8 rfl rfl)
theorem dX1_whom_11 : decode cX1_whom 11 = .ok (.iload_n 2, 1) := dk_28 (dk_at dksX1_whom_0 11 rfl rfl)
theorem dX1_whom_12 : decode cX1_whom 12 = .ok (.invokestatic 124, 3) := dk_184 0 124 (dk_at dksX1_whom_0 12 rfl rfl)
theorem dX1_whom_15 : decode cX1_whom 15 = .ok (.ifCond .eq 10, 3) := dk_153 0 10 (dk_at dksX1_whom_0 15 rfl rfl)
theorem dX1_whom_18 : decode cX1_whom 18 = .ok (.aload_n 0, 1) := dk_42 (dk_at dksX1_whom_0 18 rfl rfl)
theorem dX1_whom_19 : decode cX1_whom 19 = .ok (.getfield 105, 3) := dk_180 0 105 (dk_at dksX1_whom_0 19 rfl rfl)
theorem dX1_whom_22 : decode cX1_whom 22 = .ok (.ifCond .ne 5, 3) := dk_154 0 5 (dk_at dksX1_whom_1 0 rfl rfl)
theorem dX1_whom_25 : decode cX1_whom 25 = .ok (.iconst (-1), 1) := dk_2 (dk_at dksX1_whom_1 3 rfl rfl)
theorem dX1_whom_26 : decode cX1_whom 26 = .ok (.ireturn, 1) := dk_172 (dk_at dksX1_whom_1 4 rfl rfl)
theorem dX1_whom_27 : decode cX1_whom 27 = .ok (.iconst (-1), 1) := dk_2 (dk_at dksX1_whom_1 5 rfl rfl)
theorem dX1_whom_28 : decode cX1_whom 28 = .ok (.istore_n 3, 1) := dk_62 (dk_at dksX1_whom_1 6 rfl rfl)
theorem dX1_whom_29 : decode cX1_whom 29 = .ok (.iconst 0, 1) := dk_3 (dk_at dksX1_whom_1 7 rfl rfl)
theorem dX1_whom_30 : decode cX1_whom 30 = .ok (.istore 4, 2) := dk_54 4 (dk_at dksX1_whom_1 8 rfl rfl)
theorem dX1_whom_32 : decode cX1_whom 32 = .ok (.iconst 0, 1) := dk_3 (dk_at dksX1_whom_1 10 rfl rfl)
theorem dX1_whom_33 : decode cX1_whom 33 = .ok (.istore 5, 2) := dk_54 5 (dk_at dksX1_whom_1 11 rfl rfl)
theorem dX1_whom_35 : decode cX1_whom 35 = .ok (.iload 5, 2) := dk_21 5 (dk_at dksX1_whom_1 13 rfl rfl)
theorem dX1_whom_37 : decode cX1_whom 37 = .ok (.iconst 1, 1) := dk_4 (dk_at dksX1_whom_1 15 rfl rfl)
theorem dX1_whom_38 : decode cX1_whom 38 = .ok (.aload_n 0, 1) := dk_42 (dk_at dksX1_whom_1 16 rfl rfl)
theorem dX1_whom_39 : decode cX1_whom 39 = .ok (.getfield 352, 3) := dk_180 1 96 (dk_at dksX1_whom_1 17 rfl rfl)
theorem dX1_whom_42 : decode cX1_whom 42 = .ok (.ishl, 1) := dk_120 (dk_at dksX1_whom_1 20 rfl rfl)
theorem dX1_whom_43 : decode cX1_whom 43 = .ok (.if_icmp .ge 83, 3) := dk_162 0 83 (dk_at dksX1_whom_1 21 rfl rfl)
theorem dX1_whom_46 : decode cX1_whom 46 = .ok (.aload_n 0, 1) := dk_42 (dk_at dksX1_whom_2 0 rfl rfl)
theorem dX1_whom_47 : decode cX1_whom 47 = .ok (.iload 5, 2) := dk_21 5 (dk_at dksX1_whom_2 1 rfl rfl)
theorem dX1_whom_49 : decode cX1_whom 49 = .ok (.invokevirtual 355, 3) := dk_182 1 99 (dk_at dksX1_whom_2 3 rfl rfl)
theorem dX1_whom_52 : decode cX1_whom 52 = .ok (.iload_n 1, 1) := dk_27 (dk_at dksX1_whom_2 6 rfl rfl)
theorem dX1_whom_53 : decode cX1_whom 53 = .ok (.if_icmp .le 6, 3) := dk_164 0 6 (dk_at dksX1_whom_2 7 rfl rfl)
theorem dX1_whom_56 : decode cX1_whom 56 = .ok (.goto 64, 3) := dk_167 0 64 (dk_at dksX1_whom_2 10 rfl rfl)
theorem dX1_whom_59 : decode cX1_whom 59 = .ok (.aload_n 0, 1) := dk_42 (dk_at dksX1_whom_2 13 rfl rfl)
theorem dX1_whom_60 : decode cX1_whom 60 = .ok (.aload_n 0, 1) := dk_42 (dk_at dksX1_whom_2 14 rfl rfl)
theorem dX1_whom_61 : decode cX1_whom 61 = .ok (.iload 5, 2) := dk_21 5 (dk_at dksX1_whom_2 15 rfl rfl)
theorem dX1_whom_63 : decode cX1_whom 63 = .ok (.invokevirtual 358, 3) := dk_182 1 102 (dk_at dksX1_whom_2 17 rfl rfl)
theorem dX1_whom_66 : decode cX1_whom 66 = .ok (.iload_n 2, 1) := dk_28 (dk_at dksX1_whom_2 20 rfl rfl)
theorem dX1_whom_67 : decode cX1_whom 67 = .ok (.invokevirtual 362, 3) := dk_182 1 106 (dk_at dksX1_whom_2 21 rfl rfl)
theorem dX1_whom_70 : decode cX1_whom 70 = .ok (.istore 6, 2) := dk_54 6 (dk_at dksX1_whom_3 0 rfl rfl)
theorem dX1_whom_72 : decode cX1_whom 72 = .ok (.iload 6, 2) := dk_21 6 (dk_at dksX1_whom_3 2 rfl rfl)
theorem dX1_whom_74 : decode cX1_whom 74 = .ok (.ifCond .lt 46, 3) := dk_155 0 46 (dk_at dksX1_whom_3 4 rfl rfl)
theorem dX1_whom_77 : decode cX1_whom 77 = .ok (.iload_n 3, 1) := dk_29 (dk_at dksX1_whom_3 7 rfl rfl)
theorem dX1_whom_78 : decode cX1_whom 78 = .ok (.iconst (-1), 1) := dk_2 (dk_at dksX1_whom_3 8 rfl rfl)
theorem dX1_whom_79 : decode cX1_whom 79 = .ok (.if_icmp .eq 34, 3) := dk_159 0 34 (dk_at dksX1_whom_3 9 rfl rfl)
theorem dX1_whom_82 : decode cX1_whom 82 = .ok (.iload 6, 2) := dk_21 6 (dk_at dksX1_whom_3 12 rfl rfl)
theorem dX1_whom_84 : decode cX1_whom 84 = .ok (.iload 4, 2) := dk_21 4 (dk_at dksX1_whom_3 14 rfl rfl)
theorem dX1_whom_86 : decode cX1_whom 86 = .ok (.if_icmp .gt 34, 3) := dk_163 0 34 (dk_at dksX1_whom_3 16 rfl rfl)
theorem dX1_whom_89 : decode cX1_whom 89 = .ok (.iload 6, 2) := dk_21 6 (dk_at dksX1_whom_3 19 rfl rfl)
theorem dX1_whom_91 : decode cX1_whom 91 = .ok (.iload 4, 2) := dk_21 4 (dk_at dksX1_whom_3 21 rfl rfl)
theorem dX1_whom_93 : decode cX1_whom 93 = .ok (.if_icmp .ne 20, 3) := dk_160 0 20 (dk_at dksX1_whom_4 0 rfl rfl)
theorem dX1_whom_96 : decode cX1_whom 96 = .ok (.aload_n 0, 1) := dk_42 (dk_at dksX1_whom_4 3 rfl rfl)
theorem dX1_whom_97 : decode cX1_whom 97 = .ok (.iload 5, 2) := dk_21 5 (dk_at dksX1_whom_4 4 rfl rfl)
theorem dX1_whom_99 : decode cX1_whom 99 = .ok (.invokevirtual 355, 3) := dk_182 1 99 (dk_at dksX1_whom_4 6 rfl rfl)
theorem dX1_whom_102 : decode cX1_whom 102 = .ok (.aload_n 0, 1) := dk_42 (dk_at dksX1_whom_4 9 rfl rfl)
theorem dX1_whom_103 : decode cX1_whom 103 = .ok (.iload_n 3, 1) := dk_29 (dk_at dksX1_whom_4 10 rfl rfl)
theorem dX1_whom_104 : decode cX1_whom 104 = .ok (.invokevirtual 355, 3) := dk_182 1 99 (dk_at dksX1_whom_4 11 rfl rfl)
theorem dX1_whom_107 : decode cX1_whom 107 = .ok (.if_icmp .lt 6, 3) := dk_161 0 6 (dk_at dksX1_whom_4 14 rfl rfl)
theorem dX1_whom_110 : decode cX1_whom 110 = .ok (.goto 10, 3) := dk_167 0 10 (dk_at dksX1_whom_4 17 rfl rfl)
theorem dX1_whom_113 : decode cX1_whom 113 = .ok (.iload 5, 2) := dk_21 5 (dk_at dksX1_whom_4 20 rfl rfl)
theorem dX1_whom_115 : decode cX1_whom 115 = .ok (.istore_n 3, 1) := dk_62 (dk_at dksX1_whom_4 22 rfl rfl)
theorem dX1_whom_116 : decode cX1_whom 116 = .ok (.iload 6, 2) := dk_21 6 (dk_at dksX1_whom_5 0 rfl rfl)
theorem dX1_whom_118 : decode cX1_whom 118 = .ok (.istore 4, 2) := dk_54 4 (dk_at dksX1_whom_5 2 rfl rfl)
theorem dX1_whom_120 : decode cX1_whom 120 = .ok (.iinc 5 1, 3) := dk_132 5 1 (dk_at dksX1_whom_5 4 rfl rfl)
theorem dX1_whom_123 : decode cX1_whom 123 = .ok (.goto (-88), 3) := dk_167 255 168 (dk_at dksX1_whom_5 7 rfl rfl)
theorem dX1_whom_126 : decode cX1_whom 126 = .ok (.iload_n 3, 1) := dk_29 (dk_at dksX1_whom_5 10 rfl rfl)
theorem dX1_whom_127 : decode cX1_whom 127 = .ok (.iconst (-1), 1) := dk_2 (dk_at dksX1_whom_5 11 rfl rfl)
theorem dX1_whom_128 : decode cX1_whom 128 = .ok (.if_icmp .ne 6, 3) := dk_160 0 6 (dk_at dksX1_whom_5 12 rfl rfl)
theorem dX1_whom_131 : decode cX1_whom 131 = .ok (.bipush (-2), 2) := dk_16 254 (dk_at dksX1_whom_5 15 rfl rfl)
theorem dX1_whom_133 : decode cX1_whom 133 = .ok (.ireturn, 1) := dk_172 (dk_at dksX1_whom_5 17 rfl rfl)
theorem dX1_whom_134 : decode cX1_whom 134 = .ok (.aload_n 0, 1) := dk_42 (dk_at dksX1_whom_5 18 rfl rfl)
theorem dX1_whom_135 : decode cX1_whom 135 = .ok (.iconst 0, 1) := dk_3 (dk_at dksX1_whom_5 19 rfl rfl)
theorem dX1_whom_136 : decode cX1_whom 136 = .ok (.putfield 94, 3) := dk_181 0 94 (dk_at dksX1_whom_5 20 rfl rfl)
theorem dX1_whom_139 : decode cX1_whom 139 = .ok (.aload_n 0, 1) := dk_42 (dk_at dksX1_whom_5 23 rfl rfl)
theorem dX1_whom_140 : decode cX1_whom 140 = .ok (.iload_n 3, 1) := dk_29 (dk_at dksX1_whom_6 0 rfl rfl)
theorem dX1_whom_141 : decode cX1_whom 141 = .ok (.i2l, 1) := dk_133 (dk_at dksX1_whom_6 1 rfl rfl)
theorem dX1_whom_142 : decode cX1_whom 142 = .ok (.invokevirtual 101, 3) := dk_182 0 101 (dk_at dksX1_whom_6 2 rfl rfl)
theorem dX1_whom_145 : decode cX1_whom 145 = .ok (.aload_n 0, 1) := dk_42 (dk_at dksX1_whom_6 5 rfl rfl)
theorem dX1_whom_146 : decode cX1_whom 146 = .ok (.aload_n 0, 1) := dk_42 (dk_at dksX1_whom_6 6 rfl rfl)
theorem dX1_whom_147 : decode cX1_whom 147 = .ok (.iload_n 3, 1) := dk_29 (dk_at dksX1_whom_6 7 rfl rfl)
theorem dX1_whom_148 : decode cX1_whom 148 = .ok (.invokevirtual 355, 3) := dk_182 1 99 (dk_at dksX1_whom_6 8 rfl rfl)
theorem dX1_whom_151 : decode cX1_whom 151 = .ok (.i2l, 1) := dk_133 (dk_at dksX1_whom_6 11 rfl rfl)
theorem dX1_whom_152 : decode cX1_whom 152 = .ok (.invokevirtual 101, 3) := dk_182 0 101 (dk_at dksX1_whom_6 12 rfl rfl)
theorem dX1_whom_155 : decode cX1_whom 155 = .ok (.iload 4, 2) := dk_21 4 (dk_at dksX1_whom_6 15 rfl rfl)
theorem dX1_whom_157 : decode cX1_whom 157 = .ok (.ireturn, 1) := dk_172 (dk_at dksX1_whom_6 17 rfl rfl)
def dkwX1_price_1 : List UInt8 := [180, 0, 84, 29, 46, 167, 0, 4, 3, 96, 61, 132, 3, 1, 167, 255, 224, 28, 172]
abbrev dktX1_price_1 : List UInt8 := dkwX1_price_1 ++ []
def dkwX1_price_0 : List UInt8 := [3, 61, 3, 62, 29, 42, 180, 1, 96, 162, 0, 30, 28, 27, 29, 184, 1, 31, 153, 0, 12, 42]
abbrev dktX1_price_0 : List UInt8 := dkwX1_price_0 ++ dktX1_price_1
theorem dksX1_price_0 : cX1_price.data.toList.drop 0 = dktX1_price_0 := by decide +kernel
theorem dksX1_price_1 : cX1_price.data.toList.drop 22 = dktX1_price_1 := dk_seg dksX1_price_0 22 rfl rfl
theorem dX1_price_0 : decode cX1_price 0 = .ok (.iconst 0, 1) := dk_3 (dk_at dksX1_price_0 0 rfl rfl)
theorem dX1_price_1 : decode cX1_price 1 = .ok (.istore_n 2, 1) := dk_61 (dk_at dksX1_price_0 1 rfl rfl)
theorem dX1_price_2 : decode cX1_price 2 = .ok (.iconst 0, 1) := dk_3 (dk_at dksX1_price_0 2 rfl rfl)
theorem dX1_price_3 : decode cX1_price 3 = .ok (.istore_n 3, 1) := dk_62 (dk_at dksX1_price_0 3 rfl rfl)
theorem dX1_price_4 : decode cX1_price 4 = .ok (.iload_n 3, 1) := dk_29 (dk_at dksX1_price_0 4 rfl rfl)
theorem dX1_price_5 : decode cX1_price 5 = .ok (.aload_n 0, 1) := dk_42 (dk_at dksX1_price_0 5 rfl rfl)
theorem dX1_price_6 : decode cX1_price 6 = .ok (.getfield 352, 3) := dk_180 1 96 (dk_at dksX1_price_0 6 rfl rfl)
theorem dX1_price_9 : decode cX1_price 9 = .ok (.if_icmp .ge 30, 3) := dk_162 0 30 (dk_at dksX1_price_0 9 rfl rfl)
theorem dX1_price_12 : decode cX1_price 12 = .ok (.iload_n 2, 1) := dk_28 (dk_at dksX1_price_0 12 rfl rfl)
theorem dX1_price_13 : decode cX1_price 13 = .ok (.iload_n 1, 1) := dk_27 (dk_at dksX1_price_0 13 rfl rfl)
theorem dX1_price_14 : decode cX1_price 14 = .ok (.iload_n 3, 1) := dk_29 (dk_at dksX1_price_0 14 rfl rfl)
theorem dX1_price_15 : decode cX1_price 15 = .ok (.invokestatic 287, 3) := dk_184 1 31 (dk_at dksX1_price_0 15 rfl rfl)
theorem dX1_price_18 : decode cX1_price 18 = .ok (.ifCond .eq 12, 3) := dk_153 0 12 (dk_at dksX1_price_0 18 rfl rfl)
theorem dX1_price_21 : decode cX1_price 21 = .ok (.aload_n 0, 1) := dk_42 (dk_at dksX1_price_0 21 rfl rfl)
theorem dX1_price_22 : decode cX1_price 22 = .ok (.getfield 84, 3) := dk_180 0 84 (dk_at dksX1_price_1 0 rfl rfl)
theorem dX1_price_25 : decode cX1_price 25 = .ok (.iload_n 3, 1) := dk_29 (dk_at dksX1_price_1 3 rfl rfl)
theorem dX1_price_26 : decode cX1_price 26 = .ok (.iaload, 1) := dk_46 (dk_at dksX1_price_1 4 rfl rfl)
theorem dX1_price_27 : decode cX1_price 27 = .ok (.goto 4, 3) := dk_167 0 4 (dk_at dksX1_price_1 5 rfl rfl)
theorem dX1_price_30 : decode cX1_price 30 = .ok (.iconst 0, 1) := dk_3 (dk_at dksX1_price_1 8 rfl rfl)
theorem dX1_price_31 : decode cX1_price 31 = .ok (.iadd, 1) := dk_96 (dk_at dksX1_price_1 9 rfl rfl)
theorem dX1_price_32 : decode cX1_price 32 = .ok (.istore_n 2, 1) := dk_61 (dk_at dksX1_price_1 10 rfl rfl)
theorem dX1_price_33 : decode cX1_price 33 = .ok (.iinc 3 1, 3) := dk_132 3 1 (dk_at dksX1_price_1 11 rfl rfl)
theorem dX1_price_36 : decode cX1_price 36 = .ok (.goto (-32), 3) := dk_167 255 224 (dk_at dksX1_price_1 14 rfl rfl)
theorem dX1_price_39 : decode cX1_price 39 = .ok (.iload_n 2, 1) := dk_28 (dk_at dksX1_price_1 17 rfl rfl)
theorem dX1_price_40 : decode cX1_price 40 = .ok (.ireturn, 1) := dk_172 (dk_at dksX1_price_1 18 rfl rfl)
def dkwX1_with_3 : List UInt8 := [184, 0, 163, 182, 0, 145, 132, 3, 1, 167, 255, 193, 44, 176]
abbrev dktX1_with_3 : List UInt8 := dkwX1_with_3 ++ []
def dkwX1_with_2 : List UInt8 := [180, 0, 52, 180, 0, 141, 42, 180, 0, 78, 29, 46, 50, 42, 180, 0, 81, 29, 46, 46, 6, 96]
abbrev dktX1_with_2 : List UInt8 := dkwX1_with_2 ++ dktX1_with_3
def dkwX1_with_1 : List UInt8 := [184, 1, 31, 153, 0, 47, 44, 42, 180, 0, 78, 29, 46, 42, 180, 0, 81, 29, 46, 16, 9, 42]
abbrev dktX1_with_1 : List UInt8 := dkwX1_with_1 ++ dktX1_with_2
def dkwX1_with_0 : List UInt8 := [42, 180, 0, 56, 42, 180, 0, 52, 182, 1, 90, 77, 3, 62, 29, 42, 180, 1, 96, 162, 0, 61, 27, 29]
abbrev dktX1_with_0 : List UInt8 := dkwX1_with_0 ++ dktX1_with_1
theorem dksX1_with_0 : cX1_with.data.toList.drop 0 = dktX1_with_0 := by decide +kernel
theorem dksX1_with_1 : cX1_with.data.toList.drop 24 = dktX1_with_1 := dk_seg dksX1_with_0 24 rfl rfl
theorem dksX1_with_2 : cX1_with.data.toList.drop 46 = dktX1_with_2 := dk_seg dksX1_with_1 22 rfl rfl
theorem dksX1_with_3 : cX1_with.data.toList.drop 68 = dktX1_with_3 := dk_seg dksX1_with_2 22 rfl rfl
theorem dX1_with_0 : decode cX1_with 0 = .ok (.aload_n 0, 1) := dk_42 (dk_at dksX1_with_0 0 rfl rfl)
theorem dX1_with_1 : decode cX1_with 1 = .ok (.getfield 56, 3) := dk_180 0 56 (dk_at dksX1_with_0 1 rfl rfl)
theorem dX1_with_4 : decode cX1_with 4 = .ok (.aload_n 0, 1) := dk_42 (dk_at dksX1_with_0 4 rfl rfl)
theorem dX1_with_5 : decode cX1_with 5 = .ok (.getfield 52, 3) := dk_180 0 52 (dk_at dksX1_with_0 5 rfl rfl)
theorem dX1_with_8 : decode cX1_with 8 = .ok (.invokevirtual 346, 3) := dk_182 1 90 (dk_at dksX1_with_0 8 rfl rfl)
theorem dX1_with_11 : decode cX1_with 11 = .ok (.astore_n 2, 1) := dk_77 (dk_at dksX1_with_0 11 rfl rfl)
theorem dX1_with_12 : decode cX1_with 12 = .ok (.iconst 0, 1) := dk_3 (dk_at dksX1_with_0 12 rfl rfl)
theorem dX1_with_13 : decode cX1_with 13 = .ok (.istore_n 3, 1) := dk_62 (dk_at dksX1_with_0 13 rfl rfl)
theorem dX1_with_14 : decode cX1_with 14 = .ok (.iload_n 3, 1) := dk_29 (dk_at dksX1_with_0 14 rfl rfl)
theorem dX1_with_15 : decode cX1_with 15 = .ok (.aload_n 0, 1) := dk_42 (dk_at dksX1_with_0 15 rfl rfl)
theorem dX1_with_16 : decode cX1_with 16 = .ok (.getfield 352, 3) := dk_180 1 96 (dk_at dksX1_with_0 16 rfl rfl)
theorem dX1_with_19 : decode cX1_with 19 = .ok (.if_icmp .ge 61, 3) := dk_162 0 61 (dk_at dksX1_with_0 19 rfl rfl)
theorem dX1_with_22 : decode cX1_with 22 = .ok (.iload_n 1, 1) := dk_27 (dk_at dksX1_with_0 22 rfl rfl)
theorem dX1_with_23 : decode cX1_with 23 = .ok (.iload_n 3, 1) := dk_29 (dk_at dksX1_with_0 23 rfl rfl)
theorem dX1_with_24 : decode cX1_with 24 = .ok (.invokestatic 287, 3) := dk_184 1 31 (dk_at dksX1_with_1 0 rfl rfl)
theorem dX1_with_27 : decode cX1_with 27 = .ok (.ifCond .eq 47, 3) := dk_153 0 47 (dk_at dksX1_with_1 3 rfl rfl)
theorem dX1_with_30 : decode cX1_with 30 = .ok (.aload_n 2, 1) := dk_44 (dk_at dksX1_with_1 6 rfl rfl)
theorem dX1_with_31 : decode cX1_with 31 = .ok (.aload_n 0, 1) := dk_42 (dk_at dksX1_with_1 7 rfl rfl)
theorem dX1_with_32 : decode cX1_with 32 = .ok (.getfield 78, 3) := dk_180 0 78 (dk_at dksX1_with_1 8 rfl rfl)
theorem dX1_with_35 : decode cX1_with 35 = .ok (.iload_n 3, 1) := dk_29 (dk_at dksX1_with_1 11 rfl rfl)
theorem dX1_with_36 : decode cX1_with 36 = .ok (.iaload, 1) := dk_46 (dk_at dksX1_with_1 12 rfl rfl)
theorem dX1_with_37 : decode cX1_with 37 = .ok (.aload_n 0, 1) := dk_42 (dk_at dksX1_with_1 13 rfl rfl)
theorem dX1_with_38 : decode cX1_with 38 = .ok (.getfield 81, 3) := dk_180 0 81 (dk_at dksX1_with_1 14 rfl rfl)
theorem dX1_with_41 : decode cX1_with 41 = .ok (.iload_n 3, 1) := dk_29 (dk_at dksX1_with_1 17 rfl rfl)
theorem dX1_with_42 : decode cX1_with 42 = .ok (.iaload, 1) := dk_46 (dk_at dksX1_with_1 18 rfl rfl)
theorem dX1_with_43 : decode cX1_with 43 = .ok (.bipush 9, 2) := dk_16 9 (dk_at dksX1_with_1 19 rfl rfl)
theorem dX1_with_45 : decode cX1_with 45 = .ok (.aload_n 0, 1) := dk_42 (dk_at dksX1_with_1 21 rfl rfl)
theorem dX1_with_46 : decode cX1_with 46 = .ok (.getfield 52, 3) := dk_180 0 52 (dk_at dksX1_with_2 0 rfl rfl)
theorem dX1_with_49 : decode cX1_with 49 = .ok (.getfield 141, 3) := dk_180 0 141 (dk_at dksX1_with_2 3 rfl rfl)
theorem dX1_with_52 : decode cX1_with 52 = .ok (.aload_n 0, 1) := dk_42 (dk_at dksX1_with_2 6 rfl rfl)
theorem dX1_with_53 : decode cX1_with 53 = .ok (.getfield 78, 3) := dk_180 0 78 (dk_at dksX1_with_2 7 rfl rfl)
theorem dX1_with_56 : decode cX1_with 56 = .ok (.iload_n 3, 1) := dk_29 (dk_at dksX1_with_2 10 rfl rfl)
theorem dX1_with_57 : decode cX1_with 57 = .ok (.iaload, 1) := dk_46 (dk_at dksX1_with_2 11 rfl rfl)
theorem dX1_with_58 : decode cX1_with 58 = .ok (.aaload, 1) := dk_50 (dk_at dksX1_with_2 12 rfl rfl)
theorem dX1_with_59 : decode cX1_with 59 = .ok (.aload_n 0, 1) := dk_42 (dk_at dksX1_with_2 13 rfl rfl)
theorem dX1_with_60 : decode cX1_with 60 = .ok (.getfield 81, 3) := dk_180 0 81 (dk_at dksX1_with_2 14 rfl rfl)
theorem dX1_with_63 : decode cX1_with 63 = .ok (.iload_n 3, 1) := dk_29 (dk_at dksX1_with_2 17 rfl rfl)
theorem dX1_with_64 : decode cX1_with 64 = .ok (.iaload, 1) := dk_46 (dk_at dksX1_with_2 18 rfl rfl)
theorem dX1_with_65 : decode cX1_with 65 = .ok (.iaload, 1) := dk_46 (dk_at dksX1_with_2 19 rfl rfl)
theorem dX1_with_66 : decode cX1_with 66 = .ok (.iconst 3, 1) := dk_6 (dk_at dksX1_with_2 20 rfl rfl)
theorem dX1_with_67 : decode cX1_with 67 = .ok (.iadd, 1) := dk_96 (dk_at dksX1_with_2 21 rfl rfl)
theorem dX1_with_68 : decode cX1_with 68 = .ok (.invokestatic 163, 3) := dk_184 0 163 (dk_at dksX1_with_3 0 rfl rfl)
theorem dX1_with_71 : decode cX1_with 71 = .ok (.invokevirtual 145, 3) := dk_182 0 145 (dk_at dksX1_with_3 3 rfl rfl)
theorem dX1_with_74 : decode cX1_with 74 = .ok (.iinc 3 1, 3) := dk_132 3 1 (dk_at dksX1_with_3 6 rfl rfl)
theorem dX1_with_77 : decode cX1_with 77 = .ok (.goto (-63), 3) := dk_167 255 193 (dk_at dksX1_with_3 9 rfl rfl)
theorem dX1_with_80 : decode cX1_with 80 = .ok (.aload_n 2, 1) := dk_44 (dk_at dksX1_with_3 12 rfl rfl)
theorem dX1_with_81 : decode cX1_with 81 = .ok (.areturn, 1) := dk_176 (dk_at dksX1_with_3 13 rfl rfl)
def dkwX1_endIn_0 : List UInt8 := [42, 180, 0, 66, 28, 182, 0, 221, 43, 182, 1, 12, 172]
abbrev dktX1_endIn_0 : List UInt8 := dkwX1_endIn_0 ++ []
theorem dksX1_endIn_0 : cX1_endIn.data.toList.drop 0 = dktX1_endIn_0 := by decide +kernel
theorem dX1_endIn_0 : decode cX1_endIn 0 = .ok (.aload_n 0, 1) := dk_42 (dk_at dksX1_endIn_0 0 rfl rfl)
theorem dX1_endIn_1 : decode cX1_endIn 1 = .ok (.getfield 66, 3) := dk_180 0 66 (dk_at dksX1_endIn_0 1 rfl rfl)
theorem dX1_endIn_4 : decode cX1_endIn 4 = .ok (.iload_n 2, 1) := dk_28 (dk_at dksX1_endIn_0 4 rfl rfl)
theorem dX1_endIn_5 : decode cX1_endIn 5 = .ok (.invokevirtual 221, 3) := dk_182 0 221 (dk_at dksX1_endIn_0 5 rfl rfl)
theorem dX1_endIn_8 : decode cX1_endIn 8 = .ok (.aload_n 1, 1) := dk_43 (dk_at dksX1_endIn_0 8 rfl rfl)
theorem dX1_endIn_9 : decode cX1_endIn 9 = .ok (.invokevirtual 268, 3) := dk_182 1 12 (dk_at dksX1_endIn_0 9 rfl rfl)
theorem dX1_endIn_12 : decode cX1_endIn 12 = .ok (.ireturn, 1) := dk_172 (dk_at dksX1_endIn_0 12 rfl rfl)
def dkwX1_worth_5 : List UInt8 := [21, 7, 54, 4, 132, 5, 1, 167, 255, 179, 29, 172]
abbrev dktX1_worth_5 : List UInt8 := dkwX1_worth_5 ++ []
def dkwX1_worth_4 : List UInt8 := [21, 7, 133, 182, 0, 101, 29, 2, 159, 0, 13, 21, 7, 21, 4, 163, 0, 6, 167, 0, 10, 21, 5, 62]
abbrev dktX1_worth_4 : List UInt8 := dkwX1_worth_4 ++ dktX1_worth_5
def dkwX1_worth_3 : List UInt8 := [54, 6, 21, 6, 155, 0, 7, 28, 156, 0, 9, 17, 216, 241, 167, 0, 7, 28, 21, 6, 100, 54, 7, 42]
abbrev dktX1_worth_3 : List UInt8 := dkwX1_worth_3 ++ dktX1_worth_4
def dkwX1_worth_2 : List UInt8 := [54, 5, 21, 5, 42, 180, 1, 96, 162, 0, 74, 42, 42, 4, 21, 5, 120, 182, 1, 102, 27, 182, 1, 106]
abbrev dktX1_worth_2 : List UInt8 := dkwX1_worth_2 ++ dktX1_worth_3
def dkwX1_worth_1 : List UInt8 := [16, 254, 172, 42, 42, 180, 0, 52, 27, 182, 1, 106, 61, 2, 62, 3, 54, 4, 42, 3, 181, 0, 94, 3]
abbrev dktX1_worth_1 : List UInt8 := dkwX1_worth_1 ++ dktX1_worth_2
def dkwX1_worth_0 : List UInt8 := [27, 184, 0, 124, 153, 0, 10, 42, 180, 0, 105, 154, 0, 5, 2, 172, 42, 180, 1, 96, 154, 0, 6]
abbrev dktX1_worth_0 : List UInt8 := dkwX1_worth_0 ++ dktX1_worth_1
theorem dksX1_worth_0 : cX1_worth.data.toList.drop 0 = dktX1_worth_0 := by decide +kernel
theorem dksX1_worth_1 : cX1_worth.data.toList.drop 23 = dktX1_worth_1 := dk_seg dksX1_worth_0 23 rfl rfl
theorem dksX1_worth_2 : cX1_worth.data.toList.drop 47 = dktX1_worth_2 := dk_seg dksX1_worth_1 24 rfl rfl
theorem dksX1_worth_3 : cX1_worth.data.toList.drop 71 = dktX1_worth_3 := dk_seg dksX1_worth_2 24 rfl rfl
theorem dksX1_worth_4 : cX1_worth.data.toList.drop 95 = dktX1_worth_4 := dk_seg dksX1_worth_3 24 rfl rfl
theorem dksX1_worth_5 : cX1_worth.data.toList.drop 119 = dktX1_worth_5 := dk_seg dksX1_worth_4 24 rfl rfl
theorem dX1_worth_0 : decode cX1_worth 0 = .ok (.iload_n 1, 1) := dk_27 (dk_at dksX1_worth_0 0 rfl rfl)
theorem dX1_worth_1 : decode cX1_worth 1 = .ok (.invokestatic 124, 3) := dk_184 0 124 (dk_at dksX1_worth_0 1 rfl rfl)
theorem dX1_worth_4 : decode cX1_worth 4 = .ok (.ifCond .eq 10, 3) := dk_153 0 10 (dk_at dksX1_worth_0 4 rfl rfl)
theorem dX1_worth_7 : decode cX1_worth 7 = .ok (.aload_n 0, 1) := dk_42 (dk_at dksX1_worth_0 7 rfl rfl)
theorem dX1_worth_8 : decode cX1_worth 8 = .ok (.getfield 105, 3) := dk_180 0 105 (dk_at dksX1_worth_0 8 rfl rfl)
theorem dX1_worth_11 : decode cX1_worth 11 = .ok (.ifCond .ne 5, 3) := dk_154 0 5 (dk_at dksX1_worth_0 11 rfl rfl)
theorem dX1_worth_14 : decode cX1_worth 14 = .ok (.iconst (-1), 1) := dk_2 (dk_at dksX1_worth_0 14 rfl rfl)
theorem dX1_worth_15 : decode cX1_worth 15 = .ok (.ireturn, 1) := dk_172 (dk_at dksX1_worth_0 15 rfl rfl)
theorem dX1_worth_16 : decode cX1_worth 16 = .ok (.aload_n 0, 1) := dk_42 (dk_at dksX1_worth_0 16 rfl rfl)
theorem dX1_worth_17 : decode cX1_worth 17 = .ok (.getfield 352, 3) := dk_180 1 96 (dk_at dksX1_worth_0 17 rfl rfl)
theorem dX1_worth_20 : decode cX1_worth 20 = .ok (.ifCond .ne 6, 3) := dk_154 0 6 (dk_at dksX1_worth_0 20 rfl rfl)
theorem dX1_worth_23 : decode cX1_worth 23 = .ok (.bipush (-2), 2) := dk_16 254 (dk_at dksX1_worth_1 0 rfl rfl)
theorem dX1_worth_25 : decode cX1_worth 25 = .ok (.ireturn, 1) := dk_172 (dk_at dksX1_worth_1 2 rfl rfl)
theorem dX1_worth_26 : decode cX1_worth 26 = .ok (.aload_n 0, 1) := dk_42 (dk_at dksX1_worth_1 3 rfl rfl)
theorem dX1_worth_27 : decode cX1_worth 27 = .ok (.aload_n 0, 1) := dk_42 (dk_at dksX1_worth_1 4 rfl rfl)
theorem dX1_worth_28 : decode cX1_worth 28 = .ok (.getfield 52, 3) := dk_180 0 52 (dk_at dksX1_worth_1 5 rfl rfl)
theorem dX1_worth_31 : decode cX1_worth 31 = .ok (.iload_n 1, 1) := dk_27 (dk_at dksX1_worth_1 8 rfl rfl)
theorem dX1_worth_32 : decode cX1_worth 32 = .ok (.invokevirtual 362, 3) := dk_182 1 106 (dk_at dksX1_worth_1 9 rfl rfl)
theorem dX1_worth_35 : decode cX1_worth 35 = .ok (.istore_n 2, 1) := dk_61 (dk_at dksX1_worth_1 12 rfl rfl)
theorem dX1_worth_36 : decode cX1_worth 36 = .ok (.iconst (-1), 1) := dk_2 (dk_at dksX1_worth_1 13 rfl rfl)
theorem dX1_worth_37 : decode cX1_worth 37 = .ok (.istore_n 3, 1) := dk_62 (dk_at dksX1_worth_1 14 rfl rfl)
theorem dX1_worth_38 : decode cX1_worth 38 = .ok (.iconst 0, 1) := dk_3 (dk_at dksX1_worth_1 15 rfl rfl)
theorem dX1_worth_39 : decode cX1_worth 39 = .ok (.istore 4, 2) := dk_54 4 (dk_at dksX1_worth_1 16 rfl rfl)
theorem dX1_worth_41 : decode cX1_worth 41 = .ok (.aload_n 0, 1) := dk_42 (dk_at dksX1_worth_1 18 rfl rfl)
theorem dX1_worth_42 : decode cX1_worth 42 = .ok (.iconst 0, 1) := dk_3 (dk_at dksX1_worth_1 19 rfl rfl)
theorem dX1_worth_43 : decode cX1_worth 43 = .ok (.putfield 94, 3) := dk_181 0 94 (dk_at dksX1_worth_1 20 rfl rfl)
theorem dX1_worth_46 : decode cX1_worth 46 = .ok (.iconst 0, 1) := dk_3 (dk_at dksX1_worth_1 23 rfl rfl)
theorem dX1_worth_47 : decode cX1_worth 47 = .ok (.istore 5, 2) := dk_54 5 (dk_at dksX1_worth_2 0 rfl rfl)
theorem dX1_worth_49 : decode cX1_worth 49 = .ok (.iload 5, 2) := dk_21 5 (dk_at dksX1_worth_2 2 rfl rfl)
theorem dX1_worth_51 : decode cX1_worth 51 = .ok (.aload_n 0, 1) := dk_42 (dk_at dksX1_worth_2 4 rfl rfl)
theorem dX1_worth_52 : decode cX1_worth 52 = .ok (.getfield 352, 3) := dk_180 1 96 (dk_at dksX1_worth_2 5 rfl rfl)
theorem dX1_worth_55 : decode cX1_worth 55 = .ok (.if_icmp .ge 74, 3) := dk_162 0 74 (dk_at dksX1_worth_2 8 rfl rfl)
theorem dX1_worth_58 : decode cX1_worth 58 = .ok (.aload_n 0, 1) := dk_42 (dk_at dksX1_worth_2 11 rfl rfl)
theorem dX1_worth_59 : decode cX1_worth 59 = .ok (.aload_n 0, 1) := dk_42 (dk_at dksX1_worth_2 12 rfl rfl)
theorem dX1_worth_60 : decode cX1_worth 60 = .ok (.iconst 1, 1) := dk_4 (dk_at dksX1_worth_2 13 rfl rfl)
theorem dX1_worth_61 : decode cX1_worth 61 = .ok (.iload 5, 2) := dk_21 5 (dk_at dksX1_worth_2 14 rfl rfl)
theorem dX1_worth_63 : decode cX1_worth 63 = .ok (.ishl, 1) := dk_120 (dk_at dksX1_worth_2 16 rfl rfl)
theorem dX1_worth_64 : decode cX1_worth 64 = .ok (.invokevirtual 358, 3) := dk_182 1 102 (dk_at dksX1_worth_2 17 rfl rfl)
theorem dX1_worth_67 : decode cX1_worth 67 = .ok (.iload_n 1, 1) := dk_27 (dk_at dksX1_worth_2 20 rfl rfl)
theorem dX1_worth_68 : decode cX1_worth 68 = .ok (.invokevirtual 362, 3) := dk_182 1 106 (dk_at dksX1_worth_2 21 rfl rfl)
theorem dX1_worth_71 : decode cX1_worth 71 = .ok (.istore 6, 2) := dk_54 6 (dk_at dksX1_worth_3 0 rfl rfl)
theorem dX1_worth_73 : decode cX1_worth 73 = .ok (.iload 6, 2) := dk_21 6 (dk_at dksX1_worth_3 2 rfl rfl)
theorem dX1_worth_75 : decode cX1_worth 75 = .ok (.ifCond .lt 7, 3) := dk_155 0 7 (dk_at dksX1_worth_3 4 rfl rfl)
theorem dX1_worth_78 : decode cX1_worth 78 = .ok (.iload_n 2, 1) := dk_28 (dk_at dksX1_worth_3 7 rfl rfl)
theorem dX1_worth_79 : decode cX1_worth 79 = .ok (.ifCond .ge 9, 3) := dk_156 0 9 (dk_at dksX1_worth_3 8 rfl rfl)
theorem dX1_worth_82 : decode cX1_worth 82 = .ok (.sipush (-9999), 3) := dk_17 216 241 (dk_at dksX1_worth_3 11 rfl rfl)
theorem dX1_worth_85 : decode cX1_worth 85 = .ok (.goto 7, 3) := dk_167 0 7 (dk_at dksX1_worth_3 14 rfl rfl)
theorem dX1_worth_88 : decode cX1_worth 88 = .ok (.iload_n 2, 1) := dk_28 (dk_at dksX1_worth_3 17 rfl rfl)
theorem dX1_worth_89 : decode cX1_worth 89 = .ok (.iload 6, 2) := dk_21 6 (dk_at dksX1_worth_3 18 rfl rfl)
theorem dX1_worth_91 : decode cX1_worth 91 = .ok (.isub, 1) := dk_100 (dk_at dksX1_worth_3 20 rfl rfl)
theorem dX1_worth_92 : decode cX1_worth 92 = .ok (.istore 7, 2) := dk_54 7 (dk_at dksX1_worth_3 21 rfl rfl)
theorem dX1_worth_94 : decode cX1_worth 94 = .ok (.aload_n 0, 1) := dk_42 (dk_at dksX1_worth_3 23 rfl rfl)
theorem dX1_worth_95 : decode cX1_worth 95 = .ok (.iload 7, 2) := dk_21 7 (dk_at dksX1_worth_4 0 rfl rfl)
theorem dX1_worth_97 : decode cX1_worth 97 = .ok (.i2l, 1) := dk_133 (dk_at dksX1_worth_4 2 rfl rfl)
theorem dX1_worth_98 : decode cX1_worth 98 = .ok (.invokevirtual 101, 3) := dk_182 0 101 (dk_at dksX1_worth_4 3 rfl rfl)
theorem dX1_worth_101 : decode cX1_worth 101 = .ok (.iload_n 3, 1) := dk_29 (dk_at dksX1_worth_4 6 rfl rfl)
theorem dX1_worth_102 : decode cX1_worth 102 = .ok (.iconst (-1), 1) := dk_2 (dk_at dksX1_worth_4 7 rfl rfl)
theorem dX1_worth_103 : decode cX1_worth 103 = .ok (.if_icmp .eq 13, 3) := dk_159 0 13 (dk_at dksX1_worth_4 8 rfl rfl)
theorem dX1_worth_106 : decode cX1_worth 106 = .ok (.iload 7, 2) := dk_21 7 (dk_at dksX1_worth_4 11 rfl rfl)
theorem dX1_worth_108 : decode cX1_worth 108 = .ok (.iload 4, 2) := dk_21 4 (dk_at dksX1_worth_4 13 rfl rfl)
theorem dX1_worth_110 : decode cX1_worth 110 = .ok (.if_icmp .gt 6, 3) := dk_163 0 6 (dk_at dksX1_worth_4 15 rfl rfl)
theorem dX1_worth_113 : decode cX1_worth 113 = .ok (.goto 10, 3) := dk_167 0 10 (dk_at dksX1_worth_4 18 rfl rfl)
theorem dX1_worth_116 : decode cX1_worth 116 = .ok (.iload 5, 2) := dk_21 5 (dk_at dksX1_worth_4 21 rfl rfl)
theorem dX1_worth_118 : decode cX1_worth 118 = .ok (.istore_n 3, 1) := dk_62 (dk_at dksX1_worth_4 23 rfl rfl)
theorem dX1_worth_119 : decode cX1_worth 119 = .ok (.iload 7, 2) := dk_21 7 (dk_at dksX1_worth_5 0 rfl rfl)
theorem dX1_worth_121 : decode cX1_worth 121 = .ok (.istore 4, 2) := dk_54 4 (dk_at dksX1_worth_5 2 rfl rfl)
theorem dX1_worth_123 : decode cX1_worth 123 = .ok (.iinc 5 1, 3) := dk_132 5 1 (dk_at dksX1_worth_5 4 rfl rfl)
theorem dX1_worth_126 : decode cX1_worth 126 = .ok (.goto (-77), 3) := dk_167 255 179 (dk_at dksX1_worth_5 7 rfl rfl)
theorem dX1_worth_129 : decode cX1_worth 129 = .ok (.iload_n 3, 1) := dk_29 (dk_at dksX1_worth_5 10 rfl rfl)
theorem dX1_worth_130 : decode cX1_worth 130 = .ok (.ireturn, 1) := dk_172 (dk_at dksX1_worth_5 11 rfl rfl)
def dkwX1_wrong_7 : List UInt8 := [22, 4, 182, 1, 119, 3, 172]
abbrev dktX1_wrong_7 : List UInt8 := dkwX1_wrong_7 ++ []
def dkwX1_wrong_6 : List UInt8 := [21, 8, 28, 163, 0, 18, 22, 6, 45, 21, 8, 47, 97, 55, 6, 132, 8, 1, 167, 255, 238, 42, 22, 6]
abbrev dktX1_wrong_6 : List UInt8 := dkwX1_wrong_6 ++ dktX1_wrong_7
def dkwX1_wrong_5 : List UInt8 := [167, 255, 202, 22, 4, 20, 1, 117, 105, 55, 4, 132, 6, 1, 167, 255, 164, 9, 55, 6, 27, 54, 8]
abbrev dktX1_wrong_5 : List UInt8 := dkwX1_wrong_5 ++ dktX1_wrong_6
def dkwX1_wrong_4 : List UInt8 := [158, 0, 16, 45, 21, 8, 4, 100, 47, 21, 7, 133, 105, 167, 0, 4, 9, 97, 80, 132, 8, 255]
abbrev dktX1_wrong_4 : List UInt8 := dkwX1_wrong_4 ++ dktX1_wrong_5
def dkwX1_wrong_3 : List UInt8 := [21, 6, 163, 0, 17, 45, 21, 8, 47, 16, 100, 21, 7, 100, 133, 105, 167, 0, 4, 9, 21, 8]
abbrev dktX1_wrong_3 : List UInt8 := dkwX1_wrong_3 ++ dktX1_wrong_4
def dkwX1_wrong_2 : List UInt8 := [180, 1, 114, 21, 6, 46, 54, 7, 21, 6, 4, 96, 54, 8, 21, 8, 155, 0, 55, 45, 21, 8, 21, 8]
abbrev dktX1_wrong_2 : List UInt8 := dkwX1_wrong_2 ++ dktX1_wrong_3
def dkwX1_wrong_1 : List UInt8 := [96, 188, 11, 78, 45, 3, 10, 80, 10, 55, 4, 3, 54, 6, 21, 6, 28, 162, 0, 92, 42, 180, 0, 62]
abbrev dktX1_wrong_1 : List UInt8 := dkwX1_wrong_1 ++ dktX1_wrong_2
def dkwX1_wrong_0 : List UInt8 := [27, 3, 16, 8, 184, 0, 3, 154, 0, 5, 2, 172, 16, 8, 42, 182, 1, 110, 184, 0, 163, 61, 28, 4]
abbrev dktX1_wrong_0 : List UInt8 := dkwX1_wrong_0 ++ dktX1_wrong_1
theorem dksX1_wrong_0 : cX1_wrong.data.toList.drop 0 = dktX1_wrong_0 := by decide +kernel
theorem dksX1_wrong_1 : cX1_wrong.data.toList.drop 24 = dktX1_wrong_1 := dk_seg dksX1_wrong_0 24 rfl rfl
theorem dksX1_wrong_2 : cX1_wrong.data.toList.drop 48 = dktX1_wrong_2 := dk_seg dksX1_wrong_1 24 rfl rfl
theorem dksX1_wrong_3 : cX1_wrong.data.toList.drop 72 = dktX1_wrong_3 := dk_seg dksX1_wrong_2 24 rfl rfl
theorem dksX1_wrong_4 : cX1_wrong.data.toList.drop 94 = dktX1_wrong_4 := dk_seg dksX1_wrong_3 22 rfl rfl
theorem dksX1_wrong_5 : cX1_wrong.data.toList.drop 116 = dktX1_wrong_5 := dk_seg dksX1_wrong_4 22 rfl rfl
theorem dksX1_wrong_6 : cX1_wrong.data.toList.drop 139 = dktX1_wrong_6 := dk_seg dksX1_wrong_5 23 rfl rfl
theorem dksX1_wrong_7 : cX1_wrong.data.toList.drop 163 = dktX1_wrong_7 := dk_seg dksX1_wrong_6 24 rfl rfl
theorem dX1_wrong_0 : decode cX1_wrong 0 = .ok (.iload_n 1, 1) := dk_27 (dk_at dksX1_wrong_0 0 rfl rfl)
theorem dX1_wrong_1 : decode cX1_wrong 1 = .ok (.iconst 0, 1) := dk_3 (dk_at dksX1_wrong_0 1 rfl rfl)
theorem dX1_wrong_2 : decode cX1_wrong 2 = .ok (.bipush 8, 2) := dk_16 8 (dk_at dksX1_wrong_0 2 rfl rfl)
theorem dX1_wrong_4 : decode cX1_wrong 4 = .ok (.invokestatic 3, 3) := dk_184 0 3 (dk_at dksX1_wrong_0 4 rfl rfl)
theorem dX1_wrong_7 : decode cX1_wrong 7 = .ok (.ifCond .ne 5, 3) := dk_154 0 5 (dk_at dksX1_wrong_0 7 rfl rfl)
theorem dX1_wrong_10 : decode cX1_wrong 10 = .ok (.iconst (-1), 1) := dk_2 (dk_at dksX1_wrong_0 10 rfl rfl)
theorem dX1_wrong_11 : decode cX1_wrong 11 = .ok (.ireturn, 1) := dk_172 (dk_at dksX1_wrong_0 11 rfl rfl)
theorem dX1_wrong_12 : decode cX1_wrong 12 = .ok (.bipush 8, 2) := dk_16 8 (dk_at dksX1_wrong_0 12 rfl rfl)
theorem dX1_wrong_14 : decode cX1_wrong 14 = .ok (.aload_n 0, 1) := dk_42 (dk_at dksX1_wrong_0 14 rfl rfl)
theorem dX1_wrong_15 : decode cX1_wrong 15 = .ok (.invokevirtual 366, 3) := dk_182 1 110 (dk_at dksX1_wrong_0 15 rfl rfl)
theorem dX1_wrong_18 : decode cX1_wrong 18 = .ok (.invokestatic 163, 3) := dk_184 0 163 (dk_at dksX1_wrong_0 18 rfl rfl)
theorem dX1_wrong_21 : decode cX1_wrong 21 = .ok (.istore_n 2, 1) := dk_61 (dk_at dksX1_wrong_0 21 rfl rfl)
theorem dX1_wrong_22 : decode cX1_wrong 22 = .ok (.iload_n 2, 1) := dk_28 (dk_at dksX1_wrong_0 22 rfl rfl)
theorem dX1_wrong_23 : decode cX1_wrong 23 = .ok (.iconst 1, 1) := dk_4 (dk_at dksX1_wrong_0 23 rfl rfl)
theorem dX1_wrong_24 : decode cX1_wrong 24 = .ok (.iadd, 1) := dk_96 (dk_at dksX1_wrong_1 0 rfl rfl)
theorem dX1_wrong_25 : decode cX1_wrong 25 = .ok (.newarray .long, 2) := dk_188_11 (dk_at dksX1_wrong_1 1 rfl rfl)
theorem dX1_wrong_27 : decode cX1_wrong 27 = .ok (.astore_n 3, 1) := dk_78 (dk_at dksX1_wrong_1 3 rfl rfl)
theorem dX1_wrong_28 : decode cX1_wrong 28 = .ok (.aload_n 3, 1) := dk_45 (dk_at dksX1_wrong_1 4 rfl rfl)
theorem dX1_wrong_29 : decode cX1_wrong 29 = .ok (.iconst 0, 1) := dk_3 (dk_at dksX1_wrong_1 5 rfl rfl)
theorem dX1_wrong_30 : decode cX1_wrong 30 = .ok (.lconst 1, 1) := dk_10 (dk_at dksX1_wrong_1 6 rfl rfl)
theorem dX1_wrong_31 : decode cX1_wrong 31 = .ok (.lastore, 1) := dk_80 (dk_at dksX1_wrong_1 7 rfl rfl)
theorem dX1_wrong_32 : decode cX1_wrong 32 = .ok (.lconst 1, 1) := dk_10 (dk_at dksX1_wrong_1 8 rfl rfl)
theorem dX1_wrong_33 : decode cX1_wrong 33 = .ok (.lstore 4, 2) := dk_55 4 (dk_at dksX1_wrong_1 9 rfl rfl)
theorem dX1_wrong_35 : decode cX1_wrong 35 = .ok (.iconst 0, 1) := dk_3 (dk_at dksX1_wrong_1 11 rfl rfl)
theorem dX1_wrong_36 : decode cX1_wrong 36 = .ok (.istore 6, 2) := dk_54 6 (dk_at dksX1_wrong_1 12 rfl rfl)
theorem dX1_wrong_38 : decode cX1_wrong 38 = .ok (.iload 6, 2) := dk_21 6 (dk_at dksX1_wrong_1 14 rfl rfl)
theorem dX1_wrong_40 : decode cX1_wrong 40 = .ok (.iload_n 2, 1) := dk_28 (dk_at dksX1_wrong_1 16 rfl rfl)
theorem dX1_wrong_41 : decode cX1_wrong 41 = .ok (.if_icmp .ge 92, 3) := dk_162 0 92 (dk_at dksX1_wrong_1 17 rfl rfl)
theorem dX1_wrong_44 : decode cX1_wrong 44 = .ok (.aload_n 0, 1) := dk_42 (dk_at dksX1_wrong_1 20 rfl rfl)
theorem dX1_wrong_45 : decode cX1_wrong 45 = .ok (.getfield 62, 3) := dk_180 0 62 (dk_at dksX1_wrong_1 21 rfl rfl)
theorem dX1_wrong_48 : decode cX1_wrong 48 = .ok (.getfield 370, 3) := dk_180 1 114 (dk_at dksX1_wrong_2 0 rfl rfl)
theorem dX1_wrong_51 : decode cX1_wrong 51 = .ok (.iload 6, 2) := dk_21 6 (dk_at dksX1_wrong_2 3 rfl rfl)
theorem dX1_wrong_53 : decode cX1_wrong 53 = .ok (.iaload, 1) := dk_46 (dk_at dksX1_wrong_2 5 rfl rfl)
theorem dX1_wrong_54 : decode cX1_wrong 54 = .ok (.istore 7, 2) := dk_54 7 (dk_at dksX1_wrong_2 6 rfl rfl)
theorem dX1_wrong_56 : decode cX1_wrong 56 = .ok (.iload 6, 2) := dk_21 6 (dk_at dksX1_wrong_2 8 rfl rfl)
theorem dX1_wrong_58 : decode cX1_wrong 58 = .ok (.iconst 1, 1) := dk_4 (dk_at dksX1_wrong_2 10 rfl rfl)
theorem dX1_wrong_59 : decode cX1_wrong 59 = .ok (.iadd, 1) := dk_96 (dk_at dksX1_wrong_2 11 rfl rfl)
theorem dX1_wrong_60 : decode cX1_wrong 60 = .ok (.istore 8, 2) := dk_54 8 (dk_at dksX1_wrong_2 12 rfl rfl)
theorem dX1_wrong_62 : decode cX1_wrong 62 = .ok (.iload 8, 2) := dk_21 8 (dk_at dksX1_wrong_2 14 rfl rfl)
theorem dX1_wrong_64 : decode cX1_wrong 64 = .ok (.ifCond .lt 55, 3) := dk_155 0 55 (dk_at dksX1_wrong_2 16 rfl rfl)
theorem dX1_wrong_67 : decode cX1_wrong 67 = .ok (.aload_n 3, 1) := dk_45 (dk_at dksX1_wrong_2 19 rfl rfl)
theorem dX1_wrong_68 : decode cX1_wrong 68 = .ok (.iload 8, 2) := dk_21 8 (dk_at dksX1_wrong_2 20 rfl rfl)
theorem dX1_wrong_70 : decode cX1_wrong 70 = .ok (.iload 8, 2) := dk_21 8 (dk_at dksX1_wrong_2 22 rfl rfl)
theorem dX1_wrong_72 : decode cX1_wrong 72 = .ok (.iload 6, 2) := dk_21 6 (dk_at dksX1_wrong_3 0 rfl rfl)
theorem dX1_wrong_74 : decode cX1_wrong 74 = .ok (.if_icmp .gt 17, 3) := dk_163 0 17 (dk_at dksX1_wrong_3 2 rfl rfl)
theorem dX1_wrong_77 : decode cX1_wrong 77 = .ok (.aload_n 3, 1) := dk_45 (dk_at dksX1_wrong_3 5 rfl rfl)
theorem dX1_wrong_78 : decode cX1_wrong 78 = .ok (.iload 8, 2) := dk_21 8 (dk_at dksX1_wrong_3 6 rfl rfl)
theorem dX1_wrong_80 : decode cX1_wrong 80 = .ok (.laload, 1) := dk_47 (dk_at dksX1_wrong_3 8 rfl rfl)
theorem dX1_wrong_81 : decode cX1_wrong 81 = .ok (.bipush 100, 2) := dk_16 100 (dk_at dksX1_wrong_3 9 rfl rfl)
theorem dX1_wrong_83 : decode cX1_wrong 83 = .ok (.iload 7, 2) := dk_21 7 (dk_at dksX1_wrong_3 11 rfl rfl)
theorem dX1_wrong_85 : decode cX1_wrong 85 = .ok (.isub, 1) := dk_100 (dk_at dksX1_wrong_3 13 rfl rfl)
theorem dX1_wrong_86 : decode cX1_wrong 86 = .ok (.i2l, 1) := dk_133 (dk_at dksX1_wrong_3 14 rfl rfl)
theorem dX1_wrong_87 : decode cX1_wrong 87 = .ok (.lmul, 1) := dk_105 (dk_at dksX1_wrong_3 15 rfl rfl)
theorem dX1_wrong_88 : decode cX1_wrong 88 = .ok (.goto 4, 3) := dk_167 0 4 (dk_at dksX1_wrong_3 16 rfl rfl)
theorem dX1_wrong_91 : decode cX1_wrong 91 = .ok (.lconst 0, 1) := dk_9 (dk_at dksX1_wrong_3 19 rfl rfl)
theorem dX1_wrong_92 : decode cX1_wrong 92 = .ok (.iload 8, 2) := dk_21 8 (dk_at dksX1_wrong_3 20 rfl rfl)
theorem dX1_wrong_94 : decode cX1_wrong 94 = .ok (.ifCond .le 16, 3) := dk_158 0 16 (dk_at dksX1_wrong_4 0 rfl rfl)
theorem dX1_wrong_97 : decode cX1_wrong 97 = .ok (.aload_n 3, 1) := dk_45 (dk_at dksX1_wrong_4 3 rfl rfl)
theorem dX1_wrong_98 : decode cX1_wrong 98 = .ok (.iload 8, 2) := dk_21 8 (dk_at dksX1_wrong_4 4 rfl rfl)
theorem dX1_wrong_100 : decode cX1_wrong 100 = .ok (.iconst 1, 1) := dk_4 (dk_at dksX1_wrong_4 6 rfl rfl)
theorem dX1_wrong_101 : decode cX1_wrong 101 = .ok (.isub, 1) := dk_100 (dk_at dksX1_wrong_4 7 rfl rfl)
theorem dX1_wrong_102 : decode cX1_wrong 102 = .ok (.laload, 1) := dk_47 (dk_at dksX1_wrong_4 8 rfl rfl)
theorem dX1_wrong_103 : decode cX1_wrong 103 = .ok (.iload 7, 2) := dk_21 7 (dk_at dksX1_wrong_4 9 rfl rfl)
theorem dX1_wrong_105 : decode cX1_wrong 105 = .ok (.i2l, 1) := dk_133 (dk_at dksX1_wrong_4 11 rfl rfl)
theorem dX1_wrong_106 : decode cX1_wrong 106 = .ok (.lmul, 1) := dk_105 (dk_at dksX1_wrong_4 12 rfl rfl)
theorem dX1_wrong_107 : decode cX1_wrong 107 = .ok (.goto 4, 3) := dk_167 0 4 (dk_at dksX1_wrong_4 13 rfl rfl)
theorem dX1_wrong_110 : decode cX1_wrong 110 = .ok (.lconst 0, 1) := dk_9 (dk_at dksX1_wrong_4 16 rfl rfl)
theorem dX1_wrong_111 : decode cX1_wrong 111 = .ok (.ladd, 1) := dk_97 (dk_at dksX1_wrong_4 17 rfl rfl)
theorem dX1_wrong_112 : decode cX1_wrong 112 = .ok (.lastore, 1) := dk_80 (dk_at dksX1_wrong_4 18 rfl rfl)
theorem dX1_wrong_113 : decode cX1_wrong 113 = .ok (.iinc 8 (-1), 3) := dk_132 8 255 (dk_at dksX1_wrong_4 19 rfl rfl)
theorem dX1_wrong_116 : decode cX1_wrong 116 = .ok (.goto (-54), 3) := dk_167 255 202 (dk_at dksX1_wrong_5 0 rfl rfl)
theorem dX1_wrong_119 : decode cX1_wrong 119 = .ok (.lload 4, 2) := dk_22 4 (dk_at dksX1_wrong_5 3 rfl rfl)
theorem dX1_wrong_121 : decode cX1_wrong 121 = .ok (.ldc2_w 373, 3) := dk_20 1 117 (dk_at dksX1_wrong_5 5 rfl rfl)
theorem dX1_wrong_124 : decode cX1_wrong 124 = .ok (.lmul, 1) := dk_105 (dk_at dksX1_wrong_5 8 rfl rfl)
theorem dX1_wrong_125 : decode cX1_wrong 125 = .ok (.lstore 4, 2) := dk_55 4 (dk_at dksX1_wrong_5 9 rfl rfl)
theorem dX1_wrong_127 : decode cX1_wrong 127 = .ok (.iinc 6 1, 3) := dk_132 6 1 (dk_at dksX1_wrong_5 11 rfl rfl)
theorem dX1_wrong_130 : decode cX1_wrong 130 = .ok (.goto (-92), 3) := dk_167 255 164 (dk_at dksX1_wrong_5 14 rfl rfl)
theorem dX1_wrong_133 : decode cX1_wrong 133 = .ok (.lconst 0, 1) := dk_9 (dk_at dksX1_wrong_5 17 rfl rfl)
theorem dX1_wrong_134 : decode cX1_wrong 134 = .ok (.lstore 6, 2) := dk_55 6 (dk_at dksX1_wrong_5 18 rfl rfl)
theorem dX1_wrong_136 : decode cX1_wrong 136 = .ok (.iload_n 1, 1) := dk_27 (dk_at dksX1_wrong_5 20 rfl rfl)
theorem dX1_wrong_137 : decode cX1_wrong 137 = .ok (.istore 8, 2) := dk_54 8 (dk_at dksX1_wrong_5 21 rfl rfl)
theorem dX1_wrong_139 : decode cX1_wrong 139 = .ok (.iload 8, 2) := dk_21 8 (dk_at dksX1_wrong_6 0 rfl rfl)
theorem dX1_wrong_141 : decode cX1_wrong 141 = .ok (.iload_n 2, 1) := dk_28 (dk_at dksX1_wrong_6 2 rfl rfl)
theorem dX1_wrong_142 : decode cX1_wrong 142 = .ok (.if_icmp .gt 18, 3) := dk_163 0 18 (dk_at dksX1_wrong_6 3 rfl rfl)
theorem dX1_wrong_145 : decode cX1_wrong 145 = .ok (.lload 6, 2) := dk_22 6 (dk_at dksX1_wrong_6 6 rfl rfl)
theorem dX1_wrong_147 : decode cX1_wrong 147 = .ok (.aload_n 3, 1) := dk_45 (dk_at dksX1_wrong_6 8 rfl rfl)
theorem dX1_wrong_148 : decode cX1_wrong 148 = .ok (.iload 8, 2) := dk_21 8 (dk_at dksX1_wrong_6 9 rfl rfl)
theorem dX1_wrong_150 : decode cX1_wrong 150 = .ok (.laload, 1) := dk_47 (dk_at dksX1_wrong_6 11 rfl rfl)
theorem dX1_wrong_151 : decode cX1_wrong 151 = .ok (.ladd, 1) := dk_97 (dk_at dksX1_wrong_6 12 rfl rfl)
theorem dX1_wrong_152 : decode cX1_wrong 152 = .ok (.lstore 6, 2) := dk_55 6 (dk_at dksX1_wrong_6 13 rfl rfl)
theorem dX1_wrong_154 : decode cX1_wrong 154 = .ok (.iinc 8 1, 3) := dk_132 8 1 (dk_at dksX1_wrong_6 15 rfl rfl)
theorem dX1_wrong_157 : decode cX1_wrong 157 = .ok (.goto (-18), 3) := dk_167 255 238 (dk_at dksX1_wrong_6 18 rfl rfl)
theorem dX1_wrong_160 : decode cX1_wrong 160 = .ok (.aload_n 0, 1) := dk_42 (dk_at dksX1_wrong_6 21 rfl rfl)
theorem dX1_wrong_161 : decode cX1_wrong 161 = .ok (.lload 6, 2) := dk_22 6 (dk_at dksX1_wrong_6 22 rfl rfl)
theorem dX1_wrong_163 : decode cX1_wrong 163 = .ok (.lload 4, 2) := dk_22 4 (dk_at dksX1_wrong_7 0 rfl rfl)
theorem dX1_wrong_165 : decode cX1_wrong 165 = .ok (.invokevirtual 375, 3) := dk_182 1 119 (dk_at dksX1_wrong_7 2 rfl rfl)
theorem dX1_wrong_168 : decode cX1_wrong 168 = .ok (.iconst 0, 1) := dk_3 (dk_at dksX1_wrong_7 5 rfl rfl)
theorem dX1_wrong_169 : decode cX1_wrong 169 = .ok (.ireturn, 1) := dk_172 (dk_at dksX1_wrong_7 6 rfl rfl)
