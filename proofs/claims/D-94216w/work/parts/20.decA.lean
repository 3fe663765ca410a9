set_option maxRecDepth 100000
def dkwX0_value_0 : List UInt8 := [45, 3, 42, 27, 28, 182, 0, 7, 133, 80, 167, 0, 7, 58, 4, 4, 172, 3, 172]
abbrev dktX0_value_0 : List UInt8 := dkwX0_value_0 ++ []
theorem dksX0_value_0 : cX0_value.data.toList.drop 0 = dktX0_value_0 := by decide +kernel
theorem dX0_value_0 : decode cX0_value 0 = .ok (.aload_n 3, 1) := dk_45 (dk_at dksX0_value_0 0 rfl rfl)
theorem dX0_value_1 : decode cX0_value 1 = .ok (.iconst 0, 1) := dk_3 (dk_at dksX0_value_0 1 rfl rfl)
theorem dX0_value_2 : decode cX0_value 2 = .ok (.aload_n 0, 1) := dk_42 (dk_at dksX0_value_0 2 rfl rfl)
theorem dX0_value_3 : decode cX0_value 3 = .ok (.iload_n 1, 1) := dk_27 (dk_at dksX0_value_0 3 rfl rfl)
theorem dX0_value_4 : decode cX0_value 4 = .ok (.iload_n 2, 1) := dk_28 (dk_at dksX0_value_0 4 rfl rfl)
theorem dX0_value_5 : decode cX0_value 5 = .ok (.invokevirtual 7, 3) := dk_182 0 7 (dk_at dksX0_value_0 5 rfl rfl)
theorem dX0_value_8 : decode cX0_value 8 = .ok (.i2l, 1) := dk_133 (dk_at dksX0_value_0 8 rfl rfl)
theorem dX0_value_9 : decode cX0_value 9 = .ok (.lastore, 1) := dk_80 (dk_at dksX0_value_0 9 rfl rfl)
theorem dX0_value_10 : decode cX0_value 10 = .ok (.goto 7, 3) := dk_167 0 7 (dk_at dksX0_value_0 10 rfl rfl)
theorem dX0_value_13 : decode cX0_value 13 = .ok (.astore 4, 2) := dk_58 4 (dk_at dksX0_value_0 13 rfl rfl)
theorem dX0_value_15 : decode cX0_value 15 = .ok (.iconst 1, 1) := dk_4 (dk_at dksX0_value_0 15 rfl rfl)
theorem dX0_value_16 : decode cX0_value 16 = .ok (.ireturn, 1) := dk_172 (dk_at dksX0_value_0 16 rfl rfl)
theorem dX0_value_17 : decode cX0_value 17 = .ok (.iconst 0, 1) := dk_3 (dk_at dksX0_value_0 17 rfl rfl)
theorem dX0_value_18 : decode cX0_value 18 = .ok (.ireturn, 1) := dk_172 (dk_at dksX0_value_0 18 rfl rfl)
def dkwX0_of_0 : List UInt8 := [45, 3, 42, 27, 28, 182, 0, 15, 133, 80, 167, 0, 7, 58, 4, 4, 172, 3, 172]
abbrev dktX0_of_0 : List UInt8 := dkwX0_of_0 ++ []
theorem dksX0_of_0 : cX0_of.data.toList.drop 0 = dktX0_of_0 := by decide +kernel
theorem dX0_of_0 : decode cX0_of 0 = .ok (.aload_n 3, 1) := dk_45 (dk_at dksX0_of_0 0 rfl rfl)
theorem dX0_of_1 : decode cX0_of 1 = .ok (.iconst 0, 1) := dk_3 (dk_at dksX0_of_0 1 rfl rfl)
theorem dX0_of_2 : decode cX0_of 2 = .ok (.aload_n 0, 1) := dk_42 (dk_at dksX0_of_0 2 rfl rfl)
theorem dX0_of_3 : decode cX0_of 3 = .ok (.iload_n 1, 1) := dk_27 (dk_at dksX0_of_0 3 rfl rfl)
theorem dX0_of_4 : decode cX0_of 4 = .ok (.iload_n 2, 1) := dk_28 (dk_at dksX0_of_0 4 rfl rfl)
theorem dX0_of_5 : decode cX0_of 5 = .ok (.invokevirtual 15, 3) := dk_182 0 15 (dk_at dksX0_of_0 5 rfl rfl)
theorem dX0_of_8 : decode cX0_of 8 = .ok (.i2l, 1) := dk_133 (dk_at dksX0_of_0 8 rfl rfl)
theorem dX0_of_9 : decode cX0_of 9 = .ok (.lastore, 1) := dk_80 (dk_at dksX0_of_0 9 rfl rfl)
theorem dX0_of_10 : decode cX0_of 10 = .ok (.goto 7, 3) := dk_167 0 7 (dk_at dksX0_of_0 10 rfl rfl)
theorem dX0_of_13 : decode cX0_of 13 = .ok (.astore 4, 2) := dk_58 4 (dk_at dksX0_of_0 13 rfl rfl)
theorem dX0_of_15 : decode cX0_of 15 = .ok (.iconst 1, 1) := dk_4 (dk_at dksX0_of_0 15 rfl rfl)
theorem dX0_of_16 : decode cX0_of 16 = .ok (.ireturn, 1) := dk_172 (dk_at dksX0_of_0 16 rfl rfl)
theorem dX0_of_17 : decode cX0_of 17 = .ok (.iconst 0, 1) := dk_3 (dk_at dksX0_of_0 17 rfl rfl)
theorem dX0_of_18 : decode cX0_of 18 = .ok (.ireturn, 1) := dk_172 (dk_at dksX0_of_0 18 rfl rfl)
def dkwX0_row_0 : List UInt8 := [44, 3, 42, 27, 182, 0, 18, 80, 167, 0, 6, 78, 4, 172, 3, 172]
abbrev dktX0_row_0 : List UInt8 := dkwX0_row_0 ++ []
theorem dksX0_row_0 : cX0_row.data.toList.drop 0 = dktX0_row_0 := by decide +kernel
theorem dX0_row_0 : decode cX0_row 0 = .ok (.aload_n 2, 1) := dk_44 (dk_at dksX0_row_0 0 rfl rfl)
theorem dX0_row_1 : decode cX0_row 1 = .ok (.iconst 0, 1) := dk_3 (dk_at dksX0_row_0 1 rfl rfl)
theorem dX0_row_2 : decode cX0_row 2 = .ok (.aload_n 0, 1) := dk_42 (dk_at dksX0_row_0 2 rfl rfl)
theorem dX0_row_3 : decode cX0_row 3 = .ok (.iload_n 1, 1) := dk_27 (dk_at dksX0_row_0 3 rfl rfl)
theorem dX0_row_4 : decode cX0_row 4 = .ok (.invokevirtual 18, 3) := dk_182 0 18 (dk_at dksX0_row_0 4 rfl rfl)
theorem dX0_row_7 : decode cX0_row 7 = .ok (.lastore, 1) := dk_80 (dk_at dksX0_row_0 7 rfl rfl)
theorem dX0_row_8 : decode cX0_row 8 = .ok (.goto 6, 3) := dk_167 0 6 (dk_at dksX0_row_0 8 rfl rfl)
theorem dX0_row_11 : decode cX0_row 11 = .ok (.astore_n 3, 1) := dk_78 (dk_at dksX0_row_0 11 rfl rfl)
theorem dX0_row_12 : decode cX0_row 12 = .ok (.iconst 1, 1) := dk_4 (dk_at dksX0_row_0 12 rfl rfl)
theorem dX0_row_13 : decode cX0_row 13 = .ok (.ireturn, 1) := dk_172 (dk_at dksX0_row_0 13 rfl rfl)
theorem dX0_row_14 : decode cX0_row 14 = .ok (.iconst 0, 1) := dk_3 (dk_at dksX0_row_0 14 rfl rfl)
theorem dX0_row_15 : decode cX0_row 15 = .ok (.ireturn, 1) := dk_172 (dk_at dksX0_row_0 15 rfl rfl)
def dkwX2_init_1 : List UInt8 := [42, 16, 6, 16, 6, 197, 0, 24, 2, 181, 0, 26, 177]
abbrev dktX2_init_1 : List UInt8 := dkwX2_init_1 ++ []
def dkwX2_init_0 : List UInt8 := [42, 183, 0, 3, 42, 16, 6, 189, 0, 9, 181, 0, 11, 42, 7, 181, 0, 17, 42, 16, 10, 181, 0, 21]
abbrev dktX2_init_0 : List UInt8 := dkwX2_init_0 ++ dktX2_init_1
theorem dksX2_init_0 : cX2_init.data.toList.drop 0 = dktX2_init_0 := by decide +kernel
theorem dksX2_init_1 : cX2_init.data.toList.drop 24 = dktX2_init_1 := dk_seg dksX2_init_0 24 rfl rfl
theorem dX2_init_0 : decode cX2_init 0 = .ok (.aload_n 0, 1) := dk_42 (dk_at dksX2_init_0 0 rfl rfl)
theorem dX2_init_1 : decode cX2_init 1 = .ok (.invokespecial 3, 3) := dk_183 0 3 (dk_at dksX2_init_0 1 rfl rfl)
theorem dX2_init_4 : decode cX2_init 4 = .ok (.aload_n 0, 1) := dk_42 (dk_at dksX2_init_0 4 rfl rfl)
theorem dX2_init_5 : decode cX2_init 5 = .ok (.bipush 6, 2) := dk_16 6 (dk_at dksX2_init_0 5 rfl rfl)
theorem dX2_init_7 : decode cX2_init 7 = .ok (.anewarray 9, 3) := dk_189 0 9 (dk_at dksX2_init_0 7 rfl rfl)
theorem dX2_init_10 : decode cX2_init 10 = .ok (.putfield 11, 3) := dk_181 0 11 (dk_at dksX2_init_0 10 rfl rfl)
theorem dX2_init_13 : decode cX2_init 13 = .ok (.aload_n 0, 1) := dk_42 (dk_at dksX2_init_0 13 rfl rfl)
theorem dX2_init_14 : decode cX2_init 14 = .ok (.iconst 4, 1) := dk_7 (dk_at dksX2_init_0 14 rfl rfl)
theorem dX2_init_15 : decode cX2_init 15 = .ok (.putfield 17, 3) := dk_181 0 17 (dk_at dksX2_init_0 15 rfl rfl)
theorem dX2_init_18 : decode cX2_init 18 = .ok (.aload_n 0, 1) := dk_42 (dk_at dksX2_init_0 18 rfl rfl)
theorem dX2_init_19 : decode cX2_init 19 = .ok (.bipush 10, 2) := dk_16 10 (dk_at dksX2_init_0 19 rfl rfl)
theorem dX2_init_21 : decode cX2_init 21 = .ok (.putfield 21, 3) := dk_181 0 21 (dk_at dksX2_init_0 21 rfl rfl)
theorem dX2_init_24 : decode cX2_init 24 = .ok (.aload_n 0, 1) := dk_42 (dk_at dksX2_init_1 0 rfl rfl)
theorem dX2_init_25 : decode cX2_init 25 = .ok (.bipush 6, 2) := dk_16 6 (dk_at dksX2_init_1 1 rfl rfl)
theorem dX2_init_27 : decode cX2_init 27 = .ok (.bipush 6, 2) := dk_16 6 (dk_at dksX2_init_1 3 rfl rfl)
theorem dX2_init_29 : decode cX2_init 29 = .ok (.multianewarray 24 2, 4) := by decide +kernel
theorem dX2_init_33 : decode cX2_init 33 = .ok (.putfield 26, 3) := dk_181 0 26 (dk_at dksX2_init_1 9 rfl rfl)
theorem dX2_init_36 : decode cX2_init 36 = .ok (.return_, 1) := dk_177 (dk_at dksX2_init_1 12 rfl rfl)
def dkwX2_add_1 : List UInt8 := [16, 9, 79, 42, 89, 180, 0, 29, 4, 96, 181, 0, 29, 42, 180, 0, 29, 4, 100, 172]
abbrev dktX2_add_1 : List UInt8 := dkwX2_add_1 ++ []
def dkwX2_add_0 : List UInt8 := [42, 180, 0, 11, 42, 180, 0, 29, 43, 83, 42, 180, 0, 26, 42, 180, 0, 29, 50, 42, 180, 0, 29]
abbrev dktX2_add_0 : List UInt8 := dkwX2_add_0 ++ dktX2_add_1
theorem dksX2_add_0 : cX2_add.data.toList.drop 0 = dktX2_add_0 := by decide +kernel
theorem dksX2_add_1 : cX2_add.data.toList.drop 23 = dktX2_add_1 := dk_seg dksX2_add_0 23 rfl rfl
theorem dX2_add_0 : decode cX2_add 0 = .ok (.aload_n 0, 1) := dk_42 (dk_at dksX2_add_0 0 rfl rfl)
theorem dX2_add_1 : decode cX2_add 1 = .ok (.getfield 11, 3) := dk_180 0 11 (dk_at dksX2_add_0 1 rfl rfl)
theorem dX2_add_4 : decode cX2_add 4 = .ok (.aload_n 0, 1) := dk_42 (dk_at dksX2_add_0 4 rfl rfl)
theorem dX2_add_5 : decode cX2_add 5 = .ok (.getfield 29, 3) := dk_180 0 29 (dk_at dksX2_add_0 5 rfl rfl)
theorem dX2_add_8 : decode cX2_add 8 = .ok (.aload_n 1, 1) := dk_43 (dk_at dksX2_add_0 8 rfl rfl)
theorem dX2_add_9 : decode cX2_add 9 = .ok (.aastore, 1) := dk_83 (dk_at dksX2_add_0 9 rfl rfl)
theorem dX2_add_10 : decode cX2_add 10 = .ok (.aload_n 0, 1) := dk_42 (dk_at dksX2_add_0 10 rfl rfl)
theorem dX2_add_11 : decode cX2_add 11 = .ok (.getfield 26, 3) := dk_180 0 26 (dk_at dksX2_add_0 11 rfl rfl)
theorem dX2_add_14 : decode cX2_add 14 = .ok (.aload_n 0, 1) := dk_42 (dk_at dksX2_add_0 14 rfl rfl)
theorem dX2_add_15 : decode cX2_add 15 = .ok (.getfield 29, 3) := dk_180 0 29 (dk_at dksX2_add_0 15 rfl rfl)
theorem dX2_add_18 : decode cX2_add 18 = .ok (.aaload, 1) := dk_50 (dk_at dksX2_add_0 18 rfl rfl)
theorem dX2_add_19 : decode cX2_add 19 = .ok (.aload_n 0, 1) := dk_42 (dk_at dksX2_add_0 19 rfl rfl)
theorem dX2_add_20 : decode cX2_add 20 = .ok (.getfield 29, 3) := dk_180 0 29 (dk_at dksX2_add_0 20 rfl rfl)
theorem dX2_add_23 : decode cX2_add 23 = .ok (.bipush 9, 2) := dk_16 9 (dk_at dksX2_add_1 0 rfl rfl)
theorem dX2_add_25 : decode cX2_add 25 = .ok (.iastore, 1) := dk_79 (dk_at dksX2_add_1 2 rfl rfl)
theorem dX2_add_26 : decode cX2_add 26 = .ok (.aload_n 0, 1) := dk_42 (dk_at dksX2_add_1 3 rfl rfl)
theorem dX2_add_27 : decode cX2_add 27 = .ok (.dup, 1) := dk_89 (dk_at dksX2_add_1 4 rfl rfl)
theorem dX2_add_28 : decode cX2_add 28 = .ok (.getfield 29, 3) := dk_180 0 29 (dk_at dksX2_add_1 5 rfl rfl)
theorem dX2_add_31 : decode cX2_add 31 = .ok (.iconst 1, 1) := dk_4 (dk_at dksX2_add_1 8 rfl rfl)
theorem dX2_add_32 : decode cX2_add 32 = .ok (.iadd, 1) := dk_96 (dk_at dksX2_add_1 9 rfl rfl)
theorem dX2_add_33 : decode cX2_add 33 = .ok (.putfield 29, 3) := dk_181 0 29 (dk_at dksX2_add_1 10 rfl rfl)
theorem dX2_add_36 : decode cX2_add 36 = .ok (.aload_n 0, 1) := dk_42 (dk_at dksX2_add_1 13 rfl rfl)
theorem dX2_add_37 : decode cX2_add 37 = .ok (.getfield 29, 3) := dk_180 0 29 (dk_at dksX2_add_1 14 rfl rfl)
theorem dX2_add_40 : decode cX2_add 40 = .ok (.iconst 1, 1) := dk_4 (dk_at dksX2_add_1 17 rfl rfl)
theorem dX2_add_41 : decode cX2_add 41 = .ok (.isub, 1) := dk_100 (dk_at dksX2_add_1 18 rfl rfl)
theorem dX2_add_42 : decode cX2_add 42 = .ok (.ireturn, 1) := dk_172 (dk_at dksX2_add_1 19 rfl rfl)
def dkwX2_know_0 : List UInt8 := [42, 180, 0, 26, 27, 50, 28, 29, 79, 42, 180, 0, 26, 28, 50, 27, 29, 79, 177]
abbrev dktX2_know_0 : List UInt8 := dkwX2_know_0 ++ []
theorem dksX2_know_0 : cX2_know.data.toList.drop 0 = dktX2_know_0 := by decide +kernel
theorem dX2_know_0 : decode cX2_know 0 = .ok (.aload_n 0, 1) := dk_42 (dk_at dksX2_know_0 0 rfl rfl)
theorem dX2_know_1 : decode cX2_know 1 = .ok (.getfield 26, 3) := dk_180 0 26 (dk_at dksX2_know_0 1 rfl rfl)
theorem dX2_know_4 : decode cX2_know 4 = .ok (.iload_n 1, 1) := dk_27 (dk_at dksX2_know_0 4 rfl rfl)
theorem dX2_know_5 : decode cX2_know 5 = .ok (.aaload, 1) := dk_50 (dk_at dksX2_know_0 5 rfl rfl)
theorem dX2_know_6 : decode cX2_know 6 = .ok (.iload_n 2, 1) := dk_28 (dk_at dksX2_know_0 6 rfl rfl)
theorem dX2_know_7 : decode cX2_know 7 = .ok (.iload_n 3, 1) := dk_29 (dk_at dksX2_know_0 7 rfl rfl)
theorem dX2_know_8 : decode cX2_know 8 = .ok (.iastore, 1) := dk_79 (dk_at dksX2_know_0 8 rfl rfl)
theorem dX2_know_9 : decode cX2_know 9 = .ok (.aload_n 0, 1) := dk_42 (dk_at dksX2_know_0 9 rfl rfl)
theorem dX2_know_10 : decode cX2_know 10 = .ok (.getfield 26, 3) := dk_180 0 26 (dk_at dksX2_know_0 10 rfl rfl)
theorem dX2_know_13 : decode cX2_know 13 = .ok (.iload_n 2, 1) := dk_28 (dk_at dksX2_know_0 13 rfl rfl)
theorem dX2_know_14 : decode cX2_know 14 = .ok (.aaload, 1) := dk_50 (dk_at dksX2_know_0 14 rfl rfl)
theorem dX2_know_15 : decode cX2_know 15 = .ok (.iload_n 1, 1) := dk_27 (dk_at dksX2_know_0 15 rfl rfl)
theorem dX2_know_16 : decode cX2_know 16 = .ok (.iload_n 3, 1) := dk_29 (dk_at dksX2_know_0 16 rfl rfl)
theorem dX2_know_17 : decode cX2_know 17 = .ok (.iastore, 1) := dk_79 (dk_at dksX2_know_0 17 rfl rfl)
theorem dX2_know_18 : decode cX2_know 18 = .ok (.return_, 1) := dk_177 (dk_at dksX2_know_0 18 rfl rfl)
def dkwX2_overlap_2 : List UInt8 := [167, 0, 4, 3, 96, 54, 4, 132, 5, 1, 167, 255, 206, 21, 4, 172]
abbrev dktX2_overlap_2 : List UInt8 := dkwX2_overlap_2 ++ []
def dkwX2_overlap_1 : List UInt8 := [21, 5, 182, 0, 42, 153, 0, 21, 42, 180, 0, 11, 28, 50, 21, 5, 182, 0, 42, 153, 0, 7, 4]
abbrev dktX2_overlap_1 : List UInt8 := dkwX2_overlap_1 ++ dktX2_overlap_2
def dkwX2_overlap_0 : List UInt8 := [3, 54, 4, 29, 54, 5, 21, 5, 29, 16, 24, 96, 162, 0, 47, 21, 4, 42, 180, 0, 11, 27, 50]
abbrev dktX2_overlap_0 : List UInt8 := dkwX2_overlap_0 ++ dktX2_overlap_1
theorem dksX2_overlap_0 : cX2_overlap.data.toList.drop 0 = dktX2_overlap_0 := by decide +kernel
theorem dksX2_overlap_1 : cX2_overlap.data.toList.drop 23 = dktX2_overlap_1 := dk_seg dksX2_overlap_0 23 rfl rfl
theorem dksX2_overlap_2 : cX2_overlap.data.toList.drop 46 = dktX2_overlap_2 := dk_seg dksX2_overlap_1 23 rfl rfl
theorem dX2_overlap_0 : decode cX2_overlap 0 = .ok (.iconst 0, 1) := dk_3 (dk_at dksX2_overlap_0 0 rfl rfl)
theorem dX2_overlap_1 : decode cX2_overlap 1 = .ok (.istore 4, 2) := dk_54 4 (dk_at dksX2_overlap_0 1 rfl rfl)
theorem dX2_overlap_3 : decode cX2_overlap 3 = .ok (.iload_n 3, 1) := dk_29 (dk_at dksX2_overlap_0 3 rfl rfl)
theorem dX2_overlap_4 : decode cX2_overlap 4 = .ok (.istore 5, 2) := dk_54 5 (dk_at dksX2_overlap_0 4 rfl rfl)
theorem dX2_overlap_6 : decode cX2_overlap 6 = .ok (.iload 5, 2) := dk_21 5 (dk_at dksX2_overlap_0 6 rfl rfl)
theorem dX2_overlap_8 : decode cX2_overlap 8 = .ok (.iload_n 3, 1) := dk_29 (dk_at dksX2_overlap_0 8 rfl rfl)
theorem dX2_overlap_9 : decode cX2_overlap 9 = .ok (.bipush 24, 2) := dk_16 24 (dk_at dksX2_overlap_0 9 rfl rfl)
theorem dX2_overlap_11 : decode cX2_overlap 11 = .ok (.iadd, 1) := dk_96 (dk_at dksX2_overlap_0 11 rfl rfl)
theorem dX2_overlap_12 : decode cX2_overlap 12 = .ok (.if_icmp .ge 47, 3) := dk_162 0 47 (dk_at dksX2_overlap_0 12 rfl rfl)
theorem dX2_overlap_15 : decode cX2_overlap 15 = .ok (.iload 4, 2) := dk_21 4 (dk_at dksX2_overlap_0 15 rfl rfl)
theorem dX2_overlap_17 : decode cX2_overlap 17 = .ok (.aload_n 0, 1) := dk_42 (dk_at dksX2_overlap_0 17 rfl rfl)
theorem dX2_overlap_18 : decode cX2_overlap 18 = .ok (.getfield 11, 3) := dk_180 0 11 (dk_at dksX2_overlap_0 18 rfl rfl)
theorem dX2_overlap_21 : decode cX2_overlap 21 = .ok (.iload_n 1, 1) := dk_27 (dk_at dksX2_overlap_0 21 rfl rfl)
theorem dX2_overlap_22 : decode cX2_overlap 22 = .ok (.aaload, 1) := dk_50 (dk_at dksX2_overlap_0 22 rfl rfl)
theorem dX2_overlap_23 : decode cX2_overlap 23 = .ok (.iload 5, 2) := dk_21 5 (dk_at dksX2_overlap_1 0 rfl rfl)
theorem dX2_overlap_25 : decode cX2_overlap 25 = .ok (.invokevirtual 42, 3) := dk_182 0 42 (dk_at dksX2_overlap_1 2 rfl rfl)
theorem dX2_overlap_28 : decode cX2_overlap 28 = .ok (.ifCond .eq 21, 3) := dk_153 0 21 (dk_at dksX2_overlap_1 5 rfl rfl)
theorem dX2_overlap_31 : decode cX2_overlap 31 = .ok (.aload_n 0, 1) := dk_42 (dk_at dksX2_overlap_1 8 rfl rfl)
theorem dX2_overlap_32 : decode cX2_overlap 32 = .ok (.getfield 11, 3) := dk_180 0 11 (dk_at dksX2_overlap_1 9 rfl rfl)
theorem dX2_overlap_35 : decode cX2_overlap 35 = .ok (.iload_n 2, 1) := dk_28 (dk_at dksX2_overlap_1 12 rfl rfl)
theorem dX2_overlap_36 : decode cX2_overlap 36 = .ok (.aaload, 1) := dk_50 (dk_at dksX2_overlap_1 13 rfl rfl)
theorem dX2_overlap_37 : decode cX2_overlap 37 = .ok (.iload 5, 2) := dk_21 5 (dk_at dksX2_overlap_1 14 rfl rfl)
theorem dX2_overlap_39 : decode cX2_overlap 39 = .ok (.invokevirtual 42, 3) := dk_182 0 42 (dk_at dksX2_overlap_1 16 rfl rfl)
theorem dX2_overlap_42 : decode cX2_overlap 42 = .ok (.ifCond .eq 7, 3) := dk_153 0 7 (dk_at dksX2_overlap_1 19 rfl rfl)
theorem dX2_overlap_45 : decode cX2_overlap 45 = .ok (.iconst 1, 1) := dk_4 (dk_at dksX2_overlap_1 22 rfl rfl)
theorem dX2_overlap_46 : decode cX2_overlap 46 = .ok (.goto 4, 3) := dk_167 0 4 (dk_at dksX2_overlap_2 0 rfl rfl)
theorem dX2_overlap_49 : decode cX2_overlap 49 = .ok (.iconst 0, 1) := dk_3 (dk_at dksX2_overlap_2 3 rfl rfl)
theorem dX2_overlap_50 : decode cX2_overlap 50 = .ok (.iadd, 1) := dk_96 (dk_at dksX2_overlap_2 4 rfl rfl)
theorem dX2_overlap_51 : decode cX2_overlap 51 = .ok (.istore 4, 2) := dk_54 4 (dk_at dksX2_overlap_2 5 rfl rfl)
theorem dX2_overlap_53 : decode cX2_overlap 53 = .ok (.iinc 5 1, 3) := dk_132 5 1 (dk_at dksX2_overlap_2 7 rfl rfl)
theorem dX2_overlap_56 : decode cX2_overlap 56 = .ok (.goto (-50), 3) := dk_167 255 206 (dk_at dksX2_overlap_2 10 rfl rfl)
theorem dX2_overlap_59 : decode cX2_overlap 59 = .ok (.iload 4, 2) := dk_21 4 (dk_at dksX2_overlap_2 13 rfl rfl)
theorem dX2_overlap_61 : decode cX2_overlap 61 = .ok (.ireturn, 1) := dk_172 (dk_at dksX2_overlap_2 15 rfl rfl)
def dkwX2_lost_1 : List UInt8 := [184, 0, 46, 42, 27, 28, 29, 182, 0, 52, 154, 0, 7, 5, 167, 0, 4, 3, 96, 172]
abbrev dktX2_lost_1 : List UInt8 := dkwX2_lost_1 ++ []
def dkwX2_lost_0 : List UInt8 := [27, 28, 160, 0, 7, 3, 167, 0, 36, 3, 42, 180, 0, 17, 42, 180, 0, 26, 27, 50, 28, 46, 100]
abbrev dktX2_lost_0 : List UInt8 := dkwX2_lost_0 ++ dktX2_lost_1
theorem dksX2_lost_0 : cX2_lost.data.toList.drop 0 = dktX2_lost_0 := by decide +kernel
theorem dksX2_lost_1 : cX2_lost.data.toList.drop 23 = dktX2_lost_1 := dk_seg dksX2_lost_0 23 rfl rfl
theorem dX2_lost_0 : decode cX2_lost 0 = .ok (.iload_n 1, 1) := dk_27 (dk_at dksX2_lost_0 0 rfl rfl)
theorem dX2_lost_1 : decode cX2_lost 1 = .ok (.iload_n 2, 1) := dk_28 (dk_at dksX2_lost_0 1 rfl rfl)
theorem dX2_lost_2 : decode cX2_lost 2 = .ok (.if_icmp .ne 7, 3) := dk_160 0 7 (dk_at dksX2_lost_0 2 rfl rfl)
theorem dX2_lost_5 : decode cX2_lost 5 = .ok (.iconst 0, 1) := dk_3 (dk_at dksX2_lost_0 5 rfl rfl)
theorem dX2_lost_6 : decode cX2_lost 6 = .ok (.goto 36, 3) := dk_167 0 36 (dk_at dksX2_lost_0 6 rfl rfl)
theorem dX2_lost_9 : decode cX2_lost 9 = .ok (.iconst 0, 1) := dk_3 (dk_at dksX2_lost_0 9 rfl rfl)
theorem dX2_lost_10 : decode cX2_lost 10 = .ok (.aload_n 0, 1) := dk_42 (dk_at dksX2_lost_0 10 rfl rfl)
theorem dX2_lost_11 : decode cX2_lost 11 = .ok (.getfield 17, 3) := dk_180 0 17 (dk_at dksX2_lost_0 11 rfl rfl)
theorem dX2_lost_14 : decode cX2_lost 14 = .ok (.aload_n 0, 1) := dk_42 (dk_at dksX2_lost_0 14 rfl rfl)
theorem dX2_lost_15 : decode cX2_lost 15 = .ok (.getfield 26, 3) := dk_180 0 26 (dk_at dksX2_lost_0 15 rfl rfl)
theorem dX2_lost_18 : decode cX2_lost 18 = .ok (.iload_n 1, 1) := dk_27 (dk_at dksX2_lost_0 18 rfl rfl)
theorem dX2_lost_19 : decode cX2_lost 19 = .ok (.aaload, 1) := dk_50 (dk_at dksX2_lost_0 19 rfl rfl)
theorem dX2_lost_20 : decode cX2_lost 20 = .ok (.iload_n 2, 1) := dk_28 (dk_at dksX2_lost_0 20 rfl rfl)
theorem dX2_lost_21 : decode cX2_lost 21 = .ok (.iaload, 1) := dk_46 (dk_at dksX2_lost_0 21 rfl rfl)
theorem dX2_lost_22 : decode cX2_lost 22 = .ok (.isub, 1) := dk_100 (dk_at dksX2_lost_0 22 rfl rfl)
theorem dX2_lost_23 : decode cX2_lost 23 = .ok (.invokestatic 46, 3) := dk_184 0 46 (dk_at dksX2_lost_1 0 rfl rfl)
theorem dX2_lost_26 : decode cX2_lost 26 = .ok (.aload_n 0, 1) := dk_42 (dk_at dksX2_lost_1 3 rfl rfl)
theorem dX2_lost_27 : decode cX2_lost 27 = .ok (.iload_n 1, 1) := dk_27 (dk_at dksX2_lost_1 4 rfl rfl)
theorem dX2_lost_28 : decode cX2_lost 28 = .ok (.iload_n 2, 1) := dk_28 (dk_at dksX2_lost_1 5 rfl rfl)
theorem dX2_lost_29 : decode cX2_lost 29 = .ok (.iload_n 3, 1) := dk_29 (dk_at dksX2_lost_1 6 rfl rfl)
theorem dX2_lost_30 : decode cX2_lost 30 = .ok (.invokevirtual 52, 3) := dk_182 0 52 (dk_at dksX2_lost_1 7 rfl rfl)
theorem dX2_lost_33 : decode cX2_lost 33 = .ok (.ifCond .ne 7, 3) := dk_154 0 7 (dk_at dksX2_lost_1 10 rfl rfl)
theorem dX2_lost_36 : decode cX2_lost 36 = .ok (.iconst 2, 1) := dk_5 (dk_at dksX2_lost_1 13 rfl rfl)
theorem dX2_lost_37 : decode cX2_lost 37 = .ok (.goto 4, 3) := dk_167 0 4 (dk_at dksX2_lost_1 14 rfl rfl)
theorem dX2_lost_40 : decode cX2_lost 40 = .ok (.iconst 0, 1) := dk_3 (dk_at dksX2_lost_1 17 rfl rfl)
theorem dX2_lost_41 : decode cX2_lost 41 = .ok (.iadd, 1) := dk_96 (dk_at dksX2_lost_1 18 rfl rfl)
theorem dX2_lost_42 : decode cX2_lost 42 = .ok (.ireturn, 1) := dk_172 (dk_at dksX2_lost_1 19 rfl rfl)
def dkwX2_hasCraft_0 : List UInt8 := [42, 180, 0, 11, 27, 50, 180, 0, 56, 28, 184, 0, 59, 172]
abbrev dktX2_hasCraft_0 : List UInt8 := dkwX2_hasCraft_0 ++ []
theorem dksX2_hasCraft_0 : cX2_hasCraft.data.toList.drop 0 = dktX2_hasCraft_0 := by decide +kernel
theorem dX2_hasCraft_0 : decode cX2_hasCraft 0 = .ok (.aload_n 0, 1) := dk_42 (dk_at dksX2_hasCraft_0 0 rfl rfl)
theorem dX2_hasCraft_1 : decode cX2_hasCraft 1 = .ok (.getfield 11, 3) := dk_180 0 11 (dk_at dksX2_hasCraft_0 1 rfl rfl)
theorem dX2_hasCraft_4 : decode cX2_hasCraft 4 = .ok (.iload_n 1, 1) := dk_27 (dk_at dksX2_hasCraft_0 4 rfl rfl)
theorem dX2_hasCraft_5 : decode cX2_hasCraft 5 = .ok (.aaload, 1) := dk_50 (dk_at dksX2_hasCraft_0 5 rfl rfl)
theorem dX2_hasCraft_6 : decode cX2_hasCraft 6 = .ok (.getfield 56, 3) := dk_180 0 56 (dk_at dksX2_hasCraft_0 6 rfl rfl)
theorem dX2_hasCraft_9 : decode cX2_hasCraft 9 = .ok (.iload_n 2, 1) := dk_28 (dk_at dksX2_hasCraft_0 9 rfl rfl)
theorem dX2_hasCraft_10 : decode cX2_hasCraft 10 = .ok (.invokestatic 59, 3) := dk_184 0 59 (dk_at dksX2_hasCraft_0 10 rfl rfl)
theorem dX2_hasCraft_13 : decode cX2_hasCraft 13 = .ok (.ireturn, 1) := dk_172 (dk_at dksX2_hasCraft_0 13 rfl rfl)
def dkwX2_wrong_0 : List UInt8 := [42, 180, 0, 21, 16, 10, 42, 180, 0, 26, 27, 50, 28, 46, 100, 104, 16, 10, 108, 172]
abbrev dktX2_wrong_0 : List UInt8 := dkwX2_wrong_0 ++ []
theorem dksX2_wrong_0 : cX2_wrong.data.toList.drop 0 = dktX2_wrong_0 := by decide +kernel
theorem dX2_wrong_0 : decode cX2_wrong 0 = .ok (.aload_n 0, 1) := dk_42 (dk_at dksX2_wrong_0 0 rfl rfl)
theorem dX2_wrong_1 : decode cX2_wrong 1 = .ok (.getfield 21, 3) := dk_180 0 21 (dk_at dksX2_wrong_0 1 rfl rfl)
theorem dX2_wrong_4 : decode cX2_wrong 4 = .ok (.bipush 10, 2) := dk_16 10 (dk_at dksX2_wrong_0 4 rfl rfl)
theorem dX2_wrong_6 : decode cX2_wrong 6 = .ok (.aload_n 0, 1) := dk_42 (dk_at dksX2_wrong_0 6 rfl rfl)
theorem dX2_wrong_7 : decode cX2_wrong 7 = .ok (.getfield 26, 3) := dk_180 0 26 (dk_at dksX2_wrong_0 7 rfl rfl)
theorem dX2_wrong_10 : decode cX2_wrong 10 = .ok (.iload_n 1, 1) := dk_27 (dk_at dksX2_wrong_0 10 rfl rfl)
theorem dX2_wrong_11 : decode cX2_wrong 11 = .ok (.aaload, 1) := dk_50 (dk_at dksX2_wrong_0 11 rfl rfl)
theorem dX2_wrong_12 : decode cX2_wrong 12 = .ok (.iload_n 2, 1) := dk_28 (dk_at dksX2_wrong_0 12 rfl rfl)
theorem dX2_wrong_13 : decode cX2_wrong 13 = .ok (.iaload, 1) := dk_46 (dk_at dksX2_wrong_0 13 rfl rfl)
theorem dX2_wrong_14 : decode cX2_wrong 14 = .ok (.isub, 1) := dk_100 (dk_at dksX2_wrong_0 14 rfl rfl)
theorem dX2_wrong_15 : decode cX2_wrong 15 = .ok (.imul, 1) := dk_104 (dk_at dksX2_wrong_0 15 rfl rfl)
theorem dX2_wrong_16 : decode cX2_wrong 16 = .ok (.bipush 10, 2) := dk_16 10 (dk_at dksX2_wrong_0 16 rfl rfl)
theorem dX2_wrong_18 : decode cX2_wrong 18 = .ok (.idiv, 1) := dk_108 (dk_at dksX2_wrong_0 18 rfl rfl)
theorem dX2_wrong_19 : decode cX2_wrong 19 = .ok (.ireturn, 1) := dk_172 (dk_at dksX2_wrong_0 19 rfl rfl)
def dkwX2_as_3 : List UInt8 := [184, 0, 36, 132, 2, 1, 167, 255, 216, 42, 176]
abbrev dktX2_as_3 : List UInt8 := dkwX2_as_3 ++ []
def dkwX2_as_2 : List UInt8 := [180, 0, 11, 28, 50, 83, 43, 180, 0, 26, 28, 50, 3, 42, 180, 0, 26, 28, 50, 3, 16, 6]
abbrev dktX2_as_2 : List UInt8 := dkwX2_as_2 ++ dktX2_as_3
def dkwX2_as_1 : List UInt8 := [42, 43, 180, 0, 32, 181, 0, 32, 3, 61, 28, 16, 6, 162, 0, 40, 42, 180, 0, 11, 28, 43]
abbrev dktX2_as_1 : List UInt8 := dkwX2_as_1 ++ dktX2_as_2
def dkwX2_as_0 : List UInt8 := [42, 43, 180, 0, 29, 181, 0, 29, 42, 43, 180, 0, 17, 181, 0, 17, 42, 43, 180, 0, 21, 181, 0, 21]
abbrev dktX2_as_0 : List UInt8 := dkwX2_as_0 ++ dktX2_as_1
theorem dksX2_as_0 : cX2_as.data.toList.drop 0 = dktX2_as_0 := by decide +kernel
theorem dksX2_as_1 : cX2_as.data.toList.drop 24 = dktX2_as_1 := dk_seg dksX2_as_0 24 rfl rfl
theorem dksX2_as_2 : cX2_as.data.toList.drop 46 = dktX2_as_2 := dk_seg dksX2_as_1 22 rfl rfl
theorem dksX2_as_3 : cX2_as.data.toList.drop 68 = dktX2_as_3 := dk_seg dksX2_as_2 22 rfl rfl
theorem dX2_as_0 : decode cX2_as 0 = .ok (.aload_n 0, 1) := dk_42 (dk_at dksX2_as_0 0 rfl rfl)
theorem dX2_as_1 : decode cX2_as 1 = .ok (.aload_n 1, 1) := dk_43 (dk_at dksX2_as_0 1 rfl rfl)
theorem dX2_as_2 : decode cX2_as 2 = .ok (.getfield 29, 3) := dk_180 0 29 (dk_at dksX2_as_0 2 rfl rfl)
theorem dX2_as_5 : decode cX2_as 5 = .ok (.putfield 29, 3) := dk_181 0 29 (dk_at dksX2_as_0 5 rfl rfl)
theorem dX2_as_8 : decode cX2_as 8 = .ok (.aload_n 0, 1) := dk_42 (dk_at dksX2_as_0 8 rfl rfl)
theorem dX2_as_9 : decode cX2_as 9 = .ok (.aload_n 1, 1) := dk_43 (dk_at dksX2_as_0 9 rfl rfl)
theorem dX2_as_10 : decode cX2_as 10 = .ok (.getfield 17, 3) := dk_180 0 17 (dk_at dksX2_as_0 10 rfl rfl)
theorem dX2_as_13 : decode cX2_as 13 = .ok (.putfield 17, 3) := dk_181 0 17 (dk_at dksX2_as_0 13 rfl rfl)
theorem dX2_as_16 : decode cX2_as 16 = .ok (.aload_n 0, 1) := dk_42 (dk_at dksX2_as_0 16 rfl rfl)
theorem dX2_as_17 : decode cX2_as 17 = .ok (.aload_n 1, 1) := dk_43 (dk_at dksX2_as_0 17 rfl rfl)
theorem dX2_as_18 : decode cX2_as 18 = .ok (.getfield 21, 3) := dk_180 0 21 (dk_at dksX2_as_0 18 rfl rfl)
theorem dX2_as_21 : decode cX2_as 21 = .ok (.putfield 21, 3) := dk_181 0 21 (dk_at dksX2_as_0 21 rfl rfl)
theorem dX2_as_24 : decode cX2_as 24 = .ok (.aload_n 0, 1) := dk_42 (dk_at dksX2_as_1 0 rfl rfl)
theorem dX2_as_25 : decode cX2_as 25 = .ok (.aload_n 1, 1) := dk_43 (dk_at dksX2_as_1 1 rfl rfl)
theorem dX2_as_26 : decode cX2_as 26 = .ok (.getfield 32, 3) := dk_180 0 32 (dk_at dksX2_as_1 2 rfl rfl)
theorem dX2_as_29 : decode cX2_as 29 = .ok (.putfield 32, 3) := dk_181 0 32 (dk_at dksX2_as_1 5 rfl rfl)
theorem dX2_as_32 : decode cX2_as 32 = .ok (.iconst 0, 1) := dk_3 (dk_at dksX2_as_1 8 rfl rfl)
theorem dX2_as_33 : decode cX2_as 33 = .ok (.istore_n 2, 1) := dk_61 (dk_at dksX2_as_1 9 rfl rfl)
theorem dX2_as_34 : decode cX2_as 34 = .ok (.iload_n 2, 1) := dk_28 (dk_at dksX2_as_1 10 rfl rfl)
theorem dX2_as_35 : decode cX2_as 35 = .ok (.bipush 6, 2) := dk_16 6 (dk_at dksX2_as_1 11 rfl rfl)
theorem dX2_as_37 : decode cX2_as 37 = .ok (.if_icmp .ge 40, 3) := dk_162 0 40 (dk_at dksX2_as_1 13 rfl rfl)
theorem dX2_as_40 : decode cX2_as 40 = .ok (.aload_n 0, 1) := dk_42 (dk_at dksX2_as_1 16 rfl rfl)
theorem dX2_as_41 : decode cX2_as 41 = .ok (.getfield 11, 3) := dk_180 0 11 (dk_at dksX2_as_1 17 rfl rfl)
theorem dX2_as_44 : decode cX2_as 44 = .ok (.iload_n 2, 1) := dk_28 (dk_at dksX2_as_1 20 rfl rfl)
theorem dX2_as_45 : decode cX2_as 45 = .ok (.aload_n 1, 1) := dk_43 (dk_at dksX2_as_1 21 rfl rfl)
theorem dX2_as_46 : decode cX2_as 46 = .ok (.getfield 11, 3) := dk_180 0 11 (dk_at dksX2_as_2 0 rfl rfl)
theorem dX2_as_49 : decode cX2_as 49 = .ok (.iload_n 2, 1) := dk_28 (dk_at dksX2_as_2 3 rfl rfl)
theorem dX2_as_50 : decode cX2_as 50 = .ok (.aaload, 1) := dk_50 (dk_at dksX2_as_2 4 rfl rfl)
theorem dX2_as_51 : decode cX2_as 51 = .ok (.aastore, 1) := dk_83 (dk_at dksX2_as_2 5 rfl rfl)
theorem dX2_as_52 : decode cX2_as 52 = .ok (.aload_n 1, 1) := dk_43 (dk_at dksX2_as_2 6 rfl rfl)
theorem dX2_as_53 : decode cX2_as 53 = .ok (.getfield 26, 3) := dk_180 0 26 (dk_at dksX2_as_2 7 rfl rfl)
theorem dX2_as_56 : decode cX2_as 56 = .ok (.iload_n 2, 1) := dk_28 (dk_at dksX2_as_2 10 rfl rfl)
theorem dX2_as_57 : decode cX2_as 57 = .ok (.aaload, 1) := dk_50 (dk_at dksX2_as_2 11 rfl rfl)
theorem dX2_as_58 : decode cX2_as 58 = .ok (.iconst 0, 1) := dk_3 (dk_at dksX2_as_2 12 rfl rfl)
theorem dX2_as_59 : decode cX2_as 59 = .ok (.aload_n 0, 1) := dk_42 (dk_at dksX2_as_2 13 rfl rfl)
theorem dX2_as_60 : decode cX2_as 60 = .ok (.getfield 26, 3) := dk_180 0 26 (dk_at dksX2_as_2 14 rfl rfl)
theorem dX2_as_63 : decode cX2_as 63 = .ok (.iload_n 2, 1) := dk_28 (dk_at dksX2_as_2 17 rfl rfl)
theorem dX2_as_64 : decode cX2_as 64 = .ok (.aaload, 1) := dk_50 (dk_at dksX2_as_2 18 rfl rfl)
theorem dX2_as_65 : decode cX2_as 65 = .ok (.iconst 0, 1) := dk_3 (dk_at dksX2_as_2 19 rfl rfl)
theorem dX2_as_66 : decode cX2_as 66 = .ok (.bipush 6, 2) := dk_16 6 (dk_at dksX2_as_2 20 rfl rfl)
theorem dX2_as_68 : decode cX2_as 68 = .ok (.invokestatic 36, 3) := dk_184 0 36 (dk_at dksX2_as_3 0 rfl rfl)
theorem dX2_as_71 : decode cX2_as 71 = .ok (.iinc 2 1, 3) := dk_132 2 1 (dk_at dksX2_as_3 3 rfl rfl)
theorem dX2_as_74 : decode cX2_as 74 = .ok (.goto (-40), 3) := dk_167 255 216 (dk_at dksX2_as_3 6 rfl rfl)
theorem dX2_as_77 : decode cX2_as 77 = .ok (.aload_n 0, 1) := dk_42 (dk_at dksX2_as_3 9 rfl rfl)
theorem dX2_as_78 : decode cX2_as 78 = .ok (.areturn, 1) := dk_176 (dk_at dksX2_as_3 10 rfl rfl)
def dkwX3_init_3 : List UInt8 := [181, 0, 38, 42, 16, 60, 188, 10, 181, 0, 41, 42, 16, 6, 188, 10, 181, 0, 44, 177]
abbrev dktX3_init_3 : List UInt8 := dkwX3_init_3 ++ []
def dkwX3_init_2 : List UInt8 := [181, 0, 28, 42, 16, 8, 188, 10, 181, 0, 32, 42, 16, 8, 188, 10, 181, 0, 35, 42, 16, 8, 188, 10]
abbrev dktX3_init_2 : List UInt8 := dkwX3_init_2 ++ dktX3_init_3
def dkwX3_init_1 : List UInt8 := [181, 0, 19, 42, 16, 8, 188, 10, 181, 0, 22, 42, 16, 8, 188, 10, 181, 0, 25, 42, 16, 8, 188, 4]
abbrev dktX3_init_1 : List UInt8 := dkwX3_init_1 ++ dktX3_init_2
def dkwX3_init_0 : List UInt8 := [42, 43, 181, 0, 3, 42, 183, 0, 9, 42, 16, 8, 188, 10, 181, 0, 15, 42, 16, 8, 188, 10]
abbrev dktX3_init_0 : List UInt8 := dkwX3_init_0 ++ dktX3_init_1
theorem dksX3_init_0 : cX3_init.data.toList.drop 0 = dktX3_init_0 := by decide +kernel
theorem dksX3_init_1 : cX3_init.data.toList.drop 22 = dktX3_init_1 := dk_seg dksX3_init_0 22 rfl rfl
theorem dksX3_init_2 : cX3_init.data.toList.drop 46 = dktX3_init_2 := dk_seg dksX3_init_1 24 rfl rfl
theorem dksX3_init_3 : cX3_init.data.toList.drop 70 = dktX3_init_3 := dk_seg dksX3_init_2 24 rfl rfl
theorem dX3_init_0 : decode cX3_init 0 = .ok (.aload_n 0, 1) := dk_42 (dk_at dksX3_init_0 0 rfl rfl)
theorem dX3_init_1 : decode cX3_init 1 = .ok (.aload_n 1, 1) := dk_43 (dk_at dksX3_init_0 1 rfl rfl)
theorem dX3_init_2 : decode cX3_init 2 = .ok (.putfield 3, 3) := dk_181 0 3 (dk_at dksX3_init_0 2 rfl rfl)
theorem dX3_init_5 : decode cX3_init 5 = .ok (.aload_n 0, 1) := dk_42 (dk_at dksX3_init_0 5 rfl rfl)
theorem dX3_init_6 : decode cX3_init 6 = .ok (.invokespecial 9, 3) := dk_183 0 9 (dk_at dksX3_init_0 6 rfl rfl)
theorem dX3_init_9 : decode cX3_init 9 = .ok (.aload_n 0, 1) := dk_42 (dk_at dksX3_init_0 9 rfl rfl)
theorem dX3_init_10 : decode cX3_init 10 = .ok (.bipush 8, 2) := dk_16 8 (dk_at dksX3_init_0 10 rfl rfl)
theorem dX3_init_12 : decode cX3_init 12 = .ok (.newarray .int, 2) := dk_188_10 (dk_at dksX3_init_0 12 rfl rfl)
theorem dX3_init_14 : decode cX3_init 14 = .ok (.putfield 15, 3) := dk_181 0 15 (dk_at dksX3_init_0 14 rfl rfl)
theorem dX3_init_17 : decode cX3_init 17 = .ok (.aload_n 0, 1) := dk_42 (dk_at dksX3_init_0 17 rfl rfl)
theorem dX3_init_18 : decode cX3_init 18 = .ok (.bipush 8, 2) := dk_16 8 (dk_at dksX3_init_0 18 rfl rfl)
theorem dX3_init_20 : decode cX3_init 20 = .ok (.newarray .int, 2) := dk_188_10 (dk_at dksX3_init_0 20 rfl rfl)
theorem dX3_init_22 : decode cX3_init 22 = .ok (.putfield 19, 3) := dk_181 0 19 (dk_at dksX3_init_1 0 rfl rfl)
theorem dX3_init_25 : decode cX3_init 25 = .ok (.aload_n 0, 1) := dk_42 (dk_at dksX3_init_1 3 rfl rfl)
theorem dX3_init_26 : decode cX3_init 26 = .ok (.bipush 8, 2) := dk_16 8 (dk_at dksX3_init_1 4 rfl rfl)
theorem dX3_init_28 : decode cX3_init 28 = .ok (.newarray .int, 2) := dk_188_10 (dk_at dksX3_init_1 6 rfl rfl)
theorem dX3_init_30 : decode cX3_init 30 = .ok (.putfield 22, 3) := dk_181 0 22 (dk_at dksX3_init_1 8 rfl rfl)
theorem dX3_init_33 : decode cX3_init 33 = .ok (.aload_n 0, 1) := dk_42 (dk_at dksX3_init_1 11 rfl rfl)
theorem dX3_init_34 : decode cX3_init 34 = .ok (.bipush 8, 2) := dk_16 8 (dk_at dksX3_init_1 12 rfl rfl)
theorem dX3_init_36 : decode cX3_init 36 = .ok (.newarray .int, 2) := dk_188_10 (dk_at dksX3_init_1 14 rfl rfl)
theorem dX3_init_38 : decode cX3_init 38 = .ok (.putfield 25, 3) := dk_181 0 25 (dk_at dksX3_init_1 16 rfl rfl)
theorem dX3_init_41 : decode cX3_init 41 = .ok (.aload_n 0, 1) := dk_42 (dk_at dksX3_init_1 19 rfl rfl)
theorem dX3_init_42 : decode cX3_init 42 = .ok (.bipush 8, 2) := dk_16 8 (dk_at dksX3_init_1 20 rfl rfl)
theorem dX3_init_44 : decode cX3_init 44 = .ok (.newarray .boolean, 2) := dk_188_4 (dk_at dksX3_init_1 22 rfl rfl)
theorem dX3_init_46 : decode cX3_init 46 = .ok (.putfield 28, 3) := dk_181 0 28 (dk_at dksX3_init_2 0 rfl rfl)
theorem dX3_init_49 : decode cX3_init 49 = .ok (.aload_n 0, 1) := dk_42 (dk_at dksX3_init_2 3 rfl rfl)
theorem dX3_init_50 : decode cX3_init 50 = .ok (.bipush 8, 2) := dk_16 8 (dk_at dksX3_init_2 4 rfl rfl)
theorem dX3_init_52 : decode cX3_init 52 = .ok (.newarray .int, 2) := dk_188_10 (dk_at dksX3_init_2 6 rfl rfl)
theorem dX3_init_54 : decode cX3_init 54 = .ok (.putfield 32, 3) := dk_181 0 32 (dk_at dksX3_init_2 8 rfl rfl)
theorem dX3_init_57 : decode cX3_init 57 = .ok (.aload_n 0, 1) := dk_42 (dk_at dksX3_init_2 11 rfl rfl)
theorem dX3_init_58 : decode cX3_init 58 = .ok (.bipush 8, 2) := dk_16 8 (dk_at dksX3_init_2 12 rfl rfl)
theorem dX3_init_60 : decode cX3_init 60 = .ok (.newarray .int, 2) := dk_188_10 (dk_at dksX3_init_2 14 rfl rfl)
theorem dX3_init_62 : decode cX3_init 62 = .ok (.putfield 35, 3) := dk_181 0 35 (dk_at dksX3_init_2 16 rfl rfl)
theorem dX3_init_65 : decode cX3_init 65 = .ok (.aload_n 0, 1) := dk_42 (dk_at dksX3_init_2 19 rfl rfl)
theorem dX3_init_66 : decode cX3_init 66 = .ok (.bipush 8, 2) := dk_16 8 (dk_at dksX3_init_2 20 rfl rfl)
theorem dX3_init_68 : decode cX3_init 68 = .ok (.newarray .int, 2) := dk_188_10 (dk_at dksX3_init_2 22 rfl rfl)
theorem dX3_init_70 : decode cX3_init 70 = .ok (.putfield 38, 3) := dk_181 0 38 (dk_at dksX3_init_3 0 rfl rfl)
theorem dX3_init_73 : decode cX3_init 73 = .ok (.aload_n 0, 1) := dk_42 (dk_at dksX3_init_3 3 rfl rfl)
theorem dX3_init_74 : decode cX3_init 74 = .ok (.bipush 60, 2) := dk_16 60 (dk_at dksX3_init_3 4 rfl rfl)
theorem dX3_init_76 : decode cX3_init 76 = .ok (.newarray .int, 2) := dk_188_10 (dk_at dksX3_init_3 6 rfl rfl)
theorem dX3_init_78 : decode cX3_init 78 = .ok (.putfield 41, 3) := dk_181 0 41 (dk_at dksX3_init_3 8 rfl rfl)
theorem dX3_init_81 : decode cX3_init 81 = .ok (.aload_n 0, 1) := dk_42 (dk_at dksX3_init_3 11 rfl rfl)
theorem dX3_init_82 : decode cX3_init 82 = .ok (.bipush 6, 2) := dk_16 6 (dk_at dksX3_init_3 12 rfl rfl)
theorem dX3_init_84 : decode cX3_init 84 = .ok (.newarray .int, 2) := dk_188_10 (dk_at dksX3_init_3 14 rfl rfl)
theorem dX3_init_86 : decode cX3_init 86 = .ok (.putfield 44, 3) := dk_181 0 44 (dk_at dksX3_init_3 16 rfl rfl)
theorem dX3_init_89 : decode cX3_init 89 = .ok (.return_, 1) := dk_177 (dk_at dksX3_init_3 19 rfl rfl)
def dkwX3_fresh_1 : List UInt8 := [180, 0, 3, 180, 0, 73, 27, 50, 180, 0, 82, 79, 42, 180, 0, 25, 27, 2, 79, 177]
abbrev dktX3_fresh_1 : List UInt8 := dkwX3_fresh_1 ++ []
def dkwX3_fresh_0 : List UInt8 := [42, 180, 0, 15, 27, 42, 180, 0, 3, 180, 0, 73, 27, 50, 180, 0, 77, 79, 42, 180, 0, 19, 27, 42]
abbrev dktX3_fresh_0 : List UInt8 := dkwX3_fresh_0 ++ dktX3_fresh_1
theorem dksX3_fresh_0 : cX3_fresh.data.toList.drop 0 = dktX3_fresh_0 := by decide +kernel
theorem dksX3_fresh_1 : cX3_fresh.data.toList.drop 24 = dktX3_fresh_1 := dk_seg dksX3_fresh_0 24 rfl rfl
theorem dX3_fresh_0 : decode cX3_fresh 0 = .ok (.aload_n 0, 1) := dk_42 (dk_at dksX3_fresh_0 0 rfl rfl)
theorem dX3_fresh_1 : decode cX3_fresh 1 = .ok (.getfield 15, 3) := dk_180 0 15 (dk_at dksX3_fresh_0 1 rfl rfl)
theorem dX3_fresh_4 : decode cX3_fresh 4 = .ok (.iload_n 1, 1) := dk_27 (dk_at dksX3_fresh_0 4 rfl rfl)
theorem dX3_fresh_5 : decode cX3_fresh 5 = .ok (.aload_n 0, 1) := dk_42 (dk_at dksX3_fresh_0 5 rfl rfl)
theorem dX3_fresh_6 : decode cX3_fresh 6 = .ok (.getfield 3, 3) := dk_180 0 3 (dk_at dksX3_fresh_0 6 rfl rfl)
theorem dX3_fresh_9 : decode cX3_fresh 9 = .ok (.getfield 73, 3) := dk_180 0 73 (dk_at dksX3_fresh_0 9 rfl rfl)
theorem dX3_fresh_12 : decode cX3_fresh 12 = .ok (.iload_n 1, 1) := dk_27 (dk_at dksX3_fresh_0 12 rfl rfl)
theorem dX3_fresh_13 : decode cX3_fresh 13 = .ok (.aaload, 1) := dk_50 (dk_at dksX3_fresh_0 13 rfl rfl)
theorem dX3_fresh_14 : decode cX3_fresh 14 = .ok (.getfield 77, 3) := dk_180 0 77 (dk_at dksX3_fresh_0 14 rfl rfl)
theorem dX3_fresh_17 : decode cX3_fresh 17 = .ok (.iastore, 1) := dk_79 (dk_at dksX3_fresh_0 17 rfl rfl)
theorem dX3_fresh_18 : decode cX3_fresh 18 = .ok (.aload_n 0, 1) := dk_42 (dk_at dksX3_fresh_0 18 rfl rfl)
theorem dX3_fresh_19 : decode cX3_fresh 19 = .ok (.getfield 19, 3) := dk_180 0 19 (dk_at dksX3_fresh_0 19 rfl rfl)
theorem dX3_fresh_22 : decode cX3_fresh 22 = .ok (.iload_n 1, 1) := dk_27 (dk_at dksX3_fresh_0 22 rfl rfl)
theorem dX3_fresh_23 : decode cX3_fresh 23 = .ok (.aload_n 0, 1) := dk_42 (dk_at dksX3_fresh_0 23 rfl rfl)
theorem dX3_fresh_24 : decode cX3_fresh 24 = .ok (.getfield 3, 3) := dk_180 0 3 (dk_at dksX3_fresh_1 0 rfl rfl)
theorem dX3_fresh_27 : decode cX3_fresh 27 = .ok (.getfield 73, 3) := dk_180 0 73 (dk_at dksX3_fresh_1 3 rfl rfl)
theorem dX3_fresh_30 : decode cX3_fresh 30 = .ok (.iload_n 1, 1) := dk_27 (dk_at dksX3_fresh_1 6 rfl rfl)
theorem dX3_fresh_31 : decode cX3_fresh 31 = .ok (.aaload, 1) := dk_50 (dk_at dksX3_fresh_1 7 rfl rfl)
theorem dX3_fresh_32 : decode cX3_fresh 32 = .ok (.getfield 82, 3) := dk_180 0 82 (dk_at dksX3_fresh_1 8 rfl rfl)
theorem dX3_fresh_35 : decode cX3_fresh 35 = .ok (.iastore, 1) := dk_79 (dk_at dksX3_fresh_1 11 rfl rfl)
theorem dX3_fresh_36 : decode cX3_fresh 36 = .ok (.aload_n 0, 1) := dk_42 (dk_at dksX3_fresh_1 12 rfl rfl)
theorem dX3_fresh_37 : decode cX3_fresh 37 = .ok (.getfield 25, 3) := dk_180 0 25 (dk_at dksX3_fresh_1 13 rfl rfl)
theorem dX3_fresh_40 : decode cX3_fresh 40 = .ok (.iload_n 1, 1) := dk_27 (dk_at dksX3_fresh_1 16 rfl rfl)
theorem dX3_fresh_41 : decode cX3_fresh 41 = .ok (.iconst (-1), 1) := dk_2 (dk_at dksX3_fresh_1 17 rfl rfl)
theorem dX3_fresh_42 : decode cX3_fresh 42 = .ok (.iastore, 1) := dk_79 (dk_at dksX3_fresh_1 18 rfl rfl)
theorem dX3_fresh_43 : decode cX3_fresh 43 = .ok (.return_, 1) := dk_177 (dk_at dksX3_fresh_1 19 rfl rfl)
def dkwX3_begin_3 : List UInt8 := [162, 0, 8, 42, 28, 182, 0, 63, 132, 2, 1, 167, 255, 196, 42, 176]
abbrev dktX3_begin_3 : List UInt8 := dkwX3_begin_3 ++ []
def dkwX3_begin_2 : List UInt8 := [3, 79, 42, 180, 0, 35, 28, 3, 79, 42, 180, 0, 38, 28, 3, 79, 28, 42, 180, 0, 3, 180, 0, 60]
abbrev dktX3_begin_2 : List UInt8 := dkwX3_begin_2 ++ dktX3_begin_3
def dkwX3_begin_1 : List UInt8 := [16, 8, 162, 0, 60, 42, 180, 0, 22, 28, 3, 79, 42, 180, 0, 28, 28, 3, 84, 42, 180, 0, 32, 28]
abbrev dktX3_begin_1 : List UInt8 := dkwX3_begin_1 ++ dktX3_begin_2
def dkwX3_begin_0 : List UInt8 := [42, 27, 181, 0, 47, 42, 3, 181, 0, 51, 42, 3, 181, 0, 54, 42, 3, 181, 0, 57, 3, 61, 28]
abbrev dktX3_begin_0 : List UInt8 := dkwX3_begin_0 ++ dktX3_begin_1
theorem dksX3_begin_0 : cX3_begin.data.toList.drop 0 = dktX3_begin_0 := by decide +kernel
theorem dksX3_begin_1 : cX3_begin.data.toList.drop 23 = dktX3_begin_1 := dk_seg dksX3_begin_0 23 rfl rfl
theorem dksX3_begin_2 : cX3_begin.data.toList.drop 47 = dktX3_begin_2 := dk_seg dksX3_begin_1 24 rfl rfl
theorem dksX3_begin_3 : cX3_begin.data.toList.drop 71 = dktX3_begin_3 := dk_seg dksX3_begin_2 24 rfl rfl
theorem dX3_begin_0 : decode cX3_begin 0 = .ok (.aload_n 0, 1) := dk_42 (dk_at dksX3_begin_0 0 rfl rfl)
theorem dX3_begin_1 : decode cX3_begin 1 = .ok (.iload_n 1, 1) := dk_27 (dk_at dksX3_begin_0 1 rfl rfl)
theorem dX3_begin_2 : decode cX3_begin 2 = .ok (.putfield 47, 3) := dk_181 0 47 (dk_at dksX3_begin_0 2 rfl rfl)
theorem dX3_begin_5 : decode cX3_begin 5 = .ok (.aload_n 0, 1) := dk_42 (dk_at dksX3_begin_0 5 rfl rfl)
theorem dX3_begin_6 : decode cX3_begin 6 = .ok (.iconst 0, 1) := dk_3 (dk_at dksX3_begin_0 6 rfl rfl)
theorem dX3_begin_7 : decode cX3_begin 7 = .ok (.putfield 51, 3) := dk_181 0 51 (dk_at dksX3_begin_0 7 rfl rfl)
theorem dX3_begin_10 : decode cX3_begin 10 = .ok (.aload_n 0, 1) := dk_42 (dk_at dksX3_begin_0 10 rfl rfl)
theorem dX3_begin_11 : decode cX3_begin 11 = .ok (.iconst 0, 1) := dk_3 (dk_at dksX3_begin_0 11 rfl rfl)
theorem dX3_begin_12 : decode cX3_begin 12 = .ok (.putfield 54, 3) := dk_181 0 54 (dk_at dksX3_begin_0 12 rfl rfl)
theorem dX3_begin_15 : decode cX3_begin 15 = .ok (.aload_n 0, 1) := dk_42 (dk_at dksX3_begin_0 15 rfl rfl)
theorem dX3_begin_16 : decode cX3_begin 16 = .ok (.iconst 0, 1) := dk_3 (dk_at dksX3_begin_0 16 rfl rfl)
theorem dX3_begin_17 : decode cX3_begin 17 = .ok (.putfield 57, 3) := dk_181 0 57 (dk_at dksX3_begin_0 17 rfl rfl)
theorem dX3_begin_20 : decode cX3_begin 20 = .ok (.iconst 0, 1) := dk_3 (dk_at dksX3_begin_0 20 rfl rfl)
theorem dX3_begin_21 : decode cX3_begin 21 = .ok (.istore_n 2, 1) := dk_61 (dk_at dksX3_begin_0 21 rfl rfl)
theorem dX3_begin_22 : decode cX3_begin 22 = .ok (.iload_n 2, 1) := dk_28 (dk_at dksX3_begin_0 22 rfl rfl)
theorem dX3_begin_23 : decode cX3_begin 23 = .ok (.bipush 8, 2) := dk_16 8 (dk_at dksX3_begin_1 0 rfl rfl)
theorem dX3_begin_25 : decode cX3_begin 25 = .ok (.if_icmp .ge 60, 3) := dk_162 0 60 (dk_at dksX3_begin_1 2 rfl rfl)
theorem dX3_begin_28 : decode cX3_begin 28 = .ok (.aload_n 0, 1) := dk_42 (dk_at dksX3_begin_1 5 rfl rfl)
theorem dX3_begin_29 : decode cX3_begin 29 = .ok (.getfield 22, 3) := dk_180 0 22 (dk_at dksX3_begin_1 6 rfl rfl)
theorem dX3_begin_32 : decode cX3_begin 32 = .ok (.iload_n 2, 1) := dk_28 (dk_at dksX3_begin_1 9 rfl rfl)
theorem dX3_begin_33 : decode cX3_begin 33 = .ok (.iconst 0, 1) := dk_3 (dk_at dksX3_begin_1 10 rfl rfl)
theorem dX3_begin_34 : decode cX3_begin 34 = .ok (.iastore, 1) := dk_79 (dk_at dksX3_begin_1 11 rfl rfl)
theorem dX3_begin_35 : decode cX3_begin 35 = .ok (.aload_n 0, 1) := dk_42 (dk_at dksX3_begin_1 12 rfl rfl)
theorem dX3_begin_36 : decode cX3_begin 36 = .ok (.getfield 28, 3) := dk_180 0 28 (dk_at dksX3_begin_1 13 rfl rfl)
theorem dX3_begin_39 : decode cX3_begin 39 = .ok (.iload_n 2, 1) := dk_28 (dk_at dksX3_begin_1 16 rfl rfl)
theorem dX3_begin_40 : decode cX3_begin 40 = .ok (.iconst 0, 1) := dk_3 (dk_at dksX3_begin_1 17 rfl rfl)
theorem dX3_begin_41 : decode cX3_begin 41 = .ok (.bastore, 1) := dk_84 (dk_at dksX3_begin_1 18 rfl rfl)
theorem dX3_begin_42 : decode cX3_begin 42 = .ok (.aload_n 0, 1) := dk_42 (dk_at dksX3_begin_1 19 rfl rfl)
theorem dX3_begin_43 : decode cX3_begin 43 = .ok (.getfield 32, 3) := dk_180 0 32 (dk_at dksX3_begin_1 20 rfl rfl)
theorem dX3_begin_46 : decode cX3_begin 46 = .ok (.iload_n 2, 1) := dk_28 (dk_at dksX3_begin_1 23 rfl rfl)
theorem dX3_begin_47 : decode cX3_begin 47 = .ok (.iconst 0, 1) := dk_3 (dk_at dksX3_begin_2 0 rfl rfl)
theorem dX3_begin_48 : decode cX3_begin 48 = .ok (.iastore, 1) := dk_79 (dk_at dksX3_begin_2 1 rfl rfl)
theorem dX3_begin_49 : decode cX3_begin 49 = .ok (.aload_n 0, 1) := dk_42 (dk_at dksX3_begin_2 2 rfl rfl)
theorem dX3_begin_50 : decode cX3_begin 50 = .ok (.getfield 35, 3) := dk_180 0 35 (dk_at dksX3_begin_2 3 rfl rfl)
theorem dX3_begin_53 : decode cX3_begin 53 = .ok (.iload_n 2, 1) := dk_28 (dk_at dksX3_begin_2 6 rfl rfl)
theorem dX3_begin_54 : decode cX3_begin 54 = .ok (.iconst 0, 1) := dk_3 (dk_at dksX3_begin_2 7 rfl rfl)
theorem dX3_begin_55 : decode cX3_begin 55 = .ok (.iastore, 1) := dk_79 (dk_at dksX3_begin_2 8 rfl rfl)
theorem dX3_begin_56 : decode cX3_begin 56 = .ok (.aload_n 0, 1) := dk_42 (dk_at dksX3_begin_2 9 rfl rfl)
theorem dX3_begin_57 : decode cX3_begin 57 = .ok (.getfield 38, 3) := dk_180 0 38 (dk_at dksX3_begin_2 10 rfl rfl)
theorem dX3_begin_60 : decode cX3_begin 60 = .ok (.iload_n 2, 1) := dk_28 (dk_at dksX3_begin_2 13 rfl rfl)
theorem dX3_begin_61 : decode cX3_begin 61 = .ok (.iconst 0, 1) := dk_3 (dk_at dksX3_begin_2 14 rfl rfl)
theorem dX3_begin_62 : decode cX3_begin 62 = .ok (.iastore, 1) := dk_79 (dk_at dksX3_begin_2 15 rfl rfl)
theorem dX3_begin_63 : decode cX3_begin 63 = .ok (.iload_n 2, 1) := dk_28 (dk_at dksX3_begin_2 16 rfl rfl)
theorem dX3_begin_64 : decode cX3_begin 64 = .ok (.aload_n 0, 1) := dk_42 (dk_at dksX3_begin_2 17 rfl rfl)
theorem dX3_begin_65 : decode cX3_begin 65 = .ok (.getfield 3, 3) := dk_180 0 3 (dk_at dksX3_begin_2 18 rfl rfl)
theorem dX3_begin_68 : decode cX3_begin 68 = .ok (.getfield 60, 3) := dk_180 0 60 (dk_at dksX3_begin_2 21 rfl rfl)
theorem dX3_begin_71 : decode cX3_begin 71 = .ok (.if_icmp .ge 8, 3) := dk_162 0 8 (dk_at dksX3_begin_3 0 rfl rfl)
theorem dX3_begin_74 : decode cX3_begin 74 = .ok (.aload_n 0, 1) := dk_42 (dk_at dksX3_begin_3 3 rfl rfl)
theorem dX3_begin_75 : decode cX3_begin 75 = .ok (.iload_n 2, 1) := dk_28 (dk_at dksX3_begin_3 4 rfl rfl)
theorem dX3_begin_76 : decode cX3_begin 76 = .ok (.invokevirtual 63, 3) := dk_182 0 63 (dk_at dksX3_begin_3 5 rfl rfl)
theorem dX3_begin_79 : decode cX3_begin 79 = .ok (.iinc 2 1, 3) := dk_132 2 1 (dk_at dksX3_begin_3 8 rfl rfl)
theorem dX3_begin_82 : decode cX3_begin 82 = .ok (.goto (-60), 3) := dk_167 255 196 (dk_at dksX3_begin_3 11 rfl rfl)
theorem dX3_begin_85 : decode cX3_begin 85 = .ok (.aload_n 0, 1) := dk_42 (dk_at dksX3_begin_3 14 rfl rfl)
theorem dX3_begin_86 : decode cX3_begin 86 = .ok (.areturn, 1) := dk_176 (dk_at dksX3_begin_3 15 rfl rfl)
def dkwX3_hour_16 : List UInt8 := [181, 0, 47, 177]
abbrev dktX3_hour_16 : List UInt8 := dkwX3_hour_16 ++ []
def dkwX3_hour_15 : List UInt8 := [180, 0, 47, 4, 96, 182, 0, 141, 87, 132, 3, 1, 167, 255, 139, 42, 89, 180, 0, 47, 4, 96]
abbrev dktX3_hour_15 : List UInt8 := dkwX3_hour_15 ++ dktX3_hour_16
def dkwX3_hour_14 : List UInt8 := [29, 182, 0, 137, 54, 4, 21, 4, 42, 180, 0, 15, 29, 46, 159, 0, 18, 42, 43, 29, 21, 4, 42]
abbrev dktX3_hour_14 : List UInt8 := dkwX3_hour_14 ++ dktX3_hour_15
def dkwX3_hour_13 : List UInt8 := [29, 46, 50, 42, 180, 0, 47, 4, 96, 182, 0, 116, 153, 0, 6, 167, 0, 41, 42, 180, 0, 3, 43, 42]
abbrev dktX3_hour_13 : List UInt8 := dkwX3_hour_13 ++ dktX3_hour_14
def dkwX3_hour_12 : List UInt8 := [180, 0, 15, 29, 46, 50, 42, 180, 0, 47, 182, 0, 116, 153, 0, 67, 43, 180, 0, 112, 42, 180, 0, 15]
abbrev dktX3_hour_12 : List UInt8 := dkwX3_hour_12 ++ dktX3_hour_13
def dkwX3_hour_11 : List UInt8 := [29, 184, 0, 108, 153, 0, 98, 42, 180, 0, 25, 29, 46, 2, 160, 0, 88, 43, 180, 0, 112, 42]
abbrev dktX3_hour_11 : List UInt8 := dkwX3_hour_11 ++ dktX3_hour_12
def dkwX3_hour_10 : List UInt8 := [128, 181, 0, 105, 132, 3, 1, 167, 255, 81, 3, 62, 29, 42, 180, 0, 3, 180, 0, 60, 162, 0, 112, 28]
abbrev dktX3_hour_10 : List UInt8 := dkwX3_hour_10 ++ dktX3_hour_11
def dkwX3_hour_9 : List UInt8 := [180, 0, 130, 162, 0, 13, 42, 29, 25, 5, 182, 0, 133, 167, 0, 15, 42, 89, 180, 0, 105, 4, 29, 120]
abbrev dktX3_hour_9 : List UInt8 := dkwX3_hour_9 ++ dktX3_hour_10
def dkwX3_hour_8 : List UInt8 := [25, 4, 180, 0, 124, 182, 0, 127, 153, 0, 32, 42, 180, 0, 44, 42, 180, 0, 15, 29, 46, 46, 25, 5]
abbrev dktX3_hour_8 : List UInt8 := dkwX3_hour_8 ++ dktX3_hour_9
def dkwX3_hour_7 : List UInt8 := [84, 167, 0, 74, 25, 5, 42, 180, 0, 47, 182, 0, 116, 153, 0, 50, 43, 42, 180, 0, 15, 29, 46]
abbrev dktX3_hour_7 : List UInt8 := dkwX3_hour_7 ++ dktX3_hour_8
def dkwX3_hour_6 : List UInt8 := [180, 0, 112, 25, 4, 180, 0, 121, 50, 42, 180, 0, 47, 182, 0, 116, 154, 0, 7, 4, 167, 0, 4, 3]
abbrev dktX3_hour_6 : List UInt8 := dkwX3_hour_6 ++ dktX3_hour_7
def dkwX3_hour_5 : List UInt8 := [29, 51, 153, 0, 49, 42, 180, 0, 28, 29, 25, 5, 42, 180, 0, 47, 182, 0, 116, 153, 0, 23, 43]
abbrev dktX3_hour_5 : List UInt8 := dkwX3_hour_5 ++ dktX3_hour_6
def dkwX3_hour_4 : List UInt8 := [180, 0, 73, 29, 50, 58, 4, 43, 180, 0, 112, 42, 180, 0, 15, 29, 46, 50, 58, 5, 42, 180, 0, 28]
abbrev dktX3_hour_4 : List UInt8 := dkwX3_hour_4 ++ dktX3_hour_5
def dkwX3_hour_3 : List UInt8 := [180, 0, 3, 180, 0, 60, 162, 0, 170, 28, 29, 184, 0, 108, 154, 0, 6, 167, 0, 153, 42, 180, 0, 3]
abbrev dktX3_hour_3 : List UInt8 := dkwX3_hour_3 ++ dktX3_hour_4
def dkwX3_hour_2 : List UInt8 := [16, 6, 162, 0, 16, 42, 180, 0, 44, 29, 3, 79, 132, 3, 1, 167, 255, 240, 3, 62, 29, 42]
abbrev dktX3_hour_2 : List UInt8 := dkwX3_hour_2 ++ dktX3_hour_3
def dkwX3_hour_1 : List UInt8 := [4, 29, 120, 167, 0, 4, 3, 128, 61, 132, 3, 1, 167, 255, 224, 42, 3, 181, 0, 105, 3, 62, 29]
abbrev dktX3_hour_1 : List UInt8 := dkwX3_hour_1 ++ dktX3_hour_2
def dkwX3_hour_0 : List UInt8 := [3, 61, 3, 62, 29, 42, 180, 0, 3, 180, 0, 60, 162, 0, 27, 28, 42, 29, 182, 0, 101, 153, 0, 9]
abbrev dktX3_hour_0 : List UInt8 := dkwX3_hour_0 ++ dktX3_hour_1
theorem dksX3_hour_0 : cX3_hour.data.toList.drop 0 = dktX3_hour_0 := by decide +kernel
theorem dksX3_hour_1 : cX3_hour.data.toList.drop 24 = dktX3_hour_1 := dk_seg dksX3_hour_0 24 rfl rfl
theorem dksX3_hour_2 : cX3_hour.data.toList.drop 47 = dktX3_hour_2 := dk_seg dksX3_hour_1 23 rfl rfl
theorem dksX3_hour_3 : cX3_hour.data.toList.drop 69 = dktX3_hour_3 := dk_seg dksX3_hour_2 22 rfl rfl
theorem dksX3_hour_4 : cX3_hour.data.toList.drop 93 = dktX3_hour_4 := dk_seg dksX3_hour_3 24 rfl rfl
theorem dksX3_hour_5 : cX3_hour.data.toList.drop 117 = dktX3_hour_5 := dk_seg dksX3_hour_4 24 rfl rfl
theorem dksX3_hour_6 : cX3_hour.data.toList.drop 140 = dktX3_hour_6 := dk_seg dksX3_hour_5 23 rfl rfl
theorem dksX3_hour_7 : cX3_hour.data.toList.drop 164 = dktX3_hour_7 := dk_seg dksX3_hour_6 24 rfl rfl
theorem dksX3_hour_8 : cX3_hour.data.toList.drop 187 = dktX3_hour_8 := dk_seg dksX3_hour_7 23 rfl rfl
theorem dksX3_hour_9 : cX3_hour.data.toList.drop 211 = dktX3_hour_9 := dk_seg dksX3_hour_8 24 rfl rfl
theorem dksX3_hour_10 : cX3_hour.data.toList.drop 235 = dktX3_hour_10 := dk_seg dksX3_hour_9 24 rfl rfl
theorem dksX3_hour_11 : cX3_hour.data.toList.drop 259 = dktX3_hour_11 := dk_seg dksX3_hour_10 24 rfl rfl
theorem dksX3_hour_12 : cX3_hour.data.toList.drop 281 = dktX3_hour_12 := dk_seg dksX3_hour_11 22 rfl rfl
theorem dksX3_hour_13 : cX3_hour.data.toList.drop 305 = dktX3_hour_13 := dk_seg dksX3_hour_12 24 rfl rfl
theorem dksX3_hour_14 : cX3_hour.data.toList.drop 329 = dktX3_hour_14 := dk_seg dksX3_hour_13 24 rfl rfl
theorem dksX3_hour_15 : cX3_hour.data.toList.drop 352 = dktX3_hour_15 := dk_seg dksX3_hour_14 23 rfl rfl
theorem dksX3_hour_16 : cX3_hour.data.toList.drop 374 = dktX3_hour_16 := dk_seg dksX3_hour_15 22 rfl rfl
theorem dX3_hour_0 : decode cX3_hour 0 = .ok (.iconst 0, 1) := dk_3 (dk_at dksX3_hour_0 0 rfl rfl)
theorem dX3_hour_1 : decode cX3_hour 1 = .ok (.istore_n 2, 1) := dk_61 (dk_at dksX3_hour_0 1 rfl rfl)
theorem dX3_hour_2 : decode cX3_hour 2 = .ok (.iconst 0, 1) := dk_3 (dk_at dksX3_hour_0 2 rfl rfl)
theorem dX3_hour_3 : decode cX3_hour 3 = .ok (.istore_n 3, 1) := dk_62 (dk_at dksX3_hour_0 3 rfl rfl)
theorem dX3_hour_4 : decode cX3_hour 4 = .ok (.iload_n 3, 1) := dk_29 (dk_at dksX3_hour_0 4 rfl rfl)
theorem dX3_hour_5 : decode cX3_hour 5 = .ok (.aload_n 0, 1) := dk_42 (dk_at dksX3_hour_0 5 rfl rfl)
theorem dX3_hour_6 : decode cX3_hour 6 = .ok (.getfield 3, 3) := dk_180 0 3 (dk_at dksX3_hour_0 6 rfl rfl)
theorem dX3_hour_9 : decode cX3_hour 9 = .ok (.getfield 60, 3) := dk_180 0 60 (dk_at dksX3_hour_0 9 rfl rfl)
theorem dX3_hour_12 : decode cX3_hour 12 = .ok (.if_icmp .ge 27, 3) := dk_162 0 27 (dk_at dksX3_hour_0 12 rfl rfl)
theorem dX3_hour_15 : decode cX3_hour 15 = .ok (.iload_n 2, 1) := dk_28 (dk_at dksX3_hour_0 15 rfl rfl)
theorem dX3_hour_16 : decode cX3_hour 16 = .ok (.aload_n 0, 1) := dk_42 (dk_at dksX3_hour_0 16 rfl rfl)
theorem dX3_hour_17 : decode cX3_hour 17 = .ok (.iload_n 3, 1) := dk_29 (dk_at dksX3_hour_0 17 rfl rfl)
theorem dX3_hour_18 : decode cX3_hour 18 = .ok (.invokevirtual 101, 3) := dk_182 0 101 (dk_at dksX3_hour_0 18 rfl rfl)
theorem dX3_hour_21 : decode cX3_hour 21 = .ok (.ifCond .eq 9, 3) := dk_153 0 9 (dk_at dksX3_hour_0 21 rfl rfl)
theorem dX3_hour_24 : decode cX3_hour 24 = .ok (.iconst 1, 1) := dk_4 (dk_at dksX3_hour_1 0 rfl rfl)
theorem dX3_hour_25 : decode cX3_hour 25 = .ok (.iload_n 3, 1) := dk_29 (dk_at dksX3_hour_1 1 rfl rfl)
theorem dX3_hour_26 : decode cX3_hour 26 = .ok (.ishl, 1) := dk_120 (dk_at dksX3_hour_1 2 rfl rfl)
theorem dX3_hour_27 : decode cX3_hour 27 = .ok (.goto 4, 3) := dk_167 0 4 (dk_at dksX3_hour_1 3 rfl rfl)
theorem dX3_hour_30 : decode cX3_hour 30 = .ok (.iconst 0, 1) := dk_3 (dk_at dksX3_hour_1 6 rfl rfl)
theorem dX3_hour_31 : decode cX3_hour 31 = .ok (.ior, 1) := dk_128 (dk_at dksX3_hour_1 7 rfl rfl)
theorem dX3_hour_32 : decode cX3_hour 32 = .ok (.istore_n 2, 1) := dk_61 (dk_at dksX3_hour_1 8 rfl rfl)
theorem dX3_hour_33 : decode cX3_hour 33 = .ok (.iinc 3 1, 3) := dk_132 3 1 (dk_at dksX3_hour_1 9 rfl rfl)
theorem dX3_hour_36 : decode cX3_hour 36 = .ok (.goto (-32), 3) := dk_167 255 224 (dk_at dksX3_hour_1 12 rfl rfl)
theorem dX3_hour_39 : decode cX3_hour 39 = .ok (.aload_n 0, 1) := dk_42 (dk_at dksX3_hour_1 15 rfl rfl)
theorem dX3_hour_40 : decode cX3_hour 40 = .ok (.iconst 0, 1) := dk_3 (dk_at dksX3_hour_1 16 rfl rfl)
theorem dX3_hour_41 : decode cX3_hour 41 = .ok (.putfield 105, 3) := dk_181 0 105 (dk_at dksX3_hour_1 17 rfl rfl)
theorem dX3_hour_44 : decode cX3_hour 44 = .ok (.iconst 0, 1) := dk_3 (dk_at dksX3_hour_1 20 rfl rfl)
theorem dX3_hour_45 : decode cX3_hour 45 = .ok (.istore_n 3, 1) := dk_62 (dk_at dksX3_hour_1 21 rfl rfl)
theorem dX3_hour_46 : decode cX3_hour 46 = .ok (.iload_n 3, 1) := dk_29 (dk_at dksX3_hour_1 22 rfl rfl)
theorem dX3_hour_47 : decode cX3_hour 47 = .ok (.bipush 6, 2) := dk_16 6 (dk_at dksX3_hour_2 0 rfl rfl)
theorem dX3_hour_49 : decode cX3_hour 49 = .ok (.if_icmp .ge 16, 3) := dk_162 0 16 (dk_at dksX3_hour_2 2 rfl rfl)
theorem dX3_hour_52 : decode cX3_hour 52 = .ok (.aload_n 0, 1) := dk_42 (dk_at dksX3_hour_2 5 rfl rfl)
theorem dX3_hour_53 : decode cX3_hour 53 = .ok (.getfield 44, 3) := dk_180 0 44 (dk_at dksX3_hour_2 6 rfl rfl)
theorem dX3_hour_56 : decode cX3_hour 56 = .ok (.iload_n 3, 1) := dk_29 (dk_at dksX3_hour_2 9 rfl rfl)
theorem dX3_hour_57 : decode cX3_hour 57 = .ok (.iconst 0, 1) := dk_3 (dk_at dksX3_hour_2 10 rfl rfl)
theorem dX3_hour_58 : decode cX3_hour 58 = .ok (.iastore, 1) := dk_79 (dk_at dksX3_hour_2 11 rfl rfl)
theorem dX3_hour_59 : decode cX3_hour 59 = .ok (.iinc 3 1, 3) := dk_132 3 1 (dk_at dksX3_hour_2 12 rfl rfl)
theorem dX3_hour_62 : decode cX3_hour 62 = .ok (.goto (-16), 3) := dk_167 255 240 (dk_at dksX3_hour_2 15 rfl rfl)
theorem dX3_hour_65 : decode cX3_hour 65 = .ok (.iconst 0, 1) := dk_3 (dk_at dksX3_hour_2 18 rfl rfl)
theorem dX3_hour_66 : decode cX3_hour 66 = .ok (.istore_n 3, 1) := dk_62 (dk_at dksX3_hour_2 19 rfl rfl)
theorem dX3_hour_67 : decode cX3_hour 67 = .ok (.iload_n 3, 1) := dk_29 (dk_at dksX3_hour_2 20 rfl rfl)
theorem dX3_hour_68 : decode cX3_hour 68 = .ok (.aload_n 0, 1) := dk_42 (dk_at dksX3_hour_2 21 rfl rfl)
theorem dX3_hour_69 : decode cX3_hour 69 = .ok (.getfield 3, 3) := dk_180 0 3 (dk_at dksX3_hour_3 0 rfl rfl)
theorem dX3_hour_72 : decode cX3_hour 72 = .ok (.getfield 60, 3) := dk_180 0 60 (dk_at dksX3_hour_3 3 rfl rfl)
theorem dX3_hour_75 : decode cX3_hour 75 = .ok (.if_icmp .ge 170, 3) := dk_162 0 170 (dk_at dksX3_hour_3 6 rfl rfl)
theorem dX3_hour_78 : decode cX3_hour 78 = .ok (.iload_n 2, 1) := dk_28 (dk_at dksX3_hour_3 9 rfl rfl)
theorem dX3_hour_79 : decode cX3_hour 79 = .ok (.iload_n 3, 1) := dk_29 (dk_at dksX3_hour_3 10 rfl rfl)
theorem dX3_hour_80 : decode cX3_hour 80 = .ok (.invokestatic 108, 3) := dk_184 0 108 (dk_at dksX3_hour_3 11 rfl rfl)
theorem dX3_hour_83 : decode cX3_hour 83 = .ok (.ifCond .ne 6, 3) := dk_154 0 6 (dk_at dksX3_hour_3 14 rfl rfl)
theorem dX3_hour_86 : decode cX3_hour 86 = .ok (.goto 153, 3) := dk_167 0 153 (dk_at dksX3_hour_3 17 rfl rfl)
theorem dX3_hour_89 : decode cX3_hour 89 = .ok (.aload_n 0, 1) := dk_42 (dk_at dksX3_hour_3 20 rfl rfl)
theorem dX3_hour_90 : decode cX3_hour 90 = .ok (.getfield 3, 3) := dk_180 0 3 (dk_at dksX3_hour_3 21 rfl rfl)
theorem dX3_hour_93 : decode cX3_hour 93 = .ok (.getfield 73, 3) := dk_180 0 73 (dk_at dksX3_hour_4 0 rfl rfl)
theorem dX3_hour_96 : decode cX3_hour 96 = .ok (.iload_n 3, 1) := dk_29 (dk_at dksX3_hour_4 3 rfl rfl)
theorem dX3_hour_97 : decode cX3_hour 97 = .ok (.aaload, 1) := dk_50 (dk_at dksX3_hour_4 4 rfl rfl)
theorem dX3_hour_98 : decode cX3_hour 98 = .ok (.astore 4, 2) := dk_58 4 (dk_at dksX3_hour_4 5 rfl rfl)
theorem dX3_hour_100 : decode cX3_hour 100 = .ok (.aload_n 1, 1) := dk_43 (dk_at dksX3_hour_4 7 rfl rfl)
theorem dX3_hour_101 : decode cX3_hour 101 = .ok (.getfield 112, 3) := dk_180 0 112 (dk_at dksX3_hour_4 8 rfl rfl)
theorem dX3_hour_104 : decode cX3_hour 104 = .ok (.aload_n 0, 1) := dk_42 (dk_at dksX3_hour_4 11 rfl rfl)
theorem dX3_hour_105 : decode cX3_hour 105 = .ok (.getfield 15, 3) := dk_180 0 15 (dk_at dksX3_hour_4 12 rfl rfl)
theorem dX3_hour_108 : decode cX3_hour 108 = .ok (.iload_n 3, 1) := dk_29 (dk_at dksX3_hour_4 15 rfl rfl)
theorem dX3_hour_109 : decode cX3_hour 109 = .ok (.iaload, 1) := dk_46 (dk_at dksX3_hour_4 16 rfl rfl)
theorem dX3_hour_110 : decode cX3_hour 110 = .ok (.aaload, 1) := dk_50 (dk_at dksX3_hour_4 17 rfl rfl)
theorem dX3_hour_111 : decode cX3_hour 111 = .ok (.astore 5, 2) := dk_58 5 (dk_at dksX3_hour_4 18 rfl rfl)
theorem dX3_hour_113 : decode cX3_hour 113 = .ok (.aload_n 0, 1) := dk_42 (dk_at dksX3_hour_4 20 rfl rfl)
theorem dX3_hour_114 : decode cX3_hour 114 = .ok (.getfield 28, 3) := dk_180 0 28 (dk_at dksX3_hour_4 21 rfl rfl)
theorem dX3_hour_117 : decode cX3_hour 117 = .ok (.iload_n 3, 1) := dk_29 (dk_at dksX3_hour_5 0 rfl rfl)
theorem dX3_hour_118 : decode cX3_hour 118 = .ok (.baload, 1) := dk_51 (dk_at dksX3_hour_5 1 rfl rfl)
theorem dX3_hour_119 : decode cX3_hour 119 = .ok (.ifCond .eq 49, 3) := dk_153 0 49 (dk_at dksX3_hour_5 2 rfl rfl)
theorem dX3_hour_122 : decode cX3_hour 122 = .ok (.aload_n 0, 1) := dk_42 (dk_at dksX3_hour_5 5 rfl rfl)
theorem dX3_hour_123 : decode cX3_hour 123 = .ok (.getfield 28, 3) := dk_180 0 28 (dk_at dksX3_hour_5 6 rfl rfl)
theorem dX3_hour_126 : decode cX3_hour 126 = .ok (.iload_n 3, 1) := dk_29 (dk_at dksX3_hour_5 9 rfl rfl)
theorem dX3_hour_127 : decode cX3_hour 127 = .ok (.aload 5, 2) := dk_25 5 (dk_at dksX3_hour_5 10 rfl rfl)
theorem dX3_hour_129 : decode cX3_hour 129 = .ok (.aload_n 0, 1) := dk_42 (dk_at dksX3_hour_5 12 rfl rfl)
theorem dX3_hour_130 : decode cX3_hour 130 = .ok (.getfield 47, 3) := dk_180 0 47 (dk_at dksX3_hour_5 13 rfl rfl)
theorem dX3_hour_133 : decode cX3_hour 133 = .ok (.invokevirtual 116, 3) := dk_182 0 116 (dk_at dksX3_hour_5 16 rfl rfl)
theorem dX3_hour_136 : decode cX3_hour 136 = .ok (.ifCond .eq 23, 3) := dk_153 0 23 (dk_at dksX3_hour_5 19 rfl rfl)
theorem dX3_hour_139 : decode cX3_hour 139 = .ok (.aload_n 1, 1) := dk_43 (dk_at dksX3_hour_5 22 rfl rfl)
theorem dX3_hour_140 : decode cX3_hour 140 = .ok (.getfield 112, 3) := dk_180 0 112 (dk_at dksX3_hour_6 0 rfl rfl)
theorem dX3_hour_143 : decode cX3_hour 143 = .ok (.aload 4, 2) := dk_25 4 (dk_at dksX3_hour_6 3 rfl rfl)
theorem dX3_hour_145 : decode cX3_hour 145 = .ok (.getfield 121, 3) := dk_180 0 121 (dk_at dksX3_hour_6 5 rfl rfl)
theorem dX3_hour_148 : decode cX3_hour 148 = .ok (.aaload, 1) := dk_50 (dk_at dksX3_hour_6 8 rfl rfl)
theorem dX3_hour_149 : decode cX3_hour 149 = .ok (.aload_n 0, 1) := dk_42 (dk_at dksX3_hour_6 9 rfl rfl)
theorem dX3_hour_150 : decode cX3_hour 150 = .ok (.getfield 47, 3) := dk_180 0 47 (dk_at dksX3_hour_6 10 rfl rfl)
theorem dX3_hour_153 : decode cX3_hour 153 = .ok (.invokevirtual 116, 3) := dk_182 0 116 (dk_at dksX3_hour_6 13 rfl rfl)
theorem dX3_hour_156 : decode cX3_hour 156 = .ok (.ifCond .ne 7, 3) := dk_154 0 7 (dk_at dksX3_hour_6 16 rfl rfl)
theorem dX3_hour_159 : decode cX3_hour 159 = .ok (.iconst 1, 1) := dk_4 (dk_at dksX3_hour_6 19 rfl rfl)
theorem dX3_hour_160 : decode cX3_hour 160 = .ok (.goto 4, 3) := dk_167 0 4 (dk_at dksX3_hour_6 20 rfl rfl)
theorem dX3_hour_163 : decode cX3_hour 163 = .ok (.iconst 0, 1) := dk_3 (dk_at dksX3_hour_6 23 rfl rfl)
theorem dX3_hour_164 : decode cX3_hour 164 = .ok (.bastore, 1) := dk_84 (dk_at dksX3_hour_7 0 rfl rfl)
theorem dX3_hour_165 : decode cX3_hour 165 = .ok (.goto 74, 3) := dk_167 0 74 (dk_at dksX3_hour_7 1 rfl rfl)
theorem dX3_hour_168 : decode cX3_hour 168 = .ok (.aload 5, 2) := dk_25 5 (dk_at dksX3_hour_7 4 rfl rfl)
theorem dX3_hour_170 : decode cX3_hour 170 = .ok (.aload_n 0, 1) := dk_42 (dk_at dksX3_hour_7 6 rfl rfl)
theorem dX3_hour_171 : decode cX3_hour 171 = .ok (.getfield 47, 3) := dk_180 0 47 (dk_at dksX3_hour_7 7 rfl rfl)
theorem dX3_hour_174 : decode cX3_hour 174 = .ok (.invokevirtual 116, 3) := dk_182 0 116 (dk_at dksX3_hour_7 10 rfl rfl)
theorem dX3_hour_177 : decode cX3_hour 177 = .ok (.ifCond .eq 50, 3) := dk_153 0 50 (dk_at dksX3_hour_7 13 rfl rfl)
theorem dX3_hour_180 : decode cX3_hour 180 = .ok (.aload_n 1, 1) := dk_43 (dk_at dksX3_hour_7 16 rfl rfl)
theorem dX3_hour_181 : decode cX3_hour 181 = .ok (.aload_n 0, 1) := dk_42 (dk_at dksX3_hour_7 17 rfl rfl)
theorem dX3_hour_182 : decode cX3_hour 182 = .ok (.getfield 15, 3) := dk_180 0 15 (dk_at dksX3_hour_7 18 rfl rfl)
theorem dX3_hour_185 : decode cX3_hour 185 = .ok (.iload_n 3, 1) := dk_29 (dk_at dksX3_hour_7 21 rfl rfl)
theorem dX3_hour_186 : decode cX3_hour 186 = .ok (.iaload, 1) := dk_46 (dk_at dksX3_hour_7 22 rfl rfl)
theorem dX3_hour_187 : decode cX3_hour 187 = .ok (.aload 4, 2) := dk_25 4 (dk_at dksX3_hour_8 0 rfl rfl)
theorem dX3_hour_189 : decode cX3_hour 189 = .ok (.getfield 124, 3) := dk_180 0 124 (dk_at dksX3_hour_8 2 rfl rfl)
theorem dX3_hour_192 : decode cX3_hour 192 = .ok (.invokevirtual 127, 3) := dk_182 0 127 (dk_at dksX3_hour_8 5 rfl rfl)
theorem dX3_hour_195 : decode cX3_hour 195 = .ok (.ifCond .eq 32, 3) := dk_153 0 32 (dk_at dksX3_hour_8 8 rfl rfl)
theorem dX3_hour_198 : decode cX3_hour 198 = .ok (.aload_n 0, 1) := dk_42 (dk_at dksX3_hour_8 11 rfl rfl)
theorem dX3_hour_199 : decode cX3_hour 199 = .ok (.getfield 44, 3) := dk_180 0 44 (dk_at dksX3_hour_8 12 rfl rfl)
theorem dX3_hour_202 : decode cX3_hour 202 = .ok (.aload_n 0, 1) := dk_42 (dk_at dksX3_hour_8 15 rfl rfl)
theorem dX3_hour_203 : decode cX3_hour 203 = .ok (.getfield 15, 3) := dk_180 0 15 (dk_at dksX3_hour_8 16 rfl rfl)
theorem dX3_hour_206 : decode cX3_hour 206 = .ok (.iload_n 3, 1) := dk_29 (dk_at dksX3_hour_8 19 rfl rfl)
theorem dX3_hour_207 : decode cX3_hour 207 = .ok (.iaload, 1) := dk_46 (dk_at dksX3_hour_8 20 rfl rfl)
theorem dX3_hour_208 : decode cX3_hour 208 = .ok (.iaload, 1) := dk_46 (dk_at dksX3_hour_8 21 rfl rfl)
theorem dX3_hour_209 : decode cX3_hour 209 = .ok (.aload 5, 2) := dk_25 5 (dk_at dksX3_hour_8 22 rfl rfl)
theorem dX3_hour_211 : decode cX3_hour 211 = .ok (.getfield 130, 3) := dk_180 0 130 (dk_at dksX3_hour_9 0 rfl rfl)
theorem dX3_hour_214 : decode cX3_hour 214 = .ok (.if_icmp .ge 13, 3) := dk_162 0 13 (dk_at dksX3_hour_9 3 rfl rfl)
theorem dX3_hour_217 : decode cX3_hour 217 = .ok (.aload_n 0, 1) := dk_42 (dk_at dksX3_hour_9 6 rfl rfl)
theorem dX3_hour_218 : decode cX3_hour 218 = .ok (.iload_n 3, 1) := dk_29 (dk_at dksX3_hour_9 7 rfl rfl)
theorem dX3_hour_219 : decode cX3_hour 219 = .ok (.aload 5, 2) := dk_25 5 (dk_at dksX3_hour_9 8 rfl rfl)
theorem dX3_hour_221 : decode cX3_hour 221 = .ok (.invokevirtual 133, 3) := dk_182 0 133 (dk_at dksX3_hour_9 10 rfl rfl)
theorem dX3_hour_224 : decode cX3_hour 224 = .ok (.goto 15, 3) := dk_167 0 15 (dk_at dksX3_hour_9 13 rfl rfl)
theorem dX3_hour_227 : decode cX3_hour 227 = .ok (.aload_n 0, 1) := dk_42 (dk_at dksX3_hour_9 16 rfl rfl)
theorem dX3_hour_228 : decode cX3_hour 228 = .ok (.dup, 1) := dk_89 (dk_at dksX3_hour_9 17 rfl rfl)
theorem dX3_hour_229 : decode cX3_hour 229 = .ok (.getfield 105, 3) := dk_180 0 105 (dk_at dksX3_hour_9 18 rfl rfl)
theorem dX3_hour_232 : decode cX3_hour 232 = .ok (.iconst 1, 1) := dk_4 (dk_at dksX3_hour_9 21 rfl rfl)
theorem dX3_hour_233 : decode cX3_hour 233 = .ok (.iload_n 3, 1) := dk_29 (dk_at dksX3_hour_9 22 rfl rfl)
theorem dX3_hour_234 : decode cX3_hour 234 = .ok (.ishl, 1) := dk_120 (dk_at dksX3_hour_9 23 rfl rfl)
theorem dX3_hour_235 : decode cX3_hour 235 = .ok (.ior, 1) := dk_128 (dk_at dksX3_hour_10 0 rfl rfl)
theorem dX3_hour_236 : decode cX3_hour 236 = .ok (.putfield 105, 3) := dk_181 0 105 (dk_at dksX3_hour_10 1 rfl rfl)
theorem dX3_hour_239 : decode cX3_hour 239 = .ok (.iinc 3 1, 3) := dk_132 3 1 (dk_at dksX3_hour_10 4 rfl rfl)
theorem dX3_hour_242 : decode cX3_hour 242 = .ok (.goto (-175), 3) := dk_167 255 81 (dk_at dksX3_hour_10 7 rfl rfl)
theorem dX3_hour_245 : decode cX3_hour 245 = .ok (.iconst 0, 1) := dk_3 (dk_at dksX3_hour_10 10 rfl rfl)
theorem dX3_hour_246 : decode cX3_hour 246 = .ok (.istore_n 3, 1) := dk_62 (dk_at dksX3_hour_10 11 rfl rfl)
theorem dX3_hour_247 : decode cX3_hour 247 = .ok (.iload_n 3, 1) := dk_29 (dk_at dksX3_hour_10 12 rfl rfl)
theorem dX3_hour_248 : decode cX3_hour 248 = .ok (.aload_n 0, 1) := dk_42 (dk_at dksX3_hour_10 13 rfl rfl)
theorem dX3_hour_249 : decode cX3_hour 249 = .ok (.getfield 3, 3) := dk_180 0 3 (dk_at dksX3_hour_10 14 rfl rfl)
theorem dX3_hour_252 : decode cX3_hour 252 = .ok (.getfield 60, 3) := dk_180 0 60 (dk_at dksX3_hour_10 17 rfl rfl)
theorem dX3_hour_255 : decode cX3_hour 255 = .ok (.if_icmp .ge 112, 3) := dk_162 0 112 (dk_at dksX3_hour_10 20 rfl rfl)
theorem dX3_hour_258 : decode cX3_hour 258 = .ok (.iload_n 2, 1) := dk_28 (dk_at dksX3_hour_10 23 rfl rfl)
theorem dX3_hour_259 : decode cX3_hour 259 = .ok (.iload_n 3, 1) := dk_29 (dk_at dksX3_hour_11 0 rfl rfl)
theorem dX3_hour_260 : decode cX3_hour 260 = .ok (.invokestatic 108, 3) := dk_184 0 108 (dk_at dksX3_hour_11 1 rfl rfl)
theorem dX3_hour_263 : decode cX3_hour 263 = .ok (.ifCond .eq 98, 3) := dk_153 0 98 (dk_at dksX3_hour_11 4 rfl rfl)
theorem dX3_hour_266 : decode cX3_hour 266 = .ok (.aload_n 0, 1) := dk_42 (dk_at dksX3_hour_11 7 rfl rfl)
theorem dX3_hour_267 : decode cX3_hour 267 = .ok (.getfield 25, 3) := dk_180 0 25 (dk_at dksX3_hour_11 8 rfl rfl)
theorem dX3_hour_270 : decode cX3_hour 270 = .ok (.iload_n 3, 1) := dk_29 (dk_at dksX3_hour_11 11 rfl rfl)
theorem dX3_hour_271 : decode cX3_hour 271 = .ok (.iaload, 1) := dk_46 (dk_at dksX3_hour_11 12 rfl rfl)
theorem dX3_hour_272 : decode cX3_hour 272 = .ok (.iconst (-1), 1) := dk_2 (dk_at dksX3_hour_11 13 rfl rfl)
theorem dX3_hour_273 : decode cX3_hour 273 = .ok (.if_icmp .ne 88, 3) := dk_160 0 88 (dk_at dksX3_hour_11 14 rfl rfl)
theorem dX3_hour_276 : decode cX3_hour 276 = .ok (.aload_n 1, 1) := dk_43 (dk_at dksX3_hour_11 17 rfl rfl)
theorem dX3_hour_277 : decode cX3_hour 277 = .ok (.getfield 112, 3) := dk_180 0 112 (dk_at dksX3_hour_11 18 rfl rfl)
theorem dX3_hour_280 : decode cX3_hour 280 = .ok (.aload_n 0, 1) := dk_42 (dk_at dksX3_hour_11 21 rfl rfl)
theorem dX3_hour_281 : decode cX3_hour 281 = .ok (.getfield 15, 3) := dk_180 0 15 (dk_at dksX3_hour_12 0 rfl rfl)
theorem dX3_hour_284 : decode cX3_hour 284 = .ok (.iload_n 3, 1) := dk_29 (dk_at dksX3_hour_12 3 rfl rfl)
theorem dX3_hour_285 : decode cX3_hour 285 = .ok (.iaload, 1) := dk_46 (dk_at dksX3_hour_12 4 rfl rfl)
theorem dX3_hour_286 : decode cX3_hour 286 = .ok (.aaload, 1) := dk_50 (dk_at dksX3_hour_12 5 rfl rfl)
theorem dX3_hour_287 : decode cX3_hour 287 = .ok (.aload_n 0, 1) := dk_42 (dk_at dksX3_hour_12 6 rfl rfl)
theorem dX3_hour_288 : decode cX3_hour 288 = .ok (.getfield 47, 3) := dk_180 0 47 (dk_at dksX3_hour_12 7 rfl rfl)
theorem dX3_hour_291 : decode cX3_hour 291 = .ok (.invokevirtual 116, 3) := dk_182 0 116 (dk_at dksX3_hour_12 10 rfl rfl)
theorem dX3_hour_294 : decode cX3_hour 294 = .ok (.ifCond .eq 67, 3) := dk_153 0 67 (dk_at dksX3_hour_12 13 rfl rfl)
theorem dX3_hour_297 : decode cX3_hour 297 = .ok (.aload_n 1, 1) := dk_43 (dk_at dksX3_hour_12 16 rfl rfl)
theorem dX3_hour_298 : decode cX3_hour 298 = .ok (.getfield 112, 3) := dk_180 0 112 (dk_at dksX3_hour_12 17 rfl rfl)
theorem dX3_hour_301 : decode cX3_hour 301 = .ok (.aload_n 0, 1) := dk_42 (dk_at dksX3_hour_12 20 rfl rfl)
theorem dX3_hour_302 : decode cX3_hour 302 = .ok (.getfield 15, 3) := dk_180 0 15 (dk_at dksX3_hour_12 21 rfl rfl)
theorem dX3_hour_305 : decode cX3_hour 305 = .ok (.iload_n 3, 1) := dk_29 (dk_at dksX3_hour_13 0 rfl rfl)
theorem dX3_hour_306 : decode cX3_hour 306 = .ok (.iaload, 1) := dk_46 (dk_at dksX3_hour_13 1 rfl rfl)
theorem dX3_hour_307 : decode cX3_hour 307 = .ok (.aaload, 1) := dk_50 (dk_at dksX3_hour_13 2 rfl rfl)
theorem dX3_hour_308 : decode cX3_hour 308 = .ok (.aload_n 0, 1) := dk_42 (dk_at dksX3_hour_13 3 rfl rfl)
theorem dX3_hour_309 : decode cX3_hour 309 = .ok (.getfield 47, 3) := dk_180 0 47 (dk_at dksX3_hour_13 4 rfl rfl)
theorem dX3_hour_312 : decode cX3_hour 312 = .ok (.iconst 1, 1) := dk_4 (dk_at dksX3_hour_13 7 rfl rfl)
theorem dX3_hour_313 : decode cX3_hour 313 = .ok (.iadd, 1) := dk_96 (dk_at dksX3_hour_13 8 rfl rfl)
theorem dX3_hour_314 : decode cX3_hour 314 = .ok (.invokevirtual 116, 3) := dk_182 0 116 (dk_at dksX3_hour_13 9 rfl rfl)
theorem dX3_hour_317 : decode cX3_hour 317 = .ok (.ifCond .eq 6, 3) := dk_153 0 6 (dk_at dksX3_hour_13 12 rfl rfl)
theorem dX3_hour_320 : decode cX3_hour 320 = .ok (.goto 41, 3) := dk_167 0 41 (dk_at dksX3_hour_13 15 rfl rfl)
theorem dX3_hour_323 : decode cX3_hour 323 = .ok (.aload_n 0, 1) := dk_42 (dk_at dksX3_hour_13 18 rfl rfl)
theorem dX3_hour_324 : decode cX3_hour 324 = .ok (.getfield 3, 3) := dk_180 0 3 (dk_at dksX3_hour_13 19 rfl rfl)
theorem dX3_hour_327 : decode cX3_hour 327 = .ok (.aload_n 1, 1) := dk_43 (dk_at dksX3_hour_13 22 rfl rfl)
theorem dX3_hour_328 : decode cX3_hour 328 = .ok (.aload_n 0, 1) := dk_42 (dk_at dksX3_hour_13 23 rfl rfl)
theorem dX3_hour_329 : decode cX3_hour 329 = .ok (.iload_n 3, 1) := dk_29 (dk_at dksX3_hour_14 0 rfl rfl)
theorem dX3_hour_330 : decode cX3_hour 330 = .ok (.invokevirtual 137, 3) := dk_182 0 137 (dk_at dksX3_hour_14 1 rfl rfl)
theorem dX3_hour_333 : decode cX3_hour 333 = .ok (.istore 4, 2) := dk_54 4 (dk_at dksX3_hour_14 4 rfl rfl)
theorem dX3_hour_335 : decode cX3_hour 335 = .ok (.iload 4, 2) := dk_21 4 (dk_at dksX3_hour_14 6 rfl rfl)
theorem dX3_hour_337 : decode cX3_hour 337 = .ok (.aload_n 0, 1) := dk_42 (dk_at dksX3_hour_14 8 rfl rfl)
theorem dX3_hour_338 : decode cX3_hour 338 = .ok (.getfield 15, 3) := dk_180 0 15 (dk_at dksX3_hour_14 9 rfl rfl)
theorem dX3_hour_341 : decode cX3_hour 341 = .ok (.iload_n 3, 1) := dk_29 (dk_at dksX3_hour_14 12 rfl rfl)
theorem dX3_hour_342 : decode cX3_hour 342 = .ok (.iaload, 1) := dk_46 (dk_at dksX3_hour_14 13 rfl rfl)
theorem dX3_hour_343 : decode cX3_hour 343 = .ok (.if_icmp .eq 18, 3) := dk_159 0 18 (dk_at dksX3_hour_14 14 rfl rfl)
theorem dX3_hour_346 : decode cX3_hour 346 = .ok (.aload_n 0, 1) := dk_42 (dk_at dksX3_hour_14 17 rfl rfl)
theorem dX3_hour_347 : decode cX3_hour 347 = .ok (.aload_n 1, 1) := dk_43 (dk_at dksX3_hour_14 18 rfl rfl)
theorem dX3_hour_348 : decode cX3_hour 348 = .ok (.iload_n 3, 1) := dk_29 (dk_at dksX3_hour_14 19 rfl rfl)
theorem dX3_hour_349 : decode cX3_hour 349 = .ok (.iload 4, 2) := dk_21 4 (dk_at dksX3_hour_14 20 rfl rfl)
theorem dX3_hour_351 : decode cX3_hour 351 = .ok (.aload_n 0, 1) := dk_42 (dk_at dksX3_hour_14 22 rfl rfl)
theorem dX3_hour_352 : decode cX3_hour 352 = .ok (.getfield 47, 3) := dk_180 0 47 (dk_at dksX3_hour_15 0 rfl rfl)
theorem dX3_hour_355 : decode cX3_hour 355 = .ok (.iconst 1, 1) := dk_4 (dk_at dksX3_hour_15 3 rfl rfl)
theorem dX3_hour_356 : decode cX3_hour 356 = .ok (.iadd, 1) := dk_96 (dk_at dksX3_hour_15 4 rfl rfl)
theorem dX3_hour_357 : decode cX3_hour 357 = .ok (.invokevirtual 141, 3) := dk_182 0 141 (dk_at dksX3_hour_15 5 rfl rfl)
theorem dX3_hour_360 : decode cX3_hour 360 = .ok (.pop, 1) := dk_87 (dk_at dksX3_hour_15 8 rfl rfl)
theorem dX3_hour_361 : decode cX3_hour 361 = .ok (.iinc 3 1, 3) := dk_132 3 1 (dk_at dksX3_hour_15 9 rfl rfl)
theorem dX3_hour_364 : decode cX3_hour 364 = .ok (.goto (-117), 3) := dk_167 255 139 (dk_at dksX3_hour_15 12 rfl rfl)
theorem dX3_hour_367 : decode cX3_hour 367 = .ok (.aload_n 0, 1) := dk_42 (dk_at dksX3_hour_15 15 rfl rfl)
theorem dX3_hour_368 : decode cX3_hour 368 = .ok (.dup, 1) := dk_89 (dk_at dksX3_hour_15 16 rfl rfl)
theorem dX3_hour_369 : decode cX3_hour 369 = .ok (.getfield 47, 3) := dk_180 0 47 (dk_at dksX3_hour_15 17 rfl rfl)
theorem dX3_hour_372 : decode cX3_hour 372 = .ok (.iconst 1, 1) := dk_4 (dk_at dksX3_hour_15 20 rfl rfl)
theorem dX3_hour_373 : decode cX3_hour 373 = .ok (.iadd, 1) := dk_96 (dk_at dksX3_hour_15 21 rfl rfl)
theorem dX3_hour_374 : decode cX3_hour 374 = .ok (.putfield 47, 3) := dk_181 0 47 (dk_at dksX3_hour_16 0 rfl rfl)
theorem dX3_hour_377 : decode cX3_hour 377 = .ok (.return_, 1) := dk_177 (dk_at dksX3_hour_16 3 rfl rfl)
def dkwX3_isReady_1 : List UInt8 := [182, 0, 88, 2, 130, 126, 154, 0, 7, 4, 167, 0, 4, 3, 172]
abbrev dktX3_isReady_1 : List UInt8 := dkwX3_isReady_1 ++ []
def dkwX3_isReady_0 : List UInt8 := [42, 180, 0, 25, 27, 46, 2, 160, 0, 29, 42, 180, 0, 3, 180, 0, 73, 27, 50, 180, 0, 85, 42]
abbrev dktX3_isReady_0 : List UInt8 := dkwX3_isReady_0 ++ dktX3_isReady_1
theorem dksX3_isReady_0 : cX3_isReady.data.toList.drop 0 = dktX3_isReady_0 := by decide +kernel
theorem dksX3_isReady_1 : cX3_isReady.data.toList.drop 23 = dktX3_isReady_1 := dk_seg dksX3_isReady_0 23 rfl rfl
theorem dX3_isReady_0 : decode cX3_isReady 0 = .ok (.aload_n 0, 1) := dk_42 (dk_at dksX3_isReady_0 0 rfl rfl)
theorem dX3_isReady_1 : decode cX3_isReady 1 = .ok (.getfield 25, 3) := dk_180 0 25 (dk_at dksX3_isReady_0 1 rfl rfl)
theorem dX3_isReady_4 : decode cX3_isReady 4 = .ok (.iload_n 1, 1) := dk_27 (dk_at dksX3_isReady_0 4 rfl rfl)
theorem dX3_isReady_5 : decode cX3_isReady 5 = .ok (.iaload, 1) := dk_46 (dk_at dksX3_isReady_0 5 rfl rfl)
theorem dX3_isReady_6 : decode cX3_isReady 6 = .ok (.iconst (-1), 1) := dk_2 (dk_at dksX3_isReady_0 6 rfl rfl)
theorem dX3_isReady_7 : decode cX3_isReady 7 = .ok (.if_icmp .ne 29, 3) := dk_160 0 29 (dk_at dksX3_isReady_0 7 rfl rfl)
theorem dX3_isReady_10 : decode cX3_isReady 10 = .ok (.aload_n 0, 1) := dk_42 (dk_at dksX3_isReady_0 10 rfl rfl)
theorem dX3_isReady_11 : decode cX3_isReady 11 = .ok (.getfield 3, 3) := dk_180 0 3 (dk_at dksX3_isReady_0 11 rfl rfl)
theorem dX3_isReady_14 : decode cX3_isReady 14 = .ok (.getfield 73, 3) := dk_180 0 73 (dk_at dksX3_isReady_0 14 rfl rfl)
theorem dX3_isReady_17 : decode cX3_isReady 17 = .ok (.iload_n 1, 1) := dk_27 (dk_at dksX3_isReady_0 17 rfl rfl)
theorem dX3_isReady_18 : decode cX3_isReady 18 = .ok (.aaload, 1) := dk_50 (dk_at dksX3_isReady_0 18 rfl rfl)
theorem dX3_isReady_19 : decode cX3_isReady 19 = .ok (.getfield 85, 3) := dk_180 0 85 (dk_at dksX3_isReady_0 19 rfl rfl)
theorem dX3_isReady_22 : decode cX3_isReady 22 = .ok (.aload_n 0, 1) := dk_42 (dk_at dksX3_isReady_0 22 rfl rfl)
theorem dX3_isReady_23 : decode cX3_isReady 23 = .ok (.invokevirtual 88, 3) := dk_182 0 88 (dk_at dksX3_isReady_1 0 rfl rfl)
theorem dX3_isReady_26 : decode cX3_isReady 26 = .ok (.iconst (-1), 1) := dk_2 (dk_at dksX3_isReady_1 3 rfl rfl)
theorem dX3_isReady_27 : decode cX3_isReady 27 = .ok (.ixor, 1) := dk_130 (dk_at dksX3_isReady_1 4 rfl rfl)
theorem dX3_isReady_28 : decode cX3_isReady 28 = .ok (.iand, 1) := dk_126 (dk_at dksX3_isReady_1 5 rfl rfl)
theorem dX3_isReady_29 : decode cX3_isReady 29 = .ok (.ifCond .ne 7, 3) := dk_154 0 7 (dk_at dksX3_isReady_1 6 rfl rfl)
theorem dX3_isReady_32 : decode cX3_isReady 32 = .ok (.iconst 1, 1) := dk_4 (dk_at dksX3_isReady_1 9 rfl rfl)
theorem dX3_isReady_33 : decode cX3_isReady 33 = .ok (.goto 4, 3) := dk_167 0 4 (dk_at dksX3_isReady_1 10 rfl rfl)
theorem dX3_isReady_36 : decode cX3_isReady 36 = .ok (.iconst 0, 1) := dk_3 (dk_at dksX3_isReady_1 13 rfl rfl)
theorem dX3_isReady_37 : decode cX3_isReady 37 = .ok (.ireturn, 1) := dk_172 (dk_at dksX3_isReady_1 14 rfl rfl)
def dkwX3_doneOnes_1 : List UInt8 := [160, 0, 7, 3, 167, 0, 6, 4, 28, 120, 128, 60, 132, 2, 1, 167, 255, 222, 27, 172]
abbrev dktX3_doneOnes_1 : List UInt8 := dkwX3_doneOnes_1 ++ []
def dkwX3_doneOnes_0 : List UInt8 := [3, 60, 3, 61, 28, 42, 180, 0, 3, 180, 0, 60, 162, 0, 29, 27, 42, 180, 0, 25, 28, 46, 2]
abbrev dktX3_doneOnes_0 : List UInt8 := dkwX3_doneOnes_0 ++ dktX3_doneOnes_1
theorem dksX3_doneOnes_0 : cX3_doneOnes.data.toList.drop 0 = dktX3_doneOnes_0 := by decide +kernel
theorem dksX3_doneOnes_1 : cX3_doneOnes.data.toList.drop 23 = dktX3_doneOnes_1 := dk_seg dksX3_doneOnes_0 23 rfl rfl
theorem dX3_doneOnes_0 : decode cX3_doneOnes 0 = .ok (.iconst 0, 1) := dk_3 (dk_at dksX3_doneOnes_0 0 rfl rfl)
theorem dX3_doneOnes_1 : decode cX3_doneOnes 1 = .ok (.istore_n 1, 1) := dk_60 (dk_at dksX3_doneOnes_0 1 rfl rfl)
theorem dX3_doneOnes_2 : decode cX3_doneOnes 2 = .ok (.iconst 0, 1) := dk_3 (dk_at dksX3_doneOnes_0 2 rfl rfl)
theorem dX3_doneOnes_3 : decode cX3_doneOnes 3 = .ok (.istore_n 2, 1) := dk_61 (dk_at dksX3_doneOnes_0 3 rfl rfl)
theorem dX3_doneOnes_4 : decode cX3_doneOnes 4 = .ok (.iload_n 2, 1) := dk_28 (dk_at dksX3_doneOnes_0 4 rfl rfl)
theorem dX3_doneOnes_5 : decode cX3_doneOnes 5 = .ok (.aload_n 0, 1) := dk_42 (dk_at dksX3_doneOnes_0 5 rfl rfl)
theorem dX3_doneOnes_6 : decode cX3_doneOnes 6 = .ok (.getfield 3, 3) := dk_180 0 3 (dk_at dksX3_doneOnes_0 6 rfl rfl)
theorem dX3_doneOnes_9 : decode cX3_doneOnes 9 = .ok (.getfield 60, 3) := dk_180 0 60 (dk_at dksX3_doneOnes_0 9 rfl rfl)
theorem dX3_doneOnes_12 : decode cX3_doneOnes 12 = .ok (.if_icmp .ge 29, 3) := dk_162 0 29 (dk_at dksX3_doneOnes_0 12 rfl rfl)
theorem dX3_doneOnes_15 : decode cX3_doneOnes 15 = .ok (.iload_n 1, 1) := dk_27 (dk_at dksX3_doneOnes_0 15 rfl rfl)
theorem dX3_doneOnes_16 : decode cX3_doneOnes 16 = .ok (.aload_n 0, 1) := dk_42 (dk_at dksX3_doneOnes_0 16 rfl rfl)
theorem dX3_doneOnes_17 : decode cX3_doneOnes 17 = .ok (.getfield 25, 3) := dk_180 0 25 (dk_at dksX3_doneOnes_0 17 rfl rfl)
theorem dX3_doneOnes_20 : decode cX3_doneOnes 20 = .ok (.iload_n 2, 1) := dk_28 (dk_at dksX3_doneOnes_0 20 rfl rfl)
theorem dX3_doneOnes_21 : decode cX3_doneOnes 21 = .ok (.iaload, 1) := dk_46 (dk_at dksX3_doneOnes_0 21 rfl rfl)
theorem dX3_doneOnes_22 : decode cX3_doneOnes 22 = .ok (.iconst (-1), 1) := dk_2 (dk_at dksX3_doneOnes_0 22 rfl rfl)
theorem dX3_doneOnes_23 : decode cX3_doneOnes 23 = .ok (.if_icmp .ne 7, 3) := dk_160 0 7 (dk_at dksX3_doneOnes_1 0 rfl rfl)
theorem dX3_doneOnes_26 : decode cX3_doneOnes 26 = .ok (.iconst 0, 1) := dk_3 (dk_at dksX3_doneOnes_1 3 rfl rfl)
theorem dX3_doneOnes_27 : decode cX3_doneOnes 27 = .ok (.goto 6, 3) := dk_167 0 6 (dk_at dksX3_doneOnes_1 4 rfl rfl)
theorem dX3_doneOnes_30 : decode cX3_doneOnes 30 = .ok (.iconst 1, 1) := dk_4 (dk_at dksX3_doneOnes_1 7 rfl rfl)
theorem dX3_doneOnes_31 : decode cX3_doneOnes 31 = .ok (.iload_n 2, 1) := dk_28 (dk_at dksX3_doneOnes_1 8 rfl rfl)
theorem dX3_doneOnes_32 : decode cX3_doneOnes 32 = .ok (.ishl, 1) := dk_120 (dk_at dksX3_doneOnes_1 9 rfl rfl)
theorem dX3_doneOnes_33 : decode cX3_doneOnes 33 = .ok (.ior, 1) := dk_128 (dk_at dksX3_doneOnes_1 10 rfl rfl)
theorem dX3_doneOnes_34 : decode cX3_doneOnes 34 = .ok (.istore_n 1, 1) := dk_60 (dk_at dksX3_doneOnes_1 11 rfl rfl)
theorem dX3_doneOnes_35 : decode cX3_doneOnes 35 = .ok (.iinc 2 1, 3) := dk_132 2 1 (dk_at dksX3_doneOnes_1 12 rfl rfl)
theorem dX3_doneOnes_38 : decode cX3_doneOnes 38 = .ok (.goto (-34), 3) := dk_167 255 222 (dk_at dksX3_doneOnes_1 15 rfl rfl)
theorem dX3_doneOnes_41 : decode cX3_doneOnes 41 = .ok (.iload_n 1, 1) := dk_27 (dk_at dksX3_doneOnes_1 18 rfl rfl)
theorem dX3_doneOnes_42 : decode cX3_doneOnes 42 = .ok (.ireturn, 1) := dk_172 (dk_at dksX3_doneOnes_1 19 rfl rfl)
def dkwX3_work_5 : List UInt8 := [42, 180, 0, 28, 27, 4, 84, 42, 180, 0, 22, 27, 3, 79, 177]
abbrev dktX3_work_5 : List UInt8 := dkwX3_work_5 ++ []
def dkwX3_work_4 : List UInt8 := [159, 0, 38, 42, 180, 0, 22, 27, 46, 42, 180, 0, 3, 180, 0, 73, 27, 50, 180, 0, 146, 160, 0, 17]
abbrev dktX3_work_4 : List UInt8 := dkwX3_work_4 ++ dktX3_work_5
def dkwX3_work_3 : List UInt8 := [27, 42, 180, 0, 47, 4, 96, 79, 167, 0, 54, 42, 180, 0, 3, 180, 0, 73, 27, 50, 180, 0, 121, 2]
abbrev dktX3_work_3 : List UInt8 := dkwX3_work_3 ++ dktX3_work_4
def dkwX3_work_2 : List UInt8 := [180, 0, 51, 44, 180, 0, 145, 96, 181, 0, 51, 42, 180, 0, 19, 27, 46, 154, 0, 18, 42, 180, 0, 25]
abbrev dktX3_work_2 : List UInt8 := dkwX3_work_2 ++ dktX3_work_3
def dkwX3_work_1 : List UInt8 := [79, 42, 180, 0, 22, 27, 92, 46, 4, 96, 79, 42, 180, 0, 32, 27, 92, 46, 4, 96, 79, 42, 89]
abbrev dktX3_work_1 : List UInt8 := dkwX3_work_1 ++ dktX3_work_2
def dkwX3_work_0 : List UInt8 := [42, 180, 0, 44, 42, 180, 0, 15, 27, 46, 92, 46, 4, 96, 79, 42, 180, 0, 19, 27, 92, 46, 4, 100]
abbrev dktX3_work_0 : List UInt8 := dkwX3_work_0 ++ dktX3_work_1
theorem dksX3_work_0 : cX3_work.data.toList.drop 0 = dktX3_work_0 := by decide +kernel
theorem dksX3_work_1 : cX3_work.data.toList.drop 24 = dktX3_work_1 := dk_seg dksX3_work_0 24 rfl rfl
theorem dksX3_work_2 : cX3_work.data.toList.drop 47 = dktX3_work_2 := dk_seg dksX3_work_1 23 rfl rfl
theorem dksX3_work_3 : cX3_work.data.toList.drop 71 = dktX3_work_3 := dk_seg dksX3_work_2 24 rfl rfl
theorem dksX3_work_4 : cX3_work.data.toList.drop 95 = dktX3_work_4 := dk_seg dksX3_work_3 24 rfl rfl
theorem dksX3_work_5 : cX3_work.data.toList.drop 119 = dktX3_work_5 := dk_seg dksX3_work_4 24 rfl rfl
theorem dX3_work_0 : decode cX3_work 0 = .ok (.aload_n 0, 1) := dk_42 (dk_at dksX3_work_0 0 rfl rfl)
theorem dX3_work_1 : decode cX3_work 1 = .ok (.getfield 44, 3) := dk_180 0 44 (dk_at dksX3_work_0 1 rfl rfl)
theorem dX3_work_4 : decode cX3_work 4 = .ok (.aload_n 0, 1) := dk_42 (dk_at dksX3_work_0 4 rfl rfl)
theorem dX3_work_5 : decode cX3_work 5 = .ok (.getfield 15, 3) := dk_180 0 15 (dk_at dksX3_work_0 5 rfl rfl)
theorem dX3_work_8 : decode cX3_work 8 = .ok (.iload_n 1, 1) := dk_27 (dk_at dksX3_work_0 8 rfl rfl)
theorem dX3_work_9 : decode cX3_work 9 = .ok (.iaload, 1) := dk_46 (dk_at dksX3_work_0 9 rfl rfl)
theorem dX3_work_10 : decode cX3_work 10 = .ok (.dup2, 1) := dk_92 (dk_at dksX3_work_0 10 rfl rfl)
theorem dX3_work_11 : decode cX3_work 11 = .ok (.iaload, 1) := dk_46 (dk_at dksX3_work_0 11 rfl rfl)
theorem dX3_work_12 : decode cX3_work 12 = .ok (.iconst 1, 1) := dk_4 (dk_at dksX3_work_0 12 rfl rfl)
theorem dX3_work_13 : decode cX3_work 13 = .ok (.iadd, 1) := dk_96 (dk_at dksX3_work_0 13 rfl rfl)
theorem dX3_work_14 : decode cX3_work 14 = .ok (.iastore, 1) := dk_79 (dk_at dksX3_work_0 14 rfl rfl)
theorem dX3_work_15 : decode cX3_work 15 = .ok (.aload_n 0, 1) := dk_42 (dk_at dksX3_work_0 15 rfl rfl)
theorem dX3_work_16 : decode cX3_work 16 = .ok (.getfield 19, 3) := dk_180 0 19 (dk_at dksX3_work_0 16 rfl rfl)
theorem dX3_work_19 : decode cX3_work 19 = .ok (.iload_n 1, 1) := dk_27 (dk_at dksX3_work_0 19 rfl rfl)
theorem dX3_work_20 : decode cX3_work 20 = .ok (.dup2, 1) := dk_92 (dk_at dksX3_work_0 20 rfl rfl)
theorem dX3_work_21 : decode cX3_work 21 = .ok (.iaload, 1) := dk_46 (dk_at dksX3_work_0 21 rfl rfl)
theorem dX3_work_22 : decode cX3_work 22 = .ok (.iconst 1, 1) := dk_4 (dk_at dksX3_work_0 22 rfl rfl)
theorem dX3_work_23 : decode cX3_work 23 = .ok (.isub, 1) := dk_100 (dk_at dksX3_work_0 23 rfl rfl)
theorem dX3_work_24 : decode cX3_work 24 = .ok (.iastore, 1) := dk_79 (dk_at dksX3_work_1 0 rfl rfl)
theorem dX3_work_25 : decode cX3_work 25 = .ok (.aload_n 0, 1) := dk_42 (dk_at dksX3_work_1 1 rfl rfl)
theorem dX3_work_26 : decode cX3_work 26 = .ok (.getfield 22, 3) := dk_180 0 22 (dk_at dksX3_work_1 2 rfl rfl)
theorem dX3_work_29 : decode cX3_work 29 = .ok (.iload_n 1, 1) := dk_27 (dk_at dksX3_work_1 5 rfl rfl)
theorem dX3_work_30 : decode cX3_work 30 = .ok (.dup2, 1) := dk_92 (dk_at dksX3_work_1 6 rfl rfl)
theorem dX3_work_31 : decode cX3_work 31 = .ok (.iaload, 1) := dk_46 (dk_at dksX3_work_1 7 rfl rfl)
theorem dX3_work_32 : decode cX3_work 32 = .ok (.iconst 1, 1) := dk_4 (dk_at dksX3_work_1 8 rfl rfl)
theorem dX3_work_33 : decode cX3_work 33 = .ok (.iadd, 1) := dk_96 (dk_at dksX3_work_1 9 rfl rfl)
theorem dX3_work_34 : decode cX3_work 34 = .ok (.iastore, 1) := dk_79 (dk_at dksX3_work_1 10 rfl rfl)
theorem dX3_work_35 : decode cX3_work 35 = .ok (.aload_n 0, 1) := dk_42 (dk_at dksX3_work_1 11 rfl rfl)
theorem dX3_work_36 : decode cX3_work 36 = .ok (.getfield 32, 3) := dk_180 0 32 (dk_at dksX3_work_1 12 rfl rfl)
theorem dX3_work_39 : decode cX3_work 39 = .ok (.iload_n 1, 1) := dk_27 (dk_at dksX3_work_1 15 rfl rfl)
theorem dX3_work_40 : decode cX3_work 40 = .ok (.dup2, 1) := dk_92 (dk_at dksX3_work_1 16 rfl rfl)
theorem dX3_work_41 : decode cX3_work 41 = .ok (.iaload, 1) := dk_46 (dk_at dksX3_work_1 17 rfl rfl)
theorem dX3_work_42 : decode cX3_work 42 = .ok (.iconst 1, 1) := dk_4 (dk_at dksX3_work_1 18 rfl rfl)
theorem dX3_work_43 : decode cX3_work 43 = .ok (.iadd, 1) := dk_96 (dk_at dksX3_work_1 19 rfl rfl)
theorem dX3_work_44 : decode cX3_work 44 = .ok (.iastore, 1) := dk_79 (dk_at dksX3_work_1 20 rfl rfl)
theorem dX3_work_45 : decode cX3_work 45 = .ok (.aload_n 0, 1) := dk_42 (dk_at dksX3_work_1 21 rfl rfl)
theorem dX3_work_46 : decode cX3_work 46 = .ok (.dup, 1) := dk_89 (dk_at dksX3_work_1 22 rfl rfl)
theorem dX3_work_47 : decode cX3_work 47 = .ok (.getfield 51, 3) := dk_180 0 51 (dk_at dksX3_work_2 0 rfl rfl)
theorem dX3_work_50 : decode cX3_work 50 = .ok (.aload_n 2, 1) := dk_44 (dk_at dksX3_work_2 3 rfl rfl)
theorem dX3_work_51 : decode cX3_work 51 = .ok (.getfield 145, 3) := dk_180 0 145 (dk_at dksX3_work_2 4 rfl rfl)
theorem dX3_work_54 : decode cX3_work 54 = .ok (.iadd, 1) := dk_96 (dk_at dksX3_work_2 7 rfl rfl)
theorem dX3_work_55 : decode cX3_work 55 = .ok (.putfield 51, 3) := dk_181 0 51 (dk_at dksX3_work_2 8 rfl rfl)
theorem dX3_work_58 : decode cX3_work 58 = .ok (.aload_n 0, 1) := dk_42 (dk_at dksX3_work_2 11 rfl rfl)
theorem dX3_work_59 : decode cX3_work 59 = .ok (.getfield 19, 3) := dk_180 0 19 (dk_at dksX3_work_2 12 rfl rfl)
theorem dX3_work_62 : decode cX3_work 62 = .ok (.iload_n 1, 1) := dk_27 (dk_at dksX3_work_2 15 rfl rfl)
theorem dX3_work_63 : decode cX3_work 63 = .ok (.iaload, 1) := dk_46 (dk_at dksX3_work_2 16 rfl rfl)
theorem dX3_work_64 : decode cX3_work 64 = .ok (.ifCond .ne 18, 3) := dk_154 0 18 (dk_at dksX3_work_2 17 rfl rfl)
theorem dX3_work_67 : decode cX3_work 67 = .ok (.aload_n 0, 1) := dk_42 (dk_at dksX3_work_2 20 rfl rfl)
theorem dX3_work_68 : decode cX3_work 68 = .ok (.getfield 25, 3) := dk_180 0 25 (dk_at dksX3_work_2 21 rfl rfl)
theorem dX3_work_71 : decode cX3_work 71 = .ok (.iload_n 1, 1) := dk_27 (dk_at dksX3_work_3 0 rfl rfl)
theorem dX3_work_72 : decode cX3_work 72 = .ok (.aload_n 0, 1) := dk_42 (dk_at dksX3_work_3 1 rfl rfl)
theorem dX3_work_73 : decode cX3_work 73 = .ok (.getfield 47, 3) := dk_180 0 47 (dk_at dksX3_work_3 2 rfl rfl)
theorem dX3_work_76 : decode cX3_work 76 = .ok (.iconst 1, 1) := dk_4 (dk_at dksX3_work_3 5 rfl rfl)
theorem dX3_work_77 : decode cX3_work 77 = .ok (.iadd, 1) := dk_96 (dk_at dksX3_work_3 6 rfl rfl)
theorem dX3_work_78 : decode cX3_work 78 = .ok (.iastore, 1) := dk_79 (dk_at dksX3_work_3 7 rfl rfl)
theorem dX3_work_79 : decode cX3_work 79 = .ok (.goto 54, 3) := dk_167 0 54 (dk_at dksX3_work_3 8 rfl rfl)
theorem dX3_work_82 : decode cX3_work 82 = .ok (.aload_n 0, 1) := dk_42 (dk_at dksX3_work_3 11 rfl rfl)
theorem dX3_work_83 : decode cX3_work 83 = .ok (.getfield 3, 3) := dk_180 0 3 (dk_at dksX3_work_3 12 rfl rfl)
theorem dX3_work_86 : decode cX3_work 86 = .ok (.getfield 73, 3) := dk_180 0 73 (dk_at dksX3_work_3 15 rfl rfl)
theorem dX3_work_89 : decode cX3_work 89 = .ok (.iload_n 1, 1) := dk_27 (dk_at dksX3_work_3 18 rfl rfl)
theorem dX3_work_90 : decode cX3_work 90 = .ok (.aaload, 1) := dk_50 (dk_at dksX3_work_3 19 rfl rfl)
theorem dX3_work_91 : decode cX3_work 91 = .ok (.getfield 121, 3) := dk_180 0 121 (dk_at dksX3_work_3 20 rfl rfl)
theorem dX3_work_94 : decode cX3_work 94 = .ok (.iconst (-1), 1) := dk_2 (dk_at dksX3_work_3 23 rfl rfl)
theorem dX3_work_95 : decode cX3_work 95 = .ok (.if_icmp .eq 38, 3) := dk_159 0 38 (dk_at dksX3_work_4 0 rfl rfl)
theorem dX3_work_98 : decode cX3_work 98 = .ok (.aload_n 0, 1) := dk_42 (dk_at dksX3_work_4 3 rfl rfl)
theorem dX3_work_99 : decode cX3_work 99 = .ok (.getfield 22, 3) := dk_180 0 22 (dk_at dksX3_work_4 4 rfl rfl)
theorem dX3_work_102 : decode cX3_work 102 = .ok (.iload_n 1, 1) := dk_27 (dk_at dksX3_work_4 7 rfl rfl)
theorem dX3_work_103 : decode cX3_work 103 = .ok (.iaload, 1) := dk_46 (dk_at dksX3_work_4 8 rfl rfl)
theorem dX3_work_104 : decode cX3_work 104 = .ok (.aload_n 0, 1) := dk_42 (dk_at dksX3_work_4 9 rfl rfl)
theorem dX3_work_105 : decode cX3_work 105 = .ok (.getfield 3, 3) := dk_180 0 3 (dk_at dksX3_work_4 10 rfl rfl)
theorem dX3_work_108 : decode cX3_work 108 = .ok (.getfield 73, 3) := dk_180 0 73 (dk_at dksX3_work_4 13 rfl rfl)
theorem dX3_work_111 : decode cX3_work 111 = .ok (.iload_n 1, 1) := dk_27 (dk_at dksX3_work_4 16 rfl rfl)
theorem dX3_work_112 : decode cX3_work 112 = .ok (.aaload, 1) := dk_50 (dk_at dksX3_work_4 17 rfl rfl)
theorem dX3_work_113 : decode cX3_work 113 = .ok (.getfield 146, 3) := dk_180 0 146 (dk_at dksX3_work_4 18 rfl rfl)
theorem dX3_work_116 : decode cX3_work 116 = .ok (.if_icmp .ne 17, 3) := dk_160 0 17 (dk_at dksX3_work_4 21 rfl rfl)
theorem dX3_work_119 : decode cX3_work 119 = .ok (.aload_n 0, 1) := dk_42 (dk_at dksX3_work_5 0 rfl rfl)
theorem dX3_work_120 : decode cX3_work 120 = .ok (.getfield 28, 3) := dk_180 0 28 (dk_at dksX3_work_5 1 rfl rfl)
theorem dX3_work_123 : decode cX3_work 123 = .ok (.iload_n 1, 1) := dk_27 (dk_at dksX3_work_5 4 rfl rfl)
theorem dX3_work_124 : decode cX3_work 124 = .ok (.iconst 1, 1) := dk_4 (dk_at dksX3_work_5 5 rfl rfl)
theorem dX3_work_125 : decode cX3_work 125 = .ok (.bastore, 1) := dk_84 (dk_at dksX3_work_5 6 rfl rfl)
theorem dX3_work_126 : decode cX3_work 126 = .ok (.aload_n 0, 1) := dk_42 (dk_at dksX3_work_5 7 rfl rfl)
theorem dX3_work_127 : decode cX3_work 127 = .ok (.getfield 22, 3) := dk_180 0 22 (dk_at dksX3_work_5 8 rfl rfl)
theorem dX3_work_130 : decode cX3_work 130 = .ok (.iload_n 1, 1) := dk_27 (dk_at dksX3_work_5 11 rfl rfl)
theorem dX3_work_131 : decode cX3_work 131 = .ok (.iconst 0, 1) := dk_3 (dk_at dksX3_work_5 12 rfl rfl)
theorem dX3_work_132 : decode cX3_work 132 = .ok (.iastore, 1) := dk_79 (dk_at dksX3_work_5 13 rfl rfl)
theorem dX3_work_133 : decode cX3_work 133 = .ok (.return_, 1) := dk_177 (dk_at dksX3_work_5 14 rfl rfl)
def dkwX3_pieceOf_0 : List UInt8 := [42, 180, 0, 3, 180, 0, 73, 27, 50, 176]
abbrev dktX3_pieceOf_0 : List UInt8 := dkwX3_pieceOf_0 ++ []
theorem dksX3_pieceOf_0 : cX3_pieceOf.data.toList.drop 0 = dktX3_pieceOf_0 := by decide +kernel
theorem dX3_pieceOf_0 : decode cX3_pieceOf 0 = .ok (.aload_n 0, 1) := dk_42 (dk_at dksX3_pieceOf_0 0 rfl rfl)
theorem dX3_pieceOf_1 : decode cX3_pieceOf 1 = .ok (.getfield 3, 3) := dk_180 0 3 (dk_at dksX3_pieceOf_0 1 rfl rfl)
theorem dX3_pieceOf_4 : decode cX3_pieceOf 4 = .ok (.getfield 73, 3) := dk_180 0 73 (dk_at dksX3_pieceOf_0 4 rfl rfl)
theorem dX3_pieceOf_7 : decode cX3_pieceOf 7 = .ok (.iload_n 1, 1) := dk_27 (dk_at dksX3_pieceOf_0 7 rfl rfl)
theorem dX3_pieceOf_8 : decode cX3_pieceOf 8 = .ok (.aaload, 1) := dk_50 (dk_at dksX3_pieceOf_0 8 rfl rfl)
theorem dX3_pieceOf_9 : decode cX3_pieceOf 9 = .ok (.areturn, 1) := dk_176 (dk_at dksX3_pieceOf_0 9 rfl rfl)
def dkwX3_hand_4 : List UInt8 := [180, 0, 54, 4, 96, 181, 0, 54, 21, 5, 172]
abbrev dktX3_hand_4 : List UInt8 := dkwX3_hand_4 ++ []
def dkwX3_hand_3 : List UInt8 := [79, 42, 89, 180, 0, 57, 21, 5, 96, 181, 0, 57, 42, 180, 0, 35, 28, 92, 46, 4, 96, 79, 42, 89]
abbrev dktX3_hand_3 : List UInt8 := dkwX3_hand_3 ++ dktX3_hand_4
def dkwX3_hand_2 : List UInt8 := [28, 29, 79, 42, 180, 0, 19, 28, 92, 46, 21, 5, 96, 79, 42, 180, 0, 38, 28, 92, 46, 21, 5, 96]
abbrev dktX3_hand_2 : List UInt8 := dkwX3_hand_2 ++ dktX3_hand_3
def dkwX3_hand_1 : List UInt8 := [42, 180, 0, 41, 42, 180, 0, 54, 43, 42, 180, 0, 15, 28, 46, 29, 182, 0, 97, 79, 42, 180, 0, 15]
abbrev dktX3_hand_1 : List UInt8 := dkwX3_hand_1 ++ dktX3_hand_2
def dkwX3_hand_0 : List UInt8 := [43, 42, 180, 0, 15, 28, 46, 29, 21, 4, 182, 0, 92, 54, 5, 42, 180, 0, 54, 16, 60, 162, 0, 23]
abbrev dktX3_hand_0 : List UInt8 := dkwX3_hand_0 ++ dktX3_hand_1
theorem dksX3_hand_0 : cX3_hand.data.toList.drop 0 = dktX3_hand_0 := by decide +kernel
theorem dksX3_hand_1 : cX3_hand.data.toList.drop 24 = dktX3_hand_1 := dk_seg dksX3_hand_0 24 rfl rfl
theorem dksX3_hand_2 : cX3_hand.data.toList.drop 48 = dktX3_hand_2 := dk_seg dksX3_hand_1 24 rfl rfl
theorem dksX3_hand_3 : cX3_hand.data.toList.drop 72 = dktX3_hand_3 := dk_seg dksX3_hand_2 24 rfl rfl
theorem dksX3_hand_4 : cX3_hand.data.toList.drop 96 = dktX3_hand_4 := dk_seg dksX3_hand_3 24 rfl rfl
theorem dX3_hand_0 : decode cX3_hand 0 = .ok (.aload_n 1, 1) := dk_43 (dk_at dksX3_hand_0 0 rfl rfl)
theorem dX3_hand_1 : decode cX3_hand 1 = .ok (.aload_n 0, 1) := dk_42 (dk_at dksX3_hand_0 1 rfl rfl)
theorem dX3_hand_2 : decode cX3_hand 2 = .ok (.getfield 15, 3) := dk_180 0 15 (dk_at dksX3_hand_0 2 rfl rfl)
theorem dX3_hand_5 : decode cX3_hand 5 = .ok (.iload_n 2, 1) := dk_28 (dk_at dksX3_hand_0 5 rfl rfl)
theorem dX3_hand_6 : decode cX3_hand 6 = .ok (.iaload, 1) := dk_46 (dk_at dksX3_hand_0 6 rfl rfl)
theorem dX3_hand_7 : decode cX3_hand 7 = .ok (.iload_n 3, 1) := dk_29 (dk_at dksX3_hand_0 7 rfl rfl)
theorem dX3_hand_8 : decode cX3_hand 8 = .ok (.iload 4, 2) := dk_21 4 (dk_at dksX3_hand_0 8 rfl rfl)
theorem dX3_hand_10 : decode cX3_hand 10 = .ok (.invokevirtual 92, 3) := dk_182 0 92 (dk_at dksX3_hand_0 10 rfl rfl)
theorem dX3_hand_13 : decode cX3_hand 13 = .ok (.istore 5, 2) := dk_54 5 (dk_at dksX3_hand_0 13 rfl rfl)
theorem dX3_hand_15 : decode cX3_hand 15 = .ok (.aload_n 0, 1) := dk_42 (dk_at dksX3_hand_0 15 rfl rfl)
theorem dX3_hand_16 : decode cX3_hand 16 = .ok (.getfield 54, 3) := dk_180 0 54 (dk_at dksX3_hand_0 16 rfl rfl)
theorem dX3_hand_19 : decode cX3_hand 19 = .ok (.bipush 60, 2) := dk_16 60 (dk_at dksX3_hand_0 19 rfl rfl)
theorem dX3_hand_21 : decode cX3_hand 21 = .ok (.if_icmp .ge 23, 3) := dk_162 0 23 (dk_at dksX3_hand_0 21 rfl rfl)
theorem dX3_hand_24 : decode cX3_hand 24 = .ok (.aload_n 0, 1) := dk_42 (dk_at dksX3_hand_1 0 rfl rfl)
theorem dX3_hand_25 : decode cX3_hand 25 = .ok (.getfield 41, 3) := dk_180 0 41 (dk_at dksX3_hand_1 1 rfl rfl)
theorem dX3_hand_28 : decode cX3_hand 28 = .ok (.aload_n 0, 1) := dk_42 (dk_at dksX3_hand_1 4 rfl rfl)
theorem dX3_hand_29 : decode cX3_hand 29 = .ok (.getfield 54, 3) := dk_180 0 54 (dk_at dksX3_hand_1 5 rfl rfl)
theorem dX3_hand_32 : decode cX3_hand 32 = .ok (.aload_n 1, 1) := dk_43 (dk_at dksX3_hand_1 8 rfl rfl)
theorem dX3_hand_33 : decode cX3_hand 33 = .ok (.aload_n 0, 1) := dk_42 (dk_at dksX3_hand_1 9 rfl rfl)
theorem dX3_hand_34 : decode cX3_hand 34 = .ok (.getfield 15, 3) := dk_180 0 15 (dk_at dksX3_hand_1 10 rfl rfl)
theorem dX3_hand_37 : decode cX3_hand 37 = .ok (.iload_n 2, 1) := dk_28 (dk_at dksX3_hand_1 13 rfl rfl)
theorem dX3_hand_38 : decode cX3_hand 38 = .ok (.iaload, 1) := dk_46 (dk_at dksX3_hand_1 14 rfl rfl)
theorem dX3_hand_39 : decode cX3_hand 39 = .ok (.iload_n 3, 1) := dk_29 (dk_at dksX3_hand_1 15 rfl rfl)
theorem dX3_hand_40 : decode cX3_hand 40 = .ok (.invokevirtual 97, 3) := dk_182 0 97 (dk_at dksX3_hand_1 16 rfl rfl)
theorem dX3_hand_43 : decode cX3_hand 43 = .ok (.iastore, 1) := dk_79 (dk_at dksX3_hand_1 19 rfl rfl)
theorem dX3_hand_44 : decode cX3_hand 44 = .ok (.aload_n 0, 1) := dk_42 (dk_at dksX3_hand_1 20 rfl rfl)
theorem dX3_hand_45 : decode cX3_hand 45 = .ok (.getfield 15, 3) := dk_180 0 15 (dk_at dksX3_hand_1 21 rfl rfl)
theorem dX3_hand_48 : decode cX3_hand 48 = .ok (.iload_n 2, 1) := dk_28 (dk_at dksX3_hand_2 0 rfl rfl)
theorem dX3_hand_49 : decode cX3_hand 49 = .ok (.iload_n 3, 1) := dk_29 (dk_at dksX3_hand_2 1 rfl rfl)
theorem dX3_hand_50 : decode cX3_hand 50 = .ok (.iastore, 1) := dk_79 (dk_at dksX3_hand_2 2 rfl rfl)
theorem dX3_hand_51 : decode cX3_hand 51 = .ok (.aload_n 0, 1) := dk_42 (dk_at dksX3_hand_2 3 rfl rfl)
theorem dX3_hand_52 : decode cX3_hand 52 = .ok (.getfield 19, 3) := dk_180 0 19 (dk_at dksX3_hand_2 4 rfl rfl)
theorem dX3_hand_55 : decode cX3_hand 55 = .ok (.iload_n 2, 1) := dk_28 (dk_at dksX3_hand_2 7 rfl rfl)
theorem dX3_hand_56 : decode cX3_hand 56 = .ok (.dup2, 1) := dk_92 (dk_at dksX3_hand_2 8 rfl rfl)
theorem dX3_hand_57 : decode cX3_hand 57 = .ok (.iaload, 1) := dk_46 (dk_at dksX3_hand_2 9 rfl rfl)
theorem dX3_hand_58 : decode cX3_hand 58 = .ok (.iload 5, 2) := dk_21 5 (dk_at dksX3_hand_2 10 rfl rfl)
theorem dX3_hand_60 : decode cX3_hand 60 = .ok (.iadd, 1) := dk_96 (dk_at dksX3_hand_2 12 rfl rfl)
theorem dX3_hand_61 : decode cX3_hand 61 = .ok (.iastore, 1) := dk_79 (dk_at dksX3_hand_2 13 rfl rfl)
theorem dX3_hand_62 : decode cX3_hand 62 = .ok (.aload_n 0, 1) := dk_42 (dk_at dksX3_hand_2 14 rfl rfl)
theorem dX3_hand_63 : decode cX3_hand 63 = .ok (.getfield 38, 3) := dk_180 0 38 (dk_at dksX3_hand_2 15 rfl rfl)
theorem dX3_hand_66 : decode cX3_hand 66 = .ok (.iload_n 2, 1) := dk_28 (dk_at dksX3_hand_2 18 rfl rfl)
theorem dX3_hand_67 : decode cX3_hand 67 = .ok (.dup2, 1) := dk_92 (dk_at dksX3_hand_2 19 rfl rfl)
theorem dX3_hand_68 : decode cX3_hand 68 = .ok (.iaload, 1) := dk_46 (dk_at dksX3_hand_2 20 rfl rfl)
theorem dX3_hand_69 : decode cX3_hand 69 = .ok (.iload 5, 2) := dk_21 5 (dk_at dksX3_hand_2 21 rfl rfl)
theorem dX3_hand_71 : decode cX3_hand 71 = .ok (.iadd, 1) := dk_96 (dk_at dksX3_hand_2 23 rfl rfl)
theorem dX3_hand_72 : decode cX3_hand 72 = .ok (.iastore, 1) := dk_79 (dk_at dksX3_hand_3 0 rfl rfl)
theorem dX3_hand_73 : decode cX3_hand 73 = .ok (.aload_n 0, 1) := dk_42 (dk_at dksX3_hand_3 1 rfl rfl)
theorem dX3_hand_74 : decode cX3_hand 74 = .ok (.dup, 1) := dk_89 (dk_at dksX3_hand_3 2 rfl rfl)
theorem dX3_hand_75 : decode cX3_hand 75 = .ok (.getfield 57, 3) := dk_180 0 57 (dk_at dksX3_hand_3 3 rfl rfl)
theorem dX3_hand_78 : decode cX3_hand 78 = .ok (.iload 5, 2) := dk_21 5 (dk_at dksX3_hand_3 6 rfl rfl)
theorem dX3_hand_80 : decode cX3_hand 80 = .ok (.iadd, 1) := dk_96 (dk_at dksX3_hand_3 8 rfl rfl)
theorem dX3_hand_81 : decode cX3_hand 81 = .ok (.putfield 57, 3) := dk_181 0 57 (dk_at dksX3_hand_3 9 rfl rfl)
theorem dX3_hand_84 : decode cX3_hand 84 = .ok (.aload_n 0, 1) := dk_42 (dk_at dksX3_hand_3 12 rfl rfl)
theorem dX3_hand_85 : decode cX3_hand 85 = .ok (.getfield 35, 3) := dk_180 0 35 (dk_at dksX3_hand_3 13 rfl rfl)
theorem dX3_hand_88 : decode cX3_hand 88 = .ok (.iload_n 2, 1) := dk_28 (dk_at dksX3_hand_3 16 rfl rfl)
theorem dX3_hand_89 : decode cX3_hand 89 = .ok (.dup2, 1) := dk_92 (dk_at dksX3_hand_3 17 rfl rfl)
theorem dX3_hand_90 : decode cX3_hand 90 = .ok (.iaload, 1) := dk_46 (dk_at dksX3_hand_3 18 rfl rfl)
theorem dX3_hand_91 : decode cX3_hand 91 = .ok (.iconst 1, 1) := dk_4 (dk_at dksX3_hand_3 19 rfl rfl)
theorem dX3_hand_92 : decode cX3_hand 92 = .ok (.iadd, 1) := dk_96 (dk_at dksX3_hand_3 20 rfl rfl)
theorem dX3_hand_93 : decode cX3_hand 93 = .ok (.iastore, 1) := dk_79 (dk_at dksX3_hand_3 21 rfl rfl)
theorem dX3_hand_94 : decode cX3_hand 94 = .ok (.aload_n 0, 1) := dk_42 (dk_at dksX3_hand_3 22 rfl rfl)
theorem dX3_hand_95 : decode cX3_hand 95 = .ok (.dup, 1) := dk_89 (dk_at dksX3_hand_3 23 rfl rfl)
theorem dX3_hand_96 : decode cX3_hand 96 = .ok (.getfield 54, 3) := dk_180 0 54 (dk_at dksX3_hand_4 0 rfl rfl)
theorem dX3_hand_99 : decode cX3_hand 99 = .ok (.iconst 1, 1) := dk_4 (dk_at dksX3_hand_4 3 rfl rfl)
theorem dX3_hand_100 : decode cX3_hand 100 = .ok (.iadd, 1) := dk_96 (dk_at dksX3_hand_4 4 rfl rfl)
theorem dX3_hand_101 : decode cX3_hand 101 = .ok (.putfield 54, 3) := dk_181 0 54 (dk_at dksX3_hand_4 5 rfl rfl)
theorem dX3_hand_104 : decode cX3_hand 104 = .ok (.iload 5, 2) := dk_21 5 (dk_at dksX3_hand_4 8 rfl rfl)
theorem dX3_hand_106 : decode cX3_hand 106 = .ok (.ireturn, 1) := dk_172 (dk_at dksX3_hand_4 10 rfl rfl)
def dkwX3_as_6 : List UInt8 := [43, 180, 0, 41, 3, 42, 180, 0, 41, 3, 16, 60, 184, 0, 67, 42, 176]
abbrev dktX3_as_6 : List UInt8 := dkwX3_as_6 ++ []
def dkwX3_as_5 : List UInt8 := [180, 0, 35, 28, 46, 79, 42, 180, 0, 38, 28, 43, 180, 0, 38, 28, 46, 79, 132, 2, 1, 167, 255, 151]
abbrev dktX3_as_5 : List UInt8 := dkwX3_as_5 ++ dktX3_as_6
def dkwX3_as_4 : List UInt8 := [180, 0, 28, 28, 51, 84, 42, 180, 0, 32, 28, 43, 180, 0, 32, 28, 46, 79, 42, 180, 0, 35, 28, 43]
abbrev dktX3_as_4 : List UInt8 := dkwX3_as_4 ++ dktX3_as_5
def dkwX3_as_3 : List UInt8 := [180, 0, 22, 28, 46, 79, 42, 180, 0, 25, 28, 43, 180, 0, 25, 28, 46, 79, 42, 180, 0, 28, 28, 43]
abbrev dktX3_as_3 : List UInt8 := dkwX3_as_3 ++ dktX3_as_4
def dkwX3_as_2 : List UInt8 := [180, 0, 15, 28, 46, 79, 42, 180, 0, 19, 28, 43, 180, 0, 19, 28, 46, 79, 42, 180, 0, 22, 28, 43]
abbrev dktX3_as_2 : List UInt8 := dkwX3_as_2 ++ dktX3_as_3
def dkwX3_as_1 : List UInt8 := [42, 43, 180, 0, 57, 181, 0, 57, 3, 61, 28, 16, 8, 162, 0, 105, 42, 180, 0, 15, 28, 43]
abbrev dktX3_as_1 : List UInt8 := dkwX3_as_1 ++ dktX3_as_2
def dkwX3_as_0 : List UInt8 := [42, 43, 180, 0, 47, 181, 0, 47, 42, 43, 180, 0, 51, 181, 0, 51, 42, 43, 180, 0, 54, 181, 0, 54]
abbrev dktX3_as_0 : List UInt8 := dkwX3_as_0 ++ dktX3_as_1
theorem dksX3_as_0 : cX3_as.data.toList.drop 0 = dktX3_as_0 := by decide +kernel
theorem dksX3_as_1 : cX3_as.data.toList.drop 24 = dktX3_as_1 := dk_seg dksX3_as_0 24 rfl rfl
theorem dksX3_as_2 : cX3_as.data.toList.drop 46 = dktX3_as_2 := dk_seg dksX3_as_1 22 rfl rfl
theorem dksX3_as_3 : cX3_as.data.toList.drop 70 = dktX3_as_3 := dk_seg dksX3_as_2 24 rfl rfl
theorem dksX3_as_4 : cX3_as.data.toList.drop 94 = dktX3_as_4 := dk_seg dksX3_as_3 24 rfl rfl
theorem dksX3_as_5 : cX3_as.data.toList.drop 118 = dktX3_as_5 := dk_seg dksX3_as_4 24 rfl rfl
theorem dksX3_as_6 : cX3_as.data.toList.drop 142 = dktX3_as_6 := dk_seg dksX3_as_5 24 rfl rfl
theorem dX3_as_0 : decode cX3_as 0 = .ok (.aload_n 0, 1) := dk_42 (dk_at dksX3_as_0 0 rfl rfl)
theorem dX3_as_1 : decode cX3_as 1 = .ok (.aload_n 1, 1) := dk_43 (dk_at dksX3_as_0 1 rfl rfl)
theorem dX3_as_2 : decode cX3_as 2 = .ok (.getfield 47, 3) := dk_180 0 47 (dk_at dksX3_as_0 2 rfl rfl)
theorem dX3_as_5 : decode cX3_as 5 = .ok (.putfield 47, 3) := dk_181 0 47 (dk_at dksX3_as_0 5 rfl rfl)
theorem dX3_as_8 : decode cX3_as 8 = .ok (.aload_n 0, 1) := dk_42 (dk_at dksX3_as_0 8 rfl rfl)
theorem dX3_as_9 : decode cX3_as 9 = .ok (.aload_n 1, 1) := dk_43 (dk_at dksX3_as_0 9 rfl rfl)
theorem dX3_as_10 : decode cX3_as 10 = .ok (.getfield 51, 3) := dk_180 0 51 (dk_at dksX3_as_0 10 rfl rfl)
theorem dX3_as_13 : decode cX3_as 13 = .ok (.putfield 51, 3) := dk_181 0 51 (dk_at dksX3_as_0 13 rfl rfl)
theorem dX3_as_16 : decode cX3_as 16 = .ok (.aload_n 0, 1) := dk_42 (dk_at dksX3_as_0 16 rfl rfl)
theorem dX3_as_17 : decode cX3_as 17 = .ok (.aload_n 1, 1) := dk_43 (dk_at dksX3_as_0 17 rfl rfl)
theorem dX3_as_18 : decode cX3_as 18 = .ok (.getfield 54, 3) := dk_180 0 54 (dk_at dksX3_as_0 18 rfl rfl)
theorem dX3_as_21 : decode cX3_as 21 = .ok (.putfield 54, 3) := dk_181 0 54 (dk_at dksX3_as_0 21 rfl rfl)
theorem dX3_as_24 : decode cX3_as 24 = .ok (.aload_n 0, 1) := dk_42 (dk_at dksX3_as_1 0 rfl rfl)
theorem dX3_as_25 : decode cX3_as 25 = .ok (.aload_n 1, 1) := dk_43 (dk_at dksX3_as_1 1 rfl rfl)
theorem dX3_as_26 : decode cX3_as 26 = .ok (.getfield 57, 3) := dk_180 0 57 (dk_at dksX3_as_1 2 rfl rfl)
theorem dX3_as_29 : decode cX3_as 29 = .ok (.putfield 57, 3) := dk_181 0 57 (dk_at dksX3_as_1 5 rfl rfl)
theorem dX3_as_32 : decode cX3_as 32 = .ok (.iconst 0, 1) := dk_3 (dk_at dksX3_as_1 8 rfl rfl)
theorem dX3_as_33 : decode cX3_as 33 = .ok (.istore_n 2, 1) := dk_61 (dk_at dksX3_as_1 9 rfl rfl)
theorem dX3_as_34 : decode cX3_as 34 = .ok (.iload_n 2, 1) := dk_28 (dk_at dksX3_as_1 10 rfl rfl)
theorem dX3_as_35 : decode cX3_as 35 = .ok (.bipush 8, 2) := dk_16 8 (dk_at dksX3_as_1 11 rfl rfl)
theorem dX3_as_37 : decode cX3_as 37 = .ok (.if_icmp .ge 105, 3) := dk_162 0 105 (dk_at dksX3_as_1 13 rfl rfl)
theorem dX3_as_40 : decode cX3_as 40 = .ok (.aload_n 0, 1) := dk_42 (dk_at dksX3_as_1 16 rfl rfl)
theorem dX3_as_41 : decode cX3_as 41 = .ok (.getfield 15, 3) := dk_180 0 15 (dk_at dksX3_as_1 17 rfl rfl)
theorem dX3_as_44 : decode cX3_as 44 = .ok (.iload_n 2, 1) := dk_28 (dk_at dksX3_as_1 20 rfl rfl)
theorem dX3_as_45 : decode cX3_as 45 = .ok (.aload_n 1, 1) := dk_43 (dk_at dksX3_as_1 21 rfl rfl)
theorem dX3_as_46 : decode cX3_as 46 = .ok (.getfield 15, 3) := dk_180 0 15 (dk_at dksX3_as_2 0 rfl rfl)
theorem dX3_as_49 : decode cX3_as 49 = .ok (.iload_n 2, 1) := dk_28 (dk_at dksX3_as_2 3 rfl rfl)
theorem dX3_as_50 : decode cX3_as 50 = .ok (.iaload, 1) := dk_46 (dk_at dksX3_as_2 4 rfl rfl)
theorem dX3_as_51 : decode cX3_as 51 = .ok (.iastore, 1) := dk_79 (dk_at dksX3_as_2 5 rfl rfl)
theorem dX3_as_52 : decode cX3_as 52 = .ok (.aload_n 0, 1) := dk_42 (dk_at dksX3_as_2 6 rfl rfl)
theorem dX3_as_53 : decode cX3_as 53 = .ok (.getfield 19, 3) := dk_180 0 19 (dk_at dksX3_as_2 7 rfl rfl)
theorem dX3_as_56 : decode cX3_as 56 = .ok (.iload_n 2, 1) := dk_28 (dk_at dksX3_as_2 10 rfl rfl)
theorem dX3_as_57 : decode cX3_as 57 = .ok (.aload_n 1, 1) := dk_43 (dk_at dksX3_as_2 11 rfl rfl)
theorem dX3_as_58 : decode cX3_as 58 = .ok (.getfield 19, 3) := dk_180 0 19 (dk_at dksX3_as_2 12 rfl rfl)
theorem dX3_as_61 : decode cX3_as 61 = .ok (.iload_n 2, 1) := dk_28 (dk_at dksX3_as_2 15 rfl rfl)
theorem dX3_as_62 : decode cX3_as 62 = .ok (.iaload, 1) := dk_46 (dk_at dksX3_as_2 16 rfl rfl)
theorem dX3_as_63 : decode cX3_as 63 = .ok (.iastore, 1) := dk_79 (dk_at dksX3_as_2 17 rfl rfl)
theorem dX3_as_64 : decode cX3_as 64 = .ok (.aload_n 0, 1) := dk_42 (dk_at dksX3_as_2 18 rfl rfl)
theorem dX3_as_65 : decode cX3_as 65 = .ok (.getfield 22, 3) := dk_180 0 22 (dk_at dksX3_as_2 19 rfl rfl)
theorem dX3_as_68 : decode cX3_as 68 = .ok (.iload_n 2, 1) := dk_28 (dk_at dksX3_as_2 22 rfl rfl)
theorem dX3_as_69 : decode cX3_as 69 = .ok (.aload_n 1, 1) := dk_43 (dk_at dksX3_as_2 23 rfl rfl)
theorem dX3_as_70 : decode cX3_as 70 = .ok (.getfield 22, 3) := dk_180 0 22 (dk_at dksX3_as_3 0 rfl rfl)
theorem dX3_as_73 : decode cX3_as 73 = .ok (.iload_n 2, 1) := dk_28 (dk_at dksX3_as_3 3 rfl rfl)
theorem dX3_as_74 : decode cX3_as 74 = .ok (.iaload, 1) := dk_46 (dk_at dksX3_as_3 4 rfl rfl)
theorem dX3_as_75 : decode cX3_as 75 = .ok (.iastore, 1) := dk_79 (dk_at dksX3_as_3 5 rfl rfl)
theorem dX3_as_76 : decode cX3_as 76 = .ok (.aload_n 0, 1) := dk_42 (dk_at dksX3_as_3 6 rfl rfl)
theorem dX3_as_77 : decode cX3_as 77 = .ok (.getfield 25, 3) := dk_180 0 25 (dk_at dksX3_as_3 7 rfl rfl)
theorem dX3_as_80 : decode cX3_as 80 = .ok (.iload_n 2, 1) := dk_28 (dk_at dksX3_as_3 10 rfl rfl)
theorem dX3_as_81 : decode cX3_as 81 = .ok (.aload_n 1, 1) := dk_43 (dk_at dksX3_as_3 11 rfl rfl)
theorem dX3_as_82 : decode cX3_as 82 = .ok (.getfield 25, 3) := dk_180 0 25 (dk_at dksX3_as_3 12 rfl rfl)
theorem dX3_as_85 : decode cX3_as 85 = .ok (.iload_n 2, 1) := dk_28 (dk_at dksX3_as_3 15 rfl rfl)
theorem dX3_as_86 : decode cX3_as 86 = .ok (.iaload, 1) := dk_46 (dk_at dksX3_as_3 16 rfl rfl)
theorem dX3_as_87 : decode cX3_as 87 = .ok (.iastore, 1) := dk_79 (dk_at dksX3_as_3 17 rfl rfl)
theorem dX3_as_88 : decode cX3_as 88 = .ok (.aload_n 0, 1) := dk_42 (dk_at dksX3_as_3 18 rfl rfl)
theorem dX3_as_89 : decode cX3_as 89 = .ok (.getfield 28, 3) := dk_180 0 28 (dk_at dksX3_as_3 19 rfl rfl)
theorem dX3_as_92 : decode cX3_as 92 = .ok (.iload_n 2, 1) := dk_28 (dk_at dksX3_as_3 22 rfl rfl)
theorem dX3_as_93 : decode cX3_as 93 = .ok (.aload_n 1, 1) := dk_43 (dk_at dksX3_as_3 23 rfl rfl)
theorem dX3_as_94 : decode cX3_as 94 = .ok (.getfield 28, 3) := dk_180 0 28 (dk_at dksX3_as_4 0 rfl rfl)
theorem dX3_as_97 : decode cX3_as 97 = .ok (.iload_n 2, 1) := dk_28 (dk_at dksX3_as_4 3 rfl rfl)
theorem dX3_as_98 : decode cX3_as 98 = .ok (.baload, 1) := dk_51 (dk_at dksX3_as_4 4 rfl rfl)
theorem dX3_as_99 : decode cX3_as 99 = .ok (.bastore, 1) := dk_84 (dk_at dksX3_as_4 5 rfl rfl)
theorem dX3_as_100 : decode cX3_as 100 = .ok (.aload_n 0, 1) := dk_42 (dk_at dksX3_as_4 6 rfl rfl)
theorem dX3_as_101 : decode cX3_as 101 = .ok (.getfield 32, 3) := dk_180 0 32 (dk_at dksX3_as_4 7 rfl rfl)
theorem dX3_as_104 : decode cX3_as 104 = .ok (.iload_n 2, 1) := dk_28 (dk_at dksX3_as_4 10 rfl rfl)
theorem dX3_as_105 : decode cX3_as 105 = .ok (.aload_n 1, 1) := dk_43 (dk_at dksX3_as_4 11 rfl rfl)
theorem dX3_as_106 : decode cX3_as 106 = .ok (.getfield 32, 3) := dk_180 0 32 (dk_at dksX3_as_4 12 rfl rfl)
theorem dX3_as_109 : decode cX3_as 109 = .ok (.iload_n 2, 1) := dk_28 (dk_at dksX3_as_4 15 rfl rfl)
theorem dX3_as_110 : decode cX3_as 110 = .ok (.iaload, 1) := dk_46 (dk_at dksX3_as_4 16 rfl rfl)
theorem dX3_as_111 : decode cX3_as 111 = .ok (.iastore, 1) := dk_79 (dk_at dksX3_as_4 17 rfl rfl)
theorem dX3_as_112 : decode cX3_as 112 = .ok (.aload_n 0, 1) := dk_42 (dk_at dksX3_as_4 18 rfl rfl)
theorem dX3_as_113 : decode cX3_as 113 = .ok (.getfield 35, 3) := dk_180 0 35 (dk_at dksX3_as_4 19 rfl rfl)
theorem dX3_as_116 : decode cX3_as 116 = .ok (.iload_n 2, 1) := dk_28 (dk_at dksX3_as_4 22 rfl rfl)
theorem dX3_as_117 : decode cX3_as 117 = .ok (.aload_n 1, 1) := dk_43 (dk_at dksX3_as_4 23 rfl rfl)
theorem dX3_as_118 : decode cX3_as 118 = .ok (.getfield 35, 3) := dk_180 0 35 (dk_at dksX3_as_5 0 rfl rfl)
theorem dX3_as_121 : decode cX3_as 121 = .ok (.iload_n 2, 1) := dk_28 (dk_at dksX3_as_5 3 rfl rfl)
theorem dX3_as_122 : decode cX3_as 122 = .ok (.iaload, 1) := dk_46 (dk_at dksX3_as_5 4 rfl rfl)
theorem dX3_as_123 : decode cX3_as 123 = .ok (.iastore, 1) := dk_79 (dk_at dksX3_as_5 5 rfl rfl)
theorem dX3_as_124 : decode cX3_as 124 = .ok (.aload_n 0, 1) := dk_42 (dk_at dksX3_as_5 6 rfl rfl)
theorem dX3_as_125 : decode cX3_as 125 = .ok (.getfield 38, 3) := dk_180 0 38 (dk_at dksX3_as_5 7 rfl rfl)
theorem dX3_as_128 : decode cX3_as 128 = .ok (.iload_n 2, 1) := dk_28 (dk_at dksX3_as_5 10 rfl rfl)
theorem dX3_as_129 : decode cX3_as 129 = .ok (.aload_n 1, 1) := dk_43 (dk_at dksX3_as_5 11 rfl rfl)
theorem dX3_as_130 : decode cX3_as 130 = .ok (.getfield 38, 3) := dk_180 0 38 (dk_at dksX3_as_5 12 rfl rfl)
theorem dX3_as_133 : decode cX3_as 133 = .ok (.iload_n 2, 1) := dk_28 (dk_at dksX3_as_5 15 rfl rfl)
theorem dX3_as_134 : decode cX3_as 134 = .ok (.iaload, 1) := dk_46 (dk_at dksX3_as_5 16 rfl rfl)
theorem dX3_as_135 : decode cX3_as 135 = .ok (.iastore, 1) := dk_79 (dk_at dksX3_as_5 17 rfl rfl)
theorem dX3_as_136 : decode cX3_as 136 = .ok (.iinc 2 1, 3) := dk_132 2 1 (dk_at dksX3_as_5 18 rfl rfl)
theorem dX3_as_139 : decode cX3_as 139 = .ok (.goto (-105), 3) := dk_167 255 151 (dk_at dksX3_as_5 21 rfl rfl)
theorem dX3_as_142 : decode cX3_as 142 = .ok (.aload_n 1, 1) := dk_43 (dk_at dksX3_as_6 0 rfl rfl)
theorem dX3_as_143 : decode cX3_as 143 = .ok (.getfield 41, 3) := dk_180 0 41 (dk_at dksX3_as_6 1 rfl rfl)
theorem dX3_as_146 : decode cX3_as 146 = .ok (.iconst 0, 1) := dk_3 (dk_at dksX3_as_6 4 rfl rfl)
theorem dX3_as_147 : decode cX3_as 147 = .ok (.aload_n 0, 1) := dk_42 (dk_at dksX3_as_6 5 rfl rfl)
theorem dX3_as_148 : decode cX3_as 148 = .ok (.getfield 41, 3) := dk_180 0 41 (dk_at dksX3_as_6 6 rfl rfl)
theorem dX3_as_151 : decode cX3_as 151 = .ok (.iconst 0, 1) := dk_3 (dk_at dksX3_as_6 9 rfl rfl)
theorem dX3_as_152 : decode cX3_as 152 = .ok (.bipush 60, 2) := dk_16 60 (dk_at dksX3_as_6 10 rfl rfl)
theorem dX3_as_154 : decode cX3_as 154 = .ok (.invokestatic 67, 3) := dk_184 0 67 (dk_at dksX3_as_6 12 rfl rfl)
theorem dX3_as_157 : decode cX3_as 157 = .ok (.aload_n 0, 1) := dk_42 (dk_at dksX3_as_6 15 rfl rfl)
theorem dX3_as_158 : decode cX3_as 158 = .ok (.areturn, 1) := dk_176 (dk_at dksX3_as_6 16 rfl rfl)
def dkwX3_end_2 : List UInt8 := [153, 0, 10, 42, 180, 0, 47, 167, 0, 5, 16, 254, 172]
abbrev dktX3_end_2 : List UInt8 := dkwX3_end_2 ++ []
def dkwX3_end_1 : List UInt8 := [42, 43, 182, 0, 157, 153, 0, 6, 16, 254, 172, 42, 43, 182, 0, 161, 167, 255, 216, 42, 182, 0, 149]
abbrev dktX3_end_1 : List UInt8 := dkwX3_end_1 ++ dktX3_end_2
def dkwX3_end_0 : List UInt8 := [42, 182, 0, 149, 154, 0, 39, 42, 180, 0, 47, 17, 9, 95, 162, 0, 29, 43, 180, 0, 153, 199, 0, 14]
abbrev dktX3_end_0 : List UInt8 := dkwX3_end_0 ++ dktX3_end_1
theorem dksX3_end_0 : cX3_end.data.toList.drop 0 = dktX3_end_0 := by decide +kernel
theorem dksX3_end_1 : cX3_end.data.toList.drop 24 = dktX3_end_1 := dk_seg dksX3_end_0 24 rfl rfl
theorem dksX3_end_2 : cX3_end.data.toList.drop 47 = dktX3_end_2 := dk_seg dksX3_end_1 23 rfl rfl
theorem dX3_end_0 : decode cX3_end 0 = .ok (.aload_n 0, 1) := dk_42 (dk_at dksX3_end_0 0 rfl rfl)
theorem dX3_end_1 : decode cX3_end 1 = .ok (.invokevirtual 149, 3) := dk_182 0 149 (dk_at dksX3_end_0 1 rfl rfl)
theorem dX3_end_4 : decode cX3_end 4 = .ok (.ifCond .ne 39, 3) := dk_154 0 39 (dk_at dksX3_end_0 4 rfl rfl)
theorem dX3_end_7 : decode cX3_end 7 = .ok (.aload_n 0, 1) := dk_42 (dk_at dksX3_end_0 7 rfl rfl)
theorem dX3_end_8 : decode cX3_end 8 = .ok (.getfield 47, 3) := dk_180 0 47 (dk_at dksX3_end_0 8 rfl rfl)
theorem dX3_end_11 : decode cX3_end 11 = .ok (.sipush 2399, 3) := dk_17 9 95 (dk_at dksX3_end_0 11 rfl rfl)
theorem dX3_end_14 : decode cX3_end 14 = .ok (.if_icmp .ge 29, 3) := dk_162 0 29 (dk_at dksX3_end_0 14 rfl rfl)
theorem dX3_end_17 : decode cX3_end 17 = .ok (.aload_n 1, 1) := dk_43 (dk_at dksX3_end_0 17 rfl rfl)
theorem dX3_end_18 : decode cX3_end 18 = .ok (.getfield 153, 3) := dk_180 0 153 (dk_at dksX3_end_0 18 rfl rfl)
theorem dX3_end_21 : decode cX3_end 21 = .ok (.ifnonnull 14, 3) := dk_199 0 14 (dk_at dksX3_end_0 21 rfl rfl)
theorem dX3_end_24 : decode cX3_end 24 = .ok (.aload_n 0, 1) := dk_42 (dk_at dksX3_end_1 0 rfl rfl)
theorem dX3_end_25 : decode cX3_end 25 = .ok (.aload_n 1, 1) := dk_43 (dk_at dksX3_end_1 1 rfl rfl)
theorem dX3_end_26 : decode cX3_end 26 = .ok (.invokevirtual 157, 3) := dk_182 0 157 (dk_at dksX3_end_1 2 rfl rfl)
theorem dX3_end_29 : decode cX3_end 29 = .ok (.ifCond .eq 6, 3) := dk_153 0 6 (dk_at dksX3_end_1 5 rfl rfl)
theorem dX3_end_32 : decode cX3_end 32 = .ok (.bipush (-2), 2) := dk_16 254 (dk_at dksX3_end_1 8 rfl rfl)
theorem dX3_end_34 : decode cX3_end 34 = .ok (.ireturn, 1) := dk_172 (dk_at dksX3_end_1 10 rfl rfl)
theorem dX3_end_35 : decode cX3_end 35 = .ok (.aload_n 0, 1) := dk_42 (dk_at dksX3_end_1 11 rfl rfl)
theorem dX3_end_36 : decode cX3_end 36 = .ok (.aload_n 1, 1) := dk_43 (dk_at dksX3_end_1 12 rfl rfl)
theorem dX3_end_37 : decode cX3_end 37 = .ok (.invokevirtual 161, 3) := dk_182 0 161 (dk_at dksX3_end_1 13 rfl rfl)
theorem dX3_end_40 : decode cX3_end 40 = .ok (.goto (-40), 3) := dk_167 255 216 (dk_at dksX3_end_1 16 rfl rfl)
theorem dX3_end_43 : decode cX3_end 43 = .ok (.aload_n 0, 1) := dk_42 (dk_at dksX3_end_1 19 rfl rfl)
theorem dX3_end_44 : decode cX3_end 44 = .ok (.invokevirtual 149, 3) := dk_182 0 149 (dk_at dksX3_end_1 20 rfl rfl)
theorem dX3_end_47 : decode cX3_end 47 = .ok (.ifCond .eq 10, 3) := dk_153 0 10 (dk_at dksX3_end_2 0 rfl rfl)
theorem dX3_end_50 : decode cX3_end 50 = .ok (.aload_n 0, 1) := dk_42 (dk_at dksX3_end_2 3 rfl rfl)
theorem dX3_end_51 : decode cX3_end 51 = .ok (.getfield 47, 3) := dk_180 0 47 (dk_at dksX3_end_2 4 rfl rfl)
theorem dX3_end_54 : decode cX3_end 54 = .ok (.goto 5, 3) := dk_167 0 5 (dk_at dksX3_end_2 7 rfl rfl)
theorem dX3_end_57 : decode cX3_end 57 = .ok (.bipush (-2), 2) := dk_16 254 (dk_at dksX3_end_2 10 rfl rfl)
theorem dX3_end_59 : decode cX3_end 59 = .ok (.ireturn, 1) := dk_172 (dk_at dksX3_end_2 12 rfl rfl)
def dkwX3_isAllDone_0 : List UInt8 := [42, 182, 0, 88, 4, 42, 180, 0, 3, 180, 0, 60, 120, 4, 100, 160, 0, 7, 4, 167, 0, 4, 3, 172]
abbrev dktX3_isAllDone_0 : List UInt8 := dkwX3_isAllDone_0 ++ []
theorem dksX3_isAllDone_0 : cX3_isAllDone.data.toList.drop 0 = dktX3_isAllDone_0 := by decide +kernel
theorem dX3_isAllDone_0 : decode cX3_isAllDone 0 = .ok (.aload_n 0, 1) := dk_42 (dk_at dksX3_isAllDone_0 0 rfl rfl)
theorem dX3_isAllDone_1 : decode cX3_isAllDone 1 = .ok (.invokevirtual 88, 3) := dk_182 0 88 (dk_at dksX3_isAllDone_0 1 rfl rfl)
theorem dX3_isAllDone_4 : decode cX3_isAllDone 4 = .ok (.iconst 1, 1) := dk_4 (dk_at dksX3_isAllDone_0 4 rfl rfl)
theorem dX3_isAllDone_5 : decode cX3_isAllDone 5 = .ok (.aload_n 0, 1) := dk_42 (dk_at dksX3_isAllDone_0 5 rfl rfl)
theorem dX3_isAllDone_6 : decode cX3_isAllDone 6 = .ok (.getfield 3, 3) := dk_180 0 3 (dk_at dksX3_isAllDone_0 6 rfl rfl)
theorem dX3_isAllDone_9 : decode cX3_isAllDone 9 = .ok (.getfield 60, 3) := dk_180 0 60 (dk_at dksX3_isAllDone_0 9 rfl rfl)
theorem dX3_isAllDone_12 : decode cX3_isAllDone 12 = .ok (.ishl, 1) := dk_120 (dk_at dksX3_isAllDone_0 12 rfl rfl)
theorem dX3_isAllDone_13 : decode cX3_isAllDone 13 = .ok (.iconst 1, 1) := dk_4 (dk_at dksX3_isAllDone_0 13 rfl rfl)
theorem dX3_isAllDone_14 : decode cX3_isAllDone 14 = .ok (.isub, 1) := dk_100 (dk_at dksX3_isAllDone_0 14 rfl rfl)
theorem dX3_isAllDone_15 : decode cX3_isAllDone 15 = .ok (.if_icmp .ne 7, 3) := dk_160 0 7 (dk_at dksX3_isAllDone_0 15 rfl rfl)
theorem dX3_isAllDone_18 : decode cX3_isAllDone 18 = .ok (.iconst 1, 1) := dk_4 (dk_at dksX3_isAllDone_0 18 rfl rfl)
theorem dX3_isAllDone_19 : decode cX3_isAllDone 19 = .ok (.goto 4, 3) := dk_167 0 4 (dk_at dksX3_isAllDone_0 19 rfl rfl)
theorem dX3_isAllDone_22 : decode cX3_isAllDone 22 = .ok (.iconst 0, 1) := dk_3 (dk_at dksX3_isAllDone_0 22 rfl rfl)
theorem dX3_isAllDone_23 : decode cX3_isAllDone 23 = .ok (.ireturn, 1) := dk_172 (dk_at dksX3_isAllDone_0 23 rfl rfl)
def dkwX3_isStuck_2 : List UInt8 := [4, 172, 132, 2, 1, 167, 255, 205, 3, 172]
abbrev dktX3_isStuck_2 : List UInt8 := dkwX3_isStuck_2 ++ []
def dkwX3_isStuck_1 : List UInt8 := [42, 180, 0, 15, 28, 46, 42, 180, 0, 3, 180, 0, 73, 28, 50, 180, 0, 124, 182, 0, 127, 154, 0, 5]
abbrev dktX3_isStuck_1 : List UInt8 := dkwX3_isStuck_1 ++ dktX3_isStuck_2
def dkwX3_isStuck_0 : List UInt8 := [3, 61, 28, 42, 180, 0, 3, 180, 0, 60, 162, 0, 46, 42, 180, 0, 25, 28, 46, 2, 160, 0, 30, 43]
abbrev dktX3_isStuck_0 : List UInt8 := dkwX3_isStuck_0 ++ dktX3_isStuck_1
theorem dksX3_isStuck_0 : cX3_isStuck.data.toList.drop 0 = dktX3_isStuck_0 := by decide +kernel
theorem dksX3_isStuck_1 : cX3_isStuck.data.toList.drop 24 = dktX3_isStuck_1 := dk_seg dksX3_isStuck_0 24 rfl rfl
theorem dksX3_isStuck_2 : cX3_isStuck.data.toList.drop 48 = dktX3_isStuck_2 := dk_seg dksX3_isStuck_1 24 rfl rfl
theorem dX3_isStuck_0 : decode cX3_isStuck 0 = .ok (.iconst 0, 1) := dk_3 (dk_at dksX3_isStuck_0 0 rfl rfl)
theorem dX3_isStuck_1 : decode cX3_isStuck 1 = .ok (.istore_n 2, 1) := dk_61 (dk_at dksX3_isStuck_0 1 rfl rfl)
theorem dX3_isStuck_2 : decode cX3_isStuck 2 = .ok (.iload_n 2, 1) := dk_28 (dk_at dksX3_isStuck_0 2 rfl rfl)
theorem dX3_isStuck_3 : decode cX3_isStuck 3 = .ok (.aload_n 0, 1) := dk_42 (dk_at dksX3_isStuck_0 3 rfl rfl)
theorem dX3_isStuck_4 : decode cX3_isStuck 4 = .ok (.getfield 3, 3) := dk_180 0 3 (dk_at dksX3_isStuck_0 4 rfl rfl)
theorem dX3_isStuck_7 : decode cX3_isStuck 7 = .ok (.getfield 60, 3) := dk_180 0 60 (dk_at dksX3_isStuck_0 7 rfl rfl)
theorem dX3_isStuck_10 : decode cX3_isStuck 10 = .ok (.if_icmp .ge 46, 3) := dk_162 0 46 (dk_at dksX3_isStuck_0 10 rfl rfl)
theorem dX3_isStuck_13 : decode cX3_isStuck 13 = .ok (.aload_n 0, 1) := dk_42 (dk_at dksX3_isStuck_0 13 rfl rfl)
theorem dX3_isStuck_14 : decode cX3_isStuck 14 = .ok (.getfield 25, 3) := dk_180 0 25 (dk_at dksX3_isStuck_0 14 rfl rfl)
theorem dX3_isStuck_17 : decode cX3_isStuck 17 = .ok (.iload_n 2, 1) := dk_28 (dk_at dksX3_isStuck_0 17 rfl rfl)
theorem dX3_isStuck_18 : decode cX3_isStuck 18 = .ok (.iaload, 1) := dk_46 (dk_at dksX3_isStuck_0 18 rfl rfl)
theorem dX3_isStuck_19 : decode cX3_isStuck 19 = .ok (.iconst (-1), 1) := dk_2 (dk_at dksX3_isStuck_0 19 rfl rfl)
theorem dX3_isStuck_20 : decode cX3_isStuck 20 = .ok (.if_icmp .ne 30, 3) := dk_160 0 30 (dk_at dksX3_isStuck_0 20 rfl rfl)
theorem dX3_isStuck_23 : decode cX3_isStuck 23 = .ok (.aload_n 1, 1) := dk_43 (dk_at dksX3_isStuck_0 23 rfl rfl)
theorem dX3_isStuck_24 : decode cX3_isStuck 24 = .ok (.aload_n 0, 1) := dk_42 (dk_at dksX3_isStuck_1 0 rfl rfl)
theorem dX3_isStuck_25 : decode cX3_isStuck 25 = .ok (.getfield 15, 3) := dk_180 0 15 (dk_at dksX3_isStuck_1 1 rfl rfl)
theorem dX3_isStuck_28 : decode cX3_isStuck 28 = .ok (.iload_n 2, 1) := dk_28 (dk_at dksX3_isStuck_1 4 rfl rfl)
theorem dX3_isStuck_29 : decode cX3_isStuck 29 = .ok (.iaload, 1) := dk_46 (dk_at dksX3_isStuck_1 5 rfl rfl)
theorem dX3_isStuck_30 : decode cX3_isStuck 30 = .ok (.aload_n 0, 1) := dk_42 (dk_at dksX3_isStuck_1 6 rfl rfl)
theorem dX3_isStuck_31 : decode cX3_isStuck 31 = .ok (.getfield 3, 3) := dk_180 0 3 (dk_at dksX3_isStuck_1 7 rfl rfl)
theorem dX3_isStuck_34 : decode cX3_isStuck 34 = .ok (.getfield 73, 3) := dk_180 0 73 (dk_at dksX3_isStuck_1 10 rfl rfl)
theorem dX3_isStuck_37 : decode cX3_isStuck 37 = .ok (.iload_n 2, 1) := dk_28 (dk_at dksX3_isStuck_1 13 rfl rfl)
theorem dX3_isStuck_38 : decode cX3_isStuck 38 = .ok (.aaload, 1) := dk_50 (dk_at dksX3_isStuck_1 14 rfl rfl)
theorem dX3_isStuck_39 : decode cX3_isStuck 39 = .ok (.getfield 124, 3) := dk_180 0 124 (dk_at dksX3_isStuck_1 15 rfl rfl)
theorem dX3_isStuck_42 : decode cX3_isStuck 42 = .ok (.invokevirtual 127, 3) := dk_182 0 127 (dk_at dksX3_isStuck_1 18 rfl rfl)
theorem dX3_isStuck_45 : decode cX3_isStuck 45 = .ok (.ifCond .ne 5, 3) := dk_154 0 5 (dk_at dksX3_isStuck_1 21 rfl rfl)
theorem dX3_isStuck_48 : decode cX3_isStuck 48 = .ok (.iconst 1, 1) := dk_4 (dk_at dksX3_isStuck_2 0 rfl rfl)
theorem dX3_isStuck_49 : decode cX3_isStuck 49 = .ok (.ireturn, 1) := dk_172 (dk_at dksX3_isStuck_2 1 rfl rfl)
theorem dX3_isStuck_50 : decode cX3_isStuck 50 = .ok (.iinc 2 1, 3) := dk_132 2 1 (dk_at dksX3_isStuck_2 2 rfl rfl)
theorem dX3_isStuck_53 : decode cX3_isStuck 53 = .ok (.goto (-51), 3) := dk_167 255 205 (dk_at dksX3_isStuck_2 5 rfl rfl)
theorem dX3_isStuck_56 : decode cX3_isStuck 56 = .ok (.iconst 0, 1) := dk_3 (dk_at dksX3_isStuck_2 8 rfl rfl)
theorem dX3_isStuck_57 : decode cX3_isStuck 57 = .ok (.ireturn, 1) := dk_172 (dk_at dksX3_isStuck_2 9 rfl rfl)
theorem dX4_init_0 : decode cX4_init 0 = .ok (.aload_n 0, 1) := by decide +kernel
theorem dX4_init_1 : decode cX4_init 1 = .ok (.invokespecial 3, 3) := by decide +kernel
theorem dX4_init_4 : decode cX4_init 4 = .ok (.return_, 1) := by decide +kernel
def dkwX4_of_0 : List UInt8 := [42, 43, 181, 0, 9, 42, 44, 181, 0, 15, 42, 29, 181, 0, 19, 42, 21, 4, 181, 0, 23, 42, 176]
abbrev dktX4_of_0 : List UInt8 := dkwX4_of_0 ++ []
theorem dksX4_of_0 : cX4_of.data.toList.drop 0 = dktX4_of_0 := by decide +kernel
theorem dX4_of_0 : decode cX4_of 0 = .ok (.aload_n 0, 1) := dk_42 (dk_at dksX4_of_0 0 rfl rfl)
theorem dX4_of_1 : decode cX4_of 1 = .ok (.aload_n 1, 1) := dk_43 (dk_at dksX4_of_0 1 rfl rfl)
theorem dX4_of_2 : decode cX4_of 2 = .ok (.putfield 9, 3) := dk_181 0 9 (dk_at dksX4_of_0 2 rfl rfl)
theorem dX4_of_5 : decode cX4_of 5 = .ok (.aload_n 0, 1) := dk_42 (dk_at dksX4_of_0 5 rfl rfl)
theorem dX4_of_6 : decode cX4_of 6 = .ok (.aload_n 2, 1) := dk_44 (dk_at dksX4_of_0 6 rfl rfl)
theorem dX4_of_7 : decode cX4_of 7 = .ok (.putfield 15, 3) := dk_181 0 15 (dk_at dksX4_of_0 7 rfl rfl)
theorem dX4_of_10 : decode cX4_of 10 = .ok (.aload_n 0, 1) := dk_42 (dk_at dksX4_of_0 10 rfl rfl)
theorem dX4_of_11 : decode cX4_of 11 = .ok (.iload_n 3, 1) := dk_29 (dk_at dksX4_of_0 11 rfl rfl)
theorem dX4_of_12 : decode cX4_of 12 = .ok (.putfield 19, 3) := dk_181 0 19 (dk_at dksX4_of_0 12 rfl rfl)
theorem dX4_of_15 : decode cX4_of 15 = .ok (.aload_n 0, 1) := dk_42 (dk_at dksX4_of_0 15 rfl rfl)
theorem dX4_of_16 : decode cX4_of 16 = .ok (.iload 4, 2) := dk_21 4 (dk_at dksX4_of_0 16 rfl rfl)
theorem dX4_of_18 : decode cX4_of 18 = .ok (.putfield 23, 3) := dk_181 0 23 (dk_at dksX4_of_0 18 rfl rfl)
theorem dX4_of_21 : decode cX4_of 21 = .ok (.aload_n 0, 1) := dk_42 (dk_at dksX4_of_0 21 rfl rfl)
theorem dX4_of_22 : decode cX4_of 22 = .ok (.areturn, 1) := dk_176 (dk_at dksX4_of_0 22 rfl rfl)
def dkwX4_value_10 : List UInt8 := [180, 0, 81, 172, 42, 180, 0, 15, 180, 0, 84, 42, 180, 0, 19, 46, 172, 42, 180, 0, 23, 172]
abbrev dktX4_value_10 : List UInt8 := dkwX4_value_10 ++ []
def dkwX4_value_9 : List UInt8 := [180, 0, 23, 160, 0, 7, 4, 167, 0, 4, 3, 172, 42, 180, 0, 9, 180, 0, 48, 42, 180, 0, 23, 50]
abbrev dktX4_value_9 : List UInt8 := dkwX4_value_9 ++ dktX4_value_10
def dkwX4_value_8 : List UInt8 := [160, 0, 7, 4, 167, 0, 4, 3, 172, 42, 180, 0, 15, 42, 180, 0, 19, 182, 0, 62, 180, 0, 78, 42]
abbrev dktX4_value_8 : List UInt8 := dkwX4_value_8 ++ dktX4_value_9
def dkwX4_value_7 : List UInt8 := [167, 0, 4, 3, 172, 42, 180, 0, 15, 42, 180, 0, 19, 182, 0, 62, 180, 0, 75, 42, 180, 0, 23]
abbrev dktX4_value_7 : List UInt8 := dkwX4_value_7 ++ dktX4_value_8
def dkwX4_value_6 : List UInt8 := [180, 0, 66, 182, 0, 71, 153, 0, 7, 4, 167, 0, 4, 3, 172, 42, 180, 0, 23, 28, 160, 0, 7, 4]
abbrev dktX4_value_6 : List UInt8 := dkwX4_value_6 ++ dktX4_value_7
def dkwX4_value_5 : List UInt8 := [182, 0, 58, 172, 42, 180, 0, 9, 42, 180, 0, 23, 42, 180, 0, 15, 42, 180, 0, 19, 182, 0, 62]
abbrev dktX4_value_5 : List UInt8 := dkwX4_value_5 ++ dktX4_value_6
def dkwX4_value_4 : List UInt8 := [180, 0, 48, 42, 180, 0, 23, 50, 29, 182, 0, 52, 153, 0, 7, 4, 167, 0, 4, 3, 172, 42, 29]
abbrev dktX4_value_4 : List UInt8 := dkwX4_value_4 ++ dktX4_value_5
def dkwX4_value_3 : List UInt8 := [29, 182, 0, 41, 172, 42, 180, 0, 9, 28, 42, 180, 0, 23, 29, 182, 0, 45, 172, 42, 180, 0, 9]
abbrev dktX4_value_3 : List UInt8 := dkwX4_value_3 ++ dktX4_value_4
def dkwX4_value_2 : List UInt8 := [42, 180, 0, 9, 180, 0, 35, 28, 50, 42, 180, 0, 23, 46, 172, 42, 180, 0, 9, 28, 42, 180, 0, 23]
abbrev dktX4_value_2 : List UInt8 := dkwX4_value_2 ++ dktX4_value_3
def dkwX4_value_1 : List UInt8 := [170, 0, 0, 0, 0, 0, 1, 53, 0, 0, 0, 98, 0, 0, 0, 119, 0, 0, 0, 226, 0, 0, 0, 178, 0, 0, 1, 53, 0, 0, 1, 53, 0, 0, 1, 40, 0, 0, 1, 53, 0, 0, 1, 53, 0, 0, 1, 53, 0, 0, 1, 53, 0, 0, 0, 104, 0, 0, 0, 119, 0, 0, 1, 53, 0, 0, 1, 53, 0, 0, 0, 133, 0, 0, 1, 24, 0, 0, 0, 253, 0, 0, 0, 172, 0, 0, 0, 212, 0, 0, 1, 53, 0, 0, 1, 53, 0, 0, 1, 53, 0, 0, 0, 147]
abbrev dktX4_value_1 : List UInt8 := dkwX4_value_1 ++ dktX4_value_2
def dkwX4_value_0 : List UInt8 := [42, 180, 0, 15, 180, 0, 26, 42, 180, 0, 19, 46, 61, 42, 180, 0, 15, 180, 0, 32, 4, 96, 62, 27]
abbrev dktX4_value_0 : List UInt8 := dkwX4_value_0 ++ dktX4_value_1
theorem dksX4_value_0 : cX4_value.data.toList.drop 0 = dktX4_value_0 := by decide +kernel
theorem dksX4_value_1 : cX4_value.data.toList.drop 24 = dktX4_value_1 := dk_seg dksX4_value_0 24 rfl rfl
theorem dksX4_value_2 : cX4_value.data.toList.drop 128 = dktX4_value_2 := dk_seg dksX4_value_1 104 rfl rfl
theorem dksX4_value_3 : cX4_value.data.toList.drop 152 = dktX4_value_3 := dk_seg dksX4_value_2 24 rfl rfl
theorem dksX4_value_4 : cX4_value.data.toList.drop 175 = dktX4_value_4 := dk_seg dksX4_value_3 23 rfl rfl
theorem dksX4_value_5 : cX4_value.data.toList.drop 198 = dktX4_value_5 := dk_seg dksX4_value_4 23 rfl rfl
theorem dksX4_value_6 : cX4_value.data.toList.drop 221 = dktX4_value_6 := dk_seg dksX4_value_5 23 rfl rfl
theorem dksX4_value_7 : cX4_value.data.toList.drop 245 = dktX4_value_7 := dk_seg dksX4_value_6 24 rfl rfl
theorem dksX4_value_8 : cX4_value.data.toList.drop 268 = dktX4_value_8 := dk_seg dksX4_value_7 23 rfl rfl
theorem dksX4_value_9 : cX4_value.data.toList.drop 292 = dktX4_value_9 := dk_seg dksX4_value_8 24 rfl rfl
theorem dksX4_value_10 : cX4_value.data.toList.drop 316 = dktX4_value_10 := dk_seg dksX4_value_9 24 rfl rfl
theorem dX4_value_0 : decode cX4_value 0 = .ok (.aload_n 0, 1) := dk_42 (dk_at dksX4_value_0 0 rfl rfl)
theorem dX4_value_1 : decode cX4_value 1 = .ok (.getfield 15, 3) := dk_180 0 15 (dk_at dksX4_value_0 1 rfl rfl)
theorem dX4_value_4 : decode cX4_value 4 = .ok (.getfield 26, 3) := dk_180 0 26 (dk_at dksX4_value_0 4 rfl rfl)
theorem dX4_value_7 : decode cX4_value 7 = .ok (.aload_n 0, 1) := dk_42 (dk_at dksX4_value_0 7 rfl rfl)
theorem dX4_value_8 : decode cX4_value 8 = .ok (.getfield 19, 3) := dk_180 0 19 (dk_at dksX4_value_0 8 rfl rfl)
theorem dX4_value_11 : decode cX4_value 11 = .ok (.iaload, 1) := dk_46 (dk_at dksX4_value_0 11 rfl rfl)
theorem dX4_value_12 : decode cX4_value 12 = .ok (.istore_n 2, 1) := dk_61 (dk_at dksX4_value_0 12 rfl rfl)
theorem dX4_value_13 : decode cX4_value 13 = .ok (.aload_n 0, 1) := dk_42 (dk_at dksX4_value_0 13 rfl rfl)
theorem dX4_value_14 : decode cX4_value 14 = .ok (.getfield 15, 3) := dk_180 0 15 (dk_at dksX4_value_0 14 rfl rfl)
theorem dX4_value_17 : decode cX4_value 17 = .ok (.getfield 32, 3) := dk_180 0 32 (dk_at dksX4_value_0 17 rfl rfl)
theorem dX4_value_20 : decode cX4_value 20 = .ok (.iconst 1, 1) := dk_4 (dk_at dksX4_value_0 20 rfl rfl)
theorem dX4_value_21 : decode cX4_value 21 = .ok (.iadd, 1) := dk_96 (dk_at dksX4_value_0 21 rfl rfl)
theorem dX4_value_22 : decode cX4_value 22 = .ok (.istore_n 3, 1) := dk_62 (dk_at dksX4_value_0 22 rfl rfl)
theorem dX4_value_23 : decode cX4_value 23 = .ok (.iload_n 1, 1) := dk_27 (dk_at dksX4_value_0 23 rfl rfl)
theorem dX4_value_24 : decode cX4_value 24 = .ok (.tableswitch 309 98 119 #[226, 178, 309, 309, 296, 309, 309, 309, 309, 104, 119, 309, 309, 133, 280, 253, 172, 212, 309, 309, 309, 147], 104) := by decide +kernel
theorem dX4_value_128 : decode cX4_value 128 = .ok (.aload_n 0, 1) := dk_42 (dk_at dksX4_value_2 0 rfl rfl)
theorem dX4_value_129 : decode cX4_value 129 = .ok (.getfield 9, 3) := dk_180 0 9 (dk_at dksX4_value_2 1 rfl rfl)
theorem dX4_value_132 : decode cX4_value 132 = .ok (.getfield 35, 3) := dk_180 0 35 (dk_at dksX4_value_2 4 rfl rfl)
theorem dX4_value_135 : decode cX4_value 135 = .ok (.iload_n 2, 1) := dk_28 (dk_at dksX4_value_2 7 rfl rfl)
theorem dX4_value_136 : decode cX4_value 136 = .ok (.aaload, 1) := dk_50 (dk_at dksX4_value_2 8 rfl rfl)
theorem dX4_value_137 : decode cX4_value 137 = .ok (.aload_n 0, 1) := dk_42 (dk_at dksX4_value_2 9 rfl rfl)
theorem dX4_value_138 : decode cX4_value 138 = .ok (.getfield 23, 3) := dk_180 0 23 (dk_at dksX4_value_2 10 rfl rfl)
theorem dX4_value_141 : decode cX4_value 141 = .ok (.iaload, 1) := dk_46 (dk_at dksX4_value_2 13 rfl rfl)
theorem dX4_value_142 : decode cX4_value 142 = .ok (.ireturn, 1) := dk_172 (dk_at dksX4_value_2 14 rfl rfl)
theorem dX4_value_143 : decode cX4_value 143 = .ok (.aload_n 0, 1) := dk_42 (dk_at dksX4_value_2 15 rfl rfl)
theorem dX4_value_144 : decode cX4_value 144 = .ok (.getfield 9, 3) := dk_180 0 9 (dk_at dksX4_value_2 16 rfl rfl)
theorem dX4_value_147 : decode cX4_value 147 = .ok (.iload_n 2, 1) := dk_28 (dk_at dksX4_value_2 19 rfl rfl)
theorem dX4_value_148 : decode cX4_value 148 = .ok (.aload_n 0, 1) := dk_42 (dk_at dksX4_value_2 20 rfl rfl)
theorem dX4_value_149 : decode cX4_value 149 = .ok (.getfield 23, 3) := dk_180 0 23 (dk_at dksX4_value_2 21 rfl rfl)
theorem dX4_value_152 : decode cX4_value 152 = .ok (.iload_n 3, 1) := dk_29 (dk_at dksX4_value_3 0 rfl rfl)
theorem dX4_value_153 : decode cX4_value 153 = .ok (.invokevirtual 41, 3) := dk_182 0 41 (dk_at dksX4_value_3 1 rfl rfl)
theorem dX4_value_156 : decode cX4_value 156 = .ok (.ireturn, 1) := dk_172 (dk_at dksX4_value_3 4 rfl rfl)
theorem dX4_value_157 : decode cX4_value 157 = .ok (.aload_n 0, 1) := dk_42 (dk_at dksX4_value_3 5 rfl rfl)
theorem dX4_value_158 : decode cX4_value 158 = .ok (.getfield 9, 3) := dk_180 0 9 (dk_at dksX4_value_3 6 rfl rfl)
theorem dX4_value_161 : decode cX4_value 161 = .ok (.iload_n 2, 1) := dk_28 (dk_at dksX4_value_3 9 rfl rfl)
theorem dX4_value_162 : decode cX4_value 162 = .ok (.aload_n 0, 1) := dk_42 (dk_at dksX4_value_3 10 rfl rfl)
theorem dX4_value_163 : decode cX4_value 163 = .ok (.getfield 23, 3) := dk_180 0 23 (dk_at dksX4_value_3 11 rfl rfl)
theorem dX4_value_166 : decode cX4_value 166 = .ok (.iload_n 3, 1) := dk_29 (dk_at dksX4_value_3 14 rfl rfl)
theorem dX4_value_167 : decode cX4_value 167 = .ok (.invokevirtual 45, 3) := dk_182 0 45 (dk_at dksX4_value_3 15 rfl rfl)
theorem dX4_value_170 : decode cX4_value 170 = .ok (.ireturn, 1) := dk_172 (dk_at dksX4_value_3 18 rfl rfl)
theorem dX4_value_171 : decode cX4_value 171 = .ok (.aload_n 0, 1) := dk_42 (dk_at dksX4_value_3 19 rfl rfl)
theorem dX4_value_172 : decode cX4_value 172 = .ok (.getfield 9, 3) := dk_180 0 9 (dk_at dksX4_value_3 20 rfl rfl)
theorem dX4_value_175 : decode cX4_value 175 = .ok (.getfield 48, 3) := dk_180 0 48 (dk_at dksX4_value_4 0 rfl rfl)
theorem dX4_value_178 : decode cX4_value 178 = .ok (.aload_n 0, 1) := dk_42 (dk_at dksX4_value_4 3 rfl rfl)
theorem dX4_value_179 : decode cX4_value 179 = .ok (.getfield 23, 3) := dk_180 0 23 (dk_at dksX4_value_4 4 rfl rfl)
theorem dX4_value_182 : decode cX4_value 182 = .ok (.aaload, 1) := dk_50 (dk_at dksX4_value_4 7 rfl rfl)
theorem dX4_value_183 : decode cX4_value 183 = .ok (.iload_n 3, 1) := dk_29 (dk_at dksX4_value_4 8 rfl rfl)
theorem dX4_value_184 : decode cX4_value 184 = .ok (.invokevirtual 52, 3) := dk_182 0 52 (dk_at dksX4_value_4 9 rfl rfl)
theorem dX4_value_187 : decode cX4_value 187 = .ok (.ifCond .eq 7, 3) := dk_153 0 7 (dk_at dksX4_value_4 12 rfl rfl)
theorem dX4_value_190 : decode cX4_value 190 = .ok (.iconst 1, 1) := dk_4 (dk_at dksX4_value_4 15 rfl rfl)
theorem dX4_value_191 : decode cX4_value 191 = .ok (.goto 4, 3) := dk_167 0 4 (dk_at dksX4_value_4 16 rfl rfl)
theorem dX4_value_194 : decode cX4_value 194 = .ok (.iconst 0, 1) := dk_3 (dk_at dksX4_value_4 19 rfl rfl)
theorem dX4_value_195 : decode cX4_value 195 = .ok (.ireturn, 1) := dk_172 (dk_at dksX4_value_4 20 rfl rfl)
theorem dX4_value_196 : decode cX4_value 196 = .ok (.aload_n 0, 1) := dk_42 (dk_at dksX4_value_4 21 rfl rfl)
theorem dX4_value_197 : decode cX4_value 197 = .ok (.iload_n 3, 1) := dk_29 (dk_at dksX4_value_4 22 rfl rfl)
theorem dX4_value_198 : decode cX4_value 198 = .ok (.invokevirtual 58, 3) := dk_182 0 58 (dk_at dksX4_value_5 0 rfl rfl)
theorem dX4_value_201 : decode cX4_value 201 = .ok (.ireturn, 1) := dk_172 (dk_at dksX4_value_5 3 rfl rfl)
theorem dX4_value_202 : decode cX4_value 202 = .ok (.aload_n 0, 1) := dk_42 (dk_at dksX4_value_5 4 rfl rfl)
theorem dX4_value_203 : decode cX4_value 203 = .ok (.getfield 9, 3) := dk_180 0 9 (dk_at dksX4_value_5 5 rfl rfl)
theorem dX4_value_206 : decode cX4_value 206 = .ok (.aload_n 0, 1) := dk_42 (dk_at dksX4_value_5 8 rfl rfl)
theorem dX4_value_207 : decode cX4_value 207 = .ok (.getfield 23, 3) := dk_180 0 23 (dk_at dksX4_value_5 9 rfl rfl)
theorem dX4_value_210 : decode cX4_value 210 = .ok (.aload_n 0, 1) := dk_42 (dk_at dksX4_value_5 12 rfl rfl)
theorem dX4_value_211 : decode cX4_value 211 = .ok (.getfield 15, 3) := dk_180 0 15 (dk_at dksX4_value_5 13 rfl rfl)
theorem dX4_value_214 : decode cX4_value 214 = .ok (.aload_n 0, 1) := dk_42 (dk_at dksX4_value_5 16 rfl rfl)
theorem dX4_value_215 : decode cX4_value 215 = .ok (.getfield 19, 3) := dk_180 0 19 (dk_at dksX4_value_5 17 rfl rfl)
theorem dX4_value_218 : decode cX4_value 218 = .ok (.invokevirtual 62, 3) := dk_182 0 62 (dk_at dksX4_value_5 20 rfl rfl)
theorem dX4_value_221 : decode cX4_value 221 = .ok (.getfield 66, 3) := dk_180 0 66 (dk_at dksX4_value_6 0 rfl rfl)
theorem dX4_value_224 : decode cX4_value 224 = .ok (.invokevirtual 71, 3) := dk_182 0 71 (dk_at dksX4_value_6 3 rfl rfl)
theorem dX4_value_227 : decode cX4_value 227 = .ok (.ifCond .eq 7, 3) := dk_153 0 7 (dk_at dksX4_value_6 6 rfl rfl)
theorem dX4_value_230 : decode cX4_value 230 = .ok (.iconst 1, 1) := dk_4 (dk_at dksX4_value_6 9 rfl rfl)
theorem dX4_value_231 : decode cX4_value 231 = .ok (.goto 4, 3) := dk_167 0 4 (dk_at dksX4_value_6 10 rfl rfl)
theorem dX4_value_234 : decode cX4_value 234 = .ok (.iconst 0, 1) := dk_3 (dk_at dksX4_value_6 13 rfl rfl)
theorem dX4_value_235 : decode cX4_value 235 = .ok (.ireturn, 1) := dk_172 (dk_at dksX4_value_6 14 rfl rfl)
theorem dX4_value_236 : decode cX4_value 236 = .ok (.aload_n 0, 1) := dk_42 (dk_at dksX4_value_6 15 rfl rfl)
theorem dX4_value_237 : decode cX4_value 237 = .ok (.getfield 23, 3) := dk_180 0 23 (dk_at dksX4_value_6 16 rfl rfl)
theorem dX4_value_240 : decode cX4_value 240 = .ok (.iload_n 2, 1) := dk_28 (dk_at dksX4_value_6 19 rfl rfl)
theorem dX4_value_241 : decode cX4_value 241 = .ok (.if_icmp .ne 7, 3) := dk_160 0 7 (dk_at dksX4_value_6 20 rfl rfl)
theorem dX4_value_244 : decode cX4_value 244 = .ok (.iconst 1, 1) := dk_4 (dk_at dksX4_value_6 23 rfl rfl)
theorem dX4_value_245 : decode cX4_value 245 = .ok (.goto 4, 3) := dk_167 0 4 (dk_at dksX4_value_7 0 rfl rfl)
theorem dX4_value_248 : decode cX4_value 248 = .ok (.iconst 0, 1) := dk_3 (dk_at dksX4_value_7 3 rfl rfl)
theorem dX4_value_249 : decode cX4_value 249 = .ok (.ireturn, 1) := dk_172 (dk_at dksX4_value_7 4 rfl rfl)
theorem dX4_value_250 : decode cX4_value 250 = .ok (.aload_n 0, 1) := dk_42 (dk_at dksX4_value_7 5 rfl rfl)
theorem dX4_value_251 : decode cX4_value 251 = .ok (.getfield 15, 3) := dk_180 0 15 (dk_at dksX4_value_7 6 rfl rfl)
theorem dX4_value_254 : decode cX4_value 254 = .ok (.aload_n 0, 1) := dk_42 (dk_at dksX4_value_7 9 rfl rfl)
theorem dX4_value_255 : decode cX4_value 255 = .ok (.getfield 19, 3) := dk_180 0 19 (dk_at dksX4_value_7 10 rfl rfl)
theorem dX4_value_258 : decode cX4_value 258 = .ok (.invokevirtual 62, 3) := dk_182 0 62 (dk_at dksX4_value_7 13 rfl rfl)
theorem dX4_value_261 : decode cX4_value 261 = .ok (.getfield 75, 3) := dk_180 0 75 (dk_at dksX4_value_7 16 rfl rfl)
theorem dX4_value_264 : decode cX4_value 264 = .ok (.aload_n 0, 1) := dk_42 (dk_at dksX4_value_7 19 rfl rfl)
theorem dX4_value_265 : decode cX4_value 265 = .ok (.getfield 23, 3) := dk_180 0 23 (dk_at dksX4_value_7 20 rfl rfl)
theorem dX4_value_268 : decode cX4_value 268 = .ok (.if_icmp .ne 7, 3) := dk_160 0 7 (dk_at dksX4_value_8 0 rfl rfl)
theorem dX4_value_271 : decode cX4_value 271 = .ok (.iconst 1, 1) := dk_4 (dk_at dksX4_value_8 3 rfl rfl)
theorem dX4_value_272 : decode cX4_value 272 = .ok (.goto 4, 3) := dk_167 0 4 (dk_at dksX4_value_8 4 rfl rfl)
theorem dX4_value_275 : decode cX4_value 275 = .ok (.iconst 0, 1) := dk_3 (dk_at dksX4_value_8 7 rfl rfl)
theorem dX4_value_276 : decode cX4_value 276 = .ok (.ireturn, 1) := dk_172 (dk_at dksX4_value_8 8 rfl rfl)
theorem dX4_value_277 : decode cX4_value 277 = .ok (.aload_n 0, 1) := dk_42 (dk_at dksX4_value_8 9 rfl rfl)
theorem dX4_value_278 : decode cX4_value 278 = .ok (.getfield 15, 3) := dk_180 0 15 (dk_at dksX4_value_8 10 rfl rfl)
theorem dX4_value_281 : decode cX4_value 281 = .ok (.aload_n 0, 1) := dk_42 (dk_at dksX4_value_8 13 rfl rfl)
theorem dX4_value_282 : decode cX4_value 282 = .ok (.getfield 19, 3) := dk_180 0 19 (dk_at dksX4_value_8 14 rfl rfl)
theorem dX4_value_285 : decode cX4_value 285 = .ok (.invokevirtual 62, 3) := dk_182 0 62 (dk_at dksX4_value_8 17 rfl rfl)
theorem dX4_value_288 : decode cX4_value 288 = .ok (.getfield 78, 3) := dk_180 0 78 (dk_at dksX4_value_8 20 rfl rfl)
theorem dX4_value_291 : decode cX4_value 291 = .ok (.aload_n 0, 1) := dk_42 (dk_at dksX4_value_8 23 rfl rfl)
theorem dX4_value_292 : decode cX4_value 292 = .ok (.getfield 23, 3) := dk_180 0 23 (dk_at dksX4_value_9 0 rfl rfl)
theorem dX4_value_295 : decode cX4_value 295 = .ok (.if_icmp .ne 7, 3) := dk_160 0 7 (dk_at dksX4_value_9 3 rfl rfl)
theorem dX4_value_298 : decode cX4_value 298 = .ok (.iconst 1, 1) := dk_4 (dk_at dksX4_value_9 6 rfl rfl)
theorem dX4_value_299 : decode cX4_value 299 = .ok (.goto 4, 3) := dk_167 0 4 (dk_at dksX4_value_9 7 rfl rfl)
theorem dX4_value_302 : decode cX4_value 302 = .ok (.iconst 0, 1) := dk_3 (dk_at dksX4_value_9 10 rfl rfl)
theorem dX4_value_303 : decode cX4_value 303 = .ok (.ireturn, 1) := dk_172 (dk_at dksX4_value_9 11 rfl rfl)
theorem dX4_value_304 : decode cX4_value 304 = .ok (.aload_n 0, 1) := dk_42 (dk_at dksX4_value_9 12 rfl rfl)
theorem dX4_value_305 : decode cX4_value 305 = .ok (.getfield 9, 3) := dk_180 0 9 (dk_at dksX4_value_9 13 rfl rfl)
theorem dX4_value_308 : decode cX4_value 308 = .ok (.getfield 48, 3) := dk_180 0 48 (dk_at dksX4_value_9 16 rfl rfl)
theorem dX4_value_311 : decode cX4_value 311 = .ok (.aload_n 0, 1) := dk_42 (dk_at dksX4_value_9 19 rfl rfl)
theorem dX4_value_312 : decode cX4_value 312 = .ok (.getfield 23, 3) := dk_180 0 23 (dk_at dksX4_value_9 20 rfl rfl)
theorem dX4_value_315 : decode cX4_value 315 = .ok (.aaload, 1) := dk_50 (dk_at dksX4_value_9 23 rfl rfl)
theorem dX4_value_316 : decode cX4_value 316 = .ok (.getfield 81, 3) := dk_180 0 81 (dk_at dksX4_value_10 0 rfl rfl)
theorem dX4_value_319 : decode cX4_value 319 = .ok (.ireturn, 1) := dk_172 (dk_at dksX4_value_10 3 rfl rfl)
theorem dX4_value_320 : decode cX4_value 320 = .ok (.aload_n 0, 1) := dk_42 (dk_at dksX4_value_10 4 rfl rfl)
theorem dX4_value_321 : decode cX4_value 321 = .ok (.getfield 15, 3) := dk_180 0 15 (dk_at dksX4_value_10 5 rfl rfl)
theorem dX4_value_324 : decode cX4_value 324 = .ok (.getfield 84, 3) := dk_180 0 84 (dk_at dksX4_value_10 8 rfl rfl)
theorem dX4_value_327 : decode cX4_value 327 = .ok (.aload_n 0, 1) := dk_42 (dk_at dksX4_value_10 11 rfl rfl)
theorem dX4_value_328 : decode cX4_value 328 = .ok (.getfield 19, 3) := dk_180 0 19 (dk_at dksX4_value_10 12 rfl rfl)
theorem dX4_value_331 : decode cX4_value 331 = .ok (.iaload, 1) := dk_46 (dk_at dksX4_value_10 15 rfl rfl)
theorem dX4_value_332 : decode cX4_value 332 = .ok (.ireturn, 1) := dk_172 (dk_at dksX4_value_10 16 rfl rfl)
theorem dX4_value_333 : decode cX4_value 333 = .ok (.aload_n 0, 1) := dk_42 (dk_at dksX4_value_10 17 rfl rfl)
theorem dX4_value_334 : decode cX4_value 334 = .ok (.getfield 23, 3) := dk_180 0 23 (dk_at dksX4_value_10 18 rfl rfl)
theorem dX4_value_337 : decode cX4_value 337 = .ok (.ireturn, 1) := dk_172 (dk_at dksX4_value_10 21 rfl rfl)
def dkwX4_rest_1 : List UInt8 := [182, 0, 52, 154, 0, 9, 132, 2, 1, 167, 255, 226, 28, 172]
abbrev dktX4_rest_1 : List UInt8 := dkwX4_rest_1 ++ []
def dkwX4_rest_0 : List UInt8 := [3, 61, 28, 16, 99, 162, 0, 30, 42, 180, 0, 9, 180, 0, 48, 42, 180, 0, 23, 50, 27, 28, 96]
abbrev dktX4_rest_0 : List UInt8 := dkwX4_rest_0 ++ dktX4_rest_1
theorem dksX4_rest_0 : cX4_rest.data.toList.drop 0 = dktX4_rest_0 := by decide +kernel
theorem dksX4_rest_1 : cX4_rest.data.toList.drop 23 = dktX4_rest_1 := dk_seg dksX4_rest_0 23 rfl rfl
theorem dX4_rest_0 : decode cX4_rest 0 = .ok (.iconst 0, 1) := dk_3 (dk_at dksX4_rest_0 0 rfl rfl)
theorem dX4_rest_1 : decode cX4_rest 1 = .ok (.istore_n 2, 1) := dk_61 (dk_at dksX4_rest_0 1 rfl rfl)
theorem dX4_rest_2 : decode cX4_rest 2 = .ok (.iload_n 2, 1) := dk_28 (dk_at dksX4_rest_0 2 rfl rfl)
theorem dX4_rest_3 : decode cX4_rest 3 = .ok (.bipush 99, 2) := dk_16 99 (dk_at dksX4_rest_0 3 rfl rfl)
theorem dX4_rest_5 : decode cX4_rest 5 = .ok (.if_icmp .ge 30, 3) := dk_162 0 30 (dk_at dksX4_rest_0 5 rfl rfl)
theorem dX4_rest_8 : decode cX4_rest 8 = .ok (.aload_n 0, 1) := dk_42 (dk_at dksX4_rest_0 8 rfl rfl)
theorem dX4_rest_9 : decode cX4_rest 9 = .ok (.getfield 9, 3) := dk_180 0 9 (dk_at dksX4_rest_0 9 rfl rfl)
theorem dX4_rest_12 : decode cX4_rest 12 = .ok (.getfield 48, 3) := dk_180 0 48 (dk_at dksX4_rest_0 12 rfl rfl)
theorem dX4_rest_15 : decode cX4_rest 15 = .ok (.aload_n 0, 1) := dk_42 (dk_at dksX4_rest_0 15 rfl rfl)
theorem dX4_rest_16 : decode cX4_rest 16 = .ok (.getfield 23, 3) := dk_180 0 23 (dk_at dksX4_rest_0 16 rfl rfl)
theorem dX4_rest_19 : decode cX4_rest 19 = .ok (.aaload, 1) := dk_50 (dk_at dksX4_rest_0 19 rfl rfl)
theorem dX4_rest_20 : decode cX4_rest 20 = .ok (.iload_n 1, 1) := dk_27 (dk_at dksX4_rest_0 20 rfl rfl)
theorem dX4_rest_21 : decode cX4_rest 21 = .ok (.iload_n 2, 1) := dk_28 (dk_at dksX4_rest_0 21 rfl rfl)
theorem dX4_rest_22 : decode cX4_rest 22 = .ok (.iadd, 1) := dk_96 (dk_at dksX4_rest_0 22 rfl rfl)
theorem dX4_rest_23 : decode cX4_rest 23 = .ok (.invokevirtual 52, 3) := dk_182 0 52 (dk_at dksX4_rest_1 0 rfl rfl)
theorem dX4_rest_26 : decode cX4_rest 26 = .ok (.ifCond .ne 9, 3) := dk_154 0 9 (dk_at dksX4_rest_1 3 rfl rfl)
theorem dX4_rest_29 : decode cX4_rest 29 = .ok (.iinc 2 1, 3) := dk_132 2 1 (dk_at dksX4_rest_1 6 rfl rfl)
theorem dX4_rest_32 : decode cX4_rest 32 = .ok (.goto (-30), 3) := dk_167 255 226 (dk_at dksX4_rest_1 9 rfl rfl)
theorem dX4_rest_35 : decode cX4_rest 35 = .ok (.iload_n 2, 1) := dk_28 (dk_at dksX4_rest_1 12 rfl rfl)
theorem dX4_rest_36 : decode cX4_rest 36 = .ok (.ireturn, 1) := dk_172 (dk_at dksX4_rest_1 13 rfl rfl)
def dkwX6_init_1 : List UInt8 := [181, 0, 22, 42, 21, 4, 181, 0, 25, 42, 21, 5, 181, 0, 28, 42, 21, 6, 181, 0, 31, 177]
abbrev dktX6_init_1 : List UInt8 := dkwX6_init_1 ++ []
def dkwX6_init_0 : List UInt8 := [42, 183, 0, 3, 42, 16, 100, 188, 4, 181, 0, 9, 42, 27, 181, 0, 15, 42, 28, 181, 0, 19, 42, 29]
abbrev dktX6_init_0 : List UInt8 := dkwX6_init_0 ++ dktX6_init_1
theorem dksX6_init_0 : cX6_init.data.toList.drop 0 = dktX6_init_0 := by decide +kernel
theorem dksX6_init_1 : cX6_init.data.toList.drop 24 = dktX6_init_1 := dk_seg dksX6_init_0 24 rfl rfl
theorem dX6_init_0 : decode cX6_init 0 = .ok (.aload_n 0, 1) := dk_42 (dk_at dksX6_init_0 0 rfl rfl)
theorem dX6_init_1 : decode cX6_init 1 = .ok (.invokespecial 3, 3) := dk_183 0 3 (dk_at dksX6_init_0 1 rfl rfl)
theorem dX6_init_4 : decode cX6_init 4 = .ok (.aload_n 0, 1) := dk_42 (dk_at dksX6_init_0 4 rfl rfl)
theorem dX6_init_5 : decode cX6_init 5 = .ok (.bipush 100, 2) := dk_16 100 (dk_at dksX6_init_0 5 rfl rfl)
theorem dX6_init_7 : decode cX6_init 7 = .ok (.newarray .boolean, 2) := dk_188_4 (dk_at dksX6_init_0 7 rfl rfl)
theorem dX6_init_9 : decode cX6_init 9 = .ok (.putfield 9, 3) := dk_181 0 9 (dk_at dksX6_init_0 9 rfl rfl)
theorem dX6_init_12 : decode cX6_init 12 = .ok (.aload_n 0, 1) := dk_42 (dk_at dksX6_init_0 12 rfl rfl)
theorem dX6_init_13 : decode cX6_init 13 = .ok (.iload_n 1, 1) := dk_27 (dk_at dksX6_init_0 13 rfl rfl)
theorem dX6_init_14 : decode cX6_init 14 = .ok (.putfield 15, 3) := dk_181 0 15 (dk_at dksX6_init_0 14 rfl rfl)
theorem dX6_init_17 : decode cX6_init 17 = .ok (.aload_n 0, 1) := dk_42 (dk_at dksX6_init_0 17 rfl rfl)
theorem dX6_init_18 : decode cX6_init 18 = .ok (.iload_n 2, 1) := dk_28 (dk_at dksX6_init_0 18 rfl rfl)
theorem dX6_init_19 : decode cX6_init 19 = .ok (.putfield 19, 3) := dk_181 0 19 (dk_at dksX6_init_0 19 rfl rfl)
theorem dX6_init_22 : decode cX6_init 22 = .ok (.aload_n 0, 1) := dk_42 (dk_at dksX6_init_0 22 rfl rfl)
theorem dX6_init_23 : decode cX6_init 23 = .ok (.iload_n 3, 1) := dk_29 (dk_at dksX6_init_0 23 rfl rfl)
theorem dX6_init_24 : decode cX6_init 24 = .ok (.putfield 22, 3) := dk_181 0 22 (dk_at dksX6_init_1 0 rfl rfl)
theorem dX6_init_27 : decode cX6_init 27 = .ok (.aload_n 0, 1) := dk_42 (dk_at dksX6_init_1 3 rfl rfl)
theorem dX6_init_28 : decode cX6_init 28 = .ok (.iload 4, 2) := dk_21 4 (dk_at dksX6_init_1 4 rfl rfl)
theorem dX6_init_30 : decode cX6_init 30 = .ok (.putfield 25, 3) := dk_181 0 25 (dk_at dksX6_init_1 6 rfl rfl)
theorem dX6_init_33 : decode cX6_init 33 = .ok (.aload_n 0, 1) := dk_42 (dk_at dksX6_init_1 9 rfl rfl)
theorem dX6_init_34 : decode cX6_init 34 = .ok (.iload 5, 2) := dk_21 5 (dk_at dksX6_init_1 10 rfl rfl)
theorem dX6_init_36 : decode cX6_init 36 = .ok (.putfield 28, 3) := dk_181 0 28 (dk_at dksX6_init_1 12 rfl rfl)
theorem dX6_init_39 : decode cX6_init 39 = .ok (.aload_n 0, 1) := dk_42 (dk_at dksX6_init_1 15 rfl rfl)
theorem dX6_init_40 : decode cX6_init 40 = .ok (.iload 6, 2) := dk_21 6 (dk_at dksX6_init_1 16 rfl rfl)
theorem dX6_init_42 : decode cX6_init 42 = .ok (.putfield 31, 3) := dk_181 0 31 (dk_at dksX6_init_1 18 rfl rfl)
theorem dX6_init_45 : decode cX6_init 45 = .ok (.return_, 1) := dk_177 (dk_at dksX6_init_1 21 rfl rfl)
def dkwX6_isOpen_3 : List UInt8 := [21, 4, 51, 154, 0, 7, 4, 167, 0, 4, 3, 172]
abbrev dktX6_isOpen_3 : List UInt8 := dkwX6_isOpen_3 ++ []
def dkwX6_isOpen_2 : List UInt8 := [100, 16, 24, 184, 0, 46, 54, 4, 21, 4, 3, 16, 99, 184, 0, 49, 153, 0, 13, 42, 180, 0, 9]
abbrev dktX6_isOpen_2 : List UInt8 := dkwX6_isOpen_2 ++ dktX6_isOpen_3
def dkwX6_isOpen_1 : List UInt8 := [28, 42, 180, 0, 19, 100, 16, 24, 184, 0, 40, 62, 29, 42, 180, 0, 22, 161, 0, 5, 3, 172, 28, 29]
abbrev dktX6_isOpen_1 : List UInt8 := dkwX6_isOpen_1 ++ dktX6_isOpen_2
def dkwX6_isOpen_0 : List UInt8 := [27, 42, 180, 0, 15, 96, 27, 42, 180, 0, 34, 161, 0, 10, 42, 180, 0, 37, 167, 0, 4, 3, 96, 61]
abbrev dktX6_isOpen_0 : List UInt8 := dkwX6_isOpen_0 ++ dktX6_isOpen_1
theorem dksX6_isOpen_0 : cX6_isOpen.data.toList.drop 0 = dktX6_isOpen_0 := by decide +kernel
theorem dksX6_isOpen_1 : cX6_isOpen.data.toList.drop 24 = dktX6_isOpen_1 := dk_seg dksX6_isOpen_0 24 rfl rfl
theorem dksX6_isOpen_2 : cX6_isOpen.data.toList.drop 48 = dktX6_isOpen_2 := dk_seg dksX6_isOpen_1 24 rfl rfl
theorem dksX6_isOpen_3 : cX6_isOpen.data.toList.drop 71 = dktX6_isOpen_3 := dk_seg dksX6_isOpen_2 23 rfl rfl
theorem dX6_isOpen_0 : decode cX6_isOpen 0 = .ok (.iload_n 1, 1) := dk_27 (dk_at dksX6_isOpen_0 0 rfl rfl)
theorem dX6_isOpen_1 : decode cX6_isOpen 1 = .ok (.aload_n 0, 1) := dk_42 (dk_at dksX6_isOpen_0 1 rfl rfl)
theorem dX6_isOpen_2 : decode cX6_isOpen 2 = .ok (.getfield 15, 3) := dk_180 0 15 (dk_at dksX6_isOpen_0 2 rfl rfl)
theorem dX6_isOpen_5 : decode cX6_isOpen 5 = .ok (.iadd, 1) := dk_96 (dk_at dksX6_isOpen_0 5 rfl rfl)
theorem dX6_isOpen_6 : decode cX6_isOpen 6 = .ok (.iload_n 1, 1) := dk_27 (dk_at dksX6_isOpen_0 6 rfl rfl)
theorem dX6_isOpen_7 : decode cX6_isOpen 7 = .ok (.aload_n 0, 1) := dk_42 (dk_at dksX6_isOpen_0 7 rfl rfl)
theorem dX6_isOpen_8 : decode cX6_isOpen 8 = .ok (.getfield 34, 3) := dk_180 0 34 (dk_at dksX6_isOpen_0 8 rfl rfl)
theorem dX6_isOpen_11 : decode cX6_isOpen 11 = .ok (.if_icmp .lt 10, 3) := dk_161 0 10 (dk_at dksX6_isOpen_0 11 rfl rfl)
theorem dX6_isOpen_14 : decode cX6_isOpen 14 = .ok (.aload_n 0, 1) := dk_42 (dk_at dksX6_isOpen_0 14 rfl rfl)
theorem dX6_isOpen_15 : decode cX6_isOpen 15 = .ok (.getfield 37, 3) := dk_180 0 37 (dk_at dksX6_isOpen_0 15 rfl rfl)
theorem dX6_isOpen_18 : decode cX6_isOpen 18 = .ok (.goto 4, 3) := dk_167 0 4 (dk_at dksX6_isOpen_0 18 rfl rfl)
theorem dX6_isOpen_21 : decode cX6_isOpen 21 = .ok (.iconst 0, 1) := dk_3 (dk_at dksX6_isOpen_0 21 rfl rfl)
theorem dX6_isOpen_22 : decode cX6_isOpen 22 = .ok (.iadd, 1) := dk_96 (dk_at dksX6_isOpen_0 22 rfl rfl)
theorem dX6_isOpen_23 : decode cX6_isOpen 23 = .ok (.istore_n 2, 1) := dk_61 (dk_at dksX6_isOpen_0 23 rfl rfl)
theorem dX6_isOpen_24 : decode cX6_isOpen 24 = .ok (.iload_n 2, 1) := dk_28 (dk_at dksX6_isOpen_1 0 rfl rfl)
theorem dX6_isOpen_25 : decode cX6_isOpen 25 = .ok (.aload_n 0, 1) := dk_42 (dk_at dksX6_isOpen_1 1 rfl rfl)
theorem dX6_isOpen_26 : decode cX6_isOpen 26 = .ok (.getfield 19, 3) := dk_180 0 19 (dk_at dksX6_isOpen_1 2 rfl rfl)
theorem dX6_isOpen_29 : decode cX6_isOpen 29 = .ok (.isub, 1) := dk_100 (dk_at dksX6_isOpen_1 5 rfl rfl)
theorem dX6_isOpen_30 : decode cX6_isOpen 30 = .ok (.bipush 24, 2) := dk_16 24 (dk_at dksX6_isOpen_1 6 rfl rfl)
theorem dX6_isOpen_32 : decode cX6_isOpen 32 = .ok (.invokestatic 40, 3) := dk_184 0 40 (dk_at dksX6_isOpen_1 8 rfl rfl)
theorem dX6_isOpen_35 : decode cX6_isOpen 35 = .ok (.istore_n 3, 1) := dk_62 (dk_at dksX6_isOpen_1 11 rfl rfl)
theorem dX6_isOpen_36 : decode cX6_isOpen 36 = .ok (.iload_n 3, 1) := dk_29 (dk_at dksX6_isOpen_1 12 rfl rfl)
theorem dX6_isOpen_37 : decode cX6_isOpen 37 = .ok (.aload_n 0, 1) := dk_42 (dk_at dksX6_isOpen_1 13 rfl rfl)
theorem dX6_isOpen_38 : decode cX6_isOpen 38 = .ok (.getfield 22, 3) := dk_180 0 22 (dk_at dksX6_isOpen_1 14 rfl rfl)
theorem dX6_isOpen_41 : decode cX6_isOpen 41 = .ok (.if_icmp .lt 5, 3) := dk_161 0 5 (dk_at dksX6_isOpen_1 17 rfl rfl)
theorem dX6_isOpen_44 : decode cX6_isOpen 44 = .ok (.iconst 0, 1) := dk_3 (dk_at dksX6_isOpen_1 20 rfl rfl)
theorem dX6_isOpen_45 : decode cX6_isOpen 45 = .ok (.ireturn, 1) := dk_172 (dk_at dksX6_isOpen_1 21 rfl rfl)
theorem dX6_isOpen_46 : decode cX6_isOpen 46 = .ok (.iload_n 2, 1) := dk_28 (dk_at dksX6_isOpen_1 22 rfl rfl)
theorem dX6_isOpen_47 : decode cX6_isOpen 47 = .ok (.iload_n 3, 1) := dk_29 (dk_at dksX6_isOpen_1 23 rfl rfl)
theorem dX6_isOpen_48 : decode cX6_isOpen 48 = .ok (.isub, 1) := dk_100 (dk_at dksX6_isOpen_2 0 rfl rfl)
theorem dX6_isOpen_49 : decode cX6_isOpen 49 = .ok (.bipush 24, 2) := dk_16 24 (dk_at dksX6_isOpen_2 1 rfl rfl)
theorem dX6_isOpen_51 : decode cX6_isOpen 51 = .ok (.invokestatic 46, 3) := dk_184 0 46 (dk_at dksX6_isOpen_2 3 rfl rfl)
theorem dX6_isOpen_54 : decode cX6_isOpen 54 = .ok (.istore 4, 2) := dk_54 4 (dk_at dksX6_isOpen_2 6 rfl rfl)
theorem dX6_isOpen_56 : decode cX6_isOpen 56 = .ok (.iload 4, 2) := dk_21 4 (dk_at dksX6_isOpen_2 8 rfl rfl)
theorem dX6_isOpen_58 : decode cX6_isOpen 58 = .ok (.iconst 0, 1) := dk_3 (dk_at dksX6_isOpen_2 10 rfl rfl)
theorem dX6_isOpen_59 : decode cX6_isOpen 59 = .ok (.bipush 99, 2) := dk_16 99 (dk_at dksX6_isOpen_2 11 rfl rfl)
theorem dX6_isOpen_61 : decode cX6_isOpen 61 = .ok (.invokestatic 49, 3) := dk_184 0 49 (dk_at dksX6_isOpen_2 13 rfl rfl)
theorem dX6_isOpen_64 : decode cX6_isOpen 64 = .ok (.ifCond .eq 13, 3) := dk_153 0 13 (dk_at dksX6_isOpen_2 16 rfl rfl)
theorem dX6_isOpen_67 : decode cX6_isOpen 67 = .ok (.aload_n 0, 1) := dk_42 (dk_at dksX6_isOpen_2 19 rfl rfl)
theorem dX6_isOpen_68 : decode cX6_isOpen 68 = .ok (.getfield 9, 3) := dk_180 0 9 (dk_at dksX6_isOpen_2 20 rfl rfl)
theorem dX6_isOpen_71 : decode cX6_isOpen 71 = .ok (.iload 4, 2) := dk_21 4 (dk_at dksX6_isOpen_3 0 rfl rfl)
theorem dX6_isOpen_73 : decode cX6_isOpen 73 = .ok (.baload, 1) := dk_51 (dk_at dksX6_isOpen_3 2 rfl rfl)
theorem dX6_isOpen_74 : decode cX6_isOpen 74 = .ok (.ifCond .ne 7, 3) := dk_154 0 7 (dk_at dksX6_isOpen_3 3 rfl rfl)
theorem dX6_isOpen_77 : decode cX6_isOpen 77 = .ok (.iconst 1, 1) := dk_4 (dk_at dksX6_isOpen_3 6 rfl rfl)
theorem dX6_isOpen_78 : decode cX6_isOpen 78 = .ok (.goto 4, 3) := dk_167 0 4 (dk_at dksX6_isOpen_3 7 rfl rfl)
theorem dX6_isOpen_81 : decode cX6_isOpen 81 = .ok (.iconst 0, 1) := dk_3 (dk_at dksX6_isOpen_3 10 rfl rfl)
theorem dX6_isOpen_82 : decode cX6_isOpen 82 = .ok (.ireturn, 1) := dk_172 (dk_at dksX6_isOpen_3 11 rfl rfl)
def dkwX7_init_1 : List UInt8 := [181, 0, 19, 42, 21, 5, 181, 0, 22, 42, 21, 6, 181, 0, 25, 177]
abbrev dktX7_init_1 : List UInt8 := dkwX7_init_1 ++ []
def dkwX7_init_0 : List UInt8 := [42, 183, 0, 1, 42, 27, 181, 0, 7, 42, 28, 181, 0, 13, 42, 29, 181, 0, 16, 42, 21, 4]
abbrev dktX7_init_0 : List UInt8 := dkwX7_init_0 ++ dktX7_init_1
theorem dksX7_init_0 : cX7_init.data.toList.drop 0 = dktX7_init_0 := by decide +kernel
theorem dksX7_init_1 : cX7_init.data.toList.drop 22 = dktX7_init_1 := dk_seg dksX7_init_0 22 rfl rfl
theorem dX7_init_0 : decode cX7_init 0 = .ok (.aload_n 0, 1) := dk_42 (dk_at dksX7_init_0 0 rfl rfl)
theorem dX7_init_1 : decode cX7_init 1 = .ok (.invokespecial 1, 3) := dk_183 0 1 (dk_at dksX7_init_0 1 rfl rfl)
theorem dX7_init_4 : decode cX7_init 4 = .ok (.aload_n 0, 1) := dk_42 (dk_at dksX7_init_0 4 rfl rfl)
theorem dX7_init_5 : decode cX7_init 5 = .ok (.iload_n 1, 1) := dk_27 (dk_at dksX7_init_0 5 rfl rfl)
theorem dX7_init_6 : decode cX7_init 6 = .ok (.putfield 7, 3) := dk_181 0 7 (dk_at dksX7_init_0 6 rfl rfl)
theorem dX7_init_9 : decode cX7_init 9 = .ok (.aload_n 0, 1) := dk_42 (dk_at dksX7_init_0 9 rfl rfl)
theorem dX7_init_10 : decode cX7_init 10 = .ok (.iload_n 2, 1) := dk_28 (dk_at dksX7_init_0 10 rfl rfl)
theorem dX7_init_11 : decode cX7_init 11 = .ok (.putfield 13, 3) := dk_181 0 13 (dk_at dksX7_init_0 11 rfl rfl)
theorem dX7_init_14 : decode cX7_init 14 = .ok (.aload_n 0, 1) := dk_42 (dk_at dksX7_init_0 14 rfl rfl)
theorem dX7_init_15 : decode cX7_init 15 = .ok (.iload_n 3, 1) := dk_29 (dk_at dksX7_init_0 15 rfl rfl)
theorem dX7_init_16 : decode cX7_init 16 = .ok (.putfield 16, 3) := dk_181 0 16 (dk_at dksX7_init_0 16 rfl rfl)
theorem dX7_init_19 : decode cX7_init 19 = .ok (.aload_n 0, 1) := dk_42 (dk_at dksX7_init_0 19 rfl rfl)
theorem dX7_init_20 : decode cX7_init 20 = .ok (.iload 4, 2) := dk_21 4 (dk_at dksX7_init_0 20 rfl rfl)
theorem dX7_init_22 : decode cX7_init 22 = .ok (.putfield 19, 3) := dk_181 0 19 (dk_at dksX7_init_1 0 rfl rfl)
theorem dX7_init_25 : decode cX7_init 25 = .ok (.aload_n 0, 1) := dk_42 (dk_at dksX7_init_1 3 rfl rfl)
theorem dX7_init_26 : decode cX7_init 26 = .ok (.iload 5, 2) := dk_21 5 (dk_at dksX7_init_1 4 rfl rfl)
theorem dX7_init_28 : decode cX7_init 28 = .ok (.putfield 22, 3) := dk_181 0 22 (dk_at dksX7_init_1 6 rfl rfl)
theorem dX7_init_31 : decode cX7_init 31 = .ok (.aload_n 0, 1) := dk_42 (dk_at dksX7_init_1 9 rfl rfl)
theorem dX7_init_32 : decode cX7_init 32 = .ok (.iload 6, 2) := dk_21 6 (dk_at dksX7_init_1 10 rfl rfl)
theorem dX7_init_34 : decode cX7_init 34 = .ok (.putfield 25, 3) := dk_181 0 25 (dk_at dksX7_init_1 12 rfl rfl)
theorem dX7_init_37 : decode cX7_init 37 = .ok (.return_, 1) := dk_177 (dk_at dksX7_init_1 15 rfl rfl)
def dkwX8_init_1 : List UInt8 := [184, 0, 22, 181, 0, 28, 43, 3, 181, 0, 15, 177]
abbrev dktX8_init_1 : List UInt8 := dkwX8_init_1 ++ []
def dkwX8_init_0 : List UInt8 := [42, 43, 181, 0, 3, 42, 183, 0, 9, 42, 43, 180, 0, 15, 181, 0, 19, 42, 43, 180, 0, 15, 16, 40]
abbrev dktX8_init_0 : List UInt8 := dkwX8_init_0 ++ dktX8_init_1
theorem dksX8_init_0 : cX8_init.data.toList.drop 0 = dktX8_init_0 := by decide +kernel
theorem dksX8_init_1 : cX8_init.data.toList.drop 24 = dktX8_init_1 := dk_seg dksX8_init_0 24 rfl rfl
theorem dX8_init_0 : decode cX8_init 0 = .ok (.aload_n 0, 1) := dk_42 (dk_at dksX8_init_0 0 rfl rfl)
theorem dX8_init_1 : decode cX8_init 1 = .ok (.aload_n 1, 1) := dk_43 (dk_at dksX8_init_0 1 rfl rfl)
theorem dX8_init_2 : decode cX8_init 2 = .ok (.putfield 3, 3) := dk_181 0 3 (dk_at dksX8_init_0 2 rfl rfl)
theorem dX8_init_5 : decode cX8_init 5 = .ok (.aload_n 0, 1) := dk_42 (dk_at dksX8_init_0 5 rfl rfl)
theorem dX8_init_6 : decode cX8_init 6 = .ok (.invokespecial 9, 3) := dk_183 0 9 (dk_at dksX8_init_0 6 rfl rfl)
theorem dX8_init_9 : decode cX8_init 9 = .ok (.aload_n 0, 1) := dk_42 (dk_at dksX8_init_0 9 rfl rfl)
theorem dX8_init_10 : decode cX8_init 10 = .ok (.aload_n 1, 1) := dk_43 (dk_at dksX8_init_0 10 rfl rfl)
theorem dX8_init_11 : decode cX8_init 11 = .ok (.getfield 15, 3) := dk_180 0 15 (dk_at dksX8_init_0 11 rfl rfl)
theorem dX8_init_14 : decode cX8_init 14 = .ok (.putfield 19, 3) := dk_181 0 19 (dk_at dksX8_init_0 14 rfl rfl)
theorem dX8_init_17 : decode cX8_init 17 = .ok (.aload_n 0, 1) := dk_42 (dk_at dksX8_init_0 17 rfl rfl)
theorem dX8_init_18 : decode cX8_init 18 = .ok (.aload_n 1, 1) := dk_43 (dk_at dksX8_init_0 18 rfl rfl)
theorem dX8_init_19 : decode cX8_init 19 = .ok (.getfield 15, 3) := dk_180 0 15 (dk_at dksX8_init_0 19 rfl rfl)
theorem dX8_init_22 : decode cX8_init 22 = .ok (.bipush 40, 2) := dk_16 40 (dk_at dksX8_init_0 22 rfl rfl)
theorem dX8_init_24 : decode cX8_init 24 = .ok (.invokestatic 22, 3) := dk_184 0 22 (dk_at dksX8_init_1 0 rfl rfl)
theorem dX8_init_27 : decode cX8_init 27 = .ok (.putfield 28, 3) := dk_181 0 28 (dk_at dksX8_init_1 3 rfl rfl)
theorem dX8_init_30 : decode cX8_init 30 = .ok (.aload_n 1, 1) := dk_43 (dk_at dksX8_init_1 6 rfl rfl)
theorem dX8_init_31 : decode cX8_init 31 = .ok (.iconst 0, 1) := dk_3 (dk_at dksX8_init_1 7 rfl rfl)
theorem dX8_init_32 : decode cX8_init 32 = .ok (.putfield 15, 3) := dk_181 0 15 (dk_at dksX8_init_1 8 rfl rfl)
theorem dX8_init_35 : decode cX8_init 35 = .ok (.return_, 1) := dk_177 (dk_at dksX8_init_1 11 rfl rfl)
def dkwX8_whole_1 : List UInt8 := [160, 0, 7, 4, 167, 0, 4, 3, 182, 0, 51, 43, 176]
abbrev dktX8_whole_1 : List UInt8 := dkwX8_whole_1 ++ []
def dkwX8_whole_0 : List UInt8 := [42, 180, 0, 19, 154, 0, 5, 1, 176, 42, 3, 182, 0, 47, 76, 42, 42, 180, 0, 31, 42, 180, 0, 19]
abbrev dktX8_whole_0 : List UInt8 := dkwX8_whole_0 ++ dktX8_whole_1
theorem dksX8_whole_0 : cX8_whole.data.toList.drop 0 = dktX8_whole_0 := by decide +kernel
theorem dksX8_whole_1 : cX8_whole.data.toList.drop 24 = dktX8_whole_1 := dk_seg dksX8_whole_0 24 rfl rfl
theorem dX8_whole_0 : decode cX8_whole 0 = .ok (.aload_n 0, 1) := dk_42 (dk_at dksX8_whole_0 0 rfl rfl)
theorem dX8_whole_1 : decode cX8_whole 1 = .ok (.getfield 19, 3) := dk_180 0 19 (dk_at dksX8_whole_0 1 rfl rfl)
theorem dX8_whole_4 : decode cX8_whole 4 = .ok (.ifCond .ne 5, 3) := dk_154 0 5 (dk_at dksX8_whole_0 4 rfl rfl)
theorem dX8_whole_7 : decode cX8_whole 7 = .ok (.aconst_null, 1) := dk_1 (dk_at dksX8_whole_0 7 rfl rfl)
theorem dX8_whole_8 : decode cX8_whole 8 = .ok (.areturn, 1) := dk_176 (dk_at dksX8_whole_0 8 rfl rfl)
theorem dX8_whole_9 : decode cX8_whole 9 = .ok (.aload_n 0, 1) := dk_42 (dk_at dksX8_whole_0 9 rfl rfl)
theorem dX8_whole_10 : decode cX8_whole 10 = .ok (.iconst 0, 1) := dk_3 (dk_at dksX8_whole_0 10 rfl rfl)
theorem dX8_whole_11 : decode cX8_whole 11 = .ok (.invokevirtual 47, 3) := dk_182 0 47 (dk_at dksX8_whole_0 11 rfl rfl)
theorem dX8_whole_14 : decode cX8_whole 14 = .ok (.astore_n 1, 1) := dk_76 (dk_at dksX8_whole_0 14 rfl rfl)
theorem dX8_whole_15 : decode cX8_whole 15 = .ok (.aload_n 0, 1) := dk_42 (dk_at dksX8_whole_0 15 rfl rfl)
theorem dX8_whole_16 : decode cX8_whole 16 = .ok (.aload_n 0, 1) := dk_42 (dk_at dksX8_whole_0 16 rfl rfl)
theorem dX8_whole_17 : decode cX8_whole 17 = .ok (.getfield 31, 3) := dk_180 0 31 (dk_at dksX8_whole_0 17 rfl rfl)
theorem dX8_whole_20 : decode cX8_whole 20 = .ok (.aload_n 0, 1) := dk_42 (dk_at dksX8_whole_0 20 rfl rfl)
theorem dX8_whole_21 : decode cX8_whole 21 = .ok (.getfield 19, 3) := dk_180 0 19 (dk_at dksX8_whole_0 21 rfl rfl)
theorem dX8_whole_24 : decode cX8_whole 24 = .ok (.if_icmp .ne 7, 3) := dk_160 0 7 (dk_at dksX8_whole_1 0 rfl rfl)
theorem dX8_whole_27 : decode cX8_whole 27 = .ok (.iconst 1, 1) := dk_4 (dk_at dksX8_whole_1 3 rfl rfl)
theorem dX8_whole_28 : decode cX8_whole 28 = .ok (.goto 4, 3) := dk_167 0 4 (dk_at dksX8_whole_1 4 rfl rfl)
theorem dX8_whole_31 : decode cX8_whole 31 = .ok (.iconst 0, 1) := dk_3 (dk_at dksX8_whole_1 7 rfl rfl)
theorem dX8_whole_32 : decode cX8_whole 32 = .ok (.invokevirtual 51, 3) := dk_182 0 51 (dk_at dksX8_whole_1 8 rfl rfl)
theorem dX8_whole_35 : decode cX8_whole 35 = .ok (.aload_n 1, 1) := dk_43 (dk_at dksX8_whole_1 11 rfl rfl)
theorem dX8_whole_36 : decode cX8_whole 36 = .ok (.areturn, 1) := dk_176 (dk_at dksX8_whole_1 12 rfl rfl)
def dkwX8_either_1 : List UInt8 := [182, 0, 55, 183, 0, 64, 77, 167, 255, 231, 44, 176]
abbrev dktX8_either_1 : List UInt8 := dkwX8_either_1 ++ []
def dkwX8_either_0 : List UInt8 := [42, 27, 182, 0, 55, 77, 42, 16, 124, 182, 0, 58, 153, 0, 22, 187, 0, 62, 89, 16, 124, 44, 42, 27]
abbrev dktX8_either_0 : List UInt8 := dkwX8_either_0 ++ dktX8_either_1
theorem dksX8_either_0 : cX8_either.data.toList.drop 0 = dktX8_either_0 := by decide +kernel
theorem dksX8_either_1 : cX8_either.data.toList.drop 24 = dktX8_either_1 := dk_seg dksX8_either_0 24 rfl rfl
theorem dX8_either_0 : decode cX8_either 0 = .ok (.aload_n 0, 1) := dk_42 (dk_at dksX8_either_0 0 rfl rfl)
theorem dX8_either_1 : decode cX8_either 1 = .ok (.iload_n 1, 1) := dk_27 (dk_at dksX8_either_0 1 rfl rfl)
theorem dX8_either_2 : decode cX8_either 2 = .ok (.invokevirtual 55, 3) := dk_182 0 55 (dk_at dksX8_either_0 2 rfl rfl)
theorem dX8_either_5 : decode cX8_either 5 = .ok (.astore_n 2, 1) := dk_77 (dk_at dksX8_either_0 5 rfl rfl)
theorem dX8_either_6 : decode cX8_either 6 = .ok (.aload_n 0, 1) := dk_42 (dk_at dksX8_either_0 6 rfl rfl)
theorem dX8_either_7 : decode cX8_either 7 = .ok (.bipush 124, 2) := dk_16 124 (dk_at dksX8_either_0 7 rfl rfl)
theorem dX8_either_9 : decode cX8_either 9 = .ok (.invokevirtual 58, 3) := dk_182 0 58 (dk_at dksX8_either_0 9 rfl rfl)
theorem dX8_either_12 : decode cX8_either 12 = .ok (.ifCond .eq 22, 3) := dk_153 0 22 (dk_at dksX8_either_0 12 rfl rfl)
theorem dX8_either_15 : decode cX8_either 15 = .ok (.new 62, 3) := dk_187 0 62 (dk_at dksX8_either_0 15 rfl rfl)
theorem dX8_either_18 : decode cX8_either 18 = .ok (.dup, 1) := dk_89 (dk_at dksX8_either_0 18 rfl rfl)
theorem dX8_either_19 : decode cX8_either 19 = .ok (.bipush 124, 2) := dk_16 124 (dk_at dksX8_either_0 19 rfl rfl)
theorem dX8_either_21 : decode cX8_either 21 = .ok (.aload_n 2, 1) := dk_44 (dk_at dksX8_either_0 21 rfl rfl)
theorem dX8_either_22 : decode cX8_either 22 = .ok (.aload_n 0, 1) := dk_42 (dk_at dksX8_either_0 22 rfl rfl)
theorem dX8_either_23 : decode cX8_either 23 = .ok (.iload_n 1, 1) := dk_27 (dk_at dksX8_either_0 23 rfl rfl)
theorem dX8_either_24 : decode cX8_either 24 = .ok (.invokevirtual 55, 3) := dk_182 0 55 (dk_at dksX8_either_1 0 rfl rfl)
theorem dX8_either_27 : decode cX8_either 27 = .ok (.invokespecial 64, 3) := dk_183 0 64 (dk_at dksX8_either_1 3 rfl rfl)
theorem dX8_either_30 : decode cX8_either 30 = .ok (.astore_n 2, 1) := dk_77 (dk_at dksX8_either_1 6 rfl rfl)
theorem dX8_either_31 : decode cX8_either 31 = .ok (.goto (-25), 3) := dk_167 255 231 (dk_at dksX8_either_1 7 rfl rfl)
theorem dX8_either_34 : decode cX8_either 34 = .ok (.aload_n 2, 1) := dk_44 (dk_at dksX8_either_1 10 rfl rfl)
theorem dX8_either_35 : decode cX8_either 35 = .ok (.areturn, 1) := dk_176 (dk_at dksX8_either_1 11 rfl rfl)
def dkwX8_both_1 : List UInt8 := [182, 0, 67, 183, 0, 64, 77, 167, 255, 231, 44, 176]
abbrev dktX8_both_1 : List UInt8 := dkwX8_both_1 ++ []
def dkwX8_both_0 : List UInt8 := [42, 27, 182, 0, 67, 77, 42, 16, 38, 182, 0, 58, 153, 0, 22, 187, 0, 62, 89, 16, 38, 44, 42, 27]
abbrev dktX8_both_0 : List UInt8 := dkwX8_both_0 ++ dktX8_both_1
theorem dksX8_both_0 : cX8_both.data.toList.drop 0 = dktX8_both_0 := by decide +kernel
theorem dksX8_both_1 : cX8_both.data.toList.drop 24 = dktX8_both_1 := dk_seg dksX8_both_0 24 rfl rfl
theorem dX8_both_0 : decode cX8_both 0 = .ok (.aload_n 0, 1) := dk_42 (dk_at dksX8_both_0 0 rfl rfl)
theorem dX8_both_1 : decode cX8_both 1 = .ok (.iload_n 1, 1) := dk_27 (dk_at dksX8_both_0 1 rfl rfl)
theorem dX8_both_2 : decode cX8_both 2 = .ok (.invokevirtual 67, 3) := dk_182 0 67 (dk_at dksX8_both_0 2 rfl rfl)
theorem dX8_both_5 : decode cX8_both 5 = .ok (.astore_n 2, 1) := dk_77 (dk_at dksX8_both_0 5 rfl rfl)
theorem dX8_both_6 : decode cX8_both 6 = .ok (.aload_n 0, 1) := dk_42 (dk_at dksX8_both_0 6 rfl rfl)
theorem dX8_both_7 : decode cX8_both 7 = .ok (.bipush 38, 2) := dk_16 38 (dk_at dksX8_both_0 7 rfl rfl)
theorem dX8_both_9 : decode cX8_both 9 = .ok (.invokevirtual 58, 3) := dk_182 0 58 (dk_at dksX8_both_0 9 rfl rfl)
theorem dX8_both_12 : decode cX8_both 12 = .ok (.ifCond .eq 22, 3) := dk_153 0 22 (dk_at dksX8_both_0 12 rfl rfl)
theorem dX8_both_15 : decode cX8_both 15 = .ok (.new 62, 3) := dk_187 0 62 (dk_at dksX8_both_0 15 rfl rfl)
theorem dX8_both_18 : decode cX8_both 18 = .ok (.dup, 1) := dk_89 (dk_at dksX8_both_0 18 rfl rfl)
theorem dX8_both_19 : decode cX8_both 19 = .ok (.bipush 38, 2) := dk_16 38 (dk_at dksX8_both_0 19 rfl rfl)
theorem dX8_both_21 : decode cX8_both 21 = .ok (.aload_n 2, 1) := dk_44 (dk_at dksX8_both_0 21 rfl rfl)
theorem dX8_both_22 : decode cX8_both 22 = .ok (.aload_n 0, 1) := dk_42 (dk_at dksX8_both_0 22 rfl rfl)
theorem dX8_both_23 : decode cX8_both 23 = .ok (.iload_n 1, 1) := dk_27 (dk_at dksX8_both_0 23 rfl rfl)
theorem dX8_both_24 : decode cX8_both 24 = .ok (.invokevirtual 67, 3) := dk_182 0 67 (dk_at dksX8_both_1 0 rfl rfl)
theorem dX8_both_27 : decode cX8_both 27 = .ok (.invokespecial 64, 3) := dk_183 0 64 (dk_at dksX8_both_1 3 rfl rfl)
theorem dX8_both_30 : decode cX8_both 30 = .ok (.astore_n 2, 1) := dk_77 (dk_at dksX8_both_1 6 rfl rfl)
theorem dX8_both_31 : decode cX8_both 31 = .ok (.goto (-25), 3) := dk_167 255 231 (dk_at dksX8_both_1 7 rfl rfl)
theorem dX8_both_34 : decode cX8_both 34 = .ok (.aload_n 2, 1) := dk_44 (dk_at dksX8_both_1 10 rfl rfl)
theorem dX8_both_35 : decode cX8_both 35 = .ok (.areturn, 1) := dk_176 (dk_at dksX8_both_1 11 rfl rfl)
def dkwX8_held_2 : List UInt8 := [27, 182, 0, 70, 183, 0, 64, 176]
abbrev dktX8_held_2 : List UInt8 := dkwX8_held_2 ++ []
def dkwX8_held_1 : List UInt8 := [16, 61, 159, 0, 5, 44, 176, 42, 89, 180, 0, 31, 4, 96, 181, 0, 31, 187, 0, 62, 89, 29, 44, 42]
abbrev dktX8_held_1 : List UInt8 := dkwX8_held_1 ++ dktX8_held_2
def dkwX8_held_0 : List UInt8 := [42, 27, 182, 0, 70, 77, 42, 182, 0, 43, 62, 29, 16, 60, 159, 0, 17, 29, 16, 62, 159, 0, 11, 29]
abbrev dktX8_held_0 : List UInt8 := dkwX8_held_0 ++ dktX8_held_1
theorem dksX8_held_0 : cX8_held.data.toList.drop 0 = dktX8_held_0 := by decide +kernel
theorem dksX8_held_1 : cX8_held.data.toList.drop 24 = dktX8_held_1 := dk_seg dksX8_held_0 24 rfl rfl
theorem dksX8_held_2 : cX8_held.data.toList.drop 48 = dktX8_held_2 := dk_seg dksX8_held_1 24 rfl rfl
theorem dX8_held_0 : decode cX8_held 0 = .ok (.aload_n 0, 1) := dk_42 (dk_at dksX8_held_0 0 rfl rfl)
theorem dX8_held_1 : decode cX8_held 1 = .ok (.iload_n 1, 1) := dk_27 (dk_at dksX8_held_0 1 rfl rfl)
theorem dX8_held_2 : decode cX8_held 2 = .ok (.invokevirtual 70, 3) := dk_182 0 70 (dk_at dksX8_held_0 2 rfl rfl)
theorem dX8_held_5 : decode cX8_held 5 = .ok (.astore_n 2, 1) := dk_77 (dk_at dksX8_held_0 5 rfl rfl)
theorem dX8_held_6 : decode cX8_held 6 = .ok (.aload_n 0, 1) := dk_42 (dk_at dksX8_held_0 6 rfl rfl)
theorem dX8_held_7 : decode cX8_held 7 = .ok (.invokevirtual 43, 3) := dk_182 0 43 (dk_at dksX8_held_0 7 rfl rfl)
theorem dX8_held_10 : decode cX8_held 10 = .ok (.istore_n 3, 1) := dk_62 (dk_at dksX8_held_0 10 rfl rfl)
theorem dX8_held_11 : decode cX8_held 11 = .ok (.iload_n 3, 1) := dk_29 (dk_at dksX8_held_0 11 rfl rfl)
theorem dX8_held_12 : decode cX8_held 12 = .ok (.bipush 60, 2) := dk_16 60 (dk_at dksX8_held_0 12 rfl rfl)
theorem dX8_held_14 : decode cX8_held 14 = .ok (.if_icmp .eq 17, 3) := dk_159 0 17 (dk_at dksX8_held_0 14 rfl rfl)
theorem dX8_held_17 : decode cX8_held 17 = .ok (.iload_n 3, 1) := dk_29 (dk_at dksX8_held_0 17 rfl rfl)
theorem dX8_held_18 : decode cX8_held 18 = .ok (.bipush 62, 2) := dk_16 62 (dk_at dksX8_held_0 18 rfl rfl)
theorem dX8_held_20 : decode cX8_held 20 = .ok (.if_icmp .eq 11, 3) := dk_159 0 11 (dk_at dksX8_held_0 20 rfl rfl)
theorem dX8_held_23 : decode cX8_held 23 = .ok (.iload_n 3, 1) := dk_29 (dk_at dksX8_held_0 23 rfl rfl)
theorem dX8_held_24 : decode cX8_held 24 = .ok (.bipush 61, 2) := dk_16 61 (dk_at dksX8_held_1 0 rfl rfl)
theorem dX8_held_26 : decode cX8_held 26 = .ok (.if_icmp .eq 5, 3) := dk_159 0 5 (dk_at dksX8_held_1 2 rfl rfl)
theorem dX8_held_29 : decode cX8_held 29 = .ok (.aload_n 2, 1) := dk_44 (dk_at dksX8_held_1 5 rfl rfl)
theorem dX8_held_30 : decode cX8_held 30 = .ok (.areturn, 1) := dk_176 (dk_at dksX8_held_1 6 rfl rfl)
theorem dX8_held_31 : decode cX8_held 31 = .ok (.aload_n 0, 1) := dk_42 (dk_at dksX8_held_1 7 rfl rfl)
theorem dX8_held_32 : decode cX8_held 32 = .ok (.dup, 1) := dk_89 (dk_at dksX8_held_1 8 rfl rfl)
theorem dX8_held_33 : decode cX8_held 33 = .ok (.getfield 31, 3) := dk_180 0 31 (dk_at dksX8_held_1 9 rfl rfl)
theorem dX8_held_36 : decode cX8_held 36 = .ok (.iconst 1, 1) := dk_4 (dk_at dksX8_held_1 12 rfl rfl)
theorem dX8_held_37 : decode cX8_held 37 = .ok (.iadd, 1) := dk_96 (dk_at dksX8_held_1 13 rfl rfl)
theorem dX8_held_38 : decode cX8_held 38 = .ok (.putfield 31, 3) := dk_181 0 31 (dk_at dksX8_held_1 14 rfl rfl)
theorem dX8_held_41 : decode cX8_held 41 = .ok (.new 62, 3) := dk_187 0 62 (dk_at dksX8_held_1 17 rfl rfl)
theorem dX8_held_44 : decode cX8_held 44 = .ok (.dup, 1) := dk_89 (dk_at dksX8_held_1 20 rfl rfl)
theorem dX8_held_45 : decode cX8_held 45 = .ok (.iload_n 3, 1) := dk_29 (dk_at dksX8_held_1 21 rfl rfl)
theorem dX8_held_46 : decode cX8_held 46 = .ok (.aload_n 2, 1) := dk_44 (dk_at dksX8_held_1 22 rfl rfl)
theorem dX8_held_47 : decode cX8_held 47 = .ok (.aload_n 0, 1) := dk_42 (dk_at dksX8_held_1 23 rfl rfl)
theorem dX8_held_48 : decode cX8_held 48 = .ok (.iload_n 1, 1) := dk_27 (dk_at dksX8_held_2 0 rfl rfl)
theorem dX8_held_49 : decode cX8_held 49 = .ok (.invokevirtual 70, 3) := dk_182 0 70 (dk_at dksX8_held_2 1 rfl rfl)
theorem dX8_held_52 : decode cX8_held 52 = .ok (.invokespecial 64, 3) := dk_183 0 64 (dk_at dksX8_held_2 4 rfl rfl)
theorem dX8_held_55 : decode cX8_held 55 = .ok (.areturn, 1) := dk_176 (dk_at dksX8_held_2 7 rfl rfl)
def dkwX8_sum_2 : List UInt8 := [182, 0, 73, 183, 0, 64, 77, 167, 255, 208, 44, 176]
abbrev dktX8_sum_2 : List UInt8 := dkwX8_sum_2 ++ []
def dkwX8_sum_1 : List UInt8 := [42, 182, 0, 43, 62, 42, 89, 180, 0, 31, 4, 96, 181, 0, 31, 187, 0, 62, 89, 29, 44, 42, 27]
abbrev dktX8_sum_1 : List UInt8 := dkwX8_sum_1 ++ dktX8_sum_2
def dkwX8_sum_0 : List UInt8 := [42, 27, 182, 0, 73, 77, 42, 182, 0, 43, 16, 43, 159, 0, 12, 42, 182, 0, 43, 16, 45, 160, 0, 36]
abbrev dktX8_sum_0 : List UInt8 := dkwX8_sum_0 ++ dktX8_sum_1
theorem dksX8_sum_0 : cX8_sum.data.toList.drop 0 = dktX8_sum_0 := by decide +kernel
theorem dksX8_sum_1 : cX8_sum.data.toList.drop 24 = dktX8_sum_1 := dk_seg dksX8_sum_0 24 rfl rfl
theorem dksX8_sum_2 : cX8_sum.data.toList.drop 47 = dktX8_sum_2 := dk_seg dksX8_sum_1 23 rfl rfl
theorem dX8_sum_0 : decode cX8_sum 0 = .ok (.aload_n 0, 1) := dk_42 (dk_at dksX8_sum_0 0 rfl rfl)
theorem dX8_sum_1 : decode cX8_sum 1 = .ok (.iload_n 1, 1) := dk_27 (dk_at dksX8_sum_0 1 rfl rfl)
theorem dX8_sum_2 : decode cX8_sum 2 = .ok (.invokevirtual 73, 3) := dk_182 0 73 (dk_at dksX8_sum_0 2 rfl rfl)
theorem dX8_sum_5 : decode cX8_sum 5 = .ok (.astore_n 2, 1) := dk_77 (dk_at dksX8_sum_0 5 rfl rfl)
theorem dX8_sum_6 : decode cX8_sum 6 = .ok (.aload_n 0, 1) := dk_42 (dk_at dksX8_sum_0 6 rfl rfl)
theorem dX8_sum_7 : decode cX8_sum 7 = .ok (.invokevirtual 43, 3) := dk_182 0 43 (dk_at dksX8_sum_0 7 rfl rfl)
theorem dX8_sum_10 : decode cX8_sum 10 = .ok (.bipush 43, 2) := dk_16 43 (dk_at dksX8_sum_0 10 rfl rfl)
theorem dX8_sum_12 : decode cX8_sum 12 = .ok (.if_icmp .eq 12, 3) := dk_159 0 12 (dk_at dksX8_sum_0 12 rfl rfl)
theorem dX8_sum_15 : decode cX8_sum 15 = .ok (.aload_n 0, 1) := dk_42 (dk_at dksX8_sum_0 15 rfl rfl)
theorem dX8_sum_16 : decode cX8_sum 16 = .ok (.invokevirtual 43, 3) := dk_182 0 43 (dk_at dksX8_sum_0 16 rfl rfl)
theorem dX8_sum_19 : decode cX8_sum 19 = .ok (.bipush 45, 2) := dk_16 45 (dk_at dksX8_sum_0 19 rfl rfl)
theorem dX8_sum_21 : decode cX8_sum 21 = .ok (.if_icmp .ne 36, 3) := dk_160 0 36 (dk_at dksX8_sum_0 21 rfl rfl)
theorem dX8_sum_24 : decode cX8_sum 24 = .ok (.aload_n 0, 1) := dk_42 (dk_at dksX8_sum_1 0 rfl rfl)
theorem dX8_sum_25 : decode cX8_sum 25 = .ok (.invokevirtual 43, 3) := dk_182 0 43 (dk_at dksX8_sum_1 1 rfl rfl)
theorem dX8_sum_28 : decode cX8_sum 28 = .ok (.istore_n 3, 1) := dk_62 (dk_at dksX8_sum_1 4 rfl rfl)
theorem dX8_sum_29 : decode cX8_sum 29 = .ok (.aload_n 0, 1) := dk_42 (dk_at dksX8_sum_1 5 rfl rfl)
theorem dX8_sum_30 : decode cX8_sum 30 = .ok (.dup, 1) := dk_89 (dk_at dksX8_sum_1 6 rfl rfl)
theorem dX8_sum_31 : decode cX8_sum 31 = .ok (.getfield 31, 3) := dk_180 0 31 (dk_at dksX8_sum_1 7 rfl rfl)
theorem dX8_sum_34 : decode cX8_sum 34 = .ok (.iconst 1, 1) := dk_4 (dk_at dksX8_sum_1 10 rfl rfl)
theorem dX8_sum_35 : decode cX8_sum 35 = .ok (.iadd, 1) := dk_96 (dk_at dksX8_sum_1 11 rfl rfl)
theorem dX8_sum_36 : decode cX8_sum 36 = .ok (.putfield 31, 3) := dk_181 0 31 (dk_at dksX8_sum_1 12 rfl rfl)
theorem dX8_sum_39 : decode cX8_sum 39 = .ok (.new 62, 3) := dk_187 0 62 (dk_at dksX8_sum_1 15 rfl rfl)
theorem dX8_sum_42 : decode cX8_sum 42 = .ok (.dup, 1) := dk_89 (dk_at dksX8_sum_1 18 rfl rfl)
theorem dX8_sum_43 : decode cX8_sum 43 = .ok (.iload_n 3, 1) := dk_29 (dk_at dksX8_sum_1 19 rfl rfl)
theorem dX8_sum_44 : decode cX8_sum 44 = .ok (.aload_n 2, 1) := dk_44 (dk_at dksX8_sum_1 20 rfl rfl)
theorem dX8_sum_45 : decode cX8_sum 45 = .ok (.aload_n 0, 1) := dk_42 (dk_at dksX8_sum_1 21 rfl rfl)
theorem dX8_sum_46 : decode cX8_sum 46 = .ok (.iload_n 1, 1) := dk_27 (dk_at dksX8_sum_1 22 rfl rfl)
theorem dX8_sum_47 : decode cX8_sum 47 = .ok (.invokevirtual 73, 3) := dk_182 0 73 (dk_at dksX8_sum_2 0 rfl rfl)
theorem dX8_sum_50 : decode cX8_sum 50 = .ok (.invokespecial 64, 3) := dk_183 0 64 (dk_at dksX8_sum_2 3 rfl rfl)
theorem dX8_sum_53 : decode cX8_sum 53 = .ok (.astore_n 2, 1) := dk_77 (dk_at dksX8_sum_2 6 rfl rfl)
theorem dX8_sum_54 : decode cX8_sum 54 = .ok (.goto (-48), 3) := dk_167 255 208 (dk_at dksX8_sum_2 7 rfl rfl)
theorem dX8_sum_57 : decode cX8_sum 57 = .ok (.aload_n 2, 1) := dk_44 (dk_at dksX8_sum_2 10 rfl rfl)
theorem dX8_sum_58 : decode cX8_sum 58 = .ok (.areturn, 1) := dk_176 (dk_at dksX8_sum_2 11 rfl rfl)
def dkwX8_product_1 : List UInt8 := [182, 0, 76, 183, 0, 64, 77, 167, 255, 231, 44, 176]
abbrev dktX8_product_1 : List UInt8 := dkwX8_product_1 ++ []
def dkwX8_product_0 : List UInt8 := [42, 27, 182, 0, 76, 77, 42, 16, 42, 182, 0, 58, 153, 0, 22, 187, 0, 62, 89, 16, 42, 44, 42, 27]
abbrev dktX8_product_0 : List UInt8 := dkwX8_product_0 ++ dktX8_product_1
theorem dksX8_product_0 : cX8_product.data.toList.drop 0 = dktX8_product_0 := by decide +kernel
theorem dksX8_product_1 : cX8_product.data.toList.drop 24 = dktX8_product_1 := dk_seg dksX8_product_0 24 rfl rfl
theorem dX8_product_0 : decode cX8_product 0 = .ok (.aload_n 0, 1) := dk_42 (dk_at dksX8_product_0 0 rfl rfl)
theorem dX8_product_1 : decode cX8_product 1 = .ok (.iload_n 1, 1) := dk_27 (dk_at dksX8_product_0 1 rfl rfl)
theorem dX8_product_2 : decode cX8_product 2 = .ok (.invokevirtual 76, 3) := dk_182 0 76 (dk_at dksX8_product_0 2 rfl rfl)
theorem dX8_product_5 : decode cX8_product 5 = .ok (.astore_n 2, 1) := dk_77 (dk_at dksX8_product_0 5 rfl rfl)
theorem dX8_product_6 : decode cX8_product 6 = .ok (.aload_n 0, 1) := dk_42 (dk_at dksX8_product_0 6 rfl rfl)
theorem dX8_product_7 : decode cX8_product 7 = .ok (.bipush 42, 2) := dk_16 42 (dk_at dksX8_product_0 7 rfl rfl)
theorem dX8_product_9 : decode cX8_product 9 = .ok (.invokevirtual 58, 3) := dk_182 0 58 (dk_at dksX8_product_0 9 rfl rfl)
theorem dX8_product_12 : decode cX8_product 12 = .ok (.ifCond .eq 22, 3) := dk_153 0 22 (dk_at dksX8_product_0 12 rfl rfl)
theorem dX8_product_15 : decode cX8_product 15 = .ok (.new 62, 3) := dk_187 0 62 (dk_at dksX8_product_0 15 rfl rfl)
theorem dX8_product_18 : decode cX8_product 18 = .ok (.dup, 1) := dk_89 (dk_at dksX8_product_0 18 rfl rfl)
theorem dX8_product_19 : decode cX8_product 19 = .ok (.bipush 42, 2) := dk_16 42 (dk_at dksX8_product_0 19 rfl rfl)
theorem dX8_product_21 : decode cX8_product 21 = .ok (.aload_n 2, 1) := dk_44 (dk_at dksX8_product_0 21 rfl rfl)
theorem dX8_product_22 : decode cX8_product 22 = .ok (.aload_n 0, 1) := dk_42 (dk_at dksX8_product_0 22 rfl rfl)
theorem dX8_product_23 : decode cX8_product 23 = .ok (.iload_n 1, 1) := dk_27 (dk_at dksX8_product_0 23 rfl rfl)
theorem dX8_product_24 : decode cX8_product 24 = .ok (.invokevirtual 76, 3) := dk_182 0 76 (dk_at dksX8_product_1 0 rfl rfl)
theorem dX8_product_27 : decode cX8_product 27 = .ok (.invokespecial 64, 3) := dk_183 0 64 (dk_at dksX8_product_1 3 rfl rfl)
theorem dX8_product_30 : decode cX8_product 30 = .ok (.astore_n 2, 1) := dk_77 (dk_at dksX8_product_1 6 rfl rfl)
theorem dX8_product_31 : decode cX8_product 31 = .ok (.goto (-25), 3) := dk_167 255 231 (dk_at dksX8_product_1 7 rfl rfl)
theorem dX8_product_34 : decode cX8_product 34 = .ok (.aload_n 2, 1) := dk_44 (dk_at dksX8_product_1 10 rfl rfl)
theorem dX8_product_35 : decode cX8_product 35 = .ok (.areturn, 1) := dk_176 (dk_at dksX8_product_1 11 rfl rfl)
def dkwX8_thing_10 : List UInt8 := [183, 0, 99, 176]
abbrev dktX8_thing_10 : List UInt8 := dkwX8_thing_10 ++ []
def dkwX8_thing_9 : List UInt8 := [181, 0, 31, 187, 0, 97, 89, 42, 180, 0, 3, 180, 0, 34, 42, 180, 0, 31, 4, 100, 51, 146]
abbrev dktX8_thing_9 : List UInt8 := dkwX8_thing_9 ++ dktX8_thing_10
def dkwX8_thing_8 : List UInt8 := [183, 0, 93, 176, 42, 42, 42, 182, 0, 43, 182, 0, 94, 182, 0, 51, 42, 89, 180, 0, 31, 4, 96]
abbrev dktX8_thing_8 : List UInt8 := dkwX8_thing_8 ++ dktX8_thing_9
def dkwX8_thing_7 : List UInt8 := [100, 61, 42, 89, 180, 0, 31, 4, 96, 181, 0, 31, 132, 3, 1, 167, 255, 211, 187, 0, 91, 89, 28]
abbrev dktX8_thing_7 : List UInt8 := dkwX8_thing_7 ++ dktX8_thing_8
def dkwX8_thing_6 : List UInt8 := [182, 0, 43, 16, 48, 16, 57, 184, 0, 87, 153, 0, 32, 16, 10, 28, 104, 42, 182, 0, 43, 96, 16, 48]
abbrev dktX8_thing_6 : List UInt8 := dkwX8_thing_6 ++ dktX8_thing_7
def dkwX8_thing_5 : List UInt8 := [182, 0, 43, 16, 48, 16, 57, 184, 0, 87, 153, 0, 64, 3, 61, 3, 62, 29, 6, 162, 0, 46, 42]
abbrev dktX8_thing_5 : List UInt8 := dkwX8_thing_5 ++ dktX8_thing_6
def dkwX8_thing_4 : List UInt8 := [160, 0, 7, 4, 167, 0, 4, 3, 182, 0, 51, 42, 89, 180, 0, 31, 4, 96, 181, 0, 31, 44, 176, 42]
abbrev dktX8_thing_4 : List UInt8 := dkwX8_thing_4 ++ dktX8_thing_5
def dkwX8_thing_3 : List UInt8 := [180, 0, 31, 4, 96, 181, 0, 31, 42, 27, 4, 96, 182, 0, 47, 77, 42, 42, 182, 0, 43, 16, 41]
abbrev dktX8_thing_3 : List UInt8 := dkwX8_thing_3 ++ dktX8_thing_4
def dkwX8_thing_2 : List UInt8 := [182, 0, 43, 16, 40, 160, 0, 65, 42, 27, 8, 162, 0, 7, 4, 167, 0, 4, 3, 182, 0, 51, 42, 89]
abbrev dktX8_thing_2 : List UInt8 := dkwX8_thing_2 ++ dktX8_thing_3
def dkwX8_thing_1 : List UInt8 := [16, 45, 182, 0, 58, 153, 0, 16, 187, 0, 84, 89, 42, 27, 182, 0, 76, 183, 0, 86, 176, 42]
abbrev dktX8_thing_1 : List UInt8 := dkwX8_thing_1 ++ dktX8_thing_2
def dkwX8_thing_0 : List UInt8 := [42, 16, 33, 182, 0, 58, 153, 0, 16, 187, 0, 79, 89, 42, 27, 182, 0, 76, 183, 0, 81, 176, 42]
abbrev dktX8_thing_0 : List UInt8 := dkwX8_thing_0 ++ dktX8_thing_1
theorem dksX8_thing_0 : cX8_thing.data.toList.drop 0 = dktX8_thing_0 := by decide +kernel
theorem dksX8_thing_1 : cX8_thing.data.toList.drop 23 = dktX8_thing_1 := dk_seg dksX8_thing_0 23 rfl rfl
theorem dksX8_thing_2 : cX8_thing.data.toList.drop 45 = dktX8_thing_2 := dk_seg dksX8_thing_1 22 rfl rfl
theorem dksX8_thing_3 : cX8_thing.data.toList.drop 69 = dktX8_thing_3 := dk_seg dksX8_thing_2 24 rfl rfl
theorem dksX8_thing_4 : cX8_thing.data.toList.drop 92 = dktX8_thing_4 := dk_seg dksX8_thing_3 23 rfl rfl
theorem dksX8_thing_5 : cX8_thing.data.toList.drop 116 = dktX8_thing_5 := dk_seg dksX8_thing_4 24 rfl rfl
theorem dksX8_thing_6 : cX8_thing.data.toList.drop 139 = dktX8_thing_6 := dk_seg dksX8_thing_5 23 rfl rfl
theorem dksX8_thing_7 : cX8_thing.data.toList.drop 163 = dktX8_thing_7 := dk_seg dksX8_thing_6 24 rfl rfl
theorem dksX8_thing_8 : cX8_thing.data.toList.drop 186 = dktX8_thing_8 := dk_seg dksX8_thing_7 23 rfl rfl
theorem dksX8_thing_9 : cX8_thing.data.toList.drop 209 = dktX8_thing_9 := dk_seg dksX8_thing_8 23 rfl rfl
theorem dksX8_thing_10 : cX8_thing.data.toList.drop 231 = dktX8_thing_10 := dk_seg dksX8_thing_9 22 rfl rfl
theorem dX8_thing_0 : decode cX8_thing 0 = .ok (.aload_n 0, 1) := dk_42 (dk_at dksX8_thing_0 0 rfl rfl)
theorem dX8_thing_1 : decode cX8_thing 1 = .ok (.bipush 33, 2) := dk_16 33 (dk_at dksX8_thing_0 1 rfl rfl)
theorem dX8_thing_3 : decode cX8_thing 3 = .ok (.invokevirtual 58, 3) := dk_182 0 58 (dk_at dksX8_thing_0 3 rfl rfl)
theorem dX8_thing_6 : decode cX8_thing 6 = .ok (.ifCond .eq 16, 3) := dk_153 0 16 (dk_at dksX8_thing_0 6 rfl rfl)
theorem dX8_thing_9 : decode cX8_thing 9 = .ok (.new 79, 3) := dk_187 0 79 (dk_at dksX8_thing_0 9 rfl rfl)
theorem dX8_thing_12 : decode cX8_thing 12 = .ok (.dup, 1) := dk_89 (dk_at dksX8_thing_0 12 rfl rfl)
theorem dX8_thing_13 : decode cX8_thing 13 = .ok (.aload_n 0, 1) := dk_42 (dk_at dksX8_thing_0 13 rfl rfl)
theorem dX8_thing_14 : decode cX8_thing 14 = .ok (.iload_n 1, 1) := dk_27 (dk_at dksX8_thing_0 14 rfl rfl)
theorem dX8_thing_15 : decode cX8_thing 15 = .ok (.invokevirtual 76, 3) := dk_182 0 76 (dk_at dksX8_thing_0 15 rfl rfl)
theorem dX8_thing_18 : decode cX8_thing 18 = .ok (.invokespecial 81, 3) := dk_183 0 81 (dk_at dksX8_thing_0 18 rfl rfl)
theorem dX8_thing_21 : decode cX8_thing 21 = .ok (.areturn, 1) := dk_176 (dk_at dksX8_thing_0 21 rfl rfl)
theorem dX8_thing_22 : decode cX8_thing 22 = .ok (.aload_n 0, 1) := dk_42 (dk_at dksX8_thing_0 22 rfl rfl)
theorem dX8_thing_23 : decode cX8_thing 23 = .ok (.bipush 45, 2) := dk_16 45 (dk_at dksX8_thing_1 0 rfl rfl)
theorem dX8_thing_25 : decode cX8_thing 25 = .ok (.invokevirtual 58, 3) := dk_182 0 58 (dk_at dksX8_thing_1 2 rfl rfl)
theorem dX8_thing_28 : decode cX8_thing 28 = .ok (.ifCond .eq 16, 3) := dk_153 0 16 (dk_at dksX8_thing_1 5 rfl rfl)
theorem dX8_thing_31 : decode cX8_thing 31 = .ok (.new 84, 3) := dk_187 0 84 (dk_at dksX8_thing_1 8 rfl rfl)
theorem dX8_thing_34 : decode cX8_thing 34 = .ok (.dup, 1) := dk_89 (dk_at dksX8_thing_1 11 rfl rfl)
theorem dX8_thing_35 : decode cX8_thing 35 = .ok (.aload_n 0, 1) := dk_42 (dk_at dksX8_thing_1 12 rfl rfl)
theorem dX8_thing_36 : decode cX8_thing 36 = .ok (.iload_n 1, 1) := dk_27 (dk_at dksX8_thing_1 13 rfl rfl)
theorem dX8_thing_37 : decode cX8_thing 37 = .ok (.invokevirtual 76, 3) := dk_182 0 76 (dk_at dksX8_thing_1 14 rfl rfl)
theorem dX8_thing_40 : decode cX8_thing 40 = .ok (.invokespecial 86, 3) := dk_183 0 86 (dk_at dksX8_thing_1 17 rfl rfl)
theorem dX8_thing_43 : decode cX8_thing 43 = .ok (.areturn, 1) := dk_176 (dk_at dksX8_thing_1 20 rfl rfl)
theorem dX8_thing_44 : decode cX8_thing 44 = .ok (.aload_n 0, 1) := dk_42 (dk_at dksX8_thing_1 21 rfl rfl)
theorem dX8_thing_45 : decode cX8_thing 45 = .ok (.invokevirtual 43, 3) := dk_182 0 43 (dk_at dksX8_thing_2 0 rfl rfl)
theorem dX8_thing_48 : decode cX8_thing 48 = .ok (.bipush 40, 2) := dk_16 40 (dk_at dksX8_thing_2 3 rfl rfl)
theorem dX8_thing_50 : decode cX8_thing 50 = .ok (.if_icmp .ne 65, 3) := dk_160 0 65 (dk_at dksX8_thing_2 5 rfl rfl)
theorem dX8_thing_53 : decode cX8_thing 53 = .ok (.aload_n 0, 1) := dk_42 (dk_at dksX8_thing_2 8 rfl rfl)
theorem dX8_thing_54 : decode cX8_thing 54 = .ok (.iload_n 1, 1) := dk_27 (dk_at dksX8_thing_2 9 rfl rfl)
theorem dX8_thing_55 : decode cX8_thing 55 = .ok (.iconst 5, 1) := dk_8 (dk_at dksX8_thing_2 10 rfl rfl)
theorem dX8_thing_56 : decode cX8_thing 56 = .ok (.if_icmp .ge 7, 3) := dk_162 0 7 (dk_at dksX8_thing_2 11 rfl rfl)
theorem dX8_thing_59 : decode cX8_thing 59 = .ok (.iconst 1, 1) := dk_4 (dk_at dksX8_thing_2 14 rfl rfl)
theorem dX8_thing_60 : decode cX8_thing 60 = .ok (.goto 4, 3) := dk_167 0 4 (dk_at dksX8_thing_2 15 rfl rfl)
theorem dX8_thing_63 : decode cX8_thing 63 = .ok (.iconst 0, 1) := dk_3 (dk_at dksX8_thing_2 18 rfl rfl)
theorem dX8_thing_64 : decode cX8_thing 64 = .ok (.invokevirtual 51, 3) := dk_182 0 51 (dk_at dksX8_thing_2 19 rfl rfl)
theorem dX8_thing_67 : decode cX8_thing 67 = .ok (.aload_n 0, 1) := dk_42 (dk_at dksX8_thing_2 22 rfl rfl)
theorem dX8_thing_68 : decode cX8_thing 68 = .ok (.dup, 1) := dk_89 (dk_at dksX8_thing_2 23 rfl rfl)
theorem dX8_thing_69 : decode cX8_thing 69 = .ok (.getfield 31, 3) := dk_180 0 31 (dk_at dksX8_thing_3 0 rfl rfl)
theorem dX8_thing_72 : decode cX8_thing 72 = .ok (.iconst 1, 1) := dk_4 (dk_at dksX8_thing_3 3 rfl rfl)
theorem dX8_thing_73 : decode cX8_thing 73 = .ok (.iadd, 1) := dk_96 (dk_at dksX8_thing_3 4 rfl rfl)
theorem dX8_thing_74 : decode cX8_thing 74 = .ok (.putfield 31, 3) := dk_181 0 31 (dk_at dksX8_thing_3 5 rfl rfl)
theorem dX8_thing_77 : decode cX8_thing 77 = .ok (.aload_n 0, 1) := dk_42 (dk_at dksX8_thing_3 8 rfl rfl)
theorem dX8_thing_78 : decode cX8_thing 78 = .ok (.iload_n 1, 1) := dk_27 (dk_at dksX8_thing_3 9 rfl rfl)
theorem dX8_thing_79 : decode cX8_thing 79 = .ok (.iconst 1, 1) := dk_4 (dk_at dksX8_thing_3 10 rfl rfl)
theorem dX8_thing_80 : decode cX8_thing 80 = .ok (.iadd, 1) := dk_96 (dk_at dksX8_thing_3 11 rfl rfl)
theorem dX8_thing_81 : decode cX8_thing 81 = .ok (.invokevirtual 47, 3) := dk_182 0 47 (dk_at dksX8_thing_3 12 rfl rfl)
theorem dX8_thing_84 : decode cX8_thing 84 = .ok (.astore_n 2, 1) := dk_77 (dk_at dksX8_thing_3 15 rfl rfl)
theorem dX8_thing_85 : decode cX8_thing 85 = .ok (.aload_n 0, 1) := dk_42 (dk_at dksX8_thing_3 16 rfl rfl)
theorem dX8_thing_86 : decode cX8_thing 86 = .ok (.aload_n 0, 1) := dk_42 (dk_at dksX8_thing_3 17 rfl rfl)
theorem dX8_thing_87 : decode cX8_thing 87 = .ok (.invokevirtual 43, 3) := dk_182 0 43 (dk_at dksX8_thing_3 18 rfl rfl)
theorem dX8_thing_90 : decode cX8_thing 90 = .ok (.bipush 41, 2) := dk_16 41 (dk_at dksX8_thing_3 21 rfl rfl)
theorem dX8_thing_92 : decode cX8_thing 92 = .ok (.if_icmp .ne 7, 3) := dk_160 0 7 (dk_at dksX8_thing_4 0 rfl rfl)
theorem dX8_thing_95 : decode cX8_thing 95 = .ok (.iconst 1, 1) := dk_4 (dk_at dksX8_thing_4 3 rfl rfl)
theorem dX8_thing_96 : decode cX8_thing 96 = .ok (.goto 4, 3) := dk_167 0 4 (dk_at dksX8_thing_4 4 rfl rfl)
theorem dX8_thing_99 : decode cX8_thing 99 = .ok (.iconst 0, 1) := dk_3 (dk_at dksX8_thing_4 7 rfl rfl)
theorem dX8_thing_100 : decode cX8_thing 100 = .ok (.invokevirtual 51, 3) := dk_182 0 51 (dk_at dksX8_thing_4 8 rfl rfl)
theorem dX8_thing_103 : decode cX8_thing 103 = .ok (.aload_n 0, 1) := dk_42 (dk_at dksX8_thing_4 11 rfl rfl)
theorem dX8_thing_104 : decode cX8_thing 104 = .ok (.dup, 1) := dk_89 (dk_at dksX8_thing_4 12 rfl rfl)
theorem dX8_thing_105 : decode cX8_thing 105 = .ok (.getfield 31, 3) := dk_180 0 31 (dk_at dksX8_thing_4 13 rfl rfl)
theorem dX8_thing_108 : decode cX8_thing 108 = .ok (.iconst 1, 1) := dk_4 (dk_at dksX8_thing_4 16 rfl rfl)
theorem dX8_thing_109 : decode cX8_thing 109 = .ok (.iadd, 1) := dk_96 (dk_at dksX8_thing_4 17 rfl rfl)
theorem dX8_thing_110 : decode cX8_thing 110 = .ok (.putfield 31, 3) := dk_181 0 31 (dk_at dksX8_thing_4 18 rfl rfl)
theorem dX8_thing_113 : decode cX8_thing 113 = .ok (.aload_n 2, 1) := dk_44 (dk_at dksX8_thing_4 21 rfl rfl)
theorem dX8_thing_114 : decode cX8_thing 114 = .ok (.areturn, 1) := dk_176 (dk_at dksX8_thing_4 22 rfl rfl)
theorem dX8_thing_115 : decode cX8_thing 115 = .ok (.aload_n 0, 1) := dk_42 (dk_at dksX8_thing_4 23 rfl rfl)
theorem dX8_thing_116 : decode cX8_thing 116 = .ok (.invokevirtual 43, 3) := dk_182 0 43 (dk_at dksX8_thing_5 0 rfl rfl)
theorem dX8_thing_119 : decode cX8_thing 119 = .ok (.bipush 48, 2) := dk_16 48 (dk_at dksX8_thing_5 3 rfl rfl)
theorem dX8_thing_121 : decode cX8_thing 121 = .ok (.bipush 57, 2) := dk_16 57 (dk_at dksX8_thing_5 5 rfl rfl)
theorem dX8_thing_123 : decode cX8_thing 123 = .ok (.invokestatic 87, 3) := dk_184 0 87 (dk_at dksX8_thing_5 7 rfl rfl)
theorem dX8_thing_126 : decode cX8_thing 126 = .ok (.ifCond .eq 64, 3) := dk_153 0 64 (dk_at dksX8_thing_5 10 rfl rfl)
theorem dX8_thing_129 : decode cX8_thing 129 = .ok (.iconst 0, 1) := dk_3 (dk_at dksX8_thing_5 13 rfl rfl)
theorem dX8_thing_130 : decode cX8_thing 130 = .ok (.istore_n 2, 1) := dk_61 (dk_at dksX8_thing_5 14 rfl rfl)
theorem dX8_thing_131 : decode cX8_thing 131 = .ok (.iconst 0, 1) := dk_3 (dk_at dksX8_thing_5 15 rfl rfl)
theorem dX8_thing_132 : decode cX8_thing 132 = .ok (.istore_n 3, 1) := dk_62 (dk_at dksX8_thing_5 16 rfl rfl)
theorem dX8_thing_133 : decode cX8_thing 133 = .ok (.iload_n 3, 1) := dk_29 (dk_at dksX8_thing_5 17 rfl rfl)
theorem dX8_thing_134 : decode cX8_thing 134 = .ok (.iconst 3, 1) := dk_6 (dk_at dksX8_thing_5 18 rfl rfl)
theorem dX8_thing_135 : decode cX8_thing 135 = .ok (.if_icmp .ge 46, 3) := dk_162 0 46 (dk_at dksX8_thing_5 19 rfl rfl)
theorem dX8_thing_138 : decode cX8_thing 138 = .ok (.aload_n 0, 1) := dk_42 (dk_at dksX8_thing_5 22 rfl rfl)
theorem dX8_thing_139 : decode cX8_thing 139 = .ok (.invokevirtual 43, 3) := dk_182 0 43 (dk_at dksX8_thing_6 0 rfl rfl)
theorem dX8_thing_142 : decode cX8_thing 142 = .ok (.bipush 48, 2) := dk_16 48 (dk_at dksX8_thing_6 3 rfl rfl)
theorem dX8_thing_144 : decode cX8_thing 144 = .ok (.bipush 57, 2) := dk_16 57 (dk_at dksX8_thing_6 5 rfl rfl)
theorem dX8_thing_146 : decode cX8_thing 146 = .ok (.invokestatic 87, 3) := dk_184 0 87 (dk_at dksX8_thing_6 7 rfl rfl)
theorem dX8_thing_149 : decode cX8_thing 149 = .ok (.ifCond .eq 32, 3) := dk_153 0 32 (dk_at dksX8_thing_6 10 rfl rfl)
theorem dX8_thing_152 : decode cX8_thing 152 = .ok (.bipush 10, 2) := dk_16 10 (dk_at dksX8_thing_6 13 rfl rfl)
theorem dX8_thing_154 : decode cX8_thing 154 = .ok (.iload_n 2, 1) := dk_28 (dk_at dksX8_thing_6 15 rfl rfl)
theorem dX8_thing_155 : decode cX8_thing 155 = .ok (.imul, 1) := dk_104 (dk_at dksX8_thing_6 16 rfl rfl)
theorem dX8_thing_156 : decode cX8_thing 156 = .ok (.aload_n 0, 1) := dk_42 (dk_at dksX8_thing_6 17 rfl rfl)
theorem dX8_thing_157 : decode cX8_thing 157 = .ok (.invokevirtual 43, 3) := dk_182 0 43 (dk_at dksX8_thing_6 18 rfl rfl)
theorem dX8_thing_160 : decode cX8_thing 160 = .ok (.iadd, 1) := dk_96 (dk_at dksX8_thing_6 21 rfl rfl)
theorem dX8_thing_161 : decode cX8_thing 161 = .ok (.bipush 48, 2) := dk_16 48 (dk_at dksX8_thing_6 22 rfl rfl)
theorem dX8_thing_163 : decode cX8_thing 163 = .ok (.isub, 1) := dk_100 (dk_at dksX8_thing_7 0 rfl rfl)
theorem dX8_thing_164 : decode cX8_thing 164 = .ok (.istore_n 2, 1) := dk_61 (dk_at dksX8_thing_7 1 rfl rfl)
theorem dX8_thing_165 : decode cX8_thing 165 = .ok (.aload_n 0, 1) := dk_42 (dk_at dksX8_thing_7 2 rfl rfl)
theorem dX8_thing_166 : decode cX8_thing 166 = .ok (.dup, 1) := dk_89 (dk_at dksX8_thing_7 3 rfl rfl)
theorem dX8_thing_167 : decode cX8_thing 167 = .ok (.getfield 31, 3) := dk_180 0 31 (dk_at dksX8_thing_7 4 rfl rfl)
theorem dX8_thing_170 : decode cX8_thing 170 = .ok (.iconst 1, 1) := dk_4 (dk_at dksX8_thing_7 7 rfl rfl)
theorem dX8_thing_171 : decode cX8_thing 171 = .ok (.iadd, 1) := dk_96 (dk_at dksX8_thing_7 8 rfl rfl)
theorem dX8_thing_172 : decode cX8_thing 172 = .ok (.putfield 31, 3) := dk_181 0 31 (dk_at dksX8_thing_7 9 rfl rfl)
theorem dX8_thing_175 : decode cX8_thing 175 = .ok (.iinc 3 1, 3) := dk_132 3 1 (dk_at dksX8_thing_7 12 rfl rfl)
theorem dX8_thing_178 : decode cX8_thing 178 = .ok (.goto (-45), 3) := dk_167 255 211 (dk_at dksX8_thing_7 15 rfl rfl)
theorem dX8_thing_181 : decode cX8_thing 181 = .ok (.new 91, 3) := dk_187 0 91 (dk_at dksX8_thing_7 18 rfl rfl)
theorem dX8_thing_184 : decode cX8_thing 184 = .ok (.dup, 1) := dk_89 (dk_at dksX8_thing_7 21 rfl rfl)
theorem dX8_thing_185 : decode cX8_thing 185 = .ok (.iload_n 2, 1) := dk_28 (dk_at dksX8_thing_7 22 rfl rfl)
theorem dX8_thing_186 : decode cX8_thing 186 = .ok (.invokespecial 93, 3) := dk_183 0 93 (dk_at dksX8_thing_8 0 rfl rfl)
theorem dX8_thing_189 : decode cX8_thing 189 = .ok (.areturn, 1) := dk_176 (dk_at dksX8_thing_8 3 rfl rfl)
theorem dX8_thing_190 : decode cX8_thing 190 = .ok (.aload_n 0, 1) := dk_42 (dk_at dksX8_thing_8 4 rfl rfl)
theorem dX8_thing_191 : decode cX8_thing 191 = .ok (.aload_n 0, 1) := dk_42 (dk_at dksX8_thing_8 5 rfl rfl)
theorem dX8_thing_192 : decode cX8_thing 192 = .ok (.aload_n 0, 1) := dk_42 (dk_at dksX8_thing_8 6 rfl rfl)
theorem dX8_thing_193 : decode cX8_thing 193 = .ok (.invokevirtual 43, 3) := dk_182 0 43 (dk_at dksX8_thing_8 7 rfl rfl)
theorem dX8_thing_196 : decode cX8_thing 196 = .ok (.invokevirtual 94, 3) := dk_182 0 94 (dk_at dksX8_thing_8 10 rfl rfl)
theorem dX8_thing_199 : decode cX8_thing 199 = .ok (.invokevirtual 51, 3) := dk_182 0 51 (dk_at dksX8_thing_8 13 rfl rfl)
theorem dX8_thing_202 : decode cX8_thing 202 = .ok (.aload_n 0, 1) := dk_42 (dk_at dksX8_thing_8 16 rfl rfl)
theorem dX8_thing_203 : decode cX8_thing 203 = .ok (.dup, 1) := dk_89 (dk_at dksX8_thing_8 17 rfl rfl)
theorem dX8_thing_204 : decode cX8_thing 204 = .ok (.getfield 31, 3) := dk_180 0 31 (dk_at dksX8_thing_8 18 rfl rfl)
theorem dX8_thing_207 : decode cX8_thing 207 = .ok (.iconst 1, 1) := dk_4 (dk_at dksX8_thing_8 21 rfl rfl)
theorem dX8_thing_208 : decode cX8_thing 208 = .ok (.iadd, 1) := dk_96 (dk_at dksX8_thing_8 22 rfl rfl)
theorem dX8_thing_209 : decode cX8_thing 209 = .ok (.putfield 31, 3) := dk_181 0 31 (dk_at dksX8_thing_9 0 rfl rfl)
theorem dX8_thing_212 : decode cX8_thing 212 = .ok (.new 97, 3) := dk_187 0 97 (dk_at dksX8_thing_9 3 rfl rfl)
theorem dX8_thing_215 : decode cX8_thing 215 = .ok (.dup, 1) := dk_89 (dk_at dksX8_thing_9 6 rfl rfl)
theorem dX8_thing_216 : decode cX8_thing 216 = .ok (.aload_n 0, 1) := dk_42 (dk_at dksX8_thing_9 7 rfl rfl)
theorem dX8_thing_217 : decode cX8_thing 217 = .ok (.getfield 3, 3) := dk_180 0 3 (dk_at dksX8_thing_9 8 rfl rfl)
theorem dX8_thing_220 : decode cX8_thing 220 = .ok (.getfield 34, 3) := dk_180 0 34 (dk_at dksX8_thing_9 11 rfl rfl)
theorem dX8_thing_223 : decode cX8_thing 223 = .ok (.aload_n 0, 1) := dk_42 (dk_at dksX8_thing_9 14 rfl rfl)
theorem dX8_thing_224 : decode cX8_thing 224 = .ok (.getfield 31, 3) := dk_180 0 31 (dk_at dksX8_thing_9 15 rfl rfl)
theorem dX8_thing_227 : decode cX8_thing 227 = .ok (.iconst 1, 1) := dk_4 (dk_at dksX8_thing_9 18 rfl rfl)
theorem dX8_thing_228 : decode cX8_thing 228 = .ok (.isub, 1) := dk_100 (dk_at dksX8_thing_9 19 rfl rfl)
theorem dX8_thing_229 : decode cX8_thing 229 = .ok (.baload, 1) := dk_51 (dk_at dksX8_thing_9 20 rfl rfl)
theorem dX8_thing_230 : decode cX8_thing 230 = .ok (.i2c, 1) := dk_146 (dk_at dksX8_thing_9 21 rfl rfl)
theorem dX8_thing_231 : decode cX8_thing 231 = .ok (.invokespecial 99, 3) := dk_183 0 99 (dk_at dksX8_thing_10 0 rfl rfl)
theorem dX8_thing_234 : decode cX8_thing 234 = .ok (.areturn, 1) := dk_176 (dk_at dksX8_thing_10 3 rfl rfl)
def dkwX8_passes_0 : List UInt8 := [42, 182, 0, 43, 27, 159, 0, 5, 3, 172, 42, 89, 180, 0, 31, 4, 96, 181, 0, 31, 4, 172]
abbrev dktX8_passes_0 : List UInt8 := dkwX8_passes_0 ++ []
theorem dksX8_passes_0 : cX8_passes.data.toList.drop 0 = dktX8_passes_0 := by decide +kernel
theorem dX8_passes_0 : decode cX8_passes 0 = .ok (.aload_n 0, 1) := dk_42 (dk_at dksX8_passes_0 0 rfl rfl)
theorem dX8_passes_1 : decode cX8_passes 1 = .ok (.invokevirtual 43, 3) := dk_182 0 43 (dk_at dksX8_passes_0 1 rfl rfl)
theorem dX8_passes_4 : decode cX8_passes 4 = .ok (.iload_n 1, 1) := dk_27 (dk_at dksX8_passes_0 4 rfl rfl)
theorem dX8_passes_5 : decode cX8_passes 5 = .ok (.if_icmp .eq 5, 3) := dk_159 0 5 (dk_at dksX8_passes_0 5 rfl rfl)
theorem dX8_passes_8 : decode cX8_passes 8 = .ok (.iconst 0, 1) := dk_3 (dk_at dksX8_passes_0 8 rfl rfl)
theorem dX8_passes_9 : decode cX8_passes 9 = .ok (.ireturn, 1) := dk_172 (dk_at dksX8_passes_0 9 rfl rfl)
theorem dX8_passes_10 : decode cX8_passes 10 = .ok (.aload_n 0, 1) := dk_42 (dk_at dksX8_passes_0 10 rfl rfl)
theorem dX8_passes_11 : decode cX8_passes 11 = .ok (.dup, 1) := dk_89 (dk_at dksX8_passes_0 11 rfl rfl)
theorem dX8_passes_12 : decode cX8_passes 12 = .ok (.getfield 31, 3) := dk_180 0 31 (dk_at dksX8_passes_0 12 rfl rfl)
theorem dX8_passes_15 : decode cX8_passes 15 = .ok (.iconst 1, 1) := dk_4 (dk_at dksX8_passes_0 15 rfl rfl)
theorem dX8_passes_16 : decode cX8_passes 16 = .ok (.iadd, 1) := dk_96 (dk_at dksX8_passes_0 16 rfl rfl)
theorem dX8_passes_17 : decode cX8_passes 17 = .ok (.putfield 31, 3) := dk_181 0 31 (dk_at dksX8_passes_0 17 rfl rfl)
theorem dX8_passes_20 : decode cX8_passes 20 = .ok (.iconst 1, 1) := dk_4 (dk_at dksX8_passes_0 20 rfl rfl)
theorem dX8_passes_21 : decode cX8_passes 21 = .ok (.ireturn, 1) := dk_172 (dk_at dksX8_passes_0 21 rfl rfl)
def dkwX8_here_1 : List UInt8 := [167, 0, 4, 2, 172]
abbrev dktX8_here_1 : List UInt8 := dkwX8_here_1 ++ []
def dkwX8_here_0 : List UInt8 := [42, 180, 0, 31, 42, 180, 0, 28, 162, 0, 18, 42, 180, 0, 3, 180, 0, 34, 42, 180, 0, 31, 51]
abbrev dktX8_here_0 : List UInt8 := dkwX8_here_0 ++ dktX8_here_1
theorem dksX8_here_0 : cX8_here.data.toList.drop 0 = dktX8_here_0 := by decide +kernel
theorem dksX8_here_1 : cX8_here.data.toList.drop 23 = dktX8_here_1 := dk_seg dksX8_here_0 23 rfl rfl
theorem dX8_here_0 : decode cX8_here 0 = .ok (.aload_n 0, 1) := dk_42 (dk_at dksX8_here_0 0 rfl rfl)
theorem dX8_here_1 : decode cX8_here 1 = .ok (.getfield 31, 3) := dk_180 0 31 (dk_at dksX8_here_0 1 rfl rfl)
theorem dX8_here_4 : decode cX8_here 4 = .ok (.aload_n 0, 1) := dk_42 (dk_at dksX8_here_0 4 rfl rfl)
theorem dX8_here_5 : decode cX8_here 5 = .ok (.getfield 28, 3) := dk_180 0 28 (dk_at dksX8_here_0 5 rfl rfl)
theorem dX8_here_8 : decode cX8_here 8 = .ok (.if_icmp .ge 18, 3) := dk_162 0 18 (dk_at dksX8_here_0 8 rfl rfl)
theorem dX8_here_11 : decode cX8_here 11 = .ok (.aload_n 0, 1) := dk_42 (dk_at dksX8_here_0 11 rfl rfl)
theorem dX8_here_12 : decode cX8_here 12 = .ok (.getfield 3, 3) := dk_180 0 3 (dk_at dksX8_here_0 12 rfl rfl)
theorem dX8_here_15 : decode cX8_here 15 = .ok (.getfield 34, 3) := dk_180 0 34 (dk_at dksX8_here_0 15 rfl rfl)
theorem dX8_here_18 : decode cX8_here 18 = .ok (.aload_n 0, 1) := dk_42 (dk_at dksX8_here_0 18 rfl rfl)
theorem dX8_here_19 : decode cX8_here 19 = .ok (.getfield 31, 3) := dk_180 0 31 (dk_at dksX8_here_0 19 rfl rfl)
theorem dX8_here_22 : decode cX8_here 22 = .ok (.baload, 1) := dk_51 (dk_at dksX8_here_0 22 rfl rfl)
theorem dX8_here_23 : decode cX8_here 23 = .ok (.goto 4, 3) := dk_167 0 4 (dk_at dksX8_here_1 0 rfl rfl)
theorem dX8_here_26 : decode cX8_here 26 = .ok (.iconst (-1), 1) := dk_2 (dk_at dksX8_here_1 3 rfl rfl)
theorem dX8_here_27 : decode cX8_here 27 = .ok (.ireturn, 1) := dk_172 (dk_at dksX8_here_1 4 rfl rfl)
def dkwX8_need_0 : List UInt8 := [27, 154, 0, 15, 187, 0, 38, 89, 42, 180, 0, 31, 183, 0, 40, 191, 177]
abbrev dktX8_need_0 : List UInt8 := dkwX8_need_0 ++ []
theorem dksX8_need_0 : cX8_need.data.toList.drop 0 = dktX8_need_0 := by decide +kernel
theorem dX8_need_0 : decode cX8_need 0 = .ok (.iload_n 1, 1) := dk_27 (dk_at dksX8_need_0 0 rfl rfl)
theorem dX8_need_1 : decode cX8_need 1 = .ok (.ifCond .ne 15, 3) := dk_154 0 15 (dk_at dksX8_need_0 1 rfl rfl)
theorem dX8_need_4 : decode cX8_need 4 = .ok (.new 38, 3) := dk_187 0 38 (dk_at dksX8_need_0 4 rfl rfl)
theorem dX8_need_7 : decode cX8_need 7 = .ok (.dup, 1) := dk_89 (dk_at dksX8_need_0 7 rfl rfl)
theorem dX8_need_8 : decode cX8_need 8 = .ok (.aload_n 0, 1) := dk_42 (dk_at dksX8_need_0 8 rfl rfl)
theorem dX8_need_9 : decode cX8_need 9 = .ok (.getfield 31, 3) := dk_180 0 31 (dk_at dksX8_need_0 9 rfl rfl)
theorem dX8_need_12 : decode cX8_need 12 = .ok (.invokespecial 40, 3) := dk_183 0 40 (dk_at dksX8_need_0 12 rfl rfl)
theorem dX8_need_15 : decode cX8_need 15 = .ok (.athrow, 1) := dk_191 (dk_at dksX8_need_0 15 rfl rfl)
theorem dX8_need_16 : decode cX8_need 16 = .ok (.return_, 1) := dk_177 (dk_at dksX8_need_0 16 rfl rfl)
def dkwX8_isSign_2 : List UInt8 := [4, 172, 3, 172]
abbrev dktX8_isSign_2 : List UInt8 := dkwX8_isSign_2 ++ []
def dkwX8_isSign_1 : List UInt8 := [170, 0, 0, 0, 0, 0, 105, 0, 0, 0, 98, 0, 0, 0, 119, 0, 0, 0, 103, 0, 0, 0, 103, 0, 0, 0, 105, 0, 0, 0, 105, 0, 0, 0, 103, 0, 0, 0, 105, 0, 0, 0, 105, 0, 0, 0, 105, 0, 0, 0, 105, 0, 0, 0, 103, 0, 0, 0, 103, 0, 0, 0, 105, 0, 0, 0, 103, 0, 0, 0, 103, 0, 0, 0, 103, 0, 0, 0, 103, 0, 0, 0, 103, 0, 0, 0, 103, 0, 0, 0, 105, 0, 0, 0, 105, 0, 0, 0, 105, 0, 0, 0, 103]
abbrev dktX8_isSign_1 : List UInt8 := dkwX8_isSign_1 ++ dktX8_isSign_2
def dkwX8_isSign_0 : List UInt8 := [27]
abbrev dktX8_isSign_0 : List UInt8 := dkwX8_isSign_0 ++ dktX8_isSign_1
theorem dksX8_isSign_0 : cX8_isSign.data.toList.drop 0 = dktX8_isSign_0 := by decide +kernel
theorem dksX8_isSign_1 : cX8_isSign.data.toList.drop 1 = dktX8_isSign_1 := dk_seg dksX8_isSign_0 1 rfl rfl
theorem dksX8_isSign_2 : cX8_isSign.data.toList.drop 104 = dktX8_isSign_2 := dk_seg dksX8_isSign_1 103 rfl rfl
theorem dX8_isSign_0 : decode cX8_isSign 0 = .ok (.iload_n 1, 1) := dk_27 (dk_at dksX8_isSign_0 0 rfl rfl)
theorem dX8_isSign_1 : decode cX8_isSign 1 = .ok (.tableswitch 105 98 119 #[103, 103, 105, 105, 103, 105, 105, 105, 105, 103, 103, 105, 103, 103, 103, 103, 103, 103, 105, 105, 105, 103], 103) := by decide +kernel
theorem dX8_isSign_104 : decode cX8_isSign 104 = .ok (.iconst 1, 1) := dk_4 (dk_at dksX8_isSign_2 0 rfl rfl)
theorem dX8_isSign_105 : decode cX8_isSign 105 = .ok (.ireturn, 1) := dk_172 (dk_at dksX8_isSign_2 1 rfl rfl)
theorem dX8_isSign_106 : decode cX8_isSign 106 = .ok (.iconst 0, 1) := dk_3 (dk_at dksX8_isSign_2 2 rfl rfl)
theorem dX8_isSign_107 : decode cX8_isSign 107 = .ok (.ireturn, 1) := dk_172 (dk_at dksX8_isSign_2 3 rfl rfl)
def dkwX9_init_0 : List UInt8 := [42, 183, 0, 1, 42, 43, 181, 0, 7, 177]
abbrev dktX9_init_0 : List UInt8 := dkwX9_init_0 ++ []
theorem dksX9_init_0 : cX9_init.data.toList.drop 0 = dktX9_init_0 := by decide +kernel
theorem dX9_init_0 : decode cX9_init 0 = .ok (.aload_n 0, 1) := dk_42 (dk_at dksX9_init_0 0 rfl rfl)
theorem dX9_init_1 : decode cX9_init 1 = .ok (.invokespecial 1, 3) := dk_183 0 1 (dk_at dksX9_init_0 1 rfl rfl)
theorem dX9_init_4 : decode cX9_init 4 = .ok (.aload_n 0, 1) := dk_42 (dk_at dksX9_init_0 4 rfl rfl)
theorem dX9_init_5 : decode cX9_init 5 = .ok (.aload_n 1, 1) := dk_43 (dk_at dksX9_init_0 5 rfl rfl)
theorem dX9_init_6 : decode cX9_init 6 = .ok (.putfield 7, 3) := dk_181 0 7 (dk_at dksX9_init_0 6 rfl rfl)
theorem dX9_init_9 : decode cX9_init 9 = .ok (.return_, 1) := dk_177 (dk_at dksX9_init_0 9 rfl rfl)
def dkwX9_value_0 : List UInt8 := [42, 180, 0, 7, 43, 185, 0, 13, 2, 0, 116, 172]
abbrev dktX9_value_0 : List UInt8 := dkwX9_value_0 ++ []
theorem dksX9_value_0 : cX9_value.data.toList.drop 0 = dktX9_value_0 := by decide +kernel
theorem dX9_value_0 : decode cX9_value 0 = .ok (.aload_n 0, 1) := dk_42 (dk_at dksX9_value_0 0 rfl rfl)
theorem dX9_value_1 : decode cX9_value 1 = .ok (.getfield 7, 3) := dk_180 0 7 (dk_at dksX9_value_0 1 rfl rfl)
theorem dX9_value_4 : decode cX9_value 4 = .ok (.aload_n 1, 1) := dk_43 (dk_at dksX9_value_0 4 rfl rfl)
theorem dX9_value_5 : decode cX9_value 5 = .ok (.invokeinterface 13 2, 5) := by decide +kernel
theorem dX9_value_10 : decode cX9_value 10 = .ok (.ineg, 1) := dk_116 (dk_at dksX9_value_0 10 rfl rfl)
theorem dX9_value_11 : decode cX9_value 11 = .ok (.ireturn, 1) := dk_172 (dk_at dksX9_value_0 11 rfl rfl)
def dkwX10_init_0 : List UInt8 := [42, 43, 183, 0, 1, 177]
abbrev dktX10_init_0 : List UInt8 := dkwX10_init_0 ++ []
theorem dksX10_init_0 : cX10_init.data.toList.drop 0 = dktX10_init_0 := by decide +kernel
theorem dX10_init_0 : decode cX10_init 0 = .ok (.aload_n 0, 1) := dk_42 (dk_at dksX10_init_0 0 rfl rfl)
theorem dX10_init_1 : decode cX10_init 1 = .ok (.aload_n 1, 1) := dk_43 (dk_at dksX10_init_0 1 rfl rfl)
theorem dX10_init_2 : decode cX10_init 2 = .ok (.invokespecial 1, 3) := dk_183 0 1 (dk_at dksX10_init_0 2 rfl rfl)
theorem dX10_init_5 : decode cX10_init 5 = .ok (.return_, 1) := dk_177 (dk_at dksX10_init_0 5 rfl rfl)
def dkwX10_value_0 : List UInt8 := [42, 43, 183, 0, 7, 154, 0, 7, 4, 167, 0, 4, 3, 172]
abbrev dktX10_value_0 : List UInt8 := dkwX10_value_0 ++ []
theorem dksX10_value_0 : cX10_value.data.toList.drop 0 = dktX10_value_0 := by decide +kernel
theorem dX10_value_0 : decode cX10_value 0 = .ok (.aload_n 0, 1) := dk_42 (dk_at dksX10_value_0 0 rfl rfl)
theorem dX10_value_1 : decode cX10_value 1 = .ok (.aload_n 1, 1) := dk_43 (dk_at dksX10_value_0 1 rfl rfl)
theorem dX10_value_2 : decode cX10_value 2 = .ok (.invokespecial 7, 3) := dk_183 0 7 (dk_at dksX10_value_0 2 rfl rfl)
theorem dX10_value_5 : decode cX10_value 5 = .ok (.ifCond .ne 7, 3) := dk_154 0 7 (dk_at dksX10_value_0 5 rfl rfl)
theorem dX10_value_8 : decode cX10_value 8 = .ok (.iconst 1, 1) := dk_4 (dk_at dksX10_value_0 8 rfl rfl)
theorem dX10_value_9 : decode cX10_value 9 = .ok (.goto 4, 3) := dk_167 0 4 (dk_at dksX10_value_0 9 rfl rfl)
theorem dX10_value_12 : decode cX10_value 12 = .ok (.iconst 0, 1) := dk_3 (dk_at dksX10_value_0 12 rfl rfl)
theorem dX10_value_13 : decode cX10_value 13 = .ok (.ireturn, 1) := dk_172 (dk_at dksX10_value_0 13 rfl rfl)
def dkwX11_init_0 : List UInt8 := [42, 183, 0, 1, 42, 27, 181, 0, 7, 177]
abbrev dktX11_init_0 : List UInt8 := dkwX11_init_0 ++ []
theorem dksX11_init_0 : cX11_init.data.toList.drop 0 = dktX11_init_0 := by decide +kernel
theorem dX11_init_0 : decode cX11_init 0 = .ok (.aload_n 0, 1) := dk_42 (dk_at dksX11_init_0 0 rfl rfl)
theorem dX11_init_1 : decode cX11_init 1 = .ok (.invokespecial 1, 3) := dk_183 0 1 (dk_at dksX11_init_0 1 rfl rfl)
theorem dX11_init_4 : decode cX11_init 4 = .ok (.aload_n 0, 1) := dk_42 (dk_at dksX11_init_0 4 rfl rfl)
theorem dX11_init_5 : decode cX11_init 5 = .ok (.iload_n 1, 1) := dk_27 (dk_at dksX11_init_0 5 rfl rfl)
theorem dX11_init_6 : decode cX11_init 6 = .ok (.putfield 7, 3) := dk_181 0 7 (dk_at dksX11_init_0 6 rfl rfl)
theorem dX11_init_9 : decode cX11_init 9 = .ok (.return_, 1) := dk_177 (dk_at dksX11_init_0 9 rfl rfl)
def dkwX12_init_0 : List UInt8 := [42, 183, 0, 1, 42, 27, 181, 0, 7, 177]
abbrev dktX12_init_0 : List UInt8 := dkwX12_init_0 ++ []
theorem dksX12_init_0 : cX12_init.data.toList.drop 0 = dktX12_init_0 := by decide +kernel
theorem dX12_init_0 : decode cX12_init 0 = .ok (.aload_n 0, 1) := dk_42 (dk_at dksX12_init_0 0 rfl rfl)
theorem dX12_init_1 : decode cX12_init 1 = .ok (.invokespecial 1, 3) := dk_183 0 1 (dk_at dksX12_init_0 1 rfl rfl)
theorem dX12_init_4 : decode cX12_init 4 = .ok (.aload_n 0, 1) := dk_42 (dk_at dksX12_init_0 4 rfl rfl)
theorem dX12_init_5 : decode cX12_init 5 = .ok (.iload_n 1, 1) := dk_27 (dk_at dksX12_init_0 5 rfl rfl)
theorem dX12_init_6 : decode cX12_init 6 = .ok (.putfield 7, 3) := dk_181 0 7 (dk_at dksX12_init_0 6 rfl rfl)
theorem dX12_init_9 : decode cX12_init 9 = .ok (.return_, 1) := dk_177 (dk_at dksX12_init_0 9 rfl rfl)
theorem dX12_value_0 : decode cX12_value 0 = .ok (.aload_n 0, 1) := by decide +kernel
theorem dX12_value_1 : decode cX12_value 1 = .ok (.getfield 7, 3) := by decide +kernel
theorem dX12_value_4 : decode cX12_value 4 = .ok (.ireturn, 1) := by decide +kernel
def dkwX13_init_0 : List UInt8 := [42, 183, 0, 1, 42, 27, 181, 0, 7, 177]
abbrev dktX13_init_0 : List UInt8 := dkwX13_init_0 ++ []
theorem dksX13_init_0 : cX13_init.data.toList.drop 0 = dktX13_init_0 := by decide +kernel
theorem dX13_init_0 : decode cX13_init 0 = .ok (.aload_n 0, 1) := dk_42 (dk_at dksX13_init_0 0 rfl rfl)
theorem dX13_init_1 : decode cX13_init 1 = .ok (.invokespecial 1, 3) := dk_183 0 1 (dk_at dksX13_init_0 1 rfl rfl)
theorem dX13_init_4 : decode cX13_init 4 = .ok (.aload_n 0, 1) := dk_42 (dk_at dksX13_init_0 4 rfl rfl)
theorem dX13_init_5 : decode cX13_init 5 = .ok (.iload_n 1, 1) := dk_27 (dk_at dksX13_init_0 5 rfl rfl)
theorem dX13_init_6 : decode cX13_init 6 = .ok (.putfield 7, 3) := dk_181 0 7 (dk_at dksX13_init_0 6 rfl rfl)
theorem dX13_init_9 : decode cX13_init 9 = .ok (.return_, 1) := dk_177 (dk_at dksX13_init_0 9 rfl rfl)
def dkwX13_value_0 : List UInt8 := [43, 42, 180, 0, 7, 182, 0, 13, 172]
abbrev dktX13_value_0 : List UInt8 := dkwX13_value_0 ++ []
theorem dksX13_value_0 : cX13_value.data.toList.drop 0 = dktX13_value_0 := by decide +kernel
theorem dX13_value_0 : decode cX13_value 0 = .ok (.aload_n 1, 1) := dk_43 (dk_at dksX13_value_0 0 rfl rfl)
theorem dX13_value_1 : decode cX13_value 1 = .ok (.aload_n 0, 1) := dk_42 (dk_at dksX13_value_0 1 rfl rfl)
theorem dX13_value_2 : decode cX13_value 2 = .ok (.getfield 7, 3) := dk_180 0 7 (dk_at dksX13_value_0 2 rfl rfl)
theorem dX13_value_5 : decode cX13_value 5 = .ok (.invokevirtual 13, 3) := dk_182 0 13 (dk_at dksX13_value_0 5 rfl rfl)
theorem dX13_value_8 : decode cX13_value 8 = .ok (.ireturn, 1) := dk_172 (dk_at dksX13_value_0 8 rfl rfl)
def dkwX14_init_0 : List UInt8 := [42, 183, 0, 1, 42, 27, 181, 0, 7, 42, 44, 181, 0, 13, 42, 45, 181, 0, 17, 177]
abbrev dktX14_init_0 : List UInt8 := dkwX14_init_0 ++ []
theorem dksX14_init_0 : cX14_init.data.toList.drop 0 = dktX14_init_0 := by decide +kernel
theorem dX14_init_0 : decode cX14_init 0 = .ok (.aload_n 0, 1) := dk_42 (dk_at dksX14_init_0 0 rfl rfl)
theorem dX14_init_1 : decode cX14_init 1 = .ok (.invokespecial 1, 3) := dk_183 0 1 (dk_at dksX14_init_0 1 rfl rfl)
theorem dX14_init_4 : decode cX14_init 4 = .ok (.aload_n 0, 1) := dk_42 (dk_at dksX14_init_0 4 rfl rfl)
theorem dX14_init_5 : decode cX14_init 5 = .ok (.iload_n 1, 1) := dk_27 (dk_at dksX14_init_0 5 rfl rfl)
theorem dX14_init_6 : decode cX14_init 6 = .ok (.putfield 7, 3) := dk_181 0 7 (dk_at dksX14_init_0 6 rfl rfl)
theorem dX14_init_9 : decode cX14_init 9 = .ok (.aload_n 0, 1) := dk_42 (dk_at dksX14_init_0 9 rfl rfl)
theorem dX14_init_10 : decode cX14_init 10 = .ok (.aload_n 2, 1) := dk_44 (dk_at dksX14_init_0 10 rfl rfl)
theorem dX14_init_11 : decode cX14_init 11 = .ok (.putfield 13, 3) := dk_181 0 13 (dk_at dksX14_init_0 11 rfl rfl)
theorem dX14_init_14 : decode cX14_init 14 = .ok (.aload_n 0, 1) := dk_42 (dk_at dksX14_init_0 14 rfl rfl)
theorem dX14_init_15 : decode cX14_init 15 = .ok (.aload_n 3, 1) := dk_45 (dk_at dksX14_init_0 15 rfl rfl)
theorem dX14_init_16 : decode cX14_init 16 = .ok (.putfield 17, 3) := dk_181 0 17 (dk_at dksX14_init_0 16 rfl rfl)
theorem dX14_init_19 : decode cX14_init 19 = .ok (.return_, 1) := dk_177 (dk_at dksX14_init_0 19 rfl rfl)
def dkwX14_value_6 : List UInt8 := [28, 29, 104, 172]
abbrev dktX14_value_6 : List UInt8 := dkwX14_value_6 ++ []
def dkwX14_value_5 : List UInt8 := [167, 0, 4, 3, 172, 28, 29, 160, 0, 7, 4, 167, 0, 4, 3, 172, 28, 29, 96, 172, 28, 29, 100, 172]
abbrev dktX14_value_5 : List UInt8 := dkwX14_value_5 ++ dktX14_value_6
def dkwX14_value_4 : List UInt8 := [167, 0, 4, 3, 172, 28, 29, 162, 0, 7, 4, 167, 0, 4, 3, 172, 28, 29, 164, 0, 7, 4]
abbrev dktX14_value_4 : List UInt8 := dkwX14_value_4 ++ dktX14_value_5
def dkwX14_value_3 : List UInt8 := [28, 154, 0, 7, 29, 153, 0, 7, 4, 167, 0, 4, 3, 172, 28, 153, 0, 11, 29, 153, 0, 7, 4]
abbrev dktX14_value_3 : List UInt8 := dkwX14_value_3 ++ dktX14_value_4
def dkwX14_value_2 : List UInt8 := [171, 0, 0, 0, 0, 135, 0, 0, 0, 7, 0, 0, 0, 38, 0, 0, 0, 80, 0, 0, 0, 43, 0, 0, 0, 127, 0, 0, 0, 45, 0, 0, 0, 131, 0, 0, 0, 60, 0, 0, 0, 94, 0, 0, 0, 61, 0, 0, 0, 116, 0, 0, 0, 62, 0, 0, 0, 105, 0, 0, 0, 124, 0, 0, 0, 66]
abbrev dktX14_value_2 : List UInt8 := dkwX14_value_2 ++ dktX14_value_3
def dkwX14_value_1 : List UInt8 := [180, 0, 7]
abbrev dktX14_value_1 : List UInt8 := dkwX14_value_1 ++ dktX14_value_2
def dkwX14_value_0 : List UInt8 := [42, 180, 0, 13, 43, 185, 0, 20, 2, 0, 61, 42, 180, 0, 17, 43, 185, 0, 20, 2, 0, 62, 42]
abbrev dktX14_value_0 : List UInt8 := dkwX14_value_0 ++ dktX14_value_1
theorem dksX14_value_0 : cX14_value.data.toList.drop 0 = dktX14_value_0 := by decide +kernel
theorem dksX14_value_1 : cX14_value.data.toList.drop 23 = dktX14_value_1 := dk_seg dksX14_value_0 23 rfl rfl
theorem dksX14_value_2 : cX14_value.data.toList.drop 26 = dktX14_value_2 := dk_seg dksX14_value_1 3 rfl rfl
theorem dksX14_value_3 : cX14_value.data.toList.drop 92 = dktX14_value_3 := dk_seg dksX14_value_2 66 rfl rfl
theorem dksX14_value_4 : cX14_value.data.toList.drop 115 = dktX14_value_4 := dk_seg dksX14_value_3 23 rfl rfl
theorem dksX14_value_5 : cX14_value.data.toList.drop 137 = dktX14_value_5 := dk_seg dksX14_value_4 22 rfl rfl
theorem dksX14_value_6 : cX14_value.data.toList.drop 161 = dktX14_value_6 := dk_seg dksX14_value_5 24 rfl rfl
theorem dX14_value_0 : decode cX14_value 0 = .ok (.aload_n 0, 1) := dk_42 (dk_at dksX14_value_0 0 rfl rfl)
theorem dX14_value_1 : decode cX14_value 1 = .ok (.getfield 13, 3) := dk_180 0 13 (dk_at dksX14_value_0 1 rfl rfl)
theorem dX14_value_4 : decode cX14_value 4 = .ok (.aload_n 1, 1) := dk_43 (dk_at dksX14_value_0 4 rfl rfl)
theorem dX14_value_5 : decode cX14_value 5 = .ok (.invokeinterface 20 2, 5) := by decide +kernel
theorem dX14_value_10 : decode cX14_value 10 = .ok (.istore_n 2, 1) := dk_61 (dk_at dksX14_value_0 10 rfl rfl)
theorem dX14_value_11 : decode cX14_value 11 = .ok (.aload_n 0, 1) := dk_42 (dk_at dksX14_value_0 11 rfl rfl)
theorem dX14_value_12 : decode cX14_value 12 = .ok (.getfield 17, 3) := dk_180 0 17 (dk_at dksX14_value_0 12 rfl rfl)
theorem dX14_value_15 : decode cX14_value 15 = .ok (.aload_n 1, 1) := dk_43 (dk_at dksX14_value_0 15 rfl rfl)
theorem dX14_value_16 : decode cX14_value 16 = .ok (.invokeinterface 20 2, 5) := by decide +kernel
theorem dX14_value_21 : decode cX14_value 21 = .ok (.istore_n 3, 1) := dk_62 (dk_at dksX14_value_0 21 rfl rfl)
theorem dX14_value_22 : decode cX14_value 22 = .ok (.aload_n 0, 1) := dk_42 (dk_at dksX14_value_0 22 rfl rfl)
theorem dX14_value_23 : decode cX14_value 23 = .ok (.getfield 7, 3) := dk_180 0 7 (dk_at dksX14_value_1 0 rfl rfl)
theorem dX14_value_26 : decode cX14_value 26 = .ok (.lookupswitch 135 #[(38, 80), (43, 127), (45, 131), (60, 94), (61, 116), (62, 105), (124, 66)], 66) := by decide +kernel
theorem dX14_value_92 : decode cX14_value 92 = .ok (.iload_n 2, 1) := dk_28 (dk_at dksX14_value_3 0 rfl rfl)
theorem dX14_value_93 : decode cX14_value 93 = .ok (.ifCond .ne 7, 3) := dk_154 0 7 (dk_at dksX14_value_3 1 rfl rfl)
theorem dX14_value_96 : decode cX14_value 96 = .ok (.iload_n 3, 1) := dk_29 (dk_at dksX14_value_3 4 rfl rfl)
theorem dX14_value_97 : decode cX14_value 97 = .ok (.ifCond .eq 7, 3) := dk_153 0 7 (dk_at dksX14_value_3 5 rfl rfl)
theorem dX14_value_100 : decode cX14_value 100 = .ok (.iconst 1, 1) := dk_4 (dk_at dksX14_value_3 8 rfl rfl)
theorem dX14_value_101 : decode cX14_value 101 = .ok (.goto 4, 3) := dk_167 0 4 (dk_at dksX14_value_3 9 rfl rfl)
theorem dX14_value_104 : decode cX14_value 104 = .ok (.iconst 0, 1) := dk_3 (dk_at dksX14_value_3 12 rfl rfl)
theorem dX14_value_105 : decode cX14_value 105 = .ok (.ireturn, 1) := dk_172 (dk_at dksX14_value_3 13 rfl rfl)
theorem dX14_value_106 : decode cX14_value 106 = .ok (.iload_n 2, 1) := dk_28 (dk_at dksX14_value_3 14 rfl rfl)
theorem dX14_value_107 : decode cX14_value 107 = .ok (.ifCond .eq 11, 3) := dk_153 0 11 (dk_at dksX14_value_3 15 rfl rfl)
theorem dX14_value_110 : decode cX14_value 110 = .ok (.iload_n 3, 1) := dk_29 (dk_at dksX14_value_3 18 rfl rfl)
theorem dX14_value_111 : decode cX14_value 111 = .ok (.ifCond .eq 7, 3) := dk_153 0 7 (dk_at dksX14_value_3 19 rfl rfl)
theorem dX14_value_114 : decode cX14_value 114 = .ok (.iconst 1, 1) := dk_4 (dk_at dksX14_value_3 22 rfl rfl)
theorem dX14_value_115 : decode cX14_value 115 = .ok (.goto 4, 3) := dk_167 0 4 (dk_at dksX14_value_4 0 rfl rfl)
theorem dX14_value_118 : decode cX14_value 118 = .ok (.iconst 0, 1) := dk_3 (dk_at dksX14_value_4 3 rfl rfl)
theorem dX14_value_119 : decode cX14_value 119 = .ok (.ireturn, 1) := dk_172 (dk_at dksX14_value_4 4 rfl rfl)
theorem dX14_value_120 : decode cX14_value 120 = .ok (.iload_n 2, 1) := dk_28 (dk_at dksX14_value_4 5 rfl rfl)
theorem dX14_value_121 : decode cX14_value 121 = .ok (.iload_n 3, 1) := dk_29 (dk_at dksX14_value_4 6 rfl rfl)
theorem dX14_value_122 : decode cX14_value 122 = .ok (.if_icmp .ge 7, 3) := dk_162 0 7 (dk_at dksX14_value_4 7 rfl rfl)
theorem dX14_value_125 : decode cX14_value 125 = .ok (.iconst 1, 1) := dk_4 (dk_at dksX14_value_4 10 rfl rfl)
theorem dX14_value_126 : decode cX14_value 126 = .ok (.goto 4, 3) := dk_167 0 4 (dk_at dksX14_value_4 11 rfl rfl)
theorem dX14_value_129 : decode cX14_value 129 = .ok (.iconst 0, 1) := dk_3 (dk_at dksX14_value_4 14 rfl rfl)
theorem dX14_value_130 : decode cX14_value 130 = .ok (.ireturn, 1) := dk_172 (dk_at dksX14_value_4 15 rfl rfl)
theorem dX14_value_131 : decode cX14_value 131 = .ok (.iload_n 2, 1) := dk_28 (dk_at dksX14_value_4 16 rfl rfl)
theorem dX14_value_132 : decode cX14_value 132 = .ok (.iload_n 3, 1) := dk_29 (dk_at dksX14_value_4 17 rfl rfl)
theorem dX14_value_133 : decode cX14_value 133 = .ok (.if_icmp .le 7, 3) := dk_164 0 7 (dk_at dksX14_value_4 18 rfl rfl)
theorem dX14_value_136 : decode cX14_value 136 = .ok (.iconst 1, 1) := dk_4 (dk_at dksX14_value_4 21 rfl rfl)
theorem dX14_value_137 : decode cX14_value 137 = .ok (.goto 4, 3) := dk_167 0 4 (dk_at dksX14_value_5 0 rfl rfl)
theorem dX14_value_140 : decode cX14_value 140 = .ok (.iconst 0, 1) := dk_3 (dk_at dksX14_value_5 3 rfl rfl)
theorem dX14_value_141 : decode cX14_value 141 = .ok (.ireturn, 1) := dk_172 (dk_at dksX14_value_5 4 rfl rfl)
theorem dX14_value_142 : decode cX14_value 142 = .ok (.iload_n 2, 1) := dk_28 (dk_at dksX14_value_5 5 rfl rfl)
theorem dX14_value_143 : decode cX14_value 143 = .ok (.iload_n 3, 1) := dk_29 (dk_at dksX14_value_5 6 rfl rfl)
theorem dX14_value_144 : decode cX14_value 144 = .ok (.if_icmp .ne 7, 3) := dk_160 0 7 (dk_at dksX14_value_5 7 rfl rfl)
theorem dX14_value_147 : decode cX14_value 147 = .ok (.iconst 1, 1) := dk_4 (dk_at dksX14_value_5 10 rfl rfl)
theorem dX14_value_148 : decode cX14_value 148 = .ok (.goto 4, 3) := dk_167 0 4 (dk_at dksX14_value_5 11 rfl rfl)
theorem dX14_value_151 : decode cX14_value 151 = .ok (.iconst 0, 1) := dk_3 (dk_at dksX14_value_5 14 rfl rfl)
theorem dX14_value_152 : decode cX14_value 152 = .ok (.ireturn, 1) := dk_172 (dk_at dksX14_value_5 15 rfl rfl)
theorem dX14_value_153 : decode cX14_value 153 = .ok (.iload_n 2, 1) := dk_28 (dk_at dksX14_value_5 16 rfl rfl)
theorem dX14_value_154 : decode cX14_value 154 = .ok (.iload_n 3, 1) := dk_29 (dk_at dksX14_value_5 17 rfl rfl)
theorem dX14_value_155 : decode cX14_value 155 = .ok (.iadd, 1) := dk_96 (dk_at dksX14_value_5 18 rfl rfl)
theorem dX14_value_156 : decode cX14_value 156 = .ok (.ireturn, 1) := dk_172 (dk_at dksX14_value_5 19 rfl rfl)
theorem dX14_value_157 : decode cX14_value 157 = .ok (.iload_n 2, 1) := dk_28 (dk_at dksX14_value_5 20 rfl rfl)
theorem dX14_value_158 : decode cX14_value 158 = .ok (.iload_n 3, 1) := dk_29 (dk_at dksX14_value_5 21 rfl rfl)
theorem dX14_value_159 : decode cX14_value 159 = .ok (.isub, 1) := dk_100 (dk_at dksX14_value_5 22 rfl rfl)
theorem dX14_value_160 : decode cX14_value 160 = .ok (.ireturn, 1) := dk_172 (dk_at dksX14_value_5 23 rfl rfl)
theorem dX14_value_161 : decode cX14_value 161 = .ok (.iload_n 2, 1) := dk_28 (dk_at dksX14_value_6 0 rfl rfl)
theorem dX14_value_162 : decode cX14_value 162 = .ok (.iload_n 3, 1) := dk_29 (dk_at dksX14_value_6 1 rfl rfl)
theorem dX14_value_163 : decode cX14_value 163 = .ok (.imul, 1) := dk_104 (dk_at dksX14_value_6 2 rfl rfl)
theorem dX14_value_164 : decode cX14_value 164 = .ok (.ireturn, 1) := dk_172 (dk_at dksX14_value_6 3 rfl rfl)
def dkwX15_init_2 : List UInt8 := [180, 0, 34, 79, 177]
abbrev dktX15_init_2 : List UInt8 := dkwX15_init_2 ++ []
def dkwX15_init_1 : List UInt8 := [42, 29, 181, 0, 27, 42, 21, 4, 4, 96, 188, 10, 181, 0, 30, 42, 180, 0, 30, 3, 42, 180, 0, 23]
abbrev dktX15_init_1 : List UInt8 := dkwX15_init_1 ++ dktX15_init_2
def dkwX15_init_0 : List UInt8 := [42, 43, 181, 0, 3, 42, 183, 0, 9, 42, 2, 181, 0, 15, 42, 43, 180, 0, 19, 28, 50, 181, 0, 23]
abbrev dktX15_init_0 : List UInt8 := dkwX15_init_0 ++ dktX15_init_1
theorem dksX15_init_0 : cX15_init.data.toList.drop 0 = dktX15_init_0 := by decide +kernel
theorem dksX15_init_1 : cX15_init.data.toList.drop 24 = dktX15_init_1 := dk_seg dksX15_init_0 24 rfl rfl
theorem dksX15_init_2 : cX15_init.data.toList.drop 48 = dktX15_init_2 := dk_seg dksX15_init_1 24 rfl rfl
theorem dX15_init_0 : decode cX15_init 0 = .ok (.aload_n 0, 1) := dk_42 (dk_at dksX15_init_0 0 rfl rfl)
theorem dX15_init_1 : decode cX15_init 1 = .ok (.aload_n 1, 1) := dk_43 (dk_at dksX15_init_0 1 rfl rfl)
theorem dX15_init_2 : decode cX15_init 2 = .ok (.putfield 3, 3) := dk_181 0 3 (dk_at dksX15_init_0 2 rfl rfl)
theorem dX15_init_5 : decode cX15_init 5 = .ok (.aload_n 0, 1) := dk_42 (dk_at dksX15_init_0 5 rfl rfl)
theorem dX15_init_6 : decode cX15_init 6 = .ok (.invokespecial 9, 3) := dk_183 0 9 (dk_at dksX15_init_0 6 rfl rfl)
theorem dX15_init_9 : decode cX15_init 9 = .ok (.aload_n 0, 1) := dk_42 (dk_at dksX15_init_0 9 rfl rfl)
theorem dX15_init_10 : decode cX15_init 10 = .ok (.iconst (-1), 1) := dk_2 (dk_at dksX15_init_0 10 rfl rfl)
theorem dX15_init_11 : decode cX15_init 11 = .ok (.putfield 15, 3) := dk_181 0 15 (dk_at dksX15_init_0 11 rfl rfl)
theorem dX15_init_14 : decode cX15_init 14 = .ok (.aload_n 0, 1) := dk_42 (dk_at dksX15_init_0 14 rfl rfl)
theorem dX15_init_15 : decode cX15_init 15 = .ok (.aload_n 1, 1) := dk_43 (dk_at dksX15_init_0 15 rfl rfl)
theorem dX15_init_16 : decode cX15_init 16 = .ok (.getfield 19, 3) := dk_180 0 19 (dk_at dksX15_init_0 16 rfl rfl)
theorem dX15_init_19 : decode cX15_init 19 = .ok (.iload_n 2, 1) := dk_28 (dk_at dksX15_init_0 19 rfl rfl)
theorem dX15_init_20 : decode cX15_init 20 = .ok (.aaload, 1) := dk_50 (dk_at dksX15_init_0 20 rfl rfl)
theorem dX15_init_21 : decode cX15_init 21 = .ok (.putfield 23, 3) := dk_181 0 23 (dk_at dksX15_init_0 21 rfl rfl)
theorem dX15_init_24 : decode cX15_init 24 = .ok (.aload_n 0, 1) := dk_42 (dk_at dksX15_init_1 0 rfl rfl)
theorem dX15_init_25 : decode cX15_init 25 = .ok (.iload_n 3, 1) := dk_29 (dk_at dksX15_init_1 1 rfl rfl)
theorem dX15_init_26 : decode cX15_init 26 = .ok (.putfield 27, 3) := dk_181 0 27 (dk_at dksX15_init_1 2 rfl rfl)
theorem dX15_init_29 : decode cX15_init 29 = .ok (.aload_n 0, 1) := dk_42 (dk_at dksX15_init_1 5 rfl rfl)
theorem dX15_init_30 : decode cX15_init 30 = .ok (.iload 4, 2) := dk_21 4 (dk_at dksX15_init_1 6 rfl rfl)
theorem dX15_init_32 : decode cX15_init 32 = .ok (.iconst 1, 1) := dk_4 (dk_at dksX15_init_1 8 rfl rfl)
theorem dX15_init_33 : decode cX15_init 33 = .ok (.iadd, 1) := dk_96 (dk_at dksX15_init_1 9 rfl rfl)
theorem dX15_init_34 : decode cX15_init 34 = .ok (.newarray .int, 2) := dk_188_10 (dk_at dksX15_init_1 10 rfl rfl)
theorem dX15_init_36 : decode cX15_init 36 = .ok (.putfield 30, 3) := dk_181 0 30 (dk_at dksX15_init_1 12 rfl rfl)
theorem dX15_init_39 : decode cX15_init 39 = .ok (.aload_n 0, 1) := dk_42 (dk_at dksX15_init_1 15 rfl rfl)
theorem dX15_init_40 : decode cX15_init 40 = .ok (.getfield 30, 3) := dk_180 0 30 (dk_at dksX15_init_1 16 rfl rfl)
theorem dX15_init_43 : decode cX15_init 43 = .ok (.iconst 0, 1) := dk_3 (dk_at dksX15_init_1 19 rfl rfl)
theorem dX15_init_44 : decode cX15_init 44 = .ok (.aload_n 0, 1) := dk_42 (dk_at dksX15_init_1 20 rfl rfl)
theorem dX15_init_45 : decode cX15_init 45 = .ok (.getfield 23, 3) := dk_180 0 23 (dk_at dksX15_init_1 21 rfl rfl)
theorem dX15_init_48 : decode cX15_init 48 = .ok (.getfield 34, 3) := dk_180 0 34 (dk_at dksX15_init_2 0 rfl rfl)
theorem dX15_init_51 : decode cX15_init 51 = .ok (.iastore, 1) := dk_79 (dk_at dksX15_init_2 3 rfl rfl)
theorem dX15_init_52 : decode cX15_init 52 = .ok (.return_, 1) := dk_177 (dk_at dksX15_init_2 4 rfl rfl)
def dkwX15_all_0 : List UInt8 := [3, 60, 27, 42, 180, 0, 30, 190, 162, 0, 15, 42, 4, 27, 182, 0, 68, 132, 1, 1, 167, 255, 238, 177]
abbrev dktX15_all_0 : List UInt8 := dkwX15_all_0 ++ []
theorem dksX15_all_0 : cX15_all.data.toList.drop 0 = dktX15_all_0 := by decide +kernel
theorem dX15_all_0 : decode cX15_all 0 = .ok (.iconst 0, 1) := dk_3 (dk_at dksX15_all_0 0 rfl rfl)
theorem dX15_all_1 : decode cX15_all 1 = .ok (.istore_n 1, 1) := dk_60 (dk_at dksX15_all_0 1 rfl rfl)
theorem dX15_all_2 : decode cX15_all 2 = .ok (.iload_n 1, 1) := dk_27 (dk_at dksX15_all_0 2 rfl rfl)
theorem dX15_all_3 : decode cX15_all 3 = .ok (.aload_n 0, 1) := dk_42 (dk_at dksX15_all_0 3 rfl rfl)
theorem dX15_all_4 : decode cX15_all 4 = .ok (.getfield 30, 3) := dk_180 0 30 (dk_at dksX15_all_0 4 rfl rfl)
theorem dX15_all_7 : decode cX15_all 7 = .ok (.arraylength, 1) := dk_190 (dk_at dksX15_all_0 7 rfl rfl)
theorem dX15_all_8 : decode cX15_all 8 = .ok (.if_icmp .ge 15, 3) := dk_162 0 15 (dk_at dksX15_all_0 8 rfl rfl)
theorem dX15_all_11 : decode cX15_all 11 = .ok (.aload_n 0, 1) := dk_42 (dk_at dksX15_all_0 11 rfl rfl)
theorem dX15_all_12 : decode cX15_all 12 = .ok (.iconst 1, 1) := dk_4 (dk_at dksX15_all_0 12 rfl rfl)
theorem dX15_all_13 : decode cX15_all 13 = .ok (.iload_n 1, 1) := dk_27 (dk_at dksX15_all_0 13 rfl rfl)
theorem dX15_all_14 : decode cX15_all 14 = .ok (.invokevirtual 68, 3) := dk_182 0 68 (dk_at dksX15_all_0 14 rfl rfl)
theorem dX15_all_17 : decode cX15_all 17 = .ok (.iinc 1 1, 3) := dk_132 1 1 (dk_at dksX15_all_0 17 rfl rfl)
theorem dX15_all_20 : decode cX15_all 20 = .ok (.goto (-18), 3) := dk_167 255 238 (dk_at dksX15_all_0 20 rfl rfl)
theorem dX15_all_23 : decode cX15_all 23 = .ok (.return_, 1) := dk_177 (dk_at dksX15_all_0 23 rfl rfl)
def dkwX15_go_5 : List UInt8 := [180, 0, 30, 27, 29, 79, 42, 27, 4, 96, 28, 182, 0, 68, 132, 3, 1, 167, 255, 209, 177]
abbrev dktX15_go_5 : List UInt8 := dkwX15_go_5 ++ []
def dkwX15_go_4 : List UInt8 := [180, 0, 65, 162, 0, 39, 29, 42, 180, 0, 30, 27, 4, 100, 46, 160, 0, 6, 167, 0, 18, 42]
abbrev dktX15_go_4 : List UInt8 := dkwX15_go_4 ++ dktX15_go_5
def dkwX15_go_3 : List UInt8 := [180, 0, 30, 28, 4, 96, 184, 0, 56, 181, 0, 62, 177, 3, 62, 29, 42, 180, 0, 3, 180, 0, 39]
abbrev dktX15_go_3 : List UInt8 := dkwX15_go_3 ++ dktX15_go_4
def dkwX15_go_2 : List UInt8 := [180, 0, 15, 2, 159, 0, 12, 29, 42, 180, 0, 15, 161, 0, 4, 177, 42, 29, 181, 0, 15, 42, 42]
abbrev dktX15_go_2 : List UInt8 := dkwX15_go_2 ++ dktX15_go_3
def dkwX15_go_1 : List UInt8 := [180, 0, 43, 182, 0, 46, 154, 0, 4, 177, 42, 28, 182, 0, 52, 62, 29, 2, 159, 0, 19, 42]
abbrev dktX15_go_1 : List UInt8 := dkwX15_go_1 ++ dktX15_go_2
def dkwX15_go_0 : List UInt8 := [27, 28, 164, 0, 78, 42, 180, 0, 3, 180, 0, 39, 42, 180, 0, 30, 28, 46, 42, 180, 0, 23]
abbrev dktX15_go_0 : List UInt8 := dkwX15_go_0 ++ dktX15_go_1
theorem dksX15_go_0 : cX15_go.data.toList.drop 0 = dktX15_go_0 := by decide +kernel
theorem dksX15_go_1 : cX15_go.data.toList.drop 22 = dktX15_go_1 := dk_seg dksX15_go_0 22 rfl rfl
theorem dksX15_go_2 : cX15_go.data.toList.drop 44 = dktX15_go_2 := dk_seg dksX15_go_1 22 rfl rfl
theorem dksX15_go_3 : cX15_go.data.toList.drop 67 = dktX15_go_3 := dk_seg dksX15_go_2 23 rfl rfl
theorem dksX15_go_4 : cX15_go.data.toList.drop 90 = dktX15_go_4 := dk_seg dksX15_go_3 23 rfl rfl
theorem dksX15_go_5 : cX15_go.data.toList.drop 112 = dktX15_go_5 := dk_seg dksX15_go_4 22 rfl rfl
theorem dX15_go_0 : decode cX15_go 0 = .ok (.iload_n 1, 1) := dk_27 (dk_at dksX15_go_0 0 rfl rfl)
theorem dX15_go_1 : decode cX15_go 1 = .ok (.iload_n 2, 1) := dk_28 (dk_at dksX15_go_0 1 rfl rfl)
theorem dX15_go_2 : decode cX15_go 2 = .ok (.if_icmp .le 78, 3) := dk_164 0 78 (dk_at dksX15_go_0 2 rfl rfl)
theorem dX15_go_5 : decode cX15_go 5 = .ok (.aload_n 0, 1) := dk_42 (dk_at dksX15_go_0 5 rfl rfl)
theorem dX15_go_6 : decode cX15_go 6 = .ok (.getfield 3, 3) := dk_180 0 3 (dk_at dksX15_go_0 6 rfl rfl)
theorem dX15_go_9 : decode cX15_go 9 = .ok (.getfield 39, 3) := dk_180 0 39 (dk_at dksX15_go_0 9 rfl rfl)
theorem dX15_go_12 : decode cX15_go 12 = .ok (.aload_n 0, 1) := dk_42 (dk_at dksX15_go_0 12 rfl rfl)
theorem dX15_go_13 : decode cX15_go 13 = .ok (.getfield 30, 3) := dk_180 0 30 (dk_at dksX15_go_0 13 rfl rfl)
theorem dX15_go_16 : decode cX15_go 16 = .ok (.iload_n 2, 1) := dk_28 (dk_at dksX15_go_0 16 rfl rfl)
theorem dX15_go_17 : decode cX15_go 17 = .ok (.iaload, 1) := dk_46 (dk_at dksX15_go_0 17 rfl rfl)
theorem dX15_go_18 : decode cX15_go 18 = .ok (.aload_n 0, 1) := dk_42 (dk_at dksX15_go_0 18 rfl rfl)
theorem dX15_go_19 : decode cX15_go 19 = .ok (.getfield 23, 3) := dk_180 0 23 (dk_at dksX15_go_0 19 rfl rfl)
theorem dX15_go_22 : decode cX15_go 22 = .ok (.getfield 43, 3) := dk_180 0 43 (dk_at dksX15_go_1 0 rfl rfl)
theorem dX15_go_25 : decode cX15_go 25 = .ok (.invokevirtual 46, 3) := dk_182 0 46 (dk_at dksX15_go_1 3 rfl rfl)
theorem dX15_go_28 : decode cX15_go 28 = .ok (.ifCond .ne 4, 3) := dk_154 0 4 (dk_at dksX15_go_1 6 rfl rfl)
theorem dX15_go_31 : decode cX15_go 31 = .ok (.return_, 1) := dk_177 (dk_at dksX15_go_1 9 rfl rfl)
theorem dX15_go_32 : decode cX15_go 32 = .ok (.aload_n 0, 1) := dk_42 (dk_at dksX15_go_1 10 rfl rfl)
theorem dX15_go_33 : decode cX15_go 33 = .ok (.iload_n 2, 1) := dk_28 (dk_at dksX15_go_1 11 rfl rfl)
theorem dX15_go_34 : decode cX15_go 34 = .ok (.invokevirtual 52, 3) := dk_182 0 52 (dk_at dksX15_go_1 12 rfl rfl)
theorem dX15_go_37 : decode cX15_go 37 = .ok (.istore_n 3, 1) := dk_62 (dk_at dksX15_go_1 15 rfl rfl)
theorem dX15_go_38 : decode cX15_go 38 = .ok (.iload_n 3, 1) := dk_29 (dk_at dksX15_go_1 16 rfl rfl)
theorem dX15_go_39 : decode cX15_go 39 = .ok (.iconst (-1), 1) := dk_2 (dk_at dksX15_go_1 17 rfl rfl)
theorem dX15_go_40 : decode cX15_go 40 = .ok (.if_icmp .eq 19, 3) := dk_159 0 19 (dk_at dksX15_go_1 18 rfl rfl)
theorem dX15_go_43 : decode cX15_go 43 = .ok (.aload_n 0, 1) := dk_42 (dk_at dksX15_go_1 21 rfl rfl)
theorem dX15_go_44 : decode cX15_go 44 = .ok (.getfield 15, 3) := dk_180 0 15 (dk_at dksX15_go_2 0 rfl rfl)
theorem dX15_go_47 : decode cX15_go 47 = .ok (.iconst (-1), 1) := dk_2 (dk_at dksX15_go_2 3 rfl rfl)
theorem dX15_go_48 : decode cX15_go 48 = .ok (.if_icmp .eq 12, 3) := dk_159 0 12 (dk_at dksX15_go_2 4 rfl rfl)
theorem dX15_go_51 : decode cX15_go 51 = .ok (.iload_n 3, 1) := dk_29 (dk_at dksX15_go_2 7 rfl rfl)
theorem dX15_go_52 : decode cX15_go 52 = .ok (.aload_n 0, 1) := dk_42 (dk_at dksX15_go_2 8 rfl rfl)
theorem dX15_go_53 : decode cX15_go 53 = .ok (.getfield 15, 3) := dk_180 0 15 (dk_at dksX15_go_2 9 rfl rfl)
theorem dX15_go_56 : decode cX15_go 56 = .ok (.if_icmp .lt 4, 3) := dk_161 0 4 (dk_at dksX15_go_2 12 rfl rfl)
theorem dX15_go_59 : decode cX15_go 59 = .ok (.return_, 1) := dk_177 (dk_at dksX15_go_2 15 rfl rfl)
theorem dX15_go_60 : decode cX15_go 60 = .ok (.aload_n 0, 1) := dk_42 (dk_at dksX15_go_2 16 rfl rfl)
theorem dX15_go_61 : decode cX15_go 61 = .ok (.iload_n 3, 1) := dk_29 (dk_at dksX15_go_2 17 rfl rfl)
theorem dX15_go_62 : decode cX15_go 62 = .ok (.putfield 15, 3) := dk_181 0 15 (dk_at dksX15_go_2 18 rfl rfl)
theorem dX15_go_65 : decode cX15_go 65 = .ok (.aload_n 0, 1) := dk_42 (dk_at dksX15_go_2 21 rfl rfl)
theorem dX15_go_66 : decode cX15_go 66 = .ok (.aload_n 0, 1) := dk_42 (dk_at dksX15_go_2 22 rfl rfl)
theorem dX15_go_67 : decode cX15_go 67 = .ok (.getfield 30, 3) := dk_180 0 30 (dk_at dksX15_go_3 0 rfl rfl)
theorem dX15_go_70 : decode cX15_go 70 = .ok (.iload_n 2, 1) := dk_28 (dk_at dksX15_go_3 3 rfl rfl)
theorem dX15_go_71 : decode cX15_go 71 = .ok (.iconst 1, 1) := dk_4 (dk_at dksX15_go_3 4 rfl rfl)
theorem dX15_go_72 : decode cX15_go 72 = .ok (.iadd, 1) := dk_96 (dk_at dksX15_go_3 5 rfl rfl)
theorem dX15_go_73 : decode cX15_go 73 = .ok (.invokestatic 56, 3) := dk_184 0 56 (dk_at dksX15_go_3 6 rfl rfl)
theorem dX15_go_76 : decode cX15_go 76 = .ok (.putfield 62, 3) := dk_181 0 62 (dk_at dksX15_go_3 9 rfl rfl)
theorem dX15_go_79 : decode cX15_go 79 = .ok (.return_, 1) := dk_177 (dk_at dksX15_go_3 12 rfl rfl)
theorem dX15_go_80 : decode cX15_go 80 = .ok (.iconst 0, 1) := dk_3 (dk_at dksX15_go_3 13 rfl rfl)
theorem dX15_go_81 : decode cX15_go 81 = .ok (.istore_n 3, 1) := dk_62 (dk_at dksX15_go_3 14 rfl rfl)
theorem dX15_go_82 : decode cX15_go 82 = .ok (.iload_n 3, 1) := dk_29 (dk_at dksX15_go_3 15 rfl rfl)
theorem dX15_go_83 : decode cX15_go 83 = .ok (.aload_n 0, 1) := dk_42 (dk_at dksX15_go_3 16 rfl rfl)
theorem dX15_go_84 : decode cX15_go 84 = .ok (.getfield 3, 3) := dk_180 0 3 (dk_at dksX15_go_3 17 rfl rfl)
theorem dX15_go_87 : decode cX15_go 87 = .ok (.getfield 39, 3) := dk_180 0 39 (dk_at dksX15_go_3 20 rfl rfl)
theorem dX15_go_90 : decode cX15_go 90 = .ok (.getfield 65, 3) := dk_180 0 65 (dk_at dksX15_go_4 0 rfl rfl)
theorem dX15_go_93 : decode cX15_go 93 = .ok (.if_icmp .ge 39, 3) := dk_162 0 39 (dk_at dksX15_go_4 3 rfl rfl)
theorem dX15_go_96 : decode cX15_go 96 = .ok (.iload_n 3, 1) := dk_29 (dk_at dksX15_go_4 6 rfl rfl)
theorem dX15_go_97 : decode cX15_go 97 = .ok (.aload_n 0, 1) := dk_42 (dk_at dksX15_go_4 7 rfl rfl)
theorem dX15_go_98 : decode cX15_go 98 = .ok (.getfield 30, 3) := dk_180 0 30 (dk_at dksX15_go_4 8 rfl rfl)
theorem dX15_go_101 : decode cX15_go 101 = .ok (.iload_n 1, 1) := dk_27 (dk_at dksX15_go_4 11 rfl rfl)
theorem dX15_go_102 : decode cX15_go 102 = .ok (.iconst 1, 1) := dk_4 (dk_at dksX15_go_4 12 rfl rfl)
theorem dX15_go_103 : decode cX15_go 103 = .ok (.isub, 1) := dk_100 (dk_at dksX15_go_4 13 rfl rfl)
theorem dX15_go_104 : decode cX15_go 104 = .ok (.iaload, 1) := dk_46 (dk_at dksX15_go_4 14 rfl rfl)
theorem dX15_go_105 : decode cX15_go 105 = .ok (.if_icmp .ne 6, 3) := dk_160 0 6 (dk_at dksX15_go_4 15 rfl rfl)
theorem dX15_go_108 : decode cX15_go 108 = .ok (.goto 18, 3) := dk_167 0 18 (dk_at dksX15_go_4 18 rfl rfl)
theorem dX15_go_111 : decode cX15_go 111 = .ok (.aload_n 0, 1) := dk_42 (dk_at dksX15_go_4 21 rfl rfl)
theorem dX15_go_112 : decode cX15_go 112 = .ok (.getfield 30, 3) := dk_180 0 30 (dk_at dksX15_go_5 0 rfl rfl)
theorem dX15_go_115 : decode cX15_go 115 = .ok (.iload_n 1, 1) := dk_27 (dk_at dksX15_go_5 3 rfl rfl)
theorem dX15_go_116 : decode cX15_go 116 = .ok (.iload_n 3, 1) := dk_29 (dk_at dksX15_go_5 4 rfl rfl)
theorem dX15_go_117 : decode cX15_go 117 = .ok (.iastore, 1) := dk_79 (dk_at dksX15_go_5 5 rfl rfl)
theorem dX15_go_118 : decode cX15_go 118 = .ok (.aload_n 0, 1) := dk_42 (dk_at dksX15_go_5 6 rfl rfl)
theorem dX15_go_119 : decode cX15_go 119 = .ok (.iload_n 1, 1) := dk_27 (dk_at dksX15_go_5 7 rfl rfl)
theorem dX15_go_120 : decode cX15_go 120 = .ok (.iconst 1, 1) := dk_4 (dk_at dksX15_go_5 8 rfl rfl)
theorem dX15_go_121 : decode cX15_go 121 = .ok (.iadd, 1) := dk_96 (dk_at dksX15_go_5 9 rfl rfl)
theorem dX15_go_122 : decode cX15_go 122 = .ok (.iload_n 2, 1) := dk_28 (dk_at dksX15_go_5 10 rfl rfl)
theorem dX15_go_123 : decode cX15_go 123 = .ok (.invokevirtual 68, 3) := dk_182 0 68 (dk_at dksX15_go_5 11 rfl rfl)
theorem dX15_go_126 : decode cX15_go 126 = .ok (.iinc 3 1, 3) := dk_132 3 1 (dk_at dksX15_go_5 14 rfl rfl)
theorem dX15_go_129 : decode cX15_go 129 = .ok (.goto (-47), 3) := dk_167 255 209 (dk_at dksX15_go_5 17 rfl rfl)
theorem dX15_go_132 : decode cX15_go 132 = .ok (.return_, 1) := dk_177 (dk_at dksX15_go_5 20 rfl rfl)
def dkwX15_works_2 : List UInt8 := [153, 0, 7, 4, 167, 0, 4, 3, 172]
abbrev dktX15_works_2 : List UInt8 := dkwX15_works_2 ++ []
def dkwX15_works_1 : List UInt8 := [42, 180, 0, 3, 180, 0, 39, 42, 180, 0, 30, 27, 46, 42, 180, 0, 23, 180, 0, 43, 182, 0, 46]
abbrev dktX15_works_1 : List UInt8 := dkwX15_works_1 ++ dktX15_works_2
def dkwX15_works_0 : List UInt8 := [42, 180, 0, 3, 180, 0, 39, 180, 0, 72, 42, 180, 0, 30, 27, 46, 50, 28, 182, 0, 75, 153, 0, 33]
abbrev dktX15_works_0 : List UInt8 := dkwX15_works_0 ++ dktX15_works_1
theorem dksX15_works_0 : cX15_works.data.toList.drop 0 = dktX15_works_0 := by decide +kernel
theorem dksX15_works_1 : cX15_works.data.toList.drop 24 = dktX15_works_1 := dk_seg dksX15_works_0 24 rfl rfl
theorem dksX15_works_2 : cX15_works.data.toList.drop 47 = dktX15_works_2 := dk_seg dksX15_works_1 23 rfl rfl
theorem dX15_works_0 : decode cX15_works 0 = .ok (.aload_n 0, 1) := dk_42 (dk_at dksX15_works_0 0 rfl rfl)
theorem dX15_works_1 : decode cX15_works 1 = .ok (.getfield 3, 3) := dk_180 0 3 (dk_at dksX15_works_0 1 rfl rfl)
theorem dX15_works_4 : decode cX15_works 4 = .ok (.getfield 39, 3) := dk_180 0 39 (dk_at dksX15_works_0 4 rfl rfl)
theorem dX15_works_7 : decode cX15_works 7 = .ok (.getfield 72, 3) := dk_180 0 72 (dk_at dksX15_works_0 7 rfl rfl)
theorem dX15_works_10 : decode cX15_works 10 = .ok (.aload_n 0, 1) := dk_42 (dk_at dksX15_works_0 10 rfl rfl)
theorem dX15_works_11 : decode cX15_works 11 = .ok (.getfield 30, 3) := dk_180 0 30 (dk_at dksX15_works_0 11 rfl rfl)
theorem dX15_works_14 : decode cX15_works 14 = .ok (.iload_n 1, 1) := dk_27 (dk_at dksX15_works_0 14 rfl rfl)
theorem dX15_works_15 : decode cX15_works 15 = .ok (.iaload, 1) := dk_46 (dk_at dksX15_works_0 15 rfl rfl)
theorem dX15_works_16 : decode cX15_works 16 = .ok (.aaload, 1) := dk_50 (dk_at dksX15_works_0 16 rfl rfl)
theorem dX15_works_17 : decode cX15_works 17 = .ok (.iload_n 2, 1) := dk_28 (dk_at dksX15_works_0 17 rfl rfl)
theorem dX15_works_18 : decode cX15_works 18 = .ok (.invokevirtual 75, 3) := dk_182 0 75 (dk_at dksX15_works_0 18 rfl rfl)
theorem dX15_works_21 : decode cX15_works 21 = .ok (.ifCond .eq 33, 3) := dk_153 0 33 (dk_at dksX15_works_0 21 rfl rfl)
theorem dX15_works_24 : decode cX15_works 24 = .ok (.aload_n 0, 1) := dk_42 (dk_at dksX15_works_1 0 rfl rfl)
theorem dX15_works_25 : decode cX15_works 25 = .ok (.getfield 3, 3) := dk_180 0 3 (dk_at dksX15_works_1 1 rfl rfl)
theorem dX15_works_28 : decode cX15_works 28 = .ok (.getfield 39, 3) := dk_180 0 39 (dk_at dksX15_works_1 4 rfl rfl)
theorem dX15_works_31 : decode cX15_works 31 = .ok (.aload_n 0, 1) := dk_42 (dk_at dksX15_works_1 7 rfl rfl)
theorem dX15_works_32 : decode cX15_works 32 = .ok (.getfield 30, 3) := dk_180 0 30 (dk_at dksX15_works_1 8 rfl rfl)
theorem dX15_works_35 : decode cX15_works 35 = .ok (.iload_n 1, 1) := dk_27 (dk_at dksX15_works_1 11 rfl rfl)
theorem dX15_works_36 : decode cX15_works 36 = .ok (.iaload, 1) := dk_46 (dk_at dksX15_works_1 12 rfl rfl)
theorem dX15_works_37 : decode cX15_works 37 = .ok (.aload_n 0, 1) := dk_42 (dk_at dksX15_works_1 13 rfl rfl)
theorem dX15_works_38 : decode cX15_works 38 = .ok (.getfield 23, 3) := dk_180 0 23 (dk_at dksX15_works_1 14 rfl rfl)
theorem dX15_works_41 : decode cX15_works 41 = .ok (.getfield 43, 3) := dk_180 0 43 (dk_at dksX15_works_1 17 rfl rfl)
theorem dX15_works_44 : decode cX15_works 44 = .ok (.invokevirtual 46, 3) := dk_182 0 46 (dk_at dksX15_works_1 20 rfl rfl)
theorem dX15_works_47 : decode cX15_works 47 = .ok (.ifCond .eq 7, 3) := dk_153 0 7 (dk_at dksX15_works_2 0 rfl rfl)
theorem dX15_works_50 : decode cX15_works 50 = .ok (.iconst 1, 1) := dk_4 (dk_at dksX15_works_2 3 rfl rfl)
theorem dX15_works_51 : decode cX15_works 51 = .ok (.goto 4, 3) := dk_167 0 4 (dk_at dksX15_works_2 4 rfl rfl)
theorem dX15_works_54 : decode cX15_works 54 = .ok (.iconst 0, 1) := dk_3 (dk_at dksX15_works_2 7 rfl rfl)
theorem dX15_works_55 : decode cX15_works 55 = .ok (.ireturn, 1) := dk_172 (dk_at dksX15_works_2 8 rfl rfl)
def dkwX15_lost_1 : List UInt8 := [182, 0, 81, 172]
abbrev dktX15_lost_1 : List UInt8 := dkwX15_lost_1 ++ []
def dkwX15_lost_0 : List UInt8 := [42, 180, 0, 3, 180, 0, 39, 42, 180, 0, 30, 27, 46, 42, 180, 0, 30, 27, 4, 96, 46, 28]
abbrev dktX15_lost_0 : List UInt8 := dkwX15_lost_0 ++ dktX15_lost_1
theorem dksX15_lost_0 : cX15_lost.data.toList.drop 0 = dktX15_lost_0 := by decide +kernel
theorem dksX15_lost_1 : cX15_lost.data.toList.drop 22 = dktX15_lost_1 := dk_seg dksX15_lost_0 22 rfl rfl
theorem dX15_lost_0 : decode cX15_lost 0 = .ok (.aload_n 0, 1) := dk_42 (dk_at dksX15_lost_0 0 rfl rfl)
theorem dX15_lost_1 : decode cX15_lost 1 = .ok (.getfield 3, 3) := dk_180 0 3 (dk_at dksX15_lost_0 1 rfl rfl)
theorem dX15_lost_4 : decode cX15_lost 4 = .ok (.getfield 39, 3) := dk_180 0 39 (dk_at dksX15_lost_0 4 rfl rfl)
theorem dX15_lost_7 : decode cX15_lost 7 = .ok (.aload_n 0, 1) := dk_42 (dk_at dksX15_lost_0 7 rfl rfl)
theorem dX15_lost_8 : decode cX15_lost 8 = .ok (.getfield 30, 3) := dk_180 0 30 (dk_at dksX15_lost_0 8 rfl rfl)
theorem dX15_lost_11 : decode cX15_lost 11 = .ok (.iload_n 1, 1) := dk_27 (dk_at dksX15_lost_0 11 rfl rfl)
theorem dX15_lost_12 : decode cX15_lost 12 = .ok (.iaload, 1) := dk_46 (dk_at dksX15_lost_0 12 rfl rfl)
theorem dX15_lost_13 : decode cX15_lost 13 = .ok (.aload_n 0, 1) := dk_42 (dk_at dksX15_lost_0 13 rfl rfl)
theorem dX15_lost_14 : decode cX15_lost 14 = .ok (.getfield 30, 3) := dk_180 0 30 (dk_at dksX15_lost_0 14 rfl rfl)
theorem dX15_lost_17 : decode cX15_lost 17 = .ok (.iload_n 1, 1) := dk_27 (dk_at dksX15_lost_0 17 rfl rfl)
theorem dX15_lost_18 : decode cX15_lost 18 = .ok (.iconst 1, 1) := dk_4 (dk_at dksX15_lost_0 18 rfl rfl)
theorem dX15_lost_19 : decode cX15_lost 19 = .ok (.iadd, 1) := dk_96 (dk_at dksX15_lost_0 19 rfl rfl)
theorem dX15_lost_20 : decode cX15_lost 20 = .ok (.iaload, 1) := dk_46 (dk_at dksX15_lost_0 20 rfl rfl)
theorem dX15_lost_21 : decode cX15_lost 21 = .ok (.iload_n 2, 1) := dk_28 (dk_at dksX15_lost_0 21 rfl rfl)
theorem dX15_lost_22 : decode cX15_lost 22 = .ok (.invokevirtual 81, 3) := dk_182 0 81 (dk_at dksX15_lost_1 0 rfl rfl)
theorem dX15_lost_25 : decode cX15_lost 25 = .ok (.ireturn, 1) := dk_172 (dk_at dksX15_lost_1 3 rfl rfl)
def dkwX15_tellRow_2 : List UInt8 := [132, 1, 1, 167, 255, 230, 177]
abbrev dktX15_tellRow_2 : List UInt8 := dkwX15_tellRow_2 ++ []
def dkwX15_tellRow_1 : List UInt8 := [60, 27, 42, 180, 0, 62, 190, 162, 0, 23, 42, 180, 0, 3, 42, 180, 0, 62, 27, 46, 133, 182, 0, 88]
abbrev dktX15_tellRow_1 : List UInt8 := dkwX15_tellRow_1 ++ dktX15_tellRow_2
def dkwX15_tellRow_0 : List UInt8 := [42, 180, 0, 3, 3, 181, 0, 85, 42, 180, 0, 3, 42, 180, 0, 62, 190, 4, 100, 133, 182, 0, 88, 4]
abbrev dktX15_tellRow_0 : List UInt8 := dkwX15_tellRow_0 ++ dktX15_tellRow_1
theorem dksX15_tellRow_0 : cX15_tellRow.data.toList.drop 0 = dktX15_tellRow_0 := by decide +kernel
theorem dksX15_tellRow_1 : cX15_tellRow.data.toList.drop 24 = dktX15_tellRow_1 := dk_seg dksX15_tellRow_0 24 rfl rfl
theorem dksX15_tellRow_2 : cX15_tellRow.data.toList.drop 48 = dktX15_tellRow_2 := dk_seg dksX15_tellRow_1 24 rfl rfl
theorem dX15_tellRow_0 : decode cX15_tellRow 0 = .ok (.aload_n 0, 1) := dk_42 (dk_at dksX15_tellRow_0 0 rfl rfl)
theorem dX15_tellRow_1 : decode cX15_tellRow 1 = .ok (.getfield 3, 3) := dk_180 0 3 (dk_at dksX15_tellRow_0 1 rfl rfl)
theorem dX15_tellRow_4 : decode cX15_tellRow 4 = .ok (.iconst 0, 1) := dk_3 (dk_at dksX15_tellRow_0 4 rfl rfl)
theorem dX15_tellRow_5 : decode cX15_tellRow 5 = .ok (.putfield 85, 3) := dk_181 0 85 (dk_at dksX15_tellRow_0 5 rfl rfl)
theorem dX15_tellRow_8 : decode cX15_tellRow 8 = .ok (.aload_n 0, 1) := dk_42 (dk_at dksX15_tellRow_0 8 rfl rfl)
theorem dX15_tellRow_9 : decode cX15_tellRow 9 = .ok (.getfield 3, 3) := dk_180 0 3 (dk_at dksX15_tellRow_0 9 rfl rfl)
theorem dX15_tellRow_12 : decode cX15_tellRow 12 = .ok (.aload_n 0, 1) := dk_42 (dk_at dksX15_tellRow_0 12 rfl rfl)
theorem dX15_tellRow_13 : decode cX15_tellRow 13 = .ok (.getfield 62, 3) := dk_180 0 62 (dk_at dksX15_tellRow_0 13 rfl rfl)
theorem dX15_tellRow_16 : decode cX15_tellRow 16 = .ok (.arraylength, 1) := dk_190 (dk_at dksX15_tellRow_0 16 rfl rfl)
theorem dX15_tellRow_17 : decode cX15_tellRow 17 = .ok (.iconst 1, 1) := dk_4 (dk_at dksX15_tellRow_0 17 rfl rfl)
theorem dX15_tellRow_18 : decode cX15_tellRow 18 = .ok (.isub, 1) := dk_100 (dk_at dksX15_tellRow_0 18 rfl rfl)
theorem dX15_tellRow_19 : decode cX15_tellRow 19 = .ok (.i2l, 1) := dk_133 (dk_at dksX15_tellRow_0 19 rfl rfl)
theorem dX15_tellRow_20 : decode cX15_tellRow 20 = .ok (.invokevirtual 88, 3) := dk_182 0 88 (dk_at dksX15_tellRow_0 20 rfl rfl)
theorem dX15_tellRow_23 : decode cX15_tellRow 23 = .ok (.iconst 1, 1) := dk_4 (dk_at dksX15_tellRow_0 23 rfl rfl)
theorem dX15_tellRow_24 : decode cX15_tellRow 24 = .ok (.istore_n 1, 1) := dk_60 (dk_at dksX15_tellRow_1 0 rfl rfl)
theorem dX15_tellRow_25 : decode cX15_tellRow 25 = .ok (.iload_n 1, 1) := dk_27 (dk_at dksX15_tellRow_1 1 rfl rfl)
theorem dX15_tellRow_26 : decode cX15_tellRow 26 = .ok (.aload_n 0, 1) := dk_42 (dk_at dksX15_tellRow_1 2 rfl rfl)
theorem dX15_tellRow_27 : decode cX15_tellRow 27 = .ok (.getfield 62, 3) := dk_180 0 62 (dk_at dksX15_tellRow_1 3 rfl rfl)
theorem dX15_tellRow_30 : decode cX15_tellRow 30 = .ok (.arraylength, 1) := dk_190 (dk_at dksX15_tellRow_1 6 rfl rfl)
theorem dX15_tellRow_31 : decode cX15_tellRow 31 = .ok (.if_icmp .ge 23, 3) := dk_162 0 23 (dk_at dksX15_tellRow_1 7 rfl rfl)
theorem dX15_tellRow_34 : decode cX15_tellRow 34 = .ok (.aload_n 0, 1) := dk_42 (dk_at dksX15_tellRow_1 10 rfl rfl)
theorem dX15_tellRow_35 : decode cX15_tellRow 35 = .ok (.getfield 3, 3) := dk_180 0 3 (dk_at dksX15_tellRow_1 11 rfl rfl)
theorem dX15_tellRow_38 : decode cX15_tellRow 38 = .ok (.aload_n 0, 1) := dk_42 (dk_at dksX15_tellRow_1 14 rfl rfl)
theorem dX15_tellRow_39 : decode cX15_tellRow 39 = .ok (.getfield 62, 3) := dk_180 0 62 (dk_at dksX15_tellRow_1 15 rfl rfl)
theorem dX15_tellRow_42 : decode cX15_tellRow 42 = .ok (.iload_n 1, 1) := dk_27 (dk_at dksX15_tellRow_1 18 rfl rfl)
theorem dX15_tellRow_43 : decode cX15_tellRow 43 = .ok (.iaload, 1) := dk_46 (dk_at dksX15_tellRow_1 19 rfl rfl)
theorem dX15_tellRow_44 : decode cX15_tellRow 44 = .ok (.i2l, 1) := dk_133 (dk_at dksX15_tellRow_1 20 rfl rfl)
theorem dX15_tellRow_45 : decode cX15_tellRow 45 = .ok (.invokevirtual 88, 3) := dk_182 0 88 (dk_at dksX15_tellRow_1 21 rfl rfl)
theorem dX15_tellRow_48 : decode cX15_tellRow 48 = .ok (.iinc 1 1, 3) := dk_132 1 1 (dk_at dksX15_tellRow_2 0 rfl rfl)
theorem dX15_tellRow_51 : decode cX15_tellRow 51 = .ok (.goto (-26), 3) := dk_167 255 230 (dk_at dksX15_tellRow_2 3 rfl rfl)
theorem dX15_tellRow_54 : decode cX15_tellRow 54 = .ok (.return_, 1) := dk_177 (dk_at dksX15_tellRow_2 6 rfl rfl)
def dkwX16_init_0 : List UInt8 := [42, 43, 181, 0, 3, 42, 43, 28, 29, 21, 4, 183, 0, 9, 177]
abbrev dktX16_init_0 : List UInt8 := dkwX16_init_0 ++ []
theorem dksX16_init_0 : cX16_init.data.toList.drop 0 = dktX16_init_0 := by decide +kernel
theorem dX16_init_0 : decode cX16_init 0 = .ok (.aload_n 0, 1) := dk_42 (dk_at dksX16_init_0 0 rfl rfl)
theorem dX16_init_1 : decode cX16_init 1 = .ok (.aload_n 1, 1) := dk_43 (dk_at dksX16_init_0 1 rfl rfl)
theorem dX16_init_2 : decode cX16_init 2 = .ok (.putfield 3, 3) := dk_181 0 3 (dk_at dksX16_init_0 2 rfl rfl)
theorem dX16_init_5 : decode cX16_init 5 = .ok (.aload_n 0, 1) := dk_42 (dk_at dksX16_init_0 5 rfl rfl)
theorem dX16_init_6 : decode cX16_init 6 = .ok (.aload_n 1, 1) := dk_43 (dk_at dksX16_init_0 6 rfl rfl)
theorem dX16_init_7 : decode cX16_init 7 = .ok (.iload_n 2, 1) := dk_28 (dk_at dksX16_init_0 7 rfl rfl)
theorem dX16_init_8 : decode cX16_init 8 = .ok (.iload_n 3, 1) := dk_29 (dk_at dksX16_init_0 8 rfl rfl)
theorem dX16_init_9 : decode cX16_init 9 = .ok (.iload 4, 2) := dk_21 4 (dk_at dksX16_init_0 9 rfl rfl)
theorem dX16_init_11 : decode cX16_init 11 = .ok (.invokespecial 9, 3) := dk_183 0 9 (dk_at dksX16_init_0 11 rfl rfl)
theorem dX16_init_14 : decode cX16_init 14 = .ok (.return_, 1) := dk_177 (dk_at dksX16_init_0 14 rfl rfl)
def dkwX16_worth_7 : List UInt8 := [184, 0, 36, 79, 132, 4, 255, 167, 255, 198, 132, 3, 1, 167, 255, 122, 2, 172]
abbrev dktX16_worth_7 : List UInt8 := dkwX16_worth_7 ++ []
def dkwX16_worth_6 : List UInt8 := [44, 21, 4, 46, 44, 21, 4, 4, 100, 46, 42, 21, 4, 4, 100, 29, 4, 96, 182, 0, 32, 96]
abbrev dktX16_worth_6 : List UInt8 := dkwX16_worth_6 ++ dktX16_worth_7
def dkwX16_worth_5 : List UInt8 := [44, 21, 4, 4, 100, 46, 17, 39, 15, 162, 0, 41, 44, 21, 4, 4, 100, 46, 158, 0, 32, 44, 21, 4]
abbrev dktX16_worth_5 : List UInt8 := dkwX16_worth_5 ++ dktX16_worth_6
def dkwX16_worth_4 : List UInt8 := [132, 4, 1, 167, 255, 212, 44, 27, 46, 154, 0, 7, 29, 4, 96, 172, 27, 54, 4, 21, 4, 158, 0, 59]
abbrev dktX16_worth_4 : List UInt8 := dkwX16_worth_4 ++ dktX16_worth_5
def dkwX16_worth_3 : List UInt8 := [21, 4, 46, 158, 0, 21, 42, 21, 4, 29, 182, 0, 28, 153, 0, 11, 44, 21, 4, 92, 46, 4, 100, 79]
abbrev dktX16_worth_3 : List UInt8 := dkwX16_worth_3 ++ dktX16_worth_4
def dkwX16_worth_2 : List UInt8 := [162, 0, 133, 3, 54, 4, 21, 4, 27, 163, 0, 44, 44, 21, 4, 46, 17, 39, 15, 162, 0, 28, 44]
abbrev dktX16_worth_2 : List UInt8 := dkwX16_worth_2 ++ dktX16_worth_3
def dkwX16_worth_1 : List UInt8 := [167, 255, 242, 44, 3, 42, 180, 0, 15, 180, 0, 19, 79, 42, 180, 0, 25, 62, 29, 17, 9, 95]
abbrev dktX16_worth_1 : List UInt8 := dkwX16_worth_1 ++ dktX16_worth_2
def dkwX16_worth_0 : List UInt8 := [27, 4, 96, 188, 10, 77, 4, 62, 29, 27, 163, 0, 15, 44, 29, 17, 39, 15, 79, 132, 3, 1]
abbrev dktX16_worth_0 : List UInt8 := dkwX16_worth_0 ++ dktX16_worth_1
theorem dksX16_worth_0 : cX16_worth.data.toList.drop 0 = dktX16_worth_0 := by decide +kernel
theorem dksX16_worth_1 : cX16_worth.data.toList.drop 22 = dktX16_worth_1 := dk_seg dksX16_worth_0 22 rfl rfl
theorem dksX16_worth_2 : cX16_worth.data.toList.drop 44 = dktX16_worth_2 := dk_seg dksX16_worth_1 22 rfl rfl
theorem dksX16_worth_3 : cX16_worth.data.toList.drop 67 = dktX16_worth_3 := dk_seg dksX16_worth_2 23 rfl rfl
theorem dksX16_worth_4 : cX16_worth.data.toList.drop 91 = dktX16_worth_4 := dk_seg dksX16_worth_3 24 rfl rfl
theorem dksX16_worth_5 : cX16_worth.data.toList.drop 115 = dktX16_worth_5 := dk_seg dksX16_worth_4 24 rfl rfl
theorem dksX16_worth_6 : cX16_worth.data.toList.drop 139 = dktX16_worth_6 := dk_seg dksX16_worth_5 24 rfl rfl
theorem dksX16_worth_7 : cX16_worth.data.toList.drop 161 = dktX16_worth_7 := dk_seg dksX16_worth_6 22 rfl rfl
theorem dX16_worth_0 : decode cX16_worth 0 = .ok (.iload_n 1, 1) := dk_27 (dk_at dksX16_worth_0 0 rfl rfl)
theorem dX16_worth_1 : decode cX16_worth 1 = .ok (.iconst 1, 1) := dk_4 (dk_at dksX16_worth_0 1 rfl rfl)
theorem dX16_worth_2 : decode cX16_worth 2 = .ok (.iadd, 1) := dk_96 (dk_at dksX16_worth_0 2 rfl rfl)
theorem dX16_worth_3 : decode cX16_worth 3 = .ok (.newarray .int, 2) := dk_188_10 (dk_at dksX16_worth_0 3 rfl rfl)
theorem dX16_worth_5 : decode cX16_worth 5 = .ok (.astore_n 2, 1) := dk_77 (dk_at dksX16_worth_0 5 rfl rfl)
theorem dX16_worth_6 : decode cX16_worth 6 = .ok (.iconst 1, 1) := dk_4 (dk_at dksX16_worth_0 6 rfl rfl)
theorem dX16_worth_7 : decode cX16_worth 7 = .ok (.istore_n 3, 1) := dk_62 (dk_at dksX16_worth_0 7 rfl rfl)
theorem dX16_worth_8 : decode cX16_worth 8 = .ok (.iload_n 3, 1) := dk_29 (dk_at dksX16_worth_0 8 rfl rfl)
theorem dX16_worth_9 : decode cX16_worth 9 = .ok (.iload_n 1, 1) := dk_27 (dk_at dksX16_worth_0 9 rfl rfl)
theorem dX16_worth_10 : decode cX16_worth 10 = .ok (.if_icmp .gt 15, 3) := dk_163 0 15 (dk_at dksX16_worth_0 10 rfl rfl)
theorem dX16_worth_13 : decode cX16_worth 13 = .ok (.aload_n 2, 1) := dk_44 (dk_at dksX16_worth_0 13 rfl rfl)
theorem dX16_worth_14 : decode cX16_worth 14 = .ok (.iload_n 3, 1) := dk_29 (dk_at dksX16_worth_0 14 rfl rfl)
theorem dX16_worth_15 : decode cX16_worth 15 = .ok (.sipush 9999, 3) := dk_17 39 15 (dk_at dksX16_worth_0 15 rfl rfl)
theorem dX16_worth_18 : decode cX16_worth 18 = .ok (.iastore, 1) := dk_79 (dk_at dksX16_worth_0 18 rfl rfl)
theorem dX16_worth_19 : decode cX16_worth 19 = .ok (.iinc 3 1, 3) := dk_132 3 1 (dk_at dksX16_worth_0 19 rfl rfl)
theorem dX16_worth_22 : decode cX16_worth 22 = .ok (.goto (-14), 3) := dk_167 255 242 (dk_at dksX16_worth_1 0 rfl rfl)
theorem dX16_worth_25 : decode cX16_worth 25 = .ok (.aload_n 2, 1) := dk_44 (dk_at dksX16_worth_1 3 rfl rfl)
theorem dX16_worth_26 : decode cX16_worth 26 = .ok (.iconst 0, 1) := dk_3 (dk_at dksX16_worth_1 4 rfl rfl)
theorem dX16_worth_27 : decode cX16_worth 27 = .ok (.aload_n 0, 1) := dk_42 (dk_at dksX16_worth_1 5 rfl rfl)
theorem dX16_worth_28 : decode cX16_worth 28 = .ok (.getfield 15, 3) := dk_180 0 15 (dk_at dksX16_worth_1 6 rfl rfl)
theorem dX16_worth_31 : decode cX16_worth 31 = .ok (.getfield 19, 3) := dk_180 0 19 (dk_at dksX16_worth_1 9 rfl rfl)
theorem dX16_worth_34 : decode cX16_worth 34 = .ok (.iastore, 1) := dk_79 (dk_at dksX16_worth_1 12 rfl rfl)
theorem dX16_worth_35 : decode cX16_worth 35 = .ok (.aload_n 0, 1) := dk_42 (dk_at dksX16_worth_1 13 rfl rfl)
theorem dX16_worth_36 : decode cX16_worth 36 = .ok (.getfield 25, 3) := dk_180 0 25 (dk_at dksX16_worth_1 14 rfl rfl)
theorem dX16_worth_39 : decode cX16_worth 39 = .ok (.istore_n 3, 1) := dk_62 (dk_at dksX16_worth_1 17 rfl rfl)
theorem dX16_worth_40 : decode cX16_worth 40 = .ok (.iload_n 3, 1) := dk_29 (dk_at dksX16_worth_1 18 rfl rfl)
theorem dX16_worth_41 : decode cX16_worth 41 = .ok (.sipush 2399, 3) := dk_17 9 95 (dk_at dksX16_worth_1 19 rfl rfl)
theorem dX16_worth_44 : decode cX16_worth 44 = .ok (.if_icmp .ge 133, 3) := dk_162 0 133 (dk_at dksX16_worth_2 0 rfl rfl)
theorem dX16_worth_47 : decode cX16_worth 47 = .ok (.iconst 0, 1) := dk_3 (dk_at dksX16_worth_2 3 rfl rfl)
theorem dX16_worth_48 : decode cX16_worth 48 = .ok (.istore 4, 2) := dk_54 4 (dk_at dksX16_worth_2 4 rfl rfl)
theorem dX16_worth_50 : decode cX16_worth 50 = .ok (.iload 4, 2) := dk_21 4 (dk_at dksX16_worth_2 6 rfl rfl)
theorem dX16_worth_52 : decode cX16_worth 52 = .ok (.iload_n 1, 1) := dk_27 (dk_at dksX16_worth_2 8 rfl rfl)
theorem dX16_worth_53 : decode cX16_worth 53 = .ok (.if_icmp .gt 44, 3) := dk_163 0 44 (dk_at dksX16_worth_2 9 rfl rfl)
theorem dX16_worth_56 : decode cX16_worth 56 = .ok (.aload_n 2, 1) := dk_44 (dk_at dksX16_worth_2 12 rfl rfl)
theorem dX16_worth_57 : decode cX16_worth 57 = .ok (.iload 4, 2) := dk_21 4 (dk_at dksX16_worth_2 13 rfl rfl)
theorem dX16_worth_59 : decode cX16_worth 59 = .ok (.iaload, 1) := dk_46 (dk_at dksX16_worth_2 15 rfl rfl)
theorem dX16_worth_60 : decode cX16_worth 60 = .ok (.sipush 9999, 3) := dk_17 39 15 (dk_at dksX16_worth_2 16 rfl rfl)
theorem dX16_worth_63 : decode cX16_worth 63 = .ok (.if_icmp .ge 28, 3) := dk_162 0 28 (dk_at dksX16_worth_2 19 rfl rfl)
theorem dX16_worth_66 : decode cX16_worth 66 = .ok (.aload_n 2, 1) := dk_44 (dk_at dksX16_worth_2 22 rfl rfl)
theorem dX16_worth_67 : decode cX16_worth 67 = .ok (.iload 4, 2) := dk_21 4 (dk_at dksX16_worth_3 0 rfl rfl)
theorem dX16_worth_69 : decode cX16_worth 69 = .ok (.iaload, 1) := dk_46 (dk_at dksX16_worth_3 2 rfl rfl)
theorem dX16_worth_70 : decode cX16_worth 70 = .ok (.ifCond .le 21, 3) := dk_158 0 21 (dk_at dksX16_worth_3 3 rfl rfl)
theorem dX16_worth_73 : decode cX16_worth 73 = .ok (.aload_n 0, 1) := dk_42 (dk_at dksX16_worth_3 6 rfl rfl)
theorem dX16_worth_74 : decode cX16_worth 74 = .ok (.iload 4, 2) := dk_21 4 (dk_at dksX16_worth_3 7 rfl rfl)
theorem dX16_worth_76 : decode cX16_worth 76 = .ok (.iload_n 3, 1) := dk_29 (dk_at dksX16_worth_3 9 rfl rfl)
theorem dX16_worth_77 : decode cX16_worth 77 = .ok (.invokevirtual 28, 3) := dk_182 0 28 (dk_at dksX16_worth_3 10 rfl rfl)
theorem dX16_worth_80 : decode cX16_worth 80 = .ok (.ifCond .eq 11, 3) := dk_153 0 11 (dk_at dksX16_worth_3 13 rfl rfl)
theorem dX16_worth_83 : decode cX16_worth 83 = .ok (.aload_n 2, 1) := dk_44 (dk_at dksX16_worth_3 16 rfl rfl)
theorem dX16_worth_84 : decode cX16_worth 84 = .ok (.iload 4, 2) := dk_21 4 (dk_at dksX16_worth_3 17 rfl rfl)
theorem dX16_worth_86 : decode cX16_worth 86 = .ok (.dup2, 1) := dk_92 (dk_at dksX16_worth_3 19 rfl rfl)
theorem dX16_worth_87 : decode cX16_worth 87 = .ok (.iaload, 1) := dk_46 (dk_at dksX16_worth_3 20 rfl rfl)
theorem dX16_worth_88 : decode cX16_worth 88 = .ok (.iconst 1, 1) := dk_4 (dk_at dksX16_worth_3 21 rfl rfl)
theorem dX16_worth_89 : decode cX16_worth 89 = .ok (.isub, 1) := dk_100 (dk_at dksX16_worth_3 22 rfl rfl)
theorem dX16_worth_90 : decode cX16_worth 90 = .ok (.iastore, 1) := dk_79 (dk_at dksX16_worth_3 23 rfl rfl)
theorem dX16_worth_91 : decode cX16_worth 91 = .ok (.iinc 4 1, 3) := dk_132 4 1 (dk_at dksX16_worth_4 0 rfl rfl)
theorem dX16_worth_94 : decode cX16_worth 94 = .ok (.goto (-44), 3) := dk_167 255 212 (dk_at dksX16_worth_4 3 rfl rfl)
theorem dX16_worth_97 : decode cX16_worth 97 = .ok (.aload_n 2, 1) := dk_44 (dk_at dksX16_worth_4 6 rfl rfl)
theorem dX16_worth_98 : decode cX16_worth 98 = .ok (.iload_n 1, 1) := dk_27 (dk_at dksX16_worth_4 7 rfl rfl)
theorem dX16_worth_99 : decode cX16_worth 99 = .ok (.iaload, 1) := dk_46 (dk_at dksX16_worth_4 8 rfl rfl)
theorem dX16_worth_100 : decode cX16_worth 100 = .ok (.ifCond .ne 7, 3) := dk_154 0 7 (dk_at dksX16_worth_4 9 rfl rfl)
theorem dX16_worth_103 : decode cX16_worth 103 = .ok (.iload_n 3, 1) := dk_29 (dk_at dksX16_worth_4 12 rfl rfl)
theorem dX16_worth_104 : decode cX16_worth 104 = .ok (.iconst 1, 1) := dk_4 (dk_at dksX16_worth_4 13 rfl rfl)
theorem dX16_worth_105 : decode cX16_worth 105 = .ok (.iadd, 1) := dk_96 (dk_at dksX16_worth_4 14 rfl rfl)
theorem dX16_worth_106 : decode cX16_worth 106 = .ok (.ireturn, 1) := dk_172 (dk_at dksX16_worth_4 15 rfl rfl)
theorem dX16_worth_107 : decode cX16_worth 107 = .ok (.iload_n 1, 1) := dk_27 (dk_at dksX16_worth_4 16 rfl rfl)
theorem dX16_worth_108 : decode cX16_worth 108 = .ok (.istore 4, 2) := dk_54 4 (dk_at dksX16_worth_4 17 rfl rfl)
theorem dX16_worth_110 : decode cX16_worth 110 = .ok (.iload 4, 2) := dk_21 4 (dk_at dksX16_worth_4 19 rfl rfl)
theorem dX16_worth_112 : decode cX16_worth 112 = .ok (.ifCond .le 59, 3) := dk_158 0 59 (dk_at dksX16_worth_4 21 rfl rfl)
theorem dX16_worth_115 : decode cX16_worth 115 = .ok (.aload_n 2, 1) := dk_44 (dk_at dksX16_worth_5 0 rfl rfl)
theorem dX16_worth_116 : decode cX16_worth 116 = .ok (.iload 4, 2) := dk_21 4 (dk_at dksX16_worth_5 1 rfl rfl)
theorem dX16_worth_118 : decode cX16_worth 118 = .ok (.iconst 1, 1) := dk_4 (dk_at dksX16_worth_5 3 rfl rfl)
theorem dX16_worth_119 : decode cX16_worth 119 = .ok (.isub, 1) := dk_100 (dk_at dksX16_worth_5 4 rfl rfl)
theorem dX16_worth_120 : decode cX16_worth 120 = .ok (.iaload, 1) := dk_46 (dk_at dksX16_worth_5 5 rfl rfl)
theorem dX16_worth_121 : decode cX16_worth 121 = .ok (.sipush 9999, 3) := dk_17 39 15 (dk_at dksX16_worth_5 6 rfl rfl)
theorem dX16_worth_124 : decode cX16_worth 124 = .ok (.if_icmp .ge 41, 3) := dk_162 0 41 (dk_at dksX16_worth_5 9 rfl rfl)
theorem dX16_worth_127 : decode cX16_worth 127 = .ok (.aload_n 2, 1) := dk_44 (dk_at dksX16_worth_5 12 rfl rfl)
theorem dX16_worth_128 : decode cX16_worth 128 = .ok (.iload 4, 2) := dk_21 4 (dk_at dksX16_worth_5 13 rfl rfl)
theorem dX16_worth_130 : decode cX16_worth 130 = .ok (.iconst 1, 1) := dk_4 (dk_at dksX16_worth_5 15 rfl rfl)
theorem dX16_worth_131 : decode cX16_worth 131 = .ok (.isub, 1) := dk_100 (dk_at dksX16_worth_5 16 rfl rfl)
theorem dX16_worth_132 : decode cX16_worth 132 = .ok (.iaload, 1) := dk_46 (dk_at dksX16_worth_5 17 rfl rfl)
theorem dX16_worth_133 : decode cX16_worth 133 = .ok (.ifCond .le 32, 3) := dk_158 0 32 (dk_at dksX16_worth_5 18 rfl rfl)
theorem dX16_worth_136 : decode cX16_worth 136 = .ok (.aload_n 2, 1) := dk_44 (dk_at dksX16_worth_5 21 rfl rfl)
theorem dX16_worth_137 : decode cX16_worth 137 = .ok (.iload 4, 2) := dk_21 4 (dk_at dksX16_worth_5 22 rfl rfl)
theorem dX16_worth_139 : decode cX16_worth 139 = .ok (.aload_n 2, 1) := dk_44 (dk_at dksX16_worth_6 0 rfl rfl)
theorem dX16_worth_140 : decode cX16_worth 140 = .ok (.iload 4, 2) := dk_21 4 (dk_at dksX16_worth_6 1 rfl rfl)
theorem dX16_worth_142 : decode cX16_worth 142 = .ok (.iaload, 1) := dk_46 (dk_at dksX16_worth_6 3 rfl rfl)
theorem dX16_worth_143 : decode cX16_worth 143 = .ok (.aload_n 2, 1) := dk_44 (dk_at dksX16_worth_6 4 rfl rfl)
theorem dX16_worth_144 : decode cX16_worth 144 = .ok (.iload 4, 2) := dk_21 4 (dk_at dksX16_worth_6 5 rfl rfl)
theorem dX16_worth_146 : decode cX16_worth 146 = .ok (.iconst 1, 1) := dk_4 (dk_at dksX16_worth_6 7 rfl rfl)
theorem dX16_worth_147 : decode cX16_worth 147 = .ok (.isub, 1) := dk_100 (dk_at dksX16_worth_6 8 rfl rfl)
theorem dX16_worth_148 : decode cX16_worth 148 = .ok (.iaload, 1) := dk_46 (dk_at dksX16_worth_6 9 rfl rfl)
theorem dX16_worth_149 : decode cX16_worth 149 = .ok (.aload_n 0, 1) := dk_42 (dk_at dksX16_worth_6 10 rfl rfl)
theorem dX16_worth_150 : decode cX16_worth 150 = .ok (.iload 4, 2) := dk_21 4 (dk_at dksX16_worth_6 11 rfl rfl)
theorem dX16_worth_152 : decode cX16_worth 152 = .ok (.iconst 1, 1) := dk_4 (dk_at dksX16_worth_6 13 rfl rfl)
theorem dX16_worth_153 : decode cX16_worth 153 = .ok (.isub, 1) := dk_100 (dk_at dksX16_worth_6 14 rfl rfl)
theorem dX16_worth_154 : decode cX16_worth 154 = .ok (.iload_n 3, 1) := dk_29 (dk_at dksX16_worth_6 15 rfl rfl)
theorem dX16_worth_155 : decode cX16_worth 155 = .ok (.iconst 1, 1) := dk_4 (dk_at dksX16_worth_6 16 rfl rfl)
theorem dX16_worth_156 : decode cX16_worth 156 = .ok (.iadd, 1) := dk_96 (dk_at dksX16_worth_6 17 rfl rfl)
theorem dX16_worth_157 : decode cX16_worth 157 = .ok (.invokevirtual 32, 3) := dk_182 0 32 (dk_at dksX16_worth_6 18 rfl rfl)
theorem dX16_worth_160 : decode cX16_worth 160 = .ok (.iadd, 1) := dk_96 (dk_at dksX16_worth_6 21 rfl rfl)
theorem dX16_worth_161 : decode cX16_worth 161 = .ok (.invokestatic 36, 3) := dk_184 0 36 (dk_at dksX16_worth_7 0 rfl rfl)
theorem dX16_worth_164 : decode cX16_worth 164 = .ok (.iastore, 1) := dk_79 (dk_at dksX16_worth_7 3 rfl rfl)
theorem dX16_worth_165 : decode cX16_worth 165 = .ok (.iinc 4 (-1), 3) := dk_132 4 255 (dk_at dksX16_worth_7 4 rfl rfl)
theorem dX16_worth_168 : decode cX16_worth 168 = .ok (.goto (-58), 3) := dk_167 255 198 (dk_at dksX16_worth_7 7 rfl rfl)
theorem dX16_worth_171 : decode cX16_worth 171 = .ok (.iinc 3 1, 3) := dk_132 3 1 (dk_at dksX16_worth_7 10 rfl rfl)
theorem dX16_worth_174 : decode cX16_worth 174 = .ok (.goto (-134), 3) := dk_167 255 122 (dk_at dksX16_worth_7 13 rfl rfl)
theorem dX16_worth_177 : decode cX16_worth 177 = .ok (.iconst (-1), 1) := dk_2 (dk_at dksX16_worth_7 16 rfl rfl)
theorem dX16_worth_178 : decode cX16_worth 178 = .ok (.ireturn, 1) := dk_172 (dk_at dksX16_worth_7 17 rfl rfl)
def dkwX17_worth_12 : List UInt8 := [167, 0, 4, 29, 172]
abbrev dktX17_worth_12 : List UInt8 := dkwX17_worth_12 ++ []
def dkwX17_worth_11 : List UInt8 := [167, 255, 211, 132, 5, 255, 167, 255, 183, 132, 4, 1, 167, 255, 56, 29, 18, 21, 160, 0, 7, 2]
abbrev dktX17_worth_11 : List UInt8 := dkwX17_worth_11 ++ dktX17_worth_12
def dkwX17_worth_10 : List UInt8 := [21, 7, 21, 6, 96, 46, 44, 21, 5, 4, 100, 50, 21, 7, 46, 184, 0, 62, 79, 132, 7, 1]
abbrev dktX17_worth_10 : List UInt8 := dkwX17_worth_10 ++ dktX17_worth_11
def dkwX17_worth_9 : List UInt8 := [21, 7, 21, 6, 96, 16, 105, 162, 0, 41, 44, 21, 5, 50, 21, 7, 21, 6, 96, 44, 21, 5, 50]
abbrev dktX17_worth_9 : List UInt8 := dkwX17_worth_9 ++ dktX17_worth_10
def dkwX17_worth_8 : List UInt8 := [54, 5, 21, 5, 158, 0, 74, 42, 21, 5, 4, 100, 21, 4, 4, 96, 182, 0, 68, 54, 6, 4, 54, 7]
abbrev dktX17_worth_8 : List UInt8 := dkwX17_worth_8 ++ dktX17_worth_9
def dkwX17_worth_7 : List UInt8 := [132, 7, 1, 167, 255, 215, 132, 5, 1, 167, 255, 163, 29, 44, 27, 50, 3, 46, 184, 0, 62, 62, 27]
abbrev dktX17_worth_7 : List UInt8 := dkwX17_worth_7 ++ dktX17_worth_8
def dkwX17_worth_6 : List UInt8 := [21, 5, 50, 21, 7, 4, 100, 46, 44, 21, 5, 50, 21, 7, 46, 21, 6, 96, 184, 0, 62, 79]
abbrev dktX17_worth_6 : List UInt8 := dkwX17_worth_6 ++ dktX17_worth_7
def dkwX17_worth_5 : List UInt8 := [180, 0, 57, 54, 6, 4, 54, 7, 21, 7, 16, 105, 162, 0, 40, 44, 21, 5, 50, 21, 7, 4, 100, 44]
abbrev dktX17_worth_5 : List UInt8 := dkwX17_worth_5 ++ dktX17_worth_6
def dkwX17_worth_4 : List UInt8 := [154, 0, 6, 167, 0, 73, 42, 180, 0, 3, 180, 0, 44, 180, 0, 48, 42, 180, 0, 54, 21, 5, 46, 50]
abbrev dktX17_worth_4 : List UInt8 := dkwX17_worth_4 ++ dktX17_worth_5
def dkwX17_worth_3 : List UInt8 := [180, 0, 15, 162, 0, 197, 3, 54, 5, 21, 5, 27, 163, 0, 93, 42, 21, 5, 21, 4, 182, 0, 40]
abbrev dktX17_worth_3 : List UInt8 := dkwX17_worth_3 ++ dktX17_worth_4
def dkwX17_worth_2 : List UInt8 := [50, 42, 180, 0, 28, 180, 0, 32, 3, 79, 18, 21, 62, 42, 180, 0, 37, 54, 4, 21, 4, 42]
abbrev dktX17_worth_2 : List UInt8 := dkwX17_worth_2 ++ dktX17_worth_3
def dkwX17_worth_1 : List UInt8 := [162, 0, 22, 45, 21, 5, 50, 58, 6, 25, 6, 18, 21, 184, 0, 22, 132, 5, 1, 167, 255, 233, 44, 3]
abbrev dktX17_worth_1 : List UInt8 := dkwX17_worth_1 ++ dktX17_worth_2
def dkwX17_worth_0 : List UInt8 := [27, 4, 96, 16, 105, 197, 0, 19, 2, 77, 44, 78, 45, 190, 54, 4, 3, 54, 5, 21, 5, 21, 4]
abbrev dktX17_worth_0 : List UInt8 := dkwX17_worth_0 ++ dktX17_worth_1
theorem dksX17_worth_0 : cX17_worth.data.toList.drop 0 = dktX17_worth_0 := by decide +kernel
theorem dksX17_worth_1 : cX17_worth.data.toList.drop 23 = dktX17_worth_1 := dk_seg dksX17_worth_0 23 rfl rfl
theorem dksX17_worth_2 : cX17_worth.data.toList.drop 47 = dktX17_worth_2 := dk_seg dksX17_worth_1 24 rfl rfl
theorem dksX17_worth_3 : cX17_worth.data.toList.drop 69 = dktX17_worth_3 := dk_seg dksX17_worth_2 22 rfl rfl
theorem dksX17_worth_4 : cX17_worth.data.toList.drop 92 = dktX17_worth_4 := dk_seg dksX17_worth_3 23 rfl rfl
theorem dksX17_worth_5 : cX17_worth.data.toList.drop 116 = dktX17_worth_5 := dk_seg dksX17_worth_4 24 rfl rfl
theorem dksX17_worth_6 : cX17_worth.data.toList.drop 140 = dktX17_worth_6 := dk_seg dksX17_worth_5 24 rfl rfl
theorem dksX17_worth_7 : cX17_worth.data.toList.drop 162 = dktX17_worth_7 := dk_seg dksX17_worth_6 22 rfl rfl
theorem dksX17_worth_8 : cX17_worth.data.toList.drop 185 = dktX17_worth_8 := dk_seg dksX17_worth_7 23 rfl rfl
theorem dksX17_worth_9 : cX17_worth.data.toList.drop 209 = dktX17_worth_9 := dk_seg dksX17_worth_8 24 rfl rfl
theorem dksX17_worth_10 : cX17_worth.data.toList.drop 232 = dktX17_worth_10 := dk_seg dksX17_worth_9 23 rfl rfl
theorem dksX17_worth_11 : cX17_worth.data.toList.drop 254 = dktX17_worth_11 := dk_seg dksX17_worth_10 22 rfl rfl
theorem dksX17_worth_12 : cX17_worth.data.toList.drop 276 = dktX17_worth_12 := dk_seg dksX17_worth_11 22 rfl rfl
theorem dX17_worth_0 : decode cX17_worth 0 = .ok (.iload_n 1, 1) := dk_27 (dk_at dksX17_worth_0 0 rfl rfl)
theorem dX17_worth_1 : decode cX17_worth 1 = .ok (.iconst 1, 1) := dk_4 (dk_at dksX17_worth_0 1 rfl rfl)
theorem dX17_worth_2 : decode cX17_worth 2 = .ok (.iadd, 1) := dk_96 (dk_at dksX17_worth_0 2 rfl rfl)
theorem dX17_worth_3 : decode cX17_worth 3 = .ok (.bipush 105, 2) := dk_16 105 (dk_at dksX17_worth_0 3 rfl rfl)
theorem dX17_worth_5 : decode cX17_worth 5 = .ok (.multianewarray 19 2, 4) := by decide +kernel
theorem dX17_worth_9 : decode cX17_worth 9 = .ok (.astore_n 2, 1) := dk_77 (dk_at dksX17_worth_0 9 rfl rfl)
theorem dX17_worth_10 : decode cX17_worth 10 = .ok (.aload_n 2, 1) := dk_44 (dk_at dksX17_worth_0 10 rfl rfl)
theorem dX17_worth_11 : decode cX17_worth 11 = .ok (.astore_n 3, 1) := dk_78 (dk_at dksX17_worth_0 11 rfl rfl)
theorem dX17_worth_12 : decode cX17_worth 12 = .ok (.aload_n 3, 1) := dk_45 (dk_at dksX17_worth_0 12 rfl rfl)
theorem dX17_worth_13 : decode cX17_worth 13 = .ok (.arraylength, 1) := dk_190 (dk_at dksX17_worth_0 13 rfl rfl)
theorem dX17_worth_14 : decode cX17_worth 14 = .ok (.istore 4, 2) := dk_54 4 (dk_at dksX17_worth_0 14 rfl rfl)
theorem dX17_worth_16 : decode cX17_worth 16 = .ok (.iconst 0, 1) := dk_3 (dk_at dksX17_worth_0 16 rfl rfl)
theorem dX17_worth_17 : decode cX17_worth 17 = .ok (.istore 5, 2) := dk_54 5 (dk_at dksX17_worth_0 17 rfl rfl)
theorem dX17_worth_19 : decode cX17_worth 19 = .ok (.iload 5, 2) := dk_21 5 (dk_at dksX17_worth_0 19 rfl rfl)
theorem dX17_worth_21 : decode cX17_worth 21 = .ok (.iload 4, 2) := dk_21 4 (dk_at dksX17_worth_0 21 rfl rfl)
theorem dX17_worth_23 : decode cX17_worth 23 = .ok (.if_icmp .ge 22, 3) := dk_162 0 22 (dk_at dksX17_worth_1 0 rfl rfl)
theorem dX17_worth_26 : decode cX17_worth 26 = .ok (.aload_n 3, 1) := dk_45 (dk_at dksX17_worth_1 3 rfl rfl)
theorem dX17_worth_27 : decode cX17_worth 27 = .ok (.iload 5, 2) := dk_21 5 (dk_at dksX17_worth_1 4 rfl rfl)
theorem dX17_worth_29 : decode cX17_worth 29 = .ok (.aaload, 1) := dk_50 (dk_at dksX17_worth_1 6 rfl rfl)
theorem dX17_worth_30 : decode cX17_worth 30 = .ok (.astore 6, 2) := dk_58 6 (dk_at dksX17_worth_1 7 rfl rfl)
theorem dX17_worth_32 : decode cX17_worth 32 = .ok (.aload 6, 2) := dk_25 6 (dk_at dksX17_worth_1 9 rfl rfl)
theorem dX17_worth_34 : decode cX17_worth 34 = .ok (.ldc 21, 2) := dk_18 21 (dk_at dksX17_worth_1 11 rfl rfl)
theorem dX17_worth_36 : decode cX17_worth 36 = .ok (.invokestatic 22, 3) := dk_184 0 22 (dk_at dksX17_worth_1 13 rfl rfl)
theorem dX17_worth_39 : decode cX17_worth 39 = .ok (.iinc 5 1, 3) := dk_132 5 1 (dk_at dksX17_worth_1 16 rfl rfl)
theorem dX17_worth_42 : decode cX17_worth 42 = .ok (.goto (-23), 3) := dk_167 255 233 (dk_at dksX17_worth_1 19 rfl rfl)
theorem dX17_worth_45 : decode cX17_worth 45 = .ok (.aload_n 2, 1) := dk_44 (dk_at dksX17_worth_1 22 rfl rfl)
theorem dX17_worth_46 : decode cX17_worth 46 = .ok (.iconst 0, 1) := dk_3 (dk_at dksX17_worth_1 23 rfl rfl)
theorem dX17_worth_47 : decode cX17_worth 47 = .ok (.aaload, 1) := dk_50 (dk_at dksX17_worth_2 0 rfl rfl)
theorem dX17_worth_48 : decode cX17_worth 48 = .ok (.aload_n 0, 1) := dk_42 (dk_at dksX17_worth_2 1 rfl rfl)
theorem dX17_worth_49 : decode cX17_worth 49 = .ok (.getfield 28, 3) := dk_180 0 28 (dk_at dksX17_worth_2 2 rfl rfl)
theorem dX17_worth_52 : decode cX17_worth 52 = .ok (.getfield 32, 3) := dk_180 0 32 (dk_at dksX17_worth_2 5 rfl rfl)
theorem dX17_worth_55 : decode cX17_worth 55 = .ok (.iconst 0, 1) := dk_3 (dk_at dksX17_worth_2 8 rfl rfl)
theorem dX17_worth_56 : decode cX17_worth 56 = .ok (.iastore, 1) := dk_79 (dk_at dksX17_worth_2 9 rfl rfl)
theorem dX17_worth_57 : decode cX17_worth 57 = .ok (.ldc 21, 2) := dk_18 21 (dk_at dksX17_worth_2 10 rfl rfl)
theorem dX17_worth_59 : decode cX17_worth 59 = .ok (.istore_n 3, 1) := dk_62 (dk_at dksX17_worth_2 12 rfl rfl)
theorem dX17_worth_60 : decode cX17_worth 60 = .ok (.aload_n 0, 1) := dk_42 (dk_at dksX17_worth_2 13 rfl rfl)
theorem dX17_worth_61 : decode cX17_worth 61 = .ok (.getfield 37, 3) := dk_180 0 37 (dk_at dksX17_worth_2 14 rfl rfl)
theorem dX17_worth_64 : decode cX17_worth 64 = .ok (.istore 4, 2) := dk_54 4 (dk_at dksX17_worth_2 17 rfl rfl)
theorem dX17_worth_66 : decode cX17_worth 66 = .ok (.iload 4, 2) := dk_21 4 (dk_at dksX17_worth_2 19 rfl rfl)
theorem dX17_worth_68 : decode cX17_worth 68 = .ok (.aload_n 0, 1) := dk_42 (dk_at dksX17_worth_2 21 rfl rfl)
theorem dX17_worth_69 : decode cX17_worth 69 = .ok (.getfield 15, 3) := dk_180 0 15 (dk_at dksX17_worth_3 0 rfl rfl)
theorem dX17_worth_72 : decode cX17_worth 72 = .ok (.if_icmp .ge 197, 3) := dk_162 0 197 (dk_at dksX17_worth_3 3 rfl rfl)
theorem dX17_worth_75 : decode cX17_worth 75 = .ok (.iconst 0, 1) := dk_3 (dk_at dksX17_worth_3 6 rfl rfl)
theorem dX17_worth_76 : decode cX17_worth 76 = .ok (.istore 5, 2) := dk_54 5 (dk_at dksX17_worth_3 7 rfl rfl)
theorem dX17_worth_78 : decode cX17_worth 78 = .ok (.iload 5, 2) := dk_21 5 (dk_at dksX17_worth_3 9 rfl rfl)
theorem dX17_worth_80 : decode cX17_worth 80 = .ok (.iload_n 1, 1) := dk_27 (dk_at dksX17_worth_3 11 rfl rfl)
theorem dX17_worth_81 : decode cX17_worth 81 = .ok (.if_icmp .gt 93, 3) := dk_163 0 93 (dk_at dksX17_worth_3 12 rfl rfl)
theorem dX17_worth_84 : decode cX17_worth 84 = .ok (.aload_n 0, 1) := dk_42 (dk_at dksX17_worth_3 15 rfl rfl)
theorem dX17_worth_85 : decode cX17_worth 85 = .ok (.iload 5, 2) := dk_21 5 (dk_at dksX17_worth_3 16 rfl rfl)
theorem dX17_worth_87 : decode cX17_worth 87 = .ok (.iload 4, 2) := dk_21 4 (dk_at dksX17_worth_3 18 rfl rfl)
theorem dX17_worth_89 : decode cX17_worth 89 = .ok (.invokevirtual 40, 3) := dk_182 0 40 (dk_at dksX17_worth_3 20 rfl rfl)
theorem dX17_worth_92 : decode cX17_worth 92 = .ok (.ifCond .ne 6, 3) := dk_154 0 6 (dk_at dksX17_worth_4 0 rfl rfl)
theorem dX17_worth_95 : decode cX17_worth 95 = .ok (.goto 73, 3) := dk_167 0 73 (dk_at dksX17_worth_4 3 rfl rfl)
theorem dX17_worth_98 : decode cX17_worth 98 = .ok (.aload_n 0, 1) := dk_42 (dk_at dksX17_worth_4 6 rfl rfl)
theorem dX17_worth_99 : decode cX17_worth 99 = .ok (.getfield 3, 3) := dk_180 0 3 (dk_at dksX17_worth_4 7 rfl rfl)
theorem dX17_worth_102 : decode cX17_worth 102 = .ok (.getfield 44, 3) := dk_180 0 44 (dk_at dksX17_worth_4 10 rfl rfl)
theorem dX17_worth_105 : decode cX17_worth 105 = .ok (.getfield 48, 3) := dk_180 0 48 (dk_at dksX17_worth_4 13 rfl rfl)
theorem dX17_worth_108 : decode cX17_worth 108 = .ok (.aload_n 0, 1) := dk_42 (dk_at dksX17_worth_4 16 rfl rfl)
theorem dX17_worth_109 : decode cX17_worth 109 = .ok (.getfield 54, 3) := dk_180 0 54 (dk_at dksX17_worth_4 17 rfl rfl)
theorem dX17_worth_112 : decode cX17_worth 112 = .ok (.iload 5, 2) := dk_21 5 (dk_at dksX17_worth_4 20 rfl rfl)
theorem dX17_worth_114 : decode cX17_worth 114 = .ok (.iaload, 1) := dk_46 (dk_at dksX17_worth_4 22 rfl rfl)
theorem dX17_worth_115 : decode cX17_worth 115 = .ok (.aaload, 1) := dk_50 (dk_at dksX17_worth_4 23 rfl rfl)
theorem dX17_worth_116 : decode cX17_worth 116 = .ok (.getfield 57, 3) := dk_180 0 57 (dk_at dksX17_worth_5 0 rfl rfl)
theorem dX17_worth_119 : decode cX17_worth 119 = .ok (.istore 6, 2) := dk_54 6 (dk_at dksX17_worth_5 3 rfl rfl)
theorem dX17_worth_121 : decode cX17_worth 121 = .ok (.iconst 1, 1) := dk_4 (dk_at dksX17_worth_5 5 rfl rfl)
theorem dX17_worth_122 : decode cX17_worth 122 = .ok (.istore 7, 2) := dk_54 7 (dk_at dksX17_worth_5 6 rfl rfl)
theorem dX17_worth_124 : decode cX17_worth 124 = .ok (.iload 7, 2) := dk_21 7 (dk_at dksX17_worth_5 8 rfl rfl)
theorem dX17_worth_126 : decode cX17_worth 126 = .ok (.bipush 105, 2) := dk_16 105 (dk_at dksX17_worth_5 10 rfl rfl)
theorem dX17_worth_128 : decode cX17_worth 128 = .ok (.if_icmp .ge 40, 3) := dk_162 0 40 (dk_at dksX17_worth_5 12 rfl rfl)
theorem dX17_worth_131 : decode cX17_worth 131 = .ok (.aload_n 2, 1) := dk_44 (dk_at dksX17_worth_5 15 rfl rfl)
theorem dX17_worth_132 : decode cX17_worth 132 = .ok (.iload 5, 2) := dk_21 5 (dk_at dksX17_worth_5 16 rfl rfl)
theorem dX17_worth_134 : decode cX17_worth 134 = .ok (.aaload, 1) := dk_50 (dk_at dksX17_worth_5 18 rfl rfl)
theorem dX17_worth_135 : decode cX17_worth 135 = .ok (.iload 7, 2) := dk_21 7 (dk_at dksX17_worth_5 19 rfl rfl)
theorem dX17_worth_137 : decode cX17_worth 137 = .ok (.iconst 1, 1) := dk_4 (dk_at dksX17_worth_5 21 rfl rfl)
theorem dX17_worth_138 : decode cX17_worth 138 = .ok (.isub, 1) := dk_100 (dk_at dksX17_worth_5 22 rfl rfl)
theorem dX17_worth_139 : decode cX17_worth 139 = .ok (.aload_n 2, 1) := dk_44 (dk_at dksX17_worth_5 23 rfl rfl)
theorem dX17_worth_140 : decode cX17_worth 140 = .ok (.iload 5, 2) := dk_21 5 (dk_at dksX17_worth_6 0 rfl rfl)
theorem dX17_worth_142 : decode cX17_worth 142 = .ok (.aaload, 1) := dk_50 (dk_at dksX17_worth_6 2 rfl rfl)
theorem dX17_worth_143 : decode cX17_worth 143 = .ok (.iload 7, 2) := dk_21 7 (dk_at dksX17_worth_6 3 rfl rfl)
theorem dX17_worth_145 : decode cX17_worth 145 = .ok (.iconst 1, 1) := dk_4 (dk_at dksX17_worth_6 5 rfl rfl)
theorem dX17_worth_146 : decode cX17_worth 146 = .ok (.isub, 1) := dk_100 (dk_at dksX17_worth_6 6 rfl rfl)
theorem dX17_worth_147 : decode cX17_worth 147 = .ok (.iaload, 1) := dk_46 (dk_at dksX17_worth_6 7 rfl rfl)
theorem dX17_worth_148 : decode cX17_worth 148 = .ok (.aload_n 2, 1) := dk_44 (dk_at dksX17_worth_6 8 rfl rfl)
theorem dX17_worth_149 : decode cX17_worth 149 = .ok (.iload 5, 2) := dk_21 5 (dk_at dksX17_worth_6 9 rfl rfl)
theorem dX17_worth_151 : decode cX17_worth 151 = .ok (.aaload, 1) := dk_50 (dk_at dksX17_worth_6 11 rfl rfl)
theorem dX17_worth_152 : decode cX17_worth 152 = .ok (.iload 7, 2) := dk_21 7 (dk_at dksX17_worth_6 12 rfl rfl)
theorem dX17_worth_154 : decode cX17_worth 154 = .ok (.iaload, 1) := dk_46 (dk_at dksX17_worth_6 14 rfl rfl)
theorem dX17_worth_155 : decode cX17_worth 155 = .ok (.iload 6, 2) := dk_21 6 (dk_at dksX17_worth_6 15 rfl rfl)
theorem dX17_worth_157 : decode cX17_worth 157 = .ok (.iadd, 1) := dk_96 (dk_at dksX17_worth_6 17 rfl rfl)
theorem dX17_worth_158 : decode cX17_worth 158 = .ok (.invokestatic 62, 3) := dk_184 0 62 (dk_at dksX17_worth_6 18 rfl rfl)
theorem dX17_worth_161 : decode cX17_worth 161 = .ok (.iastore, 1) := dk_79 (dk_at dksX17_worth_6 21 rfl rfl)
theorem dX17_worth_162 : decode cX17_worth 162 = .ok (.iinc 7 1, 3) := dk_132 7 1 (dk_at dksX17_worth_7 0 rfl rfl)
theorem dX17_worth_165 : decode cX17_worth 165 = .ok (.goto (-41), 3) := dk_167 255 215 (dk_at dksX17_worth_7 3 rfl rfl)
theorem dX17_worth_168 : decode cX17_worth 168 = .ok (.iinc 5 1, 3) := dk_132 5 1 (dk_at dksX17_worth_7 6 rfl rfl)
theorem dX17_worth_171 : decode cX17_worth 171 = .ok (.goto (-93), 3) := dk_167 255 163 (dk_at dksX17_worth_7 9 rfl rfl)
theorem dX17_worth_174 : decode cX17_worth 174 = .ok (.iload_n 3, 1) := dk_29 (dk_at dksX17_worth_7 12 rfl rfl)
theorem dX17_worth_175 : decode cX17_worth 175 = .ok (.aload_n 2, 1) := dk_44 (dk_at dksX17_worth_7 13 rfl rfl)
theorem dX17_worth_176 : decode cX17_worth 176 = .ok (.iload_n 1, 1) := dk_27 (dk_at dksX17_worth_7 14 rfl rfl)
theorem dX17_worth_177 : decode cX17_worth 177 = .ok (.aaload, 1) := dk_50 (dk_at dksX17_worth_7 15 rfl rfl)
theorem dX17_worth_178 : decode cX17_worth 178 = .ok (.iconst 0, 1) := dk_3 (dk_at dksX17_worth_7 16 rfl rfl)
theorem dX17_worth_179 : decode cX17_worth 179 = .ok (.iaload, 1) := dk_46 (dk_at dksX17_worth_7 17 rfl rfl)
theorem dX17_worth_180 : decode cX17_worth 180 = .ok (.invokestatic 62, 3) := dk_184 0 62 (dk_at dksX17_worth_7 18 rfl rfl)
theorem dX17_worth_183 : decode cX17_worth 183 = .ok (.istore_n 3, 1) := dk_62 (dk_at dksX17_worth_7 21 rfl rfl)
theorem dX17_worth_184 : decode cX17_worth 184 = .ok (.iload_n 1, 1) := dk_27 (dk_at dksX17_worth_7 22 rfl rfl)
theorem dX17_worth_185 : decode cX17_worth 185 = .ok (.istore 5, 2) := dk_54 5 (dk_at dksX17_worth_8 0 rfl rfl)
theorem dX17_worth_187 : decode cX17_worth 187 = .ok (.iload 5, 2) := dk_21 5 (dk_at dksX17_worth_8 2 rfl rfl)
theorem dX17_worth_189 : decode cX17_worth 189 = .ok (.ifCond .le 74, 3) := dk_158 0 74 (dk_at dksX17_worth_8 4 rfl rfl)
theorem dX17_worth_192 : decode cX17_worth 192 = .ok (.aload_n 0, 1) := dk_42 (dk_at dksX17_worth_8 7 rfl rfl)
theorem dX17_worth_193 : decode cX17_worth 193 = .ok (.iload 5, 2) := dk_21 5 (dk_at dksX17_worth_8 8 rfl rfl)
theorem dX17_worth_195 : decode cX17_worth 195 = .ok (.iconst 1, 1) := dk_4 (dk_at dksX17_worth_8 10 rfl rfl)
theorem dX17_worth_196 : decode cX17_worth 196 = .ok (.isub, 1) := dk_100 (dk_at dksX17_worth_8 11 rfl rfl)
theorem dX17_worth_197 : decode cX17_worth 197 = .ok (.iload 4, 2) := dk_21 4 (dk_at dksX17_worth_8 12 rfl rfl)
theorem dX17_worth_199 : decode cX17_worth 199 = .ok (.iconst 1, 1) := dk_4 (dk_at dksX17_worth_8 14 rfl rfl)
theorem dX17_worth_200 : decode cX17_worth 200 = .ok (.iadd, 1) := dk_96 (dk_at dksX17_worth_8 15 rfl rfl)
theorem dX17_worth_201 : decode cX17_worth 201 = .ok (.invokevirtual 68, 3) := dk_182 0 68 (dk_at dksX17_worth_8 16 rfl rfl)
theorem dX17_worth_204 : decode cX17_worth 204 = .ok (.istore 6, 2) := dk_54 6 (dk_at dksX17_worth_8 19 rfl rfl)
theorem dX17_worth_206 : decode cX17_worth 206 = .ok (.iconst 1, 1) := dk_4 (dk_at dksX17_worth_8 21 rfl rfl)
theorem dX17_worth_207 : decode cX17_worth 207 = .ok (.istore 7, 2) := dk_54 7 (dk_at dksX17_worth_8 22 rfl rfl)
theorem dX17_worth_209 : decode cX17_worth 209 = .ok (.iload 7, 2) := dk_21 7 (dk_at dksX17_worth_9 0 rfl rfl)
theorem dX17_worth_211 : decode cX17_worth 211 = .ok (.iload 6, 2) := dk_21 6 (dk_at dksX17_worth_9 2 rfl rfl)
theorem dX17_worth_213 : decode cX17_worth 213 = .ok (.iadd, 1) := dk_96 (dk_at dksX17_worth_9 4 rfl rfl)
theorem dX17_worth_214 : decode cX17_worth 214 = .ok (.bipush 105, 2) := dk_16 105 (dk_at dksX17_worth_9 5 rfl rfl)
theorem dX17_worth_216 : decode cX17_worth 216 = .ok (.if_icmp .ge 41, 3) := dk_162 0 41 (dk_at dksX17_worth_9 7 rfl rfl)
theorem dX17_worth_219 : decode cX17_worth 219 = .ok (.aload_n 2, 1) := dk_44 (dk_at dksX17_worth_9 10 rfl rfl)
theorem dX17_worth_220 : decode cX17_worth 220 = .ok (.iload 5, 2) := dk_21 5 (dk_at dksX17_worth_9 11 rfl rfl)
theorem dX17_worth_222 : decode cX17_worth 222 = .ok (.aaload, 1) := dk_50 (dk_at dksX17_worth_9 13 rfl rfl)
theorem dX17_worth_223 : decode cX17_worth 223 = .ok (.iload 7, 2) := dk_21 7 (dk_at dksX17_worth_9 14 rfl rfl)
theorem dX17_worth_225 : decode cX17_worth 225 = .ok (.iload 6, 2) := dk_21 6 (dk_at dksX17_worth_9 16 rfl rfl)
theorem dX17_worth_227 : decode cX17_worth 227 = .ok (.iadd, 1) := dk_96 (dk_at dksX17_worth_9 18 rfl rfl)
theorem dX17_worth_228 : decode cX17_worth 228 = .ok (.aload_n 2, 1) := dk_44 (dk_at dksX17_worth_9 19 rfl rfl)
theorem dX17_worth_229 : decode cX17_worth 229 = .ok (.iload 5, 2) := dk_21 5 (dk_at dksX17_worth_9 20 rfl rfl)
theorem dX17_worth_231 : decode cX17_worth 231 = .ok (.aaload, 1) := dk_50 (dk_at dksX17_worth_9 22 rfl rfl)
theorem dX17_worth_232 : decode cX17_worth 232 = .ok (.iload 7, 2) := dk_21 7 (dk_at dksX17_worth_10 0 rfl rfl)
theorem dX17_worth_234 : decode cX17_worth 234 = .ok (.iload 6, 2) := dk_21 6 (dk_at dksX17_worth_10 2 rfl rfl)
theorem dX17_worth_236 : decode cX17_worth 236 = .ok (.iadd, 1) := dk_96 (dk_at dksX17_worth_10 4 rfl rfl)
theorem dX17_worth_237 : decode cX17_worth 237 = .ok (.iaload, 1) := dk_46 (dk_at dksX17_worth_10 5 rfl rfl)
theorem dX17_worth_238 : decode cX17_worth 238 = .ok (.aload_n 2, 1) := dk_44 (dk_at dksX17_worth_10 6 rfl rfl)
theorem dX17_worth_239 : decode cX17_worth 239 = .ok (.iload 5, 2) := dk_21 5 (dk_at dksX17_worth_10 7 rfl rfl)
theorem dX17_worth_241 : decode cX17_worth 241 = .ok (.iconst 1, 1) := dk_4 (dk_at dksX17_worth_10 9 rfl rfl)
theorem dX17_worth_242 : decode cX17_worth 242 = .ok (.isub, 1) := dk_100 (dk_at dksX17_worth_10 10 rfl rfl)
theorem dX17_worth_243 : decode cX17_worth 243 = .ok (.aaload, 1) := dk_50 (dk_at dksX17_worth_10 11 rfl rfl)
theorem dX17_worth_244 : decode cX17_worth 244 = .ok (.iload 7, 2) := dk_21 7 (dk_at dksX17_worth_10 12 rfl rfl)
theorem dX17_worth_246 : decode cX17_worth 246 = .ok (.iaload, 1) := dk_46 (dk_at dksX17_worth_10 14 rfl rfl)
theorem dX17_worth_247 : decode cX17_worth 247 = .ok (.invokestatic 62, 3) := dk_184 0 62 (dk_at dksX17_worth_10 15 rfl rfl)
theorem dX17_worth_250 : decode cX17_worth 250 = .ok (.iastore, 1) := dk_79 (dk_at dksX17_worth_10 18 rfl rfl)
theorem dX17_worth_251 : decode cX17_worth 251 = .ok (.iinc 7 1, 3) := dk_132 7 1 (dk_at dksX17_worth_10 19 rfl rfl)
theorem dX17_worth_254 : decode cX17_worth 254 = .ok (.goto (-45), 3) := dk_167 255 211 (dk_at dksX17_worth_11 0 rfl rfl)
theorem dX17_worth_257 : decode cX17_worth 257 = .ok (.iinc 5 (-1), 3) := dk_132 5 255 (dk_at dksX17_worth_11 3 rfl rfl)
theorem dX17_worth_260 : decode cX17_worth 260 = .ok (.goto (-73), 3) := dk_167 255 183 (dk_at dksX17_worth_11 6 rfl rfl)
theorem dX17_worth_263 : decode cX17_worth 263 = .ok (.iinc 4 1, 3) := dk_132 4 1 (dk_at dksX17_worth_11 9 rfl rfl)
theorem dX17_worth_266 : decode cX17_worth 266 = .ok (.goto (-200), 3) := dk_167 255 56 (dk_at dksX17_worth_11 12 rfl rfl)
theorem dX17_worth_269 : decode cX17_worth 269 = .ok (.iload_n 3, 1) := dk_29 (dk_at dksX17_worth_11 15 rfl rfl)
theorem dX17_worth_270 : decode cX17_worth 270 = .ok (.ldc 21, 2) := dk_18 21 (dk_at dksX17_worth_11 16 rfl rfl)
theorem dX17_worth_272 : decode cX17_worth 272 = .ok (.if_icmp .ne 7, 3) := dk_160 0 7 (dk_at dksX17_worth_11 18 rfl rfl)
theorem dX17_worth_275 : decode cX17_worth 275 = .ok (.iconst (-1), 1) := dk_2 (dk_at dksX17_worth_11 21 rfl rfl)
theorem dX17_worth_276 : decode cX17_worth 276 = .ok (.goto 4, 3) := dk_167 0 4 (dk_at dksX17_worth_12 0 rfl rfl)
theorem dX17_worth_279 : decode cX17_worth 279 = .ok (.iload_n 3, 1) := dk_29 (dk_at dksX17_worth_12 3 rfl rfl)
theorem dX17_worth_280 : decode cX17_worth 280 = .ok (.ireturn, 1) := dk_172 (dk_at dksX17_worth_12 4 rfl rfl)
def dkwX17_init_0 : List UInt8 := [42, 43, 181, 0, 3, 42, 43, 28, 29, 21, 4, 183, 0, 9, 42, 21, 5, 181, 0, 15, 177]
abbrev dktX17_init_0 : List UInt8 := dkwX17_init_0 ++ []
theorem dksX17_init_0 : cX17_init.data.toList.drop 0 = dktX17_init_0 := by decide +kernel
theorem dX17_init_0 : decode cX17_init 0 = .ok (.aload_n 0, 1) := dk_42 (dk_at dksX17_init_0 0 rfl rfl)
theorem dX17_init_1 : decode cX17_init 1 = .ok (.aload_n 1, 1) := dk_43 (dk_at dksX17_init_0 1 rfl rfl)
theorem dX17_init_2 : decode cX17_init 2 = .ok (.putfield 3, 3) := dk_181 0 3 (dk_at dksX17_init_0 2 rfl rfl)
theorem dX17_init_5 : decode cX17_init 5 = .ok (.aload_n 0, 1) := dk_42 (dk_at dksX17_init_0 5 rfl rfl)
theorem dX17_init_6 : decode cX17_init 6 = .ok (.aload_n 1, 1) := dk_43 (dk_at dksX17_init_0 6 rfl rfl)
theorem dX17_init_7 : decode cX17_init 7 = .ok (.iload_n 2, 1) := dk_28 (dk_at dksX17_init_0 7 rfl rfl)
theorem dX17_init_8 : decode cX17_init 8 = .ok (.iload_n 3, 1) := dk_29 (dk_at dksX17_init_0 8 rfl rfl)
theorem dX17_init_9 : decode cX17_init 9 = .ok (.iload 4, 2) := dk_21 4 (dk_at dksX17_init_0 9 rfl rfl)
theorem dX17_init_11 : decode cX17_init 11 = .ok (.invokespecial 9, 3) := dk_183 0 9 (dk_at dksX17_init_0 11 rfl rfl)
theorem dX17_init_14 : decode cX17_init 14 = .ok (.aload_n 0, 1) := dk_42 (dk_at dksX17_init_0 14 rfl rfl)
theorem dX17_init_15 : decode cX17_init 15 = .ok (.iload 5, 2) := dk_21 5 (dk_at dksX17_init_0 15 rfl rfl)
theorem dX17_init_17 : decode cX17_init 17 = .ok (.putfield 15, 3) := dk_181 0 15 (dk_at dksX17_init_0 17 rfl rfl)
theorem dX17_init_20 : decode cX17_init 20 = .ok (.return_, 1) := dk_177 (dk_at dksX17_init_0 20 rfl rfl)
def dkwX18_valueOf_0 : List UInt8 := [43, 199, 0, 7, 3, 167, 0, 10, 42, 43, 185, 0, 1, 2, 0, 172]
abbrev dktX18_valueOf_0 : List UInt8 := dkwX18_valueOf_0 ++ []
theorem dksX18_valueOf_0 : cX18_valueOf.data.toList.drop 0 = dktX18_valueOf_0 := by decide +kernel
theorem dX18_valueOf_0 : decode cX18_valueOf 0 = .ok (.aload_n 1, 1) := dk_43 (dk_at dksX18_valueOf_0 0 rfl rfl)
theorem dX18_valueOf_1 : decode cX18_valueOf 1 = .ok (.ifnonnull 7, 3) := dk_199 0 7 (dk_at dksX18_valueOf_0 1 rfl rfl)
theorem dX18_valueOf_4 : decode cX18_valueOf 4 = .ok (.iconst 0, 1) := dk_3 (dk_at dksX18_valueOf_0 4 rfl rfl)
theorem dX18_valueOf_5 : decode cX18_valueOf 5 = .ok (.goto 10, 3) := dk_167 0 10 (dk_at dksX18_valueOf_0 5 rfl rfl)
theorem dX18_valueOf_8 : decode cX18_valueOf 8 = .ok (.aload_n 0, 1) := dk_42 (dk_at dksX18_valueOf_0 8 rfl rfl)
theorem dX18_valueOf_9 : decode cX18_valueOf 9 = .ok (.aload_n 1, 1) := dk_43 (dk_at dksX18_valueOf_0 9 rfl rfl)
theorem dX18_valueOf_10 : decode cX18_valueOf 10 = .ok (.invokeinterface 1 2, 5) := by decide +kernel
theorem dX18_valueOf_15 : decode cX18_valueOf 15 = .ok (.ireturn, 1) := dk_172 (dk_at dksX18_valueOf_0 15 rfl rfl)
