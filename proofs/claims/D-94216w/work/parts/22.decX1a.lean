set_option maxRecDepth 100000
def dkwX1_init_5 : List UInt8 := [6, 188, 10, 181, 0, 91, 177]
abbrev dktX1_init_5 : List UInt8 := dkwX1_init_5 ++ []
def dkwX1_init_4 : List UInt8 := [16, 9, 188, 10, 181, 0, 81, 42, 16, 9, 188, 10, 181, 0, 84, 42, 6, 189, 0, 8, 181, 0, 87, 42]
abbrev dktX1_init_4 : List UInt8 := dkwX1_init_4 ++ dktX1_init_5
def dkwX1_init_3 : List UInt8 := [16, 60, 188, 8, 181, 0, 70, 42, 16, 32, 188, 11, 181, 0, 74, 42, 16, 9, 188, 10, 181, 0, 78, 42]
abbrev dktX1_init_3 : List UInt8 := dkwX1_init_3 ++ dktX1_init_4
def dkwX1_init_2 : List UInt8 := [187, 0, 8, 89, 42, 183, 0, 59, 181, 0, 66, 42, 187, 0, 28, 89, 183, 0, 69, 181, 0, 23, 42]
abbrev dktX1_init_2 : List UInt8 := dkwX1_init_2 ++ dktX1_init_3
def dkwX1_init_1 : List UInt8 := [42, 187, 0, 14, 89, 183, 0, 51, 181, 0, 56, 42, 187, 0, 8, 89, 42, 183, 0, 59, 181, 0, 62, 42]
abbrev dktX1_init_1 : List UInt8 := dkwX1_init_1 ++ dktX1_init_2
def dkwX1_init_0 : List UInt8 := [42, 183, 0, 39, 42, 16, 8, 189, 0, 45, 181, 0, 47, 42, 187, 0, 14, 89, 183, 0, 51, 181, 0, 52]
abbrev dktX1_init_0 : List UInt8 := dkwX1_init_0 ++ dktX1_init_1
theorem dksX1_init_0 : cX1_init.data.toList.drop 0 = dktX1_init_0 := by decide +kernel
theorem dksX1_init_1 : cX1_init.data.toList.drop 24 = dktX1_init_1 := dk_seg dksX1_init_0 24 rfl rfl
theorem dksX1_init_2 : cX1_init.data.toList.drop 48 = dktX1_init_2 := dk_seg dksX1_init_1 24 rfl rfl
theorem dksX1_init_3 : cX1_init.data.toList.drop 71 = dktX1_init_3 := dk_seg dksX1_init_2 23 rfl rfl
theorem dksX1_init_4 : cX1_init.data.toList.drop 95 = dktX1_init_4 := dk_seg dksX1_init_3 24 rfl rfl
theorem dksX1_init_5 : cX1_init.data.toList.drop 119 = dktX1_init_5 := dk_seg dksX1_init_4 24 rfl rfl
theorem dX1_init_0 : decode cX1_init 0 = .ok (.aload_n 0, 1) := dk_42 (dk_at dksX1_init_0 0 rfl rfl)
theorem dX1_init_1 : decode cX1_init 1 = .ok (.invokespecial 39, 3) := dk_183 0 39 (dk_at dksX1_init_0 1 rfl rfl)
theorem dX1_init_4 : decode cX1_init 4 = .ok (.aload_n 0, 1) := dk_42 (dk_at dksX1_init_0 4 rfl rfl)
theorem dX1_init_5 : decode cX1_init 5 = .ok (.bipush 8, 2) := dk_16 8 (dk_at dksX1_init_0 5 rfl rfl)
theorem dX1_init_7 : decode cX1_init 7 = .ok (.anewarray 45, 3) := dk_189 0 45 (dk_at dksX1_init_0 7 rfl rfl)
theorem dX1_init_10 : decode cX1_init 10 = .ok (.putfield 47, 3) := dk_181 0 47 (dk_at dksX1_init_0 10 rfl rfl)
theorem dX1_init_13 : decode cX1_init 13 = .ok (.aload_n 0, 1) := dk_42 (dk_at dksX1_init_0 13 rfl rfl)
theorem dX1_init_14 : decode cX1_init 14 = .ok (.new 14, 3) := dk_187 0 14 (dk_at dksX1_init_0 14 rfl rfl)
theorem dX1_init_17 : decode cX1_init 17 = .ok (.dup, 1) := dk_89 (dk_at dksX1_init_0 17 rfl rfl)
theorem dX1_init_18 : decode cX1_init 18 = .ok (.invokespecial 51, 3) := dk_183 0 51 (dk_at dksX1_init_0 18 rfl rfl)
theorem dX1_init_21 : decode cX1_init 21 = .ok (.putfield 52, 3) := dk_181 0 52 (dk_at dksX1_init_0 21 rfl rfl)
theorem dX1_init_24 : decode cX1_init 24 = .ok (.aload_n 0, 1) := dk_42 (dk_at dksX1_init_1 0 rfl rfl)
theorem dX1_init_25 : decode cX1_init 25 = .ok (.new 14, 3) := dk_187 0 14 (dk_at dksX1_init_1 1 rfl rfl)
theorem dX1_init_28 : decode cX1_init 28 = .ok (.dup, 1) := dk_89 (dk_at dksX1_init_1 4 rfl rfl)
theorem dX1_init_29 : decode cX1_init 29 = .ok (.invokespecial 51, 3) := dk_183 0 51 (dk_at dksX1_init_1 5 rfl rfl)
theorem dX1_init_32 : decode cX1_init 32 = .ok (.putfield 56, 3) := dk_181 0 56 (dk_at dksX1_init_1 8 rfl rfl)
theorem dX1_init_35 : decode cX1_init 35 = .ok (.aload_n 0, 1) := dk_42 (dk_at dksX1_init_1 11 rfl rfl)
theorem dX1_init_36 : decode cX1_init 36 = .ok (.new 8, 3) := dk_187 0 8 (dk_at dksX1_init_1 12 rfl rfl)
theorem dX1_init_39 : decode cX1_init 39 = .ok (.dup, 1) := dk_89 (dk_at dksX1_init_1 15 rfl rfl)
theorem dX1_init_40 : decode cX1_init 40 = .ok (.aload_n 0, 1) := dk_42 (dk_at dksX1_init_1 16 rfl rfl)
theorem dX1_init_41 : decode cX1_init 41 = .ok (.invokespecial 59, 3) := dk_183 0 59 (dk_at dksX1_init_1 17 rfl rfl)
theorem dX1_init_44 : decode cX1_init 44 = .ok (.putfield 62, 3) := dk_181 0 62 (dk_at dksX1_init_1 20 rfl rfl)
theorem dX1_init_47 : decode cX1_init 47 = .ok (.aload_n 0, 1) := dk_42 (dk_at dksX1_init_1 23 rfl rfl)
theorem dX1_init_48 : decode cX1_init 48 = .ok (.new 8, 3) := dk_187 0 8 (dk_at dksX1_init_2 0 rfl rfl)
theorem dX1_init_51 : decode cX1_init 51 = .ok (.dup, 1) := dk_89 (dk_at dksX1_init_2 3 rfl rfl)
theorem dX1_init_52 : decode cX1_init 52 = .ok (.aload_n 0, 1) := dk_42 (dk_at dksX1_init_2 4 rfl rfl)
theorem dX1_init_53 : decode cX1_init 53 = .ok (.invokespecial 59, 3) := dk_183 0 59 (dk_at dksX1_init_2 5 rfl rfl)
theorem dX1_init_56 : decode cX1_init 56 = .ok (.putfield 66, 3) := dk_181 0 66 (dk_at dksX1_init_2 8 rfl rfl)
theorem dX1_init_59 : decode cX1_init 59 = .ok (.aload_n 0, 1) := dk_42 (dk_at dksX1_init_2 11 rfl rfl)
theorem dX1_init_60 : decode cX1_init 60 = .ok (.new 28, 3) := dk_187 0 28 (dk_at dksX1_init_2 12 rfl rfl)
theorem dX1_init_63 : decode cX1_init 63 = .ok (.dup, 1) := dk_89 (dk_at dksX1_init_2 15 rfl rfl)
theorem dX1_init_64 : decode cX1_init 64 = .ok (.invokespecial 69, 3) := dk_183 0 69 (dk_at dksX1_init_2 16 rfl rfl)
theorem dX1_init_67 : decode cX1_init 67 = .ok (.putfield 23, 3) := dk_181 0 23 (dk_at dksX1_init_2 19 rfl rfl)
theorem dX1_init_70 : decode cX1_init 70 = .ok (.aload_n 0, 1) := dk_42 (dk_at dksX1_init_2 22 rfl rfl)
theorem dX1_init_71 : decode cX1_init 71 = .ok (.bipush 60, 2) := dk_16 60 (dk_at dksX1_init_3 0 rfl rfl)
theorem dX1_init_73 : decode cX1_init 73 = .ok (.newarray .byte, 2) := dk_188_8 (dk_at dksX1_init_3 2 rfl rfl)
theorem dX1_init_75 : decode cX1_init 75 = .ok (.putfield 70, 3) := dk_181 0 70 (dk_at dksX1_init_3 4 rfl rfl)
theorem dX1_init_78 : decode cX1_init 78 = .ok (.aload_n 0, 1) := dk_42 (dk_at dksX1_init_3 7 rfl rfl)
theorem dX1_init_79 : decode cX1_init 79 = .ok (.bipush 32, 2) := dk_16 32 (dk_at dksX1_init_3 8 rfl rfl)
theorem dX1_init_81 : decode cX1_init 81 = .ok (.newarray .long, 2) := dk_188_11 (dk_at dksX1_init_3 10 rfl rfl)
theorem dX1_init_83 : decode cX1_init 83 = .ok (.putfield 74, 3) := dk_181 0 74 (dk_at dksX1_init_3 12 rfl rfl)
theorem dX1_init_86 : decode cX1_init 86 = .ok (.aload_n 0, 1) := dk_42 (dk_at dksX1_init_3 15 rfl rfl)
theorem dX1_init_87 : decode cX1_init 87 = .ok (.bipush 9, 2) := dk_16 9 (dk_at dksX1_init_3 16 rfl rfl)
theorem dX1_init_89 : decode cX1_init 89 = .ok (.newarray .int, 2) := dk_188_10 (dk_at dksX1_init_3 18 rfl rfl)
theorem dX1_init_91 : decode cX1_init 91 = .ok (.putfield 78, 3) := dk_181 0 78 (dk_at dksX1_init_3 20 rfl rfl)
theorem dX1_init_94 : decode cX1_init 94 = .ok (.aload_n 0, 1) := dk_42 (dk_at dksX1_init_3 23 rfl rfl)
theorem dX1_init_95 : decode cX1_init 95 = .ok (.bipush 9, 2) := dk_16 9 (dk_at dksX1_init_4 0 rfl rfl)
theorem dX1_init_97 : decode cX1_init 97 = .ok (.newarray .int, 2) := dk_188_10 (dk_at dksX1_init_4 2 rfl rfl)
theorem dX1_init_99 : decode cX1_init 99 = .ok (.putfield 81, 3) := dk_181 0 81 (dk_at dksX1_init_4 4 rfl rfl)
theorem dX1_init_102 : decode cX1_init 102 = .ok (.aload_n 0, 1) := dk_42 (dk_at dksX1_init_4 7 rfl rfl)
theorem dX1_init_103 : decode cX1_init 103 = .ok (.bipush 9, 2) := dk_16 9 (dk_at dksX1_init_4 8 rfl rfl)
theorem dX1_init_105 : decode cX1_init 105 = .ok (.newarray .int, 2) := dk_188_10 (dk_at dksX1_init_4 10 rfl rfl)
theorem dX1_init_107 : decode cX1_init 107 = .ok (.putfield 84, 3) := dk_181 0 84 (dk_at dksX1_init_4 12 rfl rfl)
theorem dX1_init_110 : decode cX1_init 110 = .ok (.aload_n 0, 1) := dk_42 (dk_at dksX1_init_4 15 rfl rfl)
theorem dX1_init_111 : decode cX1_init 111 = .ok (.iconst 3, 1) := dk_6 (dk_at dksX1_init_4 16 rfl rfl)
theorem dX1_init_112 : decode cX1_init 112 = .ok (.anewarray 8, 3) := dk_189 0 8 (dk_at dksX1_init_4 17 rfl rfl)
theorem dX1_init_115 : decode cX1_init 115 = .ok (.putfield 87, 3) := dk_181 0 87 (dk_at dksX1_init_4 20 rfl rfl)
theorem dX1_init_118 : decode cX1_init 118 = .ok (.aload_n 0, 1) := dk_42 (dk_at dksX1_init_4 23 rfl rfl)
theorem dX1_init_119 : decode cX1_init 119 = .ok (.iconst 3, 1) := dk_6 (dk_at dksX1_init_5 0 rfl rfl)
theorem dX1_init_120 : decode cX1_init 120 = .ok (.newarray .int, 2) := dk_188_10 (dk_at dksX1_init_5 1 rfl rfl)
theorem dX1_init_122 : decode cX1_init 122 = .ok (.putfield 91, 3) := dk_181 0 91 (dk_at dksX1_init_5 3 rfl rfl)
theorem dX1_init_125 : decode cX1_init 125 = .ok (.return_, 1) := dk_177 (dk_at dksX1_init_5 6 rfl rfl)
def dkwX1_office_3 : List UInt8 := [29, 21, 4, 16, 64, 108, 21, 4, 16, 64, 112, 183, 0, 114, 182, 0, 117, 172]
abbrev dktX1_office_3 : List UInt8 := dkwX1_office_3 ++ []
def dkwX1_office_2 : List UInt8 := [16, 6, 160, 0, 5, 2, 172, 42, 180, 0, 52, 187, 0, 112, 89, 27, 16, 24, 108, 27, 16, 24, 112, 28]
abbrev dktX1_office_2 : List UInt8 := dkwX1_office_2 ++ dktX1_office_3
def dkwX1_office_1 : List UInt8 := [16, 99, 184, 0, 3, 153, 0, 23, 21, 4, 184, 0, 108, 153, 0, 15, 42, 180, 0, 52, 180, 0, 19]
abbrev dktX1_office_1 : List UInt8 := dkwX1_office_1 ++ dktX1_office_2
def dkwX1_office_0 : List UInt8 := [27, 3, 17, 2, 63, 184, 0, 3, 153, 0, 43, 28, 4, 16, 16, 184, 0, 3, 153, 0, 33, 29, 4]
abbrev dktX1_office_0 : List UInt8 := dkwX1_office_0 ++ dktX1_office_1
theorem dksX1_office_0 : cX1_office.data.toList.drop 0 = dktX1_office_0 := by decide +kernel
theorem dksX1_office_1 : cX1_office.data.toList.drop 23 = dktX1_office_1 := dk_seg dksX1_office_0 23 rfl rfl
theorem dksX1_office_2 : cX1_office.data.toList.drop 46 = dktX1_office_2 := dk_seg dksX1_office_1 23 rfl rfl
theorem dksX1_office_3 : cX1_office.data.toList.drop 70 = dktX1_office_3 := dk_seg dksX1_office_2 24 rfl rfl
theorem dX1_office_0 : decode cX1_office 0 = .ok (.iload_n 1, 1) := dk_27 (dk_at dksX1_office_0 0 rfl rfl)
theorem dX1_office_1 : decode cX1_office 1 = .ok (.iconst 0, 1) := dk_3 (dk_at dksX1_office_0 1 rfl rfl)
theorem dX1_office_2 : decode cX1_office 2 = .ok (.sipush 575, 3) := dk_17 2 63 (dk_at dksX1_office_0 2 rfl rfl)
theorem dX1_office_5 : decode cX1_office 5 = .ok (.invokestatic 3, 3) := dk_184 0 3 (dk_at dksX1_office_0 5 rfl rfl)
theorem dX1_office_8 : decode cX1_office 8 = .ok (.ifCond .eq 43, 3) := dk_153 0 43 (dk_at dksX1_office_0 8 rfl rfl)
theorem dX1_office_11 : decode cX1_office 11 = .ok (.iload_n 2, 1) := dk_28 (dk_at dksX1_office_0 11 rfl rfl)
theorem dX1_office_12 : decode cX1_office 12 = .ok (.iconst 1, 1) := dk_4 (dk_at dksX1_office_0 12 rfl rfl)
theorem dX1_office_13 : decode cX1_office 13 = .ok (.bipush 16, 2) := dk_16 16 (dk_at dksX1_office_0 13 rfl rfl)
theorem dX1_office_15 : decode cX1_office 15 = .ok (.invokestatic 3, 3) := dk_184 0 3 (dk_at dksX1_office_0 15 rfl rfl)
theorem dX1_office_18 : decode cX1_office 18 = .ok (.ifCond .eq 33, 3) := dk_153 0 33 (dk_at dksX1_office_0 18 rfl rfl)
theorem dX1_office_21 : decode cX1_office 21 = .ok (.iload_n 3, 1) := dk_29 (dk_at dksX1_office_0 21 rfl rfl)
theorem dX1_office_22 : decode cX1_office 22 = .ok (.iconst 1, 1) := dk_4 (dk_at dksX1_office_0 22 rfl rfl)
theorem dX1_office_23 : decode cX1_office 23 = .ok (.bipush 99, 2) := dk_16 99 (dk_at dksX1_office_1 0 rfl rfl)
theorem dX1_office_25 : decode cX1_office 25 = .ok (.invokestatic 3, 3) := dk_184 0 3 (dk_at dksX1_office_1 2 rfl rfl)
theorem dX1_office_28 : decode cX1_office 28 = .ok (.ifCond .eq 23, 3) := dk_153 0 23 (dk_at dksX1_office_1 5 rfl rfl)
theorem dX1_office_31 : decode cX1_office 31 = .ok (.iload 4, 2) := dk_21 4 (dk_at dksX1_office_1 8 rfl rfl)
theorem dX1_office_33 : decode cX1_office 33 = .ok (.invokestatic 108, 3) := dk_184 0 108 (dk_at dksX1_office_1 10 rfl rfl)
theorem dX1_office_36 : decode cX1_office 36 = .ok (.ifCond .eq 15, 3) := dk_153 0 15 (dk_at dksX1_office_1 13 rfl rfl)
theorem dX1_office_39 : decode cX1_office 39 = .ok (.aload_n 0, 1) := dk_42 (dk_at dksX1_office_1 16 rfl rfl)
theorem dX1_office_40 : decode cX1_office 40 = .ok (.getfield 52, 3) := dk_180 0 52 (dk_at dksX1_office_1 17 rfl rfl)
theorem dX1_office_43 : decode cX1_office 43 = .ok (.getfield 19, 3) := dk_180 0 19 (dk_at dksX1_office_1 20 rfl rfl)
theorem dX1_office_46 : decode cX1_office 46 = .ok (.bipush 6, 2) := dk_16 6 (dk_at dksX1_office_2 0 rfl rfl)
theorem dX1_office_48 : decode cX1_office 48 = .ok (.if_icmp .ne 5, 3) := dk_160 0 5 (dk_at dksX1_office_2 2 rfl rfl)
theorem dX1_office_51 : decode cX1_office 51 = .ok (.iconst (-1), 1) := dk_2 (dk_at dksX1_office_2 5 rfl rfl)
theorem dX1_office_52 : decode cX1_office 52 = .ok (.ireturn, 1) := dk_172 (dk_at dksX1_office_2 6 rfl rfl)
theorem dX1_office_53 : decode cX1_office 53 = .ok (.aload_n 0, 1) := dk_42 (dk_at dksX1_office_2 7 rfl rfl)
theorem dX1_office_54 : decode cX1_office 54 = .ok (.getfield 52, 3) := dk_180 0 52 (dk_at dksX1_office_2 8 rfl rfl)
theorem dX1_office_57 : decode cX1_office 57 = .ok (.new 112, 3) := dk_187 0 112 (dk_at dksX1_office_2 11 rfl rfl)
theorem dX1_office_60 : decode cX1_office 60 = .ok (.dup, 1) := dk_89 (dk_at dksX1_office_2 14 rfl rfl)
theorem dX1_office_61 : decode cX1_office 61 = .ok (.iload_n 1, 1) := dk_27 (dk_at dksX1_office_2 15 rfl rfl)
theorem dX1_office_62 : decode cX1_office 62 = .ok (.bipush 24, 2) := dk_16 24 (dk_at dksX1_office_2 16 rfl rfl)
theorem dX1_office_64 : decode cX1_office 64 = .ok (.idiv, 1) := dk_108 (dk_at dksX1_office_2 18 rfl rfl)
theorem dX1_office_65 : decode cX1_office 65 = .ok (.iload_n 1, 1) := dk_27 (dk_at dksX1_office_2 19 rfl rfl)
theorem dX1_office_66 : decode cX1_office 66 = .ok (.bipush 24, 2) := dk_16 24 (dk_at dksX1_office_2 20 rfl rfl)
theorem dX1_office_68 : decode cX1_office 68 = .ok (.irem, 1) := dk_112 (dk_at dksX1_office_2 22 rfl rfl)
theorem dX1_office_69 : decode cX1_office 69 = .ok (.iload_n 2, 1) := dk_28 (dk_at dksX1_office_2 23 rfl rfl)
theorem dX1_office_70 : decode cX1_office 70 = .ok (.iload_n 3, 1) := dk_29 (dk_at dksX1_office_3 0 rfl rfl)
theorem dX1_office_71 : decode cX1_office 71 = .ok (.iload 4, 2) := dk_21 4 (dk_at dksX1_office_3 1 rfl rfl)
theorem dX1_office_73 : decode cX1_office 73 = .ok (.bipush 64, 2) := dk_16 64 (dk_at dksX1_office_3 3 rfl rfl)
theorem dX1_office_75 : decode cX1_office 75 = .ok (.idiv, 1) := dk_108 (dk_at dksX1_office_3 5 rfl rfl)
theorem dX1_office_76 : decode cX1_office 76 = .ok (.iload 4, 2) := dk_21 4 (dk_at dksX1_office_3 6 rfl rfl)
theorem dX1_office_78 : decode cX1_office 78 = .ok (.bipush 64, 2) := dk_16 64 (dk_at dksX1_office_3 8 rfl rfl)
theorem dX1_office_80 : decode cX1_office 80 = .ok (.irem, 1) := dk_112 (dk_at dksX1_office_3 10 rfl rfl)
theorem dX1_office_81 : decode cX1_office 81 = .ok (.invokespecial 114, 3) := dk_183 0 114 (dk_at dksX1_office_3 11 rfl rfl)
theorem dX1_office_84 : decode cX1_office 84 = .ok (.invokevirtual 117, 3) := dk_182 0 117 (dk_at dksX1_office_3 14 rfl rfl)
theorem dX1_office_87 : decode cX1_office 87 = .ok (.ireturn, 1) := dk_172 (dk_at dksX1_office_3 17 rfl rfl)
def dkwX1_in_0 : List UInt8 := [26, 27, 161, 0, 12, 26, 28, 163, 0, 7, 4, 167, 0, 4, 3, 172]
abbrev dktX1_in_0 : List UInt8 := dkwX1_in_0 ++ []
theorem dksX1_in_0 : cX1_in.data.toList.drop 0 = dktX1_in_0 := by decide +kernel
theorem dX1_in_0 : decode cX1_in 0 = .ok (.iload_n 0, 1) := dk_26 (dk_at dksX1_in_0 0 rfl rfl)
theorem dX1_in_1 : decode cX1_in 1 = .ok (.iload_n 1, 1) := dk_27 (dk_at dksX1_in_0 1 rfl rfl)
theorem dX1_in_2 : decode cX1_in 2 = .ok (.if_icmp .lt 12, 3) := dk_161 0 12 (dk_at dksX1_in_0 2 rfl rfl)
theorem dX1_in_5 : decode cX1_in 5 = .ok (.iload_n 0, 1) := dk_26 (dk_at dksX1_in_0 5 rfl rfl)
theorem dX1_in_6 : decode cX1_in 6 = .ok (.iload_n 2, 1) := dk_28 (dk_at dksX1_in_0 6 rfl rfl)
theorem dX1_in_7 : decode cX1_in 7 = .ok (.if_icmp .gt 7, 3) := dk_163 0 7 (dk_at dksX1_in_0 7 rfl rfl)
theorem dX1_in_10 : decode cX1_in 10 = .ok (.iconst 1, 1) := dk_4 (dk_at dksX1_in_0 10 rfl rfl)
theorem dX1_in_11 : decode cX1_in 11 = .ok (.goto 4, 3) := dk_167 0 4 (dk_at dksX1_in_0 11 rfl rfl)
theorem dX1_in_14 : decode cX1_in 14 = .ok (.iconst 0, 1) := dk_3 (dk_at dksX1_in_0 14 rfl rfl)
theorem dX1_in_15 : decode cX1_in 15 = .ok (.ireturn, 1) := dk_172 (dk_at dksX1_in_0 15 rfl rfl)
def dkwX1_arePeople_1 : List UInt8 := [4, 167, 0, 4, 3, 172]
abbrev dktX1_arePeople_1 : List UInt8 := dkwX1_arePeople_1 ++ []
def dkwX1_arePeople_0 : List UInt8 := [26, 158, 0, 27, 26, 16, 64, 108, 4, 16, 9, 184, 0, 3, 153, 0, 14, 26, 16, 64, 112, 158, 0, 7]
abbrev dktX1_arePeople_0 : List UInt8 := dkwX1_arePeople_0 ++ dktX1_arePeople_1
theorem dksX1_arePeople_0 : cX1_arePeople.data.toList.drop 0 = dktX1_arePeople_0 := by decide +kernel
theorem dksX1_arePeople_1 : cX1_arePeople.data.toList.drop 24 = dktX1_arePeople_1 := dk_seg dksX1_arePeople_0 24 rfl rfl
theorem dX1_arePeople_0 : decode cX1_arePeople 0 = .ok (.iload_n 0, 1) := dk_26 (dk_at dksX1_arePeople_0 0 rfl rfl)
theorem dX1_arePeople_1 : decode cX1_arePeople 1 = .ok (.ifCond .le 27, 3) := dk_158 0 27 (dk_at dksX1_arePeople_0 1 rfl rfl)
theorem dX1_arePeople_4 : decode cX1_arePeople 4 = .ok (.iload_n 0, 1) := dk_26 (dk_at dksX1_arePeople_0 4 rfl rfl)
theorem dX1_arePeople_5 : decode cX1_arePeople 5 = .ok (.bipush 64, 2) := dk_16 64 (dk_at dksX1_arePeople_0 5 rfl rfl)
theorem dX1_arePeople_7 : decode cX1_arePeople 7 = .ok (.idiv, 1) := dk_108 (dk_at dksX1_arePeople_0 7 rfl rfl)
theorem dX1_arePeople_8 : decode cX1_arePeople 8 = .ok (.iconst 1, 1) := dk_4 (dk_at dksX1_arePeople_0 8 rfl rfl)
theorem dX1_arePeople_9 : decode cX1_arePeople 9 = .ok (.bipush 9, 2) := dk_16 9 (dk_at dksX1_arePeople_0 9 rfl rfl)
theorem dX1_arePeople_11 : decode cX1_arePeople 11 = .ok (.invokestatic 3, 3) := dk_184 0 3 (dk_at dksX1_arePeople_0 11 rfl rfl)
theorem dX1_arePeople_14 : decode cX1_arePeople 14 = .ok (.ifCond .eq 14, 3) := dk_153 0 14 (dk_at dksX1_arePeople_0 14 rfl rfl)
theorem dX1_arePeople_17 : decode cX1_arePeople 17 = .ok (.iload_n 0, 1) := dk_26 (dk_at dksX1_arePeople_0 17 rfl rfl)
theorem dX1_arePeople_18 : decode cX1_arePeople 18 = .ok (.bipush 64, 2) := dk_16 64 (dk_at dksX1_arePeople_0 18 rfl rfl)
theorem dX1_arePeople_20 : decode cX1_arePeople 20 = .ok (.irem, 1) := dk_112 (dk_at dksX1_arePeople_0 20 rfl rfl)
theorem dX1_arePeople_21 : decode cX1_arePeople 21 = .ok (.ifCond .le 7, 3) := dk_158 0 7 (dk_at dksX1_arePeople_0 21 rfl rfl)
theorem dX1_arePeople_24 : decode cX1_arePeople 24 = .ok (.iconst 1, 1) := dk_4 (dk_at dksX1_arePeople_1 0 rfl rfl)
theorem dX1_arePeople_25 : decode cX1_arePeople 25 = .ok (.goto 4, 3) := dk_167 0 4 (dk_at dksX1_arePeople_1 1 rfl rfl)
theorem dX1_arePeople_28 : decode cX1_arePeople 28 = .ok (.iconst 0, 1) := dk_3 (dk_at dksX1_arePeople_1 4 rfl rfl)
theorem dX1_arePeople_29 : decode cX1_arePeople 29 = .ok (.ireturn, 1) := dk_172 (dk_at dksX1_arePeople_1 5 rfl rfl)
def dkwX1_clock_2 : List UInt8 := [29, 181, 0, 134, 4, 172]
abbrev dktX1_clock_2 : List UInt8 := dkwX1_clock_2 ++ []
def dkwX1_clock_1 : List UInt8 := [3, 172, 42, 180, 0, 52, 180, 0, 127, 27, 50, 28, 181, 0, 131, 42, 180, 0, 52, 180, 0, 127, 27, 50]
abbrev dktX1_clock_1 : List UInt8 := dkwX1_clock_1 ++ dktX1_clock_2
def dkwX1_clock_0 : List UInt8 := [42, 27, 182, 0, 121, 153, 0, 19, 28, 184, 0, 124, 153, 0, 12, 29, 2, 4, 184, 0, 3, 154, 0, 5]
abbrev dktX1_clock_0 : List UInt8 := dkwX1_clock_0 ++ dktX1_clock_1
theorem dksX1_clock_0 : cX1_clock.data.toList.drop 0 = dktX1_clock_0 := by decide +kernel
theorem dksX1_clock_1 : cX1_clock.data.toList.drop 24 = dktX1_clock_1 := dk_seg dksX1_clock_0 24 rfl rfl
theorem dksX1_clock_2 : cX1_clock.data.toList.drop 48 = dktX1_clock_2 := dk_seg dksX1_clock_1 24 rfl rfl
theorem dX1_clock_0 : decode cX1_clock 0 = .ok (.aload_n 0, 1) := dk_42 (dk_at dksX1_clock_0 0 rfl rfl)
theorem dX1_clock_1 : decode cX1_clock 1 = .ok (.iload_n 1, 1) := dk_27 (dk_at dksX1_clock_0 1 rfl rfl)
theorem dX1_clock_2 : decode cX1_clock 2 = .ok (.invokevirtual 121, 3) := dk_182 0 121 (dk_at dksX1_clock_0 2 rfl rfl)
theorem dX1_clock_5 : decode cX1_clock 5 = .ok (.ifCond .eq 19, 3) := dk_153 0 19 (dk_at dksX1_clock_0 5 rfl rfl)
theorem dX1_clock_8 : decode cX1_clock 8 = .ok (.iload_n 2, 1) := dk_28 (dk_at dksX1_clock_0 8 rfl rfl)
theorem dX1_clock_9 : decode cX1_clock 9 = .ok (.invokestatic 124, 3) := dk_184 0 124 (dk_at dksX1_clock_0 9 rfl rfl)
theorem dX1_clock_12 : decode cX1_clock 12 = .ok (.ifCond .eq 12, 3) := dk_153 0 12 (dk_at dksX1_clock_0 12 rfl rfl)
theorem dX1_clock_15 : decode cX1_clock 15 = .ok (.iload_n 3, 1) := dk_29 (dk_at dksX1_clock_0 15 rfl rfl)
theorem dX1_clock_16 : decode cX1_clock 16 = .ok (.iconst (-1), 1) := dk_2 (dk_at dksX1_clock_0 16 rfl rfl)
theorem dX1_clock_17 : decode cX1_clock 17 = .ok (.iconst 1, 1) := dk_4 (dk_at dksX1_clock_0 17 rfl rfl)
theorem dX1_clock_18 : decode cX1_clock 18 = .ok (.invokestatic 3, 3) := dk_184 0 3 (dk_at dksX1_clock_0 18 rfl rfl)
theorem dX1_clock_21 : decode cX1_clock 21 = .ok (.ifCond .ne 5, 3) := dk_154 0 5 (dk_at dksX1_clock_0 21 rfl rfl)
theorem dX1_clock_24 : decode cX1_clock 24 = .ok (.iconst 0, 1) := dk_3 (dk_at dksX1_clock_1 0 rfl rfl)
theorem dX1_clock_25 : decode cX1_clock 25 = .ok (.ireturn, 1) := dk_172 (dk_at dksX1_clock_1 1 rfl rfl)
theorem dX1_clock_26 : decode cX1_clock 26 = .ok (.aload_n 0, 1) := dk_42 (dk_at dksX1_clock_1 2 rfl rfl)
theorem dX1_clock_27 : decode cX1_clock 27 = .ok (.getfield 52, 3) := dk_180 0 52 (dk_at dksX1_clock_1 3 rfl rfl)
theorem dX1_clock_30 : decode cX1_clock 30 = .ok (.getfield 127, 3) := dk_180 0 127 (dk_at dksX1_clock_1 6 rfl rfl)
theorem dX1_clock_33 : decode cX1_clock 33 = .ok (.iload_n 1, 1) := dk_27 (dk_at dksX1_clock_1 9 rfl rfl)
theorem dX1_clock_34 : decode cX1_clock 34 = .ok (.aaload, 1) := dk_50 (dk_at dksX1_clock_1 10 rfl rfl)
theorem dX1_clock_35 : decode cX1_clock 35 = .ok (.iload_n 2, 1) := dk_28 (dk_at dksX1_clock_1 11 rfl rfl)
theorem dX1_clock_36 : decode cX1_clock 36 = .ok (.putfield 131, 3) := dk_181 0 131 (dk_at dksX1_clock_1 12 rfl rfl)
theorem dX1_clock_39 : decode cX1_clock 39 = .ok (.aload_n 0, 1) := dk_42 (dk_at dksX1_clock_1 15 rfl rfl)
theorem dX1_clock_40 : decode cX1_clock 40 = .ok (.getfield 52, 3) := dk_180 0 52 (dk_at dksX1_clock_1 16 rfl rfl)
theorem dX1_clock_43 : decode cX1_clock 43 = .ok (.getfield 127, 3) := dk_180 0 127 (dk_at dksX1_clock_1 19 rfl rfl)
theorem dX1_clock_46 : decode cX1_clock 46 = .ok (.iload_n 1, 1) := dk_27 (dk_at dksX1_clock_1 22 rfl rfl)
theorem dX1_clock_47 : decode cX1_clock 47 = .ok (.aaload, 1) := dk_50 (dk_at dksX1_clock_1 23 rfl rfl)
theorem dX1_clock_48 : decode cX1_clock 48 = .ok (.iload_n 3, 1) := dk_29 (dk_at dksX1_clock_2 0 rfl rfl)
theorem dX1_clock_49 : decode cX1_clock 49 = .ok (.putfield 134, 3) := dk_181 0 134 (dk_at dksX1_clock_2 1 rfl rfl)
theorem dX1_clock_52 : decode cX1_clock 52 = .ok (.iconst 1, 1) := dk_4 (dk_at dksX1_clock_2 4 rfl rfl)
theorem dX1_clock_53 : decode cX1_clock 53 = .ok (.ireturn, 1) := dk_172 (dk_at dksX1_clock_2 5 rfl rfl)
def dkwX1_isOffice_0 : List UInt8 := [27, 3, 42, 180, 0, 52, 180, 0, 19, 4, 100, 184, 0, 3, 172]
abbrev dktX1_isOffice_0 : List UInt8 := dkwX1_isOffice_0 ++ []
theorem dksX1_isOffice_0 : cX1_isOffice.data.toList.drop 0 = dktX1_isOffice_0 := by decide +kernel
theorem dX1_isOffice_0 : decode cX1_isOffice 0 = .ok (.iload_n 1, 1) := dk_27 (dk_at dksX1_isOffice_0 0 rfl rfl)
theorem dX1_isOffice_1 : decode cX1_isOffice 1 = .ok (.iconst 0, 1) := dk_3 (dk_at dksX1_isOffice_0 1 rfl rfl)
theorem dX1_isOffice_2 : decode cX1_isOffice 2 = .ok (.aload_n 0, 1) := dk_42 (dk_at dksX1_isOffice_0 2 rfl rfl)
theorem dX1_isOffice_3 : decode cX1_isOffice 3 = .ok (.getfield 52, 3) := dk_180 0 52 (dk_at dksX1_isOffice_0 3 rfl rfl)
theorem dX1_isOffice_6 : decode cX1_isOffice 6 = .ok (.getfield 19, 3) := dk_180 0 19 (dk_at dksX1_isOffice_0 6 rfl rfl)
theorem dX1_isOffice_9 : decode cX1_isOffice 9 = .ok (.iconst 1, 1) := dk_4 (dk_at dksX1_isOffice_0 9 rfl rfl)
theorem dX1_isOffice_10 : decode cX1_isOffice 10 = .ok (.isub, 1) := dk_100 (dk_at dksX1_isOffice_0 10 rfl rfl)
theorem dX1_isOffice_11 : decode cX1_isOffice 11 = .ok (.invokestatic 3, 3) := dk_184 0 3 (dk_at dksX1_isOffice_0 11 rfl rfl)
theorem dX1_isOffice_14 : decode cX1_isOffice 14 = .ok (.ireturn, 1) := dk_172 (dk_at dksX1_isOffice_0 14 rfl rfl)
def dkwX1_isHour_0 : List UInt8 := [26, 3, 17, 9, 95, 184, 0, 3, 172]
abbrev dktX1_isHour_0 : List UInt8 := dkwX1_isHour_0 ++ []
theorem dksX1_isHour_0 : cX1_isHour.data.toList.drop 0 = dktX1_isHour_0 := by decide +kernel
theorem dX1_isHour_0 : decode cX1_isHour 0 = .ok (.iload_n 0, 1) := dk_26 (dk_at dksX1_isHour_0 0 rfl rfl)
theorem dX1_isHour_1 : decode cX1_isHour 1 = .ok (.iconst 0, 1) := dk_3 (dk_at dksX1_isHour_0 1 rfl rfl)
theorem dX1_isHour_2 : decode cX1_isHour 2 = .ok (.sipush 2399, 3) := dk_17 9 95 (dk_at dksX1_isHour_0 2 rfl rfl)
theorem dX1_isHour_5 : decode cX1_isHour 5 = .ok (.invokestatic 3, 3) := dk_184 0 3 (dk_at dksX1_isHour_0 5 rfl rfl)
theorem dX1_isHour_8 : decode cX1_isHour 8 = .ok (.ireturn, 1) := dk_172 (dk_at dksX1_isHour_0 8 rfl rfl)
def dkwX1_feast_1 : List UInt8 := [180, 0, 127, 27, 50, 180, 0, 137, 28, 29, 84, 4, 172]
abbrev dktX1_feast_1 : List UInt8 := dkwX1_feast_1 ++ []
def dkwX1_feast_0 : List UInt8 := [42, 27, 182, 0, 121, 153, 0, 13, 28, 3, 16, 99, 184, 0, 3, 154, 0, 5, 3, 172, 42, 180, 0, 52]
abbrev dktX1_feast_0 : List UInt8 := dkwX1_feast_0 ++ dktX1_feast_1
theorem dksX1_feast_0 : cX1_feast.data.toList.drop 0 = dktX1_feast_0 := by decide +kernel
theorem dksX1_feast_1 : cX1_feast.data.toList.drop 24 = dktX1_feast_1 := dk_seg dksX1_feast_0 24 rfl rfl
theorem dX1_feast_0 : decode cX1_feast 0 = .ok (.aload_n 0, 1) := dk_42 (dk_at dksX1_feast_0 0 rfl rfl)
theorem dX1_feast_1 : decode cX1_feast 1 = .ok (.iload_n 1, 1) := dk_27 (dk_at dksX1_feast_0 1 rfl rfl)
theorem dX1_feast_2 : decode cX1_feast 2 = .ok (.invokevirtual 121, 3) := dk_182 0 121 (dk_at dksX1_feast_0 2 rfl rfl)
theorem dX1_feast_5 : decode cX1_feast 5 = .ok (.ifCond .eq 13, 3) := dk_153 0 13 (dk_at dksX1_feast_0 5 rfl rfl)
theorem dX1_feast_8 : decode cX1_feast 8 = .ok (.iload_n 2, 1) := dk_28 (dk_at dksX1_feast_0 8 rfl rfl)
theorem dX1_feast_9 : decode cX1_feast 9 = .ok (.iconst 0, 1) := dk_3 (dk_at dksX1_feast_0 9 rfl rfl)
theorem dX1_feast_10 : decode cX1_feast 10 = .ok (.bipush 99, 2) := dk_16 99 (dk_at dksX1_feast_0 10 rfl rfl)
theorem dX1_feast_12 : decode cX1_feast 12 = .ok (.invokestatic 3, 3) := dk_184 0 3 (dk_at dksX1_feast_0 12 rfl rfl)
theorem dX1_feast_15 : decode cX1_feast 15 = .ok (.ifCond .ne 5, 3) := dk_154 0 5 (dk_at dksX1_feast_0 15 rfl rfl)
theorem dX1_feast_18 : decode cX1_feast 18 = .ok (.iconst 0, 1) := dk_3 (dk_at dksX1_feast_0 18 rfl rfl)
theorem dX1_feast_19 : decode cX1_feast 19 = .ok (.ireturn, 1) := dk_172 (dk_at dksX1_feast_0 19 rfl rfl)
theorem dX1_feast_20 : decode cX1_feast 20 = .ok (.aload_n 0, 1) := dk_42 (dk_at dksX1_feast_0 20 rfl rfl)
theorem dX1_feast_21 : decode cX1_feast 21 = .ok (.getfield 52, 3) := dk_180 0 52 (dk_at dksX1_feast_0 21 rfl rfl)
theorem dX1_feast_24 : decode cX1_feast 24 = .ok (.getfield 127, 3) := dk_180 0 127 (dk_at dksX1_feast_1 0 rfl rfl)
theorem dX1_feast_27 : decode cX1_feast 27 = .ok (.iload_n 1, 1) := dk_27 (dk_at dksX1_feast_1 3 rfl rfl)
theorem dX1_feast_28 : decode cX1_feast 28 = .ok (.aaload, 1) := dk_50 (dk_at dksX1_feast_1 4 rfl rfl)
theorem dX1_feast_29 : decode cX1_feast 29 = .ok (.getfield 137, 3) := dk_180 0 137 (dk_at dksX1_feast_1 5 rfl rfl)
theorem dX1_feast_32 : decode cX1_feast 32 = .ok (.iload_n 2, 1) := dk_28 (dk_at dksX1_feast_1 8 rfl rfl)
theorem dX1_feast_33 : decode cX1_feast 33 = .ok (.iload_n 3, 1) := dk_29 (dk_at dksX1_feast_1 9 rfl rfl)
theorem dX1_feast_34 : decode cX1_feast 34 = .ok (.bastore, 1) := dk_84 (dk_at dksX1_feast_1 10 rfl rfl)
theorem dX1_feast_35 : decode cX1_feast 35 = .ok (.iconst 1, 1) := dk_4 (dk_at dksX1_feast_1 11 rfl rfl)
theorem dX1_feast_36 : decode cX1_feast 36 = .ok (.ireturn, 1) := dk_172 (dk_at dksX1_feast_1 12 rfl rfl)
def dkwX1_know_2 : List UInt8 := [180, 0, 52, 27, 28, 29, 182, 0, 145, 21, 4, 172]
abbrev dktX1_know_2 : List UInt8 := dkwX1_know_2 ++ []
def dkwX1_know_1 : List UInt8 := [16, 9, 184, 0, 3, 154, 0, 5, 2, 172, 42, 180, 0, 52, 180, 0, 141, 27, 50, 28, 46, 54, 4, 42]
abbrev dktX1_know_1 : List UInt8 := dkwX1_know_1 ++ dktX1_know_2
def dkwX1_know_0 : List UInt8 := [42, 27, 182, 0, 121, 153, 0, 26, 42, 28, 182, 0, 121, 153, 0, 18, 27, 28, 159, 0, 13, 29, 3]
abbrev dktX1_know_0 : List UInt8 := dkwX1_know_0 ++ dktX1_know_1
theorem dksX1_know_0 : cX1_know.data.toList.drop 0 = dktX1_know_0 := by decide +kernel
theorem dksX1_know_1 : cX1_know.data.toList.drop 23 = dktX1_know_1 := dk_seg dksX1_know_0 23 rfl rfl
theorem dksX1_know_2 : cX1_know.data.toList.drop 47 = dktX1_know_2 := dk_seg dksX1_know_1 24 rfl rfl
theorem dX1_know_0 : decode cX1_know 0 = .ok (.aload_n 0, 1) := dk_42 (dk_at dksX1_know_0 0 rfl rfl)
theorem dX1_know_1 : decode cX1_know 1 = .ok (.iload_n 1, 1) := dk_27 (dk_at dksX1_know_0 1 rfl rfl)
theorem dX1_know_2 : decode cX1_know 2 = .ok (.invokevirtual 121, 3) := dk_182 0 121 (dk_at dksX1_know_0 2 rfl rfl)
theorem dX1_know_5 : decode cX1_know 5 = .ok (.ifCond .eq 26, 3) := dk_153 0 26 (dk_at dksX1_know_0 5 rfl rfl)
theorem dX1_know_8 : decode cX1_know 8 = .ok (.aload_n 0, 1) := dk_42 (dk_at dksX1_know_0 8 rfl rfl)
theorem dX1_know_9 : decode cX1_know 9 = .ok (.iload_n 2, 1) := dk_28 (dk_at dksX1_know_0 9 rfl rfl)
theorem dX1_know_10 : decode cX1_know 10 = .ok (.invokevirtual 121, 3) := dk_182 0 121 (dk_at dksX1_know_0 10 rfl rfl)
theorem dX1_know_13 : decode cX1_know 13 = .ok (.ifCond .eq 18, 3) := dk_153 0 18 (dk_at dksX1_know_0 13 rfl rfl)
theorem dX1_know_16 : decode cX1_know 16 = .ok (.iload_n 1, 1) := dk_27 (dk_at dksX1_know_0 16 rfl rfl)
theorem dX1_know_17 : decode cX1_know 17 = .ok (.iload_n 2, 1) := dk_28 (dk_at dksX1_know_0 17 rfl rfl)
theorem dX1_know_18 : decode cX1_know 18 = .ok (.if_icmp .eq 13, 3) := dk_159 0 13 (dk_at dksX1_know_0 18 rfl rfl)
theorem dX1_know_21 : decode cX1_know 21 = .ok (.iload_n 3, 1) := dk_29 (dk_at dksX1_know_0 21 rfl rfl)
theorem dX1_know_22 : decode cX1_know 22 = .ok (.iconst 0, 1) := dk_3 (dk_at dksX1_know_0 22 rfl rfl)
theorem dX1_know_23 : decode cX1_know 23 = .ok (.bipush 9, 2) := dk_16 9 (dk_at dksX1_know_1 0 rfl rfl)
theorem dX1_know_25 : decode cX1_know 25 = .ok (.invokestatic 3, 3) := dk_184 0 3 (dk_at dksX1_know_1 2 rfl rfl)
theorem dX1_know_28 : decode cX1_know 28 = .ok (.ifCond .ne 5, 3) := dk_154 0 5 (dk_at dksX1_know_1 5 rfl rfl)
theorem dX1_know_31 : decode cX1_know 31 = .ok (.iconst (-1), 1) := dk_2 (dk_at dksX1_know_1 8 rfl rfl)
theorem dX1_know_32 : decode cX1_know 32 = .ok (.ireturn, 1) := dk_172 (dk_at dksX1_know_1 9 rfl rfl)
theorem dX1_know_33 : decode cX1_know 33 = .ok (.aload_n 0, 1) := dk_42 (dk_at dksX1_know_1 10 rfl rfl)
theorem dX1_know_34 : decode cX1_know 34 = .ok (.getfield 52, 3) := dk_180 0 52 (dk_at dksX1_know_1 11 rfl rfl)
theorem dX1_know_37 : decode cX1_know 37 = .ok (.getfield 141, 3) := dk_180 0 141 (dk_at dksX1_know_1 14 rfl rfl)
theorem dX1_know_40 : decode cX1_know 40 = .ok (.iload_n 1, 1) := dk_27 (dk_at dksX1_know_1 17 rfl rfl)
theorem dX1_know_41 : decode cX1_know 41 = .ok (.aaload, 1) := dk_50 (dk_at dksX1_know_1 18 rfl rfl)
theorem dX1_know_42 : decode cX1_know 42 = .ok (.iload_n 2, 1) := dk_28 (dk_at dksX1_know_1 19 rfl rfl)
theorem dX1_know_43 : decode cX1_know 43 = .ok (.iaload, 1) := dk_46 (dk_at dksX1_know_1 20 rfl rfl)
theorem dX1_know_44 : decode cX1_know 44 = .ok (.istore 4, 2) := dk_54 4 (dk_at dksX1_know_1 21 rfl rfl)
theorem dX1_know_46 : decode cX1_know 46 = .ok (.aload_n 0, 1) := dk_42 (dk_at dksX1_know_1 23 rfl rfl)
theorem dX1_know_47 : decode cX1_know 47 = .ok (.getfield 52, 3) := dk_180 0 52 (dk_at dksX1_know_2 0 rfl rfl)
theorem dX1_know_50 : decode cX1_know 50 = .ok (.iload_n 1, 1) := dk_27 (dk_at dksX1_know_2 3 rfl rfl)
theorem dX1_know_51 : decode cX1_know 51 = .ok (.iload_n 2, 1) := dk_28 (dk_at dksX1_know_2 4 rfl rfl)
theorem dX1_know_52 : decode cX1_know 52 = .ok (.iload_n 3, 1) := dk_29 (dk_at dksX1_know_2 5 rfl rfl)
theorem dX1_know_53 : decode cX1_know 53 = .ok (.invokevirtual 145, 3) := dk_182 0 145 (dk_at dksX1_know_2 6 rfl rfl)
theorem dX1_know_56 : decode cX1_know 56 = .ok (.iload 4, 2) := dk_21 4 (dk_at dksX1_know_2 9 rfl rfl)
theorem dX1_know_58 : decode cX1_know 58 = .ok (.ireturn, 1) := dk_172 (dk_at dksX1_know_2 11 rfl rfl)
def dkwX1_sheet_6 : List UInt8 := [54, 7, 132, 8, 1, 167, 255, 169, 21, 7, 172]
abbrev dktX1_sheet_6 : List UInt8 := dkwX1_sheet_6 ++ []
def dkwX1_sheet_5 : List UInt8 := [184, 0, 163, 184, 0, 169, 182, 0, 145, 21, 7, 42, 180, 0, 52, 180, 0, 141, 27, 50, 21, 8, 46, 96]
abbrev dktX1_sheet_5 : List UInt8 := dkwX1_sheet_5 ++ dktX1_sheet_6
def dkwX1_sheet_4 : List UInt8 := [27, 21, 8, 25, 6, 199, 0, 7, 3, 167, 0, 19, 3, 16, 9, 25, 6, 21, 8, 184, 0, 159]
abbrev dktX1_sheet_4 : List UInt8 := dkwX1_sheet_4 ++ dktX1_sheet_5
def dkwX1_sheet_3 : List UInt8 := [21, 8, 27, 160, 0, 6, 167, 0, 66, 25, 6, 198, 0, 9, 21, 8, 29, 162, 0, 38, 42, 180, 0, 52]
abbrev dktX1_sheet_3 : List UInt8 := dkwX1_sheet_3 ++ dktX1_sheet_4
def dkwX1_sheet_2 : List UInt8 := [58, 7, 16, 254, 172, 3, 54, 7, 3, 54, 8, 21, 8, 42, 180, 0, 52, 180, 0, 19, 162, 0, 81]
abbrev dktX1_sheet_2 : List UInt8 := dkwX1_sheet_2 ++ dktX1_sheet_3
def dkwX1_sheet_1 : List UInt8 := [172, 1, 58, 6, 28, 6, 162, 0, 22, 28, 29, 21, 4, 21, 5, 184, 0, 153, 58, 6, 167, 0, 8]
abbrev dktX1_sheet_1 : List UInt8 := dkwX1_sheet_1 ++ dktX1_sheet_2
def dkwX1_sheet_0 : List UInt8 := [42, 27, 182, 0, 121, 153, 0, 18, 28, 3, 6, 184, 0, 3, 153, 0, 9, 29, 16, 6, 164, 0, 5, 2]
abbrev dktX1_sheet_0 : List UInt8 := dkwX1_sheet_0 ++ dktX1_sheet_1
theorem dksX1_sheet_0 : cX1_sheet.data.toList.drop 0 = dktX1_sheet_0 := by decide +kernel
theorem dksX1_sheet_1 : cX1_sheet.data.toList.drop 24 = dktX1_sheet_1 := dk_seg dksX1_sheet_0 24 rfl rfl
theorem dksX1_sheet_2 : cX1_sheet.data.toList.drop 47 = dktX1_sheet_2 := dk_seg dksX1_sheet_1 23 rfl rfl
theorem dksX1_sheet_3 : cX1_sheet.data.toList.drop 70 = dktX1_sheet_3 := dk_seg dksX1_sheet_2 23 rfl rfl
theorem dksX1_sheet_4 : cX1_sheet.data.toList.drop 94 = dktX1_sheet_4 := dk_seg dksX1_sheet_3 24 rfl rfl
theorem dksX1_sheet_5 : cX1_sheet.data.toList.drop 116 = dktX1_sheet_5 := dk_seg dksX1_sheet_4 22 rfl rfl
theorem dksX1_sheet_6 : cX1_sheet.data.toList.drop 140 = dktX1_sheet_6 := dk_seg dksX1_sheet_5 24 rfl rfl
theorem dX1_sheet_0 : decode cX1_sheet 0 = .ok (.aload_n 0, 1) := dk_42 (dk_at dksX1_sheet_0 0 rfl rfl)
theorem dX1_sheet_1 : decode cX1_sheet 1 = .ok (.iload_n 1, 1) := dk_27 (dk_at dksX1_sheet_0 1 rfl rfl)
theorem dX1_sheet_2 : decode cX1_sheet 2 = .ok (.invokevirtual 121, 3) := dk_182 0 121 (dk_at dksX1_sheet_0 2 rfl rfl)
theorem dX1_sheet_5 : decode cX1_sheet 5 = .ok (.ifCond .eq 18, 3) := dk_153 0 18 (dk_at dksX1_sheet_0 5 rfl rfl)
theorem dX1_sheet_8 : decode cX1_sheet 8 = .ok (.iload_n 2, 1) := dk_28 (dk_at dksX1_sheet_0 8 rfl rfl)
theorem dX1_sheet_9 : decode cX1_sheet 9 = .ok (.iconst 0, 1) := dk_3 (dk_at dksX1_sheet_0 9 rfl rfl)
theorem dX1_sheet_10 : decode cX1_sheet 10 = .ok (.iconst 3, 1) := dk_6 (dk_at dksX1_sheet_0 10 rfl rfl)
theorem dX1_sheet_11 : decode cX1_sheet 11 = .ok (.invokestatic 3, 3) := dk_184 0 3 (dk_at dksX1_sheet_0 11 rfl rfl)
theorem dX1_sheet_14 : decode cX1_sheet 14 = .ok (.ifCond .eq 9, 3) := dk_153 0 9 (dk_at dksX1_sheet_0 14 rfl rfl)
theorem dX1_sheet_17 : decode cX1_sheet 17 = .ok (.iload_n 3, 1) := dk_29 (dk_at dksX1_sheet_0 17 rfl rfl)
theorem dX1_sheet_18 : decode cX1_sheet 18 = .ok (.bipush 6, 2) := dk_16 6 (dk_at dksX1_sheet_0 18 rfl rfl)
theorem dX1_sheet_20 : decode cX1_sheet 20 = .ok (.if_icmp .le 5, 3) := dk_164 0 5 (dk_at dksX1_sheet_0 20 rfl rfl)
theorem dX1_sheet_23 : decode cX1_sheet 23 = .ok (.iconst (-1), 1) := dk_2 (dk_at dksX1_sheet_0 23 rfl rfl)
theorem dX1_sheet_24 : decode cX1_sheet 24 = .ok (.ireturn, 1) := dk_172 (dk_at dksX1_sheet_1 0 rfl rfl)
theorem dX1_sheet_25 : decode cX1_sheet 25 = .ok (.aconst_null, 1) := dk_1 (dk_at dksX1_sheet_1 1 rfl rfl)
theorem dX1_sheet_26 : decode cX1_sheet 26 = .ok (.astore 6, 2) := dk_58 6 (dk_at dksX1_sheet_1 2 rfl rfl)
theorem dX1_sheet_28 : decode cX1_sheet 28 = .ok (.iload_n 2, 1) := dk_28 (dk_at dksX1_sheet_1 4 rfl rfl)
theorem dX1_sheet_29 : decode cX1_sheet 29 = .ok (.iconst 3, 1) := dk_6 (dk_at dksX1_sheet_1 5 rfl rfl)
theorem dX1_sheet_30 : decode cX1_sheet 30 = .ok (.if_icmp .ge 22, 3) := dk_162 0 22 (dk_at dksX1_sheet_1 6 rfl rfl)
theorem dX1_sheet_33 : decode cX1_sheet 33 = .ok (.iload_n 2, 1) := dk_28 (dk_at dksX1_sheet_1 9 rfl rfl)
theorem dX1_sheet_34 : decode cX1_sheet 34 = .ok (.iload_n 3, 1) := dk_29 (dk_at dksX1_sheet_1 10 rfl rfl)
theorem dX1_sheet_35 : decode cX1_sheet 35 = .ok (.iload 4, 2) := dk_21 4 (dk_at dksX1_sheet_1 11 rfl rfl)
theorem dX1_sheet_37 : decode cX1_sheet 37 = .ok (.iload 5, 2) := dk_21 5 (dk_at dksX1_sheet_1 13 rfl rfl)
theorem dX1_sheet_39 : decode cX1_sheet 39 = .ok (.invokestatic 153, 3) := dk_184 0 153 (dk_at dksX1_sheet_1 15 rfl rfl)
theorem dX1_sheet_42 : decode cX1_sheet 42 = .ok (.astore 6, 2) := dk_58 6 (dk_at dksX1_sheet_1 18 rfl rfl)
theorem dX1_sheet_44 : decode cX1_sheet 44 = .ok (.goto 8, 3) := dk_167 0 8 (dk_at dksX1_sheet_1 20 rfl rfl)
theorem dX1_sheet_47 : decode cX1_sheet 47 = .ok (.astore 7, 2) := dk_58 7 (dk_at dksX1_sheet_2 0 rfl rfl)
theorem dX1_sheet_49 : decode cX1_sheet 49 = .ok (.bipush (-2), 2) := dk_16 254 (dk_at dksX1_sheet_2 2 rfl rfl)
theorem dX1_sheet_51 : decode cX1_sheet 51 = .ok (.ireturn, 1) := dk_172 (dk_at dksX1_sheet_2 4 rfl rfl)
theorem dX1_sheet_52 : decode cX1_sheet 52 = .ok (.iconst 0, 1) := dk_3 (dk_at dksX1_sheet_2 5 rfl rfl)
theorem dX1_sheet_53 : decode cX1_sheet 53 = .ok (.istore 7, 2) := dk_54 7 (dk_at dksX1_sheet_2 6 rfl rfl)
theorem dX1_sheet_55 : decode cX1_sheet 55 = .ok (.iconst 0, 1) := dk_3 (dk_at dksX1_sheet_2 8 rfl rfl)
theorem dX1_sheet_56 : decode cX1_sheet 56 = .ok (.istore 8, 2) := dk_54 8 (dk_at dksX1_sheet_2 9 rfl rfl)
theorem dX1_sheet_58 : decode cX1_sheet 58 = .ok (.iload 8, 2) := dk_21 8 (dk_at dksX1_sheet_2 11 rfl rfl)
theorem dX1_sheet_60 : decode cX1_sheet 60 = .ok (.aload_n 0, 1) := dk_42 (dk_at dksX1_sheet_2 13 rfl rfl)
theorem dX1_sheet_61 : decode cX1_sheet 61 = .ok (.getfield 52, 3) := dk_180 0 52 (dk_at dksX1_sheet_2 14 rfl rfl)
theorem dX1_sheet_64 : decode cX1_sheet 64 = .ok (.getfield 19, 3) := dk_180 0 19 (dk_at dksX1_sheet_2 17 rfl rfl)
theorem dX1_sheet_67 : decode cX1_sheet 67 = .ok (.if_icmp .ge 81, 3) := dk_162 0 81 (dk_at dksX1_sheet_2 20 rfl rfl)
theorem dX1_sheet_70 : decode cX1_sheet 70 = .ok (.iload 8, 2) := dk_21 8 (dk_at dksX1_sheet_3 0 rfl rfl)
theorem dX1_sheet_72 : decode cX1_sheet 72 = .ok (.iload_n 1, 1) := dk_27 (dk_at dksX1_sheet_3 2 rfl rfl)
theorem dX1_sheet_73 : decode cX1_sheet 73 = .ok (.if_icmp .ne 6, 3) := dk_160 0 6 (dk_at dksX1_sheet_3 3 rfl rfl)
theorem dX1_sheet_76 : decode cX1_sheet 76 = .ok (.goto 66, 3) := dk_167 0 66 (dk_at dksX1_sheet_3 6 rfl rfl)
theorem dX1_sheet_79 : decode cX1_sheet 79 = .ok (.aload 6, 2) := dk_25 6 (dk_at dksX1_sheet_3 9 rfl rfl)
theorem dX1_sheet_81 : decode cX1_sheet 81 = .ok (.ifnull 9, 3) := dk_198 0 9 (dk_at dksX1_sheet_3 11 rfl rfl)
theorem dX1_sheet_84 : decode cX1_sheet 84 = .ok (.iload 8, 2) := dk_21 8 (dk_at dksX1_sheet_3 14 rfl rfl)
theorem dX1_sheet_86 : decode cX1_sheet 86 = .ok (.iload_n 3, 1) := dk_29 (dk_at dksX1_sheet_3 16 rfl rfl)
theorem dX1_sheet_87 : decode cX1_sheet 87 = .ok (.if_icmp .ge 38, 3) := dk_162 0 38 (dk_at dksX1_sheet_3 17 rfl rfl)
theorem dX1_sheet_90 : decode cX1_sheet 90 = .ok (.aload_n 0, 1) := dk_42 (dk_at dksX1_sheet_3 20 rfl rfl)
theorem dX1_sheet_91 : decode cX1_sheet 91 = .ok (.getfield 52, 3) := dk_180 0 52 (dk_at dksX1_sheet_3 21 rfl rfl)
theorem dX1_sheet_94 : decode cX1_sheet 94 = .ok (.iload_n 1, 1) := dk_27 (dk_at dksX1_sheet_4 0 rfl rfl)
theorem dX1_sheet_95 : decode cX1_sheet 95 = .ok (.iload 8, 2) := dk_21 8 (dk_at dksX1_sheet_4 1 rfl rfl)
theorem dX1_sheet_97 : decode cX1_sheet 97 = .ok (.aload 6, 2) := dk_25 6 (dk_at dksX1_sheet_4 3 rfl rfl)
theorem dX1_sheet_99 : decode cX1_sheet 99 = .ok (.ifnonnull 7, 3) := dk_199 0 7 (dk_at dksX1_sheet_4 5 rfl rfl)
theorem dX1_sheet_102 : decode cX1_sheet 102 = .ok (.iconst 0, 1) := dk_3 (dk_at dksX1_sheet_4 8 rfl rfl)
theorem dX1_sheet_103 : decode cX1_sheet 103 = .ok (.goto 19, 3) := dk_167 0 19 (dk_at dksX1_sheet_4 9 rfl rfl)
theorem dX1_sheet_106 : decode cX1_sheet 106 = .ok (.iconst 0, 1) := dk_3 (dk_at dksX1_sheet_4 12 rfl rfl)
theorem dX1_sheet_107 : decode cX1_sheet 107 = .ok (.bipush 9, 2) := dk_16 9 (dk_at dksX1_sheet_4 13 rfl rfl)
theorem dX1_sheet_109 : decode cX1_sheet 109 = .ok (.aload 6, 2) := dk_25 6 (dk_at dksX1_sheet_4 15 rfl rfl)
theorem dX1_sheet_111 : decode cX1_sheet 111 = .ok (.iload 8, 2) := dk_21 8 (dk_at dksX1_sheet_4 17 rfl rfl)
theorem dX1_sheet_113 : decode cX1_sheet 113 = .ok (.invokestatic 159, 3) := dk_184 0 159 (dk_at dksX1_sheet_4 19 rfl rfl)
theorem dX1_sheet_116 : decode cX1_sheet 116 = .ok (.invokestatic 163, 3) := dk_184 0 163 (dk_at dksX1_sheet_5 0 rfl rfl)
theorem dX1_sheet_119 : decode cX1_sheet 119 = .ok (.invokestatic 169, 3) := dk_184 0 169 (dk_at dksX1_sheet_5 3 rfl rfl)
theorem dX1_sheet_122 : decode cX1_sheet 122 = .ok (.invokevirtual 145, 3) := dk_182 0 145 (dk_at dksX1_sheet_5 6 rfl rfl)
theorem dX1_sheet_125 : decode cX1_sheet 125 = .ok (.iload 7, 2) := dk_21 7 (dk_at dksX1_sheet_5 9 rfl rfl)
theorem dX1_sheet_127 : decode cX1_sheet 127 = .ok (.aload_n 0, 1) := dk_42 (dk_at dksX1_sheet_5 11 rfl rfl)
theorem dX1_sheet_128 : decode cX1_sheet 128 = .ok (.getfield 52, 3) := dk_180 0 52 (dk_at dksX1_sheet_5 12 rfl rfl)
theorem dX1_sheet_131 : decode cX1_sheet 131 = .ok (.getfield 141, 3) := dk_180 0 141 (dk_at dksX1_sheet_5 15 rfl rfl)
theorem dX1_sheet_134 : decode cX1_sheet 134 = .ok (.iload_n 1, 1) := dk_27 (dk_at dksX1_sheet_5 18 rfl rfl)
theorem dX1_sheet_135 : decode cX1_sheet 135 = .ok (.aaload, 1) := dk_50 (dk_at dksX1_sheet_5 19 rfl rfl)
theorem dX1_sheet_136 : decode cX1_sheet 136 = .ok (.iload 8, 2) := dk_21 8 (dk_at dksX1_sheet_5 20 rfl rfl)
theorem dX1_sheet_138 : decode cX1_sheet 138 = .ok (.iaload, 1) := dk_46 (dk_at dksX1_sheet_5 22 rfl rfl)
theorem dX1_sheet_139 : decode cX1_sheet 139 = .ok (.iadd, 1) := dk_96 (dk_at dksX1_sheet_5 23 rfl rfl)
theorem dX1_sheet_140 : decode cX1_sheet 140 = .ok (.istore 7, 2) := dk_54 7 (dk_at dksX1_sheet_6 0 rfl rfl)
theorem dX1_sheet_142 : decode cX1_sheet 142 = .ok (.iinc 8 1, 3) := dk_132 8 1 (dk_at dksX1_sheet_6 2 rfl rfl)
theorem dX1_sheet_145 : decode cX1_sheet 145 = .ok (.goto (-87), 3) := dk_167 255 169 (dk_at dksX1_sheet_6 5 rfl rfl)
theorem dX1_sheet_148 : decode cX1_sheet 148 = .ok (.iload 7, 2) := dk_21 7 (dk_at dksX1_sheet_6 8 rfl rfl)
theorem dX1_sheet_150 : decode cX1_sheet 150 = .ok (.ireturn, 1) := dk_172 (dk_at dksX1_sheet_6 10 rfl rfl)
def dkwX1_rowOf_5 : List UInt8 := [167, 255, 234, 25, 5, 176]
abbrev dktX1_rowOf_5 : List UInt8 := dkwX1_rowOf_5 ++ []
def dkwX1_rowOf_4 : List UInt8 := [21, 6, 27, 162, 0, 22, 25, 5, 21, 6, 21, 4, 79, 132, 6, 1, 21, 4, 29, 96, 54, 4]
abbrev dktX1_rowOf_4 : List UInt8 := dkwX1_rowOf_4 ++ dktX1_rowOf_5
def dkwX1_rowOf_3 : List UInt8 := [86, 132, 6, 1, 21, 4, 29, 96, 54, 4, 167, 255, 233, 25, 5, 176, 27, 188, 10, 58, 5, 3, 54, 6]
abbrev dktX1_rowOf_3 : List UInt8 := dkwX1_rowOf_3 ++ dktX1_rowOf_4
def dkwX1_rowOf_2 : List UInt8 := [160, 0, 40, 27, 188, 9, 58, 5, 3, 54, 6, 21, 6, 27, 162, 0, 23, 25, 5, 21, 6, 21, 4, 147]
abbrev dktX1_rowOf_2 : List UInt8 := dkwX1_rowOf_2 ++ dktX1_rowOf_3
def dkwX1_rowOf_1 : List UInt8 := [21, 6, 21, 4, 145, 84, 132, 6, 1, 21, 4, 29, 96, 54, 4, 167, 255, 233, 25, 5, 176, 26, 4]
abbrev dktX1_rowOf_1 : List UInt8 := dkwX1_rowOf_1 ++ dktX1_rowOf_2
def dkwX1_rowOf_0 : List UInt8 := [28, 54, 4, 26, 154, 0, 40, 27, 188, 8, 58, 5, 3, 54, 6, 21, 6, 27, 162, 0, 23, 25, 5]
abbrev dktX1_rowOf_0 : List UInt8 := dkwX1_rowOf_0 ++ dktX1_rowOf_1
theorem dksX1_rowOf_0 : cX1_rowOf.data.toList.drop 0 = dktX1_rowOf_0 := by decide +kernel
theorem dksX1_rowOf_1 : cX1_rowOf.data.toList.drop 23 = dktX1_rowOf_1 := dk_seg dksX1_rowOf_0 23 rfl rfl
theorem dksX1_rowOf_2 : cX1_rowOf.data.toList.drop 46 = dktX1_rowOf_2 := dk_seg dksX1_rowOf_1 23 rfl rfl
theorem dksX1_rowOf_3 : cX1_rowOf.data.toList.drop 70 = dktX1_rowOf_3 := dk_seg dksX1_rowOf_2 24 rfl rfl
theorem dksX1_rowOf_4 : cX1_rowOf.data.toList.drop 94 = dktX1_rowOf_4 := dk_seg dksX1_rowOf_3 24 rfl rfl
theorem dksX1_rowOf_5 : cX1_rowOf.data.toList.drop 116 = dktX1_rowOf_5 := dk_seg dksX1_rowOf_4 22 rfl rfl
theorem dX1_rowOf_0 : decode cX1_rowOf 0 = .ok (.iload_n 2, 1) := dk_28 (dk_at dksX1_rowOf_0 0 rfl rfl)
theorem dX1_rowOf_1 : decode cX1_rowOf 1 = .ok (.istore 4, 2) := dk_54 4 (dk_at dksX1_rowOf_0 1 rfl rfl)
theorem dX1_rowOf_3 : decode cX1_rowOf 3 = .ok (.iload_n 0, 1) := dk_26 (dk_at dksX1_rowOf_0 3 rfl rfl)
theorem dX1_rowOf_4 : decode cX1_rowOf 4 = .ok (.ifCond .ne 40, 3) := dk_154 0 40 (dk_at dksX1_rowOf_0 4 rfl rfl)
theorem dX1_rowOf_7 : decode cX1_rowOf 7 = .ok (.iload_n 1, 1) := dk_27 (dk_at dksX1_rowOf_0 7 rfl rfl)
theorem dX1_rowOf_8 : decode cX1_rowOf 8 = .ok (.newarray .byte, 2) := dk_188_8 (dk_at dksX1_rowOf_0 8 rfl rfl)
theorem dX1_rowOf_10 : decode cX1_rowOf 10 = .ok (.astore 5, 2) := dk_58 5 (dk_at dksX1_rowOf_0 10 rfl rfl)
theorem dX1_rowOf_12 : decode cX1_rowOf 12 = .ok (.iconst 0, 1) := dk_3 (dk_at dksX1_rowOf_0 12 rfl rfl)
theorem dX1_rowOf_13 : decode cX1_rowOf 13 = .ok (.istore 6, 2) := dk_54 6 (dk_at dksX1_rowOf_0 13 rfl rfl)
theorem dX1_rowOf_15 : decode cX1_rowOf 15 = .ok (.iload 6, 2) := dk_21 6 (dk_at dksX1_rowOf_0 15 rfl rfl)
theorem dX1_rowOf_17 : decode cX1_rowOf 17 = .ok (.iload_n 1, 1) := dk_27 (dk_at dksX1_rowOf_0 17 rfl rfl)
theorem dX1_rowOf_18 : decode cX1_rowOf 18 = .ok (.if_icmp .ge 23, 3) := dk_162 0 23 (dk_at dksX1_rowOf_0 18 rfl rfl)
theorem dX1_rowOf_21 : decode cX1_rowOf 21 = .ok (.aload 5, 2) := dk_25 5 (dk_at dksX1_rowOf_0 21 rfl rfl)
theorem dX1_rowOf_23 : decode cX1_rowOf 23 = .ok (.iload 6, 2) := dk_21 6 (dk_at dksX1_rowOf_1 0 rfl rfl)
theorem dX1_rowOf_25 : decode cX1_rowOf 25 = .ok (.iload 4, 2) := dk_21 4 (dk_at dksX1_rowOf_1 2 rfl rfl)
theorem dX1_rowOf_27 : decode cX1_rowOf 27 = .ok (.i2b, 1) := dk_145 (dk_at dksX1_rowOf_1 4 rfl rfl)
theorem dX1_rowOf_28 : decode cX1_rowOf 28 = .ok (.bastore, 1) := dk_84 (dk_at dksX1_rowOf_1 5 rfl rfl)
theorem dX1_rowOf_29 : decode cX1_rowOf 29 = .ok (.iinc 6 1, 3) := dk_132 6 1 (dk_at dksX1_rowOf_1 6 rfl rfl)
theorem dX1_rowOf_32 : decode cX1_rowOf 32 = .ok (.iload 4, 2) := dk_21 4 (dk_at dksX1_rowOf_1 9 rfl rfl)
theorem dX1_rowOf_34 : decode cX1_rowOf 34 = .ok (.iload_n 3, 1) := dk_29 (dk_at dksX1_rowOf_1 11 rfl rfl)
theorem dX1_rowOf_35 : decode cX1_rowOf 35 = .ok (.iadd, 1) := dk_96 (dk_at dksX1_rowOf_1 12 rfl rfl)
theorem dX1_rowOf_36 : decode cX1_rowOf 36 = .ok (.istore 4, 2) := dk_54 4 (dk_at dksX1_rowOf_1 13 rfl rfl)
theorem dX1_rowOf_38 : decode cX1_rowOf 38 = .ok (.goto (-23), 3) := dk_167 255 233 (dk_at dksX1_rowOf_1 15 rfl rfl)
theorem dX1_rowOf_41 : decode cX1_rowOf 41 = .ok (.aload 5, 2) := dk_25 5 (dk_at dksX1_rowOf_1 18 rfl rfl)
theorem dX1_rowOf_43 : decode cX1_rowOf 43 = .ok (.areturn, 1) := dk_176 (dk_at dksX1_rowOf_1 20 rfl rfl)
theorem dX1_rowOf_44 : decode cX1_rowOf 44 = .ok (.iload_n 0, 1) := dk_26 (dk_at dksX1_rowOf_1 21 rfl rfl)
theorem dX1_rowOf_45 : decode cX1_rowOf 45 = .ok (.iconst 1, 1) := dk_4 (dk_at dksX1_rowOf_1 22 rfl rfl)
theorem dX1_rowOf_46 : decode cX1_rowOf 46 = .ok (.if_icmp .ne 40, 3) := dk_160 0 40 (dk_at dksX1_rowOf_2 0 rfl rfl)
theorem dX1_rowOf_49 : decode cX1_rowOf 49 = .ok (.iload_n 1, 1) := dk_27 (dk_at dksX1_rowOf_2 3 rfl rfl)
theorem dX1_rowOf_50 : decode cX1_rowOf 50 = .ok (.newarray .short, 2) := dk_188_9 (dk_at dksX1_rowOf_2 4 rfl rfl)
theorem dX1_rowOf_52 : decode cX1_rowOf 52 = .ok (.astore 5, 2) := dk_58 5 (dk_at dksX1_rowOf_2 6 rfl rfl)
theorem dX1_rowOf_54 : decode cX1_rowOf 54 = .ok (.iconst 0, 1) := dk_3 (dk_at dksX1_rowOf_2 8 rfl rfl)
theorem dX1_rowOf_55 : decode cX1_rowOf 55 = .ok (.istore 6, 2) := dk_54 6 (dk_at dksX1_rowOf_2 9 rfl rfl)
theorem dX1_rowOf_57 : decode cX1_rowOf 57 = .ok (.iload 6, 2) := dk_21 6 (dk_at dksX1_rowOf_2 11 rfl rfl)
theorem dX1_rowOf_59 : decode cX1_rowOf 59 = .ok (.iload_n 1, 1) := dk_27 (dk_at dksX1_rowOf_2 13 rfl rfl)
theorem dX1_rowOf_60 : decode cX1_rowOf 60 = .ok (.if_icmp .ge 23, 3) := dk_162 0 23 (dk_at dksX1_rowOf_2 14 rfl rfl)
theorem dX1_rowOf_63 : decode cX1_rowOf 63 = .ok (.aload 5, 2) := dk_25 5 (dk_at dksX1_rowOf_2 17 rfl rfl)
theorem dX1_rowOf_65 : decode cX1_rowOf 65 = .ok (.iload 6, 2) := dk_21 6 (dk_at dksX1_rowOf_2 19 rfl rfl)
theorem dX1_rowOf_67 : decode cX1_rowOf 67 = .ok (.iload 4, 2) := dk_21 4 (dk_at dksX1_rowOf_2 21 rfl rfl)
theorem dX1_rowOf_69 : decode cX1_rowOf 69 = .ok (.i2s, 1) := dk_147 (dk_at dksX1_rowOf_2 23 rfl rfl)
theorem dX1_rowOf_70 : decode cX1_rowOf 70 = .ok (.sastore, 1) := dk_86 (dk_at dksX1_rowOf_3 0 rfl rfl)
theorem dX1_rowOf_71 : decode cX1_rowOf 71 = .ok (.iinc 6 1, 3) := dk_132 6 1 (dk_at dksX1_rowOf_3 1 rfl rfl)
theorem dX1_rowOf_74 : decode cX1_rowOf 74 = .ok (.iload 4, 2) := dk_21 4 (dk_at dksX1_rowOf_3 4 rfl rfl)
theorem dX1_rowOf_76 : decode cX1_rowOf 76 = .ok (.iload_n 3, 1) := dk_29 (dk_at dksX1_rowOf_3 6 rfl rfl)
theorem dX1_rowOf_77 : decode cX1_rowOf 77 = .ok (.iadd, 1) := dk_96 (dk_at dksX1_rowOf_3 7 rfl rfl)
theorem dX1_rowOf_78 : decode cX1_rowOf 78 = .ok (.istore 4, 2) := dk_54 4 (dk_at dksX1_rowOf_3 8 rfl rfl)
theorem dX1_rowOf_80 : decode cX1_rowOf 80 = .ok (.goto (-23), 3) := dk_167 255 233 (dk_at dksX1_rowOf_3 10 rfl rfl)
theorem dX1_rowOf_83 : decode cX1_rowOf 83 = .ok (.aload 5, 2) := dk_25 5 (dk_at dksX1_rowOf_3 13 rfl rfl)
theorem dX1_rowOf_85 : decode cX1_rowOf 85 = .ok (.areturn, 1) := dk_176 (dk_at dksX1_rowOf_3 15 rfl rfl)
theorem dX1_rowOf_86 : decode cX1_rowOf 86 = .ok (.iload_n 1, 1) := dk_27 (dk_at dksX1_rowOf_3 16 rfl rfl)
theorem dX1_rowOf_87 : decode cX1_rowOf 87 = .ok (.newarray .int, 2) := dk_188_10 (dk_at dksX1_rowOf_3 17 rfl rfl)
theorem dX1_rowOf_89 : decode cX1_rowOf 89 = .ok (.astore 5, 2) := dk_58 5 (dk_at dksX1_rowOf_3 19 rfl rfl)
theorem dX1_rowOf_91 : decode cX1_rowOf 91 = .ok (.iconst 0, 1) := dk_3 (dk_at dksX1_rowOf_3 21 rfl rfl)
theorem dX1_rowOf_92 : decode cX1_rowOf 92 = .ok (.istore 6, 2) := dk_54 6 (dk_at dksX1_rowOf_3 22 rfl rfl)
theorem dX1_rowOf_94 : decode cX1_rowOf 94 = .ok (.iload 6, 2) := dk_21 6 (dk_at dksX1_rowOf_4 0 rfl rfl)
theorem dX1_rowOf_96 : decode cX1_rowOf 96 = .ok (.iload_n 1, 1) := dk_27 (dk_at dksX1_rowOf_4 2 rfl rfl)
theorem dX1_rowOf_97 : decode cX1_rowOf 97 = .ok (.if_icmp .ge 22, 3) := dk_162 0 22 (dk_at dksX1_rowOf_4 3 rfl rfl)
theorem dX1_rowOf_100 : decode cX1_rowOf 100 = .ok (.aload 5, 2) := dk_25 5 (dk_at dksX1_rowOf_4 6 rfl rfl)
theorem dX1_rowOf_102 : decode cX1_rowOf 102 = .ok (.iload 6, 2) := dk_21 6 (dk_at dksX1_rowOf_4 8 rfl rfl)
theorem dX1_rowOf_104 : decode cX1_rowOf 104 = .ok (.iload 4, 2) := dk_21 4 (dk_at dksX1_rowOf_4 10 rfl rfl)
theorem dX1_rowOf_106 : decode cX1_rowOf 106 = .ok (.iastore, 1) := dk_79 (dk_at dksX1_rowOf_4 12 rfl rfl)
theorem dX1_rowOf_107 : decode cX1_rowOf 107 = .ok (.iinc 6 1, 3) := dk_132 6 1 (dk_at dksX1_rowOf_4 13 rfl rfl)
theorem dX1_rowOf_110 : decode cX1_rowOf 110 = .ok (.iload 4, 2) := dk_21 4 (dk_at dksX1_rowOf_4 16 rfl rfl)
theorem dX1_rowOf_112 : decode cX1_rowOf 112 = .ok (.iload_n 3, 1) := dk_29 (dk_at dksX1_rowOf_4 18 rfl rfl)
theorem dX1_rowOf_113 : decode cX1_rowOf 113 = .ok (.iadd, 1) := dk_96 (dk_at dksX1_rowOf_4 19 rfl rfl)
theorem dX1_rowOf_114 : decode cX1_rowOf 114 = .ok (.istore 4, 2) := dk_54 4 (dk_at dksX1_rowOf_4 20 rfl rfl)
theorem dX1_rowOf_116 : decode cX1_rowOf 116 = .ok (.goto (-22), 3) := dk_167 255 234 (dk_at dksX1_rowOf_5 0 rfl rfl)
theorem dX1_rowOf_119 : decode cX1_rowOf 119 = .ok (.aload 5, 2) := dk_25 5 (dk_at dksX1_rowOf_5 3 rfl rfl)
theorem dX1_rowOf_121 : decode cX1_rowOf 121 = .ok (.areturn, 1) := dk_176 (dk_at dksX1_rowOf_5 5 rfl rfl)
def dkwX1_entry_1 : List UInt8 := [192, 0, 150, 27, 53, 167, 0, 9, 42, 192, 0, 152, 27, 46, 172]
abbrev dktX1_entry_1 : List UInt8 := dkwX1_entry_1 ++ []
def dkwX1_entry_0 : List UInt8 := [42, 193, 0, 149, 153, 0, 10, 42, 192, 0, 149, 27, 51, 172, 42, 193, 0, 150, 153, 0, 12, 42]
abbrev dktX1_entry_0 : List UInt8 := dkwX1_entry_0 ++ dktX1_entry_1
theorem dksX1_entry_0 : cX1_entry.data.toList.drop 0 = dktX1_entry_0 := by decide +kernel
theorem dksX1_entry_1 : cX1_entry.data.toList.drop 22 = dktX1_entry_1 := dk_seg dksX1_entry_0 22 rfl rfl
theorem dX1_entry_0 : decode cX1_entry 0 = .ok (.aload_n 0, 1) := dk_42 (dk_at dksX1_entry_0 0 rfl rfl)
theorem dX1_entry_1 : decode cX1_entry 1 = .ok (.instanceof 149, 3) := dk_193 0 149 (dk_at dksX1_entry_0 1 rfl rfl)
theorem dX1_entry_4 : decode cX1_entry 4 = .ok (.ifCond .eq 10, 3) := dk_153 0 10 (dk_at dksX1_entry_0 4 rfl rfl)
theorem dX1_entry_7 : decode cX1_entry 7 = .ok (.aload_n 0, 1) := dk_42 (dk_at dksX1_entry_0 7 rfl rfl)
theorem dX1_entry_8 : decode cX1_entry 8 = .ok (.checkcast 149, 3) := dk_192 0 149 (dk_at dksX1_entry_0 8 rfl rfl)
theorem dX1_entry_11 : decode cX1_entry 11 = .ok (.iload_n 1, 1) := dk_27 (dk_at dksX1_entry_0 11 rfl rfl)
theorem dX1_entry_12 : decode cX1_entry 12 = .ok (.baload, 1) := dk_51 (dk_at dksX1_entry_0 12 rfl rfl)
theorem dX1_entry_13 : decode cX1_entry 13 = .ok (.ireturn, 1) := dk_172 (dk_at dksX1_entry_0 13 rfl rfl)
theorem dX1_entry_14 : decode cX1_entry 14 = .ok (.aload_n 0, 1) := dk_42 (dk_at dksX1_entry_0 14 rfl rfl)
theorem dX1_entry_15 : decode cX1_entry 15 = .ok (.instanceof 150, 3) := dk_193 0 150 (dk_at dksX1_entry_0 15 rfl rfl)
theorem dX1_entry_18 : decode cX1_entry 18 = .ok (.ifCond .eq 12, 3) := dk_153 0 12 (dk_at dksX1_entry_0 18 rfl rfl)
theorem dX1_entry_21 : decode cX1_entry 21 = .ok (.aload_n 0, 1) := dk_42 (dk_at dksX1_entry_0 21 rfl rfl)
theorem dX1_entry_22 : decode cX1_entry 22 = .ok (.checkcast 150, 3) := dk_192 0 150 (dk_at dksX1_entry_1 0 rfl rfl)
theorem dX1_entry_25 : decode cX1_entry 25 = .ok (.iload_n 1, 1) := dk_27 (dk_at dksX1_entry_1 3 rfl rfl)
theorem dX1_entry_26 : decode cX1_entry 26 = .ok (.saload, 1) := dk_53 (dk_at dksX1_entry_1 4 rfl rfl)
theorem dX1_entry_27 : decode cX1_entry 27 = .ok (.goto 9, 3) := dk_167 0 9 (dk_at dksX1_entry_1 5 rfl rfl)
theorem dX1_entry_30 : decode cX1_entry 30 = .ok (.aload_n 0, 1) := dk_42 (dk_at dksX1_entry_1 8 rfl rfl)
theorem dX1_entry_31 : decode cX1_entry 31 = .ok (.checkcast 152, 3) := dk_192 0 152 (dk_at dksX1_entry_1 9 rfl rfl)
theorem dX1_entry_34 : decode cX1_entry 34 = .ok (.iload_n 1, 1) := dk_27 (dk_at dksX1_entry_1 12 rfl rfl)
theorem dX1_entry_35 : decode cX1_entry 35 = .ok (.iaload, 1) := dk_46 (dk_at dksX1_entry_1 13 rfl rfl)
theorem dX1_entry_36 : decode cX1_entry 36 = .ok (.ireturn, 1) := dk_172 (dk_at dksX1_entry_1 14 rfl rfl)
def dkwX1_set_3 : List UInt8 := [180, 0, 52, 28, 181, 0, 175, 29, 172]
abbrev dktX1_set_3 : List UInt8 := dkwX1_set_3 ++ []
def dkwX1_set_2 : List UInt8 := [180, 0, 52, 180, 0, 175, 62, 27, 154, 0, 14, 42, 180, 0, 52, 28, 181, 0, 172, 167, 0, 11, 42]
abbrev dktX1_set_2 : List UInt8 := dkwX1_set_2 ++ dktX1_set_3
def dkwX1_set_1 : List UInt8 := [184, 0, 3, 154, 0, 5, 2, 172, 27, 154, 0, 13, 42, 180, 0, 52, 180, 0, 172, 167, 0, 10, 42]
abbrev dktX1_set_1 : List UInt8 := dkwX1_set_1 ++ dktX1_set_2
def dkwX1_set_0 : List UInt8 := [27, 3, 4, 184, 0, 3, 153, 0, 22, 28, 3, 27, 154, 0, 8, 16, 20, 167, 0, 5, 16, 100]
abbrev dktX1_set_0 : List UInt8 := dkwX1_set_0 ++ dktX1_set_1
theorem dksX1_set_0 : cX1_set.data.toList.drop 0 = dktX1_set_0 := by decide +kernel
theorem dksX1_set_1 : cX1_set.data.toList.drop 22 = dktX1_set_1 := dk_seg dksX1_set_0 22 rfl rfl
theorem dksX1_set_2 : cX1_set.data.toList.drop 45 = dktX1_set_2 := dk_seg dksX1_set_1 23 rfl rfl
theorem dksX1_set_3 : cX1_set.data.toList.drop 68 = dktX1_set_3 := dk_seg dksX1_set_2 23 rfl rfl
theorem dX1_set_0 : decode cX1_set 0 = .ok (.iload_n 1, 1) := dk_27 (dk_at dksX1_set_0 0 rfl rfl)
theorem dX1_set_1 : decode cX1_set 1 = .ok (.iconst 0, 1) := dk_3 (dk_at dksX1_set_0 1 rfl rfl)
theorem dX1_set_2 : decode cX1_set 2 = .ok (.iconst 1, 1) := dk_4 (dk_at dksX1_set_0 2 rfl rfl)
theorem dX1_set_3 : decode cX1_set 3 = .ok (.invokestatic 3, 3) := dk_184 0 3 (dk_at dksX1_set_0 3 rfl rfl)
theorem dX1_set_6 : decode cX1_set 6 = .ok (.ifCond .eq 22, 3) := dk_153 0 22 (dk_at dksX1_set_0 6 rfl rfl)
theorem dX1_set_9 : decode cX1_set 9 = .ok (.iload_n 2, 1) := dk_28 (dk_at dksX1_set_0 9 rfl rfl)
theorem dX1_set_10 : decode cX1_set 10 = .ok (.iconst 0, 1) := dk_3 (dk_at dksX1_set_0 10 rfl rfl)
theorem dX1_set_11 : decode cX1_set 11 = .ok (.iload_n 1, 1) := dk_27 (dk_at dksX1_set_0 11 rfl rfl)
theorem dX1_set_12 : decode cX1_set 12 = .ok (.ifCond .ne 8, 3) := dk_154 0 8 (dk_at dksX1_set_0 12 rfl rfl)
theorem dX1_set_15 : decode cX1_set 15 = .ok (.bipush 20, 2) := dk_16 20 (dk_at dksX1_set_0 15 rfl rfl)
theorem dX1_set_17 : decode cX1_set 17 = .ok (.goto 5, 3) := dk_167 0 5 (dk_at dksX1_set_0 17 rfl rfl)
theorem dX1_set_20 : decode cX1_set 20 = .ok (.bipush 100, 2) := dk_16 100 (dk_at dksX1_set_0 20 rfl rfl)
theorem dX1_set_22 : decode cX1_set 22 = .ok (.invokestatic 3, 3) := dk_184 0 3 (dk_at dksX1_set_1 0 rfl rfl)
theorem dX1_set_25 : decode cX1_set 25 = .ok (.ifCond .ne 5, 3) := dk_154 0 5 (dk_at dksX1_set_1 3 rfl rfl)
theorem dX1_set_28 : decode cX1_set 28 = .ok (.iconst (-1), 1) := dk_2 (dk_at dksX1_set_1 6 rfl rfl)
theorem dX1_set_29 : decode cX1_set 29 = .ok (.ireturn, 1) := dk_172 (dk_at dksX1_set_1 7 rfl rfl)
theorem dX1_set_30 : decode cX1_set 30 = .ok (.iload_n 1, 1) := dk_27 (dk_at dksX1_set_1 8 rfl rfl)
theorem dX1_set_31 : decode cX1_set 31 = .ok (.ifCond .ne 13, 3) := dk_154 0 13 (dk_at dksX1_set_1 9 rfl rfl)
theorem dX1_set_34 : decode cX1_set 34 = .ok (.aload_n 0, 1) := dk_42 (dk_at dksX1_set_1 12 rfl rfl)
theorem dX1_set_35 : decode cX1_set 35 = .ok (.getfield 52, 3) := dk_180 0 52 (dk_at dksX1_set_1 13 rfl rfl)
theorem dX1_set_38 : decode cX1_set 38 = .ok (.getfield 172, 3) := dk_180 0 172 (dk_at dksX1_set_1 16 rfl rfl)
theorem dX1_set_41 : decode cX1_set 41 = .ok (.goto 10, 3) := dk_167 0 10 (dk_at dksX1_set_1 19 rfl rfl)
theorem dX1_set_44 : decode cX1_set 44 = .ok (.aload_n 0, 1) := dk_42 (dk_at dksX1_set_1 22 rfl rfl)
theorem dX1_set_45 : decode cX1_set 45 = .ok (.getfield 52, 3) := dk_180 0 52 (dk_at dksX1_set_2 0 rfl rfl)
theorem dX1_set_48 : decode cX1_set 48 = .ok (.getfield 175, 3) := dk_180 0 175 (dk_at dksX1_set_2 3 rfl rfl)
theorem dX1_set_51 : decode cX1_set 51 = .ok (.istore_n 3, 1) := dk_62 (dk_at dksX1_set_2 6 rfl rfl)
theorem dX1_set_52 : decode cX1_set 52 = .ok (.iload_n 1, 1) := dk_27 (dk_at dksX1_set_2 7 rfl rfl)
theorem dX1_set_53 : decode cX1_set 53 = .ok (.ifCond .ne 14, 3) := dk_154 0 14 (dk_at dksX1_set_2 8 rfl rfl)
theorem dX1_set_56 : decode cX1_set 56 = .ok (.aload_n 0, 1) := dk_42 (dk_at dksX1_set_2 11 rfl rfl)
theorem dX1_set_57 : decode cX1_set 57 = .ok (.getfield 52, 3) := dk_180 0 52 (dk_at dksX1_set_2 12 rfl rfl)
theorem dX1_set_60 : decode cX1_set 60 = .ok (.iload_n 2, 1) := dk_28 (dk_at dksX1_set_2 15 rfl rfl)
theorem dX1_set_61 : decode cX1_set 61 = .ok (.putfield 172, 3) := dk_181 0 172 (dk_at dksX1_set_2 16 rfl rfl)
theorem dX1_set_64 : decode cX1_set 64 = .ok (.goto 11, 3) := dk_167 0 11 (dk_at dksX1_set_2 19 rfl rfl)
theorem dX1_set_67 : decode cX1_set 67 = .ok (.aload_n 0, 1) := dk_42 (dk_at dksX1_set_2 22 rfl rfl)
theorem dX1_set_68 : decode cX1_set 68 = .ok (.getfield 52, 3) := dk_180 0 52 (dk_at dksX1_set_3 0 rfl rfl)
theorem dX1_set_71 : decode cX1_set 71 = .ok (.iload_n 2, 1) := dk_28 (dk_at dksX1_set_3 3 rfl rfl)
theorem dX1_set_72 : decode cX1_set 72 = .ok (.putfield 175, 3) := dk_181 0 175 (dk_at dksX1_set_3 4 rfl rfl)
theorem dX1_set_75 : decode cX1_set 75 = .ok (.iload_n 3, 1) := dk_29 (dk_at dksX1_set_3 7 rfl rfl)
theorem dX1_set_76 : decode cX1_set 76 = .ok (.ireturn, 1) := dk_172 (dk_at dksX1_set_3 8 rfl rfl)
def dkwX1_open_1 : List UInt8 := [180, 0, 127, 27, 50, 28, 182, 0, 178, 153, 0, 7, 4, 167, 0, 4, 3, 172]
abbrev dktX1_open_1 : List UInt8 := dkwX1_open_1 ++ []
def dkwX1_open_0 : List UInt8 := [42, 27, 182, 0, 121, 153, 0, 10, 28, 184, 0, 124, 154, 0, 7, 2, 167, 0, 24, 42, 180, 0, 52]
abbrev dktX1_open_0 : List UInt8 := dkwX1_open_0 ++ dktX1_open_1
theorem dksX1_open_0 : cX1_open.data.toList.drop 0 = dktX1_open_0 := by decide +kernel
theorem dksX1_open_1 : cX1_open.data.toList.drop 23 = dktX1_open_1 := dk_seg dksX1_open_0 23 rfl rfl
theorem dX1_open_0 : decode cX1_open 0 = .ok (.aload_n 0, 1) := dk_42 (dk_at dksX1_open_0 0 rfl rfl)
theorem dX1_open_1 : decode cX1_open 1 = .ok (.iload_n 1, 1) := dk_27 (dk_at dksX1_open_0 1 rfl rfl)
theorem dX1_open_2 : decode cX1_open 2 = .ok (.invokevirtual 121, 3) := dk_182 0 121 (dk_at dksX1_open_0 2 rfl rfl)
theorem dX1_open_5 : decode cX1_open 5 = .ok (.ifCond .eq 10, 3) := dk_153 0 10 (dk_at dksX1_open_0 5 rfl rfl)
theorem dX1_open_8 : decode cX1_open 8 = .ok (.iload_n 2, 1) := dk_28 (dk_at dksX1_open_0 8 rfl rfl)
theorem dX1_open_9 : decode cX1_open 9 = .ok (.invokestatic 124, 3) := dk_184 0 124 (dk_at dksX1_open_0 9 rfl rfl)
theorem dX1_open_12 : decode cX1_open 12 = .ok (.ifCond .ne 7, 3) := dk_154 0 7 (dk_at dksX1_open_0 12 rfl rfl)
theorem dX1_open_15 : decode cX1_open 15 = .ok (.iconst (-1), 1) := dk_2 (dk_at dksX1_open_0 15 rfl rfl)
theorem dX1_open_16 : decode cX1_open 16 = .ok (.goto 24, 3) := dk_167 0 24 (dk_at dksX1_open_0 16 rfl rfl)
theorem dX1_open_19 : decode cX1_open 19 = .ok (.aload_n 0, 1) := dk_42 (dk_at dksX1_open_0 19 rfl rfl)
theorem dX1_open_20 : decode cX1_open 20 = .ok (.getfield 52, 3) := dk_180 0 52 (dk_at dksX1_open_0 20 rfl rfl)
theorem dX1_open_23 : decode cX1_open 23 = .ok (.getfield 127, 3) := dk_180 0 127 (dk_at dksX1_open_1 0 rfl rfl)
theorem dX1_open_26 : decode cX1_open 26 = .ok (.iload_n 1, 1) := dk_27 (dk_at dksX1_open_1 3 rfl rfl)
theorem dX1_open_27 : decode cX1_open 27 = .ok (.aaload, 1) := dk_50 (dk_at dksX1_open_1 4 rfl rfl)
theorem dX1_open_28 : decode cX1_open 28 = .ok (.iload_n 2, 1) := dk_28 (dk_at dksX1_open_1 5 rfl rfl)
theorem dX1_open_29 : decode cX1_open 29 = .ok (.invokevirtual 178, 3) := dk_182 0 178 (dk_at dksX1_open_1 6 rfl rfl)
theorem dX1_open_32 : decode cX1_open 32 = .ok (.ifCond .eq 7, 3) := dk_153 0 7 (dk_at dksX1_open_1 9 rfl rfl)
theorem dX1_open_35 : decode cX1_open 35 = .ok (.iconst 1, 1) := dk_4 (dk_at dksX1_open_1 12 rfl rfl)
theorem dX1_open_36 : decode cX1_open 36 = .ok (.goto 4, 3) := dk_167 0 4 (dk_at dksX1_open_1 13 rfl rfl)
theorem dX1_open_39 : decode cX1_open 39 = .ok (.iconst 0, 1) := dk_3 (dk_at dksX1_open_1 16 rfl rfl)
theorem dX1_open_40 : decode cX1_open 40 = .ok (.ireturn, 1) := dk_172 (dk_at dksX1_open_1 17 rfl rfl)
def dkwX1_overlap_1 : List UInt8 := [180, 0, 52, 27, 28, 29, 182, 0, 181, 167, 0, 4, 2, 172]
abbrev dktX1_overlap_1 : List UInt8 := dkwX1_overlap_1 ++ []
def dkwX1_overlap_0 : List UInt8 := [42, 27, 182, 0, 121, 153, 0, 31, 42, 28, 182, 0, 121, 153, 0, 23, 29, 184, 0, 124, 153, 0, 16, 42]
abbrev dktX1_overlap_0 : List UInt8 := dkwX1_overlap_0 ++ dktX1_overlap_1
theorem dksX1_overlap_0 : cX1_overlap.data.toList.drop 0 = dktX1_overlap_0 := by decide +kernel
theorem dksX1_overlap_1 : cX1_overlap.data.toList.drop 24 = dktX1_overlap_1 := dk_seg dksX1_overlap_0 24 rfl rfl
theorem dX1_overlap_0 : decode cX1_overlap 0 = .ok (.aload_n 0, 1) := dk_42 (dk_at dksX1_overlap_0 0 rfl rfl)
theorem dX1_overlap_1 : decode cX1_overlap 1 = .ok (.iload_n 1, 1) := dk_27 (dk_at dksX1_overlap_0 1 rfl rfl)
theorem dX1_overlap_2 : decode cX1_overlap 2 = .ok (.invokevirtual 121, 3) := dk_182 0 121 (dk_at dksX1_overlap_0 2 rfl rfl)
theorem dX1_overlap_5 : decode cX1_overlap 5 = .ok (.ifCond .eq 31, 3) := dk_153 0 31 (dk_at dksX1_overlap_0 5 rfl rfl)
theorem dX1_overlap_8 : decode cX1_overlap 8 = .ok (.aload_n 0, 1) := dk_42 (dk_at dksX1_overlap_0 8 rfl rfl)
theorem dX1_overlap_9 : decode cX1_overlap 9 = .ok (.iload_n 2, 1) := dk_28 (dk_at dksX1_overlap_0 9 rfl rfl)
theorem dX1_overlap_10 : decode cX1_overlap 10 = .ok (.invokevirtual 121, 3) := dk_182 0 121 (dk_at dksX1_overlap_0 10 rfl rfl)
theorem dX1_overlap_13 : decode cX1_overlap 13 = .ok (.ifCond .eq 23, 3) := dk_153 0 23 (dk_at dksX1_overlap_0 13 rfl rfl)
theorem dX1_overlap_16 : decode cX1_overlap 16 = .ok (.iload_n 3, 1) := dk_29 (dk_at dksX1_overlap_0 16 rfl rfl)
theorem dX1_overlap_17 : decode cX1_overlap 17 = .ok (.invokestatic 124, 3) := dk_184 0 124 (dk_at dksX1_overlap_0 17 rfl rfl)
theorem dX1_overlap_20 : decode cX1_overlap 20 = .ok (.ifCond .eq 16, 3) := dk_153 0 16 (dk_at dksX1_overlap_0 20 rfl rfl)
theorem dX1_overlap_23 : decode cX1_overlap 23 = .ok (.aload_n 0, 1) := dk_42 (dk_at dksX1_overlap_0 23 rfl rfl)
theorem dX1_overlap_24 : decode cX1_overlap 24 = .ok (.getfield 52, 3) := dk_180 0 52 (dk_at dksX1_overlap_1 0 rfl rfl)
theorem dX1_overlap_27 : decode cX1_overlap 27 = .ok (.iload_n 1, 1) := dk_27 (dk_at dksX1_overlap_1 3 rfl rfl)
theorem dX1_overlap_28 : decode cX1_overlap 28 = .ok (.iload_n 2, 1) := dk_28 (dk_at dksX1_overlap_1 4 rfl rfl)
theorem dX1_overlap_29 : decode cX1_overlap 29 = .ok (.iload_n 3, 1) := dk_29 (dk_at dksX1_overlap_1 5 rfl rfl)
theorem dX1_overlap_30 : decode cX1_overlap 30 = .ok (.invokevirtual 181, 3) := dk_182 0 181 (dk_at dksX1_overlap_1 6 rfl rfl)
theorem dX1_overlap_33 : decode cX1_overlap 33 = .ok (.goto 4, 3) := dk_167 0 4 (dk_at dksX1_overlap_1 9 rfl rfl)
theorem dX1_overlap_36 : decode cX1_overlap 36 = .ok (.iconst (-1), 1) := dk_2 (dk_at dksX1_overlap_1 12 rfl rfl)
theorem dX1_overlap_37 : decode cX1_overlap 37 = .ok (.ireturn, 1) := dk_172 (dk_at dksX1_overlap_1 13 rfl rfl)
def dkwX1_loses_1 : List UInt8 := [180, 0, 52, 27, 28, 29, 182, 0, 185, 167, 0, 4, 2, 172]
abbrev dktX1_loses_1 : List UInt8 := dkwX1_loses_1 ++ []
def dkwX1_loses_0 : List UInt8 := [42, 27, 182, 0, 121, 153, 0, 31, 42, 28, 182, 0, 121, 153, 0, 23, 29, 184, 0, 124, 153, 0, 16, 42]
abbrev dktX1_loses_0 : List UInt8 := dkwX1_loses_0 ++ dktX1_loses_1
theorem dksX1_loses_0 : cX1_loses.data.toList.drop 0 = dktX1_loses_0 := by decide +kernel
theorem dksX1_loses_1 : cX1_loses.data.toList.drop 24 = dktX1_loses_1 := dk_seg dksX1_loses_0 24 rfl rfl
theorem dX1_loses_0 : decode cX1_loses 0 = .ok (.aload_n 0, 1) := dk_42 (dk_at dksX1_loses_0 0 rfl rfl)
theorem dX1_loses_1 : decode cX1_loses 1 = .ok (.iload_n 1, 1) := dk_27 (dk_at dksX1_loses_0 1 rfl rfl)
theorem dX1_loses_2 : decode cX1_loses 2 = .ok (.invokevirtual 121, 3) := dk_182 0 121 (dk_at dksX1_loses_0 2 rfl rfl)
theorem dX1_loses_5 : decode cX1_loses 5 = .ok (.ifCond .eq 31, 3) := dk_153 0 31 (dk_at dksX1_loses_0 5 rfl rfl)
theorem dX1_loses_8 : decode cX1_loses 8 = .ok (.aload_n 0, 1) := dk_42 (dk_at dksX1_loses_0 8 rfl rfl)
theorem dX1_loses_9 : decode cX1_loses 9 = .ok (.iload_n 2, 1) := dk_28 (dk_at dksX1_loses_0 9 rfl rfl)
theorem dX1_loses_10 : decode cX1_loses 10 = .ok (.invokevirtual 121, 3) := dk_182 0 121 (dk_at dksX1_loses_0 10 rfl rfl)
theorem dX1_loses_13 : decode cX1_loses 13 = .ok (.ifCond .eq 23, 3) := dk_153 0 23 (dk_at dksX1_loses_0 13 rfl rfl)
theorem dX1_loses_16 : decode cX1_loses 16 = .ok (.iload_n 3, 1) := dk_29 (dk_at dksX1_loses_0 16 rfl rfl)
theorem dX1_loses_17 : decode cX1_loses 17 = .ok (.invokestatic 124, 3) := dk_184 0 124 (dk_at dksX1_loses_0 17 rfl rfl)
theorem dX1_loses_20 : decode cX1_loses 20 = .ok (.ifCond .eq 16, 3) := dk_153 0 16 (dk_at dksX1_loses_0 20 rfl rfl)
theorem dX1_loses_23 : decode cX1_loses 23 = .ok (.aload_n 0, 1) := dk_42 (dk_at dksX1_loses_0 23 rfl rfl)
theorem dX1_loses_24 : decode cX1_loses 24 = .ok (.getfield 52, 3) := dk_180 0 52 (dk_at dksX1_loses_1 0 rfl rfl)
theorem dX1_loses_27 : decode cX1_loses 27 = .ok (.iload_n 1, 1) := dk_27 (dk_at dksX1_loses_1 3 rfl rfl)
theorem dX1_loses_28 : decode cX1_loses 28 = .ok (.iload_n 2, 1) := dk_28 (dk_at dksX1_loses_1 4 rfl rfl)
theorem dX1_loses_29 : decode cX1_loses 29 = .ok (.iload_n 3, 1) := dk_29 (dk_at dksX1_loses_1 5 rfl rfl)
theorem dX1_loses_30 : decode cX1_loses 30 = .ok (.invokevirtual 185, 3) := dk_182 0 185 (dk_at dksX1_loses_1 6 rfl rfl)
theorem dX1_loses_33 : decode cX1_loses 33 = .ok (.goto 4, 3) := dk_167 0 4 (dk_at dksX1_loses_1 9 rfl rfl)
theorem dX1_loses_36 : decode cX1_loses 36 = .ok (.iconst (-1), 1) := dk_2 (dk_at dksX1_loses_1 12 rfl rfl)
theorem dX1_loses_37 : decode cX1_loses 37 = .ok (.ireturn, 1) := dk_172 (dk_at dksX1_loses_1 13 rfl rfl)
def dkwX1_dark_8 : List UInt8 := [182, 0, 101, 42, 21, 6, 133, 182, 0, 101, 29, 172]
abbrev dktX1_dark_8 : List UInt8 := dkwX1_dark_8 ++ []
def dkwX1_dark_7 : List UInt8 := [54, 6, 132, 7, 1, 167, 255, 128, 42, 3, 181, 0, 94, 42, 21, 4, 133, 182, 0, 101, 42, 21, 5, 133]
abbrev dktX1_dark_7 : List UInt8 := dkwX1_dark_7 ++ dktX1_dark_8
def dkwX1_dark_6 : List UInt8 := [4, 167, 0, 4, 3, 96, 62, 21, 8, 21, 5, 163, 0, 6, 167, 0, 11, 21, 8, 54, 5, 21, 7]
abbrev dktX1_dark_6 : List UInt8 := dkwX1_dark_6 ++ dktX1_dark_7
def dkwX1_dark_5 : List UInt8 := [154, 0, 14, 21, 4, 2, 160, 0, 8, 21, 7, 167, 0, 5, 21, 4, 54, 4, 29, 21, 8, 154, 0, 7]
abbrev dktX1_dark_5 : List UInt8 := dkwX1_dark_5 ++ dktX1_dark_6
def dkwX1_dark_4 : List UInt8 := [21, 7, 182, 0, 178, 153, 0, 7, 4, 167, 0, 4, 3, 96, 54, 8, 132, 9, 1, 167, 255, 200, 21, 8]
abbrev dktX1_dark_4 : List UInt8 := dkwX1_dark_4 ++ dktX1_dark_5
def dkwX1_dark_3 : List UInt8 := [42, 180, 0, 52, 21, 9, 27, 182, 0, 188, 153, 0, 25, 42, 180, 0, 52, 180, 0, 127, 21, 9, 50]
abbrev dktX1_dark_3 : List UInt8 := dkwX1_dark_3 ++ dktX1_dark_4
def dkwX1_dark_2 : List UInt8 := [96, 162, 0, 125, 3, 54, 8, 3, 54, 9, 21, 9, 42, 180, 0, 52, 180, 0, 19, 162, 0, 50, 21, 8]
abbrev dktX1_dark_2 : List UInt8 := dkwX1_dark_2 ++ dktX1_dark_3
def dkwX1_dark_1 : List UInt8 := [154, 0, 5, 2, 172, 3, 62, 2, 54, 4, 3, 54, 5, 28, 54, 6, 28, 54, 7, 21, 7, 28, 16, 24]
abbrev dktX1_dark_1 : List UInt8 := dkwX1_dark_1 ++ dktX1_dark_2
def dkwX1_dark_0 : List UInt8 := [27, 3, 8, 184, 0, 3, 153, 0, 20, 28, 184, 0, 124, 153, 0, 13, 42, 180, 0, 52, 180, 0, 19]
abbrev dktX1_dark_0 : List UInt8 := dkwX1_dark_0 ++ dktX1_dark_1
theorem dksX1_dark_0 : cX1_dark.data.toList.drop 0 = dktX1_dark_0 := by decide +kernel
theorem dksX1_dark_1 : cX1_dark.data.toList.drop 23 = dktX1_dark_1 := dk_seg dksX1_dark_0 23 rfl rfl
theorem dksX1_dark_2 : cX1_dark.data.toList.drop 47 = dktX1_dark_2 := dk_seg dksX1_dark_1 24 rfl rfl
theorem dksX1_dark_3 : cX1_dark.data.toList.drop 71 = dktX1_dark_3 := dk_seg dksX1_dark_2 24 rfl rfl
theorem dksX1_dark_4 : cX1_dark.data.toList.drop 94 = dktX1_dark_4 := dk_seg dksX1_dark_3 23 rfl rfl
theorem dksX1_dark_5 : cX1_dark.data.toList.drop 118 = dktX1_dark_5 := dk_seg dksX1_dark_4 24 rfl rfl
theorem dksX1_dark_6 : cX1_dark.data.toList.drop 142 = dktX1_dark_6 := dk_seg dksX1_dark_5 24 rfl rfl
theorem dksX1_dark_7 : cX1_dark.data.toList.drop 165 = dktX1_dark_7 := dk_seg dksX1_dark_6 23 rfl rfl
theorem dksX1_dark_8 : cX1_dark.data.toList.drop 189 = dktX1_dark_8 := dk_seg dksX1_dark_7 24 rfl rfl
theorem dX1_dark_0 : decode cX1_dark 0 = .ok (.iload_n 1, 1) := dk_27 (dk_at dksX1_dark_0 0 rfl rfl)
theorem dX1_dark_1 : decode cX1_dark 1 = .ok (.iconst 0, 1) := dk_3 (dk_at dksX1_dark_0 1 rfl rfl)
theorem dX1_dark_2 : decode cX1_dark 2 = .ok (.iconst 5, 1) := dk_8 (dk_at dksX1_dark_0 2 rfl rfl)
theorem dX1_dark_3 : decode cX1_dark 3 = .ok (.invokestatic 3, 3) := dk_184 0 3 (dk_at dksX1_dark_0 3 rfl rfl)
theorem dX1_dark_6 : decode cX1_dark 6 = .ok (.ifCond .eq 20, 3) := dk_153 0 20 (dk_at dksX1_dark_0 6 rfl rfl)
theorem dX1_dark_9 : decode cX1_dark 9 = .ok (.iload_n 2, 1) := dk_28 (dk_at dksX1_dark_0 9 rfl rfl)
theorem dX1_dark_10 : decode cX1_dark 10 = .ok (.invokestatic 124, 3) := dk_184 0 124 (dk_at dksX1_dark_0 10 rfl rfl)
theorem dX1_dark_13 : decode cX1_dark 13 = .ok (.ifCond .eq 13, 3) := dk_153 0 13 (dk_at dksX1_dark_0 13 rfl rfl)
theorem dX1_dark_16 : decode cX1_dark 16 = .ok (.aload_n 0, 1) := dk_42 (dk_at dksX1_dark_0 16 rfl rfl)
theorem dX1_dark_17 : decode cX1_dark 17 = .ok (.getfield 52, 3) := dk_180 0 52 (dk_at dksX1_dark_0 17 rfl rfl)
theorem dX1_dark_20 : decode cX1_dark 20 = .ok (.getfield 19, 3) := dk_180 0 19 (dk_at dksX1_dark_0 20 rfl rfl)
theorem dX1_dark_23 : decode cX1_dark 23 = .ok (.ifCond .ne 5, 3) := dk_154 0 5 (dk_at dksX1_dark_1 0 rfl rfl)
theorem dX1_dark_26 : decode cX1_dark 26 = .ok (.iconst (-1), 1) := dk_2 (dk_at dksX1_dark_1 3 rfl rfl)
theorem dX1_dark_27 : decode cX1_dark 27 = .ok (.ireturn, 1) := dk_172 (dk_at dksX1_dark_1 4 rfl rfl)
theorem dX1_dark_28 : decode cX1_dark 28 = .ok (.iconst 0, 1) := dk_3 (dk_at dksX1_dark_1 5 rfl rfl)
theorem dX1_dark_29 : decode cX1_dark 29 = .ok (.istore_n 3, 1) := dk_62 (dk_at dksX1_dark_1 6 rfl rfl)
theorem dX1_dark_30 : decode cX1_dark 30 = .ok (.iconst (-1), 1) := dk_2 (dk_at dksX1_dark_1 7 rfl rfl)
theorem dX1_dark_31 : decode cX1_dark 31 = .ok (.istore 4, 2) := dk_54 4 (dk_at dksX1_dark_1 8 rfl rfl)
theorem dX1_dark_33 : decode cX1_dark 33 = .ok (.iconst 0, 1) := dk_3 (dk_at dksX1_dark_1 10 rfl rfl)
theorem dX1_dark_34 : decode cX1_dark 34 = .ok (.istore 5, 2) := dk_54 5 (dk_at dksX1_dark_1 11 rfl rfl)
theorem dX1_dark_36 : decode cX1_dark 36 = .ok (.iload_n 2, 1) := dk_28 (dk_at dksX1_dark_1 13 rfl rfl)
theorem dX1_dark_37 : decode cX1_dark 37 = .ok (.istore 6, 2) := dk_54 6 (dk_at dksX1_dark_1 14 rfl rfl)
theorem dX1_dark_39 : decode cX1_dark 39 = .ok (.iload_n 2, 1) := dk_28 (dk_at dksX1_dark_1 16 rfl rfl)
theorem dX1_dark_40 : decode cX1_dark 40 = .ok (.istore 7, 2) := dk_54 7 (dk_at dksX1_dark_1 17 rfl rfl)
theorem dX1_dark_42 : decode cX1_dark 42 = .ok (.iload 7, 2) := dk_21 7 (dk_at dksX1_dark_1 19 rfl rfl)
theorem dX1_dark_44 : decode cX1_dark 44 = .ok (.iload_n 2, 1) := dk_28 (dk_at dksX1_dark_1 21 rfl rfl)
theorem dX1_dark_45 : decode cX1_dark 45 = .ok (.bipush 24, 2) := dk_16 24 (dk_at dksX1_dark_1 22 rfl rfl)
theorem dX1_dark_47 : decode cX1_dark 47 = .ok (.iadd, 1) := dk_96 (dk_at dksX1_dark_2 0 rfl rfl)
theorem dX1_dark_48 : decode cX1_dark 48 = .ok (.if_icmp .ge 125, 3) := dk_162 0 125 (dk_at dksX1_dark_2 1 rfl rfl)
theorem dX1_dark_51 : decode cX1_dark 51 = .ok (.iconst 0, 1) := dk_3 (dk_at dksX1_dark_2 4 rfl rfl)
theorem dX1_dark_52 : decode cX1_dark 52 = .ok (.istore 8, 2) := dk_54 8 (dk_at dksX1_dark_2 5 rfl rfl)
theorem dX1_dark_54 : decode cX1_dark 54 = .ok (.iconst 0, 1) := dk_3 (dk_at dksX1_dark_2 7 rfl rfl)
theorem dX1_dark_55 : decode cX1_dark 55 = .ok (.istore 9, 2) := dk_54 9 (dk_at dksX1_dark_2 8 rfl rfl)
theorem dX1_dark_57 : decode cX1_dark 57 = .ok (.iload 9, 2) := dk_21 9 (dk_at dksX1_dark_2 10 rfl rfl)
theorem dX1_dark_59 : decode cX1_dark 59 = .ok (.aload_n 0, 1) := dk_42 (dk_at dksX1_dark_2 12 rfl rfl)
theorem dX1_dark_60 : decode cX1_dark 60 = .ok (.getfield 52, 3) := dk_180 0 52 (dk_at dksX1_dark_2 13 rfl rfl)
theorem dX1_dark_63 : decode cX1_dark 63 = .ok (.getfield 19, 3) := dk_180 0 19 (dk_at dksX1_dark_2 16 rfl rfl)
theorem dX1_dark_66 : decode cX1_dark 66 = .ok (.if_icmp .ge 50, 3) := dk_162 0 50 (dk_at dksX1_dark_2 19 rfl rfl)
theorem dX1_dark_69 : decode cX1_dark 69 = .ok (.iload 8, 2) := dk_21 8 (dk_at dksX1_dark_2 22 rfl rfl)
theorem dX1_dark_71 : decode cX1_dark 71 = .ok (.aload_n 0, 1) := dk_42 (dk_at dksX1_dark_3 0 rfl rfl)
theorem dX1_dark_72 : decode cX1_dark 72 = .ok (.getfield 52, 3) := dk_180 0 52 (dk_at dksX1_dark_3 1 rfl rfl)
theorem dX1_dark_75 : decode cX1_dark 75 = .ok (.iload 9, 2) := dk_21 9 (dk_at dksX1_dark_3 4 rfl rfl)
theorem dX1_dark_77 : decode cX1_dark 77 = .ok (.iload_n 1, 1) := dk_27 (dk_at dksX1_dark_3 6 rfl rfl)
theorem dX1_dark_78 : decode cX1_dark 78 = .ok (.invokevirtual 188, 3) := dk_182 0 188 (dk_at dksX1_dark_3 7 rfl rfl)
theorem dX1_dark_81 : decode cX1_dark 81 = .ok (.ifCond .eq 25, 3) := dk_153 0 25 (dk_at dksX1_dark_3 10 rfl rfl)
theorem dX1_dark_84 : decode cX1_dark 84 = .ok (.aload_n 0, 1) := dk_42 (dk_at dksX1_dark_3 13 rfl rfl)
theorem dX1_dark_85 : decode cX1_dark 85 = .ok (.getfield 52, 3) := dk_180 0 52 (dk_at dksX1_dark_3 14 rfl rfl)
theorem dX1_dark_88 : decode cX1_dark 88 = .ok (.getfield 127, 3) := dk_180 0 127 (dk_at dksX1_dark_3 17 rfl rfl)
theorem dX1_dark_91 : decode cX1_dark 91 = .ok (.iload 9, 2) := dk_21 9 (dk_at dksX1_dark_3 20 rfl rfl)
theorem dX1_dark_93 : decode cX1_dark 93 = .ok (.aaload, 1) := dk_50 (dk_at dksX1_dark_3 22 rfl rfl)
theorem dX1_dark_94 : decode cX1_dark 94 = .ok (.iload 7, 2) := dk_21 7 (dk_at dksX1_dark_4 0 rfl rfl)
theorem dX1_dark_96 : decode cX1_dark 96 = .ok (.invokevirtual 178, 3) := dk_182 0 178 (dk_at dksX1_dark_4 2 rfl rfl)
theorem dX1_dark_99 : decode cX1_dark 99 = .ok (.ifCond .eq 7, 3) := dk_153 0 7 (dk_at dksX1_dark_4 5 rfl rfl)
theorem dX1_dark_102 : decode cX1_dark 102 = .ok (.iconst 1, 1) := dk_4 (dk_at dksX1_dark_4 8 rfl rfl)
theorem dX1_dark_103 : decode cX1_dark 103 = .ok (.goto 4, 3) := dk_167 0 4 (dk_at dksX1_dark_4 9 rfl rfl)
theorem dX1_dark_106 : decode cX1_dark 106 = .ok (.iconst 0, 1) := dk_3 (dk_at dksX1_dark_4 12 rfl rfl)
theorem dX1_dark_107 : decode cX1_dark 107 = .ok (.iadd, 1) := dk_96 (dk_at dksX1_dark_4 13 rfl rfl)
theorem dX1_dark_108 : decode cX1_dark 108 = .ok (.istore 8, 2) := dk_54 8 (dk_at dksX1_dark_4 14 rfl rfl)
theorem dX1_dark_110 : decode cX1_dark 110 = .ok (.iinc 9 1, 3) := dk_132 9 1 (dk_at dksX1_dark_4 16 rfl rfl)
theorem dX1_dark_113 : decode cX1_dark 113 = .ok (.goto (-56), 3) := dk_167 255 200 (dk_at dksX1_dark_4 19 rfl rfl)
theorem dX1_dark_116 : decode cX1_dark 116 = .ok (.iload 8, 2) := dk_21 8 (dk_at dksX1_dark_4 22 rfl rfl)
theorem dX1_dark_118 : decode cX1_dark 118 = .ok (.ifCond .ne 14, 3) := dk_154 0 14 (dk_at dksX1_dark_5 0 rfl rfl)
theorem dX1_dark_121 : decode cX1_dark 121 = .ok (.iload 4, 2) := dk_21 4 (dk_at dksX1_dark_5 3 rfl rfl)
theorem dX1_dark_123 : decode cX1_dark 123 = .ok (.iconst (-1), 1) := dk_2 (dk_at dksX1_dark_5 5 rfl rfl)
theorem dX1_dark_124 : decode cX1_dark 124 = .ok (.if_icmp .ne 8, 3) := dk_160 0 8 (dk_at dksX1_dark_5 6 rfl rfl)
theorem dX1_dark_127 : decode cX1_dark 127 = .ok (.iload 7, 2) := dk_21 7 (dk_at dksX1_dark_5 9 rfl rfl)
theorem dX1_dark_129 : decode cX1_dark 129 = .ok (.goto 5, 3) := dk_167 0 5 (dk_at dksX1_dark_5 11 rfl rfl)
theorem dX1_dark_132 : decode cX1_dark 132 = .ok (.iload 4, 2) := dk_21 4 (dk_at dksX1_dark_5 14 rfl rfl)
theorem dX1_dark_134 : decode cX1_dark 134 = .ok (.istore 4, 2) := dk_54 4 (dk_at dksX1_dark_5 16 rfl rfl)
theorem dX1_dark_136 : decode cX1_dark 136 = .ok (.iload_n 3, 1) := dk_29 (dk_at dksX1_dark_5 18 rfl rfl)
theorem dX1_dark_137 : decode cX1_dark 137 = .ok (.iload 8, 2) := dk_21 8 (dk_at dksX1_dark_5 19 rfl rfl)
theorem dX1_dark_139 : decode cX1_dark 139 = .ok (.ifCond .ne 7, 3) := dk_154 0 7 (dk_at dksX1_dark_5 21 rfl rfl)
theorem dX1_dark_142 : decode cX1_dark 142 = .ok (.iconst 1, 1) := dk_4 (dk_at dksX1_dark_6 0 rfl rfl)
theorem dX1_dark_143 : decode cX1_dark 143 = .ok (.goto 4, 3) := dk_167 0 4 (dk_at dksX1_dark_6 1 rfl rfl)
theorem dX1_dark_146 : decode cX1_dark 146 = .ok (.iconst 0, 1) := dk_3 (dk_at dksX1_dark_6 4 rfl rfl)
theorem dX1_dark_147 : decode cX1_dark 147 = .ok (.iadd, 1) := dk_96 (dk_at dksX1_dark_6 5 rfl rfl)
theorem dX1_dark_148 : decode cX1_dark 148 = .ok (.istore_n 3, 1) := dk_62 (dk_at dksX1_dark_6 6 rfl rfl)
theorem dX1_dark_149 : decode cX1_dark 149 = .ok (.iload 8, 2) := dk_21 8 (dk_at dksX1_dark_6 7 rfl rfl)
theorem dX1_dark_151 : decode cX1_dark 151 = .ok (.iload 5, 2) := dk_21 5 (dk_at dksX1_dark_6 9 rfl rfl)
theorem dX1_dark_153 : decode cX1_dark 153 = .ok (.if_icmp .gt 6, 3) := dk_163 0 6 (dk_at dksX1_dark_6 11 rfl rfl)
theorem dX1_dark_156 : decode cX1_dark 156 = .ok (.goto 11, 3) := dk_167 0 11 (dk_at dksX1_dark_6 14 rfl rfl)
theorem dX1_dark_159 : decode cX1_dark 159 = .ok (.iload 8, 2) := dk_21 8 (dk_at dksX1_dark_6 17 rfl rfl)
theorem dX1_dark_161 : decode cX1_dark 161 = .ok (.istore 5, 2) := dk_54 5 (dk_at dksX1_dark_6 19 rfl rfl)
theorem dX1_dark_163 : decode cX1_dark 163 = .ok (.iload 7, 2) := dk_21 7 (dk_at dksX1_dark_6 21 rfl rfl)
theorem dX1_dark_165 : decode cX1_dark 165 = .ok (.istore 6, 2) := dk_54 6 (dk_at dksX1_dark_7 0 rfl rfl)
theorem dX1_dark_167 : decode cX1_dark 167 = .ok (.iinc 7 1, 3) := dk_132 7 1 (dk_at dksX1_dark_7 2 rfl rfl)
theorem dX1_dark_170 : decode cX1_dark 170 = .ok (.goto (-128), 3) := dk_167 255 128 (dk_at dksX1_dark_7 5 rfl rfl)
theorem dX1_dark_173 : decode cX1_dark 173 = .ok (.aload_n 0, 1) := dk_42 (dk_at dksX1_dark_7 8 rfl rfl)
theorem dX1_dark_174 : decode cX1_dark 174 = .ok (.iconst 0, 1) := dk_3 (dk_at dksX1_dark_7 9 rfl rfl)
theorem dX1_dark_175 : decode cX1_dark 175 = .ok (.putfield 94, 3) := dk_181 0 94 (dk_at dksX1_dark_7 10 rfl rfl)
theorem dX1_dark_178 : decode cX1_dark 178 = .ok (.aload_n 0, 1) := dk_42 (dk_at dksX1_dark_7 13 rfl rfl)
theorem dX1_dark_179 : decode cX1_dark 179 = .ok (.iload 4, 2) := dk_21 4 (dk_at dksX1_dark_7 14 rfl rfl)
theorem dX1_dark_181 : decode cX1_dark 181 = .ok (.i2l, 1) := dk_133 (dk_at dksX1_dark_7 16 rfl rfl)
theorem dX1_dark_182 : decode cX1_dark 182 = .ok (.invokevirtual 101, 3) := dk_182 0 101 (dk_at dksX1_dark_7 17 rfl rfl)
theorem dX1_dark_185 : decode cX1_dark 185 = .ok (.aload_n 0, 1) := dk_42 (dk_at dksX1_dark_7 20 rfl rfl)
theorem dX1_dark_186 : decode cX1_dark 186 = .ok (.iload 5, 2) := dk_21 5 (dk_at dksX1_dark_7 21 rfl rfl)
theorem dX1_dark_188 : decode cX1_dark 188 = .ok (.i2l, 1) := dk_133 (dk_at dksX1_dark_7 23 rfl rfl)
theorem dX1_dark_189 : decode cX1_dark 189 = .ok (.invokevirtual 101, 3) := dk_182 0 101 (dk_at dksX1_dark_8 0 rfl rfl)
theorem dX1_dark_192 : decode cX1_dark 192 = .ok (.aload_n 0, 1) := dk_42 (dk_at dksX1_dark_8 3 rfl rfl)
theorem dX1_dark_193 : decode cX1_dark 193 = .ok (.iload 6, 2) := dk_21 6 (dk_at dksX1_dark_8 4 rfl rfl)
theorem dX1_dark_195 : decode cX1_dark 195 = .ok (.i2l, 1) := dk_133 (dk_at dksX1_dark_8 6 rfl rfl)
theorem dX1_dark_196 : decode cX1_dark 196 = .ok (.invokevirtual 101, 3) := dk_182 0 101 (dk_at dksX1_dark_8 7 rfl rfl)
theorem dX1_dark_199 : decode cX1_dark 199 = .ok (.iload_n 3, 1) := dk_29 (dk_at dksX1_dark_8 10 rfl rfl)
theorem dX1_dark_200 : decode cX1_dark 200 = .ok (.ireturn, 1) := dk_172 (dk_at dksX1_dark_8 11 rfl rfl)
def dkwX1_has_0 : List UInt8 := [26, 27, 122, 4, 126, 4, 160, 0, 7, 4, 167, 0, 4, 3, 172]
abbrev dktX1_has_0 : List UInt8 := dkwX1_has_0 ++ []
theorem dksX1_has_0 : cX1_has.data.toList.drop 0 = dktX1_has_0 := by decide +kernel
theorem dX1_has_0 : decode cX1_has 0 = .ok (.iload_n 0, 1) := dk_26 (dk_at dksX1_has_0 0 rfl rfl)
theorem dX1_has_1 : decode cX1_has 1 = .ok (.iload_n 1, 1) := dk_27 (dk_at dksX1_has_0 1 rfl rfl)
theorem dX1_has_2 : decode cX1_has 2 = .ok (.ishr, 1) := dk_122 (dk_at dksX1_has_0 2 rfl rfl)
theorem dX1_has_3 : decode cX1_has 3 = .ok (.iconst 1, 1) := dk_4 (dk_at dksX1_has_0 3 rfl rfl)
theorem dX1_has_4 : decode cX1_has 4 = .ok (.iand, 1) := dk_126 (dk_at dksX1_has_0 4 rfl rfl)
theorem dX1_has_5 : decode cX1_has 5 = .ok (.iconst 1, 1) := dk_4 (dk_at dksX1_has_0 5 rfl rfl)
theorem dX1_has_6 : decode cX1_has 6 = .ok (.if_icmp .ne 7, 3) := dk_160 0 7 (dk_at dksX1_has_0 6 rfl rfl)
theorem dX1_has_9 : decode cX1_has 9 = .ok (.iconst 1, 1) := dk_4 (dk_at dksX1_has_0 9 rfl rfl)
theorem dX1_has_10 : decode cX1_has 10 = .ok (.goto 4, 3) := dk_167 0 4 (dk_at dksX1_has_0 10 rfl rfl)
theorem dX1_has_13 : decode cX1_has 13 = .ok (.iconst 0, 1) := dk_3 (dk_at dksX1_has_0 13 rfl rfl)
theorem dX1_has_14 : decode cX1_has 14 = .ok (.ireturn, 1) := dk_172 (dk_at dksX1_has_0 14 rfl rfl)
def dkwX1_tell_0 : List UInt8 := [42, 180, 0, 74, 42, 180, 0, 94, 31, 80, 42, 89, 180, 0, 94, 4, 96, 181, 0, 94, 177]
abbrev dktX1_tell_0 : List UInt8 := dkwX1_tell_0 ++ []
theorem dksX1_tell_0 : cX1_tell.data.toList.drop 0 = dktX1_tell_0 := by decide +kernel
theorem dX1_tell_0 : decode cX1_tell 0 = .ok (.aload_n 0, 1) := dk_42 (dk_at dksX1_tell_0 0 rfl rfl)
theorem dX1_tell_1 : decode cX1_tell 1 = .ok (.getfield 74, 3) := dk_180 0 74 (dk_at dksX1_tell_0 1 rfl rfl)
theorem dX1_tell_4 : decode cX1_tell 4 = .ok (.aload_n 0, 1) := dk_42 (dk_at dksX1_tell_0 4 rfl rfl)
theorem dX1_tell_5 : decode cX1_tell 5 = .ok (.getfield 94, 3) := dk_180 0 94 (dk_at dksX1_tell_0 5 rfl rfl)
theorem dX1_tell_8 : decode cX1_tell 8 = .ok (.lload_n 1, 1) := dk_31 (dk_at dksX1_tell_0 8 rfl rfl)
theorem dX1_tell_9 : decode cX1_tell 9 = .ok (.lastore, 1) := dk_80 (dk_at dksX1_tell_0 9 rfl rfl)
theorem dX1_tell_10 : decode cX1_tell 10 = .ok (.aload_n 0, 1) := dk_42 (dk_at dksX1_tell_0 10 rfl rfl)
theorem dX1_tell_11 : decode cX1_tell 11 = .ok (.dup, 1) := dk_89 (dk_at dksX1_tell_0 11 rfl rfl)
theorem dX1_tell_12 : decode cX1_tell 12 = .ok (.getfield 94, 3) := dk_180 0 94 (dk_at dksX1_tell_0 12 rfl rfl)
theorem dX1_tell_15 : decode cX1_tell 15 = .ok (.iconst 1, 1) := dk_4 (dk_at dksX1_tell_0 15 rfl rfl)
theorem dX1_tell_16 : decode cX1_tell 16 = .ok (.iadd, 1) := dk_96 (dk_at dksX1_tell_0 16 rfl rfl)
theorem dX1_tell_17 : decode cX1_tell 17 = .ok (.putfield 94, 3) := dk_181 0 94 (dk_at dksX1_tell_0 17 rfl rfl)
theorem dX1_tell_20 : decode cX1_tell 20 = .ok (.return_, 1) := dk_177 (dk_at dksX1_tell_0 20 rfl rfl)
def dkwX1_piece_5 : List UInt8 := [180, 0, 105, 4, 100, 182, 0, 193, 42, 180, 0, 105, 4, 100, 172]
abbrev dktX1_piece_5 : List UInt8 := dkwX1_piece_5 ++ []
def dkwX1_piece_4 : List UInt8 := [27, 16, 6, 108, 183, 0, 192, 83, 42, 89, 180, 0, 105, 4, 96, 181, 0, 105, 42, 180, 0, 62, 42]
abbrev dktX1_piece_4 : List UInt8 := dkwX1_piece_4 ++ dktX1_piece_5
def dkwX1_piece_3 : List UInt8 := [2, 172, 42, 180, 0, 47, 42, 180, 0, 105, 187, 0, 45, 89, 27, 16, 6, 112, 28, 29, 21, 4, 21, 5]
abbrev dktX1_piece_3 : List UInt8 := dkwX1_piece_3 ++ dktX1_piece_4
def dkwX1_piece_2 : List UInt8 := [21, 5, 2, 159, 0, 12, 42, 21, 5, 182, 0, 121, 153, 0, 12, 42, 180, 0, 105, 16, 8, 160, 0, 5]
abbrev dktX1_piece_2 : List UInt8 := dkwX1_piece_2 ++ dktX1_piece_3
def dkwX1_piece_1 : List UInt8 := [4, 42, 180, 0, 105, 120, 4, 100, 184, 0, 3, 153, 0, 36, 42, 21, 4, 182, 0, 121, 153, 0, 27]
abbrev dktX1_piece_1 : List UInt8 := dkwX1_piece_1 ++ dktX1_piece_2
def dkwX1_piece_0 : List UInt8 := [27, 16, 6, 17, 1, 109, 184, 0, 3, 153, 0, 62, 28, 4, 16, 60, 184, 0, 3, 153, 0, 52, 29, 3]
abbrev dktX1_piece_0 : List UInt8 := dkwX1_piece_0 ++ dktX1_piece_1
theorem dksX1_piece_0 : cX1_piece.data.toList.drop 0 = dktX1_piece_0 := by decide +kernel
theorem dksX1_piece_1 : cX1_piece.data.toList.drop 24 = dktX1_piece_1 := dk_seg dksX1_piece_0 24 rfl rfl
theorem dksX1_piece_2 : cX1_piece.data.toList.drop 47 = dktX1_piece_2 := dk_seg dksX1_piece_1 23 rfl rfl
theorem dksX1_piece_3 : cX1_piece.data.toList.drop 71 = dktX1_piece_3 := dk_seg dksX1_piece_2 24 rfl rfl
theorem dksX1_piece_4 : cX1_piece.data.toList.drop 95 = dktX1_piece_4 := dk_seg dksX1_piece_3 24 rfl rfl
theorem dksX1_piece_5 : cX1_piece.data.toList.drop 118 = dktX1_piece_5 := dk_seg dksX1_piece_4 23 rfl rfl
theorem dX1_piece_0 : decode cX1_piece 0 = .ok (.iload_n 1, 1) := dk_27 (dk_at dksX1_piece_0 0 rfl rfl)
theorem dX1_piece_1 : decode cX1_piece 1 = .ok (.bipush 6, 2) := dk_16 6 (dk_at dksX1_piece_0 1 rfl rfl)
theorem dX1_piece_3 : decode cX1_piece 3 = .ok (.sipush 365, 3) := dk_17 1 109 (dk_at dksX1_piece_0 3 rfl rfl)
theorem dX1_piece_6 : decode cX1_piece 6 = .ok (.invokestatic 3, 3) := dk_184 0 3 (dk_at dksX1_piece_0 6 rfl rfl)
theorem dX1_piece_9 : decode cX1_piece 9 = .ok (.ifCond .eq 62, 3) := dk_153 0 62 (dk_at dksX1_piece_0 9 rfl rfl)
theorem dX1_piece_12 : decode cX1_piece 12 = .ok (.iload_n 2, 1) := dk_28 (dk_at dksX1_piece_0 12 rfl rfl)
theorem dX1_piece_13 : decode cX1_piece 13 = .ok (.iconst 1, 1) := dk_4 (dk_at dksX1_piece_0 13 rfl rfl)
theorem dX1_piece_14 : decode cX1_piece 14 = .ok (.bipush 60, 2) := dk_16 60 (dk_at dksX1_piece_0 14 rfl rfl)
theorem dX1_piece_16 : decode cX1_piece 16 = .ok (.invokestatic 3, 3) := dk_184 0 3 (dk_at dksX1_piece_0 16 rfl rfl)
theorem dX1_piece_19 : decode cX1_piece 19 = .ok (.ifCond .eq 52, 3) := dk_153 0 52 (dk_at dksX1_piece_0 19 rfl rfl)
theorem dX1_piece_22 : decode cX1_piece 22 = .ok (.iload_n 3, 1) := dk_29 (dk_at dksX1_piece_0 22 rfl rfl)
theorem dX1_piece_23 : decode cX1_piece 23 = .ok (.iconst 0, 1) := dk_3 (dk_at dksX1_piece_0 23 rfl rfl)
theorem dX1_piece_24 : decode cX1_piece 24 = .ok (.iconst 1, 1) := dk_4 (dk_at dksX1_piece_1 0 rfl rfl)
theorem dX1_piece_25 : decode cX1_piece 25 = .ok (.aload_n 0, 1) := dk_42 (dk_at dksX1_piece_1 1 rfl rfl)
theorem dX1_piece_26 : decode cX1_piece 26 = .ok (.getfield 105, 3) := dk_180 0 105 (dk_at dksX1_piece_1 2 rfl rfl)
theorem dX1_piece_29 : decode cX1_piece 29 = .ok (.ishl, 1) := dk_120 (dk_at dksX1_piece_1 5 rfl rfl)
theorem dX1_piece_30 : decode cX1_piece 30 = .ok (.iconst 1, 1) := dk_4 (dk_at dksX1_piece_1 6 rfl rfl)
theorem dX1_piece_31 : decode cX1_piece 31 = .ok (.isub, 1) := dk_100 (dk_at dksX1_piece_1 7 rfl rfl)
theorem dX1_piece_32 : decode cX1_piece 32 = .ok (.invokestatic 3, 3) := dk_184 0 3 (dk_at dksX1_piece_1 8 rfl rfl)
theorem dX1_piece_35 : decode cX1_piece 35 = .ok (.ifCond .eq 36, 3) := dk_153 0 36 (dk_at dksX1_piece_1 11 rfl rfl)
theorem dX1_piece_38 : decode cX1_piece 38 = .ok (.aload_n 0, 1) := dk_42 (dk_at dksX1_piece_1 14 rfl rfl)
theorem dX1_piece_39 : decode cX1_piece 39 = .ok (.iload 4, 2) := dk_21 4 (dk_at dksX1_piece_1 15 rfl rfl)
theorem dX1_piece_41 : decode cX1_piece 41 = .ok (.invokevirtual 121, 3) := dk_182 0 121 (dk_at dksX1_piece_1 17 rfl rfl)
theorem dX1_piece_44 : decode cX1_piece 44 = .ok (.ifCond .eq 27, 3) := dk_153 0 27 (dk_at dksX1_piece_1 20 rfl rfl)
theorem dX1_piece_47 : decode cX1_piece 47 = .ok (.iload 5, 2) := dk_21 5 (dk_at dksX1_piece_2 0 rfl rfl)
theorem dX1_piece_49 : decode cX1_piece 49 = .ok (.iconst (-1), 1) := dk_2 (dk_at dksX1_piece_2 2 rfl rfl)
theorem dX1_piece_50 : decode cX1_piece 50 = .ok (.if_icmp .eq 12, 3) := dk_159 0 12 (dk_at dksX1_piece_2 3 rfl rfl)
theorem dX1_piece_53 : decode cX1_piece 53 = .ok (.aload_n 0, 1) := dk_42 (dk_at dksX1_piece_2 6 rfl rfl)
theorem dX1_piece_54 : decode cX1_piece 54 = .ok (.iload 5, 2) := dk_21 5 (dk_at dksX1_piece_2 7 rfl rfl)
theorem dX1_piece_56 : decode cX1_piece 56 = .ok (.invokevirtual 121, 3) := dk_182 0 121 (dk_at dksX1_piece_2 9 rfl rfl)
theorem dX1_piece_59 : decode cX1_piece 59 = .ok (.ifCond .eq 12, 3) := dk_153 0 12 (dk_at dksX1_piece_2 12 rfl rfl)
theorem dX1_piece_62 : decode cX1_piece 62 = .ok (.aload_n 0, 1) := dk_42 (dk_at dksX1_piece_2 15 rfl rfl)
theorem dX1_piece_63 : decode cX1_piece 63 = .ok (.getfield 105, 3) := dk_180 0 105 (dk_at dksX1_piece_2 16 rfl rfl)
theorem dX1_piece_66 : decode cX1_piece 66 = .ok (.bipush 8, 2) := dk_16 8 (dk_at dksX1_piece_2 19 rfl rfl)
theorem dX1_piece_68 : decode cX1_piece 68 = .ok (.if_icmp .ne 5, 3) := dk_160 0 5 (dk_at dksX1_piece_2 21 rfl rfl)
theorem dX1_piece_71 : decode cX1_piece 71 = .ok (.iconst (-1), 1) := dk_2 (dk_at dksX1_piece_3 0 rfl rfl)
theorem dX1_piece_72 : decode cX1_piece 72 = .ok (.ireturn, 1) := dk_172 (dk_at dksX1_piece_3 1 rfl rfl)
theorem dX1_piece_73 : decode cX1_piece 73 = .ok (.aload_n 0, 1) := dk_42 (dk_at dksX1_piece_3 2 rfl rfl)
theorem dX1_piece_74 : decode cX1_piece 74 = .ok (.getfield 47, 3) := dk_180 0 47 (dk_at dksX1_piece_3 3 rfl rfl)
theorem dX1_piece_77 : decode cX1_piece 77 = .ok (.aload_n 0, 1) := dk_42 (dk_at dksX1_piece_3 6 rfl rfl)
theorem dX1_piece_78 : decode cX1_piece 78 = .ok (.getfield 105, 3) := dk_180 0 105 (dk_at dksX1_piece_3 7 rfl rfl)
theorem dX1_piece_81 : decode cX1_piece 81 = .ok (.new 45, 3) := dk_187 0 45 (dk_at dksX1_piece_3 10 rfl rfl)
theorem dX1_piece_84 : decode cX1_piece 84 = .ok (.dup, 1) := dk_89 (dk_at dksX1_piece_3 13 rfl rfl)
theorem dX1_piece_85 : decode cX1_piece 85 = .ok (.iload_n 1, 1) := dk_27 (dk_at dksX1_piece_3 14 rfl rfl)
theorem dX1_piece_86 : decode cX1_piece 86 = .ok (.bipush 6, 2) := dk_16 6 (dk_at dksX1_piece_3 15 rfl rfl)
theorem dX1_piece_88 : decode cX1_piece 88 = .ok (.irem, 1) := dk_112 (dk_at dksX1_piece_3 17 rfl rfl)
theorem dX1_piece_89 : decode cX1_piece 89 = .ok (.iload_n 2, 1) := dk_28 (dk_at dksX1_piece_3 18 rfl rfl)
theorem dX1_piece_90 : decode cX1_piece 90 = .ok (.iload_n 3, 1) := dk_29 (dk_at dksX1_piece_3 19 rfl rfl)
theorem dX1_piece_91 : decode cX1_piece 91 = .ok (.iload 4, 2) := dk_21 4 (dk_at dksX1_piece_3 20 rfl rfl)
theorem dX1_piece_93 : decode cX1_piece 93 = .ok (.iload 5, 2) := dk_21 5 (dk_at dksX1_piece_3 22 rfl rfl)
theorem dX1_piece_95 : decode cX1_piece 95 = .ok (.iload_n 1, 1) := dk_27 (dk_at dksX1_piece_4 0 rfl rfl)
theorem dX1_piece_96 : decode cX1_piece 96 = .ok (.bipush 6, 2) := dk_16 6 (dk_at dksX1_piece_4 1 rfl rfl)
theorem dX1_piece_98 : decode cX1_piece 98 = .ok (.idiv, 1) := dk_108 (dk_at dksX1_piece_4 3 rfl rfl)
theorem dX1_piece_99 : decode cX1_piece 99 = .ok (.invokespecial 192, 3) := dk_183 0 192 (dk_at dksX1_piece_4 4 rfl rfl)
theorem dX1_piece_102 : decode cX1_piece 102 = .ok (.aastore, 1) := dk_83 (dk_at dksX1_piece_4 7 rfl rfl)
theorem dX1_piece_103 : decode cX1_piece 103 = .ok (.aload_n 0, 1) := dk_42 (dk_at dksX1_piece_4 8 rfl rfl)
theorem dX1_piece_104 : decode cX1_piece 104 = .ok (.dup, 1) := dk_89 (dk_at dksX1_piece_4 9 rfl rfl)
theorem dX1_piece_105 : decode cX1_piece 105 = .ok (.getfield 105, 3) := dk_180 0 105 (dk_at dksX1_piece_4 10 rfl rfl)
theorem dX1_piece_108 : decode cX1_piece 108 = .ok (.iconst 1, 1) := dk_4 (dk_at dksX1_piece_4 13 rfl rfl)
theorem dX1_piece_109 : decode cX1_piece 109 = .ok (.iadd, 1) := dk_96 (dk_at dksX1_piece_4 14 rfl rfl)
theorem dX1_piece_110 : decode cX1_piece 110 = .ok (.putfield 105, 3) := dk_181 0 105 (dk_at dksX1_piece_4 15 rfl rfl)
theorem dX1_piece_113 : decode cX1_piece 113 = .ok (.aload_n 0, 1) := dk_42 (dk_at dksX1_piece_4 18 rfl rfl)
theorem dX1_piece_114 : decode cX1_piece 114 = .ok (.getfield 62, 3) := dk_180 0 62 (dk_at dksX1_piece_4 19 rfl rfl)
theorem dX1_piece_117 : decode cX1_piece 117 = .ok (.aload_n 0, 1) := dk_42 (dk_at dksX1_piece_4 22 rfl rfl)
theorem dX1_piece_118 : decode cX1_piece 118 = .ok (.getfield 105, 3) := dk_180 0 105 (dk_at dksX1_piece_5 0 rfl rfl)
theorem dX1_piece_121 : decode cX1_piece 121 = .ok (.iconst 1, 1) := dk_4 (dk_at dksX1_piece_5 3 rfl rfl)
theorem dX1_piece_122 : decode cX1_piece 122 = .ok (.isub, 1) := dk_100 (dk_at dksX1_piece_5 4 rfl rfl)
theorem dX1_piece_123 : decode cX1_piece 123 = .ok (.invokevirtual 193, 3) := dk_182 0 193 (dk_at dksX1_piece_5 5 rfl rfl)
theorem dX1_piece_126 : decode cX1_piece 126 = .ok (.aload_n 0, 1) := dk_42 (dk_at dksX1_piece_5 8 rfl rfl)
theorem dX1_piece_127 : decode cX1_piece 127 = .ok (.getfield 105, 3) := dk_180 0 105 (dk_at dksX1_piece_5 9 rfl rfl)
theorem dX1_piece_130 : decode cX1_piece 130 = .ok (.iconst 1, 1) := dk_4 (dk_at dksX1_piece_5 12 rfl rfl)
theorem dX1_piece_131 : decode cX1_piece 131 = .ok (.isub, 1) := dk_100 (dk_at dksX1_piece_5 13 rfl rfl)
theorem dX1_piece_132 : decode cX1_piece 132 = .ok (.ireturn, 1) := dk_172 (dk_at dksX1_piece_5 14 rfl rfl)
def dkwX1_sign_2 : List UInt8 := [167, 255, 226, 42, 180, 0, 197, 172]
abbrev dktX1_sign_2 : List UInt8 := dkwX1_sign_2 ++ []
def dkwX1_sign_1 : List UInt8 := [42, 180, 0, 197, 27, 28, 122, 145, 84, 42, 89, 180, 0, 197, 4, 96, 181, 0, 197, 132, 2, 248]
abbrev dktX1_sign_1 : List UInt8 := dkwX1_sign_1 ++ dktX1_sign_2
def dkwX1_sign_0 : List UInt8 := [42, 180, 0, 197, 7, 96, 16, 60, 164, 0, 5, 2, 172, 16, 24, 61, 28, 155, 0, 32, 42, 180, 0, 70]
abbrev dktX1_sign_0 : List UInt8 := dkwX1_sign_0 ++ dktX1_sign_1
theorem dksX1_sign_0 : cX1_sign.data.toList.drop 0 = dktX1_sign_0 := by decide +kernel
theorem dksX1_sign_1 : cX1_sign.data.toList.drop 24 = dktX1_sign_1 := dk_seg dksX1_sign_0 24 rfl rfl
theorem dksX1_sign_2 : cX1_sign.data.toList.drop 46 = dktX1_sign_2 := dk_seg dksX1_sign_1 22 rfl rfl
theorem dX1_sign_0 : decode cX1_sign 0 = .ok (.aload_n 0, 1) := dk_42 (dk_at dksX1_sign_0 0 rfl rfl)
theorem dX1_sign_1 : decode cX1_sign 1 = .ok (.getfield 197, 3) := dk_180 0 197 (dk_at dksX1_sign_0 1 rfl rfl)
theorem dX1_sign_4 : decode cX1_sign 4 = .ok (.iconst 4, 1) := dk_7 (dk_at dksX1_sign_0 4 rfl rfl)
theorem dX1_sign_5 : decode cX1_sign 5 = .ok (.iadd, 1) := dk_96 (dk_at dksX1_sign_0 5 rfl rfl)
theorem dX1_sign_6 : decode cX1_sign 6 = .ok (.bipush 60, 2) := dk_16 60 (dk_at dksX1_sign_0 6 rfl rfl)
theorem dX1_sign_8 : decode cX1_sign 8 = .ok (.if_icmp .le 5, 3) := dk_164 0 5 (dk_at dksX1_sign_0 8 rfl rfl)
theorem dX1_sign_11 : decode cX1_sign 11 = .ok (.iconst (-1), 1) := dk_2 (dk_at dksX1_sign_0 11 rfl rfl)
theorem dX1_sign_12 : decode cX1_sign 12 = .ok (.ireturn, 1) := dk_172 (dk_at dksX1_sign_0 12 rfl rfl)
theorem dX1_sign_13 : decode cX1_sign 13 = .ok (.bipush 24, 2) := dk_16 24 (dk_at dksX1_sign_0 13 rfl rfl)
theorem dX1_sign_15 : decode cX1_sign 15 = .ok (.istore_n 2, 1) := dk_61 (dk_at dksX1_sign_0 15 rfl rfl)
theorem dX1_sign_16 : decode cX1_sign 16 = .ok (.iload_n 2, 1) := dk_28 (dk_at dksX1_sign_0 16 rfl rfl)
theorem dX1_sign_17 : decode cX1_sign 17 = .ok (.ifCond .lt 32, 3) := dk_155 0 32 (dk_at dksX1_sign_0 17 rfl rfl)
theorem dX1_sign_20 : decode cX1_sign 20 = .ok (.aload_n 0, 1) := dk_42 (dk_at dksX1_sign_0 20 rfl rfl)
theorem dX1_sign_21 : decode cX1_sign 21 = .ok (.getfield 70, 3) := dk_180 0 70 (dk_at dksX1_sign_0 21 rfl rfl)
theorem dX1_sign_24 : decode cX1_sign 24 = .ok (.aload_n 0, 1) := dk_42 (dk_at dksX1_sign_1 0 rfl rfl)
theorem dX1_sign_25 : decode cX1_sign 25 = .ok (.getfield 197, 3) := dk_180 0 197 (dk_at dksX1_sign_1 1 rfl rfl)
theorem dX1_sign_28 : decode cX1_sign 28 = .ok (.iload_n 1, 1) := dk_27 (dk_at dksX1_sign_1 4 rfl rfl)
theorem dX1_sign_29 : decode cX1_sign 29 = .ok (.iload_n 2, 1) := dk_28 (dk_at dksX1_sign_1 5 rfl rfl)
theorem dX1_sign_30 : decode cX1_sign 30 = .ok (.ishr, 1) := dk_122 (dk_at dksX1_sign_1 6 rfl rfl)
theorem dX1_sign_31 : decode cX1_sign 31 = .ok (.i2b, 1) := dk_145 (dk_at dksX1_sign_1 7 rfl rfl)
theorem dX1_sign_32 : decode cX1_sign 32 = .ok (.bastore, 1) := dk_84 (dk_at dksX1_sign_1 8 rfl rfl)
theorem dX1_sign_33 : decode cX1_sign 33 = .ok (.aload_n 0, 1) := dk_42 (dk_at dksX1_sign_1 9 rfl rfl)
theorem dX1_sign_34 : decode cX1_sign 34 = .ok (.dup, 1) := dk_89 (dk_at dksX1_sign_1 10 rfl rfl)
theorem dX1_sign_35 : decode cX1_sign 35 = .ok (.getfield 197, 3) := dk_180 0 197 (dk_at dksX1_sign_1 11 rfl rfl)
theorem dX1_sign_38 : decode cX1_sign 38 = .ok (.iconst 1, 1) := dk_4 (dk_at dksX1_sign_1 14 rfl rfl)
theorem dX1_sign_39 : decode cX1_sign 39 = .ok (.iadd, 1) := dk_96 (dk_at dksX1_sign_1 15 rfl rfl)
theorem dX1_sign_40 : decode cX1_sign 40 = .ok (.putfield 197, 3) := dk_181 0 197 (dk_at dksX1_sign_1 16 rfl rfl)
theorem dX1_sign_43 : decode cX1_sign 43 = .ok (.iinc 2 (-8), 3) := dk_132 2 248 (dk_at dksX1_sign_1 19 rfl rfl)
theorem dX1_sign_46 : decode cX1_sign 46 = .ok (.goto (-30), 3) := dk_167 255 226 (dk_at dksX1_sign_2 0 rfl rfl)
theorem dX1_sign_49 : decode cX1_sign 49 = .ok (.aload_n 0, 1) := dk_42 (dk_at dksX1_sign_2 3 rfl rfl)
theorem dX1_sign_50 : decode cX1_sign 50 = .ok (.getfield 197, 3) := dk_180 0 197 (dk_at dksX1_sign_2 4 rfl rfl)
theorem dX1_sign_53 : decode cX1_sign 53 = .ok (.ireturn, 1) := dk_172 (dk_at dksX1_sign_2 7 rfl rfl)
def dkwX1_end_0 : List UInt8 := [27, 3, 42, 180, 0, 197, 184, 0, 3, 154, 0, 5, 3, 172, 42, 27, 181, 0, 197, 4, 172]
abbrev dktX1_end_0 : List UInt8 := dkwX1_end_0 ++ []
theorem dksX1_end_0 : cX1_end.data.toList.drop 0 = dktX1_end_0 := by decide +kernel
theorem dX1_end_0 : decode cX1_end 0 = .ok (.iload_n 1, 1) := dk_27 (dk_at dksX1_end_0 0 rfl rfl)
theorem dX1_end_1 : decode cX1_end 1 = .ok (.iconst 0, 1) := dk_3 (dk_at dksX1_end_0 1 rfl rfl)
theorem dX1_end_2 : decode cX1_end 2 = .ok (.aload_n 0, 1) := dk_42 (dk_at dksX1_end_0 2 rfl rfl)
theorem dX1_end_3 : decode cX1_end 3 = .ok (.getfield 197, 3) := dk_180 0 197 (dk_at dksX1_end_0 3 rfl rfl)
theorem dX1_end_6 : decode cX1_end 6 = .ok (.invokestatic 3, 3) := dk_184 0 3 (dk_at dksX1_end_0 6 rfl rfl)
theorem dX1_end_9 : decode cX1_end 9 = .ok (.ifCond .ne 5, 3) := dk_154 0 5 (dk_at dksX1_end_0 9 rfl rfl)
theorem dX1_end_12 : decode cX1_end 12 = .ok (.iconst 0, 1) := dk_3 (dk_at dksX1_end_0 12 rfl rfl)
theorem dX1_end_13 : decode cX1_end 13 = .ok (.ireturn, 1) := dk_172 (dk_at dksX1_end_0 13 rfl rfl)
theorem dX1_end_14 : decode cX1_end 14 = .ok (.aload_n 0, 1) := dk_42 (dk_at dksX1_end_0 14 rfl rfl)
theorem dX1_end_15 : decode cX1_end 15 = .ok (.iload_n 1, 1) := dk_27 (dk_at dksX1_end_0 15 rfl rfl)
theorem dX1_end_16 : decode cX1_end 16 = .ok (.putfield 197, 3) := dk_181 0 197 (dk_at dksX1_end_0 16 rfl rfl)
theorem dX1_end_19 : decode cX1_end 19 = .ok (.iconst 1, 1) := dk_4 (dk_at dksX1_end_0 19 rfl rfl)
theorem dX1_end_20 : decode cX1_end 20 = .ok (.ireturn, 1) := dk_172 (dk_at dksX1_end_0 20 rfl rfl)
def dkwX1_rule_1 : List UInt8 := [180, 0, 209, 100, 172]
abbrev dktX1_rule_1 : List UInt8 := dkwX1_rule_1 ++ []
def dkwX1_rule_0 : List UInt8 := [42, 180, 0, 52, 187, 0, 200, 89, 42, 183, 0, 202, 182, 0, 203, 181, 0, 13, 3, 172, 76, 2, 43]
abbrev dktX1_rule_0 : List UInt8 := dkwX1_rule_0 ++ dktX1_rule_1
theorem dksX1_rule_0 : cX1_rule.data.toList.drop 0 = dktX1_rule_0 := by decide +kernel
theorem dksX1_rule_1 : cX1_rule.data.toList.drop 23 = dktX1_rule_1 := dk_seg dksX1_rule_0 23 rfl rfl
theorem dX1_rule_0 : decode cX1_rule 0 = .ok (.aload_n 0, 1) := dk_42 (dk_at dksX1_rule_0 0 rfl rfl)
theorem dX1_rule_1 : decode cX1_rule 1 = .ok (.getfield 52, 3) := dk_180 0 52 (dk_at dksX1_rule_0 1 rfl rfl)
theorem dX1_rule_4 : decode cX1_rule 4 = .ok (.new 200, 3) := dk_187 0 200 (dk_at dksX1_rule_0 4 rfl rfl)
theorem dX1_rule_7 : decode cX1_rule 7 = .ok (.dup, 1) := dk_89 (dk_at dksX1_rule_0 7 rfl rfl)
theorem dX1_rule_8 : decode cX1_rule 8 = .ok (.aload_n 0, 1) := dk_42 (dk_at dksX1_rule_0 8 rfl rfl)
theorem dX1_rule_9 : decode cX1_rule 9 = .ok (.invokespecial 202, 3) := dk_183 0 202 (dk_at dksX1_rule_0 9 rfl rfl)
theorem dX1_rule_12 : decode cX1_rule 12 = .ok (.invokevirtual 203, 3) := dk_182 0 203 (dk_at dksX1_rule_0 12 rfl rfl)
theorem dX1_rule_15 : decode cX1_rule 15 = .ok (.putfield 13, 3) := dk_181 0 13 (dk_at dksX1_rule_0 15 rfl rfl)
theorem dX1_rule_18 : decode cX1_rule 18 = .ok (.iconst 0, 1) := dk_3 (dk_at dksX1_rule_0 18 rfl rfl)
theorem dX1_rule_19 : decode cX1_rule 19 = .ok (.ireturn, 1) := dk_172 (dk_at dksX1_rule_0 19 rfl rfl)
theorem dX1_rule_20 : decode cX1_rule 20 = .ok (.astore_n 1, 1) := dk_76 (dk_at dksX1_rule_0 20 rfl rfl)
theorem dX1_rule_21 : decode cX1_rule 21 = .ok (.iconst (-1), 1) := dk_2 (dk_at dksX1_rule_0 21 rfl rfl)
theorem dX1_rule_22 : decode cX1_rule 22 = .ok (.aload_n 1, 1) := dk_43 (dk_at dksX1_rule_0 22 rfl rfl)
theorem dX1_rule_23 : decode cX1_rule 23 = .ok (.getfield 209, 3) := dk_180 0 209 (dk_at dksX1_rule_1 0 rfl rfl)
theorem dX1_rule_26 : decode cX1_rule 26 = .ok (.isub, 1) := dk_100 (dk_at dksX1_rule_1 3 rfl rfl)
theorem dX1_rule_27 : decode cX1_rule 27 = .ok (.ireturn, 1) := dk_172 (dk_at dksX1_rule_1 4 rfl rfl)
def dkwX1_begin_0 : List UInt8 := [27, 184, 0, 124, 154, 0, 5, 3, 172, 42, 180, 0, 62, 27, 182, 0, 221, 87, 4, 172]
abbrev dktX1_begin_0 : List UInt8 := dkwX1_begin_0 ++ []
theorem dksX1_begin_0 : cX1_begin.data.toList.drop 0 = dktX1_begin_0 := by decide +kernel
theorem dX1_begin_0 : decode cX1_begin 0 = .ok (.iload_n 1, 1) := dk_27 (dk_at dksX1_begin_0 0 rfl rfl)
theorem dX1_begin_1 : decode cX1_begin 1 = .ok (.invokestatic 124, 3) := dk_184 0 124 (dk_at dksX1_begin_0 1 rfl rfl)
theorem dX1_begin_4 : decode cX1_begin 4 = .ok (.ifCond .ne 5, 3) := dk_154 0 5 (dk_at dksX1_begin_0 4 rfl rfl)
theorem dX1_begin_7 : decode cX1_begin 7 = .ok (.iconst 0, 1) := dk_3 (dk_at dksX1_begin_0 7 rfl rfl)
theorem dX1_begin_8 : decode cX1_begin 8 = .ok (.ireturn, 1) := dk_172 (dk_at dksX1_begin_0 8 rfl rfl)
theorem dX1_begin_9 : decode cX1_begin 9 = .ok (.aload_n 0, 1) := dk_42 (dk_at dksX1_begin_0 9 rfl rfl)
theorem dX1_begin_10 : decode cX1_begin 10 = .ok (.getfield 62, 3) := dk_180 0 62 (dk_at dksX1_begin_0 10 rfl rfl)
theorem dX1_begin_13 : decode cX1_begin 13 = .ok (.iload_n 1, 1) := dk_27 (dk_at dksX1_begin_0 13 rfl rfl)
theorem dX1_begin_14 : decode cX1_begin 14 = .ok (.invokevirtual 221, 3) := dk_182 0 221 (dk_at dksX1_begin_0 14 rfl rfl)
theorem dX1_begin_17 : decode cX1_begin 17 = .ok (.pop, 1) := dk_87 (dk_at dksX1_begin_0 17 rfl rfl)
theorem dX1_begin_18 : decode cX1_begin 18 = .ok (.iconst 1, 1) := dk_4 (dk_at dksX1_begin_0 18 rfl rfl)
theorem dX1_begin_19 : decode cX1_begin 19 = .ok (.ireturn, 1) := dk_172 (dk_at dksX1_begin_0 19 rfl rfl)
def dkwX1_go_2 : List UInt8 := [167, 255, 224, 42, 180, 0, 62, 180, 0, 225, 172]
abbrev dktX1_go_2 : List UInt8 := dkwX1_go_2 ++ []
def dkwX1_go_1 : List UInt8 := [180, 0, 225, 17, 9, 95, 162, 0, 20, 42, 180, 0, 62, 42, 180, 0, 52, 182, 0, 228, 132, 2, 1]
abbrev dktX1_go_1 : List UInt8 := dkwX1_go_1 ++ dktX1_go_2
def dkwX1_go_0 : List UInt8 := [27, 3, 17, 1, 244, 184, 0, 3, 154, 0, 5, 2, 172, 3, 61, 28, 27, 162, 0, 33, 42, 180, 0, 62]
abbrev dktX1_go_0 : List UInt8 := dkwX1_go_0 ++ dktX1_go_1
theorem dksX1_go_0 : cX1_go.data.toList.drop 0 = dktX1_go_0 := by decide +kernel
theorem dksX1_go_1 : cX1_go.data.toList.drop 24 = dktX1_go_1 := dk_seg dksX1_go_0 24 rfl rfl
theorem dksX1_go_2 : cX1_go.data.toList.drop 47 = dktX1_go_2 := dk_seg dksX1_go_1 23 rfl rfl
theorem dX1_go_0 : decode cX1_go 0 = .ok (.iload_n 1, 1) := dk_27 (dk_at dksX1_go_0 0 rfl rfl)
theorem dX1_go_1 : decode cX1_go 1 = .ok (.iconst 0, 1) := dk_3 (dk_at dksX1_go_0 1 rfl rfl)
theorem dX1_go_2 : decode cX1_go 2 = .ok (.sipush 500, 3) := dk_17 1 244 (dk_at dksX1_go_0 2 rfl rfl)
theorem dX1_go_5 : decode cX1_go 5 = .ok (.invokestatic 3, 3) := dk_184 0 3 (dk_at dksX1_go_0 5 rfl rfl)
theorem dX1_go_8 : decode cX1_go 8 = .ok (.ifCond .ne 5, 3) := dk_154 0 5 (dk_at dksX1_go_0 8 rfl rfl)
theorem dX1_go_11 : decode cX1_go 11 = .ok (.iconst (-1), 1) := dk_2 (dk_at dksX1_go_0 11 rfl rfl)
theorem dX1_go_12 : decode cX1_go 12 = .ok (.ireturn, 1) := dk_172 (dk_at dksX1_go_0 12 rfl rfl)
theorem dX1_go_13 : decode cX1_go 13 = .ok (.iconst 0, 1) := dk_3 (dk_at dksX1_go_0 13 rfl rfl)
theorem dX1_go_14 : decode cX1_go 14 = .ok (.istore_n 2, 1) := dk_61 (dk_at dksX1_go_0 14 rfl rfl)
theorem dX1_go_15 : decode cX1_go 15 = .ok (.iload_n 2, 1) := dk_28 (dk_at dksX1_go_0 15 rfl rfl)
theorem dX1_go_16 : decode cX1_go 16 = .ok (.iload_n 1, 1) := dk_27 (dk_at dksX1_go_0 16 rfl rfl)
theorem dX1_go_17 : decode cX1_go 17 = .ok (.if_icmp .ge 33, 3) := dk_162 0 33 (dk_at dksX1_go_0 17 rfl rfl)
theorem dX1_go_20 : decode cX1_go 20 = .ok (.aload_n 0, 1) := dk_42 (dk_at dksX1_go_0 20 rfl rfl)
theorem dX1_go_21 : decode cX1_go 21 = .ok (.getfield 62, 3) := dk_180 0 62 (dk_at dksX1_go_0 21 rfl rfl)
theorem dX1_go_24 : decode cX1_go 24 = .ok (.getfield 225, 3) := dk_180 0 225 (dk_at dksX1_go_1 0 rfl rfl)
theorem dX1_go_27 : decode cX1_go 27 = .ok (.sipush 2399, 3) := dk_17 9 95 (dk_at dksX1_go_1 3 rfl rfl)
theorem dX1_go_30 : decode cX1_go 30 = .ok (.if_icmp .ge 20, 3) := dk_162 0 20 (dk_at dksX1_go_1 6 rfl rfl)
theorem dX1_go_33 : decode cX1_go 33 = .ok (.aload_n 0, 1) := dk_42 (dk_at dksX1_go_1 9 rfl rfl)
theorem dX1_go_34 : decode cX1_go 34 = .ok (.getfield 62, 3) := dk_180 0 62 (dk_at dksX1_go_1 10 rfl rfl)
theorem dX1_go_37 : decode cX1_go 37 = .ok (.aload_n 0, 1) := dk_42 (dk_at dksX1_go_1 13 rfl rfl)
theorem dX1_go_38 : decode cX1_go 38 = .ok (.getfield 52, 3) := dk_180 0 52 (dk_at dksX1_go_1 14 rfl rfl)
theorem dX1_go_41 : decode cX1_go 41 = .ok (.invokevirtual 228, 3) := dk_182 0 228 (dk_at dksX1_go_1 17 rfl rfl)
theorem dX1_go_44 : decode cX1_go 44 = .ok (.iinc 2 1, 3) := dk_132 2 1 (dk_at dksX1_go_1 20 rfl rfl)
theorem dX1_go_47 : decode cX1_go 47 = .ok (.goto (-32), 3) := dk_167 255 224 (dk_at dksX1_go_2 0 rfl rfl)
theorem dX1_go_50 : decode cX1_go 50 = .ok (.aload_n 0, 1) := dk_42 (dk_at dksX1_go_2 3 rfl rfl)
theorem dX1_go_51 : decode cX1_go 51 = .ok (.getfield 62, 3) := dk_180 0 62 (dk_at dksX1_go_2 4 rfl rfl)
theorem dX1_go_54 : decode cX1_go 54 = .ok (.getfield 225, 3) := dk_180 0 225 (dk_at dksX1_go_2 7 rfl rfl)
theorem dX1_go_57 : decode cX1_go 57 = .ok (.ireturn, 1) := dk_172 (dk_at dksX1_go_2 10 rfl rfl)
def dkwX1_chosen_3 : List UInt8 := [163, 0, 6, 167, 0, 11, 21, 6, 54, 4, 21, 7, 54, 5, 132, 6, 1, 167, 255, 197, 21, 4, 172]
abbrev dktX1_chosen_3 : List UInt8 := dkwX1_chosen_3 ++ []
def dkwX1_chosen_2 : List UInt8 := [21, 6, 182, 0, 27, 185, 0, 33, 2, 0, 54, 7, 21, 4, 2, 159, 0, 13, 21, 7, 21, 5]
abbrev dktX1_chosen_2 : List UInt8 := dkwX1_chosen_2 ++ dktX1_chosen_3
def dkwX1_chosen_1 : List UInt8 := [3, 54, 6, 21, 6, 43, 180, 0, 19, 162, 0, 56, 43, 180, 0, 13, 42, 180, 0, 23, 43, 44, 29]
abbrev dktX1_chosen_1 : List UInt8 := dkwX1_chosen_1 ++ dktX1_chosen_2
def dkwX1_chosen_0 : List UInt8 := [44, 180, 0, 7, 29, 46, 54, 4, 43, 180, 0, 13, 199, 0, 6, 21, 4, 172, 2, 54, 4, 3, 54, 5]
abbrev dktX1_chosen_0 : List UInt8 := dkwX1_chosen_0 ++ dktX1_chosen_1
theorem dksX1_chosen_0 : cX1_chosen.data.toList.drop 0 = dktX1_chosen_0 := by decide +kernel
theorem dksX1_chosen_1 : cX1_chosen.data.toList.drop 24 = dktX1_chosen_1 := dk_seg dksX1_chosen_0 24 rfl rfl
theorem dksX1_chosen_2 : cX1_chosen.data.toList.drop 47 = dktX1_chosen_2 := dk_seg dksX1_chosen_1 23 rfl rfl
theorem dksX1_chosen_3 : cX1_chosen.data.toList.drop 69 = dktX1_chosen_3 := dk_seg dksX1_chosen_2 22 rfl rfl
theorem dX1_chosen_0 : decode cX1_chosen 0 = .ok (.aload_n 2, 1) := dk_44 (dk_at dksX1_chosen_0 0 rfl rfl)
theorem dX1_chosen_1 : decode cX1_chosen 1 = .ok (.getfield 7, 3) := dk_180 0 7 (dk_at dksX1_chosen_0 1 rfl rfl)
theorem dX1_chosen_4 : decode cX1_chosen 4 = .ok (.iload_n 3, 1) := dk_29 (dk_at dksX1_chosen_0 4 rfl rfl)
theorem dX1_chosen_5 : decode cX1_chosen 5 = .ok (.iaload, 1) := dk_46 (dk_at dksX1_chosen_0 5 rfl rfl)
theorem dX1_chosen_6 : decode cX1_chosen 6 = .ok (.istore 4, 2) := dk_54 4 (dk_at dksX1_chosen_0 6 rfl rfl)
theorem dX1_chosen_8 : decode cX1_chosen 8 = .ok (.aload_n 1, 1) := dk_43 (dk_at dksX1_chosen_0 8 rfl rfl)
theorem dX1_chosen_9 : decode cX1_chosen 9 = .ok (.getfield 13, 3) := dk_180 0 13 (dk_at dksX1_chosen_0 9 rfl rfl)
theorem dX1_chosen_12 : decode cX1_chosen 12 = .ok (.ifnonnull 6, 3) := dk_199 0 6 (dk_at dksX1_chosen_0 12 rfl rfl)
theorem dX1_chosen_15 : decode cX1_chosen 15 = .ok (.iload 4, 2) := dk_21 4 (dk_at dksX1_chosen_0 15 rfl rfl)
theorem dX1_chosen_17 : decode cX1_chosen 17 = .ok (.ireturn, 1) := dk_172 (dk_at dksX1_chosen_0 17 rfl rfl)
theorem dX1_chosen_18 : decode cX1_chosen 18 = .ok (.iconst (-1), 1) := dk_2 (dk_at dksX1_chosen_0 18 rfl rfl)
theorem dX1_chosen_19 : decode cX1_chosen 19 = .ok (.istore 4, 2) := dk_54 4 (dk_at dksX1_chosen_0 19 rfl rfl)
theorem dX1_chosen_21 : decode cX1_chosen 21 = .ok (.iconst 0, 1) := dk_3 (dk_at dksX1_chosen_0 21 rfl rfl)
theorem dX1_chosen_22 : decode cX1_chosen 22 = .ok (.istore 5, 2) := dk_54 5 (dk_at dksX1_chosen_0 22 rfl rfl)
theorem dX1_chosen_24 : decode cX1_chosen 24 = .ok (.iconst 0, 1) := dk_3 (dk_at dksX1_chosen_1 0 rfl rfl)
theorem dX1_chosen_25 : decode cX1_chosen 25 = .ok (.istore 6, 2) := dk_54 6 (dk_at dksX1_chosen_1 1 rfl rfl)
theorem dX1_chosen_27 : decode cX1_chosen 27 = .ok (.iload 6, 2) := dk_21 6 (dk_at dksX1_chosen_1 3 rfl rfl)
theorem dX1_chosen_29 : decode cX1_chosen 29 = .ok (.aload_n 1, 1) := dk_43 (dk_at dksX1_chosen_1 5 rfl rfl)
theorem dX1_chosen_30 : decode cX1_chosen 30 = .ok (.getfield 19, 3) := dk_180 0 19 (dk_at dksX1_chosen_1 6 rfl rfl)
theorem dX1_chosen_33 : decode cX1_chosen 33 = .ok (.if_icmp .ge 56, 3) := dk_162 0 56 (dk_at dksX1_chosen_1 9 rfl rfl)
theorem dX1_chosen_36 : decode cX1_chosen 36 = .ok (.aload_n 1, 1) := dk_43 (dk_at dksX1_chosen_1 12 rfl rfl)
theorem dX1_chosen_37 : decode cX1_chosen 37 = .ok (.getfield 13, 3) := dk_180 0 13 (dk_at dksX1_chosen_1 13 rfl rfl)
theorem dX1_chosen_40 : decode cX1_chosen 40 = .ok (.aload_n 0, 1) := dk_42 (dk_at dksX1_chosen_1 16 rfl rfl)
theorem dX1_chosen_41 : decode cX1_chosen 41 = .ok (.getfield 23, 3) := dk_180 0 23 (dk_at dksX1_chosen_1 17 rfl rfl)
theorem dX1_chosen_44 : decode cX1_chosen 44 = .ok (.aload_n 1, 1) := dk_43 (dk_at dksX1_chosen_1 20 rfl rfl)
theorem dX1_chosen_45 : decode cX1_chosen 45 = .ok (.aload_n 2, 1) := dk_44 (dk_at dksX1_chosen_1 21 rfl rfl)
theorem dX1_chosen_46 : decode cX1_chosen 46 = .ok (.iload_n 3, 1) := dk_29 (dk_at dksX1_chosen_1 22 rfl rfl)
theorem dX1_chosen_47 : decode cX1_chosen 47 = .ok (.iload 6, 2) := dk_21 6 (dk_at dksX1_chosen_2 0 rfl rfl)
theorem dX1_chosen_49 : decode cX1_chosen 49 = .ok (.invokevirtual 27, 3) := dk_182 0 27 (dk_at dksX1_chosen_2 2 rfl rfl)
theorem dX1_chosen_52 : decode cX1_chosen 52 = .ok (.invokeinterface 33 2, 5) := by decide +kernel
theorem dX1_chosen_57 : decode cX1_chosen 57 = .ok (.istore 7, 2) := dk_54 7 (dk_at dksX1_chosen_2 10 rfl rfl)
theorem dX1_chosen_59 : decode cX1_chosen 59 = .ok (.iload 4, 2) := dk_21 4 (dk_at dksX1_chosen_2 12 rfl rfl)
theorem dX1_chosen_61 : decode cX1_chosen 61 = .ok (.iconst (-1), 1) := dk_2 (dk_at dksX1_chosen_2 14 rfl rfl)
theorem dX1_chosen_62 : decode cX1_chosen 62 = .ok (.if_icmp .eq 13, 3) := dk_159 0 13 (dk_at dksX1_chosen_2 15 rfl rfl)
theorem dX1_chosen_65 : decode cX1_chosen 65 = .ok (.iload 7, 2) := dk_21 7 (dk_at dksX1_chosen_2 18 rfl rfl)
theorem dX1_chosen_67 : decode cX1_chosen 67 = .ok (.iload 5, 2) := dk_21 5 (dk_at dksX1_chosen_2 20 rfl rfl)
theorem dX1_chosen_69 : decode cX1_chosen 69 = .ok (.if_icmp .gt 6, 3) := dk_163 0 6 (dk_at dksX1_chosen_3 0 rfl rfl)
theorem dX1_chosen_72 : decode cX1_chosen 72 = .ok (.goto 11, 3) := dk_167 0 11 (dk_at dksX1_chosen_3 3 rfl rfl)
theorem dX1_chosen_75 : decode cX1_chosen 75 = .ok (.iload 6, 2) := dk_21 6 (dk_at dksX1_chosen_3 6 rfl rfl)
theorem dX1_chosen_77 : decode cX1_chosen 77 = .ok (.istore 4, 2) := dk_54 4 (dk_at dksX1_chosen_3 8 rfl rfl)
theorem dX1_chosen_79 : decode cX1_chosen 79 = .ok (.iload 7, 2) := dk_21 7 (dk_at dksX1_chosen_3 10 rfl rfl)
theorem dX1_chosen_81 : decode cX1_chosen 81 = .ok (.istore 5, 2) := dk_54 5 (dk_at dksX1_chosen_3 12 rfl rfl)
theorem dX1_chosen_83 : decode cX1_chosen 83 = .ok (.iinc 6 1, 3) := dk_132 6 1 (dk_at dksX1_chosen_3 14 rfl rfl)
theorem dX1_chosen_86 : decode cX1_chosen 86 = .ok (.goto (-59), 3) := dk_167 255 197 (dk_at dksX1_chosen_3 17 rfl rfl)
theorem dX1_chosen_89 : decode cX1_chosen 89 = .ok (.iload 4, 2) := dk_21 4 (dk_at dksX1_chosen_3 20 rfl rfl)
theorem dX1_chosen_91 : decode cX1_chosen 91 = .ok (.ireturn, 1) := dk_172 (dk_at dksX1_chosen_3 22 rfl rfl)
def dkwX1_hand_2 : List UInt8 := [42, 180, 0, 52, 27, 28, 42, 180, 0, 62, 180, 0, 225, 182, 1, 0, 172]
abbrev dktX1_hand_2 : List UInt8 := dkwX1_hand_2 ++ []
def dkwX1_hand_1 : List UInt8 := [46, 2, 160, 0, 16, 42, 180, 0, 62, 180, 0, 7, 27, 46, 28, 160, 0, 5, 2, 172, 42, 180, 0, 62]
abbrev dktX1_hand_1 : List UInt8 := dkwX1_hand_1 ++ dktX1_hand_2
def dkwX1_hand_0 : List UInt8 := [42, 27, 182, 0, 212, 153, 0, 37, 42, 28, 182, 0, 121, 153, 0, 29, 42, 180, 0, 62, 180, 0, 241, 27]
abbrev dktX1_hand_0 : List UInt8 := dkwX1_hand_0 ++ dktX1_hand_1
theorem dksX1_hand_0 : cX1_hand.data.toList.drop 0 = dktX1_hand_0 := by decide +kernel
theorem dksX1_hand_1 : cX1_hand.data.toList.drop 24 = dktX1_hand_1 := dk_seg dksX1_hand_0 24 rfl rfl
theorem dksX1_hand_2 : cX1_hand.data.toList.drop 48 = dktX1_hand_2 := dk_seg dksX1_hand_1 24 rfl rfl
theorem dX1_hand_0 : decode cX1_hand 0 = .ok (.aload_n 0, 1) := dk_42 (dk_at dksX1_hand_0 0 rfl rfl)
theorem dX1_hand_1 : decode cX1_hand 1 = .ok (.iload_n 1, 1) := dk_27 (dk_at dksX1_hand_0 1 rfl rfl)
theorem dX1_hand_2 : decode cX1_hand 2 = .ok (.invokevirtual 212, 3) := dk_182 0 212 (dk_at dksX1_hand_0 2 rfl rfl)
theorem dX1_hand_5 : decode cX1_hand 5 = .ok (.ifCond .eq 37, 3) := dk_153 0 37 (dk_at dksX1_hand_0 5 rfl rfl)
theorem dX1_hand_8 : decode cX1_hand 8 = .ok (.aload_n 0, 1) := dk_42 (dk_at dksX1_hand_0 8 rfl rfl)
theorem dX1_hand_9 : decode cX1_hand 9 = .ok (.iload_n 2, 1) := dk_28 (dk_at dksX1_hand_0 9 rfl rfl)
theorem dX1_hand_10 : decode cX1_hand 10 = .ok (.invokevirtual 121, 3) := dk_182 0 121 (dk_at dksX1_hand_0 10 rfl rfl)
theorem dX1_hand_13 : decode cX1_hand 13 = .ok (.ifCond .eq 29, 3) := dk_153 0 29 (dk_at dksX1_hand_0 13 rfl rfl)
theorem dX1_hand_16 : decode cX1_hand 16 = .ok (.aload_n 0, 1) := dk_42 (dk_at dksX1_hand_0 16 rfl rfl)
theorem dX1_hand_17 : decode cX1_hand 17 = .ok (.getfield 62, 3) := dk_180 0 62 (dk_at dksX1_hand_0 17 rfl rfl)
theorem dX1_hand_20 : decode cX1_hand 20 = .ok (.getfield 241, 3) := dk_180 0 241 (dk_at dksX1_hand_0 20 rfl rfl)
theorem dX1_hand_23 : decode cX1_hand 23 = .ok (.iload_n 1, 1) := dk_27 (dk_at dksX1_hand_0 23 rfl rfl)
theorem dX1_hand_24 : decode cX1_hand 24 = .ok (.iaload, 1) := dk_46 (dk_at dksX1_hand_1 0 rfl rfl)
theorem dX1_hand_25 : decode cX1_hand 25 = .ok (.iconst (-1), 1) := dk_2 (dk_at dksX1_hand_1 1 rfl rfl)
theorem dX1_hand_26 : decode cX1_hand 26 = .ok (.if_icmp .ne 16, 3) := dk_160 0 16 (dk_at dksX1_hand_1 2 rfl rfl)
theorem dX1_hand_29 : decode cX1_hand 29 = .ok (.aload_n 0, 1) := dk_42 (dk_at dksX1_hand_1 5 rfl rfl)
theorem dX1_hand_30 : decode cX1_hand 30 = .ok (.getfield 62, 3) := dk_180 0 62 (dk_at dksX1_hand_1 6 rfl rfl)
theorem dX1_hand_33 : decode cX1_hand 33 = .ok (.getfield 7, 3) := dk_180 0 7 (dk_at dksX1_hand_1 9 rfl rfl)
theorem dX1_hand_36 : decode cX1_hand 36 = .ok (.iload_n 1, 1) := dk_27 (dk_at dksX1_hand_1 12 rfl rfl)
theorem dX1_hand_37 : decode cX1_hand 37 = .ok (.iaload, 1) := dk_46 (dk_at dksX1_hand_1 13 rfl rfl)
theorem dX1_hand_38 : decode cX1_hand 38 = .ok (.iload_n 2, 1) := dk_28 (dk_at dksX1_hand_1 14 rfl rfl)
theorem dX1_hand_39 : decode cX1_hand 39 = .ok (.if_icmp .ne 5, 3) := dk_160 0 5 (dk_at dksX1_hand_1 15 rfl rfl)
theorem dX1_hand_42 : decode cX1_hand 42 = .ok (.iconst (-1), 1) := dk_2 (dk_at dksX1_hand_1 18 rfl rfl)
theorem dX1_hand_43 : decode cX1_hand 43 = .ok (.ireturn, 1) := dk_172 (dk_at dksX1_hand_1 19 rfl rfl)
theorem dX1_hand_44 : decode cX1_hand 44 = .ok (.aload_n 0, 1) := dk_42 (dk_at dksX1_hand_1 20 rfl rfl)
theorem dX1_hand_45 : decode cX1_hand 45 = .ok (.getfield 62, 3) := dk_180 0 62 (dk_at dksX1_hand_1 21 rfl rfl)
theorem dX1_hand_48 : decode cX1_hand 48 = .ok (.aload_n 0, 1) := dk_42 (dk_at dksX1_hand_2 0 rfl rfl)
theorem dX1_hand_49 : decode cX1_hand 49 = .ok (.getfield 52, 3) := dk_180 0 52 (dk_at dksX1_hand_2 1 rfl rfl)
theorem dX1_hand_52 : decode cX1_hand 52 = .ok (.iload_n 1, 1) := dk_27 (dk_at dksX1_hand_2 4 rfl rfl)
theorem dX1_hand_53 : decode cX1_hand 53 = .ok (.iload_n 2, 1) := dk_28 (dk_at dksX1_hand_2 5 rfl rfl)
theorem dX1_hand_54 : decode cX1_hand 54 = .ok (.aload_n 0, 1) := dk_42 (dk_at dksX1_hand_2 6 rfl rfl)
theorem dX1_hand_55 : decode cX1_hand 55 = .ok (.getfield 62, 3) := dk_180 0 62 (dk_at dksX1_hand_2 7 rfl rfl)
theorem dX1_hand_58 : decode cX1_hand 58 = .ok (.getfield 225, 3) := dk_180 0 225 (dk_at dksX1_hand_2 10 rfl rfl)
theorem dX1_hand_61 : decode cX1_hand 61 = .ok (.invokevirtual 256, 3) := dk_182 1 0 (dk_at dksX1_hand_2 13 rfl rfl)
theorem dX1_hand_64 : decode cX1_hand 64 = .ok (.ireturn, 1) := dk_172 (dk_at dksX1_hand_2 16 rfl rfl)
def dkwX1_isPiece_0 : List UInt8 := [27, 3, 42, 180, 0, 105, 4, 100, 184, 0, 3, 172]
abbrev dktX1_isPiece_0 : List UInt8 := dkwX1_isPiece_0 ++ []
theorem dksX1_isPiece_0 : cX1_isPiece.data.toList.drop 0 = dktX1_isPiece_0 := by decide +kernel
theorem dX1_isPiece_0 : decode cX1_isPiece 0 = .ok (.iload_n 1, 1) := dk_27 (dk_at dksX1_isPiece_0 0 rfl rfl)
theorem dX1_isPiece_1 : decode cX1_isPiece 1 = .ok (.iconst 0, 1) := dk_3 (dk_at dksX1_isPiece_0 1 rfl rfl)
theorem dX1_isPiece_2 : decode cX1_isPiece 2 = .ok (.aload_n 0, 1) := dk_42 (dk_at dksX1_isPiece_0 2 rfl rfl)
theorem dX1_isPiece_3 : decode cX1_isPiece 3 = .ok (.getfield 105, 3) := dk_180 0 105 (dk_at dksX1_isPiece_0 3 rfl rfl)
theorem dX1_isPiece_6 : decode cX1_isPiece 6 = .ok (.iconst 1, 1) := dk_4 (dk_at dksX1_isPiece_0 6 rfl rfl)
theorem dX1_isPiece_7 : decode cX1_isPiece 7 = .ok (.isub, 1) := dk_100 (dk_at dksX1_isPiece_0 7 rfl rfl)
theorem dX1_isPiece_8 : decode cX1_isPiece 8 = .ok (.invokestatic 3, 3) := dk_184 0 3 (dk_at dksX1_isPiece_0 8 rfl rfl)
theorem dX1_isPiece_11 : decode cX1_isPiece 11 = .ok (.ireturn, 1) := dk_172 (dk_at dksX1_isPiece_0 11 rfl rfl)
def dkwX1_ends_1 : List UInt8 := [180, 0, 62, 42, 180, 0, 52, 182, 1, 20, 172]
abbrev dktX1_ends_1 : List UInt8 := dkwX1_ends_1 ++ []
def dkwX1_ends_0 : List UInt8 := [42, 180, 0, 105, 154, 0, 7, 2, 167, 0, 26, 42, 42, 180, 0, 66, 42, 180, 0, 62, 182, 1, 16, 42]
abbrev dktX1_ends_0 : List UInt8 := dkwX1_ends_0 ++ dktX1_ends_1
theorem dksX1_ends_0 : cX1_ends.data.toList.drop 0 = dktX1_ends_0 := by decide +kernel
theorem dksX1_ends_1 : cX1_ends.data.toList.drop 24 = dktX1_ends_1 := dk_seg dksX1_ends_0 24 rfl rfl
theorem dX1_ends_0 : decode cX1_ends 0 = .ok (.aload_n 0, 1) := dk_42 (dk_at dksX1_ends_0 0 rfl rfl)
theorem dX1_ends_1 : decode cX1_ends 1 = .ok (.getfield 105, 3) := dk_180 0 105 (dk_at dksX1_ends_0 1 rfl rfl)
theorem dX1_ends_4 : decode cX1_ends 4 = .ok (.ifCond .ne 7, 3) := dk_154 0 7 (dk_at dksX1_ends_0 4 rfl rfl)
theorem dX1_ends_7 : decode cX1_ends 7 = .ok (.iconst (-1), 1) := dk_2 (dk_at dksX1_ends_0 7 rfl rfl)
theorem dX1_ends_8 : decode cX1_ends 8 = .ok (.goto 26, 3) := dk_167 0 26 (dk_at dksX1_ends_0 8 rfl rfl)
theorem dX1_ends_11 : decode cX1_ends 11 = .ok (.aload_n 0, 1) := dk_42 (dk_at dksX1_ends_0 11 rfl rfl)
theorem dX1_ends_12 : decode cX1_ends 12 = .ok (.aload_n 0, 1) := dk_42 (dk_at dksX1_ends_0 12 rfl rfl)
theorem dX1_ends_13 : decode cX1_ends 13 = .ok (.getfield 66, 3) := dk_180 0 66 (dk_at dksX1_ends_0 13 rfl rfl)
theorem dX1_ends_16 : decode cX1_ends 16 = .ok (.aload_n 0, 1) := dk_42 (dk_at dksX1_ends_0 16 rfl rfl)
theorem dX1_ends_17 : decode cX1_ends 17 = .ok (.getfield 62, 3) := dk_180 0 62 (dk_at dksX1_ends_0 17 rfl rfl)
theorem dX1_ends_20 : decode cX1_ends 20 = .ok (.invokevirtual 272, 3) := dk_182 1 16 (dk_at dksX1_ends_0 20 rfl rfl)
theorem dX1_ends_23 : decode cX1_ends 23 = .ok (.aload_n 0, 1) := dk_42 (dk_at dksX1_ends_0 23 rfl rfl)
theorem dX1_ends_24 : decode cX1_ends 24 = .ok (.getfield 62, 3) := dk_180 0 62 (dk_at dksX1_ends_1 0 rfl rfl)
theorem dX1_ends_27 : decode cX1_ends 27 = .ok (.aload_n 0, 1) := dk_42 (dk_at dksX1_ends_1 3 rfl rfl)
theorem dX1_ends_28 : decode cX1_ends 28 = .ok (.getfield 52, 3) := dk_180 0 52 (dk_at dksX1_ends_1 4 rfl rfl)
theorem dX1_ends_31 : decode cX1_ends 31 = .ok (.invokevirtual 276, 3) := dk_182 1 20 (dk_at dksX1_ends_1 7 rfl rfl)
theorem dX1_ends_34 : decode cX1_ends 34 = .ok (.ireturn, 1) := dk_172 (dk_at dksX1_ends_1 10 rfl rfl)
def dkwX1_endOf_5 : List UInt8 := [180, 1, 9, 21, 6, 100, 133, 182, 0, 101, 21, 7, 172]
abbrev dktX1_endOf_5 : List UInt8 := dkwX1_endOf_5 ++ []
def dkwX1_endOf_4 : List UInt8 := [180, 1, 4, 21, 4, 100, 133, 182, 0, 101, 42, 43, 180, 1, 7, 21, 5, 100, 133, 182, 0, 101, 42, 43]
abbrev dktX1_endOf_4 : List UInt8 := dkwX1_endOf_4 ++ dktX1_endOf_5
def dkwX1_endOf_3 : List UInt8 := [162, 0, 21, 42, 43, 180, 0, 241, 21, 8, 46, 133, 182, 0, 101, 132, 8, 1, 167, 255, 232, 42, 43]
abbrev dktX1_endOf_3 : List UInt8 := dkwX1_endOf_3 ++ dktX1_endOf_4
def dkwX1_endOf_2 : List UInt8 := [54, 7, 21, 7, 156, 0, 6, 21, 7, 172, 42, 3, 181, 0, 94, 3, 54, 8, 21, 8, 42, 180, 0, 105]
abbrev dktX1_endOf_2 : List UInt8 := dkwX1_endOf_2 ++ dktX1_endOf_3
def dkwX1_endOf_1 : List UInt8 := [180, 1, 7, 54, 5, 44, 199, 0, 7, 3, 167, 0, 7, 44, 180, 1, 9, 54, 6, 43, 45, 182, 1, 12]
abbrev dktX1_endOf_1 : List UInt8 := dkwX1_endOf_1 ++ dktX1_endOf_2
def dkwX1_endOf_0 : List UInt8 := [44, 199, 0, 7, 3, 167, 0, 7, 44, 180, 1, 4, 54, 4, 44, 199, 0, 7, 3, 167, 0, 7, 44]
abbrev dktX1_endOf_0 : List UInt8 := dkwX1_endOf_0 ++ dktX1_endOf_1
theorem dksX1_endOf_0 : cX1_endOf.data.toList.drop 0 = dktX1_endOf_0 := by decide +kernel
theorem dksX1_endOf_1 : cX1_endOf.data.toList.drop 23 = dktX1_endOf_1 := dk_seg dksX1_endOf_0 23 rfl rfl
theorem dksX1_endOf_2 : cX1_endOf.data.toList.drop 47 = dktX1_endOf_2 := dk_seg dksX1_endOf_1 24 rfl rfl
theorem dksX1_endOf_3 : cX1_endOf.data.toList.drop 71 = dktX1_endOf_3 := dk_seg dksX1_endOf_2 24 rfl rfl
theorem dksX1_endOf_4 : cX1_endOf.data.toList.drop 94 = dktX1_endOf_4 := dk_seg dksX1_endOf_3 23 rfl rfl
theorem dksX1_endOf_5 : cX1_endOf.data.toList.drop 118 = dktX1_endOf_5 := dk_seg dksX1_endOf_4 24 rfl rfl
theorem dX1_endOf_0 : decode cX1_endOf 0 = .ok (.aload_n 2, 1) := dk_44 (dk_at dksX1_endOf_0 0 rfl rfl)
theorem dX1_endOf_1 : decode cX1_endOf 1 = .ok (.ifnonnull 7, 3) := dk_199 0 7 (dk_at dksX1_endOf_0 1 rfl rfl)
theorem dX1_endOf_4 : decode cX1_endOf 4 = .ok (.iconst 0, 1) := dk_3 (dk_at dksX1_endOf_0 4 rfl rfl)
theorem dX1_endOf_5 : decode cX1_endOf 5 = .ok (.goto 7, 3) := dk_167 0 7 (dk_at dksX1_endOf_0 5 rfl rfl)
theorem dX1_endOf_8 : decode cX1_endOf 8 = .ok (.aload_n 2, 1) := dk_44 (dk_at dksX1_endOf_0 8 rfl rfl)
theorem dX1_endOf_9 : decode cX1_endOf 9 = .ok (.getfield 260, 3) := dk_180 1 4 (dk_at dksX1_endOf_0 9 rfl rfl)
theorem dX1_endOf_12 : decode cX1_endOf 12 = .ok (.istore 4, 2) := dk_54 4 (dk_at dksX1_endOf_0 12 rfl rfl)
theorem dX1_endOf_14 : decode cX1_endOf 14 = .ok (.aload_n 2, 1) := dk_44 (dk_at dksX1_endOf_0 14 rfl rfl)
theorem dX1_endOf_15 : decode cX1_endOf 15 = .ok (.ifnonnull 7, 3) := dk_199 0 7 (dk_at dksX1_endOf_0 15 rfl rfl)
theorem dX1_endOf_18 : decode cX1_endOf 18 = .ok (.iconst 0, 1) := dk_3 (dk_at dksX1_endOf_0 18 rfl rfl)
theorem dX1_endOf_19 : decode cX1_endOf 19 = .ok (.goto 7, 3) := dk_167 0 7 (dk_at dksX1_endOf_0 19 rfl rfl)
theorem dX1_endOf_22 : decode cX1_endOf 22 = .ok (.aload_n 2, 1) := dk_44 (dk_at dksX1_endOf_0 22 rfl rfl)
theorem dX1_endOf_23 : decode cX1_endOf 23 = .ok (.getfield 263, 3) := dk_180 1 7 (dk_at dksX1_endOf_1 0 rfl rfl)
theorem dX1_endOf_26 : decode cX1_endOf 26 = .ok (.istore 5, 2) := dk_54 5 (dk_at dksX1_endOf_1 3 rfl rfl)
theorem dX1_endOf_28 : decode cX1_endOf 28 = .ok (.aload_n 2, 1) := dk_44 (dk_at dksX1_endOf_1 5 rfl rfl)
theorem dX1_endOf_29 : decode cX1_endOf 29 = .ok (.ifnonnull 7, 3) := dk_199 0 7 (dk_at dksX1_endOf_1 6 rfl rfl)
theorem dX1_endOf_32 : decode cX1_endOf 32 = .ok (.iconst 0, 1) := dk_3 (dk_at dksX1_endOf_1 9 rfl rfl)
theorem dX1_endOf_33 : decode cX1_endOf 33 = .ok (.goto 7, 3) := dk_167 0 7 (dk_at dksX1_endOf_1 10 rfl rfl)
theorem dX1_endOf_36 : decode cX1_endOf 36 = .ok (.aload_n 2, 1) := dk_44 (dk_at dksX1_endOf_1 13 rfl rfl)
theorem dX1_endOf_37 : decode cX1_endOf 37 = .ok (.getfield 265, 3) := dk_180 1 9 (dk_at dksX1_endOf_1 14 rfl rfl)
theorem dX1_endOf_40 : decode cX1_endOf 40 = .ok (.istore 6, 2) := dk_54 6 (dk_at dksX1_endOf_1 17 rfl rfl)
theorem dX1_endOf_42 : decode cX1_endOf 42 = .ok (.aload_n 1, 1) := dk_43 (dk_at dksX1_endOf_1 19 rfl rfl)
theorem dX1_endOf_43 : decode cX1_endOf 43 = .ok (.aload_n 3, 1) := dk_45 (dk_at dksX1_endOf_1 20 rfl rfl)
theorem dX1_endOf_44 : decode cX1_endOf 44 = .ok (.invokevirtual 268, 3) := dk_182 1 12 (dk_at dksX1_endOf_1 21 rfl rfl)
theorem dX1_endOf_47 : decode cX1_endOf 47 = .ok (.istore 7, 2) := dk_54 7 (dk_at dksX1_endOf_2 0 rfl rfl)
theorem dX1_endOf_49 : decode cX1_endOf 49 = .ok (.iload 7, 2) := dk_21 7 (dk_at dksX1_endOf_2 2 rfl rfl)
theorem dX1_endOf_51 : decode cX1_endOf 51 = .ok (.ifCond .ge 6, 3) := dk_156 0 6 (dk_at dksX1_endOf_2 4 rfl rfl)
theorem dX1_endOf_54 : decode cX1_endOf 54 = .ok (.iload 7, 2) := dk_21 7 (dk_at dksX1_endOf_2 7 rfl rfl)
theorem dX1_endOf_56 : decode cX1_endOf 56 = .ok (.ireturn, 1) := dk_172 (dk_at dksX1_endOf_2 9 rfl rfl)
theorem dX1_endOf_57 : decode cX1_endOf 57 = .ok (.aload_n 0, 1) := dk_42 (dk_at dksX1_endOf_2 10 rfl rfl)
theorem dX1_endOf_58 : decode cX1_endOf 58 = .ok (.iconst 0, 1) := dk_3 (dk_at dksX1_endOf_2 11 rfl rfl)
theorem dX1_endOf_59 : decode cX1_endOf 59 = .ok (.putfield 94, 3) := dk_181 0 94 (dk_at dksX1_endOf_2 12 rfl rfl)
theorem dX1_endOf_62 : decode cX1_endOf 62 = .ok (.iconst 0, 1) := dk_3 (dk_at dksX1_endOf_2 15 rfl rfl)
theorem dX1_endOf_63 : decode cX1_endOf 63 = .ok (.istore 8, 2) := dk_54 8 (dk_at dksX1_endOf_2 16 rfl rfl)
theorem dX1_endOf_65 : decode cX1_endOf 65 = .ok (.iload 8, 2) := dk_21 8 (dk_at dksX1_endOf_2 18 rfl rfl)
theorem dX1_endOf_67 : decode cX1_endOf 67 = .ok (.aload_n 0, 1) := dk_42 (dk_at dksX1_endOf_2 20 rfl rfl)
theorem dX1_endOf_68 : decode cX1_endOf 68 = .ok (.getfield 105, 3) := dk_180 0 105 (dk_at dksX1_endOf_2 21 rfl rfl)
theorem dX1_endOf_71 : decode cX1_endOf 71 = .ok (.if_icmp .ge 21, 3) := dk_162 0 21 (dk_at dksX1_endOf_3 0 rfl rfl)
theorem dX1_endOf_74 : decode cX1_endOf 74 = .ok (.aload_n 0, 1) := dk_42 (dk_at dksX1_endOf_3 3 rfl rfl)
theorem dX1_endOf_75 : decode cX1_endOf 75 = .ok (.aload_n 1, 1) := dk_43 (dk_at dksX1_endOf_3 4 rfl rfl)
theorem dX1_endOf_76 : decode cX1_endOf 76 = .ok (.getfield 241, 3) := dk_180 0 241 (dk_at dksX1_endOf_3 5 rfl rfl)
theorem dX1_endOf_79 : decode cX1_endOf 79 = .ok (.iload 8, 2) := dk_21 8 (dk_at dksX1_endOf_3 8 rfl rfl)
theorem dX1_endOf_81 : decode cX1_endOf 81 = .ok (.iaload, 1) := dk_46 (dk_at dksX1_endOf_3 10 rfl rfl)
theorem dX1_endOf_82 : decode cX1_endOf 82 = .ok (.i2l, 1) := dk_133 (dk_at dksX1_endOf_3 11 rfl rfl)
theorem dX1_endOf_83 : decode cX1_endOf 83 = .ok (.invokevirtual 101, 3) := dk_182 0 101 (dk_at dksX1_endOf_3 12 rfl rfl)
theorem dX1_endOf_86 : decode cX1_endOf 86 = .ok (.iinc 8 1, 3) := dk_132 8 1 (dk_at dksX1_endOf_3 15 rfl rfl)
theorem dX1_endOf_89 : decode cX1_endOf 89 = .ok (.goto (-24), 3) := dk_167 255 232 (dk_at dksX1_endOf_3 18 rfl rfl)
theorem dX1_endOf_92 : decode cX1_endOf 92 = .ok (.aload_n 0, 1) := dk_42 (dk_at dksX1_endOf_3 21 rfl rfl)
theorem dX1_endOf_93 : decode cX1_endOf 93 = .ok (.aload_n 1, 1) := dk_43 (dk_at dksX1_endOf_3 22 rfl rfl)
theorem dX1_endOf_94 : decode cX1_endOf 94 = .ok (.getfield 260, 3) := dk_180 1 4 (dk_at dksX1_endOf_4 0 rfl rfl)
theorem dX1_endOf_97 : decode cX1_endOf 97 = .ok (.iload 4, 2) := dk_21 4 (dk_at dksX1_endOf_4 3 rfl rfl)
theorem dX1_endOf_99 : decode cX1_endOf 99 = .ok (.isub, 1) := dk_100 (dk_at dksX1_endOf_4 5 rfl rfl)
theorem dX1_endOf_100 : decode cX1_endOf 100 = .ok (.i2l, 1) := dk_133 (dk_at dksX1_endOf_4 6 rfl rfl)
theorem dX1_endOf_101 : decode cX1_endOf 101 = .ok (.invokevirtual 101, 3) := dk_182 0 101 (dk_at dksX1_endOf_4 7 rfl rfl)
theorem dX1_endOf_104 : decode cX1_endOf 104 = .ok (.aload_n 0, 1) := dk_42 (dk_at dksX1_endOf_4 10 rfl rfl)
theorem dX1_endOf_105 : decode cX1_endOf 105 = .ok (.aload_n 1, 1) := dk_43 (dk_at dksX1_endOf_4 11 rfl rfl)
theorem dX1_endOf_106 : decode cX1_endOf 106 = .ok (.getfield 263, 3) := dk_180 1 7 (dk_at dksX1_endOf_4 12 rfl rfl)
theorem dX1_endOf_109 : decode cX1_endOf 109 = .ok (.iload 5, 2) := dk_21 5 (dk_at dksX1_endOf_4 15 rfl rfl)
theorem dX1_endOf_111 : decode cX1_endOf 111 = .ok (.isub, 1) := dk_100 (dk_at dksX1_endOf_4 17 rfl rfl)
theorem dX1_endOf_112 : decode cX1_endOf 112 = .ok (.i2l, 1) := dk_133 (dk_at dksX1_endOf_4 18 rfl rfl)
theorem dX1_endOf_113 : decode cX1_endOf 113 = .ok (.invokevirtual 101, 3) := dk_182 0 101 (dk_at dksX1_endOf_4 19 rfl rfl)
theorem dX1_endOf_116 : decode cX1_endOf 116 = .ok (.aload_n 0, 1) := dk_42 (dk_at dksX1_endOf_4 22 rfl rfl)
theorem dX1_endOf_117 : decode cX1_endOf 117 = .ok (.aload_n 1, 1) := dk_43 (dk_at dksX1_endOf_4 23 rfl rfl)
theorem dX1_endOf_118 : decode cX1_endOf 118 = .ok (.getfield 265, 3) := dk_180 1 9 (dk_at dksX1_endOf_5 0 rfl rfl)
theorem dX1_endOf_121 : decode cX1_endOf 121 = .ok (.iload 6, 2) := dk_21 6 (dk_at dksX1_endOf_5 3 rfl rfl)
theorem dX1_endOf_123 : decode cX1_endOf 123 = .ok (.isub, 1) := dk_100 (dk_at dksX1_endOf_5 5 rfl rfl)
theorem dX1_endOf_124 : decode cX1_endOf 124 = .ok (.i2l, 1) := dk_133 (dk_at dksX1_endOf_5 6 rfl rfl)
theorem dX1_endOf_125 : decode cX1_endOf 125 = .ok (.invokevirtual 101, 3) := dk_182 0 101 (dk_at dksX1_endOf_5 7 rfl rfl)
theorem dX1_endOf_128 : decode cX1_endOf 128 = .ok (.iload 7, 2) := dk_21 7 (dk_at dksX1_endOf_5 10 rfl rfl)
theorem dX1_endOf_130 : decode cX1_endOf 130 = .ok (.ireturn, 1) := dk_172 (dk_at dksX1_endOf_5 12 rfl rfl)
