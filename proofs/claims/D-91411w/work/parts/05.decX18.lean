set_option maxRecDepth 100000
def dkwX18_init_0 : List UInt8 := [42, 183, 0, 3, 42, 43, 181, 0, 9, 42, 28, 181, 0, 15, 177]
abbrev dktX18_init_0 : List UInt8 := dkwX18_init_0 ++ []
theorem dksX18_init_0 : cX18_init.data.toList.drop 0 = dktX18_init_0 := by decide +kernel
theorem dX18_init_0 : decode cX18_init 0 = .ok (.aload_n 0, 1) := dk_42 (dk_at dksX18_init_0 0 rfl rfl)
theorem dX18_init_1 : decode cX18_init 1 = .ok (.invokespecial 3, 3) := dk_183 0 3 (dk_at dksX18_init_0 1 rfl rfl)
theorem dX18_init_4 : decode cX18_init 4 = .ok (.aload_n 0, 1) := dk_42 (dk_at dksX18_init_0 4 rfl rfl)
theorem dX18_init_5 : decode cX18_init 5 = .ok (.aload_n 1, 1) := dk_43 (dk_at dksX18_init_0 5 rfl rfl)
theorem dX18_init_6 : decode cX18_init 6 = .ok (.putfield 9, 3) := dk_181 0 9 (dk_at dksX18_init_0 6 rfl rfl)
theorem dX18_init_9 : decode cX18_init 9 = .ok (.aload_n 0, 1) := dk_42 (dk_at dksX18_init_0 9 rfl rfl)
theorem dX18_init_10 : decode cX18_init 10 = .ok (.iload_n 2, 1) := dk_28 (dk_at dksX18_init_0 10 rfl rfl)
theorem dX18_init_11 : decode cX18_init 11 = .ok (.putfield 15, 3) := dk_181 0 15 (dk_at dksX18_init_0 11 rfl rfl)
theorem dX18_init_14 : decode cX18_init 14 = .ok (.return_, 1) := dk_177 (dk_at dksX18_init_0 14 rfl rfl)
def dkwX18_law_5 : List UInt8 := [182, 0, 82, 83, 42, 16, 59, 182, 0, 62, 132, 2, 1, 42, 182, 0, 22, 87, 167, 255, 137, 43, 176]
abbrev dktX18_law_5 : List UInt8 := dkwX18_law_5 ++ []
def dkwX18_law_4 : List UInt8 := [160, 0, 11, 42, 43, 182, 0, 75, 167, 0, 20, 42, 16, 61, 182, 0, 62, 43, 180, 0, 78, 21, 4, 42]
abbrev dktX18_law_4 : List UInt8 := dkwX18_law_4 ++ dktX18_law_5
def dkwX18_law_3 : List UInt8 := [180, 0, 19, 183, 0, 52, 191, 42, 89, 180, 0, 19, 45, 182, 0, 49, 96, 181, 0, 19, 21, 4, 2]
abbrev dktX18_law_3 : List UInt8 := dkwX18_law_3 ++ dktX18_law_4
def dkwX18_law_2 : List UInt8 := [182, 0, 43, 154, 0, 8, 42, 182, 0, 55, 191, 28, 16, 10, 160, 0, 16, 187, 0, 50, 89, 6, 42]
abbrev dktX18_law_2 : List UInt8 := dkwX18_law_2 ++ dktX18_law_3
def dkwX18_law_1 : List UInt8 := [162, 0, 114, 42, 182, 0, 40, 78, 45, 184, 0, 69, 54, 4, 21, 4, 2, 160, 0, 17, 45, 18, 73]
abbrev dktX18_law_1 : List UInt8 := dkwX18_law_1 ++ dktX18_law_2
def dkwX18_law_0 : List UInt8 := [187, 0, 66, 89, 183, 0, 68, 76, 3, 61, 42, 182, 0, 22, 87, 42, 180, 0, 19, 42, 180, 0, 15]
abbrev dktX18_law_0 : List UInt8 := dkwX18_law_0 ++ dktX18_law_1
theorem dksX18_law_0 : cX18_law.data.toList.drop 0 = dktX18_law_0 := by decide +kernel
theorem dksX18_law_1 : cX18_law.data.toList.drop 23 = dktX18_law_1 := dk_seg dksX18_law_0 23 rfl rfl
theorem dksX18_law_2 : cX18_law.data.toList.drop 46 = dktX18_law_2 := dk_seg dksX18_law_1 23 rfl rfl
theorem dksX18_law_3 : cX18_law.data.toList.drop 69 = dktX18_law_3 := dk_seg dksX18_law_2 23 rfl rfl
theorem dksX18_law_4 : cX18_law.data.toList.drop 92 = dktX18_law_4 := dk_seg dksX18_law_3 23 rfl rfl
theorem dksX18_law_5 : cX18_law.data.toList.drop 116 = dktX18_law_5 := dk_seg dksX18_law_4 24 rfl rfl
theorem dX18_law_0 : decode cX18_law 0 = .ok (.new 66, 3) := dk_187 0 66 (dk_at dksX18_law_0 0 rfl rfl)
theorem dX18_law_3 : decode cX18_law 3 = .ok (.dup, 1) := dk_89 (dk_at dksX18_law_0 3 rfl rfl)
theorem dX18_law_4 : decode cX18_law 4 = .ok (.invokespecial 68, 3) := dk_183 0 68 (dk_at dksX18_law_0 4 rfl rfl)
theorem dX18_law_7 : decode cX18_law 7 = .ok (.astore_n 1, 1) := dk_76 (dk_at dksX18_law_0 7 rfl rfl)
theorem dX18_law_8 : decode cX18_law 8 = .ok (.iconst 0, 1) := dk_3 (dk_at dksX18_law_0 8 rfl rfl)
theorem dX18_law_9 : decode cX18_law 9 = .ok (.istore_n 2, 1) := dk_61 (dk_at dksX18_law_0 9 rfl rfl)
theorem dX18_law_10 : decode cX18_law 10 = .ok (.aload_n 0, 1) := dk_42 (dk_at dksX18_law_0 10 rfl rfl)
theorem dX18_law_11 : decode cX18_law 11 = .ok (.invokevirtual 22, 3) := dk_182 0 22 (dk_at dksX18_law_0 11 rfl rfl)
theorem dX18_law_14 : decode cX18_law 14 = .ok (.pop, 1) := dk_87 (dk_at dksX18_law_0 14 rfl rfl)
theorem dX18_law_15 : decode cX18_law 15 = .ok (.aload_n 0, 1) := dk_42 (dk_at dksX18_law_0 15 rfl rfl)
theorem dX18_law_16 : decode cX18_law 16 = .ok (.getfield 19, 3) := dk_180 0 19 (dk_at dksX18_law_0 16 rfl rfl)
theorem dX18_law_19 : decode cX18_law 19 = .ok (.aload_n 0, 1) := dk_42 (dk_at dksX18_law_0 19 rfl rfl)
theorem dX18_law_20 : decode cX18_law 20 = .ok (.getfield 15, 3) := dk_180 0 15 (dk_at dksX18_law_0 20 rfl rfl)
theorem dX18_law_23 : decode cX18_law 23 = .ok (.if_icmp .ge 114, 3) := dk_162 0 114 (dk_at dksX18_law_1 0 rfl rfl)
theorem dX18_law_26 : decode cX18_law 26 = .ok (.aload_n 0, 1) := dk_42 (dk_at dksX18_law_1 3 rfl rfl)
theorem dX18_law_27 : decode cX18_law 27 = .ok (.invokevirtual 40, 3) := dk_182 0 40 (dk_at dksX18_law_1 4 rfl rfl)
theorem dX18_law_30 : decode cX18_law 30 = .ok (.astore_n 3, 1) := dk_78 (dk_at dksX18_law_1 7 rfl rfl)
theorem dX18_law_31 : decode cX18_law 31 = .ok (.aload_n 3, 1) := dk_45 (dk_at dksX18_law_1 8 rfl rfl)
theorem dX18_law_32 : decode cX18_law 32 = .ok (.invokestatic 69, 3) := dk_184 0 69 (dk_at dksX18_law_1 9 rfl rfl)
theorem dX18_law_35 : decode cX18_law 35 = .ok (.istore 4, 2) := dk_54 4 (dk_at dksX18_law_1 12 rfl rfl)
theorem dX18_law_37 : decode cX18_law 37 = .ok (.iload 4, 2) := dk_21 4 (dk_at dksX18_law_1 14 rfl rfl)
theorem dX18_law_39 : decode cX18_law 39 = .ok (.iconst (-1), 1) := dk_2 (dk_at dksX18_law_1 16 rfl rfl)
theorem dX18_law_40 : decode cX18_law 40 = .ok (.if_icmp .ne 17, 3) := dk_160 0 17 (dk_at dksX18_law_1 17 rfl rfl)
theorem dX18_law_43 : decode cX18_law 43 = .ok (.aload_n 3, 1) := dk_45 (dk_at dksX18_law_1 20 rfl rfl)
theorem dX18_law_44 : decode cX18_law 44 = .ok (.ldc 73, 2) := dk_18 73 (dk_at dksX18_law_1 21 rfl rfl)
theorem dX18_law_46 : decode cX18_law 46 = .ok (.invokevirtual 43, 3) := dk_182 0 43 (dk_at dksX18_law_2 0 rfl rfl)
theorem dX18_law_49 : decode cX18_law 49 = .ok (.ifCond .ne 8, 3) := dk_154 0 8 (dk_at dksX18_law_2 3 rfl rfl)
theorem dX18_law_52 : decode cX18_law 52 = .ok (.aload_n 0, 1) := dk_42 (dk_at dksX18_law_2 6 rfl rfl)
theorem dX18_law_53 : decode cX18_law 53 = .ok (.invokevirtual 55, 3) := dk_182 0 55 (dk_at dksX18_law_2 7 rfl rfl)
theorem dX18_law_56 : decode cX18_law 56 = .ok (.athrow, 1) := dk_191 (dk_at dksX18_law_2 10 rfl rfl)
theorem dX18_law_57 : decode cX18_law 57 = .ok (.iload_n 2, 1) := dk_28 (dk_at dksX18_law_2 11 rfl rfl)
theorem dX18_law_58 : decode cX18_law 58 = .ok (.bipush 10, 2) := dk_16 10 (dk_at dksX18_law_2 12 rfl rfl)
theorem dX18_law_60 : decode cX18_law 60 = .ok (.if_icmp .ne 16, 3) := dk_160 0 16 (dk_at dksX18_law_2 14 rfl rfl)
theorem dX18_law_63 : decode cX18_law 63 = .ok (.new 50, 3) := dk_187 0 50 (dk_at dksX18_law_2 17 rfl rfl)
theorem dX18_law_66 : decode cX18_law 66 = .ok (.dup, 1) := dk_89 (dk_at dksX18_law_2 20 rfl rfl)
theorem dX18_law_67 : decode cX18_law 67 = .ok (.iconst 3, 1) := dk_6 (dk_at dksX18_law_2 21 rfl rfl)
theorem dX18_law_68 : decode cX18_law 68 = .ok (.aload_n 0, 1) := dk_42 (dk_at dksX18_law_2 22 rfl rfl)
theorem dX18_law_69 : decode cX18_law 69 = .ok (.getfield 19, 3) := dk_180 0 19 (dk_at dksX18_law_3 0 rfl rfl)
theorem dX18_law_72 : decode cX18_law 72 = .ok (.invokespecial 52, 3) := dk_183 0 52 (dk_at dksX18_law_3 3 rfl rfl)
theorem dX18_law_75 : decode cX18_law 75 = .ok (.athrow, 1) := dk_191 (dk_at dksX18_law_3 6 rfl rfl)
theorem dX18_law_76 : decode cX18_law 76 = .ok (.aload_n 0, 1) := dk_42 (dk_at dksX18_law_3 7 rfl rfl)
theorem dX18_law_77 : decode cX18_law 77 = .ok (.dup, 1) := dk_89 (dk_at dksX18_law_3 8 rfl rfl)
theorem dX18_law_78 : decode cX18_law 78 = .ok (.getfield 19, 3) := dk_180 0 19 (dk_at dksX18_law_3 9 rfl rfl)
theorem dX18_law_81 : decode cX18_law 81 = .ok (.aload_n 3, 1) := dk_45 (dk_at dksX18_law_3 12 rfl rfl)
theorem dX18_law_82 : decode cX18_law 82 = .ok (.invokevirtual 49, 3) := dk_182 0 49 (dk_at dksX18_law_3 13 rfl rfl)
theorem dX18_law_85 : decode cX18_law 85 = .ok (.iadd, 1) := dk_96 (dk_at dksX18_law_3 16 rfl rfl)
theorem dX18_law_86 : decode cX18_law 86 = .ok (.putfield 19, 3) := dk_181 0 19 (dk_at dksX18_law_3 17 rfl rfl)
theorem dX18_law_89 : decode cX18_law 89 = .ok (.iload 4, 2) := dk_21 4 (dk_at dksX18_law_3 20 rfl rfl)
theorem dX18_law_91 : decode cX18_law 91 = .ok (.iconst (-1), 1) := dk_2 (dk_at dksX18_law_3 22 rfl rfl)
theorem dX18_law_92 : decode cX18_law 92 = .ok (.if_icmp .ne 11, 3) := dk_160 0 11 (dk_at dksX18_law_4 0 rfl rfl)
theorem dX18_law_95 : decode cX18_law 95 = .ok (.aload_n 0, 1) := dk_42 (dk_at dksX18_law_4 3 rfl rfl)
theorem dX18_law_96 : decode cX18_law 96 = .ok (.aload_n 1, 1) := dk_43 (dk_at dksX18_law_4 4 rfl rfl)
theorem dX18_law_97 : decode cX18_law 97 = .ok (.invokevirtual 75, 3) := dk_182 0 75 (dk_at dksX18_law_4 5 rfl rfl)
theorem dX18_law_100 : decode cX18_law 100 = .ok (.goto 20, 3) := dk_167 0 20 (dk_at dksX18_law_4 8 rfl rfl)
theorem dX18_law_103 : decode cX18_law 103 = .ok (.aload_n 0, 1) := dk_42 (dk_at dksX18_law_4 11 rfl rfl)
theorem dX18_law_104 : decode cX18_law 104 = .ok (.bipush 61, 2) := dk_16 61 (dk_at dksX18_law_4 12 rfl rfl)
theorem dX18_law_106 : decode cX18_law 106 = .ok (.invokevirtual 62, 3) := dk_182 0 62 (dk_at dksX18_law_4 14 rfl rfl)
theorem dX18_law_109 : decode cX18_law 109 = .ok (.aload_n 1, 1) := dk_43 (dk_at dksX18_law_4 17 rfl rfl)
theorem dX18_law_110 : decode cX18_law 110 = .ok (.getfield 78, 3) := dk_180 0 78 (dk_at dksX18_law_4 18 rfl rfl)
theorem dX18_law_113 : decode cX18_law 113 = .ok (.iload 4, 2) := dk_21 4 (dk_at dksX18_law_4 21 rfl rfl)
theorem dX18_law_115 : decode cX18_law 115 = .ok (.aload_n 0, 1) := dk_42 (dk_at dksX18_law_4 23 rfl rfl)
theorem dX18_law_116 : decode cX18_law 116 = .ok (.invokevirtual 82, 3) := dk_182 0 82 (dk_at dksX18_law_5 0 rfl rfl)
theorem dX18_law_119 : decode cX18_law 119 = .ok (.aastore, 1) := dk_83 (dk_at dksX18_law_5 3 rfl rfl)
theorem dX18_law_120 : decode cX18_law 120 = .ok (.aload_n 0, 1) := dk_42 (dk_at dksX18_law_5 4 rfl rfl)
theorem dX18_law_121 : decode cX18_law 121 = .ok (.bipush 59, 2) := dk_16 59 (dk_at dksX18_law_5 5 rfl rfl)
theorem dX18_law_123 : decode cX18_law 123 = .ok (.invokevirtual 62, 3) := dk_182 0 62 (dk_at dksX18_law_5 7 rfl rfl)
theorem dX18_law_126 : decode cX18_law 126 = .ok (.iinc 2 1, 3) := dk_132 2 1 (dk_at dksX18_law_5 10 rfl rfl)
theorem dX18_law_129 : decode cX18_law 129 = .ok (.aload_n 0, 1) := dk_42 (dk_at dksX18_law_5 13 rfl rfl)
theorem dX18_law_130 : decode cX18_law 130 = .ok (.invokevirtual 22, 3) := dk_182 0 22 (dk_at dksX18_law_5 14 rfl rfl)
theorem dX18_law_133 : decode cX18_law 133 = .ok (.pop, 1) := dk_87 (dk_at dksX18_law_5 17 rfl rfl)
theorem dX18_law_134 : decode cX18_law 134 = .ok (.goto (-119), 3) := dk_167 255 137 (dk_at dksX18_law_5 18 rfl rfl)
theorem dX18_law_137 : decode cX18_law 137 = .ok (.aload_n 1, 1) := dk_43 (dk_at dksX18_law_5 21 rfl rfl)
theorem dX18_law_138 : decode cX18_law 138 = .ok (.areturn, 1) := dk_176 (dk_at dksX18_law_5 22 rfl rfl)
def dkwX18_sign_2 : List UInt8 := [162, 0, 15, 42, 180, 0, 9, 42, 180, 0, 19, 51, 167, 0, 4, 3, 172]
abbrev dktX18_sign_2 : List UInt8 := dkwX18_sign_2 ++ []
def dkwX18_sign_1 : List UInt8 := [160, 0, 16, 42, 89, 180, 0, 19, 4, 96, 181, 0, 19, 167, 255, 221, 42, 180, 0, 19, 42, 180, 0, 15]
abbrev dktX18_sign_1 : List UInt8 := dkwX18_sign_1 ++ dktX18_sign_2
def dkwX18_sign_0 : List UInt8 := [42, 180, 0, 19, 42, 180, 0, 15, 162, 0, 30, 42, 180, 0, 9, 42, 180, 0, 19, 51, 16, 32]
abbrev dktX18_sign_0 : List UInt8 := dkwX18_sign_0 ++ dktX18_sign_1
theorem dksX18_sign_0 : cX18_sign.data.toList.drop 0 = dktX18_sign_0 := by decide +kernel
theorem dksX18_sign_1 : cX18_sign.data.toList.drop 22 = dktX18_sign_1 := dk_seg dksX18_sign_0 22 rfl rfl
theorem dksX18_sign_2 : cX18_sign.data.toList.drop 46 = dktX18_sign_2 := dk_seg dksX18_sign_1 24 rfl rfl
theorem dX18_sign_0 : decode cX18_sign 0 = .ok (.aload_n 0, 1) := dk_42 (dk_at dksX18_sign_0 0 rfl rfl)
theorem dX18_sign_1 : decode cX18_sign 1 = .ok (.getfield 19, 3) := dk_180 0 19 (dk_at dksX18_sign_0 1 rfl rfl)
theorem dX18_sign_4 : decode cX18_sign 4 = .ok (.aload_n 0, 1) := dk_42 (dk_at dksX18_sign_0 4 rfl rfl)
theorem dX18_sign_5 : decode cX18_sign 5 = .ok (.getfield 15, 3) := dk_180 0 15 (dk_at dksX18_sign_0 5 rfl rfl)
theorem dX18_sign_8 : decode cX18_sign 8 = .ok (.if_icmp .ge 30, 3) := dk_162 0 30 (dk_at dksX18_sign_0 8 rfl rfl)
theorem dX18_sign_11 : decode cX18_sign 11 = .ok (.aload_n 0, 1) := dk_42 (dk_at dksX18_sign_0 11 rfl rfl)
theorem dX18_sign_12 : decode cX18_sign 12 = .ok (.getfield 9, 3) := dk_180 0 9 (dk_at dksX18_sign_0 12 rfl rfl)
theorem dX18_sign_15 : decode cX18_sign 15 = .ok (.aload_n 0, 1) := dk_42 (dk_at dksX18_sign_0 15 rfl rfl)
theorem dX18_sign_16 : decode cX18_sign 16 = .ok (.getfield 19, 3) := dk_180 0 19 (dk_at dksX18_sign_0 16 rfl rfl)
theorem dX18_sign_19 : decode cX18_sign 19 = .ok (.baload, 1) := dk_51 (dk_at dksX18_sign_0 19 rfl rfl)
theorem dX18_sign_20 : decode cX18_sign 20 = .ok (.bipush 32, 2) := dk_16 32 (dk_at dksX18_sign_0 20 rfl rfl)
theorem dX18_sign_22 : decode cX18_sign 22 = .ok (.if_icmp .ne 16, 3) := dk_160 0 16 (dk_at dksX18_sign_1 0 rfl rfl)
theorem dX18_sign_25 : decode cX18_sign 25 = .ok (.aload_n 0, 1) := dk_42 (dk_at dksX18_sign_1 3 rfl rfl)
theorem dX18_sign_26 : decode cX18_sign 26 = .ok (.dup, 1) := dk_89 (dk_at dksX18_sign_1 4 rfl rfl)
theorem dX18_sign_27 : decode cX18_sign 27 = .ok (.getfield 19, 3) := dk_180 0 19 (dk_at dksX18_sign_1 5 rfl rfl)
theorem dX18_sign_30 : decode cX18_sign 30 = .ok (.iconst 1, 1) := dk_4 (dk_at dksX18_sign_1 8 rfl rfl)
theorem dX18_sign_31 : decode cX18_sign 31 = .ok (.iadd, 1) := dk_96 (dk_at dksX18_sign_1 9 rfl rfl)
theorem dX18_sign_32 : decode cX18_sign 32 = .ok (.putfield 19, 3) := dk_181 0 19 (dk_at dksX18_sign_1 10 rfl rfl)
theorem dX18_sign_35 : decode cX18_sign 35 = .ok (.goto (-35), 3) := dk_167 255 221 (dk_at dksX18_sign_1 13 rfl rfl)
theorem dX18_sign_38 : decode cX18_sign 38 = .ok (.aload_n 0, 1) := dk_42 (dk_at dksX18_sign_1 16 rfl rfl)
theorem dX18_sign_39 : decode cX18_sign 39 = .ok (.getfield 19, 3) := dk_180 0 19 (dk_at dksX18_sign_1 17 rfl rfl)
theorem dX18_sign_42 : decode cX18_sign 42 = .ok (.aload_n 0, 1) := dk_42 (dk_at dksX18_sign_1 20 rfl rfl)
theorem dX18_sign_43 : decode cX18_sign 43 = .ok (.getfield 15, 3) := dk_180 0 15 (dk_at dksX18_sign_1 21 rfl rfl)
theorem dX18_sign_46 : decode cX18_sign 46 = .ok (.if_icmp .ge 15, 3) := dk_162 0 15 (dk_at dksX18_sign_2 0 rfl rfl)
theorem dX18_sign_49 : decode cX18_sign 49 = .ok (.aload_n 0, 1) := dk_42 (dk_at dksX18_sign_2 3 rfl rfl)
theorem dX18_sign_50 : decode cX18_sign 50 = .ok (.getfield 9, 3) := dk_180 0 9 (dk_at dksX18_sign_2 4 rfl rfl)
theorem dX18_sign_53 : decode cX18_sign 53 = .ok (.aload_n 0, 1) := dk_42 (dk_at dksX18_sign_2 7 rfl rfl)
theorem dX18_sign_54 : decode cX18_sign 54 = .ok (.getfield 19, 3) := dk_180 0 19 (dk_at dksX18_sign_2 8 rfl rfl)
theorem dX18_sign_57 : decode cX18_sign 57 = .ok (.baload, 1) := dk_51 (dk_at dksX18_sign_2 11 rfl rfl)
theorem dX18_sign_58 : decode cX18_sign 58 = .ok (.goto 4, 3) := dk_167 0 4 (dk_at dksX18_sign_2 12 rfl rfl)
theorem dX18_sign_61 : decode cX18_sign 61 = .ok (.iconst 0, 1) := dk_3 (dk_at dksX18_sign_2 15 rfl rfl)
theorem dX18_sign_62 : decode cX18_sign 62 = .ok (.ireturn, 1) := dk_172 (dk_at dksX18_sign_2 16 rfl rfl)
def dkwX18_word_3 : List UInt8 := [132, 2, 1, 167, 255, 202, 43, 182, 0, 36, 176]
abbrev dktX18_word_3 : List UInt8 := dkwX18_word_3 ++ []
def dkwX18_word_2 : List UInt8 := [163, 0, 30, 43, 182, 0, 29, 16, 8, 162, 0, 21, 43, 42, 180, 0, 9, 28, 51, 146, 182, 0, 32, 87]
abbrev dktX18_word_2 : List UInt8 := dkwX18_word_2 ++ dktX18_word_3
def dkwX18_word_1 : List UInt8 := [162, 0, 52, 42, 180, 0, 9, 28, 51, 16, 97, 161, 0, 41, 42, 180, 0, 9, 28, 51, 16, 122]
abbrev dktX18_word_1 : List UInt8 := dkwX18_word_1 ++ dktX18_word_2
def dkwX18_word_0 : List UInt8 := [42, 182, 0, 22, 87, 187, 0, 26, 89, 183, 0, 28, 76, 42, 180, 0, 19, 61, 28, 42, 180, 0, 15]
abbrev dktX18_word_0 : List UInt8 := dkwX18_word_0 ++ dktX18_word_1
theorem dksX18_word_0 : cX18_word.data.toList.drop 0 = dktX18_word_0 := by decide +kernel
theorem dksX18_word_1 : cX18_word.data.toList.drop 23 = dktX18_word_1 := dk_seg dksX18_word_0 23 rfl rfl
theorem dksX18_word_2 : cX18_word.data.toList.drop 45 = dktX18_word_2 := dk_seg dksX18_word_1 22 rfl rfl
theorem dksX18_word_3 : cX18_word.data.toList.drop 69 = dktX18_word_3 := dk_seg dksX18_word_2 24 rfl rfl
theorem dX18_word_0 : decode cX18_word 0 = .ok (.aload_n 0, 1) := dk_42 (dk_at dksX18_word_0 0 rfl rfl)
theorem dX18_word_1 : decode cX18_word 1 = .ok (.invokevirtual 22, 3) := dk_182 0 22 (dk_at dksX18_word_0 1 rfl rfl)
theorem dX18_word_4 : decode cX18_word 4 = .ok (.pop, 1) := dk_87 (dk_at dksX18_word_0 4 rfl rfl)
theorem dX18_word_5 : decode cX18_word 5 = .ok (.new 26, 3) := dk_187 0 26 (dk_at dksX18_word_0 5 rfl rfl)
theorem dX18_word_8 : decode cX18_word 8 = .ok (.dup, 1) := dk_89 (dk_at dksX18_word_0 8 rfl rfl)
theorem dX18_word_9 : decode cX18_word 9 = .ok (.invokespecial 28, 3) := dk_183 0 28 (dk_at dksX18_word_0 9 rfl rfl)
theorem dX18_word_12 : decode cX18_word 12 = .ok (.astore_n 1, 1) := dk_76 (dk_at dksX18_word_0 12 rfl rfl)
theorem dX18_word_13 : decode cX18_word 13 = .ok (.aload_n 0, 1) := dk_42 (dk_at dksX18_word_0 13 rfl rfl)
theorem dX18_word_14 : decode cX18_word 14 = .ok (.getfield 19, 3) := dk_180 0 19 (dk_at dksX18_word_0 14 rfl rfl)
theorem dX18_word_17 : decode cX18_word 17 = .ok (.istore_n 2, 1) := dk_61 (dk_at dksX18_word_0 17 rfl rfl)
theorem dX18_word_18 : decode cX18_word 18 = .ok (.iload_n 2, 1) := dk_28 (dk_at dksX18_word_0 18 rfl rfl)
theorem dX18_word_19 : decode cX18_word 19 = .ok (.aload_n 0, 1) := dk_42 (dk_at dksX18_word_0 19 rfl rfl)
theorem dX18_word_20 : decode cX18_word 20 = .ok (.getfield 15, 3) := dk_180 0 15 (dk_at dksX18_word_0 20 rfl rfl)
theorem dX18_word_23 : decode cX18_word 23 = .ok (.if_icmp .ge 52, 3) := dk_162 0 52 (dk_at dksX18_word_1 0 rfl rfl)
theorem dX18_word_26 : decode cX18_word 26 = .ok (.aload_n 0, 1) := dk_42 (dk_at dksX18_word_1 3 rfl rfl)
theorem dX18_word_27 : decode cX18_word 27 = .ok (.getfield 9, 3) := dk_180 0 9 (dk_at dksX18_word_1 4 rfl rfl)
theorem dX18_word_30 : decode cX18_word 30 = .ok (.iload_n 2, 1) := dk_28 (dk_at dksX18_word_1 7 rfl rfl)
theorem dX18_word_31 : decode cX18_word 31 = .ok (.baload, 1) := dk_51 (dk_at dksX18_word_1 8 rfl rfl)
theorem dX18_word_32 : decode cX18_word 32 = .ok (.bipush 97, 2) := dk_16 97 (dk_at dksX18_word_1 9 rfl rfl)
theorem dX18_word_34 : decode cX18_word 34 = .ok (.if_icmp .lt 41, 3) := dk_161 0 41 (dk_at dksX18_word_1 11 rfl rfl)
theorem dX18_word_37 : decode cX18_word 37 = .ok (.aload_n 0, 1) := dk_42 (dk_at dksX18_word_1 14 rfl rfl)
theorem dX18_word_38 : decode cX18_word 38 = .ok (.getfield 9, 3) := dk_180 0 9 (dk_at dksX18_word_1 15 rfl rfl)
theorem dX18_word_41 : decode cX18_word 41 = .ok (.iload_n 2, 1) := dk_28 (dk_at dksX18_word_1 18 rfl rfl)
theorem dX18_word_42 : decode cX18_word 42 = .ok (.baload, 1) := dk_51 (dk_at dksX18_word_1 19 rfl rfl)
theorem dX18_word_43 : decode cX18_word 43 = .ok (.bipush 122, 2) := dk_16 122 (dk_at dksX18_word_1 20 rfl rfl)
theorem dX18_word_45 : decode cX18_word 45 = .ok (.if_icmp .gt 30, 3) := dk_163 0 30 (dk_at dksX18_word_2 0 rfl rfl)
theorem dX18_word_48 : decode cX18_word 48 = .ok (.aload_n 1, 1) := dk_43 (dk_at dksX18_word_2 3 rfl rfl)
theorem dX18_word_49 : decode cX18_word 49 = .ok (.invokevirtual 29, 3) := dk_182 0 29 (dk_at dksX18_word_2 4 rfl rfl)
theorem dX18_word_52 : decode cX18_word 52 = .ok (.bipush 8, 2) := dk_16 8 (dk_at dksX18_word_2 7 rfl rfl)
theorem dX18_word_54 : decode cX18_word 54 = .ok (.if_icmp .ge 21, 3) := dk_162 0 21 (dk_at dksX18_word_2 9 rfl rfl)
theorem dX18_word_57 : decode cX18_word 57 = .ok (.aload_n 1, 1) := dk_43 (dk_at dksX18_word_2 12 rfl rfl)
theorem dX18_word_58 : decode cX18_word 58 = .ok (.aload_n 0, 1) := dk_42 (dk_at dksX18_word_2 13 rfl rfl)
theorem dX18_word_59 : decode cX18_word 59 = .ok (.getfield 9, 3) := dk_180 0 9 (dk_at dksX18_word_2 14 rfl rfl)
theorem dX18_word_62 : decode cX18_word 62 = .ok (.iload_n 2, 1) := dk_28 (dk_at dksX18_word_2 17 rfl rfl)
theorem dX18_word_63 : decode cX18_word 63 = .ok (.baload, 1) := dk_51 (dk_at dksX18_word_2 18 rfl rfl)
theorem dX18_word_64 : decode cX18_word 64 = .ok (.i2c, 1) := dk_146 (dk_at dksX18_word_2 19 rfl rfl)
theorem dX18_word_65 : decode cX18_word 65 = .ok (.invokevirtual 32, 3) := dk_182 0 32 (dk_at dksX18_word_2 20 rfl rfl)
theorem dX18_word_68 : decode cX18_word 68 = .ok (.pop, 1) := dk_87 (dk_at dksX18_word_2 23 rfl rfl)
theorem dX18_word_69 : decode cX18_word 69 = .ok (.iinc 2 1, 3) := dk_132 2 1 (dk_at dksX18_word_3 0 rfl rfl)
theorem dX18_word_72 : decode cX18_word 72 = .ok (.goto (-54), 3) := dk_167 255 202 (dk_at dksX18_word_3 3 rfl rfl)
theorem dX18_word_75 : decode cX18_word 75 = .ok (.aload_n 1, 1) := dk_43 (dk_at dksX18_word_3 6 rfl rfl)
theorem dX18_word_76 : decode cX18_word 76 = .ok (.invokevirtual 36, 3) := dk_182 0 36 (dk_at dksX18_word_3 7 rfl rfl)
theorem dX18_word_79 : decode cX18_word 79 = .ok (.areturn, 1) := dk_176 (dk_at dksX18_word_3 10 rfl rfl)
def dkwX18_nameOf_8 : List UInt8 := [3, 172, 4, 172, 5, 172, 6, 172, 7, 172, 8, 172, 16, 6, 172, 16, 7, 172, 2, 172]
abbrev dktX18_nameOf_8 : List UInt8 := dkwX18_nameOf_8 ++ []
def dkwX18_nameOf_7 : List UInt8 := [170, 0, 0, 0, 0, 0, 0, 66, 0, 0, 0, 0, 0, 0, 0, 7, 0, 0, 0, 48, 0, 0, 0, 50, 0, 0, 0, 52, 0, 0, 0, 54, 0, 0, 0, 56, 0, 0, 0, 58, 0, 0, 0, 60, 0, 0, 0, 63]
abbrev dktX18_nameOf_7 : List UInt8 := dkwX18_nameOf_7 ++ dktX18_nameOf_8
def dkwX18_nameOf_6 : List UInt8 := [61, 167, 0, 15, 43, 18, 115, 182, 0, 43, 153, 0, 6, 16, 7, 61, 28]
abbrev dktX18_nameOf_6 : List UInt8 := dkwX18_nameOf_6 ++ dktX18_nameOf_7
def dkwX18_nameOf_5 : List UInt8 := [18, 111, 182, 0, 43, 153, 0, 35, 8, 61, 167, 0, 30, 43, 18, 113, 182, 0, 43, 153, 0, 21, 16, 6]
abbrev dktX18_nameOf_5 : List UInt8 := dkwX18_nameOf_5 ++ dktX18_nameOf_6
def dkwX18_nameOf_4 : List UInt8 := [153, 0, 63, 6, 61, 167, 0, 58, 43, 18, 109, 182, 0, 43, 153, 0, 49, 7, 61, 167, 0, 44, 43]
abbrev dktX18_nameOf_4 : List UInt8 := dkwX18_nameOf_4 ++ dktX18_nameOf_5
def dkwX18_nameOf_3 : List UInt8 := [61, 167, 0, 86, 43, 18, 105, 182, 0, 43, 153, 0, 77, 5, 61, 167, 0, 72, 43, 18, 107, 182, 0, 43]
abbrev dktX18_nameOf_3 : List UInt8 := dkwX18_nameOf_3 ++ dktX18_nameOf_4
def dkwX18_nameOf_2 : List UInt8 := [43, 18, 101, 182, 0, 43, 153, 0, 105, 3, 61, 167, 0, 100, 43, 18, 103, 182, 0, 43, 153, 0, 91, 4]
abbrev dktX18_nameOf_2 : List UInt8 := dkwX18_nameOf_2 ++ dktX18_nameOf_3
def dkwX18_nameOf_1 : List UInt8 := [171, 0, 0, 0, 0, 0, 0, 187, 0, 0, 0, 8, 174, 221, 93, 161, 0, 0, 0, 160, 0, 1, 186, 139, 0, 0, 0, 118, 0, 47, 245, 186, 0, 0, 0, 132, 0, 55, 145, 40, 0, 0, 0, 104, 6, 95, 177, 73, 0, 0, 0, 76, 6, 133, 79, 223, 0, 0, 0, 90, 6, 137, 176, 74, 0, 0, 0, 175, 6, 179, 10, 201, 0, 0, 0, 146]
abbrev dktX18_nameOf_1 : List UInt8 := dkwX18_nameOf_1 ++ dktX18_nameOf_2
def dkwX18_nameOf_0 : List UInt8 := [42, 76, 2, 61, 43, 182, 0, 98]
abbrev dktX18_nameOf_0 : List UInt8 := dkwX18_nameOf_0 ++ dktX18_nameOf_1
theorem dksX18_nameOf_0 : cX18_nameOf.data.toList.drop 0 = dktX18_nameOf_0 := by decide +kernel
theorem dksX18_nameOf_1 : cX18_nameOf.data.toList.drop 8 = dktX18_nameOf_1 := dk_seg dksX18_nameOf_0 8 rfl rfl
theorem dksX18_nameOf_2 : cX18_nameOf.data.toList.drop 84 = dktX18_nameOf_2 := dk_seg dksX18_nameOf_1 76 rfl rfl
theorem dksX18_nameOf_3 : cX18_nameOf.data.toList.drop 108 = dktX18_nameOf_3 := dk_seg dksX18_nameOf_2 24 rfl rfl
theorem dksX18_nameOf_4 : cX18_nameOf.data.toList.drop 132 = dktX18_nameOf_4 := dk_seg dksX18_nameOf_3 24 rfl rfl
theorem dksX18_nameOf_5 : cX18_nameOf.data.toList.drop 155 = dktX18_nameOf_5 := dk_seg dksX18_nameOf_4 23 rfl rfl
theorem dksX18_nameOf_6 : cX18_nameOf.data.toList.drop 179 = dktX18_nameOf_6 := dk_seg dksX18_nameOf_5 24 rfl rfl
theorem dksX18_nameOf_7 : cX18_nameOf.data.toList.drop 196 = dktX18_nameOf_7 := dk_seg dksX18_nameOf_6 17 rfl rfl
theorem dksX18_nameOf_8 : cX18_nameOf.data.toList.drop 244 = dktX18_nameOf_8 := dk_seg dksX18_nameOf_7 48 rfl rfl
theorem dX18_nameOf_0 : decode cX18_nameOf 0 = .ok (.aload_n 0, 1) := dk_42 (dk_at dksX18_nameOf_0 0 rfl rfl)
theorem dX18_nameOf_1 : decode cX18_nameOf 1 = .ok (.astore_n 1, 1) := dk_76 (dk_at dksX18_nameOf_0 1 rfl rfl)
theorem dX18_nameOf_2 : decode cX18_nameOf 2 = .ok (.iconst (-1), 1) := dk_2 (dk_at dksX18_nameOf_0 2 rfl rfl)
theorem dX18_nameOf_3 : decode cX18_nameOf 3 = .ok (.istore_n 2, 1) := dk_61 (dk_at dksX18_nameOf_0 3 rfl rfl)
theorem dX18_nameOf_4 : decode cX18_nameOf 4 = .ok (.aload_n 1, 1) := dk_43 (dk_at dksX18_nameOf_0 4 rfl rfl)
theorem dX18_nameOf_5 : decode cX18_nameOf 5 = .ok (.invokevirtual 98, 3) := dk_182 0 98 (dk_at dksX18_nameOf_0 5 rfl rfl)
theorem dX18_nameOf_8 : decode cX18_nameOf 8 = .ok (.lookupswitch 187 #[(-1361224287, 160), (113291, 118), (3143098, 132), (3641640, 104), (106934601, 76), (109400031, 90), (109686858, 175), (112397001, 146)], 76) := by decide +kernel
theorem dX18_nameOf_84 : decode cX18_nameOf 84 = .ok (.aload_n 1, 1) := dk_43 (dk_at dksX18_nameOf_2 0 rfl rfl)
theorem dX18_nameOf_85 : decode cX18_nameOf 85 = .ok (.ldc 101, 2) := dk_18 101 (dk_at dksX18_nameOf_2 1 rfl rfl)
theorem dX18_nameOf_87 : decode cX18_nameOf 87 = .ok (.invokevirtual 43, 3) := dk_182 0 43 (dk_at dksX18_nameOf_2 3 rfl rfl)
theorem dX18_nameOf_90 : decode cX18_nameOf 90 = .ok (.ifCond .eq 105, 3) := dk_153 0 105 (dk_at dksX18_nameOf_2 6 rfl rfl)
theorem dX18_nameOf_93 : decode cX18_nameOf 93 = .ok (.iconst 0, 1) := dk_3 (dk_at dksX18_nameOf_2 9 rfl rfl)
theorem dX18_nameOf_94 : decode cX18_nameOf 94 = .ok (.istore_n 2, 1) := dk_61 (dk_at dksX18_nameOf_2 10 rfl rfl)
theorem dX18_nameOf_95 : decode cX18_nameOf 95 = .ok (.goto 100, 3) := dk_167 0 100 (dk_at dksX18_nameOf_2 11 rfl rfl)
theorem dX18_nameOf_98 : decode cX18_nameOf 98 = .ok (.aload_n 1, 1) := dk_43 (dk_at dksX18_nameOf_2 14 rfl rfl)
theorem dX18_nameOf_99 : decode cX18_nameOf 99 = .ok (.ldc 103, 2) := dk_18 103 (dk_at dksX18_nameOf_2 15 rfl rfl)
theorem dX18_nameOf_101 : decode cX18_nameOf 101 = .ok (.invokevirtual 43, 3) := dk_182 0 43 (dk_at dksX18_nameOf_2 17 rfl rfl)
theorem dX18_nameOf_104 : decode cX18_nameOf 104 = .ok (.ifCond .eq 91, 3) := dk_153 0 91 (dk_at dksX18_nameOf_2 20 rfl rfl)
theorem dX18_nameOf_107 : decode cX18_nameOf 107 = .ok (.iconst 1, 1) := dk_4 (dk_at dksX18_nameOf_2 23 rfl rfl)
theorem dX18_nameOf_108 : decode cX18_nameOf 108 = .ok (.istore_n 2, 1) := dk_61 (dk_at dksX18_nameOf_3 0 rfl rfl)
theorem dX18_nameOf_109 : decode cX18_nameOf 109 = .ok (.goto 86, 3) := dk_167 0 86 (dk_at dksX18_nameOf_3 1 rfl rfl)
theorem dX18_nameOf_112 : decode cX18_nameOf 112 = .ok (.aload_n 1, 1) := dk_43 (dk_at dksX18_nameOf_3 4 rfl rfl)
theorem dX18_nameOf_113 : decode cX18_nameOf 113 = .ok (.ldc 105, 2) := dk_18 105 (dk_at dksX18_nameOf_3 5 rfl rfl)
theorem dX18_nameOf_115 : decode cX18_nameOf 115 = .ok (.invokevirtual 43, 3) := dk_182 0 43 (dk_at dksX18_nameOf_3 7 rfl rfl)
theorem dX18_nameOf_118 : decode cX18_nameOf 118 = .ok (.ifCond .eq 77, 3) := dk_153 0 77 (dk_at dksX18_nameOf_3 10 rfl rfl)
theorem dX18_nameOf_121 : decode cX18_nameOf 121 = .ok (.iconst 2, 1) := dk_5 (dk_at dksX18_nameOf_3 13 rfl rfl)
theorem dX18_nameOf_122 : decode cX18_nameOf 122 = .ok (.istore_n 2, 1) := dk_61 (dk_at dksX18_nameOf_3 14 rfl rfl)
theorem dX18_nameOf_123 : decode cX18_nameOf 123 = .ok (.goto 72, 3) := dk_167 0 72 (dk_at dksX18_nameOf_3 15 rfl rfl)
theorem dX18_nameOf_126 : decode cX18_nameOf 126 = .ok (.aload_n 1, 1) := dk_43 (dk_at dksX18_nameOf_3 18 rfl rfl)
theorem dX18_nameOf_127 : decode cX18_nameOf 127 = .ok (.ldc 107, 2) := dk_18 107 (dk_at dksX18_nameOf_3 19 rfl rfl)
theorem dX18_nameOf_129 : decode cX18_nameOf 129 = .ok (.invokevirtual 43, 3) := dk_182 0 43 (dk_at dksX18_nameOf_3 21 rfl rfl)
theorem dX18_nameOf_132 : decode cX18_nameOf 132 = .ok (.ifCond .eq 63, 3) := dk_153 0 63 (dk_at dksX18_nameOf_4 0 rfl rfl)
theorem dX18_nameOf_135 : decode cX18_nameOf 135 = .ok (.iconst 3, 1) := dk_6 (dk_at dksX18_nameOf_4 3 rfl rfl)
theorem dX18_nameOf_136 : decode cX18_nameOf 136 = .ok (.istore_n 2, 1) := dk_61 (dk_at dksX18_nameOf_4 4 rfl rfl)
theorem dX18_nameOf_137 : decode cX18_nameOf 137 = .ok (.goto 58, 3) := dk_167 0 58 (dk_at dksX18_nameOf_4 5 rfl rfl)
theorem dX18_nameOf_140 : decode cX18_nameOf 140 = .ok (.aload_n 1, 1) := dk_43 (dk_at dksX18_nameOf_4 8 rfl rfl)
theorem dX18_nameOf_141 : decode cX18_nameOf 141 = .ok (.ldc 109, 2) := dk_18 109 (dk_at dksX18_nameOf_4 9 rfl rfl)
theorem dX18_nameOf_143 : decode cX18_nameOf 143 = .ok (.invokevirtual 43, 3) := dk_182 0 43 (dk_at dksX18_nameOf_4 11 rfl rfl)
theorem dX18_nameOf_146 : decode cX18_nameOf 146 = .ok (.ifCond .eq 49, 3) := dk_153 0 49 (dk_at dksX18_nameOf_4 14 rfl rfl)
theorem dX18_nameOf_149 : decode cX18_nameOf 149 = .ok (.iconst 4, 1) := dk_7 (dk_at dksX18_nameOf_4 17 rfl rfl)
theorem dX18_nameOf_150 : decode cX18_nameOf 150 = .ok (.istore_n 2, 1) := dk_61 (dk_at dksX18_nameOf_4 18 rfl rfl)
theorem dX18_nameOf_151 : decode cX18_nameOf 151 = .ok (.goto 44, 3) := dk_167 0 44 (dk_at dksX18_nameOf_4 19 rfl rfl)
theorem dX18_nameOf_154 : decode cX18_nameOf 154 = .ok (.aload_n 1, 1) := dk_43 (dk_at dksX18_nameOf_4 22 rfl rfl)
theorem dX18_nameOf_155 : decode cX18_nameOf 155 = .ok (.ldc 111, 2) := dk_18 111 (dk_at dksX18_nameOf_5 0 rfl rfl)
theorem dX18_nameOf_157 : decode cX18_nameOf 157 = .ok (.invokevirtual 43, 3) := dk_182 0 43 (dk_at dksX18_nameOf_5 2 rfl rfl)
theorem dX18_nameOf_160 : decode cX18_nameOf 160 = .ok (.ifCond .eq 35, 3) := dk_153 0 35 (dk_at dksX18_nameOf_5 5 rfl rfl)
theorem dX18_nameOf_163 : decode cX18_nameOf 163 = .ok (.iconst 5, 1) := dk_8 (dk_at dksX18_nameOf_5 8 rfl rfl)
theorem dX18_nameOf_164 : decode cX18_nameOf 164 = .ok (.istore_n 2, 1) := dk_61 (dk_at dksX18_nameOf_5 9 rfl rfl)
theorem dX18_nameOf_165 : decode cX18_nameOf 165 = .ok (.goto 30, 3) := dk_167 0 30 (dk_at dksX18_nameOf_5 10 rfl rfl)
theorem dX18_nameOf_168 : decode cX18_nameOf 168 = .ok (.aload_n 1, 1) := dk_43 (dk_at dksX18_nameOf_5 13 rfl rfl)
theorem dX18_nameOf_169 : decode cX18_nameOf 169 = .ok (.ldc 113, 2) := dk_18 113 (dk_at dksX18_nameOf_5 14 rfl rfl)
theorem dX18_nameOf_171 : decode cX18_nameOf 171 = .ok (.invokevirtual 43, 3) := dk_182 0 43 (dk_at dksX18_nameOf_5 16 rfl rfl)
theorem dX18_nameOf_174 : decode cX18_nameOf 174 = .ok (.ifCond .eq 21, 3) := dk_153 0 21 (dk_at dksX18_nameOf_5 19 rfl rfl)
theorem dX18_nameOf_177 : decode cX18_nameOf 177 = .ok (.bipush 6, 2) := dk_16 6 (dk_at dksX18_nameOf_5 22 rfl rfl)
theorem dX18_nameOf_179 : decode cX18_nameOf 179 = .ok (.istore_n 2, 1) := dk_61 (dk_at dksX18_nameOf_6 0 rfl rfl)
theorem dX18_nameOf_180 : decode cX18_nameOf 180 = .ok (.goto 15, 3) := dk_167 0 15 (dk_at dksX18_nameOf_6 1 rfl rfl)
theorem dX18_nameOf_183 : decode cX18_nameOf 183 = .ok (.aload_n 1, 1) := dk_43 (dk_at dksX18_nameOf_6 4 rfl rfl)
theorem dX18_nameOf_184 : decode cX18_nameOf 184 = .ok (.ldc 115, 2) := dk_18 115 (dk_at dksX18_nameOf_6 5 rfl rfl)
theorem dX18_nameOf_186 : decode cX18_nameOf 186 = .ok (.invokevirtual 43, 3) := dk_182 0 43 (dk_at dksX18_nameOf_6 7 rfl rfl)
theorem dX18_nameOf_189 : decode cX18_nameOf 189 = .ok (.ifCond .eq 6, 3) := dk_153 0 6 (dk_at dksX18_nameOf_6 10 rfl rfl)
theorem dX18_nameOf_192 : decode cX18_nameOf 192 = .ok (.bipush 7, 2) := dk_16 7 (dk_at dksX18_nameOf_6 13 rfl rfl)
theorem dX18_nameOf_194 : decode cX18_nameOf 194 = .ok (.istore_n 2, 1) := dk_61 (dk_at dksX18_nameOf_6 15 rfl rfl)
theorem dX18_nameOf_195 : decode cX18_nameOf 195 = .ok (.iload_n 2, 1) := dk_28 (dk_at dksX18_nameOf_6 16 rfl rfl)
theorem dX18_nameOf_196 : decode cX18_nameOf 196 = .ok (.tableswitch 66 0 7 #[48, 50, 52, 54, 56, 58, 60, 63], 48) := by decide +kernel
theorem dX18_nameOf_244 : decode cX18_nameOf 244 = .ok (.iconst 0, 1) := dk_3 (dk_at dksX18_nameOf_8 0 rfl rfl)
theorem dX18_nameOf_245 : decode cX18_nameOf 245 = .ok (.ireturn, 1) := dk_172 (dk_at dksX18_nameOf_8 1 rfl rfl)
theorem dX18_nameOf_246 : decode cX18_nameOf 246 = .ok (.iconst 1, 1) := dk_4 (dk_at dksX18_nameOf_8 2 rfl rfl)
theorem dX18_nameOf_247 : decode cX18_nameOf 247 = .ok (.ireturn, 1) := dk_172 (dk_at dksX18_nameOf_8 3 rfl rfl)
theorem dX18_nameOf_248 : decode cX18_nameOf 248 = .ok (.iconst 2, 1) := dk_5 (dk_at dksX18_nameOf_8 4 rfl rfl)
theorem dX18_nameOf_249 : decode cX18_nameOf 249 = .ok (.ireturn, 1) := dk_172 (dk_at dksX18_nameOf_8 5 rfl rfl)
theorem dX18_nameOf_250 : decode cX18_nameOf 250 = .ok (.iconst 3, 1) := dk_6 (dk_at dksX18_nameOf_8 6 rfl rfl)
theorem dX18_nameOf_251 : decode cX18_nameOf 251 = .ok (.ireturn, 1) := dk_172 (dk_at dksX18_nameOf_8 7 rfl rfl)
theorem dX18_nameOf_252 : decode cX18_nameOf 252 = .ok (.iconst 4, 1) := dk_7 (dk_at dksX18_nameOf_8 8 rfl rfl)
theorem dX18_nameOf_253 : decode cX18_nameOf 253 = .ok (.ireturn, 1) := dk_172 (dk_at dksX18_nameOf_8 9 rfl rfl)
theorem dX18_nameOf_254 : decode cX18_nameOf 254 = .ok (.iconst 5, 1) := dk_8 (dk_at dksX18_nameOf_8 10 rfl rfl)
theorem dX18_nameOf_255 : decode cX18_nameOf 255 = .ok (.ireturn, 1) := dk_172 (dk_at dksX18_nameOf_8 11 rfl rfl)
theorem dX18_nameOf_256 : decode cX18_nameOf 256 = .ok (.bipush 6, 2) := dk_16 6 (dk_at dksX18_nameOf_8 12 rfl rfl)
theorem dX18_nameOf_258 : decode cX18_nameOf 258 = .ok (.ireturn, 1) := dk_172 (dk_at dksX18_nameOf_8 14 rfl rfl)
theorem dX18_nameOf_259 : decode cX18_nameOf 259 = .ok (.bipush 7, 2) := dk_16 7 (dk_at dksX18_nameOf_8 15 rfl rfl)
theorem dX18_nameOf_261 : decode cX18_nameOf 261 = .ok (.ireturn, 1) := dk_172 (dk_at dksX18_nameOf_8 17 rfl rfl)
theorem dX18_nameOf_262 : decode cX18_nameOf 262 = .ok (.iconst (-1), 1) := dk_2 (dk_at dksX18_nameOf_8 18 rfl rfl)
theorem dX18_nameOf_263 : decode cX18_nameOf 263 = .ok (.ireturn, 1) := dk_172 (dk_at dksX18_nameOf_8 19 rfl rfl)
def dkwX18_wrong_0 : List UInt8 := [187, 0, 50, 89, 4, 42, 180, 0, 19, 183, 0, 52, 176]
abbrev dktX18_wrong_0 : List UInt8 := dkwX18_wrong_0 ++ []
theorem dksX18_wrong_0 : cX18_wrong.data.toList.drop 0 = dktX18_wrong_0 := by decide +kernel
theorem dX18_wrong_0 : decode cX18_wrong 0 = .ok (.new 50, 3) := dk_187 0 50 (dk_at dksX18_wrong_0 0 rfl rfl)
theorem dX18_wrong_3 : decode cX18_wrong 3 = .ok (.dup, 1) := dk_89 (dk_at dksX18_wrong_0 3 rfl rfl)
theorem dX18_wrong_4 : decode cX18_wrong 4 = .ok (.iconst 1, 1) := dk_4 (dk_at dksX18_wrong_0 4 rfl rfl)
theorem dX18_wrong_5 : decode cX18_wrong 5 = .ok (.aload_n 0, 1) := dk_42 (dk_at dksX18_wrong_0 5 rfl rfl)
theorem dX18_wrong_6 : decode cX18_wrong 6 = .ok (.getfield 19, 3) := dk_180 0 19 (dk_at dksX18_wrong_0 6 rfl rfl)
theorem dX18_wrong_9 : decode cX18_wrong 9 = .ok (.invokespecial 52, 3) := dk_183 0 52 (dk_at dksX18_wrong_0 9 rfl rfl)
theorem dX18_wrong_12 : decode cX18_wrong 12 = .ok (.areturn, 1) := dk_176 (dk_at dksX18_wrong_0 12 rfl rfl)
def dkwX18_undo_1 : List UInt8 := [154, 0, 8, 42, 182, 0, 55, 191, 177]
abbrev dktX18_undo_1 : List UInt8 := dkwX18_undo_1 ++ []
def dkwX18_undo_0 : List UInt8 := [43, 42, 18, 86, 182, 0, 88, 181, 0, 92, 43, 180, 0, 92, 154, 0, 17, 42, 18, 96, 182, 0, 88]
abbrev dktX18_undo_0 : List UInt8 := dkwX18_undo_0 ++ dktX18_undo_1
theorem dksX18_undo_0 : cX18_undo.data.toList.drop 0 = dktX18_undo_0 := by decide +kernel
theorem dksX18_undo_1 : cX18_undo.data.toList.drop 23 = dktX18_undo_1 := dk_seg dksX18_undo_0 23 rfl rfl
theorem dX18_undo_0 : decode cX18_undo 0 = .ok (.aload_n 1, 1) := dk_43 (dk_at dksX18_undo_0 0 rfl rfl)
theorem dX18_undo_1 : decode cX18_undo 1 = .ok (.aload_n 0, 1) := dk_42 (dk_at dksX18_undo_0 1 rfl rfl)
theorem dX18_undo_2 : decode cX18_undo 2 = .ok (.ldc 86, 2) := dk_18 86 (dk_at dksX18_undo_0 2 rfl rfl)
theorem dX18_undo_4 : decode cX18_undo 4 = .ok (.invokevirtual 88, 3) := dk_182 0 88 (dk_at dksX18_undo_0 4 rfl rfl)
theorem dX18_undo_7 : decode cX18_undo 7 = .ok (.putfield 92, 3) := dk_181 0 92 (dk_at dksX18_undo_0 7 rfl rfl)
theorem dX18_undo_10 : decode cX18_undo 10 = .ok (.aload_n 1, 1) := dk_43 (dk_at dksX18_undo_0 10 rfl rfl)
theorem dX18_undo_11 : decode cX18_undo 11 = .ok (.getfield 92, 3) := dk_180 0 92 (dk_at dksX18_undo_0 11 rfl rfl)
theorem dX18_undo_14 : decode cX18_undo 14 = .ok (.ifCond .ne 17, 3) := dk_154 0 17 (dk_at dksX18_undo_0 14 rfl rfl)
theorem dX18_undo_17 : decode cX18_undo 17 = .ok (.aload_n 0, 1) := dk_42 (dk_at dksX18_undo_0 17 rfl rfl)
theorem dX18_undo_18 : decode cX18_undo 18 = .ok (.ldc 96, 2) := dk_18 96 (dk_at dksX18_undo_0 18 rfl rfl)
theorem dX18_undo_20 : decode cX18_undo 20 = .ok (.invokevirtual 88, 3) := dk_182 0 88 (dk_at dksX18_undo_0 20 rfl rfl)
theorem dX18_undo_23 : decode cX18_undo 23 = .ok (.ifCond .ne 8, 3) := dk_154 0 8 (dk_at dksX18_undo_1 0 rfl rfl)
theorem dX18_undo_26 : decode cX18_undo 26 = .ok (.aload_n 0, 1) := dk_42 (dk_at dksX18_undo_1 3 rfl rfl)
theorem dX18_undo_27 : decode cX18_undo 27 = .ok (.invokevirtual 55, 3) := dk_182 0 55 (dk_at dksX18_undo_1 4 rfl rfl)
theorem dX18_undo_30 : decode cX18_undo 30 = .ok (.athrow, 1) := dk_191 (dk_at dksX18_undo_1 7 rfl rfl)
theorem dX18_undo_31 : decode cX18_undo 31 = .ok (.return_, 1) := dk_177 (dk_at dksX18_undo_1 8 rfl rfl)
def dkwX18_takes_1 : List UInt8 := [181, 0, 19, 4, 172]
abbrev dktX18_takes_1 : List UInt8 := dkwX18_takes_1 ++ []
def dkwX18_takes_0 : List UInt8 := [42, 182, 0, 40, 43, 182, 0, 43, 154, 0, 5, 3, 172, 42, 89, 180, 0, 19, 43, 182, 0, 49, 96]
abbrev dktX18_takes_0 : List UInt8 := dkwX18_takes_0 ++ dktX18_takes_1
theorem dksX18_takes_0 : cX18_takes.data.toList.drop 0 = dktX18_takes_0 := by decide +kernel
theorem dksX18_takes_1 : cX18_takes.data.toList.drop 23 = dktX18_takes_1 := dk_seg dksX18_takes_0 23 rfl rfl
theorem dX18_takes_0 : decode cX18_takes 0 = .ok (.aload_n 0, 1) := dk_42 (dk_at dksX18_takes_0 0 rfl rfl)
theorem dX18_takes_1 : decode cX18_takes 1 = .ok (.invokevirtual 40, 3) := dk_182 0 40 (dk_at dksX18_takes_0 1 rfl rfl)
theorem dX18_takes_4 : decode cX18_takes 4 = .ok (.aload_n 1, 1) := dk_43 (dk_at dksX18_takes_0 4 rfl rfl)
theorem dX18_takes_5 : decode cX18_takes 5 = .ok (.invokevirtual 43, 3) := dk_182 0 43 (dk_at dksX18_takes_0 5 rfl rfl)
theorem dX18_takes_8 : decode cX18_takes 8 = .ok (.ifCond .ne 5, 3) := dk_154 0 5 (dk_at dksX18_takes_0 8 rfl rfl)
theorem dX18_takes_11 : decode cX18_takes 11 = .ok (.iconst 0, 1) := dk_3 (dk_at dksX18_takes_0 11 rfl rfl)
theorem dX18_takes_12 : decode cX18_takes 12 = .ok (.ireturn, 1) := dk_172 (dk_at dksX18_takes_0 12 rfl rfl)
theorem dX18_takes_13 : decode cX18_takes 13 = .ok (.aload_n 0, 1) := dk_42 (dk_at dksX18_takes_0 13 rfl rfl)
theorem dX18_takes_14 : decode cX18_takes 14 = .ok (.dup, 1) := dk_89 (dk_at dksX18_takes_0 14 rfl rfl)
theorem dX18_takes_15 : decode cX18_takes 15 = .ok (.getfield 19, 3) := dk_180 0 19 (dk_at dksX18_takes_0 15 rfl rfl)
theorem dX18_takes_18 : decode cX18_takes 18 = .ok (.aload_n 1, 1) := dk_43 (dk_at dksX18_takes_0 18 rfl rfl)
theorem dX18_takes_19 : decode cX18_takes 19 = .ok (.invokevirtual 49, 3) := dk_182 0 49 (dk_at dksX18_takes_0 19 rfl rfl)
theorem dX18_takes_22 : decode cX18_takes 22 = .ok (.iadd, 1) := dk_96 (dk_at dksX18_takes_0 22 rfl rfl)
theorem dX18_takes_23 : decode cX18_takes 23 = .ok (.putfield 19, 3) := dk_181 0 19 (dk_at dksX18_takes_1 0 rfl rfl)
theorem dX18_takes_26 : decode cX18_takes 26 = .ok (.iconst 1, 1) := dk_4 (dk_at dksX18_takes_1 3 rfl rfl)
theorem dX18_takes_27 : decode cX18_takes 27 = .ok (.ireturn, 1) := dk_172 (dk_at dksX18_takes_1 4 rfl rfl)
def dkwX18_need_0 : List UInt8 := [42, 182, 0, 22, 27, 159, 0, 8, 42, 182, 0, 55, 191, 42, 89, 180, 0, 19, 4, 96, 181, 0, 19, 177]
abbrev dktX18_need_0 : List UInt8 := dkwX18_need_0 ++ []
theorem dksX18_need_0 : cX18_need.data.toList.drop 0 = dktX18_need_0 := by decide +kernel
theorem dX18_need_0 : decode cX18_need 0 = .ok (.aload_n 0, 1) := dk_42 (dk_at dksX18_need_0 0 rfl rfl)
theorem dX18_need_1 : decode cX18_need 1 = .ok (.invokevirtual 22, 3) := dk_182 0 22 (dk_at dksX18_need_0 1 rfl rfl)
theorem dX18_need_4 : decode cX18_need 4 = .ok (.iload_n 1, 1) := dk_27 (dk_at dksX18_need_0 4 rfl rfl)
theorem dX18_need_5 : decode cX18_need 5 = .ok (.if_icmp .eq 8, 3) := dk_159 0 8 (dk_at dksX18_need_0 5 rfl rfl)
theorem dX18_need_8 : decode cX18_need 8 = .ok (.aload_n 0, 1) := dk_42 (dk_at dksX18_need_0 8 rfl rfl)
theorem dX18_need_9 : decode cX18_need 9 = .ok (.invokevirtual 55, 3) := dk_182 0 55 (dk_at dksX18_need_0 9 rfl rfl)
theorem dX18_need_12 : decode cX18_need 12 = .ok (.athrow, 1) := dk_191 (dk_at dksX18_need_0 12 rfl rfl)
theorem dX18_need_13 : decode cX18_need 13 = .ok (.aload_n 0, 1) := dk_42 (dk_at dksX18_need_0 13 rfl rfl)
theorem dX18_need_14 : decode cX18_need 14 = .ok (.dup, 1) := dk_89 (dk_at dksX18_need_0 14 rfl rfl)
theorem dX18_need_15 : decode cX18_need 15 = .ok (.getfield 19, 3) := dk_180 0 19 (dk_at dksX18_need_0 15 rfl rfl)
theorem dX18_need_18 : decode cX18_need 18 = .ok (.iconst 1, 1) := dk_4 (dk_at dksX18_need_0 18 rfl rfl)
theorem dX18_need_19 : decode cX18_need 19 = .ok (.iadd, 1) := dk_96 (dk_at dksX18_need_0 19 rfl rfl)
theorem dX18_need_20 : decode cX18_need 20 = .ok (.putfield 19, 3) := dk_181 0 19 (dk_at dksX18_need_0 20 rfl rfl)
theorem dX18_need_23 : decode cX18_need 23 = .ok (.return_, 1) := dk_177 (dk_at dksX18_need_0 23 rfl rfl)
def dkwX18_expr_2 : List UInt8 := [182, 0, 22, 61, 167, 255, 214, 43, 176]
abbrev dktX18_expr_2 : List UInt8 := dkwX18_expr_2 ++ []
def dkwX18_expr_1 : List UInt8 := [180, 0, 19, 4, 96, 181, 0, 19, 187, 0, 120, 89, 43, 28, 146, 42, 182, 0, 117, 183, 0, 122, 76, 42]
abbrev dktX18_expr_1 : List UInt8 := dkwX18_expr_1 ++ dktX18_expr_2
def dkwX18_expr_0 : List UInt8 := [42, 182, 0, 117, 76, 42, 182, 0, 22, 61, 28, 16, 43, 159, 0, 9, 28, 16, 45, 160, 0, 36, 42, 89]
abbrev dktX18_expr_0 : List UInt8 := dkwX18_expr_0 ++ dktX18_expr_1
theorem dksX18_expr_0 : cX18_expr.data.toList.drop 0 = dktX18_expr_0 := by decide +kernel
theorem dksX18_expr_1 : cX18_expr.data.toList.drop 24 = dktX18_expr_1 := dk_seg dksX18_expr_0 24 rfl rfl
theorem dksX18_expr_2 : cX18_expr.data.toList.drop 48 = dktX18_expr_2 := dk_seg dksX18_expr_1 24 rfl rfl
theorem dX18_expr_0 : decode cX18_expr 0 = .ok (.aload_n 0, 1) := dk_42 (dk_at dksX18_expr_0 0 rfl rfl)
theorem dX18_expr_1 : decode cX18_expr 1 = .ok (.invokevirtual 117, 3) := dk_182 0 117 (dk_at dksX18_expr_0 1 rfl rfl)
theorem dX18_expr_4 : decode cX18_expr 4 = .ok (.astore_n 1, 1) := dk_76 (dk_at dksX18_expr_0 4 rfl rfl)
theorem dX18_expr_5 : decode cX18_expr 5 = .ok (.aload_n 0, 1) := dk_42 (dk_at dksX18_expr_0 5 rfl rfl)
theorem dX18_expr_6 : decode cX18_expr 6 = .ok (.invokevirtual 22, 3) := dk_182 0 22 (dk_at dksX18_expr_0 6 rfl rfl)
theorem dX18_expr_9 : decode cX18_expr 9 = .ok (.istore_n 2, 1) := dk_61 (dk_at dksX18_expr_0 9 rfl rfl)
theorem dX18_expr_10 : decode cX18_expr 10 = .ok (.iload_n 2, 1) := dk_28 (dk_at dksX18_expr_0 10 rfl rfl)
theorem dX18_expr_11 : decode cX18_expr 11 = .ok (.bipush 43, 2) := dk_16 43 (dk_at dksX18_expr_0 11 rfl rfl)
theorem dX18_expr_13 : decode cX18_expr 13 = .ok (.if_icmp .eq 9, 3) := dk_159 0 9 (dk_at dksX18_expr_0 13 rfl rfl)
theorem dX18_expr_16 : decode cX18_expr 16 = .ok (.iload_n 2, 1) := dk_28 (dk_at dksX18_expr_0 16 rfl rfl)
theorem dX18_expr_17 : decode cX18_expr 17 = .ok (.bipush 45, 2) := dk_16 45 (dk_at dksX18_expr_0 17 rfl rfl)
theorem dX18_expr_19 : decode cX18_expr 19 = .ok (.if_icmp .ne 36, 3) := dk_160 0 36 (dk_at dksX18_expr_0 19 rfl rfl)
theorem dX18_expr_22 : decode cX18_expr 22 = .ok (.aload_n 0, 1) := dk_42 (dk_at dksX18_expr_0 22 rfl rfl)
theorem dX18_expr_23 : decode cX18_expr 23 = .ok (.dup, 1) := dk_89 (dk_at dksX18_expr_0 23 rfl rfl)
theorem dX18_expr_24 : decode cX18_expr 24 = .ok (.getfield 19, 3) := dk_180 0 19 (dk_at dksX18_expr_1 0 rfl rfl)
theorem dX18_expr_27 : decode cX18_expr 27 = .ok (.iconst 1, 1) := dk_4 (dk_at dksX18_expr_1 3 rfl rfl)
theorem dX18_expr_28 : decode cX18_expr 28 = .ok (.iadd, 1) := dk_96 (dk_at dksX18_expr_1 4 rfl rfl)
theorem dX18_expr_29 : decode cX18_expr 29 = .ok (.putfield 19, 3) := dk_181 0 19 (dk_at dksX18_expr_1 5 rfl rfl)
theorem dX18_expr_32 : decode cX18_expr 32 = .ok (.new 120, 3) := dk_187 0 120 (dk_at dksX18_expr_1 8 rfl rfl)
theorem dX18_expr_35 : decode cX18_expr 35 = .ok (.dup, 1) := dk_89 (dk_at dksX18_expr_1 11 rfl rfl)
theorem dX18_expr_36 : decode cX18_expr 36 = .ok (.aload_n 1, 1) := dk_43 (dk_at dksX18_expr_1 12 rfl rfl)
theorem dX18_expr_37 : decode cX18_expr 37 = .ok (.iload_n 2, 1) := dk_28 (dk_at dksX18_expr_1 13 rfl rfl)
theorem dX18_expr_38 : decode cX18_expr 38 = .ok (.i2c, 1) := dk_146 (dk_at dksX18_expr_1 14 rfl rfl)
theorem dX18_expr_39 : decode cX18_expr 39 = .ok (.aload_n 0, 1) := dk_42 (dk_at dksX18_expr_1 15 rfl rfl)
theorem dX18_expr_40 : decode cX18_expr 40 = .ok (.invokevirtual 117, 3) := dk_182 0 117 (dk_at dksX18_expr_1 16 rfl rfl)
theorem dX18_expr_43 : decode cX18_expr 43 = .ok (.invokespecial 122, 3) := dk_183 0 122 (dk_at dksX18_expr_1 19 rfl rfl)
theorem dX18_expr_46 : decode cX18_expr 46 = .ok (.astore_n 1, 1) := dk_76 (dk_at dksX18_expr_1 22 rfl rfl)
theorem dX18_expr_47 : decode cX18_expr 47 = .ok (.aload_n 0, 1) := dk_42 (dk_at dksX18_expr_1 23 rfl rfl)
theorem dX18_expr_48 : decode cX18_expr 48 = .ok (.invokevirtual 22, 3) := dk_182 0 22 (dk_at dksX18_expr_2 0 rfl rfl)
theorem dX18_expr_51 : decode cX18_expr 51 = .ok (.istore_n 2, 1) := dk_61 (dk_at dksX18_expr_2 3 rfl rfl)
theorem dX18_expr_52 : decode cX18_expr 52 = .ok (.goto (-42), 3) := dk_167 255 214 (dk_at dksX18_expr_2 4 rfl rfl)
theorem dX18_expr_55 : decode cX18_expr 55 = .ok (.aload_n 1, 1) := dk_43 (dk_at dksX18_expr_2 7 rfl rfl)
theorem dX18_expr_56 : decode cX18_expr 56 = .ok (.areturn, 1) := dk_176 (dk_at dksX18_expr_2 8 rfl rfl)
def dkwX18_term_2 : List UInt8 := [182, 0, 125, 183, 0, 122, 76, 42, 182, 0, 22, 61, 167, 255, 208, 43, 176]
abbrev dktX18_term_2 : List UInt8 := dkwX18_term_2 ++ []
def dkwX18_term_1 : List UInt8 := [16, 37, 160, 0, 36, 42, 89, 180, 0, 19, 4, 96, 181, 0, 19, 187, 0, 120, 89, 43, 28, 146, 42]
abbrev dktX18_term_1 : List UInt8 := dkwX18_term_1 ++ dktX18_term_2
def dkwX18_term_0 : List UInt8 := [42, 182, 0, 125, 76, 42, 182, 0, 22, 61, 28, 16, 42, 159, 0, 15, 28, 16, 47, 159, 0, 9, 28]
abbrev dktX18_term_0 : List UInt8 := dkwX18_term_0 ++ dktX18_term_1
theorem dksX18_term_0 : cX18_term.data.toList.drop 0 = dktX18_term_0 := by decide +kernel
theorem dksX18_term_1 : cX18_term.data.toList.drop 23 = dktX18_term_1 := dk_seg dksX18_term_0 23 rfl rfl
theorem dksX18_term_2 : cX18_term.data.toList.drop 46 = dktX18_term_2 := dk_seg dksX18_term_1 23 rfl rfl
theorem dX18_term_0 : decode cX18_term 0 = .ok (.aload_n 0, 1) := dk_42 (dk_at dksX18_term_0 0 rfl rfl)
theorem dX18_term_1 : decode cX18_term 1 = .ok (.invokevirtual 125, 3) := dk_182 0 125 (dk_at dksX18_term_0 1 rfl rfl)
theorem dX18_term_4 : decode cX18_term 4 = .ok (.astore_n 1, 1) := dk_76 (dk_at dksX18_term_0 4 rfl rfl)
theorem dX18_term_5 : decode cX18_term 5 = .ok (.aload_n 0, 1) := dk_42 (dk_at dksX18_term_0 5 rfl rfl)
theorem dX18_term_6 : decode cX18_term 6 = .ok (.invokevirtual 22, 3) := dk_182 0 22 (dk_at dksX18_term_0 6 rfl rfl)
theorem dX18_term_9 : decode cX18_term 9 = .ok (.istore_n 2, 1) := dk_61 (dk_at dksX18_term_0 9 rfl rfl)
theorem dX18_term_10 : decode cX18_term 10 = .ok (.iload_n 2, 1) := dk_28 (dk_at dksX18_term_0 10 rfl rfl)
theorem dX18_term_11 : decode cX18_term 11 = .ok (.bipush 42, 2) := dk_16 42 (dk_at dksX18_term_0 11 rfl rfl)
theorem dX18_term_13 : decode cX18_term 13 = .ok (.if_icmp .eq 15, 3) := dk_159 0 15 (dk_at dksX18_term_0 13 rfl rfl)
theorem dX18_term_16 : decode cX18_term 16 = .ok (.iload_n 2, 1) := dk_28 (dk_at dksX18_term_0 16 rfl rfl)
theorem dX18_term_17 : decode cX18_term 17 = .ok (.bipush 47, 2) := dk_16 47 (dk_at dksX18_term_0 17 rfl rfl)
theorem dX18_term_19 : decode cX18_term 19 = .ok (.if_icmp .eq 9, 3) := dk_159 0 9 (dk_at dksX18_term_0 19 rfl rfl)
theorem dX18_term_22 : decode cX18_term 22 = .ok (.iload_n 2, 1) := dk_28 (dk_at dksX18_term_0 22 rfl rfl)
theorem dX18_term_23 : decode cX18_term 23 = .ok (.bipush 37, 2) := dk_16 37 (dk_at dksX18_term_1 0 rfl rfl)
theorem dX18_term_25 : decode cX18_term 25 = .ok (.if_icmp .ne 36, 3) := dk_160 0 36 (dk_at dksX18_term_1 2 rfl rfl)
theorem dX18_term_28 : decode cX18_term 28 = .ok (.aload_n 0, 1) := dk_42 (dk_at dksX18_term_1 5 rfl rfl)
theorem dX18_term_29 : decode cX18_term 29 = .ok (.dup, 1) := dk_89 (dk_at dksX18_term_1 6 rfl rfl)
theorem dX18_term_30 : decode cX18_term 30 = .ok (.getfield 19, 3) := dk_180 0 19 (dk_at dksX18_term_1 7 rfl rfl)
theorem dX18_term_33 : decode cX18_term 33 = .ok (.iconst 1, 1) := dk_4 (dk_at dksX18_term_1 10 rfl rfl)
theorem dX18_term_34 : decode cX18_term 34 = .ok (.iadd, 1) := dk_96 (dk_at dksX18_term_1 11 rfl rfl)
theorem dX18_term_35 : decode cX18_term 35 = .ok (.putfield 19, 3) := dk_181 0 19 (dk_at dksX18_term_1 12 rfl rfl)
theorem dX18_term_38 : decode cX18_term 38 = .ok (.new 120, 3) := dk_187 0 120 (dk_at dksX18_term_1 15 rfl rfl)
theorem dX18_term_41 : decode cX18_term 41 = .ok (.dup, 1) := dk_89 (dk_at dksX18_term_1 18 rfl rfl)
theorem dX18_term_42 : decode cX18_term 42 = .ok (.aload_n 1, 1) := dk_43 (dk_at dksX18_term_1 19 rfl rfl)
theorem dX18_term_43 : decode cX18_term 43 = .ok (.iload_n 2, 1) := dk_28 (dk_at dksX18_term_1 20 rfl rfl)
theorem dX18_term_44 : decode cX18_term 44 = .ok (.i2c, 1) := dk_146 (dk_at dksX18_term_1 21 rfl rfl)
theorem dX18_term_45 : decode cX18_term 45 = .ok (.aload_n 0, 1) := dk_42 (dk_at dksX18_term_1 22 rfl rfl)
theorem dX18_term_46 : decode cX18_term 46 = .ok (.invokevirtual 125, 3) := dk_182 0 125 (dk_at dksX18_term_2 0 rfl rfl)
theorem dX18_term_49 : decode cX18_term 49 = .ok (.invokespecial 122, 3) := dk_183 0 122 (dk_at dksX18_term_2 3 rfl rfl)
theorem dX18_term_52 : decode cX18_term 52 = .ok (.astore_n 1, 1) := dk_76 (dk_at dksX18_term_2 6 rfl rfl)
theorem dX18_term_53 : decode cX18_term 53 = .ok (.aload_n 0, 1) := dk_42 (dk_at dksX18_term_2 7 rfl rfl)
theorem dX18_term_54 : decode cX18_term 54 = .ok (.invokevirtual 22, 3) := dk_182 0 22 (dk_at dksX18_term_2 8 rfl rfl)
theorem dX18_term_57 : decode cX18_term 57 = .ok (.istore_n 2, 1) := dk_61 (dk_at dksX18_term_2 11 rfl rfl)
theorem dX18_term_58 : decode cX18_term 58 = .ok (.goto (-48), 3) := dk_167 255 208 (dk_at dksX18_term_2 12 rfl rfl)
theorem dX18_term_61 : decode cX18_term 61 = .ok (.aload_n 1, 1) := dk_43 (dk_at dksX18_term_2 15 rfl rfl)
theorem dX18_term_62 : decode cX18_term 62 = .ok (.areturn, 1) := dk_176 (dk_at dksX18_term_2 16 rfl rfl)
def dkwX18_unit_14 : List UInt8 := [96, 181, 0, 19, 42, 182, 0, 166, 176, 42, 182, 0, 55, 191]
abbrev dktX18_unit_14 : List UInt8 := dkwX18_unit_14 ++ []
def dkwX18_unit_13 : List UInt8 := [182, 0, 49, 96, 181, 0, 19, 42, 44, 18, 147, 182, 0, 43, 182, 0, 162, 176, 42, 89, 180, 0, 19, 5]
abbrev dktX18_unit_13 : List UInt8 := dkwX18_unit_13 ++ dktX18_unit_14
def dkwX18_unit_12 : List UInt8 := [153, 0, 8, 16, 105, 167, 0, 8, 44, 3, 182, 0, 155, 183, 0, 159, 176, 42, 89, 180, 0, 19, 44]
abbrev dktX18_unit_12 : List UInt8 := dkwX18_unit_12 ++ dktX18_unit_13
def dkwX18_unit_11 : List UInt8 := [42, 89, 180, 0, 19, 44, 182, 0, 49, 96, 181, 0, 19, 187, 0, 153, 89, 44, 18, 145, 182, 0, 43]
abbrev dktX18_unit_11 : List UInt8 := dkwX18_unit_11 ++ dktX18_unit_12
def dkwX18_unit_10 : List UInt8 := [170, 0, 0, 0, 0, 0, 126, 0, 0, 0, 0, 0, 0, 0, 7, 0, 0, 0, 47, 0, 0, 0, 47, 0, 0, 0, 47, 0, 0, 0, 47, 0, 0, 0, 47, 0, 0, 0, 87, 0, 0, 0, 87, 0, 0, 0, 111]
abbrev dktX18_unit_10 : List UInt8 := dkwX18_unit_10 ++ dktX18_unit_11
def dkwX18_unit_9 : List UInt8 := [21, 4]
abbrev dktX18_unit_9 : List UInt8 := dkwX18_unit_9 ++ dktX18_unit_10
def dkwX18_unit_8 : List UInt8 := [153, 0, 23, 16, 6, 54, 4, 167, 0, 16, 45, 18, 151, 182, 0, 43, 153, 0, 7, 16, 7, 54, 4]
abbrev dktX18_unit_8 : List UInt8 := dkwX18_unit_8 ++ dktX18_unit_9
def dkwX18_unit_7 : List UInt8 := [167, 0, 47, 45, 18, 147, 182, 0, 43, 153, 0, 38, 8, 54, 4, 167, 0, 32, 45, 18, 149, 182, 0, 43]
abbrev dktX18_unit_7 : List UInt8 := dkwX18_unit_7 ++ dktX18_unit_8
def dkwX18_unit_6 : List UInt8 := [182, 0, 43, 153, 0, 68, 6, 54, 4, 167, 0, 62, 45, 18, 145, 182, 0, 43, 153, 0, 53, 7, 54, 4]
abbrev dktX18_unit_6 : List UInt8 := dkwX18_unit_6 ++ dktX18_unit_7
def dkwX18_unit_5 : List UInt8 := [4, 54, 4, 167, 0, 92, 45, 18, 141, 182, 0, 43, 153, 0, 83, 5, 54, 4, 167, 0, 77, 45, 18, 143]
abbrev dktX18_unit_5 : List UInt8 := dkwX18_unit_5 ++ dktX18_unit_6
def dkwX18_unit_4 : List UInt8 := [45, 18, 137, 182, 0, 43, 153, 0, 113, 3, 54, 4, 167, 0, 107, 45, 18, 139, 182, 0, 43, 153, 0, 98]
abbrev dktX18_unit_4 : List UInt8 := dkwX18_unit_4 ++ dktX18_unit_5
def dkwX18_unit_3 : List UInt8 := [171, 0, 0, 0, 0, 0, 0, 195, 0, 0, 0, 8, 196, 226, 50, 143, 0, 0, 0, 121, 0, 0, 13, 29, 0, 0, 0, 182, 0, 51, 59, 131, 0, 0, 0, 166, 0, 53, 244, 127, 0, 0, 0, 136, 0, 53, 244, 212, 0, 0, 0, 106, 0, 55, 159, 244, 0, 0, 0, 76, 0, 56, 136, 61, 0, 0, 0, 91, 6, 33, 78, 105, 0, 0, 0, 151]
abbrev dktX18_unit_3 : List UInt8 := dkwX18_unit_3 ++ dktX18_unit_4
def dkwX18_unit_2 : List UInt8 := [182, 0, 40, 77, 44, 78, 2, 54, 4, 45, 182, 0, 98]
abbrev dktX18_unit_2 : List UInt8 := dkwX18_unit_2 ++ dktX18_unit_3
def dkwX18_unit_1 : List UInt8 := [16, 40, 160, 0, 21, 42, 4, 182, 0, 131, 42, 182, 0, 82, 77, 42, 16, 41, 182, 0, 134, 44, 176, 42]
abbrev dktX18_unit_1 : List UInt8 := dkwX18_unit_1 ++ dktX18_unit_2
def dkwX18_unit_0 : List UInt8 := [42, 182, 0, 22, 60, 27, 16, 48, 161, 0, 14, 27, 16, 57, 163, 0, 8, 42, 182, 0, 128, 176, 27]
abbrev dktX18_unit_0 : List UInt8 := dkwX18_unit_0 ++ dktX18_unit_1
theorem dksX18_unit_0 : cX18_unit.data.toList.drop 0 = dktX18_unit_0 := by decide +kernel
theorem dksX18_unit_1 : cX18_unit.data.toList.drop 23 = dktX18_unit_1 := dk_seg dksX18_unit_0 23 rfl rfl
theorem dksX18_unit_2 : cX18_unit.data.toList.drop 47 = dktX18_unit_2 := dk_seg dksX18_unit_1 24 rfl rfl
theorem dksX18_unit_3 : cX18_unit.data.toList.drop 60 = dktX18_unit_3 := dk_seg dksX18_unit_2 13 rfl rfl
theorem dksX18_unit_4 : cX18_unit.data.toList.drop 136 = dktX18_unit_4 := dk_seg dksX18_unit_3 76 rfl rfl
theorem dksX18_unit_5 : cX18_unit.data.toList.drop 160 = dktX18_unit_5 := dk_seg dksX18_unit_4 24 rfl rfl
theorem dksX18_unit_6 : cX18_unit.data.toList.drop 184 = dktX18_unit_6 := dk_seg dksX18_unit_5 24 rfl rfl
theorem dksX18_unit_7 : cX18_unit.data.toList.drop 208 = dktX18_unit_7 := dk_seg dksX18_unit_6 24 rfl rfl
theorem dksX18_unit_8 : cX18_unit.data.toList.drop 232 = dktX18_unit_8 := dk_seg dksX18_unit_7 24 rfl rfl
theorem dksX18_unit_9 : cX18_unit.data.toList.drop 255 = dktX18_unit_9 := dk_seg dksX18_unit_8 23 rfl rfl
theorem dksX18_unit_10 : cX18_unit.data.toList.drop 257 = dktX18_unit_10 := dk_seg dksX18_unit_9 2 rfl rfl
theorem dksX18_unit_11 : cX18_unit.data.toList.drop 304 = dktX18_unit_11 := dk_seg dksX18_unit_10 47 rfl rfl
theorem dksX18_unit_12 : cX18_unit.data.toList.drop 327 = dktX18_unit_12 := dk_seg dksX18_unit_11 23 rfl rfl
theorem dksX18_unit_13 : cX18_unit.data.toList.drop 350 = dktX18_unit_13 := dk_seg dksX18_unit_12 23 rfl rfl
theorem dksX18_unit_14 : cX18_unit.data.toList.drop 374 = dktX18_unit_14 := dk_seg dksX18_unit_13 24 rfl rfl
theorem dX18_unit_0 : decode cX18_unit 0 = .ok (.aload_n 0, 1) := dk_42 (dk_at dksX18_unit_0 0 rfl rfl)
theorem dX18_unit_1 : decode cX18_unit 1 = .ok (.invokevirtual 22, 3) := dk_182 0 22 (dk_at dksX18_unit_0 1 rfl rfl)
theorem dX18_unit_4 : decode cX18_unit 4 = .ok (.istore_n 1, 1) := dk_60 (dk_at dksX18_unit_0 4 rfl rfl)
theorem dX18_unit_5 : decode cX18_unit 5 = .ok (.iload_n 1, 1) := dk_27 (dk_at dksX18_unit_0 5 rfl rfl)
theorem dX18_unit_6 : decode cX18_unit 6 = .ok (.bipush 48, 2) := dk_16 48 (dk_at dksX18_unit_0 6 rfl rfl)
theorem dX18_unit_8 : decode cX18_unit 8 = .ok (.if_icmp .lt 14, 3) := dk_161 0 14 (dk_at dksX18_unit_0 8 rfl rfl)
theorem dX18_unit_11 : decode cX18_unit 11 = .ok (.iload_n 1, 1) := dk_27 (dk_at dksX18_unit_0 11 rfl rfl)
theorem dX18_unit_12 : decode cX18_unit 12 = .ok (.bipush 57, 2) := dk_16 57 (dk_at dksX18_unit_0 12 rfl rfl)
theorem dX18_unit_14 : decode cX18_unit 14 = .ok (.if_icmp .gt 8, 3) := dk_163 0 8 (dk_at dksX18_unit_0 14 rfl rfl)
theorem dX18_unit_17 : decode cX18_unit 17 = .ok (.aload_n 0, 1) := dk_42 (dk_at dksX18_unit_0 17 rfl rfl)
theorem dX18_unit_18 : decode cX18_unit 18 = .ok (.invokevirtual 128, 3) := dk_182 0 128 (dk_at dksX18_unit_0 18 rfl rfl)
theorem dX18_unit_21 : decode cX18_unit 21 = .ok (.areturn, 1) := dk_176 (dk_at dksX18_unit_0 21 rfl rfl)
theorem dX18_unit_22 : decode cX18_unit 22 = .ok (.iload_n 1, 1) := dk_27 (dk_at dksX18_unit_0 22 rfl rfl)
theorem dX18_unit_23 : decode cX18_unit 23 = .ok (.bipush 40, 2) := dk_16 40 (dk_at dksX18_unit_1 0 rfl rfl)
theorem dX18_unit_25 : decode cX18_unit 25 = .ok (.if_icmp .ne 21, 3) := dk_160 0 21 (dk_at dksX18_unit_1 2 rfl rfl)
theorem dX18_unit_28 : decode cX18_unit 28 = .ok (.aload_n 0, 1) := dk_42 (dk_at dksX18_unit_1 5 rfl rfl)
theorem dX18_unit_29 : decode cX18_unit 29 = .ok (.iconst 1, 1) := dk_4 (dk_at dksX18_unit_1 6 rfl rfl)
theorem dX18_unit_30 : decode cX18_unit 30 = .ok (.invokevirtual 131, 3) := dk_182 0 131 (dk_at dksX18_unit_1 7 rfl rfl)
theorem dX18_unit_33 : decode cX18_unit 33 = .ok (.aload_n 0, 1) := dk_42 (dk_at dksX18_unit_1 10 rfl rfl)
theorem dX18_unit_34 : decode cX18_unit 34 = .ok (.invokevirtual 82, 3) := dk_182 0 82 (dk_at dksX18_unit_1 11 rfl rfl)
theorem dX18_unit_37 : decode cX18_unit 37 = .ok (.astore_n 2, 1) := dk_77 (dk_at dksX18_unit_1 14 rfl rfl)
theorem dX18_unit_38 : decode cX18_unit 38 = .ok (.aload_n 0, 1) := dk_42 (dk_at dksX18_unit_1 15 rfl rfl)
theorem dX18_unit_39 : decode cX18_unit 39 = .ok (.bipush 41, 2) := dk_16 41 (dk_at dksX18_unit_1 16 rfl rfl)
theorem dX18_unit_41 : decode cX18_unit 41 = .ok (.invokevirtual 134, 3) := dk_182 0 134 (dk_at dksX18_unit_1 18 rfl rfl)
theorem dX18_unit_44 : decode cX18_unit 44 = .ok (.aload_n 2, 1) := dk_44 (dk_at dksX18_unit_1 21 rfl rfl)
theorem dX18_unit_45 : decode cX18_unit 45 = .ok (.areturn, 1) := dk_176 (dk_at dksX18_unit_1 22 rfl rfl)
theorem dX18_unit_46 : decode cX18_unit 46 = .ok (.aload_n 0, 1) := dk_42 (dk_at dksX18_unit_1 23 rfl rfl)
theorem dX18_unit_47 : decode cX18_unit 47 = .ok (.invokevirtual 40, 3) := dk_182 0 40 (dk_at dksX18_unit_2 0 rfl rfl)
theorem dX18_unit_50 : decode cX18_unit 50 = .ok (.astore_n 2, 1) := dk_77 (dk_at dksX18_unit_2 3 rfl rfl)
theorem dX18_unit_51 : decode cX18_unit 51 = .ok (.aload_n 2, 1) := dk_44 (dk_at dksX18_unit_2 4 rfl rfl)
theorem dX18_unit_52 : decode cX18_unit 52 = .ok (.astore_n 3, 1) := dk_78 (dk_at dksX18_unit_2 5 rfl rfl)
theorem dX18_unit_53 : decode cX18_unit 53 = .ok (.iconst (-1), 1) := dk_2 (dk_at dksX18_unit_2 6 rfl rfl)
theorem dX18_unit_54 : decode cX18_unit 54 = .ok (.istore 4, 2) := dk_54 4 (dk_at dksX18_unit_2 7 rfl rfl)
theorem dX18_unit_56 : decode cX18_unit 56 = .ok (.aload_n 3, 1) := dk_45 (dk_at dksX18_unit_2 9 rfl rfl)
theorem dX18_unit_57 : decode cX18_unit 57 = .ok (.invokevirtual 98, 3) := dk_182 0 98 (dk_at dksX18_unit_2 10 rfl rfl)
theorem dX18_unit_60 : decode cX18_unit 60 = .ok (.lookupswitch 195 #[(-991808881, 121), (3357, 182), (3357571, 166), (3535999, 136), (3536084, 106), (3645428, 76), (3704893, 91), (102846057, 151)], 76) := by decide +kernel
theorem dX18_unit_136 : decode cX18_unit 136 = .ok (.aload_n 3, 1) := dk_45 (dk_at dksX18_unit_4 0 rfl rfl)
theorem dX18_unit_137 : decode cX18_unit 137 = .ok (.ldc 137, 2) := dk_18 137 (dk_at dksX18_unit_4 1 rfl rfl)
theorem dX18_unit_139 : decode cX18_unit 139 = .ok (.invokevirtual 43, 3) := dk_182 0 43 (dk_at dksX18_unit_4 3 rfl rfl)
theorem dX18_unit_142 : decode cX18_unit 142 = .ok (.ifCond .eq 113, 3) := dk_153 0 113 (dk_at dksX18_unit_4 6 rfl rfl)
theorem dX18_unit_145 : decode cX18_unit 145 = .ok (.iconst 0, 1) := dk_3 (dk_at dksX18_unit_4 9 rfl rfl)
theorem dX18_unit_146 : decode cX18_unit 146 = .ok (.istore 4, 2) := dk_54 4 (dk_at dksX18_unit_4 10 rfl rfl)
theorem dX18_unit_148 : decode cX18_unit 148 = .ok (.goto 107, 3) := dk_167 0 107 (dk_at dksX18_unit_4 12 rfl rfl)
theorem dX18_unit_151 : decode cX18_unit 151 = .ok (.aload_n 3, 1) := dk_45 (dk_at dksX18_unit_4 15 rfl rfl)
theorem dX18_unit_152 : decode cX18_unit 152 = .ok (.ldc 139, 2) := dk_18 139 (dk_at dksX18_unit_4 16 rfl rfl)
theorem dX18_unit_154 : decode cX18_unit 154 = .ok (.invokevirtual 43, 3) := dk_182 0 43 (dk_at dksX18_unit_4 18 rfl rfl)
theorem dX18_unit_157 : decode cX18_unit 157 = .ok (.ifCond .eq 98, 3) := dk_153 0 98 (dk_at dksX18_unit_4 21 rfl rfl)
theorem dX18_unit_160 : decode cX18_unit 160 = .ok (.iconst 1, 1) := dk_4 (dk_at dksX18_unit_5 0 rfl rfl)
theorem dX18_unit_161 : decode cX18_unit 161 = .ok (.istore 4, 2) := dk_54 4 (dk_at dksX18_unit_5 1 rfl rfl)
theorem dX18_unit_163 : decode cX18_unit 163 = .ok (.goto 92, 3) := dk_167 0 92 (dk_at dksX18_unit_5 3 rfl rfl)
theorem dX18_unit_166 : decode cX18_unit 166 = .ok (.aload_n 3, 1) := dk_45 (dk_at dksX18_unit_5 6 rfl rfl)
theorem dX18_unit_167 : decode cX18_unit 167 = .ok (.ldc 141, 2) := dk_18 141 (dk_at dksX18_unit_5 7 rfl rfl)
theorem dX18_unit_169 : decode cX18_unit 169 = .ok (.invokevirtual 43, 3) := dk_182 0 43 (dk_at dksX18_unit_5 9 rfl rfl)
theorem dX18_unit_172 : decode cX18_unit 172 = .ok (.ifCond .eq 83, 3) := dk_153 0 83 (dk_at dksX18_unit_5 12 rfl rfl)
theorem dX18_unit_175 : decode cX18_unit 175 = .ok (.iconst 2, 1) := dk_5 (dk_at dksX18_unit_5 15 rfl rfl)
theorem dX18_unit_176 : decode cX18_unit 176 = .ok (.istore 4, 2) := dk_54 4 (dk_at dksX18_unit_5 16 rfl rfl)
theorem dX18_unit_178 : decode cX18_unit 178 = .ok (.goto 77, 3) := dk_167 0 77 (dk_at dksX18_unit_5 18 rfl rfl)
theorem dX18_unit_181 : decode cX18_unit 181 = .ok (.aload_n 3, 1) := dk_45 (dk_at dksX18_unit_5 21 rfl rfl)
theorem dX18_unit_182 : decode cX18_unit 182 = .ok (.ldc 143, 2) := dk_18 143 (dk_at dksX18_unit_5 22 rfl rfl)
theorem dX18_unit_184 : decode cX18_unit 184 = .ok (.invokevirtual 43, 3) := dk_182 0 43 (dk_at dksX18_unit_6 0 rfl rfl)
theorem dX18_unit_187 : decode cX18_unit 187 = .ok (.ifCond .eq 68, 3) := dk_153 0 68 (dk_at dksX18_unit_6 3 rfl rfl)
theorem dX18_unit_190 : decode cX18_unit 190 = .ok (.iconst 3, 1) := dk_6 (dk_at dksX18_unit_6 6 rfl rfl)
theorem dX18_unit_191 : decode cX18_unit 191 = .ok (.istore 4, 2) := dk_54 4 (dk_at dksX18_unit_6 7 rfl rfl)
theorem dX18_unit_193 : decode cX18_unit 193 = .ok (.goto 62, 3) := dk_167 0 62 (dk_at dksX18_unit_6 9 rfl rfl)
theorem dX18_unit_196 : decode cX18_unit 196 = .ok (.aload_n 3, 1) := dk_45 (dk_at dksX18_unit_6 12 rfl rfl)
theorem dX18_unit_197 : decode cX18_unit 197 = .ok (.ldc 145, 2) := dk_18 145 (dk_at dksX18_unit_6 13 rfl rfl)
theorem dX18_unit_199 : decode cX18_unit 199 = .ok (.invokevirtual 43, 3) := dk_182 0 43 (dk_at dksX18_unit_6 15 rfl rfl)
theorem dX18_unit_202 : decode cX18_unit 202 = .ok (.ifCond .eq 53, 3) := dk_153 0 53 (dk_at dksX18_unit_6 18 rfl rfl)
theorem dX18_unit_205 : decode cX18_unit 205 = .ok (.iconst 4, 1) := dk_7 (dk_at dksX18_unit_6 21 rfl rfl)
theorem dX18_unit_206 : decode cX18_unit 206 = .ok (.istore 4, 2) := dk_54 4 (dk_at dksX18_unit_6 22 rfl rfl)
theorem dX18_unit_208 : decode cX18_unit 208 = .ok (.goto 47, 3) := dk_167 0 47 (dk_at dksX18_unit_7 0 rfl rfl)
theorem dX18_unit_211 : decode cX18_unit 211 = .ok (.aload_n 3, 1) := dk_45 (dk_at dksX18_unit_7 3 rfl rfl)
theorem dX18_unit_212 : decode cX18_unit 212 = .ok (.ldc 147, 2) := dk_18 147 (dk_at dksX18_unit_7 4 rfl rfl)
theorem dX18_unit_214 : decode cX18_unit 214 = .ok (.invokevirtual 43, 3) := dk_182 0 43 (dk_at dksX18_unit_7 6 rfl rfl)
theorem dX18_unit_217 : decode cX18_unit 217 = .ok (.ifCond .eq 38, 3) := dk_153 0 38 (dk_at dksX18_unit_7 9 rfl rfl)
theorem dX18_unit_220 : decode cX18_unit 220 = .ok (.iconst 5, 1) := dk_8 (dk_at dksX18_unit_7 12 rfl rfl)
theorem dX18_unit_221 : decode cX18_unit 221 = .ok (.istore 4, 2) := dk_54 4 (dk_at dksX18_unit_7 13 rfl rfl)
theorem dX18_unit_223 : decode cX18_unit 223 = .ok (.goto 32, 3) := dk_167 0 32 (dk_at dksX18_unit_7 15 rfl rfl)
theorem dX18_unit_226 : decode cX18_unit 226 = .ok (.aload_n 3, 1) := dk_45 (dk_at dksX18_unit_7 18 rfl rfl)
theorem dX18_unit_227 : decode cX18_unit 227 = .ok (.ldc 149, 2) := dk_18 149 (dk_at dksX18_unit_7 19 rfl rfl)
theorem dX18_unit_229 : decode cX18_unit 229 = .ok (.invokevirtual 43, 3) := dk_182 0 43 (dk_at dksX18_unit_7 21 rfl rfl)
theorem dX18_unit_232 : decode cX18_unit 232 = .ok (.ifCond .eq 23, 3) := dk_153 0 23 (dk_at dksX18_unit_8 0 rfl rfl)
theorem dX18_unit_235 : decode cX18_unit 235 = .ok (.bipush 6, 2) := dk_16 6 (dk_at dksX18_unit_8 3 rfl rfl)
theorem dX18_unit_237 : decode cX18_unit 237 = .ok (.istore 4, 2) := dk_54 4 (dk_at dksX18_unit_8 5 rfl rfl)
theorem dX18_unit_239 : decode cX18_unit 239 = .ok (.goto 16, 3) := dk_167 0 16 (dk_at dksX18_unit_8 7 rfl rfl)
theorem dX18_unit_242 : decode cX18_unit 242 = .ok (.aload_n 3, 1) := dk_45 (dk_at dksX18_unit_8 10 rfl rfl)
theorem dX18_unit_243 : decode cX18_unit 243 = .ok (.ldc 151, 2) := dk_18 151 (dk_at dksX18_unit_8 11 rfl rfl)
theorem dX18_unit_245 : decode cX18_unit 245 = .ok (.invokevirtual 43, 3) := dk_182 0 43 (dk_at dksX18_unit_8 13 rfl rfl)
theorem dX18_unit_248 : decode cX18_unit 248 = .ok (.ifCond .eq 7, 3) := dk_153 0 7 (dk_at dksX18_unit_8 16 rfl rfl)
theorem dX18_unit_251 : decode cX18_unit 251 = .ok (.bipush 7, 2) := dk_16 7 (dk_at dksX18_unit_8 19 rfl rfl)
theorem dX18_unit_253 : decode cX18_unit 253 = .ok (.istore 4, 2) := dk_54 4 (dk_at dksX18_unit_8 21 rfl rfl)
theorem dX18_unit_255 : decode cX18_unit 255 = .ok (.iload 4, 2) := dk_21 4 (dk_at dksX18_unit_9 0 rfl rfl)
theorem dX18_unit_257 : decode cX18_unit 257 = .ok (.tableswitch 126 0 7 #[47, 47, 47, 47, 47, 87, 87, 111], 47) := by decide +kernel
theorem dX18_unit_304 : decode cX18_unit 304 = .ok (.aload_n 0, 1) := dk_42 (dk_at dksX18_unit_11 0 rfl rfl)
theorem dX18_unit_305 : decode cX18_unit 305 = .ok (.dup, 1) := dk_89 (dk_at dksX18_unit_11 1 rfl rfl)
theorem dX18_unit_306 : decode cX18_unit 306 = .ok (.getfield 19, 3) := dk_180 0 19 (dk_at dksX18_unit_11 2 rfl rfl)
theorem dX18_unit_309 : decode cX18_unit 309 = .ok (.aload_n 2, 1) := dk_44 (dk_at dksX18_unit_11 5 rfl rfl)
theorem dX18_unit_310 : decode cX18_unit 310 = .ok (.invokevirtual 49, 3) := dk_182 0 49 (dk_at dksX18_unit_11 6 rfl rfl)
theorem dX18_unit_313 : decode cX18_unit 313 = .ok (.iadd, 1) := dk_96 (dk_at dksX18_unit_11 9 rfl rfl)
theorem dX18_unit_314 : decode cX18_unit 314 = .ok (.putfield 19, 3) := dk_181 0 19 (dk_at dksX18_unit_11 10 rfl rfl)
theorem dX18_unit_317 : decode cX18_unit 317 = .ok (.new 153, 3) := dk_187 0 153 (dk_at dksX18_unit_11 13 rfl rfl)
theorem dX18_unit_320 : decode cX18_unit 320 = .ok (.dup, 1) := dk_89 (dk_at dksX18_unit_11 16 rfl rfl)
theorem dX18_unit_321 : decode cX18_unit 321 = .ok (.aload_n 2, 1) := dk_44 (dk_at dksX18_unit_11 17 rfl rfl)
theorem dX18_unit_322 : decode cX18_unit 322 = .ok (.ldc 145, 2) := dk_18 145 (dk_at dksX18_unit_11 18 rfl rfl)
theorem dX18_unit_324 : decode cX18_unit 324 = .ok (.invokevirtual 43, 3) := dk_182 0 43 (dk_at dksX18_unit_11 20 rfl rfl)
theorem dX18_unit_327 : decode cX18_unit 327 = .ok (.ifCond .eq 8, 3) := dk_153 0 8 (dk_at dksX18_unit_12 0 rfl rfl)
theorem dX18_unit_330 : decode cX18_unit 330 = .ok (.bipush 105, 2) := dk_16 105 (dk_at dksX18_unit_12 3 rfl rfl)
theorem dX18_unit_332 : decode cX18_unit 332 = .ok (.goto 8, 3) := dk_167 0 8 (dk_at dksX18_unit_12 5 rfl rfl)
theorem dX18_unit_335 : decode cX18_unit 335 = .ok (.aload_n 2, 1) := dk_44 (dk_at dksX18_unit_12 8 rfl rfl)
theorem dX18_unit_336 : decode cX18_unit 336 = .ok (.iconst 0, 1) := dk_3 (dk_at dksX18_unit_12 9 rfl rfl)
theorem dX18_unit_337 : decode cX18_unit 337 = .ok (.invokevirtual 155, 3) := dk_182 0 155 (dk_at dksX18_unit_12 10 rfl rfl)
theorem dX18_unit_340 : decode cX18_unit 340 = .ok (.invokespecial 159, 3) := dk_183 0 159 (dk_at dksX18_unit_12 13 rfl rfl)
theorem dX18_unit_343 : decode cX18_unit 343 = .ok (.areturn, 1) := dk_176 (dk_at dksX18_unit_12 16 rfl rfl)
theorem dX18_unit_344 : decode cX18_unit 344 = .ok (.aload_n 0, 1) := dk_42 (dk_at dksX18_unit_12 17 rfl rfl)
theorem dX18_unit_345 : decode cX18_unit 345 = .ok (.dup, 1) := dk_89 (dk_at dksX18_unit_12 18 rfl rfl)
theorem dX18_unit_346 : decode cX18_unit 346 = .ok (.getfield 19, 3) := dk_180 0 19 (dk_at dksX18_unit_12 19 rfl rfl)
theorem dX18_unit_349 : decode cX18_unit 349 = .ok (.aload_n 2, 1) := dk_44 (dk_at dksX18_unit_12 22 rfl rfl)
theorem dX18_unit_350 : decode cX18_unit 350 = .ok (.invokevirtual 49, 3) := dk_182 0 49 (dk_at dksX18_unit_13 0 rfl rfl)
theorem dX18_unit_353 : decode cX18_unit 353 = .ok (.iadd, 1) := dk_96 (dk_at dksX18_unit_13 3 rfl rfl)
theorem dX18_unit_354 : decode cX18_unit 354 = .ok (.putfield 19, 3) := dk_181 0 19 (dk_at dksX18_unit_13 4 rfl rfl)
theorem dX18_unit_357 : decode cX18_unit 357 = .ok (.aload_n 0, 1) := dk_42 (dk_at dksX18_unit_13 7 rfl rfl)
theorem dX18_unit_358 : decode cX18_unit 358 = .ok (.aload_n 2, 1) := dk_44 (dk_at dksX18_unit_13 8 rfl rfl)
theorem dX18_unit_359 : decode cX18_unit 359 = .ok (.ldc 147, 2) := dk_18 147 (dk_at dksX18_unit_13 9 rfl rfl)
theorem dX18_unit_361 : decode cX18_unit 361 = .ok (.invokevirtual 43, 3) := dk_182 0 43 (dk_at dksX18_unit_13 11 rfl rfl)
theorem dX18_unit_364 : decode cX18_unit 364 = .ok (.invokevirtual 162, 3) := dk_182 0 162 (dk_at dksX18_unit_13 14 rfl rfl)
theorem dX18_unit_367 : decode cX18_unit 367 = .ok (.areturn, 1) := dk_176 (dk_at dksX18_unit_13 17 rfl rfl)
theorem dX18_unit_368 : decode cX18_unit 368 = .ok (.aload_n 0, 1) := dk_42 (dk_at dksX18_unit_13 18 rfl rfl)
theorem dX18_unit_369 : decode cX18_unit 369 = .ok (.dup, 1) := dk_89 (dk_at dksX18_unit_13 19 rfl rfl)
theorem dX18_unit_370 : decode cX18_unit 370 = .ok (.getfield 19, 3) := dk_180 0 19 (dk_at dksX18_unit_13 20 rfl rfl)
theorem dX18_unit_373 : decode cX18_unit 373 = .ok (.iconst 2, 1) := dk_5 (dk_at dksX18_unit_13 23 rfl rfl)
theorem dX18_unit_374 : decode cX18_unit 374 = .ok (.iadd, 1) := dk_96 (dk_at dksX18_unit_14 0 rfl rfl)
theorem dX18_unit_375 : decode cX18_unit 375 = .ok (.putfield 19, 3) := dk_181 0 19 (dk_at dksX18_unit_14 1 rfl rfl)
theorem dX18_unit_378 : decode cX18_unit 378 = .ok (.aload_n 0, 1) := dk_42 (dk_at dksX18_unit_14 4 rfl rfl)
theorem dX18_unit_379 : decode cX18_unit 379 = .ok (.invokevirtual 166, 3) := dk_182 0 166 (dk_at dksX18_unit_14 5 rfl rfl)
theorem dX18_unit_382 : decode cX18_unit 382 = .ok (.areturn, 1) := dk_176 (dk_at dksX18_unit_14 8 rfl rfl)
theorem dX18_unit_383 : decode cX18_unit 383 = .ok (.aload_n 0, 1) := dk_42 (dk_at dksX18_unit_14 9 rfl rfl)
theorem dX18_unit_384 : decode cX18_unit 384 = .ok (.invokevirtual 55, 3) := dk_182 0 55 (dk_at dksX18_unit_14 10 rfl rfl)
theorem dX18_unit_387 : decode cX18_unit 387 = .ok (.athrow, 1) := dk_191 (dk_at dksX18_unit_14 13 rfl rfl)
def dkwX18_number_4 : List UInt8 := [5, 27, 183, 0, 52, 191, 187, 0, 174, 89, 28, 183, 0, 176, 176]
abbrev dktX18_number_4 : List UInt8 := dkwX18_number_4 ++ []
def dkwX18_number_3 : List UInt8 := [42, 89, 180, 0, 19, 4, 96, 181, 0, 19, 167, 255, 183, 28, 17, 39, 15, 164, 0, 13, 187, 0, 50, 89]
abbrev dktX18_number_3 : List UInt8 := dkwX18_number_3 ++ dktX18_number_4
def dkwX18_number_2 : List UInt8 := [16, 10, 28, 104, 42, 180, 0, 9, 42, 180, 0, 19, 51, 96, 16, 48, 100, 17, 39, 16, 184, 0, 168, 61]
abbrev dktX18_number_2 : List UInt8 := dkwX18_number_2 ++ dktX18_number_3
def dkwX18_number_1 : List UInt8 := [180, 0, 19, 51, 16, 48, 161, 0, 54, 42, 180, 0, 9, 42, 180, 0, 19, 51, 16, 57, 163, 0, 40]
abbrev dktX18_number_1 : List UInt8 := dkwX18_number_1 ++ dktX18_number_2
def dkwX18_number_0 : List UInt8 := [42, 180, 0, 19, 60, 3, 61, 42, 180, 0, 19, 42, 180, 0, 15, 162, 0, 68, 42, 180, 0, 9, 42]
abbrev dktX18_number_0 : List UInt8 := dkwX18_number_0 ++ dktX18_number_1
theorem dksX18_number_0 : cX18_number.data.toList.drop 0 = dktX18_number_0 := by decide +kernel
theorem dksX18_number_1 : cX18_number.data.toList.drop 23 = dktX18_number_1 := dk_seg dksX18_number_0 23 rfl rfl
theorem dksX18_number_2 : cX18_number.data.toList.drop 46 = dktX18_number_2 := dk_seg dksX18_number_1 23 rfl rfl
theorem dksX18_number_3 : cX18_number.data.toList.drop 70 = dktX18_number_3 := dk_seg dksX18_number_2 24 rfl rfl
theorem dksX18_number_4 : cX18_number.data.toList.drop 94 = dktX18_number_4 := dk_seg dksX18_number_3 24 rfl rfl
theorem dX18_number_0 : decode cX18_number 0 = .ok (.aload_n 0, 1) := dk_42 (dk_at dksX18_number_0 0 rfl rfl)
theorem dX18_number_1 : decode cX18_number 1 = .ok (.getfield 19, 3) := dk_180 0 19 (dk_at dksX18_number_0 1 rfl rfl)
theorem dX18_number_4 : decode cX18_number 4 = .ok (.istore_n 1, 1) := dk_60 (dk_at dksX18_number_0 4 rfl rfl)
theorem dX18_number_5 : decode cX18_number 5 = .ok (.iconst 0, 1) := dk_3 (dk_at dksX18_number_0 5 rfl rfl)
theorem dX18_number_6 : decode cX18_number 6 = .ok (.istore_n 2, 1) := dk_61 (dk_at dksX18_number_0 6 rfl rfl)
theorem dX18_number_7 : decode cX18_number 7 = .ok (.aload_n 0, 1) := dk_42 (dk_at dksX18_number_0 7 rfl rfl)
theorem dX18_number_8 : decode cX18_number 8 = .ok (.getfield 19, 3) := dk_180 0 19 (dk_at dksX18_number_0 8 rfl rfl)
theorem dX18_number_11 : decode cX18_number 11 = .ok (.aload_n 0, 1) := dk_42 (dk_at dksX18_number_0 11 rfl rfl)
theorem dX18_number_12 : decode cX18_number 12 = .ok (.getfield 15, 3) := dk_180 0 15 (dk_at dksX18_number_0 12 rfl rfl)
theorem dX18_number_15 : decode cX18_number 15 = .ok (.if_icmp .ge 68, 3) := dk_162 0 68 (dk_at dksX18_number_0 15 rfl rfl)
theorem dX18_number_18 : decode cX18_number 18 = .ok (.aload_n 0, 1) := dk_42 (dk_at dksX18_number_0 18 rfl rfl)
theorem dX18_number_19 : decode cX18_number 19 = .ok (.getfield 9, 3) := dk_180 0 9 (dk_at dksX18_number_0 19 rfl rfl)
theorem dX18_number_22 : decode cX18_number 22 = .ok (.aload_n 0, 1) := dk_42 (dk_at dksX18_number_0 22 rfl rfl)
theorem dX18_number_23 : decode cX18_number 23 = .ok (.getfield 19, 3) := dk_180 0 19 (dk_at dksX18_number_1 0 rfl rfl)
theorem dX18_number_26 : decode cX18_number 26 = .ok (.baload, 1) := dk_51 (dk_at dksX18_number_1 3 rfl rfl)
theorem dX18_number_27 : decode cX18_number 27 = .ok (.bipush 48, 2) := dk_16 48 (dk_at dksX18_number_1 4 rfl rfl)
theorem dX18_number_29 : decode cX18_number 29 = .ok (.if_icmp .lt 54, 3) := dk_161 0 54 (dk_at dksX18_number_1 6 rfl rfl)
theorem dX18_number_32 : decode cX18_number 32 = .ok (.aload_n 0, 1) := dk_42 (dk_at dksX18_number_1 9 rfl rfl)
theorem dX18_number_33 : decode cX18_number 33 = .ok (.getfield 9, 3) := dk_180 0 9 (dk_at dksX18_number_1 10 rfl rfl)
theorem dX18_number_36 : decode cX18_number 36 = .ok (.aload_n 0, 1) := dk_42 (dk_at dksX18_number_1 13 rfl rfl)
theorem dX18_number_37 : decode cX18_number 37 = .ok (.getfield 19, 3) := dk_180 0 19 (dk_at dksX18_number_1 14 rfl rfl)
theorem dX18_number_40 : decode cX18_number 40 = .ok (.baload, 1) := dk_51 (dk_at dksX18_number_1 17 rfl rfl)
theorem dX18_number_41 : decode cX18_number 41 = .ok (.bipush 57, 2) := dk_16 57 (dk_at dksX18_number_1 18 rfl rfl)
theorem dX18_number_43 : decode cX18_number 43 = .ok (.if_icmp .gt 40, 3) := dk_163 0 40 (dk_at dksX18_number_1 20 rfl rfl)
theorem dX18_number_46 : decode cX18_number 46 = .ok (.bipush 10, 2) := dk_16 10 (dk_at dksX18_number_2 0 rfl rfl)
theorem dX18_number_48 : decode cX18_number 48 = .ok (.iload_n 2, 1) := dk_28 (dk_at dksX18_number_2 2 rfl rfl)
theorem dX18_number_49 : decode cX18_number 49 = .ok (.imul, 1) := dk_104 (dk_at dksX18_number_2 3 rfl rfl)
theorem dX18_number_50 : decode cX18_number 50 = .ok (.aload_n 0, 1) := dk_42 (dk_at dksX18_number_2 4 rfl rfl)
theorem dX18_number_51 : decode cX18_number 51 = .ok (.getfield 9, 3) := dk_180 0 9 (dk_at dksX18_number_2 5 rfl rfl)
theorem dX18_number_54 : decode cX18_number 54 = .ok (.aload_n 0, 1) := dk_42 (dk_at dksX18_number_2 8 rfl rfl)
theorem dX18_number_55 : decode cX18_number 55 = .ok (.getfield 19, 3) := dk_180 0 19 (dk_at dksX18_number_2 9 rfl rfl)
theorem dX18_number_58 : decode cX18_number 58 = .ok (.baload, 1) := dk_51 (dk_at dksX18_number_2 12 rfl rfl)
theorem dX18_number_59 : decode cX18_number 59 = .ok (.iadd, 1) := dk_96 (dk_at dksX18_number_2 13 rfl rfl)
theorem dX18_number_60 : decode cX18_number 60 = .ok (.bipush 48, 2) := dk_16 48 (dk_at dksX18_number_2 14 rfl rfl)
theorem dX18_number_62 : decode cX18_number 62 = .ok (.isub, 1) := dk_100 (dk_at dksX18_number_2 16 rfl rfl)
theorem dX18_number_63 : decode cX18_number 63 = .ok (.sipush 10000, 3) := dk_17 39 16 (dk_at dksX18_number_2 17 rfl rfl)
theorem dX18_number_66 : decode cX18_number 66 = .ok (.invokestatic 168, 3) := dk_184 0 168 (dk_at dksX18_number_2 20 rfl rfl)
theorem dX18_number_69 : decode cX18_number 69 = .ok (.istore_n 2, 1) := dk_61 (dk_at dksX18_number_2 23 rfl rfl)
theorem dX18_number_70 : decode cX18_number 70 = .ok (.aload_n 0, 1) := dk_42 (dk_at dksX18_number_3 0 rfl rfl)
theorem dX18_number_71 : decode cX18_number 71 = .ok (.dup, 1) := dk_89 (dk_at dksX18_number_3 1 rfl rfl)
theorem dX18_number_72 : decode cX18_number 72 = .ok (.getfield 19, 3) := dk_180 0 19 (dk_at dksX18_number_3 2 rfl rfl)
theorem dX18_number_75 : decode cX18_number 75 = .ok (.iconst 1, 1) := dk_4 (dk_at dksX18_number_3 5 rfl rfl)
theorem dX18_number_76 : decode cX18_number 76 = .ok (.iadd, 1) := dk_96 (dk_at dksX18_number_3 6 rfl rfl)
theorem dX18_number_77 : decode cX18_number 77 = .ok (.putfield 19, 3) := dk_181 0 19 (dk_at dksX18_number_3 7 rfl rfl)
theorem dX18_number_80 : decode cX18_number 80 = .ok (.goto (-73), 3) := dk_167 255 183 (dk_at dksX18_number_3 10 rfl rfl)
theorem dX18_number_83 : decode cX18_number 83 = .ok (.iload_n 2, 1) := dk_28 (dk_at dksX18_number_3 13 rfl rfl)
theorem dX18_number_84 : decode cX18_number 84 = .ok (.sipush 9999, 3) := dk_17 39 15 (dk_at dksX18_number_3 14 rfl rfl)
theorem dX18_number_87 : decode cX18_number 87 = .ok (.if_icmp .le 13, 3) := dk_164 0 13 (dk_at dksX18_number_3 17 rfl rfl)
theorem dX18_number_90 : decode cX18_number 90 = .ok (.new 50, 3) := dk_187 0 50 (dk_at dksX18_number_3 20 rfl rfl)
theorem dX18_number_93 : decode cX18_number 93 = .ok (.dup, 1) := dk_89 (dk_at dksX18_number_3 23 rfl rfl)
theorem dX18_number_94 : decode cX18_number 94 = .ok (.iconst 2, 1) := dk_5 (dk_at dksX18_number_4 0 rfl rfl)
theorem dX18_number_95 : decode cX18_number 95 = .ok (.iload_n 1, 1) := dk_27 (dk_at dksX18_number_4 1 rfl rfl)
theorem dX18_number_96 : decode cX18_number 96 = .ok (.invokespecial 52, 3) := dk_183 0 52 (dk_at dksX18_number_4 2 rfl rfl)
theorem dX18_number_99 : decode cX18_number 99 = .ok (.athrow, 1) := dk_191 (dk_at dksX18_number_4 5 rfl rfl)
theorem dX18_number_100 : decode cX18_number 100 = .ok (.new 174, 3) := dk_187 0 174 (dk_at dksX18_number_4 6 rfl rfl)
theorem dX18_number_103 : decode cX18_number 103 = .ok (.dup, 1) := dk_89 (dk_at dksX18_number_4 9 rfl rfl)
theorem dX18_number_104 : decode cX18_number 104 = .ok (.iload_n 2, 1) := dk_28 (dk_at dksX18_number_4 10 rfl rfl)
theorem dX18_number_105 : decode cX18_number 105 = .ok (.invokespecial 176, 3) := dk_183 0 176 (dk_at dksX18_number_4 11 rfl rfl)
theorem dX18_number_108 : decode cX18_number 108 = .ok (.areturn, 1) := dk_176 (dk_at dksX18_number_4 14 rfl rfl)
def dkwX18_opens_1 : List UInt8 := [180, 0, 59, 4, 96, 181, 0, 59, 42, 89, 180, 0, 19, 27, 96, 181, 0, 19, 177]
abbrev dktX18_opens_1 : List UInt8 := dkwX18_opens_1 ++ []
def dkwX18_opens_0 : List UInt8 := [42, 180, 0, 59, 16, 8, 160, 0, 16, 187, 0, 50, 89, 6, 42, 180, 0, 19, 183, 0, 52, 191, 42, 89]
abbrev dktX18_opens_0 : List UInt8 := dkwX18_opens_0 ++ dktX18_opens_1
theorem dksX18_opens_0 : cX18_opens.data.toList.drop 0 = dktX18_opens_0 := by decide +kernel
theorem dksX18_opens_1 : cX18_opens.data.toList.drop 24 = dktX18_opens_1 := dk_seg dksX18_opens_0 24 rfl rfl
theorem dX18_opens_0 : decode cX18_opens 0 = .ok (.aload_n 0, 1) := dk_42 (dk_at dksX18_opens_0 0 rfl rfl)
theorem dX18_opens_1 : decode cX18_opens 1 = .ok (.getfield 59, 3) := dk_180 0 59 (dk_at dksX18_opens_0 1 rfl rfl)
theorem dX18_opens_4 : decode cX18_opens 4 = .ok (.bipush 8, 2) := dk_16 8 (dk_at dksX18_opens_0 4 rfl rfl)
theorem dX18_opens_6 : decode cX18_opens 6 = .ok (.if_icmp .ne 16, 3) := dk_160 0 16 (dk_at dksX18_opens_0 6 rfl rfl)
theorem dX18_opens_9 : decode cX18_opens 9 = .ok (.new 50, 3) := dk_187 0 50 (dk_at dksX18_opens_0 9 rfl rfl)
theorem dX18_opens_12 : decode cX18_opens 12 = .ok (.dup, 1) := dk_89 (dk_at dksX18_opens_0 12 rfl rfl)
theorem dX18_opens_13 : decode cX18_opens 13 = .ok (.iconst 3, 1) := dk_6 (dk_at dksX18_opens_0 13 rfl rfl)
theorem dX18_opens_14 : decode cX18_opens 14 = .ok (.aload_n 0, 1) := dk_42 (dk_at dksX18_opens_0 14 rfl rfl)
theorem dX18_opens_15 : decode cX18_opens 15 = .ok (.getfield 19, 3) := dk_180 0 19 (dk_at dksX18_opens_0 15 rfl rfl)
theorem dX18_opens_18 : decode cX18_opens 18 = .ok (.invokespecial 52, 3) := dk_183 0 52 (dk_at dksX18_opens_0 18 rfl rfl)
theorem dX18_opens_21 : decode cX18_opens 21 = .ok (.athrow, 1) := dk_191 (dk_at dksX18_opens_0 21 rfl rfl)
theorem dX18_opens_22 : decode cX18_opens 22 = .ok (.aload_n 0, 1) := dk_42 (dk_at dksX18_opens_0 22 rfl rfl)
theorem dX18_opens_23 : decode cX18_opens 23 = .ok (.dup, 1) := dk_89 (dk_at dksX18_opens_0 23 rfl rfl)
theorem dX18_opens_24 : decode cX18_opens 24 = .ok (.getfield 59, 3) := dk_180 0 59 (dk_at dksX18_opens_1 0 rfl rfl)
theorem dX18_opens_27 : decode cX18_opens 27 = .ok (.iconst 1, 1) := dk_4 (dk_at dksX18_opens_1 3 rfl rfl)
theorem dX18_opens_28 : decode cX18_opens 28 = .ok (.iadd, 1) := dk_96 (dk_at dksX18_opens_1 4 rfl rfl)
theorem dX18_opens_29 : decode cX18_opens 29 = .ok (.putfield 59, 3) := dk_181 0 59 (dk_at dksX18_opens_1 5 rfl rfl)
theorem dX18_opens_32 : decode cX18_opens 32 = .ok (.aload_n 0, 1) := dk_42 (dk_at dksX18_opens_1 8 rfl rfl)
theorem dX18_opens_33 : decode cX18_opens 33 = .ok (.dup, 1) := dk_89 (dk_at dksX18_opens_1 9 rfl rfl)
theorem dX18_opens_34 : decode cX18_opens 34 = .ok (.getfield 19, 3) := dk_180 0 19 (dk_at dksX18_opens_1 10 rfl rfl)
theorem dX18_opens_37 : decode cX18_opens 37 = .ok (.iload_n 1, 1) := dk_27 (dk_at dksX18_opens_1 13 rfl rfl)
theorem dX18_opens_38 : decode cX18_opens 38 = .ok (.iadd, 1) := dk_96 (dk_at dksX18_opens_1 14 rfl rfl)
theorem dX18_opens_39 : decode cX18_opens 39 = .ok (.putfield 19, 3) := dk_181 0 19 (dk_at dksX18_opens_1 15 rfl rfl)
theorem dX18_opens_42 : decode cX18_opens 42 = .ok (.return_, 1) := dk_177 (dk_at dksX18_opens_1 18 rfl rfl)
def dkwX18_closes_0 : List UInt8 := [42, 27, 182, 0, 62, 42, 89, 180, 0, 59, 4, 100, 181, 0, 59, 177]
abbrev dktX18_closes_0 : List UInt8 := dkwX18_closes_0 ++ []
theorem dksX18_closes_0 : cX18_closes.data.toList.drop 0 = dktX18_closes_0 := by decide +kernel
theorem dX18_closes_0 : decode cX18_closes 0 = .ok (.aload_n 0, 1) := dk_42 (dk_at dksX18_closes_0 0 rfl rfl)
theorem dX18_closes_1 : decode cX18_closes 1 = .ok (.iload_n 1, 1) := dk_27 (dk_at dksX18_closes_0 1 rfl rfl)
theorem dX18_closes_2 : decode cX18_closes 2 = .ok (.invokevirtual 62, 3) := dk_182 0 62 (dk_at dksX18_closes_0 2 rfl rfl)
theorem dX18_closes_5 : decode cX18_closes 5 = .ok (.aload_n 0, 1) := dk_42 (dk_at dksX18_closes_0 5 rfl rfl)
theorem dX18_closes_6 : decode cX18_closes 6 = .ok (.dup, 1) := dk_89 (dk_at dksX18_closes_0 6 rfl rfl)
theorem dX18_closes_7 : decode cX18_closes 7 = .ok (.getfield 59, 3) := dk_180 0 59 (dk_at dksX18_closes_0 7 rfl rfl)
theorem dX18_closes_10 : decode cX18_closes 10 = .ok (.iconst 1, 1) := dk_4 (dk_at dksX18_closes_0 10 rfl rfl)
theorem dX18_closes_11 : decode cX18_closes 11 = .ok (.isub, 1) := dk_100 (dk_at dksX18_closes_0 11 rfl rfl)
theorem dX18_closes_12 : decode cX18_closes 12 = .ok (.putfield 59, 3) := dk_181 0 59 (dk_at dksX18_closes_0 12 rfl rfl)
theorem dX18_closes_15 : decode cX18_closes 15 = .ok (.return_, 1) := dk_177 (dk_at dksX18_closes_0 15 rfl rfl)
def dkwX18_bound_1 : List UInt8 := [182, 0, 134, 187, 0, 181, 89, 44, 45, 27, 183, 0, 183, 176]
abbrev dktX18_bound_1 : List UInt8 := dkwX18_bound_1 ++ []
def dkwX18_bound_0 : List UInt8 := [42, 182, 0, 178, 42, 182, 0, 82, 77, 42, 16, 44, 182, 0, 62, 42, 182, 0, 82, 78, 42, 16, 41]
abbrev dktX18_bound_0 : List UInt8 := dkwX18_bound_0 ++ dktX18_bound_1
theorem dksX18_bound_0 : cX18_bound.data.toList.drop 0 = dktX18_bound_0 := by decide +kernel
theorem dksX18_bound_1 : cX18_bound.data.toList.drop 23 = dktX18_bound_1 := dk_seg dksX18_bound_0 23 rfl rfl
theorem dX18_bound_0 : decode cX18_bound 0 = .ok (.aload_n 0, 1) := dk_42 (dk_at dksX18_bound_0 0 rfl rfl)
theorem dX18_bound_1 : decode cX18_bound 1 = .ok (.invokevirtual 178, 3) := dk_182 0 178 (dk_at dksX18_bound_0 1 rfl rfl)
theorem dX18_bound_4 : decode cX18_bound 4 = .ok (.aload_n 0, 1) := dk_42 (dk_at dksX18_bound_0 4 rfl rfl)
theorem dX18_bound_5 : decode cX18_bound 5 = .ok (.invokevirtual 82, 3) := dk_182 0 82 (dk_at dksX18_bound_0 5 rfl rfl)
theorem dX18_bound_8 : decode cX18_bound 8 = .ok (.astore_n 2, 1) := dk_77 (dk_at dksX18_bound_0 8 rfl rfl)
theorem dX18_bound_9 : decode cX18_bound 9 = .ok (.aload_n 0, 1) := dk_42 (dk_at dksX18_bound_0 9 rfl rfl)
theorem dX18_bound_10 : decode cX18_bound 10 = .ok (.bipush 44, 2) := dk_16 44 (dk_at dksX18_bound_0 10 rfl rfl)
theorem dX18_bound_12 : decode cX18_bound 12 = .ok (.invokevirtual 62, 3) := dk_182 0 62 (dk_at dksX18_bound_0 12 rfl rfl)
theorem dX18_bound_15 : decode cX18_bound 15 = .ok (.aload_n 0, 1) := dk_42 (dk_at dksX18_bound_0 15 rfl rfl)
theorem dX18_bound_16 : decode cX18_bound 16 = .ok (.invokevirtual 82, 3) := dk_182 0 82 (dk_at dksX18_bound_0 16 rfl rfl)
theorem dX18_bound_19 : decode cX18_bound 19 = .ok (.astore_n 3, 1) := dk_78 (dk_at dksX18_bound_0 19 rfl rfl)
theorem dX18_bound_20 : decode cX18_bound 20 = .ok (.aload_n 0, 1) := dk_42 (dk_at dksX18_bound_0 20 rfl rfl)
theorem dX18_bound_21 : decode cX18_bound 21 = .ok (.bipush 41, 2) := dk_16 41 (dk_at dksX18_bound_0 21 rfl rfl)
theorem dX18_bound_23 : decode cX18_bound 23 = .ok (.invokevirtual 134, 3) := dk_182 0 134 (dk_at dksX18_bound_1 0 rfl rfl)
theorem dX18_bound_26 : decode cX18_bound 26 = .ok (.new 181, 3) := dk_187 0 181 (dk_at dksX18_bound_1 3 rfl rfl)
theorem dX18_bound_29 : decode cX18_bound 29 = .ok (.dup, 1) := dk_89 (dk_at dksX18_bound_1 6 rfl rfl)
theorem dX18_bound_30 : decode cX18_bound 30 = .ok (.aload_n 2, 1) := dk_44 (dk_at dksX18_bound_1 7 rfl rfl)
theorem dX18_bound_31 : decode cX18_bound 31 = .ok (.aload_n 3, 1) := dk_45 (dk_at dksX18_bound_1 8 rfl rfl)
theorem dX18_bound_32 : decode cX18_bound 32 = .ok (.iload_n 1, 1) := dk_27 (dk_at dksX18_bound_1 9 rfl rfl)
theorem dX18_bound_33 : decode cX18_bound 33 = .ok (.invokespecial 183, 3) := dk_183 0 183 (dk_at dksX18_bound_1 10 rfl rfl)
theorem dX18_bound_36 : decode cX18_bound 36 = .ok (.areturn, 1) := dk_176 (dk_at dksX18_bound_1 13 rfl rfl)
def dkwX18_bracket_0 : List UInt8 := [42, 182, 0, 22, 16, 40, 159, 0, 8, 42, 182, 0, 55, 191, 42, 4, 182, 0, 131, 177]
abbrev dktX18_bracket_0 : List UInt8 := dkwX18_bracket_0 ++ []
theorem dksX18_bracket_0 : cX18_bracket.data.toList.drop 0 = dktX18_bracket_0 := by decide +kernel
theorem dX18_bracket_0 : decode cX18_bracket 0 = .ok (.aload_n 0, 1) := dk_42 (dk_at dksX18_bracket_0 0 rfl rfl)
theorem dX18_bracket_1 : decode cX18_bracket 1 = .ok (.invokevirtual 22, 3) := dk_182 0 22 (dk_at dksX18_bracket_0 1 rfl rfl)
theorem dX18_bracket_4 : decode cX18_bracket 4 = .ok (.bipush 40, 2) := dk_16 40 (dk_at dksX18_bracket_0 4 rfl rfl)
theorem dX18_bracket_6 : decode cX18_bracket 6 = .ok (.if_icmp .eq 8, 3) := dk_159 0 8 (dk_at dksX18_bracket_0 6 rfl rfl)
theorem dX18_bracket_9 : decode cX18_bracket 9 = .ok (.aload_n 0, 1) := dk_42 (dk_at dksX18_bracket_0 9 rfl rfl)
theorem dX18_bracket_10 : decode cX18_bracket 10 = .ok (.invokevirtual 55, 3) := dk_182 0 55 (dk_at dksX18_bracket_0 10 rfl rfl)
theorem dX18_bracket_13 : decode cX18_bracket 13 = .ok (.athrow, 1) := dk_191 (dk_at dksX18_bracket_0 13 rfl rfl)
theorem dX18_bracket_14 : decode cX18_bracket 14 = .ok (.aload_n 0, 1) := dk_42 (dk_at dksX18_bracket_0 14 rfl rfl)
theorem dX18_bracket_15 : decode cX18_bracket 15 = .ok (.iconst 1, 1) := dk_4 (dk_at dksX18_bracket_0 15 rfl rfl)
theorem dX18_bracket_16 : decode cX18_bracket 16 = .ok (.invokevirtual 131, 3) := dk_182 0 131 (dk_at dksX18_bracket_0 16 rfl rfl)
theorem dX18_bracket_19 : decode cX18_bracket 19 = .ok (.return_, 1) := dk_177 (dk_at dksX18_bracket_0 19 rfl rfl)
def dkwX18_choice_2 : List UInt8 := [176]
abbrev dktX18_choice_2 : List UInt8 := dkwX18_choice_2 ++ []
def dkwX18_choice_1 : List UInt8 := [182, 0, 62, 42, 182, 0, 82, 78, 42, 16, 41, 182, 0, 134, 187, 0, 190, 89, 43, 44, 45, 183, 0, 192]
abbrev dktX18_choice_1 : List UInt8 := dkwX18_choice_1 ++ dktX18_choice_2
def dkwX18_choice_0 : List UInt8 := [42, 182, 0, 178, 42, 182, 0, 186, 76, 42, 16, 44, 182, 0, 62, 42, 182, 0, 82, 77, 42, 16, 44]
abbrev dktX18_choice_0 : List UInt8 := dkwX18_choice_0 ++ dktX18_choice_1
theorem dksX18_choice_0 : cX18_choice.data.toList.drop 0 = dktX18_choice_0 := by decide +kernel
theorem dksX18_choice_1 : cX18_choice.data.toList.drop 23 = dktX18_choice_1 := dk_seg dksX18_choice_0 23 rfl rfl
theorem dksX18_choice_2 : cX18_choice.data.toList.drop 47 = dktX18_choice_2 := dk_seg dksX18_choice_1 24 rfl rfl
theorem dX18_choice_0 : decode cX18_choice 0 = .ok (.aload_n 0, 1) := dk_42 (dk_at dksX18_choice_0 0 rfl rfl)
theorem dX18_choice_1 : decode cX18_choice 1 = .ok (.invokevirtual 178, 3) := dk_182 0 178 (dk_at dksX18_choice_0 1 rfl rfl)
theorem dX18_choice_4 : decode cX18_choice 4 = .ok (.aload_n 0, 1) := dk_42 (dk_at dksX18_choice_0 4 rfl rfl)
theorem dX18_choice_5 : decode cX18_choice 5 = .ok (.invokevirtual 186, 3) := dk_182 0 186 (dk_at dksX18_choice_0 5 rfl rfl)
theorem dX18_choice_8 : decode cX18_choice 8 = .ok (.astore_n 1, 1) := dk_76 (dk_at dksX18_choice_0 8 rfl rfl)
theorem dX18_choice_9 : decode cX18_choice 9 = .ok (.aload_n 0, 1) := dk_42 (dk_at dksX18_choice_0 9 rfl rfl)
theorem dX18_choice_10 : decode cX18_choice 10 = .ok (.bipush 44, 2) := dk_16 44 (dk_at dksX18_choice_0 10 rfl rfl)
theorem dX18_choice_12 : decode cX18_choice 12 = .ok (.invokevirtual 62, 3) := dk_182 0 62 (dk_at dksX18_choice_0 12 rfl rfl)
theorem dX18_choice_15 : decode cX18_choice 15 = .ok (.aload_n 0, 1) := dk_42 (dk_at dksX18_choice_0 15 rfl rfl)
theorem dX18_choice_16 : decode cX18_choice 16 = .ok (.invokevirtual 82, 3) := dk_182 0 82 (dk_at dksX18_choice_0 16 rfl rfl)
theorem dX18_choice_19 : decode cX18_choice 19 = .ok (.astore_n 2, 1) := dk_77 (dk_at dksX18_choice_0 19 rfl rfl)
theorem dX18_choice_20 : decode cX18_choice 20 = .ok (.aload_n 0, 1) := dk_42 (dk_at dksX18_choice_0 20 rfl rfl)
theorem dX18_choice_21 : decode cX18_choice 21 = .ok (.bipush 44, 2) := dk_16 44 (dk_at dksX18_choice_0 21 rfl rfl)
theorem dX18_choice_23 : decode cX18_choice 23 = .ok (.invokevirtual 62, 3) := dk_182 0 62 (dk_at dksX18_choice_1 0 rfl rfl)
theorem dX18_choice_26 : decode cX18_choice 26 = .ok (.aload_n 0, 1) := dk_42 (dk_at dksX18_choice_1 3 rfl rfl)
theorem dX18_choice_27 : decode cX18_choice 27 = .ok (.invokevirtual 82, 3) := dk_182 0 82 (dk_at dksX18_choice_1 4 rfl rfl)
theorem dX18_choice_30 : decode cX18_choice 30 = .ok (.astore_n 3, 1) := dk_78 (dk_at dksX18_choice_1 7 rfl rfl)
theorem dX18_choice_31 : decode cX18_choice 31 = .ok (.aload_n 0, 1) := dk_42 (dk_at dksX18_choice_1 8 rfl rfl)
theorem dX18_choice_32 : decode cX18_choice 32 = .ok (.bipush 41, 2) := dk_16 41 (dk_at dksX18_choice_1 9 rfl rfl)
theorem dX18_choice_34 : decode cX18_choice 34 = .ok (.invokevirtual 134, 3) := dk_182 0 134 (dk_at dksX18_choice_1 11 rfl rfl)
theorem dX18_choice_37 : decode cX18_choice 37 = .ok (.new 190, 3) := dk_187 0 190 (dk_at dksX18_choice_1 14 rfl rfl)
theorem dX18_choice_40 : decode cX18_choice 40 = .ok (.dup, 1) := dk_89 (dk_at dksX18_choice_1 17 rfl rfl)
theorem dX18_choice_41 : decode cX18_choice 41 = .ok (.aload_n 1, 1) := dk_43 (dk_at dksX18_choice_1 18 rfl rfl)
theorem dX18_choice_42 : decode cX18_choice 42 = .ok (.aload_n 2, 1) := dk_44 (dk_at dksX18_choice_1 19 rfl rfl)
theorem dX18_choice_43 : decode cX18_choice 43 = .ok (.aload_n 3, 1) := dk_45 (dk_at dksX18_choice_1 20 rfl rfl)
theorem dX18_choice_44 : decode cX18_choice 44 = .ok (.invokespecial 192, 3) := dk_183 0 192 (dk_at dksX18_choice_1 21 rfl rfl)
theorem dX18_choice_47 : decode cX18_choice 47 = .ok (.areturn, 1) := dk_176 (dk_at dksX18_choice_2 0 rfl rfl)
def dkwX18_any_1 : List UInt8 := [182, 0, 88, 154, 255, 238, 43, 176]
abbrev dktX18_any_1 : List UInt8 := dkwX18_any_1 ++ []
def dkwX18_any_0 : List UInt8 := [187, 0, 195, 89, 183, 0, 197, 76, 43, 180, 0, 198, 42, 182, 0, 202, 182, 0, 205, 87, 42, 18, 210]
abbrev dktX18_any_0 : List UInt8 := dkwX18_any_0 ++ dktX18_any_1
theorem dksX18_any_0 : cX18_any.data.toList.drop 0 = dktX18_any_0 := by decide +kernel
theorem dksX18_any_1 : cX18_any.data.toList.drop 23 = dktX18_any_1 := dk_seg dksX18_any_0 23 rfl rfl
theorem dX18_any_0 : decode cX18_any 0 = .ok (.new 195, 3) := dk_187 0 195 (dk_at dksX18_any_0 0 rfl rfl)
theorem dX18_any_3 : decode cX18_any 3 = .ok (.dup, 1) := dk_89 (dk_at dksX18_any_0 3 rfl rfl)
theorem dX18_any_4 : decode cX18_any 4 = .ok (.invokespecial 197, 3) := dk_183 0 197 (dk_at dksX18_any_0 4 rfl rfl)
theorem dX18_any_7 : decode cX18_any 7 = .ok (.astore_n 1, 1) := dk_76 (dk_at dksX18_any_0 7 rfl rfl)
theorem dX18_any_8 : decode cX18_any 8 = .ok (.aload_n 1, 1) := dk_43 (dk_at dksX18_any_0 8 rfl rfl)
theorem dX18_any_9 : decode cX18_any 9 = .ok (.getfield 198, 3) := dk_180 0 198 (dk_at dksX18_any_0 9 rfl rfl)
theorem dX18_any_12 : decode cX18_any 12 = .ok (.aload_n 0, 1) := dk_42 (dk_at dksX18_any_0 12 rfl rfl)
theorem dX18_any_13 : decode cX18_any 13 = .ok (.invokevirtual 202, 3) := dk_182 0 202 (dk_at dksX18_any_0 13 rfl rfl)
theorem dX18_any_16 : decode cX18_any 16 = .ok (.invokevirtual 205, 3) := dk_182 0 205 (dk_at dksX18_any_0 16 rfl rfl)
theorem dX18_any_19 : decode cX18_any 19 = .ok (.pop, 1) := dk_87 (dk_at dksX18_any_0 19 rfl rfl)
theorem dX18_any_20 : decode cX18_any 20 = .ok (.aload_n 0, 1) := dk_42 (dk_at dksX18_any_0 20 rfl rfl)
theorem dX18_any_21 : decode cX18_any 21 = .ok (.ldc 210, 2) := dk_18 210 (dk_at dksX18_any_0 21 rfl rfl)
theorem dX18_any_23 : decode cX18_any 23 = .ok (.invokevirtual 88, 3) := dk_182 0 88 (dk_at dksX18_any_1 0 rfl rfl)
theorem dX18_any_26 : decode cX18_any 26 = .ok (.ifCond .ne (-18), 3) := dk_154 255 238 (dk_at dksX18_any_1 3 rfl rfl)
theorem dX18_any_29 : decode cX18_any 29 = .ok (.aload_n 1, 1) := dk_43 (dk_at dksX18_any_1 6 rfl rfl)
theorem dX18_any_30 : decode cX18_any 30 = .ok (.areturn, 1) := dk_176 (dk_at dksX18_any_1 7 rfl rfl)
def dkwX18_all_1 : List UInt8 := [182, 0, 88, 154, 255, 238, 43, 176]
abbrev dktX18_all_1 : List UInt8 := dkwX18_all_1 ++ []
def dkwX18_all_0 : List UInt8 := [187, 0, 212, 89, 183, 0, 214, 76, 43, 180, 0, 215, 42, 182, 0, 216, 182, 0, 205, 87, 42, 18, 219]
abbrev dktX18_all_0 : List UInt8 := dkwX18_all_0 ++ dktX18_all_1
theorem dksX18_all_0 : cX18_all.data.toList.drop 0 = dktX18_all_0 := by decide +kernel
theorem dksX18_all_1 : cX18_all.data.toList.drop 23 = dktX18_all_1 := dk_seg dksX18_all_0 23 rfl rfl
theorem dX18_all_0 : decode cX18_all 0 = .ok (.new 212, 3) := dk_187 0 212 (dk_at dksX18_all_0 0 rfl rfl)
theorem dX18_all_3 : decode cX18_all 3 = .ok (.dup, 1) := dk_89 (dk_at dksX18_all_0 3 rfl rfl)
theorem dX18_all_4 : decode cX18_all 4 = .ok (.invokespecial 214, 3) := dk_183 0 214 (dk_at dksX18_all_0 4 rfl rfl)
theorem dX18_all_7 : decode cX18_all 7 = .ok (.astore_n 1, 1) := dk_76 (dk_at dksX18_all_0 7 rfl rfl)
theorem dX18_all_8 : decode cX18_all 8 = .ok (.aload_n 1, 1) := dk_43 (dk_at dksX18_all_0 8 rfl rfl)
theorem dX18_all_9 : decode cX18_all 9 = .ok (.getfield 215, 3) := dk_180 0 215 (dk_at dksX18_all_0 9 rfl rfl)
theorem dX18_all_12 : decode cX18_all 12 = .ok (.aload_n 0, 1) := dk_42 (dk_at dksX18_all_0 12 rfl rfl)
theorem dX18_all_13 : decode cX18_all 13 = .ok (.invokevirtual 216, 3) := dk_182 0 216 (dk_at dksX18_all_0 13 rfl rfl)
theorem dX18_all_16 : decode cX18_all 16 = .ok (.invokevirtual 205, 3) := dk_182 0 205 (dk_at dksX18_all_0 16 rfl rfl)
theorem dX18_all_19 : decode cX18_all 19 = .ok (.pop, 1) := dk_87 (dk_at dksX18_all_0 19 rfl rfl)
theorem dX18_all_20 : decode cX18_all 20 = .ok (.aload_n 0, 1) := dk_42 (dk_at dksX18_all_0 20 rfl rfl)
theorem dX18_all_21 : decode cX18_all 21 = .ok (.ldc 219, 2) := dk_18 219 (dk_at dksX18_all_0 21 rfl rfl)
theorem dX18_all_23 : decode cX18_all 23 = .ok (.invokevirtual 88, 3) := dk_182 0 88 (dk_at dksX18_all_1 0 rfl rfl)
theorem dX18_all_26 : decode cX18_all 26 = .ok (.ifCond .ne (-18), 3) := dk_154 255 238 (dk_at dksX18_all_1 3 rfl rfl)
theorem dX18_all_29 : decode cX18_all 29 = .ok (.aload_n 1, 1) := dk_43 (dk_at dksX18_all_1 6 rfl rfl)
theorem dX18_all_30 : decode cX18_all 30 = .ok (.areturn, 1) := dk_176 (dk_at dksX18_all_1 7 rfl rfl)
def dkwX18_one_5 : List UInt8 := [43, 28, 146, 42, 182, 0, 82, 183, 0, 230, 176]
abbrev dktX18_one_5 : List UInt8 := dkwX18_one_5 ++ []
def dkwX18_one_4 : List UInt8 := [16, 61, 159, 0, 8, 42, 182, 0, 55, 191, 42, 89, 180, 0, 19, 4, 96, 181, 0, 19, 187, 0, 228, 89]
abbrev dktX18_one_4 : List UInt8 := dkwX18_one_4 ++ dktX18_one_5
def dkwX18_one_3 : List UInt8 := [42, 182, 0, 82, 76, 42, 182, 0, 22, 61, 28, 16, 60, 159, 0, 20, 28, 16, 62, 159, 0, 14, 28]
abbrev dktX18_one_3 : List UInt8 := dkwX18_one_3 ++ dktX18_one_4
def dkwX18_one_2 : List UInt8 := [187, 0, 223, 89, 42, 182, 0, 216, 183, 0, 225, 76, 42, 89, 180, 0, 59, 4, 100, 181, 0, 59, 43, 176]
abbrev dktX18_one_2 : List UInt8 := dkwX18_one_2 ++ dktX18_one_3
def dkwX18_one_1 : List UInt8 := [182, 0, 134, 43, 176, 42, 182, 0, 40, 18, 221, 182, 0, 43, 153, 0, 32, 42, 6, 182, 0, 131]
abbrev dktX18_one_1 : List UInt8 := dkwX18_one_1 ++ dktX18_one_2
def dkwX18_one_0 : List UInt8 := [42, 182, 0, 22, 16, 91, 160, 0, 21, 42, 4, 182, 0, 131, 42, 182, 0, 186, 76, 42, 16, 93]
abbrev dktX18_one_0 : List UInt8 := dkwX18_one_0 ++ dktX18_one_1
theorem dksX18_one_0 : cX18_one.data.toList.drop 0 = dktX18_one_0 := by decide +kernel
theorem dksX18_one_1 : cX18_one.data.toList.drop 22 = dktX18_one_1 := dk_seg dksX18_one_0 22 rfl rfl
theorem dksX18_one_2 : cX18_one.data.toList.drop 44 = dktX18_one_2 := dk_seg dksX18_one_1 22 rfl rfl
theorem dksX18_one_3 : cX18_one.data.toList.drop 68 = dktX18_one_3 := dk_seg dksX18_one_2 24 rfl rfl
theorem dksX18_one_4 : cX18_one.data.toList.drop 91 = dktX18_one_4 := dk_seg dksX18_one_3 23 rfl rfl
theorem dksX18_one_5 : cX18_one.data.toList.drop 115 = dktX18_one_5 := dk_seg dksX18_one_4 24 rfl rfl
theorem dX18_one_0 : decode cX18_one 0 = .ok (.aload_n 0, 1) := dk_42 (dk_at dksX18_one_0 0 rfl rfl)
theorem dX18_one_1 : decode cX18_one 1 = .ok (.invokevirtual 22, 3) := dk_182 0 22 (dk_at dksX18_one_0 1 rfl rfl)
theorem dX18_one_4 : decode cX18_one 4 = .ok (.bipush 91, 2) := dk_16 91 (dk_at dksX18_one_0 4 rfl rfl)
theorem dX18_one_6 : decode cX18_one 6 = .ok (.if_icmp .ne 21, 3) := dk_160 0 21 (dk_at dksX18_one_0 6 rfl rfl)
theorem dX18_one_9 : decode cX18_one 9 = .ok (.aload_n 0, 1) := dk_42 (dk_at dksX18_one_0 9 rfl rfl)
theorem dX18_one_10 : decode cX18_one 10 = .ok (.iconst 1, 1) := dk_4 (dk_at dksX18_one_0 10 rfl rfl)
theorem dX18_one_11 : decode cX18_one 11 = .ok (.invokevirtual 131, 3) := dk_182 0 131 (dk_at dksX18_one_0 11 rfl rfl)
theorem dX18_one_14 : decode cX18_one 14 = .ok (.aload_n 0, 1) := dk_42 (dk_at dksX18_one_0 14 rfl rfl)
theorem dX18_one_15 : decode cX18_one 15 = .ok (.invokevirtual 186, 3) := dk_182 0 186 (dk_at dksX18_one_0 15 rfl rfl)
theorem dX18_one_18 : decode cX18_one 18 = .ok (.astore_n 1, 1) := dk_76 (dk_at dksX18_one_0 18 rfl rfl)
theorem dX18_one_19 : decode cX18_one 19 = .ok (.aload_n 0, 1) := dk_42 (dk_at dksX18_one_0 19 rfl rfl)
theorem dX18_one_20 : decode cX18_one 20 = .ok (.bipush 93, 2) := dk_16 93 (dk_at dksX18_one_0 20 rfl rfl)
theorem dX18_one_22 : decode cX18_one 22 = .ok (.invokevirtual 134, 3) := dk_182 0 134 (dk_at dksX18_one_1 0 rfl rfl)
theorem dX18_one_25 : decode cX18_one 25 = .ok (.aload_n 1, 1) := dk_43 (dk_at dksX18_one_1 3 rfl rfl)
theorem dX18_one_26 : decode cX18_one 26 = .ok (.areturn, 1) := dk_176 (dk_at dksX18_one_1 4 rfl rfl)
theorem dX18_one_27 : decode cX18_one 27 = .ok (.aload_n 0, 1) := dk_42 (dk_at dksX18_one_1 5 rfl rfl)
theorem dX18_one_28 : decode cX18_one 28 = .ok (.invokevirtual 40, 3) := dk_182 0 40 (dk_at dksX18_one_1 6 rfl rfl)
theorem dX18_one_31 : decode cX18_one 31 = .ok (.ldc 221, 2) := dk_18 221 (dk_at dksX18_one_1 9 rfl rfl)
theorem dX18_one_33 : decode cX18_one 33 = .ok (.invokevirtual 43, 3) := dk_182 0 43 (dk_at dksX18_one_1 11 rfl rfl)
theorem dX18_one_36 : decode cX18_one 36 = .ok (.ifCond .eq 32, 3) := dk_153 0 32 (dk_at dksX18_one_1 14 rfl rfl)
theorem dX18_one_39 : decode cX18_one 39 = .ok (.aload_n 0, 1) := dk_42 (dk_at dksX18_one_1 17 rfl rfl)
theorem dX18_one_40 : decode cX18_one 40 = .ok (.iconst 3, 1) := dk_6 (dk_at dksX18_one_1 18 rfl rfl)
theorem dX18_one_41 : decode cX18_one 41 = .ok (.invokevirtual 131, 3) := dk_182 0 131 (dk_at dksX18_one_1 19 rfl rfl)
theorem dX18_one_44 : decode cX18_one 44 = .ok (.new 223, 3) := dk_187 0 223 (dk_at dksX18_one_2 0 rfl rfl)
theorem dX18_one_47 : decode cX18_one 47 = .ok (.dup, 1) := dk_89 (dk_at dksX18_one_2 3 rfl rfl)
theorem dX18_one_48 : decode cX18_one 48 = .ok (.aload_n 0, 1) := dk_42 (dk_at dksX18_one_2 4 rfl rfl)
theorem dX18_one_49 : decode cX18_one 49 = .ok (.invokevirtual 216, 3) := dk_182 0 216 (dk_at dksX18_one_2 5 rfl rfl)
theorem dX18_one_52 : decode cX18_one 52 = .ok (.invokespecial 225, 3) := dk_183 0 225 (dk_at dksX18_one_2 8 rfl rfl)
theorem dX18_one_55 : decode cX18_one 55 = .ok (.astore_n 1, 1) := dk_76 (dk_at dksX18_one_2 11 rfl rfl)
theorem dX18_one_56 : decode cX18_one 56 = .ok (.aload_n 0, 1) := dk_42 (dk_at dksX18_one_2 12 rfl rfl)
theorem dX18_one_57 : decode cX18_one 57 = .ok (.dup, 1) := dk_89 (dk_at dksX18_one_2 13 rfl rfl)
theorem dX18_one_58 : decode cX18_one 58 = .ok (.getfield 59, 3) := dk_180 0 59 (dk_at dksX18_one_2 14 rfl rfl)
theorem dX18_one_61 : decode cX18_one 61 = .ok (.iconst 1, 1) := dk_4 (dk_at dksX18_one_2 17 rfl rfl)
theorem dX18_one_62 : decode cX18_one 62 = .ok (.isub, 1) := dk_100 (dk_at dksX18_one_2 18 rfl rfl)
theorem dX18_one_63 : decode cX18_one 63 = .ok (.putfield 59, 3) := dk_181 0 59 (dk_at dksX18_one_2 19 rfl rfl)
theorem dX18_one_66 : decode cX18_one 66 = .ok (.aload_n 1, 1) := dk_43 (dk_at dksX18_one_2 22 rfl rfl)
theorem dX18_one_67 : decode cX18_one 67 = .ok (.areturn, 1) := dk_176 (dk_at dksX18_one_2 23 rfl rfl)
theorem dX18_one_68 : decode cX18_one 68 = .ok (.aload_n 0, 1) := dk_42 (dk_at dksX18_one_3 0 rfl rfl)
theorem dX18_one_69 : decode cX18_one 69 = .ok (.invokevirtual 82, 3) := dk_182 0 82 (dk_at dksX18_one_3 1 rfl rfl)
theorem dX18_one_72 : decode cX18_one 72 = .ok (.astore_n 1, 1) := dk_76 (dk_at dksX18_one_3 4 rfl rfl)
theorem dX18_one_73 : decode cX18_one 73 = .ok (.aload_n 0, 1) := dk_42 (dk_at dksX18_one_3 5 rfl rfl)
theorem dX18_one_74 : decode cX18_one 74 = .ok (.invokevirtual 22, 3) := dk_182 0 22 (dk_at dksX18_one_3 6 rfl rfl)
theorem dX18_one_77 : decode cX18_one 77 = .ok (.istore_n 2, 1) := dk_61 (dk_at dksX18_one_3 9 rfl rfl)
theorem dX18_one_78 : decode cX18_one 78 = .ok (.iload_n 2, 1) := dk_28 (dk_at dksX18_one_3 10 rfl rfl)
theorem dX18_one_79 : decode cX18_one 79 = .ok (.bipush 60, 2) := dk_16 60 (dk_at dksX18_one_3 11 rfl rfl)
theorem dX18_one_81 : decode cX18_one 81 = .ok (.if_icmp .eq 20, 3) := dk_159 0 20 (dk_at dksX18_one_3 13 rfl rfl)
theorem dX18_one_84 : decode cX18_one 84 = .ok (.iload_n 2, 1) := dk_28 (dk_at dksX18_one_3 16 rfl rfl)
theorem dX18_one_85 : decode cX18_one 85 = .ok (.bipush 62, 2) := dk_16 62 (dk_at dksX18_one_3 17 rfl rfl)
theorem dX18_one_87 : decode cX18_one 87 = .ok (.if_icmp .eq 14, 3) := dk_159 0 14 (dk_at dksX18_one_3 19 rfl rfl)
theorem dX18_one_90 : decode cX18_one 90 = .ok (.iload_n 2, 1) := dk_28 (dk_at dksX18_one_3 22 rfl rfl)
theorem dX18_one_91 : decode cX18_one 91 = .ok (.bipush 61, 2) := dk_16 61 (dk_at dksX18_one_4 0 rfl rfl)
theorem dX18_one_93 : decode cX18_one 93 = .ok (.if_icmp .eq 8, 3) := dk_159 0 8 (dk_at dksX18_one_4 2 rfl rfl)
theorem dX18_one_96 : decode cX18_one 96 = .ok (.aload_n 0, 1) := dk_42 (dk_at dksX18_one_4 5 rfl rfl)
theorem dX18_one_97 : decode cX18_one 97 = .ok (.invokevirtual 55, 3) := dk_182 0 55 (dk_at dksX18_one_4 6 rfl rfl)
theorem dX18_one_100 : decode cX18_one 100 = .ok (.athrow, 1) := dk_191 (dk_at dksX18_one_4 9 rfl rfl)
theorem dX18_one_101 : decode cX18_one 101 = .ok (.aload_n 0, 1) := dk_42 (dk_at dksX18_one_4 10 rfl rfl)
theorem dX18_one_102 : decode cX18_one 102 = .ok (.dup, 1) := dk_89 (dk_at dksX18_one_4 11 rfl rfl)
theorem dX18_one_103 : decode cX18_one 103 = .ok (.getfield 19, 3) := dk_180 0 19 (dk_at dksX18_one_4 12 rfl rfl)
theorem dX18_one_106 : decode cX18_one 106 = .ok (.iconst 1, 1) := dk_4 (dk_at dksX18_one_4 15 rfl rfl)
theorem dX18_one_107 : decode cX18_one 107 = .ok (.iadd, 1) := dk_96 (dk_at dksX18_one_4 16 rfl rfl)
theorem dX18_one_108 : decode cX18_one 108 = .ok (.putfield 19, 3) := dk_181 0 19 (dk_at dksX18_one_4 17 rfl rfl)
theorem dX18_one_111 : decode cX18_one 111 = .ok (.new 228, 3) := dk_187 0 228 (dk_at dksX18_one_4 20 rfl rfl)
theorem dX18_one_114 : decode cX18_one 114 = .ok (.dup, 1) := dk_89 (dk_at dksX18_one_4 23 rfl rfl)
theorem dX18_one_115 : decode cX18_one 115 = .ok (.aload_n 1, 1) := dk_43 (dk_at dksX18_one_5 0 rfl rfl)
theorem dX18_one_116 : decode cX18_one 116 = .ok (.iload_n 2, 1) := dk_28 (dk_at dksX18_one_5 1 rfl rfl)
theorem dX18_one_117 : decode cX18_one 117 = .ok (.i2c, 1) := dk_146 (dk_at dksX18_one_5 2 rfl rfl)
theorem dX18_one_118 : decode cX18_one 118 = .ok (.aload_n 0, 1) := dk_42 (dk_at dksX18_one_5 3 rfl rfl)
theorem dX18_one_119 : decode cX18_one 119 = .ok (.invokevirtual 82, 3) := dk_182 0 82 (dk_at dksX18_one_5 4 rfl rfl)
theorem dX18_one_122 : decode cX18_one 122 = .ok (.invokespecial 230, 3) := dk_183 0 230 (dk_at dksX18_one_5 7 rfl rfl)
theorem dX18_one_125 : decode cX18_one 125 = .ok (.areturn, 1) := dk_176 (dk_at dksX18_one_5 10 rfl rfl)
