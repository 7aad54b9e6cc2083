set_option maxRecDepth 100000
def dkwX1_init_5 : List UInt8 := [188, 10, 181, 0, 62, 177]
abbrev dktX1_init_5 : List UInt8 := dkwX1_init_5 ++ []
def dkwX1_init_4 : List UInt8 := [6, 188, 10, 181, 0, 53, 42, 5, 188, 10, 181, 0, 56, 42, 5, 188, 10, 181, 0, 59, 42, 17, 0, 196]
abbrev dktX1_init_4 : List UInt8 := dkwX1_init_4 ++ dktX1_init_5
def dkwX1_init_3 : List UInt8 := [89, 7, 183, 0, 32, 181, 0, 42, 42, 16, 100, 188, 4, 181, 0, 45, 42, 6, 188, 10, 181, 0, 49, 42]
abbrev dktX1_init_3 : List UInt8 := dkwX1_init_3 ++ dktX1_init_4
def dkwX1_init_2 : List UInt8 := [89, 7, 183, 0, 32, 181, 0, 35, 42, 187, 0, 30, 89, 7, 183, 0, 32, 181, 0, 39, 42, 187, 0, 30]
abbrev dktX1_init_2 : List UInt8 := dkwX1_init_2 ++ dktX1_init_3
def dkwX1_init_1 : List UInt8 := [183, 0, 16, 181, 0, 19, 42, 2, 181, 0, 22, 42, 17, 1, 44, 188, 8, 181, 0, 26, 42, 187, 0, 30]
abbrev dktX1_init_1 : List UInt8 := dkwX1_init_1 ++ dktX1_init_2
def dkwX1_init_0 : List UInt8 := [42, 183, 0, 3, 42, 187, 0, 9, 89, 183, 0, 11, 181, 0, 12, 42, 187, 0, 9, 89, 42, 180, 0, 12]
abbrev dktX1_init_0 : List UInt8 := dkwX1_init_0 ++ dktX1_init_1
theorem dksX1_init_0 : cX1_init.data.toList.drop 0 = dktX1_init_0 := by decide +kernel
theorem dksX1_init_1 : cX1_init.data.toList.drop 24 = dktX1_init_1 := dk_seg dksX1_init_0 24 rfl rfl
theorem dksX1_init_2 : cX1_init.data.toList.drop 48 = dktX1_init_2 := dk_seg dksX1_init_1 24 rfl rfl
theorem dksX1_init_3 : cX1_init.data.toList.drop 72 = dktX1_init_3 := dk_seg dksX1_init_2 24 rfl rfl
theorem dksX1_init_4 : cX1_init.data.toList.drop 96 = dktX1_init_4 := dk_seg dksX1_init_3 24 rfl rfl
theorem dksX1_init_5 : cX1_init.data.toList.drop 120 = dktX1_init_5 := dk_seg dksX1_init_4 24 rfl rfl
theorem dX1_init_0 : decode cX1_init 0 = .ok (.aload_n 0, 1) := dk_42 (dk_at dksX1_init_0 0 rfl rfl)
theorem dX1_init_1 : decode cX1_init 1 = .ok (.invokespecial 3, 3) := dk_183 0 3 (dk_at dksX1_init_0 1 rfl rfl)
theorem dX1_init_4 : decode cX1_init 4 = .ok (.aload_n 0, 1) := dk_42 (dk_at dksX1_init_0 4 rfl rfl)
theorem dX1_init_5 : decode cX1_init 5 = .ok (.new 9, 3) := dk_187 0 9 (dk_at dksX1_init_0 5 rfl rfl)
theorem dX1_init_8 : decode cX1_init 8 = .ok (.dup, 1) := dk_89 (dk_at dksX1_init_0 8 rfl rfl)
theorem dX1_init_9 : decode cX1_init 9 = .ok (.invokespecial 11, 3) := dk_183 0 11 (dk_at dksX1_init_0 9 rfl rfl)
theorem dX1_init_12 : decode cX1_init 12 = .ok (.putfield 12, 3) := dk_181 0 12 (dk_at dksX1_init_0 12 rfl rfl)
theorem dX1_init_15 : decode cX1_init 15 = .ok (.aload_n 0, 1) := dk_42 (dk_at dksX1_init_0 15 rfl rfl)
theorem dX1_init_16 : decode cX1_init 16 = .ok (.new 9, 3) := dk_187 0 9 (dk_at dksX1_init_0 16 rfl rfl)
theorem dX1_init_19 : decode cX1_init 19 = .ok (.dup, 1) := dk_89 (dk_at dksX1_init_0 19 rfl rfl)
theorem dX1_init_20 : decode cX1_init 20 = .ok (.aload_n 0, 1) := dk_42 (dk_at dksX1_init_0 20 rfl rfl)
theorem dX1_init_21 : decode cX1_init 21 = .ok (.getfield 12, 3) := dk_180 0 12 (dk_at dksX1_init_0 21 rfl rfl)
theorem dX1_init_24 : decode cX1_init 24 = .ok (.invokespecial 16, 3) := dk_183 0 16 (dk_at dksX1_init_1 0 rfl rfl)
theorem dX1_init_27 : decode cX1_init 27 = .ok (.putfield 19, 3) := dk_181 0 19 (dk_at dksX1_init_1 3 rfl rfl)
theorem dX1_init_30 : decode cX1_init 30 = .ok (.aload_n 0, 1) := dk_42 (dk_at dksX1_init_1 6 rfl rfl)
theorem dX1_init_31 : decode cX1_init 31 = .ok (.iconst (-1), 1) := dk_2 (dk_at dksX1_init_1 7 rfl rfl)
theorem dX1_init_32 : decode cX1_init 32 = .ok (.putfield 22, 3) := dk_181 0 22 (dk_at dksX1_init_1 8 rfl rfl)
theorem dX1_init_35 : decode cX1_init 35 = .ok (.aload_n 0, 1) := dk_42 (dk_at dksX1_init_1 11 rfl rfl)
theorem dX1_init_36 : decode cX1_init 36 = .ok (.sipush 300, 3) := dk_17 1 44 (dk_at dksX1_init_1 12 rfl rfl)
theorem dX1_init_39 : decode cX1_init 39 = .ok (.newarray .byte, 2) := dk_188_8 (dk_at dksX1_init_1 15 rfl rfl)
theorem dX1_init_41 : decode cX1_init 41 = .ok (.putfield 26, 3) := dk_181 0 26 (dk_at dksX1_init_1 17 rfl rfl)
theorem dX1_init_44 : decode cX1_init 44 = .ok (.aload_n 0, 1) := dk_42 (dk_at dksX1_init_1 20 rfl rfl)
theorem dX1_init_45 : decode cX1_init 45 = .ok (.new 30, 3) := dk_187 0 30 (dk_at dksX1_init_1 21 rfl rfl)
theorem dX1_init_48 : decode cX1_init 48 = .ok (.dup, 1) := dk_89 (dk_at dksX1_init_2 0 rfl rfl)
theorem dX1_init_49 : decode cX1_init 49 = .ok (.iconst 4, 1) := dk_7 (dk_at dksX1_init_2 1 rfl rfl)
theorem dX1_init_50 : decode cX1_init 50 = .ok (.invokespecial 32, 3) := dk_183 0 32 (dk_at dksX1_init_2 2 rfl rfl)
theorem dX1_init_53 : decode cX1_init 53 = .ok (.putfield 35, 3) := dk_181 0 35 (dk_at dksX1_init_2 5 rfl rfl)
theorem dX1_init_56 : decode cX1_init 56 = .ok (.aload_n 0, 1) := dk_42 (dk_at dksX1_init_2 8 rfl rfl)
theorem dX1_init_57 : decode cX1_init 57 = .ok (.new 30, 3) := dk_187 0 30 (dk_at dksX1_init_2 9 rfl rfl)
theorem dX1_init_60 : decode cX1_init 60 = .ok (.dup, 1) := dk_89 (dk_at dksX1_init_2 12 rfl rfl)
theorem dX1_init_61 : decode cX1_init 61 = .ok (.iconst 4, 1) := dk_7 (dk_at dksX1_init_2 13 rfl rfl)
theorem dX1_init_62 : decode cX1_init 62 = .ok (.invokespecial 32, 3) := dk_183 0 32 (dk_at dksX1_init_2 14 rfl rfl)
theorem dX1_init_65 : decode cX1_init 65 = .ok (.putfield 39, 3) := dk_181 0 39 (dk_at dksX1_init_2 17 rfl rfl)
theorem dX1_init_68 : decode cX1_init 68 = .ok (.aload_n 0, 1) := dk_42 (dk_at dksX1_init_2 20 rfl rfl)
theorem dX1_init_69 : decode cX1_init 69 = .ok (.new 30, 3) := dk_187 0 30 (dk_at dksX1_init_2 21 rfl rfl)
theorem dX1_init_72 : decode cX1_init 72 = .ok (.dup, 1) := dk_89 (dk_at dksX1_init_3 0 rfl rfl)
theorem dX1_init_73 : decode cX1_init 73 = .ok (.iconst 4, 1) := dk_7 (dk_at dksX1_init_3 1 rfl rfl)
theorem dX1_init_74 : decode cX1_init 74 = .ok (.invokespecial 32, 3) := dk_183 0 32 (dk_at dksX1_init_3 2 rfl rfl)
theorem dX1_init_77 : decode cX1_init 77 = .ok (.putfield 42, 3) := dk_181 0 42 (dk_at dksX1_init_3 5 rfl rfl)
theorem dX1_init_80 : decode cX1_init 80 = .ok (.aload_n 0, 1) := dk_42 (dk_at dksX1_init_3 8 rfl rfl)
theorem dX1_init_81 : decode cX1_init 81 = .ok (.bipush 100, 2) := dk_16 100 (dk_at dksX1_init_3 9 rfl rfl)
theorem dX1_init_83 : decode cX1_init 83 = .ok (.newarray .boolean, 2) := dk_188_4 (dk_at dksX1_init_3 11 rfl rfl)
theorem dX1_init_85 : decode cX1_init 85 = .ok (.putfield 45, 3) := dk_181 0 45 (dk_at dksX1_init_3 13 rfl rfl)
theorem dX1_init_88 : decode cX1_init 88 = .ok (.aload_n 0, 1) := dk_42 (dk_at dksX1_init_3 16 rfl rfl)
theorem dX1_init_89 : decode cX1_init 89 = .ok (.iconst 3, 1) := dk_6 (dk_at dksX1_init_3 17 rfl rfl)
theorem dX1_init_90 : decode cX1_init 90 = .ok (.newarray .int, 2) := dk_188_10 (dk_at dksX1_init_3 18 rfl rfl)
theorem dX1_init_92 : decode cX1_init 92 = .ok (.putfield 49, 3) := dk_181 0 49 (dk_at dksX1_init_3 20 rfl rfl)
theorem dX1_init_95 : decode cX1_init 95 = .ok (.aload_n 0, 1) := dk_42 (dk_at dksX1_init_3 23 rfl rfl)
theorem dX1_init_96 : decode cX1_init 96 = .ok (.iconst 3, 1) := dk_6 (dk_at dksX1_init_4 0 rfl rfl)
theorem dX1_init_97 : decode cX1_init 97 = .ok (.newarray .int, 2) := dk_188_10 (dk_at dksX1_init_4 1 rfl rfl)
theorem dX1_init_99 : decode cX1_init 99 = .ok (.putfield 53, 3) := dk_181 0 53 (dk_at dksX1_init_4 3 rfl rfl)
theorem dX1_init_102 : decode cX1_init 102 = .ok (.aload_n 0, 1) := dk_42 (dk_at dksX1_init_4 6 rfl rfl)
theorem dX1_init_103 : decode cX1_init 103 = .ok (.iconst 2, 1) := dk_5 (dk_at dksX1_init_4 7 rfl rfl)
theorem dX1_init_104 : decode cX1_init 104 = .ok (.newarray .int, 2) := dk_188_10 (dk_at dksX1_init_4 8 rfl rfl)
theorem dX1_init_106 : decode cX1_init 106 = .ok (.putfield 56, 3) := dk_181 0 56 (dk_at dksX1_init_4 10 rfl rfl)
theorem dX1_init_109 : decode cX1_init 109 = .ok (.aload_n 0, 1) := dk_42 (dk_at dksX1_init_4 13 rfl rfl)
theorem dX1_init_110 : decode cX1_init 110 = .ok (.iconst 2, 1) := dk_5 (dk_at dksX1_init_4 14 rfl rfl)
theorem dX1_init_111 : decode cX1_init 111 = .ok (.newarray .int, 2) := dk_188_10 (dk_at dksX1_init_4 15 rfl rfl)
theorem dX1_init_113 : decode cX1_init 113 = .ok (.putfield 59, 3) := dk_181 0 59 (dk_at dksX1_init_4 17 rfl rfl)
theorem dX1_init_116 : decode cX1_init 116 = .ok (.aload_n 0, 1) := dk_42 (dk_at dksX1_init_4 20 rfl rfl)
theorem dX1_init_117 : decode cX1_init 117 = .ok (.sipush 196, 3) := dk_17 0 196 (dk_at dksX1_init_4 21 rfl rfl)
theorem dX1_init_120 : decode cX1_init 120 = .ok (.newarray .int, 2) := dk_188_10 (dk_at dksX1_init_5 0 rfl rfl)
theorem dX1_init_122 : decode cX1_init 122 = .ok (.putfield 62, 3) := dk_181 0 62 (dk_at dksX1_init_5 2 rfl rfl)
theorem dX1_init_125 : decode cX1_init 125 = .ok (.return_, 1) := dk_177 (dk_at dksX1_init_5 5 rfl rfl)
def dkwX1_feed_2 : List UInt8 := [172]
abbrev dktX1_feed_2 : List UInt8 := dkwX1_feed_2 ++ []
def dkwX1_feed_1 : List UInt8 := [182, 1, 89, 42, 29, 182, 1, 89, 42, 21, 4, 182, 1, 89, 42, 21, 5, 182, 1, 89, 42, 180, 1, 86]
abbrev dktX1_feed_1 : List UInt8 := dkwX1_feed_1 ++ dktX1_feed_2
def dkwX1_feed_0 : List UInt8 := [42, 180, 1, 86, 16, 20, 96, 17, 1, 44, 164, 0, 5, 2, 172, 42, 27, 182, 1, 89, 42, 28]
abbrev dktX1_feed_0 : List UInt8 := dkwX1_feed_0 ++ dktX1_feed_1
theorem dksX1_feed_0 : cX1_feed.data.toList.drop 0 = dktX1_feed_0 := by decide +kernel
theorem dksX1_feed_1 : cX1_feed.data.toList.drop 22 = dktX1_feed_1 := dk_seg dksX1_feed_0 22 rfl rfl
theorem dksX1_feed_2 : cX1_feed.data.toList.drop 46 = dktX1_feed_2 := dk_seg dksX1_feed_1 24 rfl rfl
theorem dX1_feed_0 : decode cX1_feed 0 = .ok (.aload_n 0, 1) := dk_42 (dk_at dksX1_feed_0 0 rfl rfl)
theorem dX1_feed_1 : decode cX1_feed 1 = .ok (.getfield 342, 3) := dk_180 1 86 (dk_at dksX1_feed_0 1 rfl rfl)
theorem dX1_feed_4 : decode cX1_feed 4 = .ok (.bipush 20, 2) := dk_16 20 (dk_at dksX1_feed_0 4 rfl rfl)
theorem dX1_feed_6 : decode cX1_feed 6 = .ok (.iadd, 1) := dk_96 (dk_at dksX1_feed_0 6 rfl rfl)
theorem dX1_feed_7 : decode cX1_feed 7 = .ok (.sipush 300, 3) := dk_17 1 44 (dk_at dksX1_feed_0 7 rfl rfl)
theorem dX1_feed_10 : decode cX1_feed 10 = .ok (.if_icmp .le 5, 3) := dk_164 0 5 (dk_at dksX1_feed_0 10 rfl rfl)
theorem dX1_feed_13 : decode cX1_feed 13 = .ok (.iconst (-1), 1) := dk_2 (dk_at dksX1_feed_0 13 rfl rfl)
theorem dX1_feed_14 : decode cX1_feed 14 = .ok (.ireturn, 1) := dk_172 (dk_at dksX1_feed_0 14 rfl rfl)
theorem dX1_feed_15 : decode cX1_feed 15 = .ok (.aload_n 0, 1) := dk_42 (dk_at dksX1_feed_0 15 rfl rfl)
theorem dX1_feed_16 : decode cX1_feed 16 = .ok (.iload_n 1, 1) := dk_27 (dk_at dksX1_feed_0 16 rfl rfl)
theorem dX1_feed_17 : decode cX1_feed 17 = .ok (.invokevirtual 345, 3) := dk_182 1 89 (dk_at dksX1_feed_0 17 rfl rfl)
theorem dX1_feed_20 : decode cX1_feed 20 = .ok (.aload_n 0, 1) := dk_42 (dk_at dksX1_feed_0 20 rfl rfl)
theorem dX1_feed_21 : decode cX1_feed 21 = .ok (.iload_n 2, 1) := dk_28 (dk_at dksX1_feed_0 21 rfl rfl)
theorem dX1_feed_22 : decode cX1_feed 22 = .ok (.invokevirtual 345, 3) := dk_182 1 89 (dk_at dksX1_feed_1 0 rfl rfl)
theorem dX1_feed_25 : decode cX1_feed 25 = .ok (.aload_n 0, 1) := dk_42 (dk_at dksX1_feed_1 3 rfl rfl)
theorem dX1_feed_26 : decode cX1_feed 26 = .ok (.iload_n 3, 1) := dk_29 (dk_at dksX1_feed_1 4 rfl rfl)
theorem dX1_feed_27 : decode cX1_feed 27 = .ok (.invokevirtual 345, 3) := dk_182 1 89 (dk_at dksX1_feed_1 5 rfl rfl)
theorem dX1_feed_30 : decode cX1_feed 30 = .ok (.aload_n 0, 1) := dk_42 (dk_at dksX1_feed_1 8 rfl rfl)
theorem dX1_feed_31 : decode cX1_feed 31 = .ok (.iload 4, 2) := dk_21 4 (dk_at dksX1_feed_1 9 rfl rfl)
theorem dX1_feed_33 : decode cX1_feed 33 = .ok (.invokevirtual 345, 3) := dk_182 1 89 (dk_at dksX1_feed_1 11 rfl rfl)
theorem dX1_feed_36 : decode cX1_feed 36 = .ok (.aload_n 0, 1) := dk_42 (dk_at dksX1_feed_1 14 rfl rfl)
theorem dX1_feed_37 : decode cX1_feed 37 = .ok (.iload 5, 2) := dk_21 5 (dk_at dksX1_feed_1 15 rfl rfl)
theorem dX1_feed_39 : decode cX1_feed 39 = .ok (.invokevirtual 345, 3) := dk_182 1 89 (dk_at dksX1_feed_1 17 rfl rfl)
theorem dX1_feed_42 : decode cX1_feed 42 = .ok (.aload_n 0, 1) := dk_42 (dk_at dksX1_feed_1 20 rfl rfl)
theorem dX1_feed_43 : decode cX1_feed 43 = .ok (.getfield 342, 3) := dk_180 1 86 (dk_at dksX1_feed_1 21 rfl rfl)
theorem dX1_feed_46 : decode cX1_feed 46 = .ok (.ireturn, 1) := dk_172 (dk_at dksX1_feed_2 0 rfl rfl)
def dkwX1_put_1 : List UInt8 := [180, 1, 86, 4, 96, 181, 1, 86, 132, 2, 248, 167, 255, 226, 177]
abbrev dktX1_put_1 : List UInt8 := dkwX1_put_1 ++ []
def dkwX1_put_0 : List UInt8 := [16, 24, 61, 28, 155, 0, 32, 42, 180, 0, 26, 42, 180, 1, 86, 27, 28, 122, 145, 84, 42, 89]
abbrev dktX1_put_0 : List UInt8 := dkwX1_put_0 ++ dktX1_put_1
theorem dksX1_put_0 : cX1_put.data.toList.drop 0 = dktX1_put_0 := by decide +kernel
theorem dksX1_put_1 : cX1_put.data.toList.drop 22 = dktX1_put_1 := dk_seg dksX1_put_0 22 rfl rfl
theorem dX1_put_0 : decode cX1_put 0 = .ok (.bipush 24, 2) := dk_16 24 (dk_at dksX1_put_0 0 rfl rfl)
theorem dX1_put_2 : decode cX1_put 2 = .ok (.istore_n 2, 1) := dk_61 (dk_at dksX1_put_0 2 rfl rfl)
theorem dX1_put_3 : decode cX1_put 3 = .ok (.iload_n 2, 1) := dk_28 (dk_at dksX1_put_0 3 rfl rfl)
theorem dX1_put_4 : decode cX1_put 4 = .ok (.ifCond .lt 32, 3) := dk_155 0 32 (dk_at dksX1_put_0 4 rfl rfl)
theorem dX1_put_7 : decode cX1_put 7 = .ok (.aload_n 0, 1) := dk_42 (dk_at dksX1_put_0 7 rfl rfl)
theorem dX1_put_8 : decode cX1_put 8 = .ok (.getfield 26, 3) := dk_180 0 26 (dk_at dksX1_put_0 8 rfl rfl)
theorem dX1_put_11 : decode cX1_put 11 = .ok (.aload_n 0, 1) := dk_42 (dk_at dksX1_put_0 11 rfl rfl)
theorem dX1_put_12 : decode cX1_put 12 = .ok (.getfield 342, 3) := dk_180 1 86 (dk_at dksX1_put_0 12 rfl rfl)
theorem dX1_put_15 : decode cX1_put 15 = .ok (.iload_n 1, 1) := dk_27 (dk_at dksX1_put_0 15 rfl rfl)
theorem dX1_put_16 : decode cX1_put 16 = .ok (.iload_n 2, 1) := dk_28 (dk_at dksX1_put_0 16 rfl rfl)
theorem dX1_put_17 : decode cX1_put 17 = .ok (.ishr, 1) := dk_122 (dk_at dksX1_put_0 17 rfl rfl)
theorem dX1_put_18 : decode cX1_put 18 = .ok (.i2b, 1) := dk_145 (dk_at dksX1_put_0 18 rfl rfl)
theorem dX1_put_19 : decode cX1_put 19 = .ok (.bastore, 1) := dk_84 (dk_at dksX1_put_0 19 rfl rfl)
theorem dX1_put_20 : decode cX1_put 20 = .ok (.aload_n 0, 1) := dk_42 (dk_at dksX1_put_0 20 rfl rfl)
theorem dX1_put_21 : decode cX1_put 21 = .ok (.dup, 1) := dk_89 (dk_at dksX1_put_0 21 rfl rfl)
theorem dX1_put_22 : decode cX1_put 22 = .ok (.getfield 342, 3) := dk_180 1 86 (dk_at dksX1_put_1 0 rfl rfl)
theorem dX1_put_25 : decode cX1_put 25 = .ok (.iconst 1, 1) := dk_4 (dk_at dksX1_put_1 3 rfl rfl)
theorem dX1_put_26 : decode cX1_put 26 = .ok (.iadd, 1) := dk_96 (dk_at dksX1_put_1 4 rfl rfl)
theorem dX1_put_27 : decode cX1_put 27 = .ok (.putfield 342, 3) := dk_181 1 86 (dk_at dksX1_put_1 5 rfl rfl)
theorem dX1_put_30 : decode cX1_put 30 = .ok (.iinc 2 (-8), 3) := dk_132 2 248 (dk_at dksX1_put_1 8 rfl rfl)
theorem dX1_put_33 : decode cX1_put 33 = .ok (.goto (-30), 3) := dk_167 255 226 (dk_at dksX1_put_1 11 rfl rfl)
theorem dX1_put_36 : decode cX1_put 36 = .ok (.return_, 1) := dk_177 (dk_at dksX1_put_1 14 rfl rfl)
theorem dX1_fault_0 : decode cX1_fault 0 = .ok (.aload_n 0, 1) := by decide +kernel
theorem dX1_fault_1 : decode cX1_fault 1 = .ok (.getfield 22, 3) := by decide +kernel
theorem dX1_fault_4 : decode cX1_fault 4 = .ok (.ireturn, 1) := by decide +kernel
def dkwX1_quoted_0 : List UInt8 := [42, 180, 0, 12, 182, 1, 35, 172]
abbrev dktX1_quoted_0 : List UInt8 := dkwX1_quoted_0 ++ []
theorem dksX1_quoted_0 : cX1_quoted.data.toList.drop 0 = dktX1_quoted_0 := by decide +kernel
theorem dX1_quoted_0 : decode cX1_quoted 0 = .ok (.aload_n 0, 1) := dk_42 (dk_at dksX1_quoted_0 0 rfl rfl)
theorem dX1_quoted_1 : decode cX1_quoted 1 = .ok (.getfield 12, 3) := dk_180 0 12 (dk_at dksX1_quoted_0 1 rfl rfl)
theorem dX1_quoted_4 : decode cX1_quoted 4 = .ok (.invokevirtual 291, 3) := dk_182 1 35 (dk_at dksX1_quoted_0 4 rfl rfl)
theorem dX1_quoted_7 : decode cX1_quoted 7 = .ok (.ireturn, 1) := dk_172 (dk_at dksX1_quoted_0 7 rfl rfl)
def dkwX1_ship_11 : List UInt8 := [96, 181, 1, 154, 42, 180, 1, 154, 4, 100, 172]
abbrev dktX1_ship_11 : List UInt8 := dkwX1_ship_11 ++ []
def dkwX1_ship_10 : List UInt8 := [42, 25, 9, 182, 1, 163, 132, 8, 1, 167, 255, 202, 132, 7, 1, 167, 255, 187, 42, 89, 180, 1, 154, 4]
abbrev dktX1_ship_10 : List UInt8 := dkwX1_ship_10 ++ dktX1_ship_11
def dkwX1_ship_9 : List UInt8 := [182, 0, 90, 21, 7, 8, 183, 0, 196, 58, 9, 42, 180, 0, 12, 180, 0, 87, 25, 9, 182, 0, 199, 87]
abbrev dktX1_ship_9 : List UInt8 := dkwX1_ship_9 ++ dktX1_ship_10
def dkwX1_ship_8 : List UInt8 := [3, 54, 8, 21, 8, 25, 6, 21, 7, 46, 162, 0, 50, 187, 0, 94, 89, 42, 180, 0, 12, 180, 0, 87]
abbrev dktX1_ship_8 : List UInt8 := dkwX1_ship_8 ++ dktX1_ship_9
def dkwX1_ship_7 : List UInt8 := [182, 0, 81, 192, 0, 94, 182, 1, 163, 132, 7, 1, 167, 255, 207, 3, 54, 7, 21, 7, 7, 162, 0, 69]
abbrev dktX1_ship_7 : List UInt8 := dkwX1_ship_7 ++ dktX1_ship_8
def dkwX1_ship_6 : List UInt8 := [180, 0, 35, 21, 7, 182, 0, 81, 192, 0, 94, 180, 0, 212, 154, 0, 19, 42, 42, 180, 0, 35, 21, 7]
abbrev dktX1_ship_6 : List UInt8 := dkwX1_ship_6 ++ dktX1_ship_7
def dkwX1_ship_5 : List UInt8 := [21, 5, 104, 96, 181, 1, 160, 3, 54, 7, 21, 7, 42, 180, 0, 35, 182, 0, 90, 162, 0, 43, 42]
abbrev dktX1_ship_5 : List UInt8 := dkwX1_ship_5 ++ dktX1_ship_6
def dkwX1_ship_4 : List UInt8 := [104, 42, 180, 0, 12, 182, 1, 157, 164, 0, 6, 16, 252, 172, 42, 180, 0, 12, 89, 180, 1, 160, 16, 10]
abbrev dktX1_ship_4 : List UInt8 := dkwX1_ship_4 ++ dktX1_ship_5
def dkwX1_ship_3 : List UInt8 := [180, 0, 12, 180, 0, 87, 182, 0, 90, 21, 5, 96, 16, 100, 164, 0, 6, 16, 253, 172, 16, 10, 21, 5]
abbrev dktX1_ship_3 : List UInt8 := dkwX1_ship_3 ++ dktX1_ship_4
def dkwX1_ship_2 : List UInt8 := [54, 5, 167, 0, 7, 58, 7, 2, 172, 42, 180, 1, 154, 16, 20, 160, 0, 6, 16, 254, 172, 42]
abbrev dktX1_ship_2 : List UInt8 := dkwX1_ship_2 ++ dktX1_ship_3
def dkwX1_ship_1 : List UInt8 := [184, 1, 148, 190, 28, 184, 1, 148, 190, 96, 29, 184, 1, 148, 190, 96, 21, 4, 184, 1, 148, 190, 96]
abbrev dktX1_ship_1 : List UInt8 := dkwX1_ship_1 ++ dktX1_ship_2
def dkwX1_ship_0 : List UInt8 := [7, 188, 10, 89, 3, 27, 79, 89, 4, 28, 79, 89, 5, 29, 79, 89, 6, 21, 4, 79, 58, 6, 27]
abbrev dktX1_ship_0 : List UInt8 := dkwX1_ship_0 ++ dktX1_ship_1
theorem dksX1_ship_0 : cX1_ship.data.toList.drop 0 = dktX1_ship_0 := by decide +kernel
theorem dksX1_ship_1 : cX1_ship.data.toList.drop 23 = dktX1_ship_1 := dk_seg dksX1_ship_0 23 rfl rfl
theorem dksX1_ship_2 : cX1_ship.data.toList.drop 46 = dktX1_ship_2 := dk_seg dksX1_ship_1 23 rfl rfl
theorem dksX1_ship_3 : cX1_ship.data.toList.drop 68 = dktX1_ship_3 := dk_seg dksX1_ship_2 22 rfl rfl
theorem dksX1_ship_4 : cX1_ship.data.toList.drop 92 = dktX1_ship_4 := dk_seg dksX1_ship_3 24 rfl rfl
theorem dksX1_ship_5 : cX1_ship.data.toList.drop 116 = dktX1_ship_5 := dk_seg dksX1_ship_4 24 rfl rfl
theorem dksX1_ship_6 : cX1_ship.data.toList.drop 139 = dktX1_ship_6 := dk_seg dksX1_ship_5 23 rfl rfl
theorem dksX1_ship_7 : cX1_ship.data.toList.drop 163 = dktX1_ship_7 := dk_seg dksX1_ship_6 24 rfl rfl
theorem dksX1_ship_8 : cX1_ship.data.toList.drop 187 = dktX1_ship_8 := dk_seg dksX1_ship_7 24 rfl rfl
theorem dksX1_ship_9 : cX1_ship.data.toList.drop 211 = dktX1_ship_9 := dk_seg dksX1_ship_8 24 rfl rfl
theorem dksX1_ship_10 : cX1_ship.data.toList.drop 235 = dktX1_ship_10 := dk_seg dksX1_ship_9 24 rfl rfl
theorem dksX1_ship_11 : cX1_ship.data.toList.drop 259 = dktX1_ship_11 := dk_seg dksX1_ship_10 24 rfl rfl
theorem dX1_ship_0 : decode cX1_ship 0 = .ok (.iconst 4, 1) := dk_7 (dk_at dksX1_ship_0 0 rfl rfl)
theorem dX1_ship_1 : decode cX1_ship 1 = .ok (.newarray .int, 2) := dk_188_10 (dk_at dksX1_ship_0 1 rfl rfl)
theorem dX1_ship_3 : decode cX1_ship 3 = .ok (.dup, 1) := dk_89 (dk_at dksX1_ship_0 3 rfl rfl)
theorem dX1_ship_4 : decode cX1_ship 4 = .ok (.iconst 0, 1) := dk_3 (dk_at dksX1_ship_0 4 rfl rfl)
theorem dX1_ship_5 : decode cX1_ship 5 = .ok (.iload_n 1, 1) := dk_27 (dk_at dksX1_ship_0 5 rfl rfl)
theorem dX1_ship_6 : decode cX1_ship 6 = .ok (.iastore, 1) := dk_79 (dk_at dksX1_ship_0 6 rfl rfl)
theorem dX1_ship_7 : decode cX1_ship 7 = .ok (.dup, 1) := dk_89 (dk_at dksX1_ship_0 7 rfl rfl)
theorem dX1_ship_8 : decode cX1_ship 8 = .ok (.iconst 1, 1) := dk_4 (dk_at dksX1_ship_0 8 rfl rfl)
theorem dX1_ship_9 : decode cX1_ship 9 = .ok (.iload_n 2, 1) := dk_28 (dk_at dksX1_ship_0 9 rfl rfl)
theorem dX1_ship_10 : decode cX1_ship 10 = .ok (.iastore, 1) := dk_79 (dk_at dksX1_ship_0 10 rfl rfl)
theorem dX1_ship_11 : decode cX1_ship 11 = .ok (.dup, 1) := dk_89 (dk_at dksX1_ship_0 11 rfl rfl)
theorem dX1_ship_12 : decode cX1_ship 12 = .ok (.iconst 2, 1) := dk_5 (dk_at dksX1_ship_0 12 rfl rfl)
theorem dX1_ship_13 : decode cX1_ship 13 = .ok (.iload_n 3, 1) := dk_29 (dk_at dksX1_ship_0 13 rfl rfl)
theorem dX1_ship_14 : decode cX1_ship 14 = .ok (.iastore, 1) := dk_79 (dk_at dksX1_ship_0 14 rfl rfl)
theorem dX1_ship_15 : decode cX1_ship 15 = .ok (.dup, 1) := dk_89 (dk_at dksX1_ship_0 15 rfl rfl)
theorem dX1_ship_16 : decode cX1_ship 16 = .ok (.iconst 3, 1) := dk_6 (dk_at dksX1_ship_0 16 rfl rfl)
theorem dX1_ship_17 : decode cX1_ship 17 = .ok (.iload 4, 2) := dk_21 4 (dk_at dksX1_ship_0 17 rfl rfl)
theorem dX1_ship_19 : decode cX1_ship 19 = .ok (.iastore, 1) := dk_79 (dk_at dksX1_ship_0 19 rfl rfl)
theorem dX1_ship_20 : decode cX1_ship 20 = .ok (.astore 6, 2) := dk_58 6 (dk_at dksX1_ship_0 20 rfl rfl)
theorem dX1_ship_22 : decode cX1_ship 22 = .ok (.iload_n 1, 1) := dk_27 (dk_at dksX1_ship_0 22 rfl rfl)
theorem dX1_ship_23 : decode cX1_ship 23 = .ok (.invokestatic 404, 3) := dk_184 1 148 (dk_at dksX1_ship_1 0 rfl rfl)
theorem dX1_ship_26 : decode cX1_ship 26 = .ok (.arraylength, 1) := dk_190 (dk_at dksX1_ship_1 3 rfl rfl)
theorem dX1_ship_27 : decode cX1_ship 27 = .ok (.iload_n 2, 1) := dk_28 (dk_at dksX1_ship_1 4 rfl rfl)
theorem dX1_ship_28 : decode cX1_ship 28 = .ok (.invokestatic 404, 3) := dk_184 1 148 (dk_at dksX1_ship_1 5 rfl rfl)
theorem dX1_ship_31 : decode cX1_ship 31 = .ok (.arraylength, 1) := dk_190 (dk_at dksX1_ship_1 8 rfl rfl)
theorem dX1_ship_32 : decode cX1_ship 32 = .ok (.iadd, 1) := dk_96 (dk_at dksX1_ship_1 9 rfl rfl)
theorem dX1_ship_33 : decode cX1_ship 33 = .ok (.iload_n 3, 1) := dk_29 (dk_at dksX1_ship_1 10 rfl rfl)
theorem dX1_ship_34 : decode cX1_ship 34 = .ok (.invokestatic 404, 3) := dk_184 1 148 (dk_at dksX1_ship_1 11 rfl rfl)
theorem dX1_ship_37 : decode cX1_ship 37 = .ok (.arraylength, 1) := dk_190 (dk_at dksX1_ship_1 14 rfl rfl)
theorem dX1_ship_38 : decode cX1_ship 38 = .ok (.iadd, 1) := dk_96 (dk_at dksX1_ship_1 15 rfl rfl)
theorem dX1_ship_39 : decode cX1_ship 39 = .ok (.iload 4, 2) := dk_21 4 (dk_at dksX1_ship_1 16 rfl rfl)
theorem dX1_ship_41 : decode cX1_ship 41 = .ok (.invokestatic 404, 3) := dk_184 1 148 (dk_at dksX1_ship_1 18 rfl rfl)
theorem dX1_ship_44 : decode cX1_ship 44 = .ok (.arraylength, 1) := dk_190 (dk_at dksX1_ship_1 21 rfl rfl)
theorem dX1_ship_45 : decode cX1_ship 45 = .ok (.iadd, 1) := dk_96 (dk_at dksX1_ship_1 22 rfl rfl)
theorem dX1_ship_46 : decode cX1_ship 46 = .ok (.istore 5, 2) := dk_54 5 (dk_at dksX1_ship_2 0 rfl rfl)
theorem dX1_ship_48 : decode cX1_ship 48 = .ok (.goto 7, 3) := dk_167 0 7 (dk_at dksX1_ship_2 2 rfl rfl)
theorem dX1_ship_51 : decode cX1_ship 51 = .ok (.astore 7, 2) := dk_58 7 (dk_at dksX1_ship_2 5 rfl rfl)
theorem dX1_ship_53 : decode cX1_ship 53 = .ok (.iconst (-1), 1) := dk_2 (dk_at dksX1_ship_2 7 rfl rfl)
theorem dX1_ship_54 : decode cX1_ship 54 = .ok (.ireturn, 1) := dk_172 (dk_at dksX1_ship_2 8 rfl rfl)
theorem dX1_ship_55 : decode cX1_ship 55 = .ok (.aload_n 0, 1) := dk_42 (dk_at dksX1_ship_2 9 rfl rfl)
theorem dX1_ship_56 : decode cX1_ship 56 = .ok (.getfield 410, 3) := dk_180 1 154 (dk_at dksX1_ship_2 10 rfl rfl)
theorem dX1_ship_59 : decode cX1_ship 59 = .ok (.bipush 20, 2) := dk_16 20 (dk_at dksX1_ship_2 13 rfl rfl)
theorem dX1_ship_61 : decode cX1_ship 61 = .ok (.if_icmp .ne 6, 3) := dk_160 0 6 (dk_at dksX1_ship_2 15 rfl rfl)
theorem dX1_ship_64 : decode cX1_ship 64 = .ok (.bipush (-2), 2) := dk_16 254 (dk_at dksX1_ship_2 18 rfl rfl)
theorem dX1_ship_66 : decode cX1_ship 66 = .ok (.ireturn, 1) := dk_172 (dk_at dksX1_ship_2 20 rfl rfl)
theorem dX1_ship_67 : decode cX1_ship 67 = .ok (.aload_n 0, 1) := dk_42 (dk_at dksX1_ship_2 21 rfl rfl)
theorem dX1_ship_68 : decode cX1_ship 68 = .ok (.getfield 12, 3) := dk_180 0 12 (dk_at dksX1_ship_3 0 rfl rfl)
theorem dX1_ship_71 : decode cX1_ship 71 = .ok (.getfield 87, 3) := dk_180 0 87 (dk_at dksX1_ship_3 3 rfl rfl)
theorem dX1_ship_74 : decode cX1_ship 74 = .ok (.invokevirtual 90, 3) := dk_182 0 90 (dk_at dksX1_ship_3 6 rfl rfl)
theorem dX1_ship_77 : decode cX1_ship 77 = .ok (.iload 5, 2) := dk_21 5 (dk_at dksX1_ship_3 9 rfl rfl)
theorem dX1_ship_79 : decode cX1_ship 79 = .ok (.iadd, 1) := dk_96 (dk_at dksX1_ship_3 11 rfl rfl)
theorem dX1_ship_80 : decode cX1_ship 80 = .ok (.bipush 100, 2) := dk_16 100 (dk_at dksX1_ship_3 12 rfl rfl)
theorem dX1_ship_82 : decode cX1_ship 82 = .ok (.if_icmp .le 6, 3) := dk_164 0 6 (dk_at dksX1_ship_3 14 rfl rfl)
theorem dX1_ship_85 : decode cX1_ship 85 = .ok (.bipush (-3), 2) := dk_16 253 (dk_at dksX1_ship_3 17 rfl rfl)
theorem dX1_ship_87 : decode cX1_ship 87 = .ok (.ireturn, 1) := dk_172 (dk_at dksX1_ship_3 19 rfl rfl)
theorem dX1_ship_88 : decode cX1_ship 88 = .ok (.bipush 10, 2) := dk_16 10 (dk_at dksX1_ship_3 20 rfl rfl)
theorem dX1_ship_90 : decode cX1_ship 90 = .ok (.iload 5, 2) := dk_21 5 (dk_at dksX1_ship_3 22 rfl rfl)
theorem dX1_ship_92 : decode cX1_ship 92 = .ok (.imul, 1) := dk_104 (dk_at dksX1_ship_4 0 rfl rfl)
theorem dX1_ship_93 : decode cX1_ship 93 = .ok (.aload_n 0, 1) := dk_42 (dk_at dksX1_ship_4 1 rfl rfl)
theorem dX1_ship_94 : decode cX1_ship 94 = .ok (.getfield 12, 3) := dk_180 0 12 (dk_at dksX1_ship_4 2 rfl rfl)
theorem dX1_ship_97 : decode cX1_ship 97 = .ok (.invokevirtual 413, 3) := dk_182 1 157 (dk_at dksX1_ship_4 5 rfl rfl)
theorem dX1_ship_100 : decode cX1_ship 100 = .ok (.if_icmp .le 6, 3) := dk_164 0 6 (dk_at dksX1_ship_4 8 rfl rfl)
theorem dX1_ship_103 : decode cX1_ship 103 = .ok (.bipush (-4), 2) := dk_16 252 (dk_at dksX1_ship_4 11 rfl rfl)
theorem dX1_ship_105 : decode cX1_ship 105 = .ok (.ireturn, 1) := dk_172 (dk_at dksX1_ship_4 13 rfl rfl)
theorem dX1_ship_106 : decode cX1_ship 106 = .ok (.aload_n 0, 1) := dk_42 (dk_at dksX1_ship_4 14 rfl rfl)
theorem dX1_ship_107 : decode cX1_ship 107 = .ok (.getfield 12, 3) := dk_180 0 12 (dk_at dksX1_ship_4 15 rfl rfl)
theorem dX1_ship_110 : decode cX1_ship 110 = .ok (.dup, 1) := dk_89 (dk_at dksX1_ship_4 18 rfl rfl)
theorem dX1_ship_111 : decode cX1_ship 111 = .ok (.getfield 416, 3) := dk_180 1 160 (dk_at dksX1_ship_4 19 rfl rfl)
theorem dX1_ship_114 : decode cX1_ship 114 = .ok (.bipush 10, 2) := dk_16 10 (dk_at dksX1_ship_4 22 rfl rfl)
theorem dX1_ship_116 : decode cX1_ship 116 = .ok (.iload 5, 2) := dk_21 5 (dk_at dksX1_ship_5 0 rfl rfl)
theorem dX1_ship_118 : decode cX1_ship 118 = .ok (.imul, 1) := dk_104 (dk_at dksX1_ship_5 2 rfl rfl)
theorem dX1_ship_119 : decode cX1_ship 119 = .ok (.iadd, 1) := dk_96 (dk_at dksX1_ship_5 3 rfl rfl)
theorem dX1_ship_120 : decode cX1_ship 120 = .ok (.putfield 416, 3) := dk_181 1 160 (dk_at dksX1_ship_5 4 rfl rfl)
theorem dX1_ship_123 : decode cX1_ship 123 = .ok (.iconst 0, 1) := dk_3 (dk_at dksX1_ship_5 7 rfl rfl)
theorem dX1_ship_124 : decode cX1_ship 124 = .ok (.istore 7, 2) := dk_54 7 (dk_at dksX1_ship_5 8 rfl rfl)
theorem dX1_ship_126 : decode cX1_ship 126 = .ok (.iload 7, 2) := dk_21 7 (dk_at dksX1_ship_5 10 rfl rfl)
theorem dX1_ship_128 : decode cX1_ship 128 = .ok (.aload_n 0, 1) := dk_42 (dk_at dksX1_ship_5 12 rfl rfl)
theorem dX1_ship_129 : decode cX1_ship 129 = .ok (.getfield 35, 3) := dk_180 0 35 (dk_at dksX1_ship_5 13 rfl rfl)
theorem dX1_ship_132 : decode cX1_ship 132 = .ok (.invokevirtual 90, 3) := dk_182 0 90 (dk_at dksX1_ship_5 16 rfl rfl)
theorem dX1_ship_135 : decode cX1_ship 135 = .ok (.if_icmp .ge 43, 3) := dk_162 0 43 (dk_at dksX1_ship_5 19 rfl rfl)
theorem dX1_ship_138 : decode cX1_ship 138 = .ok (.aload_n 0, 1) := dk_42 (dk_at dksX1_ship_5 22 rfl rfl)
theorem dX1_ship_139 : decode cX1_ship 139 = .ok (.getfield 35, 3) := dk_180 0 35 (dk_at dksX1_ship_6 0 rfl rfl)
theorem dX1_ship_142 : decode cX1_ship 142 = .ok (.iload 7, 2) := dk_21 7 (dk_at dksX1_ship_6 3 rfl rfl)
theorem dX1_ship_144 : decode cX1_ship 144 = .ok (.invokevirtual 81, 3) := dk_182 0 81 (dk_at dksX1_ship_6 5 rfl rfl)
theorem dX1_ship_147 : decode cX1_ship 147 = .ok (.checkcast 94, 3) := dk_192 0 94 (dk_at dksX1_ship_6 8 rfl rfl)
theorem dX1_ship_150 : decode cX1_ship 150 = .ok (.getfield 212, 3) := dk_180 0 212 (dk_at dksX1_ship_6 11 rfl rfl)
theorem dX1_ship_153 : decode cX1_ship 153 = .ok (.ifCond .ne 19, 3) := dk_154 0 19 (dk_at dksX1_ship_6 14 rfl rfl)
theorem dX1_ship_156 : decode cX1_ship 156 = .ok (.aload_n 0, 1) := dk_42 (dk_at dksX1_ship_6 17 rfl rfl)
theorem dX1_ship_157 : decode cX1_ship 157 = .ok (.aload_n 0, 1) := dk_42 (dk_at dksX1_ship_6 18 rfl rfl)
theorem dX1_ship_158 : decode cX1_ship 158 = .ok (.getfield 35, 3) := dk_180 0 35 (dk_at dksX1_ship_6 19 rfl rfl)
theorem dX1_ship_161 : decode cX1_ship 161 = .ok (.iload 7, 2) := dk_21 7 (dk_at dksX1_ship_6 22 rfl rfl)
theorem dX1_ship_163 : decode cX1_ship 163 = .ok (.invokevirtual 81, 3) := dk_182 0 81 (dk_at dksX1_ship_7 0 rfl rfl)
theorem dX1_ship_166 : decode cX1_ship 166 = .ok (.checkcast 94, 3) := dk_192 0 94 (dk_at dksX1_ship_7 3 rfl rfl)
theorem dX1_ship_169 : decode cX1_ship 169 = .ok (.invokevirtual 419, 3) := dk_182 1 163 (dk_at dksX1_ship_7 6 rfl rfl)
theorem dX1_ship_172 : decode cX1_ship 172 = .ok (.iinc 7 1, 3) := dk_132 7 1 (dk_at dksX1_ship_7 9 rfl rfl)
theorem dX1_ship_175 : decode cX1_ship 175 = .ok (.goto (-49), 3) := dk_167 255 207 (dk_at dksX1_ship_7 12 rfl rfl)
theorem dX1_ship_178 : decode cX1_ship 178 = .ok (.iconst 0, 1) := dk_3 (dk_at dksX1_ship_7 15 rfl rfl)
theorem dX1_ship_179 : decode cX1_ship 179 = .ok (.istore 7, 2) := dk_54 7 (dk_at dksX1_ship_7 16 rfl rfl)
theorem dX1_ship_181 : decode cX1_ship 181 = .ok (.iload 7, 2) := dk_21 7 (dk_at dksX1_ship_7 18 rfl rfl)
theorem dX1_ship_183 : decode cX1_ship 183 = .ok (.iconst 4, 1) := dk_7 (dk_at dksX1_ship_7 20 rfl rfl)
theorem dX1_ship_184 : decode cX1_ship 184 = .ok (.if_icmp .ge 69, 3) := dk_162 0 69 (dk_at dksX1_ship_7 21 rfl rfl)
theorem dX1_ship_187 : decode cX1_ship 187 = .ok (.iconst 0, 1) := dk_3 (dk_at dksX1_ship_8 0 rfl rfl)
theorem dX1_ship_188 : decode cX1_ship 188 = .ok (.istore 8, 2) := dk_54 8 (dk_at dksX1_ship_8 1 rfl rfl)
theorem dX1_ship_190 : decode cX1_ship 190 = .ok (.iload 8, 2) := dk_21 8 (dk_at dksX1_ship_8 3 rfl rfl)
theorem dX1_ship_192 : decode cX1_ship 192 = .ok (.aload 6, 2) := dk_25 6 (dk_at dksX1_ship_8 5 rfl rfl)
theorem dX1_ship_194 : decode cX1_ship 194 = .ok (.iload 7, 2) := dk_21 7 (dk_at dksX1_ship_8 7 rfl rfl)
theorem dX1_ship_196 : decode cX1_ship 196 = .ok (.iaload, 1) := dk_46 (dk_at dksX1_ship_8 9 rfl rfl)
theorem dX1_ship_197 : decode cX1_ship 197 = .ok (.if_icmp .ge 50, 3) := dk_162 0 50 (dk_at dksX1_ship_8 10 rfl rfl)
theorem dX1_ship_200 : decode cX1_ship 200 = .ok (.new 94, 3) := dk_187 0 94 (dk_at dksX1_ship_8 13 rfl rfl)
theorem dX1_ship_203 : decode cX1_ship 203 = .ok (.dup, 1) := dk_89 (dk_at dksX1_ship_8 16 rfl rfl)
theorem dX1_ship_204 : decode cX1_ship 204 = .ok (.aload_n 0, 1) := dk_42 (dk_at dksX1_ship_8 17 rfl rfl)
theorem dX1_ship_205 : decode cX1_ship 205 = .ok (.getfield 12, 3) := dk_180 0 12 (dk_at dksX1_ship_8 18 rfl rfl)
theorem dX1_ship_208 : decode cX1_ship 208 = .ok (.getfield 87, 3) := dk_180 0 87 (dk_at dksX1_ship_8 21 rfl rfl)
theorem dX1_ship_211 : decode cX1_ship 211 = .ok (.invokevirtual 90, 3) := dk_182 0 90 (dk_at dksX1_ship_9 0 rfl rfl)
theorem dX1_ship_214 : decode cX1_ship 214 = .ok (.iload 7, 2) := dk_21 7 (dk_at dksX1_ship_9 3 rfl rfl)
theorem dX1_ship_216 : decode cX1_ship 216 = .ok (.iconst 5, 1) := dk_8 (dk_at dksX1_ship_9 5 rfl rfl)
theorem dX1_ship_217 : decode cX1_ship 217 = .ok (.invokespecial 196, 3) := dk_183 0 196 (dk_at dksX1_ship_9 6 rfl rfl)
theorem dX1_ship_220 : decode cX1_ship 220 = .ok (.astore 9, 2) := dk_58 9 (dk_at dksX1_ship_9 9 rfl rfl)
theorem dX1_ship_222 : decode cX1_ship 222 = .ok (.aload_n 0, 1) := dk_42 (dk_at dksX1_ship_9 11 rfl rfl)
theorem dX1_ship_223 : decode cX1_ship 223 = .ok (.getfield 12, 3) := dk_180 0 12 (dk_at dksX1_ship_9 12 rfl rfl)
theorem dX1_ship_226 : decode cX1_ship 226 = .ok (.getfield 87, 3) := dk_180 0 87 (dk_at dksX1_ship_9 15 rfl rfl)
theorem dX1_ship_229 : decode cX1_ship 229 = .ok (.aload 9, 2) := dk_25 9 (dk_at dksX1_ship_9 18 rfl rfl)
theorem dX1_ship_231 : decode cX1_ship 231 = .ok (.invokevirtual 199, 3) := dk_182 0 199 (dk_at dksX1_ship_9 20 rfl rfl)
theorem dX1_ship_234 : decode cX1_ship 234 = .ok (.pop, 1) := dk_87 (dk_at dksX1_ship_9 23 rfl rfl)
theorem dX1_ship_235 : decode cX1_ship 235 = .ok (.aload_n 0, 1) := dk_42 (dk_at dksX1_ship_10 0 rfl rfl)
theorem dX1_ship_236 : decode cX1_ship 236 = .ok (.aload 9, 2) := dk_25 9 (dk_at dksX1_ship_10 1 rfl rfl)
theorem dX1_ship_238 : decode cX1_ship 238 = .ok (.invokevirtual 419, 3) := dk_182 1 163 (dk_at dksX1_ship_10 3 rfl rfl)
theorem dX1_ship_241 : decode cX1_ship 241 = .ok (.iinc 8 1, 3) := dk_132 8 1 (dk_at dksX1_ship_10 6 rfl rfl)
theorem dX1_ship_244 : decode cX1_ship 244 = .ok (.goto (-54), 3) := dk_167 255 202 (dk_at dksX1_ship_10 9 rfl rfl)
theorem dX1_ship_247 : decode cX1_ship 247 = .ok (.iinc 7 1, 3) := dk_132 7 1 (dk_at dksX1_ship_10 12 rfl rfl)
theorem dX1_ship_250 : decode cX1_ship 250 = .ok (.goto (-69), 3) := dk_167 255 187 (dk_at dksX1_ship_10 15 rfl rfl)
theorem dX1_ship_253 : decode cX1_ship 253 = .ok (.aload_n 0, 1) := dk_42 (dk_at dksX1_ship_10 18 rfl rfl)
theorem dX1_ship_254 : decode cX1_ship 254 = .ok (.dup, 1) := dk_89 (dk_at dksX1_ship_10 19 rfl rfl)
theorem dX1_ship_255 : decode cX1_ship 255 = .ok (.getfield 410, 3) := dk_180 1 154 (dk_at dksX1_ship_10 20 rfl rfl)
theorem dX1_ship_258 : decode cX1_ship 258 = .ok (.iconst 1, 1) := dk_4 (dk_at dksX1_ship_10 23 rfl rfl)
theorem dX1_ship_259 : decode cX1_ship 259 = .ok (.iadd, 1) := dk_96 (dk_at dksX1_ship_11 0 rfl rfl)
theorem dX1_ship_260 : decode cX1_ship 260 = .ok (.putfield 410, 3) := dk_181 1 154 (dk_at dksX1_ship_11 1 rfl rfl)
theorem dX1_ship_263 : decode cX1_ship 263 = .ok (.aload_n 0, 1) := dk_42 (dk_at dksX1_ship_11 4 rfl rfl)
theorem dX1_ship_264 : decode cX1_ship 264 = .ok (.getfield 410, 3) := dk_180 1 154 (dk_at dksX1_ship_11 5 rfl rfl)
theorem dX1_ship_267 : decode cX1_ship 267 = .ok (.iconst 1, 1) := dk_4 (dk_at dksX1_ship_11 8 rfl rfl)
theorem dX1_ship_268 : decode cX1_ship 268 = .ok (.isub, 1) := dk_100 (dk_at dksX1_ship_11 9 rfl rfl)
theorem dX1_ship_269 : decode cX1_ship 269 = .ok (.ireturn, 1) := dk_172 (dk_at dksX1_ship_11 10 rfl rfl)
def dkwX1_rowOf_0 : List UInt8 := [26, 16, 101, 184, 1, 143, 189, 0, 94, 176]
abbrev dktX1_rowOf_0 : List UInt8 := dkwX1_rowOf_0 ++ []
theorem dksX1_rowOf_0 : cX1_rowOf.data.toList.drop 0 = dktX1_rowOf_0 := by decide +kernel
theorem dX1_rowOf_0 : decode cX1_rowOf 0 = .ok (.iload_n 0, 1) := dk_26 (dk_at dksX1_rowOf_0 0 rfl rfl)
theorem dX1_rowOf_1 : decode cX1_rowOf 1 = .ok (.bipush 101, 2) := dk_16 101 (dk_at dksX1_rowOf_0 1 rfl rfl)
theorem dX1_rowOf_3 : decode cX1_rowOf 3 = .ok (.invokestatic 399, 3) := dk_184 1 143 (dk_at dksX1_rowOf_0 3 rfl rfl)
theorem dX1_rowOf_6 : decode cX1_rowOf 6 = .ok (.anewarray 94, 3) := dk_189 0 94 (dk_at dksX1_rowOf_0 6 rfl rfl)
theorem dX1_rowOf_9 : decode cX1_rowOf 9 = .ok (.areturn, 1) := dk_176 (dk_at dksX1_rowOf_0 9 rfl rfl)
def dkwX1_sails_0 : List UInt8 := [43, 4, 181, 0, 212, 43, 42, 180, 0, 12, 180, 1, 47, 16, 34, 96, 181, 0, 230, 177]
abbrev dktX1_sails_0 : List UInt8 := dkwX1_sails_0 ++ []
theorem dksX1_sails_0 : cX1_sails.data.toList.drop 0 = dktX1_sails_0 := by decide +kernel
theorem dX1_sails_0 : decode cX1_sails 0 = .ok (.aload_n 1, 1) := dk_43 (dk_at dksX1_sails_0 0 rfl rfl)
theorem dX1_sails_1 : decode cX1_sails 1 = .ok (.iconst 1, 1) := dk_4 (dk_at dksX1_sails_0 1 rfl rfl)
theorem dX1_sails_2 : decode cX1_sails 2 = .ok (.putfield 212, 3) := dk_181 0 212 (dk_at dksX1_sails_0 2 rfl rfl)
theorem dX1_sails_5 : decode cX1_sails 5 = .ok (.aload_n 1, 1) := dk_43 (dk_at dksX1_sails_0 5 rfl rfl)
theorem dX1_sails_6 : decode cX1_sails 6 = .ok (.aload_n 0, 1) := dk_42 (dk_at dksX1_sails_0 6 rfl rfl)
theorem dX1_sails_7 : decode cX1_sails 7 = .ok (.getfield 12, 3) := dk_180 0 12 (dk_at dksX1_sails_0 7 rfl rfl)
theorem dX1_sails_10 : decode cX1_sails 10 = .ok (.getfield 303, 3) := dk_180 1 47 (dk_at dksX1_sails_0 10 rfl rfl)
theorem dX1_sails_13 : decode cX1_sails 13 = .ok (.bipush 34, 2) := dk_16 34 (dk_at dksX1_sails_0 13 rfl rfl)
theorem dX1_sails_15 : decode cX1_sails 15 = .ok (.iadd, 1) := dk_96 (dk_at dksX1_sails_0 15 rfl rfl)
theorem dX1_sails_16 : decode cX1_sails 16 = .ok (.putfield 230, 3) := dk_181 0 230 (dk_at dksX1_sails_0 16 rfl rfl)
theorem dX1_sails_19 : decode cX1_sails 19 = .ok (.return_, 1) := dk_177 (dk_at dksX1_sails_0 19 rfl rfl)
def dkwX1_passages_0 : List UInt8 := [42, 180, 0, 12, 182, 1, 157, 172]
abbrev dktX1_passages_0 : List UInt8 := dkwX1_passages_0 ++ []
theorem dksX1_passages_0 : cX1_passages.data.toList.drop 0 = dktX1_passages_0 := by decide +kernel
theorem dX1_passages_0 : decode cX1_passages 0 = .ok (.aload_n 0, 1) := dk_42 (dk_at dksX1_passages_0 0 rfl rfl)
theorem dX1_passages_1 : decode cX1_passages 1 = .ok (.getfield 12, 3) := dk_180 0 12 (dk_at dksX1_passages_0 1 rfl rfl)
theorem dX1_passages_4 : decode cX1_passages 4 = .ok (.invokevirtual 413, 3) := dk_182 1 157 (dk_at dksX1_passages_0 4 rfl rfl)
theorem dX1_passages_7 : decode cX1_passages 7 = .ok (.ireturn, 1) := dk_172 (dk_at dksX1_passages_0 7 rfl rfl)
def dkwX1_image_6 : List UInt8 := [182, 1, 254, 181, 2, 2, 42, 42, 4, 182, 1, 254, 181, 2, 6, 42, 180, 1, 251, 172]
abbrev dktX1_image_6 : List UInt8 := dkwX1_image_6 ++ []
def dkwX1_image_5 : List UInt8 := [167, 255, 192, 42, 16, 96, 42, 180, 0, 12, 180, 0, 87, 182, 0, 90, 96, 181, 1, 251, 42, 42, 3]
abbrev dktX1_image_5 : List UInt8 := dkwX1_image_5 ++ dktX1_image_6
def dkwX1_image_4 : List UInt8 := [42, 180, 0, 12, 180, 0, 87, 27, 182, 0, 81, 192, 0, 94, 180, 0, 212, 96, 79, 132, 1, 1]
abbrev dktX1_image_4 : List UInt8 := dkwX1_image_4 ++ dktX1_image_5
def dkwX1_image_3 : List UInt8 := [16, 96, 27, 96, 16, 8, 42, 180, 0, 12, 180, 0, 87, 27, 182, 0, 81, 192, 0, 94, 180, 0, 209, 104]
abbrev dktX1_image_3 : List UInt8 := dkwX1_image_3 ++ dktX1_image_4
def dkwX1_image_2 : List UInt8 := [167, 255, 212, 3, 60, 27, 42, 180, 0, 12, 180, 0, 87, 182, 0, 90, 162, 0, 56, 42, 180, 0, 62]
abbrev dktX1_image_2 : List UInt8 := dkwX1_image_2 ++ dktX1_image_3
def dkwX1_image_1 : List UInt8 := [182, 0, 157, 104, 42, 180, 0, 12, 27, 182, 1, 248, 182, 0, 162, 96, 4, 96, 79, 132, 1, 1]
abbrev dktX1_image_1 : List UInt8 := dkwX1_image_1 ++ dktX1_image_2
def dkwX1_image_0 : List UInt8 := [3, 60, 27, 16, 96, 162, 0, 44, 42, 180, 0, 62, 27, 17, 0, 200, 42, 180, 0, 12, 27, 182, 1, 248]
abbrev dktX1_image_0 : List UInt8 := dkwX1_image_0 ++ dktX1_image_1
theorem dksX1_image_0 : cX1_image.data.toList.drop 0 = dktX1_image_0 := by decide +kernel
theorem dksX1_image_1 : cX1_image.data.toList.drop 24 = dktX1_image_1 := dk_seg dksX1_image_0 24 rfl rfl
theorem dksX1_image_2 : cX1_image.data.toList.drop 46 = dktX1_image_2 := dk_seg dksX1_image_1 22 rfl rfl
theorem dksX1_image_3 : cX1_image.data.toList.drop 69 = dktX1_image_3 := dk_seg dksX1_image_2 23 rfl rfl
theorem dksX1_image_4 : cX1_image.data.toList.drop 93 = dktX1_image_4 := dk_seg dksX1_image_3 24 rfl rfl
theorem dksX1_image_5 : cX1_image.data.toList.drop 115 = dktX1_image_5 := dk_seg dksX1_image_4 22 rfl rfl
theorem dksX1_image_6 : cX1_image.data.toList.drop 138 = dktX1_image_6 := dk_seg dksX1_image_5 23 rfl rfl
theorem dX1_image_0 : decode cX1_image 0 = .ok (.iconst 0, 1) := dk_3 (dk_at dksX1_image_0 0 rfl rfl)
theorem dX1_image_1 : decode cX1_image 1 = .ok (.istore_n 1, 1) := dk_60 (dk_at dksX1_image_0 1 rfl rfl)
theorem dX1_image_2 : decode cX1_image 2 = .ok (.iload_n 1, 1) := dk_27 (dk_at dksX1_image_0 2 rfl rfl)
theorem dX1_image_3 : decode cX1_image 3 = .ok (.bipush 96, 2) := dk_16 96 (dk_at dksX1_image_0 3 rfl rfl)
theorem dX1_image_5 : decode cX1_image 5 = .ok (.if_icmp .ge 44, 3) := dk_162 0 44 (dk_at dksX1_image_0 5 rfl rfl)
theorem dX1_image_8 : decode cX1_image 8 = .ok (.aload_n 0, 1) := dk_42 (dk_at dksX1_image_0 8 rfl rfl)
theorem dX1_image_9 : decode cX1_image 9 = .ok (.getfield 62, 3) := dk_180 0 62 (dk_at dksX1_image_0 9 rfl rfl)
theorem dX1_image_12 : decode cX1_image 12 = .ok (.iload_n 1, 1) := dk_27 (dk_at dksX1_image_0 12 rfl rfl)
theorem dX1_image_13 : decode cX1_image 13 = .ok (.sipush 200, 3) := dk_17 0 200 (dk_at dksX1_image_0 13 rfl rfl)
theorem dX1_image_16 : decode cX1_image 16 = .ok (.aload_n 0, 1) := dk_42 (dk_at dksX1_image_0 16 rfl rfl)
theorem dX1_image_17 : decode cX1_image 17 = .ok (.getfield 12, 3) := dk_180 0 12 (dk_at dksX1_image_0 17 rfl rfl)
theorem dX1_image_20 : decode cX1_image 20 = .ok (.iload_n 1, 1) := dk_27 (dk_at dksX1_image_0 20 rfl rfl)
theorem dX1_image_21 : decode cX1_image 21 = .ok (.invokevirtual 504, 3) := dk_182 1 248 (dk_at dksX1_image_0 21 rfl rfl)
theorem dX1_image_24 : decode cX1_image 24 = .ok (.invokevirtual 157, 3) := dk_182 0 157 (dk_at dksX1_image_1 0 rfl rfl)
theorem dX1_image_27 : decode cX1_image 27 = .ok (.imul, 1) := dk_104 (dk_at dksX1_image_1 3 rfl rfl)
theorem dX1_image_28 : decode cX1_image 28 = .ok (.aload_n 0, 1) := dk_42 (dk_at dksX1_image_1 4 rfl rfl)
theorem dX1_image_29 : decode cX1_image 29 = .ok (.getfield 12, 3) := dk_180 0 12 (dk_at dksX1_image_1 5 rfl rfl)
theorem dX1_image_32 : decode cX1_image 32 = .ok (.iload_n 1, 1) := dk_27 (dk_at dksX1_image_1 8 rfl rfl)
theorem dX1_image_33 : decode cX1_image 33 = .ok (.invokevirtual 504, 3) := dk_182 1 248 (dk_at dksX1_image_1 9 rfl rfl)
theorem dX1_image_36 : decode cX1_image 36 = .ok (.invokevirtual 162, 3) := dk_182 0 162 (dk_at dksX1_image_1 12 rfl rfl)
theorem dX1_image_39 : decode cX1_image 39 = .ok (.iadd, 1) := dk_96 (dk_at dksX1_image_1 15 rfl rfl)
theorem dX1_image_40 : decode cX1_image 40 = .ok (.iconst 1, 1) := dk_4 (dk_at dksX1_image_1 16 rfl rfl)
theorem dX1_image_41 : decode cX1_image 41 = .ok (.iadd, 1) := dk_96 (dk_at dksX1_image_1 17 rfl rfl)
theorem dX1_image_42 : decode cX1_image 42 = .ok (.iastore, 1) := dk_79 (dk_at dksX1_image_1 18 rfl rfl)
theorem dX1_image_43 : decode cX1_image 43 = .ok (.iinc 1 1, 3) := dk_132 1 1 (dk_at dksX1_image_1 19 rfl rfl)
theorem dX1_image_46 : decode cX1_image 46 = .ok (.goto (-44), 3) := dk_167 255 212 (dk_at dksX1_image_2 0 rfl rfl)
theorem dX1_image_49 : decode cX1_image 49 = .ok (.iconst 0, 1) := dk_3 (dk_at dksX1_image_2 3 rfl rfl)
theorem dX1_image_50 : decode cX1_image 50 = .ok (.istore_n 1, 1) := dk_60 (dk_at dksX1_image_2 4 rfl rfl)
theorem dX1_image_51 : decode cX1_image 51 = .ok (.iload_n 1, 1) := dk_27 (dk_at dksX1_image_2 5 rfl rfl)
theorem dX1_image_52 : decode cX1_image 52 = .ok (.aload_n 0, 1) := dk_42 (dk_at dksX1_image_2 6 rfl rfl)
theorem dX1_image_53 : decode cX1_image 53 = .ok (.getfield 12, 3) := dk_180 0 12 (dk_at dksX1_image_2 7 rfl rfl)
theorem dX1_image_56 : decode cX1_image 56 = .ok (.getfield 87, 3) := dk_180 0 87 (dk_at dksX1_image_2 10 rfl rfl)
theorem dX1_image_59 : decode cX1_image 59 = .ok (.invokevirtual 90, 3) := dk_182 0 90 (dk_at dksX1_image_2 13 rfl rfl)
theorem dX1_image_62 : decode cX1_image 62 = .ok (.if_icmp .ge 56, 3) := dk_162 0 56 (dk_at dksX1_image_2 16 rfl rfl)
theorem dX1_image_65 : decode cX1_image 65 = .ok (.aload_n 0, 1) := dk_42 (dk_at dksX1_image_2 19 rfl rfl)
theorem dX1_image_66 : decode cX1_image 66 = .ok (.getfield 62, 3) := dk_180 0 62 (dk_at dksX1_image_2 20 rfl rfl)
theorem dX1_image_69 : decode cX1_image 69 = .ok (.bipush 96, 2) := dk_16 96 (dk_at dksX1_image_3 0 rfl rfl)
theorem dX1_image_71 : decode cX1_image 71 = .ok (.iload_n 1, 1) := dk_27 (dk_at dksX1_image_3 2 rfl rfl)
theorem dX1_image_72 : decode cX1_image 72 = .ok (.iadd, 1) := dk_96 (dk_at dksX1_image_3 3 rfl rfl)
theorem dX1_image_73 : decode cX1_image 73 = .ok (.bipush 8, 2) := dk_16 8 (dk_at dksX1_image_3 4 rfl rfl)
theorem dX1_image_75 : decode cX1_image 75 = .ok (.aload_n 0, 1) := dk_42 (dk_at dksX1_image_3 6 rfl rfl)
theorem dX1_image_76 : decode cX1_image 76 = .ok (.getfield 12, 3) := dk_180 0 12 (dk_at dksX1_image_3 7 rfl rfl)
theorem dX1_image_79 : decode cX1_image 79 = .ok (.getfield 87, 3) := dk_180 0 87 (dk_at dksX1_image_3 10 rfl rfl)
theorem dX1_image_82 : decode cX1_image 82 = .ok (.iload_n 1, 1) := dk_27 (dk_at dksX1_image_3 13 rfl rfl)
theorem dX1_image_83 : decode cX1_image 83 = .ok (.invokevirtual 81, 3) := dk_182 0 81 (dk_at dksX1_image_3 14 rfl rfl)
theorem dX1_image_86 : decode cX1_image 86 = .ok (.checkcast 94, 3) := dk_192 0 94 (dk_at dksX1_image_3 17 rfl rfl)
theorem dX1_image_89 : decode cX1_image 89 = .ok (.getfield 209, 3) := dk_180 0 209 (dk_at dksX1_image_3 20 rfl rfl)
theorem dX1_image_92 : decode cX1_image 92 = .ok (.imul, 1) := dk_104 (dk_at dksX1_image_3 23 rfl rfl)
theorem dX1_image_93 : decode cX1_image 93 = .ok (.aload_n 0, 1) := dk_42 (dk_at dksX1_image_4 0 rfl rfl)
theorem dX1_image_94 : decode cX1_image 94 = .ok (.getfield 12, 3) := dk_180 0 12 (dk_at dksX1_image_4 1 rfl rfl)
theorem dX1_image_97 : decode cX1_image 97 = .ok (.getfield 87, 3) := dk_180 0 87 (dk_at dksX1_image_4 4 rfl rfl)
theorem dX1_image_100 : decode cX1_image 100 = .ok (.iload_n 1, 1) := dk_27 (dk_at dksX1_image_4 7 rfl rfl)
theorem dX1_image_101 : decode cX1_image 101 = .ok (.invokevirtual 81, 3) := dk_182 0 81 (dk_at dksX1_image_4 8 rfl rfl)
theorem dX1_image_104 : decode cX1_image 104 = .ok (.checkcast 94, 3) := dk_192 0 94 (dk_at dksX1_image_4 11 rfl rfl)
theorem dX1_image_107 : decode cX1_image 107 = .ok (.getfield 212, 3) := dk_180 0 212 (dk_at dksX1_image_4 14 rfl rfl)
theorem dX1_image_110 : decode cX1_image 110 = .ok (.iadd, 1) := dk_96 (dk_at dksX1_image_4 17 rfl rfl)
theorem dX1_image_111 : decode cX1_image 111 = .ok (.iastore, 1) := dk_79 (dk_at dksX1_image_4 18 rfl rfl)
theorem dX1_image_112 : decode cX1_image 112 = .ok (.iinc 1 1, 3) := dk_132 1 1 (dk_at dksX1_image_4 19 rfl rfl)
theorem dX1_image_115 : decode cX1_image 115 = .ok (.goto (-64), 3) := dk_167 255 192 (dk_at dksX1_image_5 0 rfl rfl)
theorem dX1_image_118 : decode cX1_image 118 = .ok (.aload_n 0, 1) := dk_42 (dk_at dksX1_image_5 3 rfl rfl)
theorem dX1_image_119 : decode cX1_image 119 = .ok (.bipush 96, 2) := dk_16 96 (dk_at dksX1_image_5 4 rfl rfl)
theorem dX1_image_121 : decode cX1_image 121 = .ok (.aload_n 0, 1) := dk_42 (dk_at dksX1_image_5 6 rfl rfl)
theorem dX1_image_122 : decode cX1_image 122 = .ok (.getfield 12, 3) := dk_180 0 12 (dk_at dksX1_image_5 7 rfl rfl)
theorem dX1_image_125 : decode cX1_image 125 = .ok (.getfield 87, 3) := dk_180 0 87 (dk_at dksX1_image_5 10 rfl rfl)
theorem dX1_image_128 : decode cX1_image 128 = .ok (.invokevirtual 90, 3) := dk_182 0 90 (dk_at dksX1_image_5 13 rfl rfl)
theorem dX1_image_131 : decode cX1_image 131 = .ok (.iadd, 1) := dk_96 (dk_at dksX1_image_5 16 rfl rfl)
theorem dX1_image_132 : decode cX1_image 132 = .ok (.putfield 507, 3) := dk_181 1 251 (dk_at dksX1_image_5 17 rfl rfl)
theorem dX1_image_135 : decode cX1_image 135 = .ok (.aload_n 0, 1) := dk_42 (dk_at dksX1_image_5 20 rfl rfl)
theorem dX1_image_136 : decode cX1_image 136 = .ok (.aload_n 0, 1) := dk_42 (dk_at dksX1_image_5 21 rfl rfl)
theorem dX1_image_137 : decode cX1_image 137 = .ok (.iconst 0, 1) := dk_3 (dk_at dksX1_image_5 22 rfl rfl)
theorem dX1_image_138 : decode cX1_image 138 = .ok (.invokevirtual 510, 3) := dk_182 1 254 (dk_at dksX1_image_6 0 rfl rfl)
theorem dX1_image_141 : decode cX1_image 141 = .ok (.putfield 514, 3) := dk_181 2 2 (dk_at dksX1_image_6 3 rfl rfl)
theorem dX1_image_144 : decode cX1_image 144 = .ok (.aload_n 0, 1) := dk_42 (dk_at dksX1_image_6 6 rfl rfl)
theorem dX1_image_145 : decode cX1_image 145 = .ok (.aload_n 0, 1) := dk_42 (dk_at dksX1_image_6 7 rfl rfl)
theorem dX1_image_146 : decode cX1_image 146 = .ok (.iconst 1, 1) := dk_4 (dk_at dksX1_image_6 8 rfl rfl)
theorem dX1_image_147 : decode cX1_image 147 = .ok (.invokevirtual 510, 3) := dk_182 1 254 (dk_at dksX1_image_6 9 rfl rfl)
theorem dX1_image_150 : decode cX1_image 150 = .ok (.putfield 518, 3) := dk_181 2 6 (dk_at dksX1_image_6 12 rfl rfl)
theorem dX1_image_153 : decode cX1_image 153 = .ok (.aload_n 0, 1) := dk_42 (dk_at dksX1_image_6 15 rfl rfl)
theorem dX1_image_154 : decode cX1_image 154 = .ok (.getfield 507, 3) := dk_180 1 251 (dk_at dksX1_image_6 16 rfl rfl)
theorem dX1_image_157 : decode cX1_image 157 = .ok (.ireturn, 1) := dk_172 (dk_at dksX1_image_6 19 rfl rfl)
def dkwX1_sum_1 : List UInt8 := [153, 0, 11, 21, 4, 133, 10, 97, 167, 0, 4, 10, 105, 97, 65, 132, 4, 1, 167, 255, 219, 32, 173]
abbrev dktX1_sum_1 : List UInt8 := dkwX1_sum_1 ++ []
def dkwX1_sum_0 : List UInt8 := [9, 65, 3, 54, 4, 21, 4, 42, 180, 1, 251, 162, 0, 34, 32, 42, 180, 0, 62, 21, 4, 46, 133, 27]
abbrev dktX1_sum_0 : List UInt8 := dkwX1_sum_0 ++ dktX1_sum_1
theorem dksX1_sum_0 : cX1_sum.data.toList.drop 0 = dktX1_sum_0 := by decide +kernel
theorem dksX1_sum_1 : cX1_sum.data.toList.drop 24 = dktX1_sum_1 := dk_seg dksX1_sum_0 24 rfl rfl
theorem dX1_sum_0 : decode cX1_sum 0 = .ok (.lconst 0, 1) := dk_9 (dk_at dksX1_sum_0 0 rfl rfl)
theorem dX1_sum_1 : decode cX1_sum 1 = .ok (.lstore_n 2, 1) := dk_65 (dk_at dksX1_sum_0 1 rfl rfl)
theorem dX1_sum_2 : decode cX1_sum 2 = .ok (.iconst 0, 1) := dk_3 (dk_at dksX1_sum_0 2 rfl rfl)
theorem dX1_sum_3 : decode cX1_sum 3 = .ok (.istore 4, 2) := dk_54 4 (dk_at dksX1_sum_0 3 rfl rfl)
theorem dX1_sum_5 : decode cX1_sum 5 = .ok (.iload 4, 2) := dk_21 4 (dk_at dksX1_sum_0 5 rfl rfl)
theorem dX1_sum_7 : decode cX1_sum 7 = .ok (.aload_n 0, 1) := dk_42 (dk_at dksX1_sum_0 7 rfl rfl)
theorem dX1_sum_8 : decode cX1_sum 8 = .ok (.getfield 507, 3) := dk_180 1 251 (dk_at dksX1_sum_0 8 rfl rfl)
theorem dX1_sum_11 : decode cX1_sum 11 = .ok (.if_icmp .ge 34, 3) := dk_162 0 34 (dk_at dksX1_sum_0 11 rfl rfl)
theorem dX1_sum_14 : decode cX1_sum 14 = .ok (.lload_n 2, 1) := dk_32 (dk_at dksX1_sum_0 14 rfl rfl)
theorem dX1_sum_15 : decode cX1_sum 15 = .ok (.aload_n 0, 1) := dk_42 (dk_at dksX1_sum_0 15 rfl rfl)
theorem dX1_sum_16 : decode cX1_sum 16 = .ok (.getfield 62, 3) := dk_180 0 62 (dk_at dksX1_sum_0 16 rfl rfl)
theorem dX1_sum_19 : decode cX1_sum 19 = .ok (.iload 4, 2) := dk_21 4 (dk_at dksX1_sum_0 19 rfl rfl)
theorem dX1_sum_21 : decode cX1_sum 21 = .ok (.iaload, 1) := dk_46 (dk_at dksX1_sum_0 21 rfl rfl)
theorem dX1_sum_22 : decode cX1_sum 22 = .ok (.i2l, 1) := dk_133 (dk_at dksX1_sum_0 22 rfl rfl)
theorem dX1_sum_23 : decode cX1_sum 23 = .ok (.iload_n 1, 1) := dk_27 (dk_at dksX1_sum_0 23 rfl rfl)
theorem dX1_sum_24 : decode cX1_sum 24 = .ok (.ifCond .eq 11, 3) := dk_153 0 11 (dk_at dksX1_sum_1 0 rfl rfl)
theorem dX1_sum_27 : decode cX1_sum 27 = .ok (.iload 4, 2) := dk_21 4 (dk_at dksX1_sum_1 3 rfl rfl)
theorem dX1_sum_29 : decode cX1_sum 29 = .ok (.i2l, 1) := dk_133 (dk_at dksX1_sum_1 5 rfl rfl)
theorem dX1_sum_30 : decode cX1_sum 30 = .ok (.lconst 1, 1) := dk_10 (dk_at dksX1_sum_1 6 rfl rfl)
theorem dX1_sum_31 : decode cX1_sum 31 = .ok (.ladd, 1) := dk_97 (dk_at dksX1_sum_1 7 rfl rfl)
theorem dX1_sum_32 : decode cX1_sum 32 = .ok (.goto 4, 3) := dk_167 0 4 (dk_at dksX1_sum_1 8 rfl rfl)
theorem dX1_sum_35 : decode cX1_sum 35 = .ok (.lconst 1, 1) := dk_10 (dk_at dksX1_sum_1 11 rfl rfl)
theorem dX1_sum_36 : decode cX1_sum 36 = .ok (.lmul, 1) := dk_105 (dk_at dksX1_sum_1 12 rfl rfl)
theorem dX1_sum_37 : decode cX1_sum 37 = .ok (.ladd, 1) := dk_97 (dk_at dksX1_sum_1 13 rfl rfl)
theorem dX1_sum_38 : decode cX1_sum 38 = .ok (.lstore_n 2, 1) := dk_65 (dk_at dksX1_sum_1 14 rfl rfl)
theorem dX1_sum_39 : decode cX1_sum 39 = .ok (.iinc 4 1, 3) := dk_132 4 1 (dk_at dksX1_sum_1 15 rfl rfl)
theorem dX1_sum_42 : decode cX1_sum 42 = .ok (.goto (-37), 3) := dk_167 255 219 (dk_at dksX1_sum_1 18 rfl rfl)
theorem dX1_sum_45 : decode cX1_sum 45 = .ok (.lload_n 2, 1) := dk_32 (dk_at dksX1_sum_1 21 rfl rfl)
theorem dX1_sum_46 : decode cX1_sum 46 = .ok (.lreturn, 1) := dk_173 (dk_at dksX1_sum_1 22 rfl rfl)
def dkwX1_number_0 : List UInt8 := [27, 155, 0, 20, 27, 42, 180, 1, 251, 162, 0, 12, 42, 180, 0, 62, 27, 46, 167, 0, 4, 2, 172]
abbrev dktX1_number_0 : List UInt8 := dkwX1_number_0 ++ []
theorem dksX1_number_0 : cX1_number.data.toList.drop 0 = dktX1_number_0 := by decide +kernel
theorem dX1_number_0 : decode cX1_number 0 = .ok (.iload_n 1, 1) := dk_27 (dk_at dksX1_number_0 0 rfl rfl)
theorem dX1_number_1 : decode cX1_number 1 = .ok (.ifCond .lt 20, 3) := dk_155 0 20 (dk_at dksX1_number_0 1 rfl rfl)
theorem dX1_number_4 : decode cX1_number 4 = .ok (.iload_n 1, 1) := dk_27 (dk_at dksX1_number_0 4 rfl rfl)
theorem dX1_number_5 : decode cX1_number 5 = .ok (.aload_n 0, 1) := dk_42 (dk_at dksX1_number_0 5 rfl rfl)
theorem dX1_number_6 : decode cX1_number 6 = .ok (.getfield 507, 3) := dk_180 1 251 (dk_at dksX1_number_0 6 rfl rfl)
theorem dX1_number_9 : decode cX1_number 9 = .ok (.if_icmp .ge 12, 3) := dk_162 0 12 (dk_at dksX1_number_0 9 rfl rfl)
theorem dX1_number_12 : decode cX1_number 12 = .ok (.aload_n 0, 1) := dk_42 (dk_at dksX1_number_0 12 rfl rfl)
theorem dX1_number_13 : decode cX1_number 13 = .ok (.getfield 62, 3) := dk_180 0 62 (dk_at dksX1_number_0 13 rfl rfl)
theorem dX1_number_16 : decode cX1_number 16 = .ok (.iload_n 1, 1) := dk_27 (dk_at dksX1_number_0 16 rfl rfl)
theorem dX1_number_17 : decode cX1_number 17 = .ok (.iaload, 1) := dk_46 (dk_at dksX1_number_0 17 rfl rfl)
theorem dX1_number_18 : decode cX1_number 18 = .ok (.goto 4, 3) := dk_167 0 4 (dk_at dksX1_number_0 18 rfl rfl)
theorem dX1_number_21 : decode cX1_number 21 = .ok (.iconst (-1), 1) := dk_2 (dk_at dksX1_number_0 21 rfl rfl)
theorem dX1_number_22 : decode cX1_number 22 = .ok (.ireturn, 1) := dk_172 (dk_at dksX1_number_0 22 rfl rfl)
def dkwX1_tear_1 : List UInt8 := [42, 180, 0, 62, 27, 46, 172]
abbrev dktX1_tear_1 : List UInt8 := dkwX1_tear_1 ++ []
def dkwX1_tear_0 : List UInt8 := [27, 155, 0, 11, 27, 42, 180, 1, 251, 161, 0, 5, 2, 172, 42, 180, 0, 62, 27, 92, 46, 28, 130, 79]
abbrev dktX1_tear_0 : List UInt8 := dkwX1_tear_0 ++ dktX1_tear_1
theorem dksX1_tear_0 : cX1_tear.data.toList.drop 0 = dktX1_tear_0 := by decide +kernel
theorem dksX1_tear_1 : cX1_tear.data.toList.drop 24 = dktX1_tear_1 := dk_seg dksX1_tear_0 24 rfl rfl
theorem dX1_tear_0 : decode cX1_tear 0 = .ok (.iload_n 1, 1) := dk_27 (dk_at dksX1_tear_0 0 rfl rfl)
theorem dX1_tear_1 : decode cX1_tear 1 = .ok (.ifCond .lt 11, 3) := dk_155 0 11 (dk_at dksX1_tear_0 1 rfl rfl)
theorem dX1_tear_4 : decode cX1_tear 4 = .ok (.iload_n 1, 1) := dk_27 (dk_at dksX1_tear_0 4 rfl rfl)
theorem dX1_tear_5 : decode cX1_tear 5 = .ok (.aload_n 0, 1) := dk_42 (dk_at dksX1_tear_0 5 rfl rfl)
theorem dX1_tear_6 : decode cX1_tear 6 = .ok (.getfield 507, 3) := dk_180 1 251 (dk_at dksX1_tear_0 6 rfl rfl)
theorem dX1_tear_9 : decode cX1_tear 9 = .ok (.if_icmp .lt 5, 3) := dk_161 0 5 (dk_at dksX1_tear_0 9 rfl rfl)
theorem dX1_tear_12 : decode cX1_tear 12 = .ok (.iconst (-1), 1) := dk_2 (dk_at dksX1_tear_0 12 rfl rfl)
theorem dX1_tear_13 : decode cX1_tear 13 = .ok (.ireturn, 1) := dk_172 (dk_at dksX1_tear_0 13 rfl rfl)
theorem dX1_tear_14 : decode cX1_tear 14 = .ok (.aload_n 0, 1) := dk_42 (dk_at dksX1_tear_0 14 rfl rfl)
theorem dX1_tear_15 : decode cX1_tear 15 = .ok (.getfield 62, 3) := dk_180 0 62 (dk_at dksX1_tear_0 15 rfl rfl)
theorem dX1_tear_18 : decode cX1_tear 18 = .ok (.iload_n 1, 1) := dk_27 (dk_at dksX1_tear_0 18 rfl rfl)
theorem dX1_tear_19 : decode cX1_tear 19 = .ok (.dup2, 1) := dk_92 (dk_at dksX1_tear_0 19 rfl rfl)
theorem dX1_tear_20 : decode cX1_tear 20 = .ok (.iaload, 1) := dk_46 (dk_at dksX1_tear_0 20 rfl rfl)
theorem dX1_tear_21 : decode cX1_tear 21 = .ok (.iload_n 2, 1) := dk_28 (dk_at dksX1_tear_0 21 rfl rfl)
theorem dX1_tear_22 : decode cX1_tear 22 = .ok (.ixor, 1) := dk_130 (dk_at dksX1_tear_0 22 rfl rfl)
theorem dX1_tear_23 : decode cX1_tear 23 = .ok (.iastore, 1) := dk_79 (dk_at dksX1_tear_0 23 rfl rfl)
theorem dX1_tear_24 : decode cX1_tear 24 = .ok (.aload_n 0, 1) := dk_42 (dk_at dksX1_tear_1 0 rfl rfl)
theorem dX1_tear_25 : decode cX1_tear 25 = .ok (.getfield 62, 3) := dk_180 0 62 (dk_at dksX1_tear_1 1 rfl rfl)
theorem dX1_tear_28 : decode cX1_tear 28 = .ok (.iload_n 1, 1) := dk_27 (dk_at dksX1_tear_1 4 rfl rfl)
theorem dX1_tear_29 : decode cX1_tear 29 = .ok (.iaload, 1) := dk_46 (dk_at dksX1_tear_1 5 rfl rfl)
theorem dX1_tear_30 : decode cX1_tear 30 = .ok (.ireturn, 1) := dk_172 (dk_at dksX1_tear_1 6 rfl rfl)
def dkwX1_check_3 : List UInt8 := [16, 254, 172, 33, 31, 109, 136, 4, 100, 172]
abbrev dktX1_check_3 : List UInt8 := dkwX1_check_3 ++ []
def dkwX1_check_2 : List UInt8 := [154, 0, 23, 33, 31, 109, 10, 148, 155, 0, 15, 33, 31, 109, 42, 180, 1, 251, 133, 148, 158, 0, 6]
abbrev dktX1_check_2 : List UInt8 := dkwX1_check_2 ++ dktX1_check_3
def dkwX1_check_1 : List UInt8 := [148, 154, 0, 11, 33, 9, 148, 154, 0, 5, 2, 172, 31, 9, 148, 153, 0, 31, 33, 31, 113, 9, 148]
abbrev dktX1_check_1 : List UInt8 := dkwX1_check_1 ++ dktX1_check_2
def dkwX1_check_0 : List UInt8 := [42, 3, 182, 1, 254, 42, 180, 2, 2, 101, 64, 42, 4, 182, 1, 254, 42, 180, 2, 6, 101, 66, 31, 9]
abbrev dktX1_check_0 : List UInt8 := dkwX1_check_0 ++ dktX1_check_1
theorem dksX1_check_0 : cX1_check.data.toList.drop 0 = dktX1_check_0 := by decide +kernel
theorem dksX1_check_1 : cX1_check.data.toList.drop 24 = dktX1_check_1 := dk_seg dksX1_check_0 24 rfl rfl
theorem dksX1_check_2 : cX1_check.data.toList.drop 47 = dktX1_check_2 := dk_seg dksX1_check_1 23 rfl rfl
theorem dksX1_check_3 : cX1_check.data.toList.drop 70 = dktX1_check_3 := dk_seg dksX1_check_2 23 rfl rfl
theorem dX1_check_0 : decode cX1_check 0 = .ok (.aload_n 0, 1) := dk_42 (dk_at dksX1_check_0 0 rfl rfl)
theorem dX1_check_1 : decode cX1_check 1 = .ok (.iconst 0, 1) := dk_3 (dk_at dksX1_check_0 1 rfl rfl)
theorem dX1_check_2 : decode cX1_check 2 = .ok (.invokevirtual 510, 3) := dk_182 1 254 (dk_at dksX1_check_0 2 rfl rfl)
theorem dX1_check_5 : decode cX1_check 5 = .ok (.aload_n 0, 1) := dk_42 (dk_at dksX1_check_0 5 rfl rfl)
theorem dX1_check_6 : decode cX1_check 6 = .ok (.getfield 514, 3) := dk_180 2 2 (dk_at dksX1_check_0 6 rfl rfl)
theorem dX1_check_9 : decode cX1_check 9 = .ok (.lsub, 1) := dk_101 (dk_at dksX1_check_0 9 rfl rfl)
theorem dX1_check_10 : decode cX1_check 10 = .ok (.lstore_n 1, 1) := dk_64 (dk_at dksX1_check_0 10 rfl rfl)
theorem dX1_check_11 : decode cX1_check 11 = .ok (.aload_n 0, 1) := dk_42 (dk_at dksX1_check_0 11 rfl rfl)
theorem dX1_check_12 : decode cX1_check 12 = .ok (.iconst 1, 1) := dk_4 (dk_at dksX1_check_0 12 rfl rfl)
theorem dX1_check_13 : decode cX1_check 13 = .ok (.invokevirtual 510, 3) := dk_182 1 254 (dk_at dksX1_check_0 13 rfl rfl)
theorem dX1_check_16 : decode cX1_check 16 = .ok (.aload_n 0, 1) := dk_42 (dk_at dksX1_check_0 16 rfl rfl)
theorem dX1_check_17 : decode cX1_check 17 = .ok (.getfield 518, 3) := dk_180 2 6 (dk_at dksX1_check_0 17 rfl rfl)
theorem dX1_check_20 : decode cX1_check 20 = .ok (.lsub, 1) := dk_101 (dk_at dksX1_check_0 20 rfl rfl)
theorem dX1_check_21 : decode cX1_check 21 = .ok (.lstore_n 3, 1) := dk_66 (dk_at dksX1_check_0 21 rfl rfl)
theorem dX1_check_22 : decode cX1_check 22 = .ok (.lload_n 1, 1) := dk_31 (dk_at dksX1_check_0 22 rfl rfl)
theorem dX1_check_23 : decode cX1_check 23 = .ok (.lconst 0, 1) := dk_9 (dk_at dksX1_check_0 23 rfl rfl)
theorem dX1_check_24 : decode cX1_check 24 = .ok (.lcmp, 1) := dk_148 (dk_at dksX1_check_1 0 rfl rfl)
theorem dX1_check_25 : decode cX1_check 25 = .ok (.ifCond .ne 11, 3) := dk_154 0 11 (dk_at dksX1_check_1 1 rfl rfl)
theorem dX1_check_28 : decode cX1_check 28 = .ok (.lload_n 3, 1) := dk_33 (dk_at dksX1_check_1 4 rfl rfl)
theorem dX1_check_29 : decode cX1_check 29 = .ok (.lconst 0, 1) := dk_9 (dk_at dksX1_check_1 5 rfl rfl)
theorem dX1_check_30 : decode cX1_check 30 = .ok (.lcmp, 1) := dk_148 (dk_at dksX1_check_1 6 rfl rfl)
theorem dX1_check_31 : decode cX1_check 31 = .ok (.ifCond .ne 5, 3) := dk_154 0 5 (dk_at dksX1_check_1 7 rfl rfl)
theorem dX1_check_34 : decode cX1_check 34 = .ok (.iconst (-1), 1) := dk_2 (dk_at dksX1_check_1 10 rfl rfl)
theorem dX1_check_35 : decode cX1_check 35 = .ok (.ireturn, 1) := dk_172 (dk_at dksX1_check_1 11 rfl rfl)
theorem dX1_check_36 : decode cX1_check 36 = .ok (.lload_n 1, 1) := dk_31 (dk_at dksX1_check_1 12 rfl rfl)
theorem dX1_check_37 : decode cX1_check 37 = .ok (.lconst 0, 1) := dk_9 (dk_at dksX1_check_1 13 rfl rfl)
theorem dX1_check_38 : decode cX1_check 38 = .ok (.lcmp, 1) := dk_148 (dk_at dksX1_check_1 14 rfl rfl)
theorem dX1_check_39 : decode cX1_check 39 = .ok (.ifCond .eq 31, 3) := dk_153 0 31 (dk_at dksX1_check_1 15 rfl rfl)
theorem dX1_check_42 : decode cX1_check 42 = .ok (.lload_n 3, 1) := dk_33 (dk_at dksX1_check_1 18 rfl rfl)
theorem dX1_check_43 : decode cX1_check 43 = .ok (.lload_n 1, 1) := dk_31 (dk_at dksX1_check_1 19 rfl rfl)
theorem dX1_check_44 : decode cX1_check 44 = .ok (.lrem, 1) := dk_113 (dk_at dksX1_check_1 20 rfl rfl)
theorem dX1_check_45 : decode cX1_check 45 = .ok (.lconst 0, 1) := dk_9 (dk_at dksX1_check_1 21 rfl rfl)
theorem dX1_check_46 : decode cX1_check 46 = .ok (.lcmp, 1) := dk_148 (dk_at dksX1_check_1 22 rfl rfl)
theorem dX1_check_47 : decode cX1_check 47 = .ok (.ifCond .ne 23, 3) := dk_154 0 23 (dk_at dksX1_check_2 0 rfl rfl)
theorem dX1_check_50 : decode cX1_check 50 = .ok (.lload_n 3, 1) := dk_33 (dk_at dksX1_check_2 3 rfl rfl)
theorem dX1_check_51 : decode cX1_check 51 = .ok (.lload_n 1, 1) := dk_31 (dk_at dksX1_check_2 4 rfl rfl)
theorem dX1_check_52 : decode cX1_check 52 = .ok (.ldiv, 1) := dk_109 (dk_at dksX1_check_2 5 rfl rfl)
theorem dX1_check_53 : decode cX1_check 53 = .ok (.lconst 1, 1) := dk_10 (dk_at dksX1_check_2 6 rfl rfl)
theorem dX1_check_54 : decode cX1_check 54 = .ok (.lcmp, 1) := dk_148 (dk_at dksX1_check_2 7 rfl rfl)
theorem dX1_check_55 : decode cX1_check 55 = .ok (.ifCond .lt 15, 3) := dk_155 0 15 (dk_at dksX1_check_2 8 rfl rfl)
theorem dX1_check_58 : decode cX1_check 58 = .ok (.lload_n 3, 1) := dk_33 (dk_at dksX1_check_2 11 rfl rfl)
theorem dX1_check_59 : decode cX1_check 59 = .ok (.lload_n 1, 1) := dk_31 (dk_at dksX1_check_2 12 rfl rfl)
theorem dX1_check_60 : decode cX1_check 60 = .ok (.ldiv, 1) := dk_109 (dk_at dksX1_check_2 13 rfl rfl)
theorem dX1_check_61 : decode cX1_check 61 = .ok (.aload_n 0, 1) := dk_42 (dk_at dksX1_check_2 14 rfl rfl)
theorem dX1_check_62 : decode cX1_check 62 = .ok (.getfield 507, 3) := dk_180 1 251 (dk_at dksX1_check_2 15 rfl rfl)
theorem dX1_check_65 : decode cX1_check 65 = .ok (.i2l, 1) := dk_133 (dk_at dksX1_check_2 18 rfl rfl)
theorem dX1_check_66 : decode cX1_check 66 = .ok (.lcmp, 1) := dk_148 (dk_at dksX1_check_2 19 rfl rfl)
theorem dX1_check_67 : decode cX1_check 67 = .ok (.ifCond .le 6, 3) := dk_158 0 6 (dk_at dksX1_check_2 20 rfl rfl)
theorem dX1_check_70 : decode cX1_check 70 = .ok (.bipush (-2), 2) := dk_16 254 (dk_at dksX1_check_3 0 rfl rfl)
theorem dX1_check_72 : decode cX1_check 72 = .ok (.ireturn, 1) := dk_172 (dk_at dksX1_check_3 2 rfl rfl)
theorem dX1_check_73 : decode cX1_check 73 = .ok (.lload_n 3, 1) := dk_33 (dk_at dksX1_check_3 3 rfl rfl)
theorem dX1_check_74 : decode cX1_check 74 = .ok (.lload_n 1, 1) := dk_31 (dk_at dksX1_check_3 4 rfl rfl)
theorem dX1_check_75 : decode cX1_check 75 = .ok (.ldiv, 1) := dk_109 (dk_at dksX1_check_3 5 rfl rfl)
theorem dX1_check_76 : decode cX1_check 76 = .ok (.l2i, 1) := dk_136 (dk_at dksX1_check_3 6 rfl rfl)
theorem dX1_check_77 : decode cX1_check 77 = .ok (.iconst 1, 1) := dk_4 (dk_at dksX1_check_3 7 rfl rfl)
theorem dX1_check_78 : decode cX1_check 78 = .ok (.isub, 1) := dk_100 (dk_at dksX1_check_3 8 rfl rfl)
theorem dX1_check_79 : decode cX1_check 79 = .ok (.ireturn, 1) := dk_172 (dk_at dksX1_check_3 9 rfl rfl)
def dkwX1_count_7 : List UInt8 := [172, 42, 180, 0, 12, 180, 1, 3, 172, 2, 172]
abbrev dktX1_count_7 : List UInt8 := dkwX1_count_7 ++ []
def dkwX1_count_6 : List UInt8 := [182, 0, 90, 172, 42, 180, 0, 35, 182, 0, 90, 172, 42, 180, 0, 12, 180, 1, 168, 172, 42, 180, 1, 86]
abbrev dktX1_count_6 : List UInt8 := dkwX1_count_6 ++ dktX1_count_7
def dkwX1_count_5 : List UInt8 := [180, 1, 154, 172, 42, 180, 0, 12, 180, 1, 171, 182, 0, 90, 172, 42, 180, 0, 12, 180, 0, 233]
abbrev dktX1_count_5 : List UInt8 := dkwX1_count_5 ++ dktX1_count_6
def dkwX1_count_4 : List UInt8 := [180, 1, 71, 172, 42, 180, 0, 12, 180, 1, 198, 172, 42, 180, 0, 12, 180, 1, 92, 182, 0, 90, 172, 42]
abbrev dktX1_count_4 : List UInt8 := dkwX1_count_4 ++ dktX1_count_5
def dkwX1_count_3 : List UInt8 := [182, 1, 205, 172, 42, 180, 0, 12, 182, 1, 196, 172, 42, 180, 0, 12, 180, 1, 199, 172, 42, 180, 0, 12]
abbrev dktX1_count_3 : List UInt8 := dkwX1_count_3 ++ dktX1_count_4
def dkwX1_count_2 : List UInt8 := [42, 180, 0, 12, 180, 1, 47, 172, 42, 180, 0, 12, 180, 0, 87, 182, 0, 90, 172, 42, 180, 0, 12]
abbrev dktX1_count_2 : List UInt8 := dkwX1_count_2 ++ dktX1_count_3
def dkwX1_count_1 : List UInt8 := [170, 0, 0, 0, 0, 0, 201, 0, 0, 0, 0, 0, 0, 0, 14, 0, 0, 0, 75, 0, 0, 0, 83, 0, 0, 0, 94, 0, 0, 0, 102, 0, 0, 0, 110, 0, 0, 0, 118, 0, 0, 0, 126, 0, 0, 0, 134, 0, 0, 0, 145, 0, 0, 0, 150, 0, 0, 0, 161, 0, 0, 0, 172, 0, 0, 0, 180, 0, 0, 0, 188, 0, 0, 0, 193]
abbrev dktX1_count_1 : List UInt8 := dkwX1_count_1 ++ dktX1_count_2
def dkwX1_count_0 : List UInt8 := [27]
abbrev dktX1_count_0 : List UInt8 := dkwX1_count_0 ++ dktX1_count_1
theorem dksX1_count_0 : cX1_count.data.toList.drop 0 = dktX1_count_0 := by decide +kernel
theorem dksX1_count_1 : cX1_count.data.toList.drop 1 = dktX1_count_1 := dk_seg dksX1_count_0 1 rfl rfl
theorem dksX1_count_2 : cX1_count.data.toList.drop 76 = dktX1_count_2 := dk_seg dksX1_count_1 75 rfl rfl
theorem dksX1_count_3 : cX1_count.data.toList.drop 99 = dktX1_count_3 := dk_seg dksX1_count_2 23 rfl rfl
theorem dksX1_count_4 : cX1_count.data.toList.drop 123 = dktX1_count_4 := dk_seg dksX1_count_3 24 rfl rfl
theorem dksX1_count_5 : cX1_count.data.toList.drop 147 = dktX1_count_5 := dk_seg dksX1_count_4 24 rfl rfl
theorem dksX1_count_6 : cX1_count.data.toList.drop 169 = dktX1_count_6 := dk_seg dksX1_count_5 22 rfl rfl
theorem dksX1_count_7 : cX1_count.data.toList.drop 193 = dktX1_count_7 := dk_seg dksX1_count_6 24 rfl rfl
theorem dX1_count_0 : decode cX1_count 0 = .ok (.iload_n 1, 1) := dk_27 (dk_at dksX1_count_0 0 rfl rfl)
theorem dX1_count_1 : decode cX1_count 1 = .ok (.tableswitch 201 0 14 #[75, 83, 94, 102, 110, 118, 126, 134, 145, 150, 161, 172, 180, 188, 193], 75) := by decide +kernel
theorem dX1_count_76 : decode cX1_count 76 = .ok (.aload_n 0, 1) := dk_42 (dk_at dksX1_count_2 0 rfl rfl)
theorem dX1_count_77 : decode cX1_count 77 = .ok (.getfield 12, 3) := dk_180 0 12 (dk_at dksX1_count_2 1 rfl rfl)
theorem dX1_count_80 : decode cX1_count 80 = .ok (.getfield 303, 3) := dk_180 1 47 (dk_at dksX1_count_2 4 rfl rfl)
theorem dX1_count_83 : decode cX1_count 83 = .ok (.ireturn, 1) := dk_172 (dk_at dksX1_count_2 7 rfl rfl)
theorem dX1_count_84 : decode cX1_count 84 = .ok (.aload_n 0, 1) := dk_42 (dk_at dksX1_count_2 8 rfl rfl)
theorem dX1_count_85 : decode cX1_count 85 = .ok (.getfield 12, 3) := dk_180 0 12 (dk_at dksX1_count_2 9 rfl rfl)
theorem dX1_count_88 : decode cX1_count 88 = .ok (.getfield 87, 3) := dk_180 0 87 (dk_at dksX1_count_2 12 rfl rfl)
theorem dX1_count_91 : decode cX1_count 91 = .ok (.invokevirtual 90, 3) := dk_182 0 90 (dk_at dksX1_count_2 15 rfl rfl)
theorem dX1_count_94 : decode cX1_count 94 = .ok (.ireturn, 1) := dk_172 (dk_at dksX1_count_2 18 rfl rfl)
theorem dX1_count_95 : decode cX1_count 95 = .ok (.aload_n 0, 1) := dk_42 (dk_at dksX1_count_2 19 rfl rfl)
theorem dX1_count_96 : decode cX1_count 96 = .ok (.getfield 12, 3) := dk_180 0 12 (dk_at dksX1_count_2 20 rfl rfl)
theorem dX1_count_99 : decode cX1_count 99 = .ok (.invokevirtual 461, 3) := dk_182 1 205 (dk_at dksX1_count_3 0 rfl rfl)
theorem dX1_count_102 : decode cX1_count 102 = .ok (.ireturn, 1) := dk_172 (dk_at dksX1_count_3 3 rfl rfl)
theorem dX1_count_103 : decode cX1_count 103 = .ok (.aload_n 0, 1) := dk_42 (dk_at dksX1_count_3 4 rfl rfl)
theorem dX1_count_104 : decode cX1_count 104 = .ok (.getfield 12, 3) := dk_180 0 12 (dk_at dksX1_count_3 5 rfl rfl)
theorem dX1_count_107 : decode cX1_count 107 = .ok (.invokevirtual 452, 3) := dk_182 1 196 (dk_at dksX1_count_3 8 rfl rfl)
theorem dX1_count_110 : decode cX1_count 110 = .ok (.ireturn, 1) := dk_172 (dk_at dksX1_count_3 11 rfl rfl)
theorem dX1_count_111 : decode cX1_count 111 = .ok (.aload_n 0, 1) := dk_42 (dk_at dksX1_count_3 12 rfl rfl)
theorem dX1_count_112 : decode cX1_count 112 = .ok (.getfield 12, 3) := dk_180 0 12 (dk_at dksX1_count_3 13 rfl rfl)
theorem dX1_count_115 : decode cX1_count 115 = .ok (.getfield 455, 3) := dk_180 1 199 (dk_at dksX1_count_3 16 rfl rfl)
theorem dX1_count_118 : decode cX1_count 118 = .ok (.ireturn, 1) := dk_172 (dk_at dksX1_count_3 19 rfl rfl)
theorem dX1_count_119 : decode cX1_count 119 = .ok (.aload_n 0, 1) := dk_42 (dk_at dksX1_count_3 20 rfl rfl)
theorem dX1_count_120 : decode cX1_count 120 = .ok (.getfield 12, 3) := dk_180 0 12 (dk_at dksX1_count_3 21 rfl rfl)
theorem dX1_count_123 : decode cX1_count 123 = .ok (.getfield 327, 3) := dk_180 1 71 (dk_at dksX1_count_4 0 rfl rfl)
theorem dX1_count_126 : decode cX1_count 126 = .ok (.ireturn, 1) := dk_172 (dk_at dksX1_count_4 3 rfl rfl)
theorem dX1_count_127 : decode cX1_count 127 = .ok (.aload_n 0, 1) := dk_42 (dk_at dksX1_count_4 4 rfl rfl)
theorem dX1_count_128 : decode cX1_count 128 = .ok (.getfield 12, 3) := dk_180 0 12 (dk_at dksX1_count_4 5 rfl rfl)
theorem dX1_count_131 : decode cX1_count 131 = .ok (.getfield 454, 3) := dk_180 1 198 (dk_at dksX1_count_4 8 rfl rfl)
theorem dX1_count_134 : decode cX1_count 134 = .ok (.ireturn, 1) := dk_172 (dk_at dksX1_count_4 11 rfl rfl)
theorem dX1_count_135 : decode cX1_count 135 = .ok (.aload_n 0, 1) := dk_42 (dk_at dksX1_count_4 12 rfl rfl)
theorem dX1_count_136 : decode cX1_count 136 = .ok (.getfield 12, 3) := dk_180 0 12 (dk_at dksX1_count_4 13 rfl rfl)
theorem dX1_count_139 : decode cX1_count 139 = .ok (.getfield 348, 3) := dk_180 1 92 (dk_at dksX1_count_4 16 rfl rfl)
theorem dX1_count_142 : decode cX1_count 142 = .ok (.invokevirtual 90, 3) := dk_182 0 90 (dk_at dksX1_count_4 19 rfl rfl)
theorem dX1_count_145 : decode cX1_count 145 = .ok (.ireturn, 1) := dk_172 (dk_at dksX1_count_4 22 rfl rfl)
theorem dX1_count_146 : decode cX1_count 146 = .ok (.aload_n 0, 1) := dk_42 (dk_at dksX1_count_4 23 rfl rfl)
theorem dX1_count_147 : decode cX1_count 147 = .ok (.getfield 410, 3) := dk_180 1 154 (dk_at dksX1_count_5 0 rfl rfl)
theorem dX1_count_150 : decode cX1_count 150 = .ok (.ireturn, 1) := dk_172 (dk_at dksX1_count_5 3 rfl rfl)
theorem dX1_count_151 : decode cX1_count 151 = .ok (.aload_n 0, 1) := dk_42 (dk_at dksX1_count_5 4 rfl rfl)
theorem dX1_count_152 : decode cX1_count 152 = .ok (.getfield 12, 3) := dk_180 0 12 (dk_at dksX1_count_5 5 rfl rfl)
theorem dX1_count_155 : decode cX1_count 155 = .ok (.getfield 427, 3) := dk_180 1 171 (dk_at dksX1_count_5 8 rfl rfl)
theorem dX1_count_158 : decode cX1_count 158 = .ok (.invokevirtual 90, 3) := dk_182 0 90 (dk_at dksX1_count_5 11 rfl rfl)
theorem dX1_count_161 : decode cX1_count 161 = .ok (.ireturn, 1) := dk_172 (dk_at dksX1_count_5 14 rfl rfl)
theorem dX1_count_162 : decode cX1_count 162 = .ok (.aload_n 0, 1) := dk_42 (dk_at dksX1_count_5 15 rfl rfl)
theorem dX1_count_163 : decode cX1_count 163 = .ok (.getfield 12, 3) := dk_180 0 12 (dk_at dksX1_count_5 16 rfl rfl)
theorem dX1_count_166 : decode cX1_count 166 = .ok (.getfield 233, 3) := dk_180 0 233 (dk_at dksX1_count_5 19 rfl rfl)
theorem dX1_count_169 : decode cX1_count 169 = .ok (.invokevirtual 90, 3) := dk_182 0 90 (dk_at dksX1_count_6 0 rfl rfl)
theorem dX1_count_172 : decode cX1_count 172 = .ok (.ireturn, 1) := dk_172 (dk_at dksX1_count_6 3 rfl rfl)
theorem dX1_count_173 : decode cX1_count 173 = .ok (.aload_n 0, 1) := dk_42 (dk_at dksX1_count_6 4 rfl rfl)
theorem dX1_count_174 : decode cX1_count 174 = .ok (.getfield 35, 3) := dk_180 0 35 (dk_at dksX1_count_6 5 rfl rfl)
theorem dX1_count_177 : decode cX1_count 177 = .ok (.invokevirtual 90, 3) := dk_182 0 90 (dk_at dksX1_count_6 8 rfl rfl)
theorem dX1_count_180 : decode cX1_count 180 = .ok (.ireturn, 1) := dk_172 (dk_at dksX1_count_6 11 rfl rfl)
theorem dX1_count_181 : decode cX1_count 181 = .ok (.aload_n 0, 1) := dk_42 (dk_at dksX1_count_6 12 rfl rfl)
theorem dX1_count_182 : decode cX1_count 182 = .ok (.getfield 12, 3) := dk_180 0 12 (dk_at dksX1_count_6 13 rfl rfl)
theorem dX1_count_185 : decode cX1_count 185 = .ok (.getfield 424, 3) := dk_180 1 168 (dk_at dksX1_count_6 16 rfl rfl)
theorem dX1_count_188 : decode cX1_count 188 = .ok (.ireturn, 1) := dk_172 (dk_at dksX1_count_6 19 rfl rfl)
theorem dX1_count_189 : decode cX1_count 189 = .ok (.aload_n 0, 1) := dk_42 (dk_at dksX1_count_6 20 rfl rfl)
theorem dX1_count_190 : decode cX1_count 190 = .ok (.getfield 342, 3) := dk_180 1 86 (dk_at dksX1_count_6 21 rfl rfl)
theorem dX1_count_193 : decode cX1_count 193 = .ok (.ireturn, 1) := dk_172 (dk_at dksX1_count_7 0 rfl rfl)
theorem dX1_count_194 : decode cX1_count 194 = .ok (.aload_n 0, 1) := dk_42 (dk_at dksX1_count_7 1 rfl rfl)
theorem dX1_count_195 : decode cX1_count 195 = .ok (.getfield 12, 3) := dk_180 0 12 (dk_at dksX1_count_7 2 rfl rfl)
theorem dX1_count_198 : decode cX1_count 198 = .ok (.getfield 259, 3) := dk_180 1 3 (dk_at dksX1_count_7 5 rfl rfl)
theorem dX1_count_201 : decode cX1_count 201 = .ok (.ireturn, 1) := dk_172 (dk_at dksX1_count_7 8 rfl rfl)
theorem dX1_count_202 : decode cX1_count 202 = .ok (.iconst (-1), 1) := dk_2 (dk_at dksX1_count_7 9 rfl rfl)
theorem dX1_count_203 : decode cX1_count 203 = .ok (.ireturn, 1) := dk_172 (dk_at dksX1_count_7 10 rfl rfl)
def dkwX1_land_3 : List UInt8 := [182, 0, 118, 4, 172]
abbrev dktX1_land_3 : List UInt8 := dkwX1_land_3 ++ []
def dkwX1_land_2 : List UInt8 := [42, 180, 0, 12, 180, 0, 111, 27, 29, 84, 42, 180, 0, 12, 27, 42, 180, 0, 12, 180, 0, 114]
abbrev dktX1_land_2 : List UInt8 := dkwX1_land_2 ++ dktX1_land_3
def dkwX1_land_1 : List UInt8 := [184, 0, 100, 25, 4, 182, 0, 104, 154, 0, 5, 2, 172, 42, 180, 0, 12, 180, 0, 108, 27, 28, 145, 84]
abbrev dktX1_land_1 : List UInt8 := dkwX1_land_1 ++ dktX1_land_2
def dkwX1_land_0 : List UInt8 := [42, 27, 182, 0, 96, 58, 4, 28, 155, 0, 13, 28, 16, 9, 163, 0, 7, 4, 167, 0, 4, 3]
abbrev dktX1_land_0 : List UInt8 := dkwX1_land_0 ++ dktX1_land_1
theorem dksX1_land_0 : cX1_land.data.toList.drop 0 = dktX1_land_0 := by decide +kernel
theorem dksX1_land_1 : cX1_land.data.toList.drop 22 = dktX1_land_1 := dk_seg dksX1_land_0 22 rfl rfl
theorem dksX1_land_2 : cX1_land.data.toList.drop 46 = dktX1_land_2 := dk_seg dksX1_land_1 24 rfl rfl
theorem dksX1_land_3 : cX1_land.data.toList.drop 68 = dktX1_land_3 := dk_seg dksX1_land_2 22 rfl rfl
theorem dX1_land_0 : decode cX1_land 0 = .ok (.aload_n 0, 1) := dk_42 (dk_at dksX1_land_0 0 rfl rfl)
theorem dX1_land_1 : decode cX1_land 1 = .ok (.iload_n 1, 1) := dk_27 (dk_at dksX1_land_0 1 rfl rfl)
theorem dX1_land_2 : decode cX1_land 2 = .ok (.invokevirtual 96, 3) := dk_182 0 96 (dk_at dksX1_land_0 2 rfl rfl)
theorem dX1_land_5 : decode cX1_land 5 = .ok (.astore 4, 2) := dk_58 4 (dk_at dksX1_land_0 5 rfl rfl)
theorem dX1_land_7 : decode cX1_land 7 = .ok (.iload_n 2, 1) := dk_28 (dk_at dksX1_land_0 7 rfl rfl)
theorem dX1_land_8 : decode cX1_land 8 = .ok (.ifCond .lt 13, 3) := dk_155 0 13 (dk_at dksX1_land_0 8 rfl rfl)
theorem dX1_land_11 : decode cX1_land 11 = .ok (.iload_n 2, 1) := dk_28 (dk_at dksX1_land_0 11 rfl rfl)
theorem dX1_land_12 : decode cX1_land 12 = .ok (.bipush 9, 2) := dk_16 9 (dk_at dksX1_land_0 12 rfl rfl)
theorem dX1_land_14 : decode cX1_land 14 = .ok (.if_icmp .gt 7, 3) := dk_163 0 7 (dk_at dksX1_land_0 14 rfl rfl)
theorem dX1_land_17 : decode cX1_land 17 = .ok (.iconst 1, 1) := dk_4 (dk_at dksX1_land_0 17 rfl rfl)
theorem dX1_land_18 : decode cX1_land 18 = .ok (.goto 4, 3) := dk_167 0 4 (dk_at dksX1_land_0 18 rfl rfl)
theorem dX1_land_21 : decode cX1_land 21 = .ok (.iconst 0, 1) := dk_3 (dk_at dksX1_land_0 21 rfl rfl)
theorem dX1_land_22 : decode cX1_land 22 = .ok (.invokestatic 100, 3) := dk_184 0 100 (dk_at dksX1_land_1 0 rfl rfl)
theorem dX1_land_25 : decode cX1_land 25 = .ok (.aload 4, 2) := dk_25 4 (dk_at dksX1_land_1 3 rfl rfl)
theorem dX1_land_27 : decode cX1_land 27 = .ok (.invokevirtual 104, 3) := dk_182 0 104 (dk_at dksX1_land_1 5 rfl rfl)
theorem dX1_land_30 : decode cX1_land 30 = .ok (.ifCond .ne 5, 3) := dk_154 0 5 (dk_at dksX1_land_1 8 rfl rfl)
theorem dX1_land_33 : decode cX1_land 33 = .ok (.iconst (-1), 1) := dk_2 (dk_at dksX1_land_1 11 rfl rfl)
theorem dX1_land_34 : decode cX1_land 34 = .ok (.ireturn, 1) := dk_172 (dk_at dksX1_land_1 12 rfl rfl)
theorem dX1_land_35 : decode cX1_land 35 = .ok (.aload_n 0, 1) := dk_42 (dk_at dksX1_land_1 13 rfl rfl)
theorem dX1_land_36 : decode cX1_land 36 = .ok (.getfield 12, 3) := dk_180 0 12 (dk_at dksX1_land_1 14 rfl rfl)
theorem dX1_land_39 : decode cX1_land 39 = .ok (.getfield 108, 3) := dk_180 0 108 (dk_at dksX1_land_1 17 rfl rfl)
theorem dX1_land_42 : decode cX1_land 42 = .ok (.iload_n 1, 1) := dk_27 (dk_at dksX1_land_1 20 rfl rfl)
theorem dX1_land_43 : decode cX1_land 43 = .ok (.iload_n 2, 1) := dk_28 (dk_at dksX1_land_1 21 rfl rfl)
theorem dX1_land_44 : decode cX1_land 44 = .ok (.i2b, 1) := dk_145 (dk_at dksX1_land_1 22 rfl rfl)
theorem dX1_land_45 : decode cX1_land 45 = .ok (.bastore, 1) := dk_84 (dk_at dksX1_land_1 23 rfl rfl)
theorem dX1_land_46 : decode cX1_land 46 = .ok (.aload_n 0, 1) := dk_42 (dk_at dksX1_land_2 0 rfl rfl)
theorem dX1_land_47 : decode cX1_land 47 = .ok (.getfield 12, 3) := dk_180 0 12 (dk_at dksX1_land_2 1 rfl rfl)
theorem dX1_land_50 : decode cX1_land 50 = .ok (.getfield 111, 3) := dk_180 0 111 (dk_at dksX1_land_2 4 rfl rfl)
theorem dX1_land_53 : decode cX1_land 53 = .ok (.iload_n 1, 1) := dk_27 (dk_at dksX1_land_2 7 rfl rfl)
theorem dX1_land_54 : decode cX1_land 54 = .ok (.iload_n 3, 1) := dk_29 (dk_at dksX1_land_2 8 rfl rfl)
theorem dX1_land_55 : decode cX1_land 55 = .ok (.bastore, 1) := dk_84 (dk_at dksX1_land_2 9 rfl rfl)
theorem dX1_land_56 : decode cX1_land 56 = .ok (.aload_n 0, 1) := dk_42 (dk_at dksX1_land_2 10 rfl rfl)
theorem dX1_land_57 : decode cX1_land 57 = .ok (.getfield 12, 3) := dk_180 0 12 (dk_at dksX1_land_2 11 rfl rfl)
theorem dX1_land_60 : decode cX1_land 60 = .ok (.iload_n 1, 1) := dk_27 (dk_at dksX1_land_2 14 rfl rfl)
theorem dX1_land_61 : decode cX1_land 61 = .ok (.aload_n 0, 1) := dk_42 (dk_at dksX1_land_2 15 rfl rfl)
theorem dX1_land_62 : decode cX1_land 62 = .ok (.getfield 12, 3) := dk_180 0 12 (dk_at dksX1_land_2 16 rfl rfl)
theorem dX1_land_65 : decode cX1_land 65 = .ok (.getfield 114, 3) := dk_180 0 114 (dk_at dksX1_land_2 19 rfl rfl)
theorem dX1_land_68 : decode cX1_land 68 = .ok (.invokevirtual 118, 3) := dk_182 0 118 (dk_at dksX1_land_3 0 rfl rfl)
theorem dX1_land_71 : decode cX1_land 71 = .ok (.iconst 1, 1) := dk_4 (dk_at dksX1_land_3 3 rfl rfl)
theorem dX1_land_72 : decode cX1_land 72 = .ok (.ireturn, 1) := dk_172 (dk_at dksX1_land_3 4 rfl rfl)
def dkwX1_slotOf_0 : List UInt8 := [27, 16, 96, 184, 0, 74, 42, 180, 0, 12, 180, 0, 78, 27, 182, 0, 81, 192, 0, 85, 176]
abbrev dktX1_slotOf_0 : List UInt8 := dkwX1_slotOf_0 ++ []
theorem dksX1_slotOf_0 : cX1_slotOf.data.toList.drop 0 = dktX1_slotOf_0 := by decide +kernel
theorem dX1_slotOf_0 : decode cX1_slotOf 0 = .ok (.iload_n 1, 1) := dk_27 (dk_at dksX1_slotOf_0 0 rfl rfl)
theorem dX1_slotOf_1 : decode cX1_slotOf 1 = .ok (.bipush 96, 2) := dk_16 96 (dk_at dksX1_slotOf_0 1 rfl rfl)
theorem dX1_slotOf_3 : decode cX1_slotOf 3 = .ok (.invokestatic 74, 3) := dk_184 0 74 (dk_at dksX1_slotOf_0 3 rfl rfl)
theorem dX1_slotOf_6 : decode cX1_slotOf 6 = .ok (.aload_n 0, 1) := dk_42 (dk_at dksX1_slotOf_0 6 rfl rfl)
theorem dX1_slotOf_7 : decode cX1_slotOf 7 = .ok (.getfield 12, 3) := dk_180 0 12 (dk_at dksX1_slotOf_0 7 rfl rfl)
theorem dX1_slotOf_10 : decode cX1_slotOf 10 = .ok (.getfield 78, 3) := dk_180 0 78 (dk_at dksX1_slotOf_0 10 rfl rfl)
theorem dX1_slotOf_13 : decode cX1_slotOf 13 = .ok (.iload_n 1, 1) := dk_27 (dk_at dksX1_slotOf_0 13 rfl rfl)
theorem dX1_slotOf_14 : decode cX1_slotOf 14 = .ok (.invokevirtual 81, 3) := dk_182 0 81 (dk_at dksX1_slotOf_0 14 rfl rfl)
theorem dX1_slotOf_17 : decode cX1_slotOf 17 = .ok (.checkcast 85, 3) := dk_192 0 85 (dk_at dksX1_slotOf_0 17 rfl rfl)
theorem dX1_slotOf_20 : decode cX1_slotOf 20 = .ok (.areturn, 1) := dk_176 (dk_at dksX1_slotOf_0 20 rfl rfl)
def dkwX1_there_0 : List UInt8 := [26, 155, 0, 8, 26, 27, 161, 0, 11, 187, 0, 71, 89, 183, 0, 73, 191, 177]
abbrev dktX1_there_0 : List UInt8 := dkwX1_there_0 ++ []
theorem dksX1_there_0 : cX1_there.data.toList.drop 0 = dktX1_there_0 := by decide +kernel
theorem dX1_there_0 : decode cX1_there 0 = .ok (.iload_n 0, 1) := dk_26 (dk_at dksX1_there_0 0 rfl rfl)
theorem dX1_there_1 : decode cX1_there 1 = .ok (.ifCond .lt 8, 3) := dk_155 0 8 (dk_at dksX1_there_0 1 rfl rfl)
theorem dX1_there_4 : decode cX1_there 4 = .ok (.iload_n 0, 1) := dk_26 (dk_at dksX1_there_0 4 rfl rfl)
theorem dX1_there_5 : decode cX1_there 5 = .ok (.iload_n 1, 1) := dk_27 (dk_at dksX1_there_0 5 rfl rfl)
theorem dX1_there_6 : decode cX1_there 6 = .ok (.if_icmp .lt 11, 3) := dk_161 0 11 (dk_at dksX1_there_0 6 rfl rfl)
theorem dX1_there_9 : decode cX1_there 9 = .ok (.new 71, 3) := dk_187 0 71 (dk_at dksX1_there_0 9 rfl rfl)
theorem dX1_there_12 : decode cX1_there 12 = .ok (.dup, 1) := dk_89 (dk_at dksX1_there_0 12 rfl rfl)
theorem dX1_there_13 : decode cX1_there 13 = .ok (.invokespecial 73, 3) := dk_183 0 73 (dk_at dksX1_there_0 13 rfl rfl)
theorem dX1_there_16 : decode cX1_there 16 = .ok (.athrow, 1) := dk_191 (dk_at dksX1_there_0 16 rfl rfl)
theorem dX1_there_17 : decode cX1_there 17 = .ok (.return_, 1) := dk_177 (dk_at dksX1_there_0 17 rfl rfl)
def dkwX1_need_0 : List UInt8 := [26, 154, 0, 11, 187, 0, 65, 89, 183, 0, 67, 191, 177]
abbrev dktX1_need_0 : List UInt8 := dkwX1_need_0 ++ []
theorem dksX1_need_0 : cX1_need.data.toList.drop 0 = dktX1_need_0 := by decide +kernel
theorem dX1_need_0 : decode cX1_need 0 = .ok (.iload_n 0, 1) := dk_26 (dk_at dksX1_need_0 0 rfl rfl)
theorem dX1_need_1 : decode cX1_need 1 = .ok (.ifCond .ne 11, 3) := dk_154 0 11 (dk_at dksX1_need_0 1 rfl rfl)
theorem dX1_need_4 : decode cX1_need 4 = .ok (.new 65, 3) := dk_187 0 65 (dk_at dksX1_need_0 4 rfl rfl)
theorem dX1_need_7 : decode cX1_need 7 = .ok (.dup, 1) := dk_89 (dk_at dksX1_need_0 7 rfl rfl)
theorem dX1_need_8 : decode cX1_need 8 = .ok (.invokespecial 67, 3) := dk_183 0 67 (dk_at dksX1_need_0 8 rfl rfl)
theorem dX1_need_11 : decode cX1_need 11 = .ok (.athrow, 1) := dk_191 (dk_at dksX1_need_0 11 rfl rfl)
theorem dX1_need_12 : decode cX1_need 12 = .ok (.return_, 1) := dk_177 (dk_at dksX1_need_0 12 rfl rfl)
def dkwX1_rain_3 : List UInt8 := [180, 0, 12, 180, 0, 122, 180, 0, 126, 27, 46, 172]
abbrev dktX1_rain_3 : List UInt8 := dkwX1_rain_3 ++ []
def dkwX1_rain_2 : List UInt8 := [180, 0, 12, 180, 0, 122, 27, 28, 2, 160, 0, 8, 18, 133, 167, 0, 5, 28, 134, 182, 0, 134, 42]
abbrev dktX1_rain_2 : List UInt8 := dkwX1_rain_2 ++ dktX1_rain_3
def dkwX1_rain_1 : List UInt8 := [184, 0, 100, 42, 180, 0, 12, 180, 0, 122, 180, 0, 126, 27, 46, 17, 3, 232, 160, 0, 5, 2, 172, 42]
abbrev dktX1_rain_1 : List UInt8 := dkwX1_rain_1 ++ dktX1_rain_2
def dkwX1_rain_0 : List UInt8 := [27, 7, 184, 0, 74, 28, 2, 161, 0, 14, 28, 17, 1, 244, 163, 0, 7, 4, 167, 0, 4, 3]
abbrev dktX1_rain_0 : List UInt8 := dkwX1_rain_0 ++ dktX1_rain_1
theorem dksX1_rain_0 : cX1_rain.data.toList.drop 0 = dktX1_rain_0 := by decide +kernel
theorem dksX1_rain_1 : cX1_rain.data.toList.drop 22 = dktX1_rain_1 := dk_seg dksX1_rain_0 22 rfl rfl
theorem dksX1_rain_2 : cX1_rain.data.toList.drop 46 = dktX1_rain_2 := dk_seg dksX1_rain_1 24 rfl rfl
theorem dksX1_rain_3 : cX1_rain.data.toList.drop 69 = dktX1_rain_3 := dk_seg dksX1_rain_2 23 rfl rfl
theorem dX1_rain_0 : decode cX1_rain 0 = .ok (.iload_n 1, 1) := dk_27 (dk_at dksX1_rain_0 0 rfl rfl)
theorem dX1_rain_1 : decode cX1_rain 1 = .ok (.iconst 4, 1) := dk_7 (dk_at dksX1_rain_0 1 rfl rfl)
theorem dX1_rain_2 : decode cX1_rain 2 = .ok (.invokestatic 74, 3) := dk_184 0 74 (dk_at dksX1_rain_0 2 rfl rfl)
theorem dX1_rain_5 : decode cX1_rain 5 = .ok (.iload_n 2, 1) := dk_28 (dk_at dksX1_rain_0 5 rfl rfl)
theorem dX1_rain_6 : decode cX1_rain 6 = .ok (.iconst (-1), 1) := dk_2 (dk_at dksX1_rain_0 6 rfl rfl)
theorem dX1_rain_7 : decode cX1_rain 7 = .ok (.if_icmp .lt 14, 3) := dk_161 0 14 (dk_at dksX1_rain_0 7 rfl rfl)
theorem dX1_rain_10 : decode cX1_rain 10 = .ok (.iload_n 2, 1) := dk_28 (dk_at dksX1_rain_0 10 rfl rfl)
theorem dX1_rain_11 : decode cX1_rain 11 = .ok (.sipush 500, 3) := dk_17 1 244 (dk_at dksX1_rain_0 11 rfl rfl)
theorem dX1_rain_14 : decode cX1_rain 14 = .ok (.if_icmp .gt 7, 3) := dk_163 0 7 (dk_at dksX1_rain_0 14 rfl rfl)
theorem dX1_rain_17 : decode cX1_rain 17 = .ok (.iconst 1, 1) := dk_4 (dk_at dksX1_rain_0 17 rfl rfl)
theorem dX1_rain_18 : decode cX1_rain 18 = .ok (.goto 4, 3) := dk_167 0 4 (dk_at dksX1_rain_0 18 rfl rfl)
theorem dX1_rain_21 : decode cX1_rain 21 = .ok (.iconst 0, 1) := dk_3 (dk_at dksX1_rain_0 21 rfl rfl)
theorem dX1_rain_22 : decode cX1_rain 22 = .ok (.invokestatic 100, 3) := dk_184 0 100 (dk_at dksX1_rain_1 0 rfl rfl)
theorem dX1_rain_25 : decode cX1_rain 25 = .ok (.aload_n 0, 1) := dk_42 (dk_at dksX1_rain_1 3 rfl rfl)
theorem dX1_rain_26 : decode cX1_rain 26 = .ok (.getfield 12, 3) := dk_180 0 12 (dk_at dksX1_rain_1 4 rfl rfl)
theorem dX1_rain_29 : decode cX1_rain 29 = .ok (.getfield 122, 3) := dk_180 0 122 (dk_at dksX1_rain_1 7 rfl rfl)
theorem dX1_rain_32 : decode cX1_rain 32 = .ok (.getfield 126, 3) := dk_180 0 126 (dk_at dksX1_rain_1 10 rfl rfl)
theorem dX1_rain_35 : decode cX1_rain 35 = .ok (.iload_n 1, 1) := dk_27 (dk_at dksX1_rain_1 13 rfl rfl)
theorem dX1_rain_36 : decode cX1_rain 36 = .ok (.iaload, 1) := dk_46 (dk_at dksX1_rain_1 14 rfl rfl)
theorem dX1_rain_37 : decode cX1_rain 37 = .ok (.sipush 1000, 3) := dk_17 3 232 (dk_at dksX1_rain_1 15 rfl rfl)
theorem dX1_rain_40 : decode cX1_rain 40 = .ok (.if_icmp .ne 5, 3) := dk_160 0 5 (dk_at dksX1_rain_1 18 rfl rfl)
theorem dX1_rain_43 : decode cX1_rain 43 = .ok (.iconst (-1), 1) := dk_2 (dk_at dksX1_rain_1 21 rfl rfl)
theorem dX1_rain_44 : decode cX1_rain 44 = .ok (.ireturn, 1) := dk_172 (dk_at dksX1_rain_1 22 rfl rfl)
theorem dX1_rain_45 : decode cX1_rain 45 = .ok (.aload_n 0, 1) := dk_42 (dk_at dksX1_rain_1 23 rfl rfl)
theorem dX1_rain_46 : decode cX1_rain 46 = .ok (.getfield 12, 3) := dk_180 0 12 (dk_at dksX1_rain_2 0 rfl rfl)
theorem dX1_rain_49 : decode cX1_rain 49 = .ok (.getfield 122, 3) := dk_180 0 122 (dk_at dksX1_rain_2 3 rfl rfl)
theorem dX1_rain_52 : decode cX1_rain 52 = .ok (.iload_n 1, 1) := dk_27 (dk_at dksX1_rain_2 6 rfl rfl)
theorem dX1_rain_53 : decode cX1_rain 53 = .ok (.iload_n 2, 1) := dk_28 (dk_at dksX1_rain_2 7 rfl rfl)
theorem dX1_rain_54 : decode cX1_rain 54 = .ok (.iconst (-1), 1) := dk_2 (dk_at dksX1_rain_2 8 rfl rfl)
theorem dX1_rain_55 : decode cX1_rain 55 = .ok (.if_icmp .ne 8, 3) := dk_160 0 8 (dk_at dksX1_rain_2 9 rfl rfl)
theorem dX1_rain_58 : decode cX1_rain 58 = .ok (.ldc 133, 2) := dk_18 133 (dk_at dksX1_rain_2 12 rfl rfl)
theorem dX1_rain_60 : decode cX1_rain 60 = .ok (.goto 5, 3) := dk_167 0 5 (dk_at dksX1_rain_2 14 rfl rfl)
theorem dX1_rain_63 : decode cX1_rain 63 = .ok (.iload_n 2, 1) := dk_28 (dk_at dksX1_rain_2 17 rfl rfl)
theorem dX1_rain_64 : decode cX1_rain 64 = .ok (.i2f, 1) := dk_134 (dk_at dksX1_rain_2 18 rfl rfl)
theorem dX1_rain_65 : decode cX1_rain 65 = .ok (.invokevirtual 134, 3) := dk_182 0 134 (dk_at dksX1_rain_2 19 rfl rfl)
theorem dX1_rain_68 : decode cX1_rain 68 = .ok (.aload_n 0, 1) := dk_42 (dk_at dksX1_rain_2 22 rfl rfl)
theorem dX1_rain_69 : decode cX1_rain 69 = .ok (.getfield 12, 3) := dk_180 0 12 (dk_at dksX1_rain_3 0 rfl rfl)
theorem dX1_rain_72 : decode cX1_rain 72 = .ok (.getfield 122, 3) := dk_180 0 122 (dk_at dksX1_rain_3 3 rfl rfl)
theorem dX1_rain_75 : decode cX1_rain 75 = .ok (.getfield 126, 3) := dk_180 0 126 (dk_at dksX1_rain_3 6 rfl rfl)
theorem dX1_rain_78 : decode cX1_rain 78 = .ok (.iload_n 1, 1) := dk_27 (dk_at dksX1_rain_3 9 rfl rfl)
theorem dX1_rain_79 : decode cX1_rain 79 = .ok (.iaload, 1) := dk_46 (dk_at dksX1_rain_3 10 rfl rfl)
theorem dX1_rain_80 : decode cX1_rain 80 = .ok (.ireturn, 1) := dk_172 (dk_at dksX1_rain_3 11 rfl rfl)
def dkwX1_rains_4 : List UInt8 := [180, 0, 122, 180, 0, 126, 27, 46, 172]
abbrev dktX1_rains_4 : List UInt8 := dkwX1_rains_4 ++ []
def dkwX1_rains_3 : List UInt8 := [180, 0, 12, 180, 0, 122, 27, 28, 134, 182, 0, 134, 132, 4, 1, 167, 255, 234, 42, 180, 0, 12]
abbrev dktX1_rains_3 : List UInt8 := dkwX1_rains_3 ++ dktX1_rains_4
def dkwX1_rains_2 : List UInt8 := [27, 46, 29, 96, 17, 3, 232, 164, 0, 5, 2, 172, 3, 54, 4, 21, 4, 29, 162, 0, 22, 42]
abbrev dktX1_rains_2 : List UInt8 := dkwX1_rains_2 ++ dktX1_rains_3
def dkwX1_rains_1 : List UInt8 := [17, 3, 232, 163, 0, 7, 4, 167, 0, 4, 3, 184, 0, 100, 42, 180, 0, 12, 180, 0, 122, 180, 0, 126]
abbrev dktX1_rains_1 : List UInt8 := dkwX1_rains_1 ++ dktX1_rains_2
def dkwX1_rains_0 : List UInt8 := [27, 7, 184, 0, 74, 28, 155, 0, 26, 28, 17, 1, 244, 163, 0, 19, 29, 4, 161, 0, 14, 29]
abbrev dktX1_rains_0 : List UInt8 := dkwX1_rains_0 ++ dktX1_rains_1
theorem dksX1_rains_0 : cX1_rains.data.toList.drop 0 = dktX1_rains_0 := by decide +kernel
theorem dksX1_rains_1 : cX1_rains.data.toList.drop 22 = dktX1_rains_1 := dk_seg dksX1_rains_0 22 rfl rfl
theorem dksX1_rains_2 : cX1_rains.data.toList.drop 46 = dktX1_rains_2 := dk_seg dksX1_rains_1 24 rfl rfl
theorem dksX1_rains_3 : cX1_rains.data.toList.drop 68 = dktX1_rains_3 := dk_seg dksX1_rains_2 22 rfl rfl
theorem dksX1_rains_4 : cX1_rains.data.toList.drop 90 = dktX1_rains_4 := dk_seg dksX1_rains_3 22 rfl rfl
theorem dX1_rains_0 : decode cX1_rains 0 = .ok (.iload_n 1, 1) := dk_27 (dk_at dksX1_rains_0 0 rfl rfl)
theorem dX1_rains_1 : decode cX1_rains 1 = .ok (.iconst 4, 1) := dk_7 (dk_at dksX1_rains_0 1 rfl rfl)
theorem dX1_rains_2 : decode cX1_rains 2 = .ok (.invokestatic 74, 3) := dk_184 0 74 (dk_at dksX1_rains_0 2 rfl rfl)
theorem dX1_rains_5 : decode cX1_rains 5 = .ok (.iload_n 2, 1) := dk_28 (dk_at dksX1_rains_0 5 rfl rfl)
theorem dX1_rains_6 : decode cX1_rains 6 = .ok (.ifCond .lt 26, 3) := dk_155 0 26 (dk_at dksX1_rains_0 6 rfl rfl)
theorem dX1_rains_9 : decode cX1_rains 9 = .ok (.iload_n 2, 1) := dk_28 (dk_at dksX1_rains_0 9 rfl rfl)
theorem dX1_rains_10 : decode cX1_rains 10 = .ok (.sipush 500, 3) := dk_17 1 244 (dk_at dksX1_rains_0 10 rfl rfl)
theorem dX1_rains_13 : decode cX1_rains 13 = .ok (.if_icmp .gt 19, 3) := dk_163 0 19 (dk_at dksX1_rains_0 13 rfl rfl)
theorem dX1_rains_16 : decode cX1_rains 16 = .ok (.iload_n 3, 1) := dk_29 (dk_at dksX1_rains_0 16 rfl rfl)
theorem dX1_rains_17 : decode cX1_rains 17 = .ok (.iconst 1, 1) := dk_4 (dk_at dksX1_rains_0 17 rfl rfl)
theorem dX1_rains_18 : decode cX1_rains 18 = .ok (.if_icmp .lt 14, 3) := dk_161 0 14 (dk_at dksX1_rains_0 18 rfl rfl)
theorem dX1_rains_21 : decode cX1_rains 21 = .ok (.iload_n 3, 1) := dk_29 (dk_at dksX1_rains_0 21 rfl rfl)
theorem dX1_rains_22 : decode cX1_rains 22 = .ok (.sipush 1000, 3) := dk_17 3 232 (dk_at dksX1_rains_1 0 rfl rfl)
theorem dX1_rains_25 : decode cX1_rains 25 = .ok (.if_icmp .gt 7, 3) := dk_163 0 7 (dk_at dksX1_rains_1 3 rfl rfl)
theorem dX1_rains_28 : decode cX1_rains 28 = .ok (.iconst 1, 1) := dk_4 (dk_at dksX1_rains_1 6 rfl rfl)
theorem dX1_rains_29 : decode cX1_rains 29 = .ok (.goto 4, 3) := dk_167 0 4 (dk_at dksX1_rains_1 7 rfl rfl)
theorem dX1_rains_32 : decode cX1_rains 32 = .ok (.iconst 0, 1) := dk_3 (dk_at dksX1_rains_1 10 rfl rfl)
theorem dX1_rains_33 : decode cX1_rains 33 = .ok (.invokestatic 100, 3) := dk_184 0 100 (dk_at dksX1_rains_1 11 rfl rfl)
theorem dX1_rains_36 : decode cX1_rains 36 = .ok (.aload_n 0, 1) := dk_42 (dk_at dksX1_rains_1 14 rfl rfl)
theorem dX1_rains_37 : decode cX1_rains 37 = .ok (.getfield 12, 3) := dk_180 0 12 (dk_at dksX1_rains_1 15 rfl rfl)
theorem dX1_rains_40 : decode cX1_rains 40 = .ok (.getfield 122, 3) := dk_180 0 122 (dk_at dksX1_rains_1 18 rfl rfl)
theorem dX1_rains_43 : decode cX1_rains 43 = .ok (.getfield 126, 3) := dk_180 0 126 (dk_at dksX1_rains_1 21 rfl rfl)
theorem dX1_rains_46 : decode cX1_rains 46 = .ok (.iload_n 1, 1) := dk_27 (dk_at dksX1_rains_2 0 rfl rfl)
theorem dX1_rains_47 : decode cX1_rains 47 = .ok (.iaload, 1) := dk_46 (dk_at dksX1_rains_2 1 rfl rfl)
theorem dX1_rains_48 : decode cX1_rains 48 = .ok (.iload_n 3, 1) := dk_29 (dk_at dksX1_rains_2 2 rfl rfl)
theorem dX1_rains_49 : decode cX1_rains 49 = .ok (.iadd, 1) := dk_96 (dk_at dksX1_rains_2 3 rfl rfl)
theorem dX1_rains_50 : decode cX1_rains 50 = .ok (.sipush 1000, 3) := dk_17 3 232 (dk_at dksX1_rains_2 4 rfl rfl)
theorem dX1_rains_53 : decode cX1_rains 53 = .ok (.if_icmp .le 5, 3) := dk_164 0 5 (dk_at dksX1_rains_2 7 rfl rfl)
theorem dX1_rains_56 : decode cX1_rains 56 = .ok (.iconst (-1), 1) := dk_2 (dk_at dksX1_rains_2 10 rfl rfl)
theorem dX1_rains_57 : decode cX1_rains 57 = .ok (.ireturn, 1) := dk_172 (dk_at dksX1_rains_2 11 rfl rfl)
theorem dX1_rains_58 : decode cX1_rains 58 = .ok (.iconst 0, 1) := dk_3 (dk_at dksX1_rains_2 12 rfl rfl)
theorem dX1_rains_59 : decode cX1_rains 59 = .ok (.istore 4, 2) := dk_54 4 (dk_at dksX1_rains_2 13 rfl rfl)
theorem dX1_rains_61 : decode cX1_rains 61 = .ok (.iload 4, 2) := dk_21 4 (dk_at dksX1_rains_2 15 rfl rfl)
theorem dX1_rains_63 : decode cX1_rains 63 = .ok (.iload_n 3, 1) := dk_29 (dk_at dksX1_rains_2 17 rfl rfl)
theorem dX1_rains_64 : decode cX1_rains 64 = .ok (.if_icmp .ge 22, 3) := dk_162 0 22 (dk_at dksX1_rains_2 18 rfl rfl)
theorem dX1_rains_67 : decode cX1_rains 67 = .ok (.aload_n 0, 1) := dk_42 (dk_at dksX1_rains_2 21 rfl rfl)
theorem dX1_rains_68 : decode cX1_rains 68 = .ok (.getfield 12, 3) := dk_180 0 12 (dk_at dksX1_rains_3 0 rfl rfl)
theorem dX1_rains_71 : decode cX1_rains 71 = .ok (.getfield 122, 3) := dk_180 0 122 (dk_at dksX1_rains_3 3 rfl rfl)
theorem dX1_rains_74 : decode cX1_rains 74 = .ok (.iload_n 1, 1) := dk_27 (dk_at dksX1_rains_3 6 rfl rfl)
theorem dX1_rains_75 : decode cX1_rains 75 = .ok (.iload_n 2, 1) := dk_28 (dk_at dksX1_rains_3 7 rfl rfl)
theorem dX1_rains_76 : decode cX1_rains 76 = .ok (.i2f, 1) := dk_134 (dk_at dksX1_rains_3 8 rfl rfl)
theorem dX1_rains_77 : decode cX1_rains 77 = .ok (.invokevirtual 134, 3) := dk_182 0 134 (dk_at dksX1_rains_3 9 rfl rfl)
theorem dX1_rains_80 : decode cX1_rains 80 = .ok (.iinc 4 1, 3) := dk_132 4 1 (dk_at dksX1_rains_3 12 rfl rfl)
theorem dX1_rains_83 : decode cX1_rains 83 = .ok (.goto (-22), 3) := dk_167 255 234 (dk_at dksX1_rains_3 15 rfl rfl)
theorem dX1_rains_86 : decode cX1_rains 86 = .ok (.aload_n 0, 1) := dk_42 (dk_at dksX1_rains_3 18 rfl rfl)
theorem dX1_rains_87 : decode cX1_rains 87 = .ok (.getfield 12, 3) := dk_180 0 12 (dk_at dksX1_rains_3 19 rfl rfl)
theorem dX1_rains_90 : decode cX1_rains 90 = .ok (.getfield 122, 3) := dk_180 0 122 (dk_at dksX1_rains_4 0 rfl rfl)
theorem dX1_rains_93 : decode cX1_rains 93 = .ok (.getfield 126, 3) := dk_180 0 126 (dk_at dksX1_rains_4 3 rfl rfl)
theorem dX1_rains_96 : decode cX1_rains 96 = .ok (.iload_n 1, 1) := dk_27 (dk_at dksX1_rains_4 6 rfl rfl)
theorem dX1_rains_97 : decode cX1_rains 97 = .ok (.iaload, 1) := dk_46 (dk_at dksX1_rains_4 7 rfl rfl)
theorem dX1_rains_98 : decode cX1_rains 98 = .ok (.ireturn, 1) := dk_172 (dk_at dksX1_rains_4 8 rfl rfl)
def dkwX1_fell_1 : List UInt8 := [42, 180, 0, 12, 180, 0, 122, 27, 28, 182, 0, 138, 172]
abbrev dktX1_fell_1 : List UInt8 := dkwX1_fell_1 ++ []
def dkwX1_fell_0 : List UInt8 := [27, 7, 184, 0, 74, 28, 155, 0, 14, 28, 17, 3, 232, 163, 0, 7, 4, 167, 0, 4, 3, 184, 0, 100]
abbrev dktX1_fell_0 : List UInt8 := dkwX1_fell_0 ++ dktX1_fell_1
theorem dksX1_fell_0 : cX1_fell.data.toList.drop 0 = dktX1_fell_0 := by decide +kernel
theorem dksX1_fell_1 : cX1_fell.data.toList.drop 24 = dktX1_fell_1 := dk_seg dksX1_fell_0 24 rfl rfl
theorem dX1_fell_0 : decode cX1_fell 0 = .ok (.iload_n 1, 1) := dk_27 (dk_at dksX1_fell_0 0 rfl rfl)
theorem dX1_fell_1 : decode cX1_fell 1 = .ok (.iconst 4, 1) := dk_7 (dk_at dksX1_fell_0 1 rfl rfl)
theorem dX1_fell_2 : decode cX1_fell 2 = .ok (.invokestatic 74, 3) := dk_184 0 74 (dk_at dksX1_fell_0 2 rfl rfl)
theorem dX1_fell_5 : decode cX1_fell 5 = .ok (.iload_n 2, 1) := dk_28 (dk_at dksX1_fell_0 5 rfl rfl)
theorem dX1_fell_6 : decode cX1_fell 6 = .ok (.ifCond .lt 14, 3) := dk_155 0 14 (dk_at dksX1_fell_0 6 rfl rfl)
theorem dX1_fell_9 : decode cX1_fell 9 = .ok (.iload_n 2, 1) := dk_28 (dk_at dksX1_fell_0 9 rfl rfl)
theorem dX1_fell_10 : decode cX1_fell 10 = .ok (.sipush 1000, 3) := dk_17 3 232 (dk_at dksX1_fell_0 10 rfl rfl)
theorem dX1_fell_13 : decode cX1_fell 13 = .ok (.if_icmp .gt 7, 3) := dk_163 0 7 (dk_at dksX1_fell_0 13 rfl rfl)
theorem dX1_fell_16 : decode cX1_fell 16 = .ok (.iconst 1, 1) := dk_4 (dk_at dksX1_fell_0 16 rfl rfl)
theorem dX1_fell_17 : decode cX1_fell 17 = .ok (.goto 4, 3) := dk_167 0 4 (dk_at dksX1_fell_0 17 rfl rfl)
theorem dX1_fell_20 : decode cX1_fell 20 = .ok (.iconst 0, 1) := dk_3 (dk_at dksX1_fell_0 20 rfl rfl)
theorem dX1_fell_21 : decode cX1_fell 21 = .ok (.invokestatic 100, 3) := dk_184 0 100 (dk_at dksX1_fell_0 21 rfl rfl)
theorem dX1_fell_24 : decode cX1_fell 24 = .ok (.aload_n 0, 1) := dk_42 (dk_at dksX1_fell_1 0 rfl rfl)
theorem dX1_fell_25 : decode cX1_fell 25 = .ok (.getfield 12, 3) := dk_180 0 12 (dk_at dksX1_fell_1 1 rfl rfl)
theorem dX1_fell_28 : decode cX1_fell 28 = .ok (.getfield 122, 3) := dk_180 0 122 (dk_at dksX1_fell_1 4 rfl rfl)
theorem dX1_fell_31 : decode cX1_fell 31 = .ok (.iload_n 1, 1) := dk_27 (dk_at dksX1_fell_1 7 rfl rfl)
theorem dX1_fell_32 : decode cX1_fell 32 = .ok (.iload_n 2, 1) := dk_28 (dk_at dksX1_fell_1 8 rfl rfl)
theorem dX1_fell_33 : decode cX1_fell 33 = .ok (.invokevirtual 138, 3) := dk_182 0 138 (dk_at dksX1_fell_1 9 rfl rfl)
theorem dX1_fell_36 : decode cX1_fell 36 = .ok (.ireturn, 1) := dk_172 (dk_at dksX1_fell_1 12 rfl rfl)
def dkwX1_seen_0 : List UInt8 := [27, 7, 184, 0, 74, 42, 180, 0, 12, 180, 0, 142, 27, 46, 172]
abbrev dktX1_seen_0 : List UInt8 := dkwX1_seen_0 ++ []
theorem dksX1_seen_0 : cX1_seen.data.toList.drop 0 = dktX1_seen_0 := by decide +kernel
theorem dX1_seen_0 : decode cX1_seen 0 = .ok (.iload_n 1, 1) := dk_27 (dk_at dksX1_seen_0 0 rfl rfl)
theorem dX1_seen_1 : decode cX1_seen 1 = .ok (.iconst 4, 1) := dk_7 (dk_at dksX1_seen_0 1 rfl rfl)
theorem dX1_seen_2 : decode cX1_seen 2 = .ok (.invokestatic 74, 3) := dk_184 0 74 (dk_at dksX1_seen_0 2 rfl rfl)
theorem dX1_seen_5 : decode cX1_seen 5 = .ok (.aload_n 0, 1) := dk_42 (dk_at dksX1_seen_0 5 rfl rfl)
theorem dX1_seen_6 : decode cX1_seen 6 = .ok (.getfield 12, 3) := dk_180 0 12 (dk_at dksX1_seen_0 6 rfl rfl)
theorem dX1_seen_9 : decode cX1_seen 9 = .ok (.getfield 142, 3) := dk_180 0 142 (dk_at dksX1_seen_0 9 rfl rfl)
theorem dX1_seen_12 : decode cX1_seen 12 = .ok (.iload_n 1, 1) := dk_27 (dk_at dksX1_seen_0 12 rfl rfl)
theorem dX1_seen_13 : decode cX1_seen 13 = .ok (.iaload, 1) := dk_46 (dk_at dksX1_seen_0 13 rfl rfl)
theorem dX1_seen_14 : decode cX1_seen 14 = .ok (.ireturn, 1) := dk_172 (dk_at dksX1_seen_0 14 rfl rfl)
def dkwX1_promise_0 : List UInt8 := [42, 27, 182, 0, 96, 87, 42, 180, 0, 12, 27, 182, 0, 145, 172]
abbrev dktX1_promise_0 : List UInt8 := dkwX1_promise_0 ++ []
theorem dksX1_promise_0 : cX1_promise.data.toList.drop 0 = dktX1_promise_0 := by decide +kernel
theorem dX1_promise_0 : decode cX1_promise 0 = .ok (.aload_n 0, 1) := dk_42 (dk_at dksX1_promise_0 0 rfl rfl)
theorem dX1_promise_1 : decode cX1_promise 1 = .ok (.iload_n 1, 1) := dk_27 (dk_at dksX1_promise_0 1 rfl rfl)
theorem dX1_promise_2 : decode cX1_promise 2 = .ok (.invokevirtual 96, 3) := dk_182 0 96 (dk_at dksX1_promise_0 2 rfl rfl)
theorem dX1_promise_5 : decode cX1_promise 5 = .ok (.pop, 1) := dk_87 (dk_at dksX1_promise_0 5 rfl rfl)
theorem dX1_promise_6 : decode cX1_promise 6 = .ok (.aload_n 0, 1) := dk_42 (dk_at dksX1_promise_0 6 rfl rfl)
theorem dX1_promise_7 : decode cX1_promise 7 = .ok (.getfield 12, 3) := dk_180 0 12 (dk_at dksX1_promise_0 7 rfl rfl)
theorem dX1_promise_10 : decode cX1_promise 10 = .ok (.iload_n 1, 1) := dk_27 (dk_at dksX1_promise_0 10 rfl rfl)
theorem dX1_promise_11 : decode cX1_promise 11 = .ok (.invokevirtual 145, 3) := dk_182 0 145 (dk_at dksX1_promise_0 11 rfl rfl)
theorem dX1_promise_14 : decode cX1_promise 14 = .ok (.ireturn, 1) := dk_172 (dk_at dksX1_promise_0 14 rfl rfl)
def dkwX1_zoneOf_0 : List UInt8 := [26, 16, 12, 112, 6, 108, 172]
abbrev dktX1_zoneOf_0 : List UInt8 := dkwX1_zoneOf_0 ++ []
theorem dksX1_zoneOf_0 : cX1_zoneOf.data.toList.drop 0 = dktX1_zoneOf_0 := by decide +kernel
theorem dX1_zoneOf_0 : decode cX1_zoneOf 0 = .ok (.iload_n 0, 1) := dk_26 (dk_at dksX1_zoneOf_0 0 rfl rfl)
theorem dX1_zoneOf_1 : decode cX1_zoneOf 1 = .ok (.bipush 12, 2) := dk_16 12 (dk_at dksX1_zoneOf_0 1 rfl rfl)
theorem dX1_zoneOf_3 : decode cX1_zoneOf 3 = .ok (.irem, 1) := dk_112 (dk_at dksX1_zoneOf_0 3 rfl rfl)
theorem dX1_zoneOf_4 : decode cX1_zoneOf 4 = .ok (.iconst 3, 1) := dk_6 (dk_at dksX1_zoneOf_0 4 rfl rfl)
theorem dX1_zoneOf_5 : decode cX1_zoneOf 5 = .ok (.idiv, 1) := dk_108 (dk_at dksX1_zoneOf_0 5 rfl rfl)
theorem dX1_zoneOf_6 : decode cX1_zoneOf 6 = .ok (.ireturn, 1) := dk_172 (dk_at dksX1_zoneOf_0 6 rfl rfl)
def dkwX1_section_6 : List UInt8 := [182, 0, 174, 172, 42, 180, 0, 12, 180, 0, 177, 27, 46, 172]
abbrev dktX1_section_6 : List UInt8 := dkwX1_section_6 ++ []
def dkwX1_section_5 : List UInt8 := [167, 0, 20, 42, 180, 0, 12, 180, 0, 171, 27, 51, 153, 0, 7, 4, 167, 0, 4, 3, 172, 25, 4]
abbrev dktX1_section_5 : List UInt8 := dkwX1_section_5 ++ dktX1_section_6
def dkwX1_section_4 : List UInt8 := [199, 0, 7, 2, 167, 0, 12, 42, 180, 0, 12, 180, 0, 168, 27, 46, 172, 25, 5, 199, 0, 7, 2]
abbrev dktX1_section_4 : List UInt8 := dkwX1_section_4 ++ dktX1_section_5
def dkwX1_section_3 : List UInt8 := [25, 4, 182, 0, 157, 172, 25, 4, 182, 0, 162, 172, 42, 180, 0, 12, 180, 0, 165, 27, 46, 172, 25, 5]
abbrev dktX1_section_3 : List UInt8 := dkwX1_section_3 ++ dktX1_section_4
def dkwX1_section_2 : List UInt8 := [170, 0, 0, 0, 0, 0, 113, 0, 0, 0, 0, 0, 0, 0, 5, 0, 0, 0, 39, 0, 0, 0, 45, 0, 0, 0, 51, 0, 0, 0, 61, 0, 0, 0, 80, 0, 0, 0, 107]
abbrev dktX1_section_2 : List UInt8 := dkwX1_section_2 ++ dktX1_section_3
def dkwX1_section_1 : List UInt8 := [45, 182, 0, 149, 58, 4, 45, 182, 0, 153, 58, 5, 28]
abbrev dktX1_section_1 : List UInt8 := dkwX1_section_1 ++ dktX1_section_2
def dkwX1_section_0 : List UInt8 := [42, 27, 182, 0, 96, 78, 28, 155, 0, 13, 28, 16, 6, 163, 0, 7, 4, 167, 0, 4, 3, 184, 0, 100]
abbrev dktX1_section_0 : List UInt8 := dkwX1_section_0 ++ dktX1_section_1
theorem dksX1_section_0 : cX1_section.data.toList.drop 0 = dktX1_section_0 := by decide +kernel
theorem dksX1_section_1 : cX1_section.data.toList.drop 24 = dktX1_section_1 := dk_seg dksX1_section_0 24 rfl rfl
theorem dksX1_section_2 : cX1_section.data.toList.drop 37 = dktX1_section_2 := dk_seg dksX1_section_1 13 rfl rfl
theorem dksX1_section_3 : cX1_section.data.toList.drop 76 = dktX1_section_3 := dk_seg dksX1_section_2 39 rfl rfl
theorem dksX1_section_4 : cX1_section.data.toList.drop 100 = dktX1_section_4 := dk_seg dksX1_section_3 24 rfl rfl
theorem dksX1_section_5 : cX1_section.data.toList.drop 123 = dktX1_section_5 := dk_seg dksX1_section_4 23 rfl rfl
theorem dksX1_section_6 : cX1_section.data.toList.drop 146 = dktX1_section_6 := dk_seg dksX1_section_5 23 rfl rfl
theorem dX1_section_0 : decode cX1_section 0 = .ok (.aload_n 0, 1) := dk_42 (dk_at dksX1_section_0 0 rfl rfl)
theorem dX1_section_1 : decode cX1_section 1 = .ok (.iload_n 1, 1) := dk_27 (dk_at dksX1_section_0 1 rfl rfl)
theorem dX1_section_2 : decode cX1_section 2 = .ok (.invokevirtual 96, 3) := dk_182 0 96 (dk_at dksX1_section_0 2 rfl rfl)
theorem dX1_section_5 : decode cX1_section 5 = .ok (.astore_n 3, 1) := dk_78 (dk_at dksX1_section_0 5 rfl rfl)
theorem dX1_section_6 : decode cX1_section 6 = .ok (.iload_n 2, 1) := dk_28 (dk_at dksX1_section_0 6 rfl rfl)
theorem dX1_section_7 : decode cX1_section 7 = .ok (.ifCond .lt 13, 3) := dk_155 0 13 (dk_at dksX1_section_0 7 rfl rfl)
theorem dX1_section_10 : decode cX1_section 10 = .ok (.iload_n 2, 1) := dk_28 (dk_at dksX1_section_0 10 rfl rfl)
theorem dX1_section_11 : decode cX1_section 11 = .ok (.bipush 6, 2) := dk_16 6 (dk_at dksX1_section_0 11 rfl rfl)
theorem dX1_section_13 : decode cX1_section 13 = .ok (.if_icmp .gt 7, 3) := dk_163 0 7 (dk_at dksX1_section_0 13 rfl rfl)
theorem dX1_section_16 : decode cX1_section 16 = .ok (.iconst 1, 1) := dk_4 (dk_at dksX1_section_0 16 rfl rfl)
theorem dX1_section_17 : decode cX1_section 17 = .ok (.goto 4, 3) := dk_167 0 4 (dk_at dksX1_section_0 17 rfl rfl)
theorem dX1_section_20 : decode cX1_section 20 = .ok (.iconst 0, 1) := dk_3 (dk_at dksX1_section_0 20 rfl rfl)
theorem dX1_section_21 : decode cX1_section 21 = .ok (.invokestatic 100, 3) := dk_184 0 100 (dk_at dksX1_section_0 21 rfl rfl)
theorem dX1_section_24 : decode cX1_section 24 = .ok (.aload_n 3, 1) := dk_45 (dk_at dksX1_section_1 0 rfl rfl)
theorem dX1_section_25 : decode cX1_section 25 = .ok (.invokevirtual 149, 3) := dk_182 0 149 (dk_at dksX1_section_1 1 rfl rfl)
theorem dX1_section_28 : decode cX1_section 28 = .ok (.astore 4, 2) := dk_58 4 (dk_at dksX1_section_1 4 rfl rfl)
theorem dX1_section_30 : decode cX1_section 30 = .ok (.aload_n 3, 1) := dk_45 (dk_at dksX1_section_1 6 rfl rfl)
theorem dX1_section_31 : decode cX1_section 31 = .ok (.invokevirtual 153, 3) := dk_182 0 153 (dk_at dksX1_section_1 7 rfl rfl)
theorem dX1_section_34 : decode cX1_section 34 = .ok (.astore 5, 2) := dk_58 5 (dk_at dksX1_section_1 10 rfl rfl)
theorem dX1_section_36 : decode cX1_section 36 = .ok (.iload_n 2, 1) := dk_28 (dk_at dksX1_section_1 12 rfl rfl)
theorem dX1_section_37 : decode cX1_section 37 = .ok (.tableswitch 113 0 5 #[39, 45, 51, 61, 80, 107], 39) := by decide +kernel
theorem dX1_section_76 : decode cX1_section 76 = .ok (.aload 4, 2) := dk_25 4 (dk_at dksX1_section_3 0 rfl rfl)
theorem dX1_section_78 : decode cX1_section 78 = .ok (.invokevirtual 157, 3) := dk_182 0 157 (dk_at dksX1_section_3 2 rfl rfl)
theorem dX1_section_81 : decode cX1_section 81 = .ok (.ireturn, 1) := dk_172 (dk_at dksX1_section_3 5 rfl rfl)
theorem dX1_section_82 : decode cX1_section 82 = .ok (.aload 4, 2) := dk_25 4 (dk_at dksX1_section_3 6 rfl rfl)
theorem dX1_section_84 : decode cX1_section 84 = .ok (.invokevirtual 162, 3) := dk_182 0 162 (dk_at dksX1_section_3 8 rfl rfl)
theorem dX1_section_87 : decode cX1_section 87 = .ok (.ireturn, 1) := dk_172 (dk_at dksX1_section_3 11 rfl rfl)
theorem dX1_section_88 : decode cX1_section 88 = .ok (.aload_n 0, 1) := dk_42 (dk_at dksX1_section_3 12 rfl rfl)
theorem dX1_section_89 : decode cX1_section 89 = .ok (.getfield 12, 3) := dk_180 0 12 (dk_at dksX1_section_3 13 rfl rfl)
theorem dX1_section_92 : decode cX1_section 92 = .ok (.getfield 165, 3) := dk_180 0 165 (dk_at dksX1_section_3 16 rfl rfl)
theorem dX1_section_95 : decode cX1_section 95 = .ok (.iload_n 1, 1) := dk_27 (dk_at dksX1_section_3 19 rfl rfl)
theorem dX1_section_96 : decode cX1_section 96 = .ok (.iaload, 1) := dk_46 (dk_at dksX1_section_3 20 rfl rfl)
theorem dX1_section_97 : decode cX1_section 97 = .ok (.ireturn, 1) := dk_172 (dk_at dksX1_section_3 21 rfl rfl)
theorem dX1_section_98 : decode cX1_section 98 = .ok (.aload 5, 2) := dk_25 5 (dk_at dksX1_section_3 22 rfl rfl)
theorem dX1_section_100 : decode cX1_section 100 = .ok (.ifnonnull 7, 3) := dk_199 0 7 (dk_at dksX1_section_4 0 rfl rfl)
theorem dX1_section_103 : decode cX1_section 103 = .ok (.iconst (-1), 1) := dk_2 (dk_at dksX1_section_4 3 rfl rfl)
theorem dX1_section_104 : decode cX1_section 104 = .ok (.goto 12, 3) := dk_167 0 12 (dk_at dksX1_section_4 4 rfl rfl)
theorem dX1_section_107 : decode cX1_section 107 = .ok (.aload_n 0, 1) := dk_42 (dk_at dksX1_section_4 7 rfl rfl)
theorem dX1_section_108 : decode cX1_section 108 = .ok (.getfield 12, 3) := dk_180 0 12 (dk_at dksX1_section_4 8 rfl rfl)
theorem dX1_section_111 : decode cX1_section 111 = .ok (.getfield 168, 3) := dk_180 0 168 (dk_at dksX1_section_4 11 rfl rfl)
theorem dX1_section_114 : decode cX1_section 114 = .ok (.iload_n 1, 1) := dk_27 (dk_at dksX1_section_4 14 rfl rfl)
theorem dX1_section_115 : decode cX1_section 115 = .ok (.iaload, 1) := dk_46 (dk_at dksX1_section_4 15 rfl rfl)
theorem dX1_section_116 : decode cX1_section 116 = .ok (.ireturn, 1) := dk_172 (dk_at dksX1_section_4 16 rfl rfl)
theorem dX1_section_117 : decode cX1_section 117 = .ok (.aload 5, 2) := dk_25 5 (dk_at dksX1_section_4 17 rfl rfl)
theorem dX1_section_119 : decode cX1_section 119 = .ok (.ifnonnull 7, 3) := dk_199 0 7 (dk_at dksX1_section_4 19 rfl rfl)
theorem dX1_section_122 : decode cX1_section 122 = .ok (.iconst (-1), 1) := dk_2 (dk_at dksX1_section_4 22 rfl rfl)
theorem dX1_section_123 : decode cX1_section 123 = .ok (.goto 20, 3) := dk_167 0 20 (dk_at dksX1_section_5 0 rfl rfl)
theorem dX1_section_126 : decode cX1_section 126 = .ok (.aload_n 0, 1) := dk_42 (dk_at dksX1_section_5 3 rfl rfl)
theorem dX1_section_127 : decode cX1_section 127 = .ok (.getfield 12, 3) := dk_180 0 12 (dk_at dksX1_section_5 4 rfl rfl)
theorem dX1_section_130 : decode cX1_section 130 = .ok (.getfield 171, 3) := dk_180 0 171 (dk_at dksX1_section_5 7 rfl rfl)
theorem dX1_section_133 : decode cX1_section 133 = .ok (.iload_n 1, 1) := dk_27 (dk_at dksX1_section_5 10 rfl rfl)
theorem dX1_section_134 : decode cX1_section 134 = .ok (.baload, 1) := dk_51 (dk_at dksX1_section_5 11 rfl rfl)
theorem dX1_section_135 : decode cX1_section 135 = .ok (.ifCond .eq 7, 3) := dk_153 0 7 (dk_at dksX1_section_5 12 rfl rfl)
theorem dX1_section_138 : decode cX1_section 138 = .ok (.iconst 1, 1) := dk_4 (dk_at dksX1_section_5 15 rfl rfl)
theorem dX1_section_139 : decode cX1_section 139 = .ok (.goto 4, 3) := dk_167 0 4 (dk_at dksX1_section_5 16 rfl rfl)
theorem dX1_section_142 : decode cX1_section 142 = .ok (.iconst 0, 1) := dk_3 (dk_at dksX1_section_5 19 rfl rfl)
theorem dX1_section_143 : decode cX1_section 143 = .ok (.ireturn, 1) := dk_172 (dk_at dksX1_section_5 20 rfl rfl)
theorem dX1_section_144 : decode cX1_section 144 = .ok (.aload 4, 2) := dk_25 4 (dk_at dksX1_section_5 21 rfl rfl)
theorem dX1_section_146 : decode cX1_section 146 = .ok (.invokevirtual 174, 3) := dk_182 0 174 (dk_at dksX1_section_6 0 rfl rfl)
theorem dX1_section_149 : decode cX1_section 149 = .ok (.ireturn, 1) := dk_172 (dk_at dksX1_section_6 3 rfl rfl)
theorem dX1_section_150 : decode cX1_section 150 = .ok (.aload_n 0, 1) := dk_42 (dk_at dksX1_section_6 4 rfl rfl)
theorem dX1_section_151 : decode cX1_section 151 = .ok (.getfield 12, 3) := dk_180 0 12 (dk_at dksX1_section_6 5 rfl rfl)
theorem dX1_section_154 : decode cX1_section 154 = .ok (.getfield 177, 3) := dk_180 0 177 (dk_at dksX1_section_6 8 rfl rfl)
theorem dX1_section_157 : decode cX1_section 157 = .ok (.iload_n 1, 1) := dk_27 (dk_at dksX1_section_6 11 rfl rfl)
theorem dX1_section_158 : decode cX1_section 158 = .ok (.iaload, 1) := dk_46 (dk_at dksX1_section_6 12 rfl rfl)
theorem dX1_section_159 : decode cX1_section 159 = .ok (.ireturn, 1) := dk_172 (dk_at dksX1_section_6 13 rfl rfl)
def dkwX1_is_3 : List UInt8 := [167, 0, 12, 25, 4, 182, 0, 192, 2, 159, 0, 7, 4, 167, 0, 4, 3, 172]
abbrev dktX1_is_3 : List UInt8 := dkwX1_is_3 ++ []
def dkwX1_is_2 : List UInt8 := [182, 0, 184, 153, 0, 35, 167, 0, 28, 28, 5, 160, 0, 14, 25, 4, 182, 0, 189, 153, 0, 19]
abbrev dktX1_is_2 : List UInt8 := dkwX1_is_2 ++ dktX1_is_3
def dkwX1_is_1 : List UInt8 := [182, 0, 180, 58, 4, 25, 4, 199, 0, 5, 3, 172, 28, 153, 0, 44, 28, 4, 160, 0, 14, 25, 4]
abbrev dktX1_is_1 : List UInt8 := dkwX1_is_1 ++ dktX1_is_2
def dkwX1_is_0 : List UInt8 := [42, 27, 182, 0, 96, 78, 28, 155, 0, 12, 28, 6, 163, 0, 7, 4, 167, 0, 4, 3, 184, 0, 100, 45]
abbrev dktX1_is_0 : List UInt8 := dkwX1_is_0 ++ dktX1_is_1
theorem dksX1_is_0 : cX1_is.data.toList.drop 0 = dktX1_is_0 := by decide +kernel
theorem dksX1_is_1 : cX1_is.data.toList.drop 24 = dktX1_is_1 := dk_seg dksX1_is_0 24 rfl rfl
theorem dksX1_is_2 : cX1_is.data.toList.drop 47 = dktX1_is_2 := dk_seg dksX1_is_1 23 rfl rfl
theorem dksX1_is_3 : cX1_is.data.toList.drop 69 = dktX1_is_3 := dk_seg dksX1_is_2 22 rfl rfl
theorem dX1_is_0 : decode cX1_is 0 = .ok (.aload_n 0, 1) := dk_42 (dk_at dksX1_is_0 0 rfl rfl)
theorem dX1_is_1 : decode cX1_is 1 = .ok (.iload_n 1, 1) := dk_27 (dk_at dksX1_is_0 1 rfl rfl)
theorem dX1_is_2 : decode cX1_is 2 = .ok (.invokevirtual 96, 3) := dk_182 0 96 (dk_at dksX1_is_0 2 rfl rfl)
theorem dX1_is_5 : decode cX1_is 5 = .ok (.astore_n 3, 1) := dk_78 (dk_at dksX1_is_0 5 rfl rfl)
theorem dX1_is_6 : decode cX1_is 6 = .ok (.iload_n 2, 1) := dk_28 (dk_at dksX1_is_0 6 rfl rfl)
theorem dX1_is_7 : decode cX1_is 7 = .ok (.ifCond .lt 12, 3) := dk_155 0 12 (dk_at dksX1_is_0 7 rfl rfl)
theorem dX1_is_10 : decode cX1_is 10 = .ok (.iload_n 2, 1) := dk_28 (dk_at dksX1_is_0 10 rfl rfl)
theorem dX1_is_11 : decode cX1_is 11 = .ok (.iconst 3, 1) := dk_6 (dk_at dksX1_is_0 11 rfl rfl)
theorem dX1_is_12 : decode cX1_is 12 = .ok (.if_icmp .gt 7, 3) := dk_163 0 7 (dk_at dksX1_is_0 12 rfl rfl)
theorem dX1_is_15 : decode cX1_is 15 = .ok (.iconst 1, 1) := dk_4 (dk_at dksX1_is_0 15 rfl rfl)
theorem dX1_is_16 : decode cX1_is 16 = .ok (.goto 4, 3) := dk_167 0 4 (dk_at dksX1_is_0 16 rfl rfl)
theorem dX1_is_19 : decode cX1_is 19 = .ok (.iconst 0, 1) := dk_3 (dk_at dksX1_is_0 19 rfl rfl)
theorem dX1_is_20 : decode cX1_is 20 = .ok (.invokestatic 100, 3) := dk_184 0 100 (dk_at dksX1_is_0 20 rfl rfl)
theorem dX1_is_23 : decode cX1_is 23 = .ok (.aload_n 3, 1) := dk_45 (dk_at dksX1_is_0 23 rfl rfl)
theorem dX1_is_24 : decode cX1_is 24 = .ok (.invokevirtual 180, 3) := dk_182 0 180 (dk_at dksX1_is_1 0 rfl rfl)
theorem dX1_is_27 : decode cX1_is 27 = .ok (.astore 4, 2) := dk_58 4 (dk_at dksX1_is_1 3 rfl rfl)
theorem dX1_is_29 : decode cX1_is 29 = .ok (.aload 4, 2) := dk_25 4 (dk_at dksX1_is_1 5 rfl rfl)
theorem dX1_is_31 : decode cX1_is 31 = .ok (.ifnonnull 5, 3) := dk_199 0 5 (dk_at dksX1_is_1 7 rfl rfl)
theorem dX1_is_34 : decode cX1_is 34 = .ok (.iconst 0, 1) := dk_3 (dk_at dksX1_is_1 10 rfl rfl)
theorem dX1_is_35 : decode cX1_is 35 = .ok (.ireturn, 1) := dk_172 (dk_at dksX1_is_1 11 rfl rfl)
theorem dX1_is_36 : decode cX1_is 36 = .ok (.iload_n 2, 1) := dk_28 (dk_at dksX1_is_1 12 rfl rfl)
theorem dX1_is_37 : decode cX1_is 37 = .ok (.ifCond .eq 44, 3) := dk_153 0 44 (dk_at dksX1_is_1 13 rfl rfl)
theorem dX1_is_40 : decode cX1_is 40 = .ok (.iload_n 2, 1) := dk_28 (dk_at dksX1_is_1 16 rfl rfl)
theorem dX1_is_41 : decode cX1_is 41 = .ok (.iconst 1, 1) := dk_4 (dk_at dksX1_is_1 17 rfl rfl)
theorem dX1_is_42 : decode cX1_is 42 = .ok (.if_icmp .ne 14, 3) := dk_160 0 14 (dk_at dksX1_is_1 18 rfl rfl)
theorem dX1_is_45 : decode cX1_is 45 = .ok (.aload 4, 2) := dk_25 4 (dk_at dksX1_is_1 21 rfl rfl)
theorem dX1_is_47 : decode cX1_is 47 = .ok (.invokevirtual 184, 3) := dk_182 0 184 (dk_at dksX1_is_2 0 rfl rfl)
theorem dX1_is_50 : decode cX1_is 50 = .ok (.ifCond .eq 35, 3) := dk_153 0 35 (dk_at dksX1_is_2 3 rfl rfl)
theorem dX1_is_53 : decode cX1_is 53 = .ok (.goto 28, 3) := dk_167 0 28 (dk_at dksX1_is_2 6 rfl rfl)
theorem dX1_is_56 : decode cX1_is 56 = .ok (.iload_n 2, 1) := dk_28 (dk_at dksX1_is_2 9 rfl rfl)
theorem dX1_is_57 : decode cX1_is 57 = .ok (.iconst 2, 1) := dk_5 (dk_at dksX1_is_2 10 rfl rfl)
theorem dX1_is_58 : decode cX1_is 58 = .ok (.if_icmp .ne 14, 3) := dk_160 0 14 (dk_at dksX1_is_2 11 rfl rfl)
theorem dX1_is_61 : decode cX1_is 61 = .ok (.aload 4, 2) := dk_25 4 (dk_at dksX1_is_2 14 rfl rfl)
theorem dX1_is_63 : decode cX1_is 63 = .ok (.invokevirtual 189, 3) := dk_182 0 189 (dk_at dksX1_is_2 16 rfl rfl)
theorem dX1_is_66 : decode cX1_is 66 = .ok (.ifCond .eq 19, 3) := dk_153 0 19 (dk_at dksX1_is_2 19 rfl rfl)
theorem dX1_is_69 : decode cX1_is 69 = .ok (.goto 12, 3) := dk_167 0 12 (dk_at dksX1_is_3 0 rfl rfl)
theorem dX1_is_72 : decode cX1_is 72 = .ok (.aload 4, 2) := dk_25 4 (dk_at dksX1_is_3 3 rfl rfl)
theorem dX1_is_74 : decode cX1_is 74 = .ok (.invokevirtual 192, 3) := dk_182 0 192 (dk_at dksX1_is_3 5 rfl rfl)
theorem dX1_is_77 : decode cX1_is 77 = .ok (.iconst (-1), 1) := dk_2 (dk_at dksX1_is_3 8 rfl rfl)
theorem dX1_is_78 : decode cX1_is 78 = .ok (.if_icmp .eq 7, 3) := dk_159 0 7 (dk_at dksX1_is_3 9 rfl rfl)
theorem dX1_is_81 : decode cX1_is 81 = .ok (.iconst 1, 1) := dk_4 (dk_at dksX1_is_3 12 rfl rfl)
theorem dX1_is_82 : decode cX1_is 82 = .ok (.goto 4, 3) := dk_167 0 4 (dk_at dksX1_is_3 13 rfl rfl)
theorem dX1_is_85 : decode cX1_is 85 = .ok (.iconst 0, 1) := dk_3 (dk_at dksX1_is_3 16 rfl rfl)
theorem dX1_is_86 : decode cX1_is 86 = .ok (.ireturn, 1) := dk_172 (dk_at dksX1_is_3 17 rfl rfl)
def dkwX1_people_4 : List UInt8 := [182, 0, 90, 28, 29, 183, 0, 196, 182, 0, 199, 87, 132, 5, 1, 167, 255, 217, 21, 4, 172]
abbrev dktX1_people_4 : List UInt8 := dkwX1_people_4 ++ []
def dkwX1_people_3 : List UInt8 := [21, 5, 27, 162, 0, 39, 42, 180, 0, 12, 180, 0, 87, 187, 0, 94, 89, 42, 180, 0, 12, 180, 0, 87]
abbrev dktX1_people_3 : List UInt8 := dkwX1_people_3 ++ dktX1_people_4
def dkwX1_people_2 : List UInt8 := [2, 172, 27, 156, 0, 6, 16, 254, 172, 42, 180, 0, 12, 180, 0, 87, 182, 0, 90, 54, 4, 3, 54, 5]
abbrev dktX1_people_2 : List UInt8 := dkwX1_people_2 ++ dktX1_people_3
def dkwX1_people_1 : List UInt8 := [184, 0, 100, 42, 180, 0, 12, 180, 0, 87, 182, 0, 90, 133, 27, 133, 97, 20, 0, 194, 148, 158, 0, 5]
abbrev dktX1_people_1 : List UInt8 := dkwX1_people_1 ++ dktX1_people_2
def dkwX1_people_0 : List UInt8 := [28, 155, 0, 22, 28, 6, 163, 0, 17, 29, 155, 0, 13, 29, 18, 193, 163, 0, 7, 4, 167, 0, 4, 3]
abbrev dktX1_people_0 : List UInt8 := dkwX1_people_0 ++ dktX1_people_1
theorem dksX1_people_0 : cX1_people.data.toList.drop 0 = dktX1_people_0 := by decide +kernel
theorem dksX1_people_1 : cX1_people.data.toList.drop 24 = dktX1_people_1 := dk_seg dksX1_people_0 24 rfl rfl
theorem dksX1_people_2 : cX1_people.data.toList.drop 48 = dktX1_people_2 := dk_seg dksX1_people_1 24 rfl rfl
theorem dksX1_people_3 : cX1_people.data.toList.drop 72 = dktX1_people_3 := dk_seg dksX1_people_2 24 rfl rfl
theorem dksX1_people_4 : cX1_people.data.toList.drop 96 = dktX1_people_4 := dk_seg dksX1_people_3 24 rfl rfl
theorem dX1_people_0 : decode cX1_people 0 = .ok (.iload_n 2, 1) := dk_28 (dk_at dksX1_people_0 0 rfl rfl)
theorem dX1_people_1 : decode cX1_people 1 = .ok (.ifCond .lt 22, 3) := dk_155 0 22 (dk_at dksX1_people_0 1 rfl rfl)
theorem dX1_people_4 : decode cX1_people 4 = .ok (.iload_n 2, 1) := dk_28 (dk_at dksX1_people_0 4 rfl rfl)
theorem dX1_people_5 : decode cX1_people 5 = .ok (.iconst 3, 1) := dk_6 (dk_at dksX1_people_0 5 rfl rfl)
theorem dX1_people_6 : decode cX1_people 6 = .ok (.if_icmp .gt 17, 3) := dk_163 0 17 (dk_at dksX1_people_0 6 rfl rfl)
theorem dX1_people_9 : decode cX1_people 9 = .ok (.iload_n 3, 1) := dk_29 (dk_at dksX1_people_0 9 rfl rfl)
theorem dX1_people_10 : decode cX1_people 10 = .ok (.ifCond .lt 13, 3) := dk_155 0 13 (dk_at dksX1_people_0 10 rfl rfl)
theorem dX1_people_13 : decode cX1_people 13 = .ok (.iload_n 3, 1) := dk_29 (dk_at dksX1_people_0 13 rfl rfl)
theorem dX1_people_14 : decode cX1_people 14 = .ok (.ldc 193, 2) := dk_18 193 (dk_at dksX1_people_0 14 rfl rfl)
theorem dX1_people_16 : decode cX1_people 16 = .ok (.if_icmp .gt 7, 3) := dk_163 0 7 (dk_at dksX1_people_0 16 rfl rfl)
theorem dX1_people_19 : decode cX1_people 19 = .ok (.iconst 1, 1) := dk_4 (dk_at dksX1_people_0 19 rfl rfl)
theorem dX1_people_20 : decode cX1_people 20 = .ok (.goto 4, 3) := dk_167 0 4 (dk_at dksX1_people_0 20 rfl rfl)
theorem dX1_people_23 : decode cX1_people 23 = .ok (.iconst 0, 1) := dk_3 (dk_at dksX1_people_0 23 rfl rfl)
theorem dX1_people_24 : decode cX1_people 24 = .ok (.invokestatic 100, 3) := dk_184 0 100 (dk_at dksX1_people_1 0 rfl rfl)
theorem dX1_people_27 : decode cX1_people 27 = .ok (.aload_n 0, 1) := dk_42 (dk_at dksX1_people_1 3 rfl rfl)
theorem dX1_people_28 : decode cX1_people 28 = .ok (.getfield 12, 3) := dk_180 0 12 (dk_at dksX1_people_1 4 rfl rfl)
theorem dX1_people_31 : decode cX1_people 31 = .ok (.getfield 87, 3) := dk_180 0 87 (dk_at dksX1_people_1 7 rfl rfl)
theorem dX1_people_34 : decode cX1_people 34 = .ok (.invokevirtual 90, 3) := dk_182 0 90 (dk_at dksX1_people_1 10 rfl rfl)
theorem dX1_people_37 : decode cX1_people 37 = .ok (.i2l, 1) := dk_133 (dk_at dksX1_people_1 13 rfl rfl)
theorem dX1_people_38 : decode cX1_people 38 = .ok (.iload_n 1, 1) := dk_27 (dk_at dksX1_people_1 14 rfl rfl)
theorem dX1_people_39 : decode cX1_people 39 = .ok (.i2l, 1) := dk_133 (dk_at dksX1_people_1 15 rfl rfl)
theorem dX1_people_40 : decode cX1_people 40 = .ok (.ladd, 1) := dk_97 (dk_at dksX1_people_1 16 rfl rfl)
theorem dX1_people_41 : decode cX1_people 41 = .ok (.ldc2_w 194, 3) := dk_20 0 194 (dk_at dksX1_people_1 17 rfl rfl)
theorem dX1_people_44 : decode cX1_people 44 = .ok (.lcmp, 1) := dk_148 (dk_at dksX1_people_1 20 rfl rfl)
theorem dX1_people_45 : decode cX1_people 45 = .ok (.ifCond .le 5, 3) := dk_158 0 5 (dk_at dksX1_people_1 21 rfl rfl)
theorem dX1_people_48 : decode cX1_people 48 = .ok (.iconst (-1), 1) := dk_2 (dk_at dksX1_people_2 0 rfl rfl)
theorem dX1_people_49 : decode cX1_people 49 = .ok (.ireturn, 1) := dk_172 (dk_at dksX1_people_2 1 rfl rfl)
theorem dX1_people_50 : decode cX1_people 50 = .ok (.iload_n 1, 1) := dk_27 (dk_at dksX1_people_2 2 rfl rfl)
theorem dX1_people_51 : decode cX1_people 51 = .ok (.ifCond .ge 6, 3) := dk_156 0 6 (dk_at dksX1_people_2 3 rfl rfl)
theorem dX1_people_54 : decode cX1_people 54 = .ok (.bipush (-2), 2) := dk_16 254 (dk_at dksX1_people_2 6 rfl rfl)
theorem dX1_people_56 : decode cX1_people 56 = .ok (.ireturn, 1) := dk_172 (dk_at dksX1_people_2 8 rfl rfl)
theorem dX1_people_57 : decode cX1_people 57 = .ok (.aload_n 0, 1) := dk_42 (dk_at dksX1_people_2 9 rfl rfl)
theorem dX1_people_58 : decode cX1_people 58 = .ok (.getfield 12, 3) := dk_180 0 12 (dk_at dksX1_people_2 10 rfl rfl)
theorem dX1_people_61 : decode cX1_people 61 = .ok (.getfield 87, 3) := dk_180 0 87 (dk_at dksX1_people_2 13 rfl rfl)
theorem dX1_people_64 : decode cX1_people 64 = .ok (.invokevirtual 90, 3) := dk_182 0 90 (dk_at dksX1_people_2 16 rfl rfl)
theorem dX1_people_67 : decode cX1_people 67 = .ok (.istore 4, 2) := dk_54 4 (dk_at dksX1_people_2 19 rfl rfl)
theorem dX1_people_69 : decode cX1_people 69 = .ok (.iconst 0, 1) := dk_3 (dk_at dksX1_people_2 21 rfl rfl)
theorem dX1_people_70 : decode cX1_people 70 = .ok (.istore 5, 2) := dk_54 5 (dk_at dksX1_people_2 22 rfl rfl)
theorem dX1_people_72 : decode cX1_people 72 = .ok (.iload 5, 2) := dk_21 5 (dk_at dksX1_people_3 0 rfl rfl)
theorem dX1_people_74 : decode cX1_people 74 = .ok (.iload_n 1, 1) := dk_27 (dk_at dksX1_people_3 2 rfl rfl)
theorem dX1_people_75 : decode cX1_people 75 = .ok (.if_icmp .ge 39, 3) := dk_162 0 39 (dk_at dksX1_people_3 3 rfl rfl)
theorem dX1_people_78 : decode cX1_people 78 = .ok (.aload_n 0, 1) := dk_42 (dk_at dksX1_people_3 6 rfl rfl)
theorem dX1_people_79 : decode cX1_people 79 = .ok (.getfield 12, 3) := dk_180 0 12 (dk_at dksX1_people_3 7 rfl rfl)
theorem dX1_people_82 : decode cX1_people 82 = .ok (.getfield 87, 3) := dk_180 0 87 (dk_at dksX1_people_3 10 rfl rfl)
theorem dX1_people_85 : decode cX1_people 85 = .ok (.new 94, 3) := dk_187 0 94 (dk_at dksX1_people_3 13 rfl rfl)
theorem dX1_people_88 : decode cX1_people 88 = .ok (.dup, 1) := dk_89 (dk_at dksX1_people_3 16 rfl rfl)
theorem dX1_people_89 : decode cX1_people 89 = .ok (.aload_n 0, 1) := dk_42 (dk_at dksX1_people_3 17 rfl rfl)
theorem dX1_people_90 : decode cX1_people 90 = .ok (.getfield 12, 3) := dk_180 0 12 (dk_at dksX1_people_3 18 rfl rfl)
theorem dX1_people_93 : decode cX1_people 93 = .ok (.getfield 87, 3) := dk_180 0 87 (dk_at dksX1_people_3 21 rfl rfl)
theorem dX1_people_96 : decode cX1_people 96 = .ok (.invokevirtual 90, 3) := dk_182 0 90 (dk_at dksX1_people_4 0 rfl rfl)
theorem dX1_people_99 : decode cX1_people 99 = .ok (.iload_n 2, 1) := dk_28 (dk_at dksX1_people_4 3 rfl rfl)
theorem dX1_people_100 : decode cX1_people 100 = .ok (.iload_n 3, 1) := dk_29 (dk_at dksX1_people_4 4 rfl rfl)
theorem dX1_people_101 : decode cX1_people 101 = .ok (.invokespecial 196, 3) := dk_183 0 196 (dk_at dksX1_people_4 5 rfl rfl)
theorem dX1_people_104 : decode cX1_people 104 = .ok (.invokevirtual 199, 3) := dk_182 0 199 (dk_at dksX1_people_4 8 rfl rfl)
theorem dX1_people_107 : decode cX1_people 107 = .ok (.pop, 1) := dk_87 (dk_at dksX1_people_4 11 rfl rfl)
theorem dX1_people_108 : decode cX1_people 108 = .ok (.iinc 5 1, 3) := dk_132 5 1 (dk_at dksX1_people_4 12 rfl rfl)
theorem dX1_people_111 : decode cX1_people 111 = .ok (.goto (-39), 3) := dk_167 255 217 (dk_at dksX1_people_4 15 rfl rfl)
theorem dX1_people_114 : decode cX1_people 114 = .ok (.iload 4, 2) := dk_21 4 (dk_at dksX1_people_4 18 rfl rfl)
theorem dX1_people_116 : decode cX1_people 116 = .ok (.ireturn, 1) := dk_172 (dk_at dksX1_people_4 20 rfl rfl)
def dkwX1_person_4 : List UInt8 := [172, 45, 180, 0, 221, 172, 45, 180, 0, 224, 172, 45, 180, 0, 227, 172, 45, 180, 0, 230, 172]
abbrev dktX1_person_4 : List UInt8 := dkwX1_person_4 ++ []
def dkwX1_person_3 : List UInt8 := [45, 180, 0, 206, 172, 45, 180, 0, 209, 172, 45, 180, 0, 212, 172, 45, 180, 0, 215, 172, 45, 180, 0, 218]
abbrev dktX1_person_3 : List UInt8 := dkwX1_person_3 ++ dktX1_person_4
def dkwX1_person_2 : List UInt8 := [170, 0, 0, 0, 0, 0, 87, 0, 0, 0, 0, 0, 0, 0, 7, 0, 0, 0, 47, 0, 0, 0, 52, 0, 0, 0, 57, 0, 0, 0, 62, 0, 0, 0, 67, 0, 0, 0, 72, 0, 0, 0, 77, 0, 0, 0, 82]
abbrev dktX1_person_2 : List UInt8 := dkwX1_person_2 ++ dktX1_person_3
def dkwX1_person_1 : List UInt8 := [28]
abbrev dktX1_person_1 : List UInt8 := dkwX1_person_1 ++ dktX1_person_2
def dkwX1_person_0 : List UInt8 := [42, 27, 182, 0, 202, 78, 28, 155, 0, 13, 28, 16, 8, 163, 0, 7, 4, 167, 0, 4, 3, 184, 0, 100]
abbrev dktX1_person_0 : List UInt8 := dkwX1_person_0 ++ dktX1_person_1
theorem dksX1_person_0 : cX1_person.data.toList.drop 0 = dktX1_person_0 := by decide +kernel
theorem dksX1_person_1 : cX1_person.data.toList.drop 24 = dktX1_person_1 := dk_seg dksX1_person_0 24 rfl rfl
theorem dksX1_person_2 : cX1_person.data.toList.drop 25 = dktX1_person_2 := dk_seg dksX1_person_1 1 rfl rfl
theorem dksX1_person_3 : cX1_person.data.toList.drop 72 = dktX1_person_3 := dk_seg dksX1_person_2 47 rfl rfl
theorem dksX1_person_4 : cX1_person.data.toList.drop 96 = dktX1_person_4 := dk_seg dksX1_person_3 24 rfl rfl
theorem dX1_person_0 : decode cX1_person 0 = .ok (.aload_n 0, 1) := dk_42 (dk_at dksX1_person_0 0 rfl rfl)
theorem dX1_person_1 : decode cX1_person 1 = .ok (.iload_n 1, 1) := dk_27 (dk_at dksX1_person_0 1 rfl rfl)
theorem dX1_person_2 : decode cX1_person 2 = .ok (.invokevirtual 202, 3) := dk_182 0 202 (dk_at dksX1_person_0 2 rfl rfl)
theorem dX1_person_5 : decode cX1_person 5 = .ok (.astore_n 3, 1) := dk_78 (dk_at dksX1_person_0 5 rfl rfl)
theorem dX1_person_6 : decode cX1_person 6 = .ok (.iload_n 2, 1) := dk_28 (dk_at dksX1_person_0 6 rfl rfl)
theorem dX1_person_7 : decode cX1_person 7 = .ok (.ifCond .lt 13, 3) := dk_155 0 13 (dk_at dksX1_person_0 7 rfl rfl)
theorem dX1_person_10 : decode cX1_person 10 = .ok (.iload_n 2, 1) := dk_28 (dk_at dksX1_person_0 10 rfl rfl)
theorem dX1_person_11 : decode cX1_person 11 = .ok (.bipush 8, 2) := dk_16 8 (dk_at dksX1_person_0 11 rfl rfl)
theorem dX1_person_13 : decode cX1_person 13 = .ok (.if_icmp .gt 7, 3) := dk_163 0 7 (dk_at dksX1_person_0 13 rfl rfl)
theorem dX1_person_16 : decode cX1_person 16 = .ok (.iconst 1, 1) := dk_4 (dk_at dksX1_person_0 16 rfl rfl)
theorem dX1_person_17 : decode cX1_person 17 = .ok (.goto 4, 3) := dk_167 0 4 (dk_at dksX1_person_0 17 rfl rfl)
theorem dX1_person_20 : decode cX1_person 20 = .ok (.iconst 0, 1) := dk_3 (dk_at dksX1_person_0 20 rfl rfl)
theorem dX1_person_21 : decode cX1_person 21 = .ok (.invokestatic 100, 3) := dk_184 0 100 (dk_at dksX1_person_0 21 rfl rfl)
theorem dX1_person_24 : decode cX1_person 24 = .ok (.iload_n 2, 1) := dk_28 (dk_at dksX1_person_1 0 rfl rfl)
theorem dX1_person_25 : decode cX1_person 25 = .ok (.tableswitch 87 0 7 #[47, 52, 57, 62, 67, 72, 77, 82], 47) := by decide +kernel
theorem dX1_person_72 : decode cX1_person 72 = .ok (.aload_n 3, 1) := dk_45 (dk_at dksX1_person_3 0 rfl rfl)
theorem dX1_person_73 : decode cX1_person 73 = .ok (.getfield 206, 3) := dk_180 0 206 (dk_at dksX1_person_3 1 rfl rfl)
theorem dX1_person_76 : decode cX1_person 76 = .ok (.ireturn, 1) := dk_172 (dk_at dksX1_person_3 4 rfl rfl)
theorem dX1_person_77 : decode cX1_person 77 = .ok (.aload_n 3, 1) := dk_45 (dk_at dksX1_person_3 5 rfl rfl)
theorem dX1_person_78 : decode cX1_person 78 = .ok (.getfield 209, 3) := dk_180 0 209 (dk_at dksX1_person_3 6 rfl rfl)
theorem dX1_person_81 : decode cX1_person 81 = .ok (.ireturn, 1) := dk_172 (dk_at dksX1_person_3 9 rfl rfl)
theorem dX1_person_82 : decode cX1_person 82 = .ok (.aload_n 3, 1) := dk_45 (dk_at dksX1_person_3 10 rfl rfl)
theorem dX1_person_83 : decode cX1_person 83 = .ok (.getfield 212, 3) := dk_180 0 212 (dk_at dksX1_person_3 11 rfl rfl)
theorem dX1_person_86 : decode cX1_person 86 = .ok (.ireturn, 1) := dk_172 (dk_at dksX1_person_3 14 rfl rfl)
theorem dX1_person_87 : decode cX1_person 87 = .ok (.aload_n 3, 1) := dk_45 (dk_at dksX1_person_3 15 rfl rfl)
theorem dX1_person_88 : decode cX1_person 88 = .ok (.getfield 215, 3) := dk_180 0 215 (dk_at dksX1_person_3 16 rfl rfl)
theorem dX1_person_91 : decode cX1_person 91 = .ok (.ireturn, 1) := dk_172 (dk_at dksX1_person_3 19 rfl rfl)
theorem dX1_person_92 : decode cX1_person 92 = .ok (.aload_n 3, 1) := dk_45 (dk_at dksX1_person_3 20 rfl rfl)
theorem dX1_person_93 : decode cX1_person 93 = .ok (.getfield 218, 3) := dk_180 0 218 (dk_at dksX1_person_3 21 rfl rfl)
theorem dX1_person_96 : decode cX1_person 96 = .ok (.ireturn, 1) := dk_172 (dk_at dksX1_person_4 0 rfl rfl)
theorem dX1_person_97 : decode cX1_person 97 = .ok (.aload_n 3, 1) := dk_45 (dk_at dksX1_person_4 1 rfl rfl)
theorem dX1_person_98 : decode cX1_person 98 = .ok (.getfield 221, 3) := dk_180 0 221 (dk_at dksX1_person_4 2 rfl rfl)
theorem dX1_person_101 : decode cX1_person 101 = .ok (.ireturn, 1) := dk_172 (dk_at dksX1_person_4 5 rfl rfl)
theorem dX1_person_102 : decode cX1_person 102 = .ok (.aload_n 3, 1) := dk_45 (dk_at dksX1_person_4 6 rfl rfl)
theorem dX1_person_103 : decode cX1_person 103 = .ok (.getfield 224, 3) := dk_180 0 224 (dk_at dksX1_person_4 7 rfl rfl)
theorem dX1_person_106 : decode cX1_person 106 = .ok (.ireturn, 1) := dk_172 (dk_at dksX1_person_4 10 rfl rfl)
theorem dX1_person_107 : decode cX1_person 107 = .ok (.aload_n 3, 1) := dk_45 (dk_at dksX1_person_4 11 rfl rfl)
theorem dX1_person_108 : decode cX1_person 108 = .ok (.getfield 227, 3) := dk_180 0 227 (dk_at dksX1_person_4 12 rfl rfl)
theorem dX1_person_111 : decode cX1_person 111 = .ok (.ireturn, 1) := dk_172 (dk_at dksX1_person_4 15 rfl rfl)
theorem dX1_person_112 : decode cX1_person 112 = .ok (.aload_n 3, 1) := dk_45 (dk_at dksX1_person_4 16 rfl rfl)
theorem dX1_person_113 : decode cX1_person 113 = .ok (.getfield 230, 3) := dk_180 0 230 (dk_at dksX1_person_4 17 rfl rfl)
theorem dX1_person_116 : decode cX1_person 116 = .ok (.ireturn, 1) := dk_172 (dk_at dksX1_person_4 20 rfl rfl)
def dkwX1_personOf_1 : List UInt8 := [182, 0, 81, 192, 0, 94, 176]
abbrev dktX1_personOf_1 : List UInt8 := dkwX1_personOf_1 ++ []
def dkwX1_personOf_0 : List UInt8 := [27, 42, 180, 0, 12, 180, 0, 87, 182, 0, 90, 184, 0, 74, 42, 180, 0, 12, 180, 0, 87, 27]
abbrev dktX1_personOf_0 : List UInt8 := dkwX1_personOf_0 ++ dktX1_personOf_1
theorem dksX1_personOf_0 : cX1_personOf.data.toList.drop 0 = dktX1_personOf_0 := by decide +kernel
theorem dksX1_personOf_1 : cX1_personOf.data.toList.drop 22 = dktX1_personOf_1 := dk_seg dksX1_personOf_0 22 rfl rfl
theorem dX1_personOf_0 : decode cX1_personOf 0 = .ok (.iload_n 1, 1) := dk_27 (dk_at dksX1_personOf_0 0 rfl rfl)
theorem dX1_personOf_1 : decode cX1_personOf 1 = .ok (.aload_n 0, 1) := dk_42 (dk_at dksX1_personOf_0 1 rfl rfl)
theorem dX1_personOf_2 : decode cX1_personOf 2 = .ok (.getfield 12, 3) := dk_180 0 12 (dk_at dksX1_personOf_0 2 rfl rfl)
theorem dX1_personOf_5 : decode cX1_personOf 5 = .ok (.getfield 87, 3) := dk_180 0 87 (dk_at dksX1_personOf_0 5 rfl rfl)
theorem dX1_personOf_8 : decode cX1_personOf 8 = .ok (.invokevirtual 90, 3) := dk_182 0 90 (dk_at dksX1_personOf_0 8 rfl rfl)
theorem dX1_personOf_11 : decode cX1_personOf 11 = .ok (.invokestatic 74, 3) := dk_184 0 74 (dk_at dksX1_personOf_0 11 rfl rfl)
theorem dX1_personOf_14 : decode cX1_personOf 14 = .ok (.aload_n 0, 1) := dk_42 (dk_at dksX1_personOf_0 14 rfl rfl)
theorem dX1_personOf_15 : decode cX1_personOf 15 = .ok (.getfield 12, 3) := dk_180 0 12 (dk_at dksX1_personOf_0 15 rfl rfl)
theorem dX1_personOf_18 : decode cX1_personOf 18 = .ok (.getfield 87, 3) := dk_180 0 87 (dk_at dksX1_personOf_0 18 rfl rfl)
theorem dX1_personOf_21 : decode cX1_personOf 21 = .ok (.iload_n 1, 1) := dk_27 (dk_at dksX1_personOf_0 21 rfl rfl)
theorem dX1_personOf_22 : decode cX1_personOf 22 = .ok (.invokevirtual 81, 3) := dk_182 0 81 (dk_at dksX1_personOf_1 0 rfl rfl)
theorem dX1_personOf_25 : decode cX1_personOf 25 = .ok (.checkcast 94, 3) := dk_192 0 94 (dk_at dksX1_personOf_1 3 rfl rfl)
theorem dX1_personOf_28 : decode cX1_personOf 28 = .ok (.areturn, 1) := dk_176 (dk_at dksX1_personOf_1 6 rfl rfl)
def dkwX1_party_2 : List UInt8 := [183, 0, 238, 182, 0, 199, 87, 42, 180, 0, 12, 180, 0, 233, 182, 0, 90, 4, 100, 172]
abbrev dktX1_party_2 : List UInt8 := dkwX1_party_2 ++ []
def dkwX1_party_1 : List UInt8 := [180, 0, 233, 182, 0, 90, 7, 160, 0, 5, 2, 172, 42, 180, 0, 12, 180, 0, 233, 187, 0, 236, 89, 27]
abbrev dktX1_party_1 : List UInt8 := dkwX1_party_1 ++ dktX1_party_2
def dkwX1_party_0 : List UInt8 := [27, 4, 161, 0, 13, 27, 16, 9, 163, 0, 7, 4, 167, 0, 4, 3, 184, 0, 100, 42, 180, 0, 12]
abbrev dktX1_party_0 : List UInt8 := dkwX1_party_0 ++ dktX1_party_1
theorem dksX1_party_0 : cX1_party.data.toList.drop 0 = dktX1_party_0 := by decide +kernel
theorem dksX1_party_1 : cX1_party.data.toList.drop 23 = dktX1_party_1 := dk_seg dksX1_party_0 23 rfl rfl
theorem dksX1_party_2 : cX1_party.data.toList.drop 47 = dktX1_party_2 := dk_seg dksX1_party_1 24 rfl rfl
theorem dX1_party_0 : decode cX1_party 0 = .ok (.iload_n 1, 1) := dk_27 (dk_at dksX1_party_0 0 rfl rfl)
theorem dX1_party_1 : decode cX1_party 1 = .ok (.iconst 1, 1) := dk_4 (dk_at dksX1_party_0 1 rfl rfl)
theorem dX1_party_2 : decode cX1_party 2 = .ok (.if_icmp .lt 13, 3) := dk_161 0 13 (dk_at dksX1_party_0 2 rfl rfl)
theorem dX1_party_5 : decode cX1_party 5 = .ok (.iload_n 1, 1) := dk_27 (dk_at dksX1_party_0 5 rfl rfl)
theorem dX1_party_6 : decode cX1_party 6 = .ok (.bipush 9, 2) := dk_16 9 (dk_at dksX1_party_0 6 rfl rfl)
theorem dX1_party_8 : decode cX1_party 8 = .ok (.if_icmp .gt 7, 3) := dk_163 0 7 (dk_at dksX1_party_0 8 rfl rfl)
theorem dX1_party_11 : decode cX1_party 11 = .ok (.iconst 1, 1) := dk_4 (dk_at dksX1_party_0 11 rfl rfl)
theorem dX1_party_12 : decode cX1_party 12 = .ok (.goto 4, 3) := dk_167 0 4 (dk_at dksX1_party_0 12 rfl rfl)
theorem dX1_party_15 : decode cX1_party 15 = .ok (.iconst 0, 1) := dk_3 (dk_at dksX1_party_0 15 rfl rfl)
theorem dX1_party_16 : decode cX1_party 16 = .ok (.invokestatic 100, 3) := dk_184 0 100 (dk_at dksX1_party_0 16 rfl rfl)
theorem dX1_party_19 : decode cX1_party 19 = .ok (.aload_n 0, 1) := dk_42 (dk_at dksX1_party_0 19 rfl rfl)
theorem dX1_party_20 : decode cX1_party 20 = .ok (.getfield 12, 3) := dk_180 0 12 (dk_at dksX1_party_0 20 rfl rfl)
theorem dX1_party_23 : decode cX1_party 23 = .ok (.getfield 233, 3) := dk_180 0 233 (dk_at dksX1_party_1 0 rfl rfl)
theorem dX1_party_26 : decode cX1_party 26 = .ok (.invokevirtual 90, 3) := dk_182 0 90 (dk_at dksX1_party_1 3 rfl rfl)
theorem dX1_party_29 : decode cX1_party 29 = .ok (.iconst 4, 1) := dk_7 (dk_at dksX1_party_1 6 rfl rfl)
theorem dX1_party_30 : decode cX1_party 30 = .ok (.if_icmp .ne 5, 3) := dk_160 0 5 (dk_at dksX1_party_1 7 rfl rfl)
theorem dX1_party_33 : decode cX1_party 33 = .ok (.iconst (-1), 1) := dk_2 (dk_at dksX1_party_1 10 rfl rfl)
theorem dX1_party_34 : decode cX1_party 34 = .ok (.ireturn, 1) := dk_172 (dk_at dksX1_party_1 11 rfl rfl)
theorem dX1_party_35 : decode cX1_party 35 = .ok (.aload_n 0, 1) := dk_42 (dk_at dksX1_party_1 12 rfl rfl)
theorem dX1_party_36 : decode cX1_party 36 = .ok (.getfield 12, 3) := dk_180 0 12 (dk_at dksX1_party_1 13 rfl rfl)
theorem dX1_party_39 : decode cX1_party 39 = .ok (.getfield 233, 3) := dk_180 0 233 (dk_at dksX1_party_1 16 rfl rfl)
theorem dX1_party_42 : decode cX1_party 42 = .ok (.new 236, 3) := dk_187 0 236 (dk_at dksX1_party_1 19 rfl rfl)
theorem dX1_party_45 : decode cX1_party 45 = .ok (.dup, 1) := dk_89 (dk_at dksX1_party_1 22 rfl rfl)
theorem dX1_party_46 : decode cX1_party 46 = .ok (.iload_n 1, 1) := dk_27 (dk_at dksX1_party_1 23 rfl rfl)
theorem dX1_party_47 : decode cX1_party 47 = .ok (.invokespecial 238, 3) := dk_183 0 238 (dk_at dksX1_party_2 0 rfl rfl)
theorem dX1_party_50 : decode cX1_party 50 = .ok (.invokevirtual 199, 3) := dk_182 0 199 (dk_at dksX1_party_2 3 rfl rfl)
theorem dX1_party_53 : decode cX1_party 53 = .ok (.pop, 1) := dk_87 (dk_at dksX1_party_2 6 rfl rfl)
theorem dX1_party_54 : decode cX1_party 54 = .ok (.aload_n 0, 1) := dk_42 (dk_at dksX1_party_2 7 rfl rfl)
theorem dX1_party_55 : decode cX1_party 55 = .ok (.getfield 12, 3) := dk_180 0 12 (dk_at dksX1_party_2 8 rfl rfl)
theorem dX1_party_58 : decode cX1_party 58 = .ok (.getfield 233, 3) := dk_180 0 233 (dk_at dksX1_party_2 11 rfl rfl)
theorem dX1_party_61 : decode cX1_party 61 = .ok (.invokevirtual 90, 3) := dk_182 0 90 (dk_at dksX1_party_2 14 rfl rfl)
theorem dX1_party_64 : decode cX1_party 64 = .ok (.iconst 1, 1) := dk_4 (dk_at dksX1_party_2 17 rfl rfl)
theorem dX1_party_65 : decode cX1_party 65 = .ok (.isub, 1) := dk_100 (dk_at dksX1_party_2 18 rfl rfl)
theorem dX1_party_66 : decode cX1_party 66 = .ok (.ireturn, 1) := dk_172 (dk_at dksX1_party_2 19 rfl rfl)
def dkwX1_queue_2 : List UInt8 := [180, 0, 243, 4, 96, 181, 0, 243, 45, 180, 0, 243, 172]
abbrev dktX1_queue_2 : List UInt8 := dkwX1_queue_2 ++ []
def dkwX1_queue_1 : List UInt8 := [25, 4, 182, 0, 104, 154, 0, 6, 16, 254, 172, 45, 180, 0, 245, 45, 180, 0, 243, 28, 79, 45, 89]
abbrev dktX1_queue_1 : List UInt8 := dkwX1_queue_1 ++ dktX1_queue_2
def dkwX1_queue_0 : List UInt8 := [42, 27, 182, 0, 239, 78, 42, 28, 182, 0, 96, 58, 4, 45, 180, 0, 243, 16, 12, 160, 0, 5, 2, 172]
abbrev dktX1_queue_0 : List UInt8 := dkwX1_queue_0 ++ dktX1_queue_1
theorem dksX1_queue_0 : cX1_queue.data.toList.drop 0 = dktX1_queue_0 := by decide +kernel
theorem dksX1_queue_1 : cX1_queue.data.toList.drop 24 = dktX1_queue_1 := dk_seg dksX1_queue_0 24 rfl rfl
theorem dksX1_queue_2 : cX1_queue.data.toList.drop 47 = dktX1_queue_2 := dk_seg dksX1_queue_1 23 rfl rfl
theorem dX1_queue_0 : decode cX1_queue 0 = .ok (.aload_n 0, 1) := dk_42 (dk_at dksX1_queue_0 0 rfl rfl)
theorem dX1_queue_1 : decode cX1_queue 1 = .ok (.iload_n 1, 1) := dk_27 (dk_at dksX1_queue_0 1 rfl rfl)
theorem dX1_queue_2 : decode cX1_queue 2 = .ok (.invokevirtual 239, 3) := dk_182 0 239 (dk_at dksX1_queue_0 2 rfl rfl)
theorem dX1_queue_5 : decode cX1_queue 5 = .ok (.astore_n 3, 1) := dk_78 (dk_at dksX1_queue_0 5 rfl rfl)
theorem dX1_queue_6 : decode cX1_queue 6 = .ok (.aload_n 0, 1) := dk_42 (dk_at dksX1_queue_0 6 rfl rfl)
theorem dX1_queue_7 : decode cX1_queue 7 = .ok (.iload_n 2, 1) := dk_28 (dk_at dksX1_queue_0 7 rfl rfl)
theorem dX1_queue_8 : decode cX1_queue 8 = .ok (.invokevirtual 96, 3) := dk_182 0 96 (dk_at dksX1_queue_0 8 rfl rfl)
theorem dX1_queue_11 : decode cX1_queue 11 = .ok (.astore 4, 2) := dk_58 4 (dk_at dksX1_queue_0 11 rfl rfl)
theorem dX1_queue_13 : decode cX1_queue 13 = .ok (.aload_n 3, 1) := dk_45 (dk_at dksX1_queue_0 13 rfl rfl)
theorem dX1_queue_14 : decode cX1_queue 14 = .ok (.getfield 243, 3) := dk_180 0 243 (dk_at dksX1_queue_0 14 rfl rfl)
theorem dX1_queue_17 : decode cX1_queue 17 = .ok (.bipush 12, 2) := dk_16 12 (dk_at dksX1_queue_0 17 rfl rfl)
theorem dX1_queue_19 : decode cX1_queue 19 = .ok (.if_icmp .ne 5, 3) := dk_160 0 5 (dk_at dksX1_queue_0 19 rfl rfl)
theorem dX1_queue_22 : decode cX1_queue 22 = .ok (.iconst (-1), 1) := dk_2 (dk_at dksX1_queue_0 22 rfl rfl)
theorem dX1_queue_23 : decode cX1_queue 23 = .ok (.ireturn, 1) := dk_172 (dk_at dksX1_queue_0 23 rfl rfl)
theorem dX1_queue_24 : decode cX1_queue 24 = .ok (.aload 4, 2) := dk_25 4 (dk_at dksX1_queue_1 0 rfl rfl)
theorem dX1_queue_26 : decode cX1_queue 26 = .ok (.invokevirtual 104, 3) := dk_182 0 104 (dk_at dksX1_queue_1 2 rfl rfl)
theorem dX1_queue_29 : decode cX1_queue 29 = .ok (.ifCond .ne 6, 3) := dk_154 0 6 (dk_at dksX1_queue_1 5 rfl rfl)
theorem dX1_queue_32 : decode cX1_queue 32 = .ok (.bipush (-2), 2) := dk_16 254 (dk_at dksX1_queue_1 8 rfl rfl)
theorem dX1_queue_34 : decode cX1_queue 34 = .ok (.ireturn, 1) := dk_172 (dk_at dksX1_queue_1 10 rfl rfl)
theorem dX1_queue_35 : decode cX1_queue 35 = .ok (.aload_n 3, 1) := dk_45 (dk_at dksX1_queue_1 11 rfl rfl)
theorem dX1_queue_36 : decode cX1_queue 36 = .ok (.getfield 245, 3) := dk_180 0 245 (dk_at dksX1_queue_1 12 rfl rfl)
theorem dX1_queue_39 : decode cX1_queue 39 = .ok (.aload_n 3, 1) := dk_45 (dk_at dksX1_queue_1 15 rfl rfl)
theorem dX1_queue_40 : decode cX1_queue 40 = .ok (.getfield 243, 3) := dk_180 0 243 (dk_at dksX1_queue_1 16 rfl rfl)
theorem dX1_queue_43 : decode cX1_queue 43 = .ok (.iload_n 2, 1) := dk_28 (dk_at dksX1_queue_1 19 rfl rfl)
theorem dX1_queue_44 : decode cX1_queue 44 = .ok (.iastore, 1) := dk_79 (dk_at dksX1_queue_1 20 rfl rfl)
theorem dX1_queue_45 : decode cX1_queue 45 = .ok (.aload_n 3, 1) := dk_45 (dk_at dksX1_queue_1 21 rfl rfl)
theorem dX1_queue_46 : decode cX1_queue 46 = .ok (.dup, 1) := dk_89 (dk_at dksX1_queue_1 22 rfl rfl)
theorem dX1_queue_47 : decode cX1_queue 47 = .ok (.getfield 243, 3) := dk_180 0 243 (dk_at dksX1_queue_2 0 rfl rfl)
theorem dX1_queue_50 : decode cX1_queue 50 = .ok (.iconst 1, 1) := dk_4 (dk_at dksX1_queue_2 3 rfl rfl)
theorem dX1_queue_51 : decode cX1_queue 51 = .ok (.iadd, 1) := dk_96 (dk_at dksX1_queue_2 4 rfl rfl)
theorem dX1_queue_52 : decode cX1_queue 52 = .ok (.putfield 243, 3) := dk_181 0 243 (dk_at dksX1_queue_2 5 rfl rfl)
theorem dX1_queue_55 : decode cX1_queue 55 = .ok (.aload_n 3, 1) := dk_45 (dk_at dksX1_queue_2 8 rfl rfl)
theorem dX1_queue_56 : decode cX1_queue 56 = .ok (.getfield 243, 3) := dk_180 0 243 (dk_at dksX1_queue_2 9 rfl rfl)
theorem dX1_queue_59 : decode cX1_queue 59 = .ok (.ireturn, 1) := dk_172 (dk_at dksX1_queue_2 12 rfl rfl)
def dkwX1_partyOf_1 : List UInt8 := [182, 0, 81, 192, 0, 236, 176]
abbrev dktX1_partyOf_1 : List UInt8 := dkwX1_partyOf_1 ++ []
def dkwX1_partyOf_0 : List UInt8 := [27, 42, 180, 0, 12, 180, 0, 233, 182, 0, 90, 184, 0, 74, 42, 180, 0, 12, 180, 0, 233, 27]
abbrev dktX1_partyOf_0 : List UInt8 := dkwX1_partyOf_0 ++ dktX1_partyOf_1
theorem dksX1_partyOf_0 : cX1_partyOf.data.toList.drop 0 = dktX1_partyOf_0 := by decide +kernel
theorem dksX1_partyOf_1 : cX1_partyOf.data.toList.drop 22 = dktX1_partyOf_1 := dk_seg dksX1_partyOf_0 22 rfl rfl
theorem dX1_partyOf_0 : decode cX1_partyOf 0 = .ok (.iload_n 1, 1) := dk_27 (dk_at dksX1_partyOf_0 0 rfl rfl)
theorem dX1_partyOf_1 : decode cX1_partyOf 1 = .ok (.aload_n 0, 1) := dk_42 (dk_at dksX1_partyOf_0 1 rfl rfl)
theorem dX1_partyOf_2 : decode cX1_partyOf 2 = .ok (.getfield 12, 3) := dk_180 0 12 (dk_at dksX1_partyOf_0 2 rfl rfl)
theorem dX1_partyOf_5 : decode cX1_partyOf 5 = .ok (.getfield 233, 3) := dk_180 0 233 (dk_at dksX1_partyOf_0 5 rfl rfl)
theorem dX1_partyOf_8 : decode cX1_partyOf 8 = .ok (.invokevirtual 90, 3) := dk_182 0 90 (dk_at dksX1_partyOf_0 8 rfl rfl)
theorem dX1_partyOf_11 : decode cX1_partyOf 11 = .ok (.invokestatic 74, 3) := dk_184 0 74 (dk_at dksX1_partyOf_0 11 rfl rfl)
theorem dX1_partyOf_14 : decode cX1_partyOf 14 = .ok (.aload_n 0, 1) := dk_42 (dk_at dksX1_partyOf_0 14 rfl rfl)
theorem dX1_partyOf_15 : decode cX1_partyOf 15 = .ok (.getfield 12, 3) := dk_180 0 12 (dk_at dksX1_partyOf_0 15 rfl rfl)
theorem dX1_partyOf_18 : decode cX1_partyOf 18 = .ok (.getfield 233, 3) := dk_180 0 233 (dk_at dksX1_partyOf_0 18 rfl rfl)
theorem dX1_partyOf_21 : decode cX1_partyOf 21 = .ok (.iload_n 1, 1) := dk_27 (dk_at dksX1_partyOf_0 21 rfl rfl)
theorem dX1_partyOf_22 : decode cX1_partyOf 22 = .ok (.invokevirtual 81, 3) := dk_182 0 81 (dk_at dksX1_partyOf_1 0 rfl rfl)
theorem dX1_partyOf_25 : decode cX1_partyOf 25 = .ok (.checkcast 236, 3) := dk_192 0 236 (dk_at dksX1_partyOf_1 3 rfl rfl)
theorem dX1_partyOf_28 : decode cX1_partyOf 28 = .ok (.areturn, 1) := dk_176 (dk_at dksX1_partyOf_1 6 rfl rfl)
def dkwX1_where_2 : List UInt8 := [180, 0, 243, 154, 0, 7, 2, 167, 0, 9, 45, 180, 0, 245, 3, 46, 172]
abbrev dktX1_where_2 : List UInt8 := dkwX1_where_2 ++ []
def dkwX1_where_1 : List UInt8 := [154, 0, 10, 45, 180, 0, 248, 167, 0, 32, 28, 4, 160, 0, 10, 45, 180, 0, 243, 167, 0, 20, 45]
abbrev dktX1_where_1 : List UInt8 := dkwX1_where_1 ++ dktX1_where_2
def dkwX1_where_0 : List UInt8 := [42, 27, 182, 0, 239, 78, 28, 155, 0, 12, 28, 5, 163, 0, 7, 4, 167, 0, 4, 3, 184, 0, 100, 28]
abbrev dktX1_where_0 : List UInt8 := dkwX1_where_0 ++ dktX1_where_1
theorem dksX1_where_0 : cX1_where.data.toList.drop 0 = dktX1_where_0 := by decide +kernel
theorem dksX1_where_1 : cX1_where.data.toList.drop 24 = dktX1_where_1 := dk_seg dksX1_where_0 24 rfl rfl
theorem dksX1_where_2 : cX1_where.data.toList.drop 47 = dktX1_where_2 := dk_seg dksX1_where_1 23 rfl rfl
theorem dX1_where_0 : decode cX1_where 0 = .ok (.aload_n 0, 1) := dk_42 (dk_at dksX1_where_0 0 rfl rfl)
theorem dX1_where_1 : decode cX1_where 1 = .ok (.iload_n 1, 1) := dk_27 (dk_at dksX1_where_0 1 rfl rfl)
theorem dX1_where_2 : decode cX1_where 2 = .ok (.invokevirtual 239, 3) := dk_182 0 239 (dk_at dksX1_where_0 2 rfl rfl)
theorem dX1_where_5 : decode cX1_where 5 = .ok (.astore_n 3, 1) := dk_78 (dk_at dksX1_where_0 5 rfl rfl)
theorem dX1_where_6 : decode cX1_where 6 = .ok (.iload_n 2, 1) := dk_28 (dk_at dksX1_where_0 6 rfl rfl)
theorem dX1_where_7 : decode cX1_where 7 = .ok (.ifCond .lt 12, 3) := dk_155 0 12 (dk_at dksX1_where_0 7 rfl rfl)
theorem dX1_where_10 : decode cX1_where 10 = .ok (.iload_n 2, 1) := dk_28 (dk_at dksX1_where_0 10 rfl rfl)
theorem dX1_where_11 : decode cX1_where 11 = .ok (.iconst 2, 1) := dk_5 (dk_at dksX1_where_0 11 rfl rfl)
theorem dX1_where_12 : decode cX1_where 12 = .ok (.if_icmp .gt 7, 3) := dk_163 0 7 (dk_at dksX1_where_0 12 rfl rfl)
theorem dX1_where_15 : decode cX1_where 15 = .ok (.iconst 1, 1) := dk_4 (dk_at dksX1_where_0 15 rfl rfl)
theorem dX1_where_16 : decode cX1_where 16 = .ok (.goto 4, 3) := dk_167 0 4 (dk_at dksX1_where_0 16 rfl rfl)
theorem dX1_where_19 : decode cX1_where 19 = .ok (.iconst 0, 1) := dk_3 (dk_at dksX1_where_0 19 rfl rfl)
theorem dX1_where_20 : decode cX1_where 20 = .ok (.invokestatic 100, 3) := dk_184 0 100 (dk_at dksX1_where_0 20 rfl rfl)
theorem dX1_where_23 : decode cX1_where 23 = .ok (.iload_n 2, 1) := dk_28 (dk_at dksX1_where_0 23 rfl rfl)
theorem dX1_where_24 : decode cX1_where 24 = .ok (.ifCond .ne 10, 3) := dk_154 0 10 (dk_at dksX1_where_1 0 rfl rfl)
theorem dX1_where_27 : decode cX1_where 27 = .ok (.aload_n 3, 1) := dk_45 (dk_at dksX1_where_1 3 rfl rfl)
theorem dX1_where_28 : decode cX1_where 28 = .ok (.getfield 248, 3) := dk_180 0 248 (dk_at dksX1_where_1 4 rfl rfl)
theorem dX1_where_31 : decode cX1_where 31 = .ok (.goto 32, 3) := dk_167 0 32 (dk_at dksX1_where_1 7 rfl rfl)
theorem dX1_where_34 : decode cX1_where 34 = .ok (.iload_n 2, 1) := dk_28 (dk_at dksX1_where_1 10 rfl rfl)
theorem dX1_where_35 : decode cX1_where 35 = .ok (.iconst 1, 1) := dk_4 (dk_at dksX1_where_1 11 rfl rfl)
theorem dX1_where_36 : decode cX1_where 36 = .ok (.if_icmp .ne 10, 3) := dk_160 0 10 (dk_at dksX1_where_1 12 rfl rfl)
theorem dX1_where_39 : decode cX1_where 39 = .ok (.aload_n 3, 1) := dk_45 (dk_at dksX1_where_1 15 rfl rfl)
theorem dX1_where_40 : decode cX1_where 40 = .ok (.getfield 243, 3) := dk_180 0 243 (dk_at dksX1_where_1 16 rfl rfl)
theorem dX1_where_43 : decode cX1_where 43 = .ok (.goto 20, 3) := dk_167 0 20 (dk_at dksX1_where_1 19 rfl rfl)
theorem dX1_where_46 : decode cX1_where 46 = .ok (.aload_n 3, 1) := dk_45 (dk_at dksX1_where_1 22 rfl rfl)
theorem dX1_where_47 : decode cX1_where 47 = .ok (.getfield 243, 3) := dk_180 0 243 (dk_at dksX1_where_2 0 rfl rfl)
theorem dX1_where_50 : decode cX1_where 50 = .ok (.ifCond .ne 7, 3) := dk_154 0 7 (dk_at dksX1_where_2 3 rfl rfl)
theorem dX1_where_53 : decode cX1_where 53 = .ok (.iconst (-1), 1) := dk_2 (dk_at dksX1_where_2 6 rfl rfl)
theorem dX1_where_54 : decode cX1_where 54 = .ok (.goto 9, 3) := dk_167 0 9 (dk_at dksX1_where_2 7 rfl rfl)
theorem dX1_where_57 : decode cX1_where 57 = .ok (.aload_n 3, 1) := dk_45 (dk_at dksX1_where_2 10 rfl rfl)
theorem dX1_where_58 : decode cX1_where 58 = .ok (.getfield 245, 3) := dk_180 0 245 (dk_at dksX1_where_2 11 rfl rfl)
theorem dX1_where_61 : decode cX1_where 61 = .ok (.iconst 0, 1) := dk_3 (dk_at dksX1_where_2 14 rfl rfl)
theorem dX1_where_62 : decode cX1_where 62 = .ok (.iaload, 1) := dk_46 (dk_at dksX1_where_2 15 rfl rfl)
theorem dX1_where_63 : decode cX1_where 63 = .ok (.ireturn, 1) := dk_172 (dk_at dksX1_where_2 16 rfl rfl)
def dkwX1_lot_5 : List UInt8 := [182, 0, 81, 192, 0, 236, 182, 0, 255, 132, 5, 1, 167, 255, 225, 132, 3, 1, 167, 255, 148, 29, 172]
abbrev dktX1_lot_5 : List UInt8 := dkwX1_lot_5 ++ []
def dkwX1_lot_4 : List UInt8 := [172, 3, 54, 5, 21, 5, 44, 180, 0, 233, 182, 0, 90, 162, 0, 25, 44, 44, 180, 0, 233, 21, 5]
abbrev dktX1_lot_4 : List UInt8 := dkwX1_lot_4 ++ dktX1_lot_5
def dkwX1_lot_3 : List UInt8 := [182, 0, 81, 192, 0, 236, 180, 0, 243, 96, 54, 4, 132, 5, 1, 167, 255, 221, 21, 4, 154, 0, 5, 2]
abbrev dktX1_lot_3 : List UInt8 := dkwX1_lot_3 ++ dktX1_lot_4
def dkwX1_lot_2 : List UInt8 := [54, 5, 21, 5, 44, 180, 0, 233, 182, 0, 90, 162, 0, 29, 21, 4, 44, 180, 0, 233, 21, 5]
abbrev dktX1_lot_2 : List UInt8 := dkwX1_lot_2 ++ dktX1_lot_3
def dkwX1_lot_1 : List UInt8 := [77, 3, 62, 44, 180, 0, 78, 27, 182, 0, 81, 192, 0, 85, 182, 0, 104, 153, 0, 97, 3, 54, 4, 3]
abbrev dktX1_lot_1 : List UInt8 := dkwX1_lot_1 ++ dktX1_lot_2
def dkwX1_lot_0 : List UInt8 := [42, 27, 182, 0, 96, 182, 0, 104, 154, 0, 5, 3, 172, 42, 180, 0, 19, 42, 180, 0, 12, 182, 0, 251]
abbrev dktX1_lot_0 : List UInt8 := dkwX1_lot_0 ++ dktX1_lot_1
theorem dksX1_lot_0 : cX1_lot.data.toList.drop 0 = dktX1_lot_0 := by decide +kernel
theorem dksX1_lot_1 : cX1_lot.data.toList.drop 24 = dktX1_lot_1 := dk_seg dksX1_lot_0 24 rfl rfl
theorem dksX1_lot_2 : cX1_lot.data.toList.drop 48 = dktX1_lot_2 := dk_seg dksX1_lot_1 24 rfl rfl
theorem dksX1_lot_3 : cX1_lot.data.toList.drop 70 = dktX1_lot_3 := dk_seg dksX1_lot_2 22 rfl rfl
theorem dksX1_lot_4 : cX1_lot.data.toList.drop 94 = dktX1_lot_4 := dk_seg dksX1_lot_3 24 rfl rfl
theorem dksX1_lot_5 : cX1_lot.data.toList.drop 117 = dktX1_lot_5 := dk_seg dksX1_lot_4 23 rfl rfl
theorem dX1_lot_0 : decode cX1_lot 0 = .ok (.aload_n 0, 1) := dk_42 (dk_at dksX1_lot_0 0 rfl rfl)
theorem dX1_lot_1 : decode cX1_lot 1 = .ok (.iload_n 1, 1) := dk_27 (dk_at dksX1_lot_0 1 rfl rfl)
theorem dX1_lot_2 : decode cX1_lot 2 = .ok (.invokevirtual 96, 3) := dk_182 0 96 (dk_at dksX1_lot_0 2 rfl rfl)
theorem dX1_lot_5 : decode cX1_lot 5 = .ok (.invokevirtual 104, 3) := dk_182 0 104 (dk_at dksX1_lot_0 5 rfl rfl)
theorem dX1_lot_8 : decode cX1_lot 8 = .ok (.ifCond .ne 5, 3) := dk_154 0 5 (dk_at dksX1_lot_0 8 rfl rfl)
theorem dX1_lot_11 : decode cX1_lot 11 = .ok (.iconst 0, 1) := dk_3 (dk_at dksX1_lot_0 11 rfl rfl)
theorem dX1_lot_12 : decode cX1_lot 12 = .ok (.ireturn, 1) := dk_172 (dk_at dksX1_lot_0 12 rfl rfl)
theorem dX1_lot_13 : decode cX1_lot 13 = .ok (.aload_n 0, 1) := dk_42 (dk_at dksX1_lot_0 13 rfl rfl)
theorem dX1_lot_14 : decode cX1_lot 14 = .ok (.getfield 19, 3) := dk_180 0 19 (dk_at dksX1_lot_0 14 rfl rfl)
theorem dX1_lot_17 : decode cX1_lot 17 = .ok (.aload_n 0, 1) := dk_42 (dk_at dksX1_lot_0 17 rfl rfl)
theorem dX1_lot_18 : decode cX1_lot 18 = .ok (.getfield 12, 3) := dk_180 0 12 (dk_at dksX1_lot_0 18 rfl rfl)
theorem dX1_lot_21 : decode cX1_lot 21 = .ok (.invokevirtual 251, 3) := dk_182 0 251 (dk_at dksX1_lot_0 21 rfl rfl)
theorem dX1_lot_24 : decode cX1_lot 24 = .ok (.astore_n 2, 1) := dk_77 (dk_at dksX1_lot_1 0 rfl rfl)
theorem dX1_lot_25 : decode cX1_lot 25 = .ok (.iconst 0, 1) := dk_3 (dk_at dksX1_lot_1 1 rfl rfl)
theorem dX1_lot_26 : decode cX1_lot 26 = .ok (.istore_n 3, 1) := dk_62 (dk_at dksX1_lot_1 2 rfl rfl)
theorem dX1_lot_27 : decode cX1_lot 27 = .ok (.aload_n 2, 1) := dk_44 (dk_at dksX1_lot_1 3 rfl rfl)
theorem dX1_lot_28 : decode cX1_lot 28 = .ok (.getfield 78, 3) := dk_180 0 78 (dk_at dksX1_lot_1 4 rfl rfl)
theorem dX1_lot_31 : decode cX1_lot 31 = .ok (.iload_n 1, 1) := dk_27 (dk_at dksX1_lot_1 7 rfl rfl)
theorem dX1_lot_32 : decode cX1_lot 32 = .ok (.invokevirtual 81, 3) := dk_182 0 81 (dk_at dksX1_lot_1 8 rfl rfl)
theorem dX1_lot_35 : decode cX1_lot 35 = .ok (.checkcast 85, 3) := dk_192 0 85 (dk_at dksX1_lot_1 11 rfl rfl)
theorem dX1_lot_38 : decode cX1_lot 38 = .ok (.invokevirtual 104, 3) := dk_182 0 104 (dk_at dksX1_lot_1 14 rfl rfl)
theorem dX1_lot_41 : decode cX1_lot 41 = .ok (.ifCond .eq 97, 3) := dk_153 0 97 (dk_at dksX1_lot_1 17 rfl rfl)
theorem dX1_lot_44 : decode cX1_lot 44 = .ok (.iconst 0, 1) := dk_3 (dk_at dksX1_lot_1 20 rfl rfl)
theorem dX1_lot_45 : decode cX1_lot 45 = .ok (.istore 4, 2) := dk_54 4 (dk_at dksX1_lot_1 21 rfl rfl)
theorem dX1_lot_47 : decode cX1_lot 47 = .ok (.iconst 0, 1) := dk_3 (dk_at dksX1_lot_1 23 rfl rfl)
theorem dX1_lot_48 : decode cX1_lot 48 = .ok (.istore 5, 2) := dk_54 5 (dk_at dksX1_lot_2 0 rfl rfl)
theorem dX1_lot_50 : decode cX1_lot 50 = .ok (.iload 5, 2) := dk_21 5 (dk_at dksX1_lot_2 2 rfl rfl)
theorem dX1_lot_52 : decode cX1_lot 52 = .ok (.aload_n 2, 1) := dk_44 (dk_at dksX1_lot_2 4 rfl rfl)
theorem dX1_lot_53 : decode cX1_lot 53 = .ok (.getfield 233, 3) := dk_180 0 233 (dk_at dksX1_lot_2 5 rfl rfl)
theorem dX1_lot_56 : decode cX1_lot 56 = .ok (.invokevirtual 90, 3) := dk_182 0 90 (dk_at dksX1_lot_2 8 rfl rfl)
theorem dX1_lot_59 : decode cX1_lot 59 = .ok (.if_icmp .ge 29, 3) := dk_162 0 29 (dk_at dksX1_lot_2 11 rfl rfl)
theorem dX1_lot_62 : decode cX1_lot 62 = .ok (.iload 4, 2) := dk_21 4 (dk_at dksX1_lot_2 14 rfl rfl)
theorem dX1_lot_64 : decode cX1_lot 64 = .ok (.aload_n 2, 1) := dk_44 (dk_at dksX1_lot_2 16 rfl rfl)
theorem dX1_lot_65 : decode cX1_lot 65 = .ok (.getfield 233, 3) := dk_180 0 233 (dk_at dksX1_lot_2 17 rfl rfl)
theorem dX1_lot_68 : decode cX1_lot 68 = .ok (.iload 5, 2) := dk_21 5 (dk_at dksX1_lot_2 20 rfl rfl)
theorem dX1_lot_70 : decode cX1_lot 70 = .ok (.invokevirtual 81, 3) := dk_182 0 81 (dk_at dksX1_lot_3 0 rfl rfl)
theorem dX1_lot_73 : decode cX1_lot 73 = .ok (.checkcast 236, 3) := dk_192 0 236 (dk_at dksX1_lot_3 3 rfl rfl)
theorem dX1_lot_76 : decode cX1_lot 76 = .ok (.getfield 243, 3) := dk_180 0 243 (dk_at dksX1_lot_3 6 rfl rfl)
theorem dX1_lot_79 : decode cX1_lot 79 = .ok (.iadd, 1) := dk_96 (dk_at dksX1_lot_3 9 rfl rfl)
theorem dX1_lot_80 : decode cX1_lot 80 = .ok (.istore 4, 2) := dk_54 4 (dk_at dksX1_lot_3 10 rfl rfl)
theorem dX1_lot_82 : decode cX1_lot 82 = .ok (.iinc 5 1, 3) := dk_132 5 1 (dk_at dksX1_lot_3 12 rfl rfl)
theorem dX1_lot_85 : decode cX1_lot 85 = .ok (.goto (-35), 3) := dk_167 255 221 (dk_at dksX1_lot_3 15 rfl rfl)
theorem dX1_lot_88 : decode cX1_lot 88 = .ok (.iload 4, 2) := dk_21 4 (dk_at dksX1_lot_3 18 rfl rfl)
theorem dX1_lot_90 : decode cX1_lot 90 = .ok (.ifCond .ne 5, 3) := dk_154 0 5 (dk_at dksX1_lot_3 20 rfl rfl)
theorem dX1_lot_93 : decode cX1_lot 93 = .ok (.iconst (-1), 1) := dk_2 (dk_at dksX1_lot_3 23 rfl rfl)
theorem dX1_lot_94 : decode cX1_lot 94 = .ok (.ireturn, 1) := dk_172 (dk_at dksX1_lot_4 0 rfl rfl)
theorem dX1_lot_95 : decode cX1_lot 95 = .ok (.iconst 0, 1) := dk_3 (dk_at dksX1_lot_4 1 rfl rfl)
theorem dX1_lot_96 : decode cX1_lot 96 = .ok (.istore 5, 2) := dk_54 5 (dk_at dksX1_lot_4 2 rfl rfl)
theorem dX1_lot_98 : decode cX1_lot 98 = .ok (.iload 5, 2) := dk_21 5 (dk_at dksX1_lot_4 4 rfl rfl)
theorem dX1_lot_100 : decode cX1_lot 100 = .ok (.aload_n 2, 1) := dk_44 (dk_at dksX1_lot_4 6 rfl rfl)
theorem dX1_lot_101 : decode cX1_lot 101 = .ok (.getfield 233, 3) := dk_180 0 233 (dk_at dksX1_lot_4 7 rfl rfl)
theorem dX1_lot_104 : decode cX1_lot 104 = .ok (.invokevirtual 90, 3) := dk_182 0 90 (dk_at dksX1_lot_4 10 rfl rfl)
theorem dX1_lot_107 : decode cX1_lot 107 = .ok (.if_icmp .ge 25, 3) := dk_162 0 25 (dk_at dksX1_lot_4 13 rfl rfl)
theorem dX1_lot_110 : decode cX1_lot 110 = .ok (.aload_n 2, 1) := dk_44 (dk_at dksX1_lot_4 16 rfl rfl)
theorem dX1_lot_111 : decode cX1_lot 111 = .ok (.aload_n 2, 1) := dk_44 (dk_at dksX1_lot_4 17 rfl rfl)
theorem dX1_lot_112 : decode cX1_lot 112 = .ok (.getfield 233, 3) := dk_180 0 233 (dk_at dksX1_lot_4 18 rfl rfl)
theorem dX1_lot_115 : decode cX1_lot 115 = .ok (.iload 5, 2) := dk_21 5 (dk_at dksX1_lot_4 21 rfl rfl)
theorem dX1_lot_117 : decode cX1_lot 117 = .ok (.invokevirtual 81, 3) := dk_182 0 81 (dk_at dksX1_lot_5 0 rfl rfl)
theorem dX1_lot_120 : decode cX1_lot 120 = .ok (.checkcast 236, 3) := dk_192 0 236 (dk_at dksX1_lot_5 3 rfl rfl)
theorem dX1_lot_123 : decode cX1_lot 123 = .ok (.invokevirtual 255, 3) := dk_182 0 255 (dk_at dksX1_lot_5 6 rfl rfl)
theorem dX1_lot_126 : decode cX1_lot 126 = .ok (.iinc 5 1, 3) := dk_132 5 1 (dk_at dksX1_lot_5 9 rfl rfl)
theorem dX1_lot_129 : decode cX1_lot 129 = .ok (.goto (-31), 3) := dk_167 255 225 (dk_at dksX1_lot_5 12 rfl rfl)
theorem dX1_lot_132 : decode cX1_lot 132 = .ok (.iinc 3 1, 3) := dk_132 3 1 (dk_at dksX1_lot_5 15 rfl rfl)
theorem dX1_lot_135 : decode cX1_lot 135 = .ok (.goto (-108), 3) := dk_167 255 148 (dk_at dksX1_lot_5 18 rfl rfl)
theorem dX1_lot_138 : decode cX1_lot 138 = .ok (.iload_n 3, 1) := dk_29 (dk_at dksX1_lot_5 21 rfl rfl)
theorem dX1_lot_139 : decode cX1_lot 139 = .ok (.ireturn, 1) := dk_172 (dk_at dksX1_lot_5 22 rfl rfl)
def dkwX1_ask_3 : List UInt8 := [180, 0, 39, 182, 0, 90, 172]
abbrev dktX1_ask_3 : List UInt8 := dkwX1_ask_3 ++ []
def dkwX1_ask_2 : List UInt8 := [180, 1, 3, 96, 16, 12, 160, 0, 6, 16, 253, 172, 42, 180, 0, 39, 44, 182, 0, 199, 87, 42]
abbrev dktX1_ask_2 : List UInt8 := dkwX1_ask_2 ++ dktX1_ask_3
def dkwX1_ask_1 : List UInt8 := [180, 0, 39, 44, 182, 1, 19, 153, 0, 6, 16, 254, 172, 42, 180, 0, 39, 182, 0, 90, 42, 180, 0, 12]
abbrev dktX1_ask_1 : List UInt8 := dkwX1_ask_1 ++ dktX1_ask_2
def dkwX1_ask_0 : List UInt8 := [42, 27, 182, 0, 202, 77, 44, 182, 1, 12, 154, 0, 5, 2, 172, 42, 44, 182, 1, 15, 154, 0, 14, 42]
abbrev dktX1_ask_0 : List UInt8 := dkwX1_ask_0 ++ dktX1_ask_1
theorem dksX1_ask_0 : cX1_ask.data.toList.drop 0 = dktX1_ask_0 := by decide +kernel
theorem dksX1_ask_1 : cX1_ask.data.toList.drop 24 = dktX1_ask_1 := dk_seg dksX1_ask_0 24 rfl rfl
theorem dksX1_ask_2 : cX1_ask.data.toList.drop 48 = dktX1_ask_2 := dk_seg dksX1_ask_1 24 rfl rfl
theorem dksX1_ask_3 : cX1_ask.data.toList.drop 70 = dktX1_ask_3 := dk_seg dksX1_ask_2 22 rfl rfl
theorem dX1_ask_0 : decode cX1_ask 0 = .ok (.aload_n 0, 1) := dk_42 (dk_at dksX1_ask_0 0 rfl rfl)
theorem dX1_ask_1 : decode cX1_ask 1 = .ok (.iload_n 1, 1) := dk_27 (dk_at dksX1_ask_0 1 rfl rfl)
theorem dX1_ask_2 : decode cX1_ask 2 = .ok (.invokevirtual 202, 3) := dk_182 0 202 (dk_at dksX1_ask_0 2 rfl rfl)
theorem dX1_ask_5 : decode cX1_ask 5 = .ok (.astore_n 2, 1) := dk_77 (dk_at dksX1_ask_0 5 rfl rfl)
theorem dX1_ask_6 : decode cX1_ask 6 = .ok (.aload_n 2, 1) := dk_44 (dk_at dksX1_ask_0 6 rfl rfl)
theorem dX1_ask_7 : decode cX1_ask 7 = .ok (.invokevirtual 268, 3) := dk_182 1 12 (dk_at dksX1_ask_0 7 rfl rfl)
theorem dX1_ask_10 : decode cX1_ask 10 = .ok (.ifCond .ne 5, 3) := dk_154 0 5 (dk_at dksX1_ask_0 10 rfl rfl)
theorem dX1_ask_13 : decode cX1_ask 13 = .ok (.iconst (-1), 1) := dk_2 (dk_at dksX1_ask_0 13 rfl rfl)
theorem dX1_ask_14 : decode cX1_ask 14 = .ok (.ireturn, 1) := dk_172 (dk_at dksX1_ask_0 14 rfl rfl)
theorem dX1_ask_15 : decode cX1_ask 15 = .ok (.aload_n 0, 1) := dk_42 (dk_at dksX1_ask_0 15 rfl rfl)
theorem dX1_ask_16 : decode cX1_ask 16 = .ok (.aload_n 2, 1) := dk_44 (dk_at dksX1_ask_0 16 rfl rfl)
theorem dX1_ask_17 : decode cX1_ask 17 = .ok (.invokevirtual 271, 3) := dk_182 1 15 (dk_at dksX1_ask_0 17 rfl rfl)
theorem dX1_ask_20 : decode cX1_ask 20 = .ok (.ifCond .ne 14, 3) := dk_154 0 14 (dk_at dksX1_ask_0 20 rfl rfl)
theorem dX1_ask_23 : decode cX1_ask 23 = .ok (.aload_n 0, 1) := dk_42 (dk_at dksX1_ask_0 23 rfl rfl)
theorem dX1_ask_24 : decode cX1_ask 24 = .ok (.getfield 39, 3) := dk_180 0 39 (dk_at dksX1_ask_1 0 rfl rfl)
theorem dX1_ask_27 : decode cX1_ask 27 = .ok (.aload_n 2, 1) := dk_44 (dk_at dksX1_ask_1 3 rfl rfl)
theorem dX1_ask_28 : decode cX1_ask 28 = .ok (.invokevirtual 275, 3) := dk_182 1 19 (dk_at dksX1_ask_1 4 rfl rfl)
theorem dX1_ask_31 : decode cX1_ask 31 = .ok (.ifCond .eq 6, 3) := dk_153 0 6 (dk_at dksX1_ask_1 7 rfl rfl)
theorem dX1_ask_34 : decode cX1_ask 34 = .ok (.bipush (-2), 2) := dk_16 254 (dk_at dksX1_ask_1 10 rfl rfl)
theorem dX1_ask_36 : decode cX1_ask 36 = .ok (.ireturn, 1) := dk_172 (dk_at dksX1_ask_1 12 rfl rfl)
theorem dX1_ask_37 : decode cX1_ask 37 = .ok (.aload_n 0, 1) := dk_42 (dk_at dksX1_ask_1 13 rfl rfl)
theorem dX1_ask_38 : decode cX1_ask 38 = .ok (.getfield 39, 3) := dk_180 0 39 (dk_at dksX1_ask_1 14 rfl rfl)
theorem dX1_ask_41 : decode cX1_ask 41 = .ok (.invokevirtual 90, 3) := dk_182 0 90 (dk_at dksX1_ask_1 17 rfl rfl)
theorem dX1_ask_44 : decode cX1_ask 44 = .ok (.aload_n 0, 1) := dk_42 (dk_at dksX1_ask_1 20 rfl rfl)
theorem dX1_ask_45 : decode cX1_ask 45 = .ok (.getfield 12, 3) := dk_180 0 12 (dk_at dksX1_ask_1 21 rfl rfl)
theorem dX1_ask_48 : decode cX1_ask 48 = .ok (.getfield 259, 3) := dk_180 1 3 (dk_at dksX1_ask_2 0 rfl rfl)
theorem dX1_ask_51 : decode cX1_ask 51 = .ok (.iadd, 1) := dk_96 (dk_at dksX1_ask_2 3 rfl rfl)
theorem dX1_ask_52 : decode cX1_ask 52 = .ok (.bipush 12, 2) := dk_16 12 (dk_at dksX1_ask_2 4 rfl rfl)
theorem dX1_ask_54 : decode cX1_ask 54 = .ok (.if_icmp .ne 6, 3) := dk_160 0 6 (dk_at dksX1_ask_2 6 rfl rfl)
theorem dX1_ask_57 : decode cX1_ask 57 = .ok (.bipush (-3), 2) := dk_16 253 (dk_at dksX1_ask_2 9 rfl rfl)
theorem dX1_ask_59 : decode cX1_ask 59 = .ok (.ireturn, 1) := dk_172 (dk_at dksX1_ask_2 11 rfl rfl)
theorem dX1_ask_60 : decode cX1_ask 60 = .ok (.aload_n 0, 1) := dk_42 (dk_at dksX1_ask_2 12 rfl rfl)
theorem dX1_ask_61 : decode cX1_ask 61 = .ok (.getfield 39, 3) := dk_180 0 39 (dk_at dksX1_ask_2 13 rfl rfl)
theorem dX1_ask_64 : decode cX1_ask 64 = .ok (.aload_n 2, 1) := dk_44 (dk_at dksX1_ask_2 16 rfl rfl)
theorem dX1_ask_65 : decode cX1_ask 65 = .ok (.invokevirtual 199, 3) := dk_182 0 199 (dk_at dksX1_ask_2 17 rfl rfl)
theorem dX1_ask_68 : decode cX1_ask 68 = .ok (.pop, 1) := dk_87 (dk_at dksX1_ask_2 20 rfl rfl)
theorem dX1_ask_69 : decode cX1_ask 69 = .ok (.aload_n 0, 1) := dk_42 (dk_at dksX1_ask_2 21 rfl rfl)
theorem dX1_ask_70 : decode cX1_ask 70 = .ok (.getfield 39, 3) := dk_180 0 39 (dk_at dksX1_ask_3 0 rfl rfl)
theorem dX1_ask_73 : decode cX1_ask 73 = .ok (.invokevirtual 90, 3) := dk_182 0 90 (dk_at dksX1_ask_3 3 rfl rfl)
theorem dX1_ask_76 : decode cX1_ask 76 = .ok (.ireturn, 1) := dk_172 (dk_at dksX1_ask_3 6 rfl rfl)
def dkwX1_hasAcre_1 : List UInt8 := [180, 1, 9, 160, 0, 5, 4, 172, 132, 2, 1, 167, 255, 224, 3, 172]
abbrev dktX1_hasAcre_1 : List UInt8 := dkwX1_hasAcre_1 ++ []
def dkwX1_hasAcre_0 : List UInt8 := [3, 61, 28, 42, 180, 0, 12, 180, 1, 3, 162, 0, 27, 42, 180, 0, 12, 180, 1, 6, 28, 46, 43]
abbrev dktX1_hasAcre_0 : List UInt8 := dkwX1_hasAcre_0 ++ dktX1_hasAcre_1
theorem dksX1_hasAcre_0 : cX1_hasAcre.data.toList.drop 0 = dktX1_hasAcre_0 := by decide +kernel
theorem dksX1_hasAcre_1 : cX1_hasAcre.data.toList.drop 23 = dktX1_hasAcre_1 := dk_seg dksX1_hasAcre_0 23 rfl rfl
theorem dX1_hasAcre_0 : decode cX1_hasAcre 0 = .ok (.iconst 0, 1) := dk_3 (dk_at dksX1_hasAcre_0 0 rfl rfl)
theorem dX1_hasAcre_1 : decode cX1_hasAcre 1 = .ok (.istore_n 2, 1) := dk_61 (dk_at dksX1_hasAcre_0 1 rfl rfl)
theorem dX1_hasAcre_2 : decode cX1_hasAcre 2 = .ok (.iload_n 2, 1) := dk_28 (dk_at dksX1_hasAcre_0 2 rfl rfl)
theorem dX1_hasAcre_3 : decode cX1_hasAcre 3 = .ok (.aload_n 0, 1) := dk_42 (dk_at dksX1_hasAcre_0 3 rfl rfl)
theorem dX1_hasAcre_4 : decode cX1_hasAcre 4 = .ok (.getfield 12, 3) := dk_180 0 12 (dk_at dksX1_hasAcre_0 4 rfl rfl)
theorem dX1_hasAcre_7 : decode cX1_hasAcre 7 = .ok (.getfield 259, 3) := dk_180 1 3 (dk_at dksX1_hasAcre_0 7 rfl rfl)
theorem dX1_hasAcre_10 : decode cX1_hasAcre 10 = .ok (.if_icmp .ge 27, 3) := dk_162 0 27 (dk_at dksX1_hasAcre_0 10 rfl rfl)
theorem dX1_hasAcre_13 : decode cX1_hasAcre 13 = .ok (.aload_n 0, 1) := dk_42 (dk_at dksX1_hasAcre_0 13 rfl rfl)
theorem dX1_hasAcre_14 : decode cX1_hasAcre 14 = .ok (.getfield 12, 3) := dk_180 0 12 (dk_at dksX1_hasAcre_0 14 rfl rfl)
theorem dX1_hasAcre_17 : decode cX1_hasAcre 17 = .ok (.getfield 262, 3) := dk_180 1 6 (dk_at dksX1_hasAcre_0 17 rfl rfl)
theorem dX1_hasAcre_20 : decode cX1_hasAcre 20 = .ok (.iload_n 2, 1) := dk_28 (dk_at dksX1_hasAcre_0 20 rfl rfl)
theorem dX1_hasAcre_21 : decode cX1_hasAcre 21 = .ok (.iaload, 1) := dk_46 (dk_at dksX1_hasAcre_0 21 rfl rfl)
theorem dX1_hasAcre_22 : decode cX1_hasAcre 22 = .ok (.aload_n 1, 1) := dk_43 (dk_at dksX1_hasAcre_0 22 rfl rfl)
theorem dX1_hasAcre_23 : decode cX1_hasAcre 23 = .ok (.getfield 265, 3) := dk_180 1 9 (dk_at dksX1_hasAcre_1 0 rfl rfl)
theorem dX1_hasAcre_26 : decode cX1_hasAcre 26 = .ok (.if_icmp .ne 5, 3) := dk_160 0 5 (dk_at dksX1_hasAcre_1 3 rfl rfl)
theorem dX1_hasAcre_29 : decode cX1_hasAcre 29 = .ok (.iconst 1, 1) := dk_4 (dk_at dksX1_hasAcre_1 6 rfl rfl)
theorem dX1_hasAcre_30 : decode cX1_hasAcre 30 = .ok (.ireturn, 1) := dk_172 (dk_at dksX1_hasAcre_1 7 rfl rfl)
theorem dX1_hasAcre_31 : decode cX1_hasAcre 31 = .ok (.iinc 2 1, 3) := dk_132 2 1 (dk_at dksX1_hasAcre_1 8 rfl rfl)
theorem dX1_hasAcre_34 : decode cX1_hasAcre 34 = .ok (.goto (-32), 3) := dk_167 255 224 (dk_at dksX1_hasAcre_1 11 rfl rfl)
theorem dX1_hasAcre_37 : decode cX1_hasAcre 37 = .ok (.iconst 0, 1) := dk_3 (dk_at dksX1_hasAcre_1 14 rfl rfl)
theorem dX1_hasAcre_38 : decode cX1_hasAcre 38 = .ok (.ireturn, 1) := dk_172 (dk_at dksX1_hasAcre_1 15 rfl rfl)
def dkwX1_draw_5 : List UInt8 := [180, 0, 12, 89, 180, 1, 3, 4, 96, 181, 1, 3, 167, 255, 181, 29, 172]
abbrev dktX1_draw_5 : List UInt8 := dkwX1_draw_5 ++ []
def dkwX1_draw_4 : List UInt8 := [112, 54, 4, 42, 180, 0, 12, 180, 1, 6, 42, 180, 0, 12, 180, 1, 3, 25, 5, 180, 1, 9, 79, 42]
abbrev dktX1_draw_4 : List UInt8 := dkwX1_draw_4 ++ dktX1_draw_5
def dkwX1_draw_3 : List UInt8 := [182, 0, 90, 108, 61, 42, 180, 0, 39, 21, 4, 28, 108, 182, 1, 25, 192, 0, 94, 58, 5, 21, 4, 28]
abbrev dktX1_draw_3 : List UInt8 := dkwX1_draw_3 ++ dktX1_draw_4
def dkwX1_draw_2 : List UInt8 := [182, 0, 90, 62, 27, 54, 4, 42, 180, 0, 39, 182, 1, 22, 154, 0, 71, 28, 42, 180, 0, 39]
abbrev dktX1_draw_2 : List UInt8 := dkwX1_draw_2 ++ dktX1_draw_3
def dkwX1_draw_1 : List UInt8 := [167, 255, 238, 27, 155, 0, 12, 27, 28, 162, 0, 7, 4, 167, 0, 4, 3, 184, 0, 100, 42, 180, 0, 39]
abbrev dktX1_draw_1 : List UInt8 := dkwX1_draw_1 ++ dktX1_draw_2
def dkwX1_draw_0 : List UInt8 := [4, 61, 5, 62, 29, 42, 180, 0, 39, 182, 0, 90, 163, 0, 13, 28, 29, 104, 61, 132, 3, 1]
abbrev dktX1_draw_0 : List UInt8 := dkwX1_draw_0 ++ dktX1_draw_1
theorem dksX1_draw_0 : cX1_draw.data.toList.drop 0 = dktX1_draw_0 := by decide +kernel
theorem dksX1_draw_1 : cX1_draw.data.toList.drop 22 = dktX1_draw_1 := dk_seg dksX1_draw_0 22 rfl rfl
theorem dksX1_draw_2 : cX1_draw.data.toList.drop 46 = dktX1_draw_2 := dk_seg dksX1_draw_1 24 rfl rfl
theorem dksX1_draw_3 : cX1_draw.data.toList.drop 68 = dktX1_draw_3 := dk_seg dksX1_draw_2 22 rfl rfl
theorem dksX1_draw_4 : cX1_draw.data.toList.drop 92 = dktX1_draw_4 := dk_seg dksX1_draw_3 24 rfl rfl
theorem dksX1_draw_5 : cX1_draw.data.toList.drop 116 = dktX1_draw_5 := dk_seg dksX1_draw_4 24 rfl rfl
theorem dX1_draw_0 : decode cX1_draw 0 = .ok (.iconst 1, 1) := dk_4 (dk_at dksX1_draw_0 0 rfl rfl)
theorem dX1_draw_1 : decode cX1_draw 1 = .ok (.istore_n 2, 1) := dk_61 (dk_at dksX1_draw_0 1 rfl rfl)
theorem dX1_draw_2 : decode cX1_draw 2 = .ok (.iconst 2, 1) := dk_5 (dk_at dksX1_draw_0 2 rfl rfl)
theorem dX1_draw_3 : decode cX1_draw 3 = .ok (.istore_n 3, 1) := dk_62 (dk_at dksX1_draw_0 3 rfl rfl)
theorem dX1_draw_4 : decode cX1_draw 4 = .ok (.iload_n 3, 1) := dk_29 (dk_at dksX1_draw_0 4 rfl rfl)
theorem dX1_draw_5 : decode cX1_draw 5 = .ok (.aload_n 0, 1) := dk_42 (dk_at dksX1_draw_0 5 rfl rfl)
theorem dX1_draw_6 : decode cX1_draw 6 = .ok (.getfield 39, 3) := dk_180 0 39 (dk_at dksX1_draw_0 6 rfl rfl)
theorem dX1_draw_9 : decode cX1_draw 9 = .ok (.invokevirtual 90, 3) := dk_182 0 90 (dk_at dksX1_draw_0 9 rfl rfl)
theorem dX1_draw_12 : decode cX1_draw 12 = .ok (.if_icmp .gt 13, 3) := dk_163 0 13 (dk_at dksX1_draw_0 12 rfl rfl)
theorem dX1_draw_15 : decode cX1_draw 15 = .ok (.iload_n 2, 1) := dk_28 (dk_at dksX1_draw_0 15 rfl rfl)
theorem dX1_draw_16 : decode cX1_draw 16 = .ok (.iload_n 3, 1) := dk_29 (dk_at dksX1_draw_0 16 rfl rfl)
theorem dX1_draw_17 : decode cX1_draw 17 = .ok (.imul, 1) := dk_104 (dk_at dksX1_draw_0 17 rfl rfl)
theorem dX1_draw_18 : decode cX1_draw 18 = .ok (.istore_n 2, 1) := dk_61 (dk_at dksX1_draw_0 18 rfl rfl)
theorem dX1_draw_19 : decode cX1_draw 19 = .ok (.iinc 3 1, 3) := dk_132 3 1 (dk_at dksX1_draw_0 19 rfl rfl)
theorem dX1_draw_22 : decode cX1_draw 22 = .ok (.goto (-18), 3) := dk_167 255 238 (dk_at dksX1_draw_1 0 rfl rfl)
theorem dX1_draw_25 : decode cX1_draw 25 = .ok (.iload_n 1, 1) := dk_27 (dk_at dksX1_draw_1 3 rfl rfl)
theorem dX1_draw_26 : decode cX1_draw 26 = .ok (.ifCond .lt 12, 3) := dk_155 0 12 (dk_at dksX1_draw_1 4 rfl rfl)
theorem dX1_draw_29 : decode cX1_draw 29 = .ok (.iload_n 1, 1) := dk_27 (dk_at dksX1_draw_1 7 rfl rfl)
theorem dX1_draw_30 : decode cX1_draw 30 = .ok (.iload_n 2, 1) := dk_28 (dk_at dksX1_draw_1 8 rfl rfl)
theorem dX1_draw_31 : decode cX1_draw 31 = .ok (.if_icmp .ge 7, 3) := dk_162 0 7 (dk_at dksX1_draw_1 9 rfl rfl)
theorem dX1_draw_34 : decode cX1_draw 34 = .ok (.iconst 1, 1) := dk_4 (dk_at dksX1_draw_1 12 rfl rfl)
theorem dX1_draw_35 : decode cX1_draw 35 = .ok (.goto 4, 3) := dk_167 0 4 (dk_at dksX1_draw_1 13 rfl rfl)
theorem dX1_draw_38 : decode cX1_draw 38 = .ok (.iconst 0, 1) := dk_3 (dk_at dksX1_draw_1 16 rfl rfl)
theorem dX1_draw_39 : decode cX1_draw 39 = .ok (.invokestatic 100, 3) := dk_184 0 100 (dk_at dksX1_draw_1 17 rfl rfl)
theorem dX1_draw_42 : decode cX1_draw 42 = .ok (.aload_n 0, 1) := dk_42 (dk_at dksX1_draw_1 20 rfl rfl)
theorem dX1_draw_43 : decode cX1_draw 43 = .ok (.getfield 39, 3) := dk_180 0 39 (dk_at dksX1_draw_1 21 rfl rfl)
theorem dX1_draw_46 : decode cX1_draw 46 = .ok (.invokevirtual 90, 3) := dk_182 0 90 (dk_at dksX1_draw_2 0 rfl rfl)
theorem dX1_draw_49 : decode cX1_draw 49 = .ok (.istore_n 3, 1) := dk_62 (dk_at dksX1_draw_2 3 rfl rfl)
theorem dX1_draw_50 : decode cX1_draw 50 = .ok (.iload_n 1, 1) := dk_27 (dk_at dksX1_draw_2 4 rfl rfl)
theorem dX1_draw_51 : decode cX1_draw 51 = .ok (.istore 4, 2) := dk_54 4 (dk_at dksX1_draw_2 5 rfl rfl)
theorem dX1_draw_53 : decode cX1_draw 53 = .ok (.aload_n 0, 1) := dk_42 (dk_at dksX1_draw_2 7 rfl rfl)
theorem dX1_draw_54 : decode cX1_draw 54 = .ok (.getfield 39, 3) := dk_180 0 39 (dk_at dksX1_draw_2 8 rfl rfl)
theorem dX1_draw_57 : decode cX1_draw 57 = .ok (.invokevirtual 278, 3) := dk_182 1 22 (dk_at dksX1_draw_2 11 rfl rfl)
theorem dX1_draw_60 : decode cX1_draw 60 = .ok (.ifCond .ne 71, 3) := dk_154 0 71 (dk_at dksX1_draw_2 14 rfl rfl)
theorem dX1_draw_63 : decode cX1_draw 63 = .ok (.iload_n 2, 1) := dk_28 (dk_at dksX1_draw_2 17 rfl rfl)
theorem dX1_draw_64 : decode cX1_draw 64 = .ok (.aload_n 0, 1) := dk_42 (dk_at dksX1_draw_2 18 rfl rfl)
theorem dX1_draw_65 : decode cX1_draw 65 = .ok (.getfield 39, 3) := dk_180 0 39 (dk_at dksX1_draw_2 19 rfl rfl)
theorem dX1_draw_68 : decode cX1_draw 68 = .ok (.invokevirtual 90, 3) := dk_182 0 90 (dk_at dksX1_draw_3 0 rfl rfl)
theorem dX1_draw_71 : decode cX1_draw 71 = .ok (.idiv, 1) := dk_108 (dk_at dksX1_draw_3 3 rfl rfl)
theorem dX1_draw_72 : decode cX1_draw 72 = .ok (.istore_n 2, 1) := dk_61 (dk_at dksX1_draw_3 4 rfl rfl)
theorem dX1_draw_73 : decode cX1_draw 73 = .ok (.aload_n 0, 1) := dk_42 (dk_at dksX1_draw_3 5 rfl rfl)
theorem dX1_draw_74 : decode cX1_draw 74 = .ok (.getfield 39, 3) := dk_180 0 39 (dk_at dksX1_draw_3 6 rfl rfl)
theorem dX1_draw_77 : decode cX1_draw 77 = .ok (.iload 4, 2) := dk_21 4 (dk_at dksX1_draw_3 9 rfl rfl)
theorem dX1_draw_79 : decode cX1_draw 79 = .ok (.iload_n 2, 1) := dk_28 (dk_at dksX1_draw_3 11 rfl rfl)
theorem dX1_draw_80 : decode cX1_draw 80 = .ok (.idiv, 1) := dk_108 (dk_at dksX1_draw_3 12 rfl rfl)
theorem dX1_draw_81 : decode cX1_draw 81 = .ok (.invokevirtual 281, 3) := dk_182 1 25 (dk_at dksX1_draw_3 13 rfl rfl)
theorem dX1_draw_84 : decode cX1_draw 84 = .ok (.checkcast 94, 3) := dk_192 0 94 (dk_at dksX1_draw_3 16 rfl rfl)
theorem dX1_draw_87 : decode cX1_draw 87 = .ok (.astore 5, 2) := dk_58 5 (dk_at dksX1_draw_3 19 rfl rfl)
theorem dX1_draw_89 : decode cX1_draw 89 = .ok (.iload 4, 2) := dk_21 4 (dk_at dksX1_draw_3 21 rfl rfl)
theorem dX1_draw_91 : decode cX1_draw 91 = .ok (.iload_n 2, 1) := dk_28 (dk_at dksX1_draw_3 23 rfl rfl)
theorem dX1_draw_92 : decode cX1_draw 92 = .ok (.irem, 1) := dk_112 (dk_at dksX1_draw_4 0 rfl rfl)
theorem dX1_draw_93 : decode cX1_draw 93 = .ok (.istore 4, 2) := dk_54 4 (dk_at dksX1_draw_4 1 rfl rfl)
theorem dX1_draw_95 : decode cX1_draw 95 = .ok (.aload_n 0, 1) := dk_42 (dk_at dksX1_draw_4 3 rfl rfl)
theorem dX1_draw_96 : decode cX1_draw 96 = .ok (.getfield 12, 3) := dk_180 0 12 (dk_at dksX1_draw_4 4 rfl rfl)
theorem dX1_draw_99 : decode cX1_draw 99 = .ok (.getfield 262, 3) := dk_180 1 6 (dk_at dksX1_draw_4 7 rfl rfl)
theorem dX1_draw_102 : decode cX1_draw 102 = .ok (.aload_n 0, 1) := dk_42 (dk_at dksX1_draw_4 10 rfl rfl)
theorem dX1_draw_103 : decode cX1_draw 103 = .ok (.getfield 12, 3) := dk_180 0 12 (dk_at dksX1_draw_4 11 rfl rfl)
theorem dX1_draw_106 : decode cX1_draw 106 = .ok (.getfield 259, 3) := dk_180 1 3 (dk_at dksX1_draw_4 14 rfl rfl)
theorem dX1_draw_109 : decode cX1_draw 109 = .ok (.aload 5, 2) := dk_25 5 (dk_at dksX1_draw_4 17 rfl rfl)
theorem dX1_draw_111 : decode cX1_draw 111 = .ok (.getfield 265, 3) := dk_180 1 9 (dk_at dksX1_draw_4 19 rfl rfl)
theorem dX1_draw_114 : decode cX1_draw 114 = .ok (.iastore, 1) := dk_79 (dk_at dksX1_draw_4 22 rfl rfl)
theorem dX1_draw_115 : decode cX1_draw 115 = .ok (.aload_n 0, 1) := dk_42 (dk_at dksX1_draw_4 23 rfl rfl)
theorem dX1_draw_116 : decode cX1_draw 116 = .ok (.getfield 12, 3) := dk_180 0 12 (dk_at dksX1_draw_5 0 rfl rfl)
theorem dX1_draw_119 : decode cX1_draw 119 = .ok (.dup, 1) := dk_89 (dk_at dksX1_draw_5 3 rfl rfl)
theorem dX1_draw_120 : decode cX1_draw 120 = .ok (.getfield 259, 3) := dk_180 1 3 (dk_at dksX1_draw_5 4 rfl rfl)
theorem dX1_draw_123 : decode cX1_draw 123 = .ok (.iconst 1, 1) := dk_4 (dk_at dksX1_draw_5 7 rfl rfl)
theorem dX1_draw_124 : decode cX1_draw 124 = .ok (.iadd, 1) := dk_96 (dk_at dksX1_draw_5 8 rfl rfl)
theorem dX1_draw_125 : decode cX1_draw 125 = .ok (.putfield 259, 3) := dk_181 1 3 (dk_at dksX1_draw_5 9 rfl rfl)
theorem dX1_draw_128 : decode cX1_draw 128 = .ok (.goto (-75), 3) := dk_167 255 181 (dk_at dksX1_draw_5 12 rfl rfl)
theorem dX1_draw_131 : decode cX1_draw 131 = .ok (.iload_n 3, 1) := dk_29 (dk_at dksX1_draw_5 15 rfl rfl)
theorem dX1_draw_132 : decode cX1_draw 132 = .ok (.ireturn, 1) := dk_172 (dk_at dksX1_draw_5 16 rfl rfl)
def dkwX1_acre_0 : List UInt8 := [27, 16, 12, 184, 0, 74, 42, 180, 0, 12, 180, 1, 6, 27, 46, 172]
abbrev dktX1_acre_0 : List UInt8 := dkwX1_acre_0 ++ []
theorem dksX1_acre_0 : cX1_acre.data.toList.drop 0 = dktX1_acre_0 := by decide +kernel
theorem dX1_acre_0 : decode cX1_acre 0 = .ok (.iload_n 1, 1) := dk_27 (dk_at dksX1_acre_0 0 rfl rfl)
theorem dX1_acre_1 : decode cX1_acre 1 = .ok (.bipush 12, 2) := dk_16 12 (dk_at dksX1_acre_0 1 rfl rfl)
theorem dX1_acre_3 : decode cX1_acre 3 = .ok (.invokestatic 74, 3) := dk_184 0 74 (dk_at dksX1_acre_0 3 rfl rfl)
theorem dX1_acre_6 : decode cX1_acre 6 = .ok (.aload_n 0, 1) := dk_42 (dk_at dksX1_acre_0 6 rfl rfl)
theorem dX1_acre_7 : decode cX1_acre 7 = .ok (.getfield 12, 3) := dk_180 0 12 (dk_at dksX1_acre_0 7 rfl rfl)
theorem dX1_acre_10 : decode cX1_acre 10 = .ok (.getfield 262, 3) := dk_180 1 6 (dk_at dksX1_acre_0 10 rfl rfl)
theorem dX1_acre_13 : decode cX1_acre 13 = .ok (.iload_n 1, 1) := dk_27 (dk_at dksX1_acre_0 13 rfl rfl)
theorem dX1_acre_14 : decode cX1_acre 14 = .ok (.iaload, 1) := dk_46 (dk_at dksX1_acre_0 14 rfl rfl)
theorem dX1_acre_15 : decode cX1_acre 15 = .ok (.ireturn, 1) := dk_172 (dk_at dksX1_acre_0 15 rfl rfl)
def dkwX1_buy_1 : List UInt8 := [182, 1, 28, 153, 0, 15, 42, 180, 0, 12, 45, 28, 182, 1, 31, 167, 0, 5, 16, 254, 172]
abbrev dktX1_buy_1 : List UInt8 := dkwX1_buy_1 ++ []
def dkwX1_buy_0 : List UInt8 := [42, 27, 182, 0, 202, 78, 42, 28, 182, 0, 96, 58, 4, 45, 182, 1, 12, 154, 0, 5, 2, 172, 25, 4]
abbrev dktX1_buy_0 : List UInt8 := dkwX1_buy_0 ++ dktX1_buy_1
theorem dksX1_buy_0 : cX1_buy.data.toList.drop 0 = dktX1_buy_0 := by decide +kernel
theorem dksX1_buy_1 : cX1_buy.data.toList.drop 24 = dktX1_buy_1 := dk_seg dksX1_buy_0 24 rfl rfl
theorem dX1_buy_0 : decode cX1_buy 0 = .ok (.aload_n 0, 1) := dk_42 (dk_at dksX1_buy_0 0 rfl rfl)
theorem dX1_buy_1 : decode cX1_buy 1 = .ok (.iload_n 1, 1) := dk_27 (dk_at dksX1_buy_0 1 rfl rfl)
theorem dX1_buy_2 : decode cX1_buy 2 = .ok (.invokevirtual 202, 3) := dk_182 0 202 (dk_at dksX1_buy_0 2 rfl rfl)
theorem dX1_buy_5 : decode cX1_buy 5 = .ok (.astore_n 3, 1) := dk_78 (dk_at dksX1_buy_0 5 rfl rfl)
theorem dX1_buy_6 : decode cX1_buy 6 = .ok (.aload_n 0, 1) := dk_42 (dk_at dksX1_buy_0 6 rfl rfl)
theorem dX1_buy_7 : decode cX1_buy 7 = .ok (.iload_n 2, 1) := dk_28 (dk_at dksX1_buy_0 7 rfl rfl)
theorem dX1_buy_8 : decode cX1_buy 8 = .ok (.invokevirtual 96, 3) := dk_182 0 96 (dk_at dksX1_buy_0 8 rfl rfl)
theorem dX1_buy_11 : decode cX1_buy 11 = .ok (.astore 4, 2) := dk_58 4 (dk_at dksX1_buy_0 11 rfl rfl)
theorem dX1_buy_13 : decode cX1_buy 13 = .ok (.aload_n 3, 1) := dk_45 (dk_at dksX1_buy_0 13 rfl rfl)
theorem dX1_buy_14 : decode cX1_buy 14 = .ok (.invokevirtual 268, 3) := dk_182 1 12 (dk_at dksX1_buy_0 14 rfl rfl)
theorem dX1_buy_17 : decode cX1_buy 17 = .ok (.ifCond .ne 5, 3) := dk_154 0 5 (dk_at dksX1_buy_0 17 rfl rfl)
theorem dX1_buy_20 : decode cX1_buy 20 = .ok (.iconst (-1), 1) := dk_2 (dk_at dksX1_buy_0 20 rfl rfl)
theorem dX1_buy_21 : decode cX1_buy 21 = .ok (.ireturn, 1) := dk_172 (dk_at dksX1_buy_0 21 rfl rfl)
theorem dX1_buy_22 : decode cX1_buy 22 = .ok (.aload 4, 2) := dk_25 4 (dk_at dksX1_buy_0 22 rfl rfl)
theorem dX1_buy_24 : decode cX1_buy 24 = .ok (.invokevirtual 284, 3) := dk_182 1 28 (dk_at dksX1_buy_1 0 rfl rfl)
theorem dX1_buy_27 : decode cX1_buy 27 = .ok (.ifCond .eq 15, 3) := dk_153 0 15 (dk_at dksX1_buy_1 3 rfl rfl)
theorem dX1_buy_30 : decode cX1_buy 30 = .ok (.aload_n 0, 1) := dk_42 (dk_at dksX1_buy_1 6 rfl rfl)
theorem dX1_buy_31 : decode cX1_buy 31 = .ok (.getfield 12, 3) := dk_180 0 12 (dk_at dksX1_buy_1 7 rfl rfl)
theorem dX1_buy_34 : decode cX1_buy 34 = .ok (.aload_n 3, 1) := dk_45 (dk_at dksX1_buy_1 10 rfl rfl)
theorem dX1_buy_35 : decode cX1_buy 35 = .ok (.iload_n 2, 1) := dk_28 (dk_at dksX1_buy_1 11 rfl rfl)
theorem dX1_buy_36 : decode cX1_buy 36 = .ok (.invokevirtual 287, 3) := dk_182 1 31 (dk_at dksX1_buy_1 12 rfl rfl)
theorem dX1_buy_39 : decode cX1_buy 39 = .ok (.goto 5, 3) := dk_167 0 5 (dk_at dksX1_buy_1 15 rfl rfl)
theorem dX1_buy_42 : decode cX1_buy 42 = .ok (.bipush (-2), 2) := dk_16 254 (dk_at dksX1_buy_1 18 rfl rfl)
theorem dX1_buy_44 : decode cX1_buy 44 = .ok (.ireturn, 1) := dk_172 (dk_at dksX1_buy_1 20 rfl rfl)
def dkwX1_order_4 : List UInt8 := [184, 1, 41, 182, 0, 199, 87, 44, 180, 0, 224, 172]
abbrev dktX1_order_4 : List UInt8 := dkwX1_order_4 ++ []
def dkwX1_order_3 : List UInt8 := [180, 0, 35, 182, 0, 90, 181, 0, 224, 42, 180, 0, 35, 44, 182, 0, 199, 87, 42, 180, 0, 42, 29]
abbrev dktX1_order_3 : List UInt8 := dkwX1_order_3 ++ dktX1_order_4
def dkwX1_order_2 : List UInt8 := [180, 0, 209, 29, 100, 181, 0, 209, 42, 180, 0, 12, 89, 180, 1, 38, 29, 96, 181, 1, 38, 44, 42]
abbrev dktX1_order_2 : List UInt8 := dkwX1_order_2 ++ dktX1_order_3
def dkwX1_order_1 : List UInt8 := [16, 254, 172, 42, 180, 0, 12, 182, 1, 35, 62, 44, 180, 0, 209, 29, 162, 0, 6, 16, 253, 172, 44, 89]
abbrev dktX1_order_1 : List UInt8 := dkwX1_order_1 ++ dktX1_order_2
def dkwX1_order_0 : List UInt8 := [42, 27, 182, 0, 202, 77, 44, 180, 0, 212, 153, 0, 5, 2, 172, 44, 180, 0, 224, 2, 159, 0, 6]
abbrev dktX1_order_0 : List UInt8 := dkwX1_order_0 ++ dktX1_order_1
theorem dksX1_order_0 : cX1_order.data.toList.drop 0 = dktX1_order_0 := by decide +kernel
theorem dksX1_order_1 : cX1_order.data.toList.drop 23 = dktX1_order_1 := dk_seg dksX1_order_0 23 rfl rfl
theorem dksX1_order_2 : cX1_order.data.toList.drop 47 = dktX1_order_2 := dk_seg dksX1_order_1 24 rfl rfl
theorem dksX1_order_3 : cX1_order.data.toList.drop 70 = dktX1_order_3 := dk_seg dksX1_order_2 23 rfl rfl
theorem dksX1_order_4 : cX1_order.data.toList.drop 93 = dktX1_order_4 := dk_seg dksX1_order_3 23 rfl rfl
theorem dX1_order_0 : decode cX1_order 0 = .ok (.aload_n 0, 1) := dk_42 (dk_at dksX1_order_0 0 rfl rfl)
theorem dX1_order_1 : decode cX1_order 1 = .ok (.iload_n 1, 1) := dk_27 (dk_at dksX1_order_0 1 rfl rfl)
theorem dX1_order_2 : decode cX1_order 2 = .ok (.invokevirtual 202, 3) := dk_182 0 202 (dk_at dksX1_order_0 2 rfl rfl)
theorem dX1_order_5 : decode cX1_order 5 = .ok (.astore_n 2, 1) := dk_77 (dk_at dksX1_order_0 5 rfl rfl)
theorem dX1_order_6 : decode cX1_order 6 = .ok (.aload_n 2, 1) := dk_44 (dk_at dksX1_order_0 6 rfl rfl)
theorem dX1_order_7 : decode cX1_order 7 = .ok (.getfield 212, 3) := dk_180 0 212 (dk_at dksX1_order_0 7 rfl rfl)
theorem dX1_order_10 : decode cX1_order 10 = .ok (.ifCond .eq 5, 3) := dk_153 0 5 (dk_at dksX1_order_0 10 rfl rfl)
theorem dX1_order_13 : decode cX1_order 13 = .ok (.iconst (-1), 1) := dk_2 (dk_at dksX1_order_0 13 rfl rfl)
theorem dX1_order_14 : decode cX1_order 14 = .ok (.ireturn, 1) := dk_172 (dk_at dksX1_order_0 14 rfl rfl)
theorem dX1_order_15 : decode cX1_order 15 = .ok (.aload_n 2, 1) := dk_44 (dk_at dksX1_order_0 15 rfl rfl)
theorem dX1_order_16 : decode cX1_order 16 = .ok (.getfield 224, 3) := dk_180 0 224 (dk_at dksX1_order_0 16 rfl rfl)
theorem dX1_order_19 : decode cX1_order 19 = .ok (.iconst (-1), 1) := dk_2 (dk_at dksX1_order_0 19 rfl rfl)
theorem dX1_order_20 : decode cX1_order 20 = .ok (.if_icmp .eq 6, 3) := dk_159 0 6 (dk_at dksX1_order_0 20 rfl rfl)
theorem dX1_order_23 : decode cX1_order 23 = .ok (.bipush (-2), 2) := dk_16 254 (dk_at dksX1_order_1 0 rfl rfl)
theorem dX1_order_25 : decode cX1_order 25 = .ok (.ireturn, 1) := dk_172 (dk_at dksX1_order_1 2 rfl rfl)
theorem dX1_order_26 : decode cX1_order 26 = .ok (.aload_n 0, 1) := dk_42 (dk_at dksX1_order_1 3 rfl rfl)
theorem dX1_order_27 : decode cX1_order 27 = .ok (.getfield 12, 3) := dk_180 0 12 (dk_at dksX1_order_1 4 rfl rfl)
theorem dX1_order_30 : decode cX1_order 30 = .ok (.invokevirtual 291, 3) := dk_182 1 35 (dk_at dksX1_order_1 7 rfl rfl)
theorem dX1_order_33 : decode cX1_order 33 = .ok (.istore_n 3, 1) := dk_62 (dk_at dksX1_order_1 10 rfl rfl)
theorem dX1_order_34 : decode cX1_order 34 = .ok (.aload_n 2, 1) := dk_44 (dk_at dksX1_order_1 11 rfl rfl)
theorem dX1_order_35 : decode cX1_order 35 = .ok (.getfield 209, 3) := dk_180 0 209 (dk_at dksX1_order_1 12 rfl rfl)
theorem dX1_order_38 : decode cX1_order 38 = .ok (.iload_n 3, 1) := dk_29 (dk_at dksX1_order_1 15 rfl rfl)
theorem dX1_order_39 : decode cX1_order 39 = .ok (.if_icmp .ge 6, 3) := dk_162 0 6 (dk_at dksX1_order_1 16 rfl rfl)
theorem dX1_order_42 : decode cX1_order 42 = .ok (.bipush (-3), 2) := dk_16 253 (dk_at dksX1_order_1 19 rfl rfl)
theorem dX1_order_44 : decode cX1_order 44 = .ok (.ireturn, 1) := dk_172 (dk_at dksX1_order_1 21 rfl rfl)
theorem dX1_order_45 : decode cX1_order 45 = .ok (.aload_n 2, 1) := dk_44 (dk_at dksX1_order_1 22 rfl rfl)
theorem dX1_order_46 : decode cX1_order 46 = .ok (.dup, 1) := dk_89 (dk_at dksX1_order_1 23 rfl rfl)
theorem dX1_order_47 : decode cX1_order 47 = .ok (.getfield 209, 3) := dk_180 0 209 (dk_at dksX1_order_2 0 rfl rfl)
theorem dX1_order_50 : decode cX1_order 50 = .ok (.iload_n 3, 1) := dk_29 (dk_at dksX1_order_2 3 rfl rfl)
theorem dX1_order_51 : decode cX1_order 51 = .ok (.isub, 1) := dk_100 (dk_at dksX1_order_2 4 rfl rfl)
theorem dX1_order_52 : decode cX1_order 52 = .ok (.putfield 209, 3) := dk_181 0 209 (dk_at dksX1_order_2 5 rfl rfl)
theorem dX1_order_55 : decode cX1_order 55 = .ok (.aload_n 0, 1) := dk_42 (dk_at dksX1_order_2 8 rfl rfl)
theorem dX1_order_56 : decode cX1_order 56 = .ok (.getfield 12, 3) := dk_180 0 12 (dk_at dksX1_order_2 9 rfl rfl)
theorem dX1_order_59 : decode cX1_order 59 = .ok (.dup, 1) := dk_89 (dk_at dksX1_order_2 12 rfl rfl)
theorem dX1_order_60 : decode cX1_order 60 = .ok (.getfield 294, 3) := dk_180 1 38 (dk_at dksX1_order_2 13 rfl rfl)
theorem dX1_order_63 : decode cX1_order 63 = .ok (.iload_n 3, 1) := dk_29 (dk_at dksX1_order_2 16 rfl rfl)
theorem dX1_order_64 : decode cX1_order 64 = .ok (.iadd, 1) := dk_96 (dk_at dksX1_order_2 17 rfl rfl)
theorem dX1_order_65 : decode cX1_order 65 = .ok (.putfield 294, 3) := dk_181 1 38 (dk_at dksX1_order_2 18 rfl rfl)
theorem dX1_order_68 : decode cX1_order 68 = .ok (.aload_n 2, 1) := dk_44 (dk_at dksX1_order_2 21 rfl rfl)
theorem dX1_order_69 : decode cX1_order 69 = .ok (.aload_n 0, 1) := dk_42 (dk_at dksX1_order_2 22 rfl rfl)
theorem dX1_order_70 : decode cX1_order 70 = .ok (.getfield 35, 3) := dk_180 0 35 (dk_at dksX1_order_3 0 rfl rfl)
theorem dX1_order_73 : decode cX1_order 73 = .ok (.invokevirtual 90, 3) := dk_182 0 90 (dk_at dksX1_order_3 3 rfl rfl)
theorem dX1_order_76 : decode cX1_order 76 = .ok (.putfield 224, 3) := dk_181 0 224 (dk_at dksX1_order_3 6 rfl rfl)
theorem dX1_order_79 : decode cX1_order 79 = .ok (.aload_n 0, 1) := dk_42 (dk_at dksX1_order_3 9 rfl rfl)
theorem dX1_order_80 : decode cX1_order 80 = .ok (.getfield 35, 3) := dk_180 0 35 (dk_at dksX1_order_3 10 rfl rfl)
theorem dX1_order_83 : decode cX1_order 83 = .ok (.aload_n 2, 1) := dk_44 (dk_at dksX1_order_3 13 rfl rfl)
theorem dX1_order_84 : decode cX1_order 84 = .ok (.invokevirtual 199, 3) := dk_182 0 199 (dk_at dksX1_order_3 14 rfl rfl)
theorem dX1_order_87 : decode cX1_order 87 = .ok (.pop, 1) := dk_87 (dk_at dksX1_order_3 17 rfl rfl)
theorem dX1_order_88 : decode cX1_order 88 = .ok (.aload_n 0, 1) := dk_42 (dk_at dksX1_order_3 18 rfl rfl)
theorem dX1_order_89 : decode cX1_order 89 = .ok (.getfield 42, 3) := dk_180 0 42 (dk_at dksX1_order_3 19 rfl rfl)
theorem dX1_order_92 : decode cX1_order 92 = .ok (.iload_n 3, 1) := dk_29 (dk_at dksX1_order_3 22 rfl rfl)
theorem dX1_order_93 : decode cX1_order 93 = .ok (.invokestatic 297, 3) := dk_184 1 41 (dk_at dksX1_order_4 0 rfl rfl)
theorem dX1_order_96 : decode cX1_order 96 = .ok (.invokevirtual 199, 3) := dk_182 0 199 (dk_at dksX1_order_4 3 rfl rfl)
theorem dX1_order_99 : decode cX1_order 99 = .ok (.pop, 1) := dk_87 (dk_at dksX1_order_4 6 rfl rfl)
theorem dX1_order_100 : decode cX1_order 100 = .ok (.aload_n 2, 1) := dk_44 (dk_at dksX1_order_4 7 rfl rfl)
theorem dX1_order_101 : decode cX1_order 101 = .ok (.getfield 224, 3) := dk_180 0 224 (dk_at dksX1_order_4 8 rfl rfl)
theorem dX1_order_104 : decode cX1_order 104 = .ok (.ireturn, 1) := dk_172 (dk_at dksX1_order_4 11 rfl rfl)
def dkwX1_choose_5 : List UInt8 := [180, 0, 224, 182, 0, 81, 192, 1, 42, 182, 1, 59, 183, 1, 62, 182, 1, 64, 4, 172]
abbrev dktX1_choose_5 : List UInt8 := dkwX1_choose_5 ++ []
def dkwX1_choose_4 : List UInt8 := [180, 0, 224, 4, 84, 42, 180, 0, 12, 45, 28, 187, 1, 57, 89, 45, 180, 1, 9, 42, 180, 0, 42, 45]
abbrev dktX1_choose_4 : List UInt8 := dkwX1_choose_4 ++ dktX1_choose_5
def dkwX1_choose_3 : List UInt8 := [21, 5, 182, 1, 53, 153, 0, 6, 16, 252, 172, 132, 5, 1, 167, 255, 232, 42, 180, 0, 45, 45]
abbrev dktX1_choose_3 : List UInt8 := dkwX1_choose_3 ++ dktX1_choose_4
def dkwX1_choose_2 : List UInt8 := [25, 4, 182, 1, 28, 154, 0, 6, 16, 253, 172, 3, 54, 5, 21, 5, 45, 180, 0, 224, 162, 0, 21, 42]
abbrev dktX1_choose_2 : List UInt8 := dkwX1_choose_2 ++ dktX1_choose_3
def dkwX1_choose_1 : List UInt8 := [180, 0, 45, 45, 180, 0, 224, 51, 153, 0, 5, 2, 172, 45, 182, 1, 12, 154, 0, 6, 16, 254, 172]
abbrev dktX1_choose_1 : List UInt8 := dkwX1_choose_1 ++ dktX1_choose_2
def dkwX1_choose_0 : List UInt8 := [42, 27, 182, 0, 202, 78, 42, 28, 182, 0, 96, 58, 4, 45, 180, 0, 224, 2, 159, 0, 15, 42]
abbrev dktX1_choose_0 : List UInt8 := dkwX1_choose_0 ++ dktX1_choose_1
theorem dksX1_choose_0 : cX1_choose.data.toList.drop 0 = dktX1_choose_0 := by decide +kernel
theorem dksX1_choose_1 : cX1_choose.data.toList.drop 22 = dktX1_choose_1 := dk_seg dksX1_choose_0 22 rfl rfl
theorem dksX1_choose_2 : cX1_choose.data.toList.drop 45 = dktX1_choose_2 := dk_seg dksX1_choose_1 23 rfl rfl
theorem dksX1_choose_3 : cX1_choose.data.toList.drop 69 = dktX1_choose_3 := dk_seg dksX1_choose_2 24 rfl rfl
theorem dksX1_choose_4 : cX1_choose.data.toList.drop 91 = dktX1_choose_4 := dk_seg dksX1_choose_3 22 rfl rfl
theorem dksX1_choose_5 : cX1_choose.data.toList.drop 115 = dktX1_choose_5 := dk_seg dksX1_choose_4 24 rfl rfl
theorem dX1_choose_0 : decode cX1_choose 0 = .ok (.aload_n 0, 1) := dk_42 (dk_at dksX1_choose_0 0 rfl rfl)
theorem dX1_choose_1 : decode cX1_choose 1 = .ok (.iload_n 1, 1) := dk_27 (dk_at dksX1_choose_0 1 rfl rfl)
theorem dX1_choose_2 : decode cX1_choose 2 = .ok (.invokevirtual 202, 3) := dk_182 0 202 (dk_at dksX1_choose_0 2 rfl rfl)
theorem dX1_choose_5 : decode cX1_choose 5 = .ok (.astore_n 3, 1) := dk_78 (dk_at dksX1_choose_0 5 rfl rfl)
theorem dX1_choose_6 : decode cX1_choose 6 = .ok (.aload_n 0, 1) := dk_42 (dk_at dksX1_choose_0 6 rfl rfl)
theorem dX1_choose_7 : decode cX1_choose 7 = .ok (.iload_n 2, 1) := dk_28 (dk_at dksX1_choose_0 7 rfl rfl)
theorem dX1_choose_8 : decode cX1_choose 8 = .ok (.invokevirtual 96, 3) := dk_182 0 96 (dk_at dksX1_choose_0 8 rfl rfl)
theorem dX1_choose_11 : decode cX1_choose 11 = .ok (.astore 4, 2) := dk_58 4 (dk_at dksX1_choose_0 11 rfl rfl)
theorem dX1_choose_13 : decode cX1_choose 13 = .ok (.aload_n 3, 1) := dk_45 (dk_at dksX1_choose_0 13 rfl rfl)
theorem dX1_choose_14 : decode cX1_choose 14 = .ok (.getfield 224, 3) := dk_180 0 224 (dk_at dksX1_choose_0 14 rfl rfl)
theorem dX1_choose_17 : decode cX1_choose 17 = .ok (.iconst (-1), 1) := dk_2 (dk_at dksX1_choose_0 17 rfl rfl)
theorem dX1_choose_18 : decode cX1_choose 18 = .ok (.if_icmp .eq 15, 3) := dk_159 0 15 (dk_at dksX1_choose_0 18 rfl rfl)
theorem dX1_choose_21 : decode cX1_choose 21 = .ok (.aload_n 0, 1) := dk_42 (dk_at dksX1_choose_0 21 rfl rfl)
theorem dX1_choose_22 : decode cX1_choose 22 = .ok (.getfield 45, 3) := dk_180 0 45 (dk_at dksX1_choose_1 0 rfl rfl)
theorem dX1_choose_25 : decode cX1_choose 25 = .ok (.aload_n 3, 1) := dk_45 (dk_at dksX1_choose_1 3 rfl rfl)
theorem dX1_choose_26 : decode cX1_choose 26 = .ok (.getfield 224, 3) := dk_180 0 224 (dk_at dksX1_choose_1 4 rfl rfl)
theorem dX1_choose_29 : decode cX1_choose 29 = .ok (.baload, 1) := dk_51 (dk_at dksX1_choose_1 7 rfl rfl)
theorem dX1_choose_30 : decode cX1_choose 30 = .ok (.ifCond .eq 5, 3) := dk_153 0 5 (dk_at dksX1_choose_1 8 rfl rfl)
theorem dX1_choose_33 : decode cX1_choose 33 = .ok (.iconst (-1), 1) := dk_2 (dk_at dksX1_choose_1 11 rfl rfl)
theorem dX1_choose_34 : decode cX1_choose 34 = .ok (.ireturn, 1) := dk_172 (dk_at dksX1_choose_1 12 rfl rfl)
theorem dX1_choose_35 : decode cX1_choose 35 = .ok (.aload_n 3, 1) := dk_45 (dk_at dksX1_choose_1 13 rfl rfl)
theorem dX1_choose_36 : decode cX1_choose 36 = .ok (.invokevirtual 268, 3) := dk_182 1 12 (dk_at dksX1_choose_1 14 rfl rfl)
theorem dX1_choose_39 : decode cX1_choose 39 = .ok (.ifCond .ne 6, 3) := dk_154 0 6 (dk_at dksX1_choose_1 17 rfl rfl)
theorem dX1_choose_42 : decode cX1_choose 42 = .ok (.bipush (-2), 2) := dk_16 254 (dk_at dksX1_choose_1 20 rfl rfl)
theorem dX1_choose_44 : decode cX1_choose 44 = .ok (.ireturn, 1) := dk_172 (dk_at dksX1_choose_1 22 rfl rfl)
theorem dX1_choose_45 : decode cX1_choose 45 = .ok (.aload 4, 2) := dk_25 4 (dk_at dksX1_choose_2 0 rfl rfl)
theorem dX1_choose_47 : decode cX1_choose 47 = .ok (.invokevirtual 284, 3) := dk_182 1 28 (dk_at dksX1_choose_2 2 rfl rfl)
theorem dX1_choose_50 : decode cX1_choose 50 = .ok (.ifCond .ne 6, 3) := dk_154 0 6 (dk_at dksX1_choose_2 5 rfl rfl)
theorem dX1_choose_53 : decode cX1_choose 53 = .ok (.bipush (-3), 2) := dk_16 253 (dk_at dksX1_choose_2 8 rfl rfl)
theorem dX1_choose_55 : decode cX1_choose 55 = .ok (.ireturn, 1) := dk_172 (dk_at dksX1_choose_2 10 rfl rfl)
theorem dX1_choose_56 : decode cX1_choose 56 = .ok (.iconst 0, 1) := dk_3 (dk_at dksX1_choose_2 11 rfl rfl)
theorem dX1_choose_57 : decode cX1_choose 57 = .ok (.istore 5, 2) := dk_54 5 (dk_at dksX1_choose_2 12 rfl rfl)
theorem dX1_choose_59 : decode cX1_choose 59 = .ok (.iload 5, 2) := dk_21 5 (dk_at dksX1_choose_2 14 rfl rfl)
theorem dX1_choose_61 : decode cX1_choose 61 = .ok (.aload_n 3, 1) := dk_45 (dk_at dksX1_choose_2 16 rfl rfl)
theorem dX1_choose_62 : decode cX1_choose 62 = .ok (.getfield 224, 3) := dk_180 0 224 (dk_at dksX1_choose_2 17 rfl rfl)
theorem dX1_choose_65 : decode cX1_choose 65 = .ok (.if_icmp .ge 21, 3) := dk_162 0 21 (dk_at dksX1_choose_2 20 rfl rfl)
theorem dX1_choose_68 : decode cX1_choose 68 = .ok (.aload_n 0, 1) := dk_42 (dk_at dksX1_choose_2 23 rfl rfl)
theorem dX1_choose_69 : decode cX1_choose 69 = .ok (.iload 5, 2) := dk_21 5 (dk_at dksX1_choose_3 0 rfl rfl)
theorem dX1_choose_71 : decode cX1_choose 71 = .ok (.invokevirtual 309, 3) := dk_182 1 53 (dk_at dksX1_choose_3 2 rfl rfl)
theorem dX1_choose_74 : decode cX1_choose 74 = .ok (.ifCond .eq 6, 3) := dk_153 0 6 (dk_at dksX1_choose_3 5 rfl rfl)
theorem dX1_choose_77 : decode cX1_choose 77 = .ok (.bipush (-4), 2) := dk_16 252 (dk_at dksX1_choose_3 8 rfl rfl)
theorem dX1_choose_79 : decode cX1_choose 79 = .ok (.ireturn, 1) := dk_172 (dk_at dksX1_choose_3 10 rfl rfl)
theorem dX1_choose_80 : decode cX1_choose 80 = .ok (.iinc 5 1, 3) := dk_132 5 1 (dk_at dksX1_choose_3 11 rfl rfl)
theorem dX1_choose_83 : decode cX1_choose 83 = .ok (.goto (-24), 3) := dk_167 255 232 (dk_at dksX1_choose_3 14 rfl rfl)
theorem dX1_choose_86 : decode cX1_choose 86 = .ok (.aload_n 0, 1) := dk_42 (dk_at dksX1_choose_3 17 rfl rfl)
theorem dX1_choose_87 : decode cX1_choose 87 = .ok (.getfield 45, 3) := dk_180 0 45 (dk_at dksX1_choose_3 18 rfl rfl)
theorem dX1_choose_90 : decode cX1_choose 90 = .ok (.aload_n 3, 1) := dk_45 (dk_at dksX1_choose_3 21 rfl rfl)
theorem dX1_choose_91 : decode cX1_choose 91 = .ok (.getfield 224, 3) := dk_180 0 224 (dk_at dksX1_choose_4 0 rfl rfl)
theorem dX1_choose_94 : decode cX1_choose 94 = .ok (.iconst 1, 1) := dk_4 (dk_at dksX1_choose_4 3 rfl rfl)
theorem dX1_choose_95 : decode cX1_choose 95 = .ok (.bastore, 1) := dk_84 (dk_at dksX1_choose_4 4 rfl rfl)
theorem dX1_choose_96 : decode cX1_choose 96 = .ok (.aload_n 0, 1) := dk_42 (dk_at dksX1_choose_4 5 rfl rfl)
theorem dX1_choose_97 : decode cX1_choose 97 = .ok (.getfield 12, 3) := dk_180 0 12 (dk_at dksX1_choose_4 6 rfl rfl)
theorem dX1_choose_100 : decode cX1_choose 100 = .ok (.aload_n 3, 1) := dk_45 (dk_at dksX1_choose_4 9 rfl rfl)
theorem dX1_choose_101 : decode cX1_choose 101 = .ok (.iload_n 2, 1) := dk_28 (dk_at dksX1_choose_4 10 rfl rfl)
theorem dX1_choose_102 : decode cX1_choose 102 = .ok (.new 313, 3) := dk_187 1 57 (dk_at dksX1_choose_4 11 rfl rfl)
theorem dX1_choose_105 : decode cX1_choose 105 = .ok (.dup, 1) := dk_89 (dk_at dksX1_choose_4 14 rfl rfl)
theorem dX1_choose_106 : decode cX1_choose 106 = .ok (.aload_n 3, 1) := dk_45 (dk_at dksX1_choose_4 15 rfl rfl)
theorem dX1_choose_107 : decode cX1_choose 107 = .ok (.getfield 265, 3) := dk_180 1 9 (dk_at dksX1_choose_4 16 rfl rfl)
theorem dX1_choose_110 : decode cX1_choose 110 = .ok (.aload_n 0, 1) := dk_42 (dk_at dksX1_choose_4 19 rfl rfl)
theorem dX1_choose_111 : decode cX1_choose 111 = .ok (.getfield 42, 3) := dk_180 0 42 (dk_at dksX1_choose_4 20 rfl rfl)
theorem dX1_choose_114 : decode cX1_choose 114 = .ok (.aload_n 3, 1) := dk_45 (dk_at dksX1_choose_4 23 rfl rfl)
theorem dX1_choose_115 : decode cX1_choose 115 = .ok (.getfield 224, 3) := dk_180 0 224 (dk_at dksX1_choose_5 0 rfl rfl)
theorem dX1_choose_118 : decode cX1_choose 118 = .ok (.invokevirtual 81, 3) := dk_182 0 81 (dk_at dksX1_choose_5 3 rfl rfl)
theorem dX1_choose_121 : decode cX1_choose 121 = .ok (.checkcast 298, 3) := dk_192 1 42 (dk_at dksX1_choose_5 6 rfl rfl)
theorem dX1_choose_124 : decode cX1_choose 124 = .ok (.invokevirtual 315, 3) := dk_182 1 59 (dk_at dksX1_choose_5 9 rfl rfl)
theorem dX1_choose_127 : decode cX1_choose 127 = .ok (.invokespecial 318, 3) := dk_183 1 62 (dk_at dksX1_choose_5 12 rfl rfl)
theorem dX1_choose_130 : decode cX1_choose 130 = .ok (.invokevirtual 320, 3) := dk_182 1 64 (dk_at dksX1_choose_5 15 rfl rfl)
theorem dX1_choose_133 : decode cX1_choose 133 = .ok (.iconst 1, 1) := dk_4 (dk_at dksX1_choose_5 18 rfl rfl)
theorem dX1_choose_134 : decode cX1_choose 134 = .ok (.ireturn, 1) := dk_172 (dk_at dksX1_choose_5 19 rfl rfl)
def dkwX1_isWaitedFor_2 : List UInt8 := [3, 182, 1, 50, 162, 0, 7, 4, 167, 0, 4, 3, 172]
abbrev dktX1_isWaitedFor_2 : List UInt8 := dkwX1_isWaitedFor_2 ++ []
def dkwX1_isWaitedFor_1 : List UInt8 := [182, 1, 12, 153, 0, 32, 42, 180, 0, 12, 180, 1, 47, 44, 180, 0, 230, 100, 42, 180, 0, 12, 16, 6]
abbrev dktX1_isWaitedFor_1 : List UInt8 := dkwX1_isWaitedFor_1 ++ dktX1_isWaitedFor_2
def dkwX1_isWaitedFor_0 : List UInt8 := [42, 180, 0, 35, 27, 182, 0, 81, 192, 0, 94, 77, 42, 180, 0, 45, 27, 51, 154, 0, 39, 44]
abbrev dktX1_isWaitedFor_0 : List UInt8 := dkwX1_isWaitedFor_0 ++ dktX1_isWaitedFor_1
theorem dksX1_isWaitedFor_0 : cX1_isWaitedFor.data.toList.drop 0 = dktX1_isWaitedFor_0 := by decide +kernel
theorem dksX1_isWaitedFor_1 : cX1_isWaitedFor.data.toList.drop 22 = dktX1_isWaitedFor_1 := dk_seg dksX1_isWaitedFor_0 22 rfl rfl
theorem dksX1_isWaitedFor_2 : cX1_isWaitedFor.data.toList.drop 46 = dktX1_isWaitedFor_2 := dk_seg dksX1_isWaitedFor_1 24 rfl rfl
theorem dX1_isWaitedFor_0 : decode cX1_isWaitedFor 0 = .ok (.aload_n 0, 1) := dk_42 (dk_at dksX1_isWaitedFor_0 0 rfl rfl)
theorem dX1_isWaitedFor_1 : decode cX1_isWaitedFor 1 = .ok (.getfield 35, 3) := dk_180 0 35 (dk_at dksX1_isWaitedFor_0 1 rfl rfl)
theorem dX1_isWaitedFor_4 : decode cX1_isWaitedFor 4 = .ok (.iload_n 1, 1) := dk_27 (dk_at dksX1_isWaitedFor_0 4 rfl rfl)
theorem dX1_isWaitedFor_5 : decode cX1_isWaitedFor 5 = .ok (.invokevirtual 81, 3) := dk_182 0 81 (dk_at dksX1_isWaitedFor_0 5 rfl rfl)
theorem dX1_isWaitedFor_8 : decode cX1_isWaitedFor 8 = .ok (.checkcast 94, 3) := dk_192 0 94 (dk_at dksX1_isWaitedFor_0 8 rfl rfl)
theorem dX1_isWaitedFor_11 : decode cX1_isWaitedFor 11 = .ok (.astore_n 2, 1) := dk_77 (dk_at dksX1_isWaitedFor_0 11 rfl rfl)
theorem dX1_isWaitedFor_12 : decode cX1_isWaitedFor 12 = .ok (.aload_n 0, 1) := dk_42 (dk_at dksX1_isWaitedFor_0 12 rfl rfl)
theorem dX1_isWaitedFor_13 : decode cX1_isWaitedFor 13 = .ok (.getfield 45, 3) := dk_180 0 45 (dk_at dksX1_isWaitedFor_0 13 rfl rfl)
theorem dX1_isWaitedFor_16 : decode cX1_isWaitedFor 16 = .ok (.iload_n 1, 1) := dk_27 (dk_at dksX1_isWaitedFor_0 16 rfl rfl)
theorem dX1_isWaitedFor_17 : decode cX1_isWaitedFor 17 = .ok (.baload, 1) := dk_51 (dk_at dksX1_isWaitedFor_0 17 rfl rfl)
theorem dX1_isWaitedFor_18 : decode cX1_isWaitedFor 18 = .ok (.ifCond .ne 39, 3) := dk_154 0 39 (dk_at dksX1_isWaitedFor_0 18 rfl rfl)
theorem dX1_isWaitedFor_21 : decode cX1_isWaitedFor 21 = .ok (.aload_n 2, 1) := dk_44 (dk_at dksX1_isWaitedFor_0 21 rfl rfl)
theorem dX1_isWaitedFor_22 : decode cX1_isWaitedFor 22 = .ok (.invokevirtual 268, 3) := dk_182 1 12 (dk_at dksX1_isWaitedFor_1 0 rfl rfl)
theorem dX1_isWaitedFor_25 : decode cX1_isWaitedFor 25 = .ok (.ifCond .eq 32, 3) := dk_153 0 32 (dk_at dksX1_isWaitedFor_1 3 rfl rfl)
theorem dX1_isWaitedFor_28 : decode cX1_isWaitedFor 28 = .ok (.aload_n 0, 1) := dk_42 (dk_at dksX1_isWaitedFor_1 6 rfl rfl)
theorem dX1_isWaitedFor_29 : decode cX1_isWaitedFor 29 = .ok (.getfield 12, 3) := dk_180 0 12 (dk_at dksX1_isWaitedFor_1 7 rfl rfl)
theorem dX1_isWaitedFor_32 : decode cX1_isWaitedFor 32 = .ok (.getfield 303, 3) := dk_180 1 47 (dk_at dksX1_isWaitedFor_1 10 rfl rfl)
theorem dX1_isWaitedFor_35 : decode cX1_isWaitedFor 35 = .ok (.aload_n 2, 1) := dk_44 (dk_at dksX1_isWaitedFor_1 13 rfl rfl)
theorem dX1_isWaitedFor_36 : decode cX1_isWaitedFor 36 = .ok (.getfield 230, 3) := dk_180 0 230 (dk_at dksX1_isWaitedFor_1 14 rfl rfl)
theorem dX1_isWaitedFor_39 : decode cX1_isWaitedFor 39 = .ok (.isub, 1) := dk_100 (dk_at dksX1_isWaitedFor_1 17 rfl rfl)
theorem dX1_isWaitedFor_40 : decode cX1_isWaitedFor 40 = .ok (.aload_n 0, 1) := dk_42 (dk_at dksX1_isWaitedFor_1 18 rfl rfl)
theorem dX1_isWaitedFor_41 : decode cX1_isWaitedFor 41 = .ok (.getfield 12, 3) := dk_180 0 12 (dk_at dksX1_isWaitedFor_1 19 rfl rfl)
theorem dX1_isWaitedFor_44 : decode cX1_isWaitedFor 44 = .ok (.bipush 6, 2) := dk_16 6 (dk_at dksX1_isWaitedFor_1 22 rfl rfl)
theorem dX1_isWaitedFor_46 : decode cX1_isWaitedFor 46 = .ok (.iconst 0, 1) := dk_3 (dk_at dksX1_isWaitedFor_2 0 rfl rfl)
theorem dX1_isWaitedFor_47 : decode cX1_isWaitedFor 47 = .ok (.invokevirtual 306, 3) := dk_182 1 50 (dk_at dksX1_isWaitedFor_2 1 rfl rfl)
theorem dX1_isWaitedFor_50 : decode cX1_isWaitedFor 50 = .ok (.if_icmp .ge 7, 3) := dk_162 0 7 (dk_at dksX1_isWaitedFor_2 4 rfl rfl)
theorem dX1_isWaitedFor_53 : decode cX1_isWaitedFor 53 = .ok (.iconst 1, 1) := dk_4 (dk_at dksX1_isWaitedFor_2 7 rfl rfl)
theorem dX1_isWaitedFor_54 : decode cX1_isWaitedFor 54 = .ok (.goto 4, 3) := dk_167 0 4 (dk_at dksX1_isWaitedFor_2 8 rfl rfl)
theorem dX1_isWaitedFor_57 : decode cX1_isWaitedFor 57 = .ok (.iconst 0, 1) := dk_3 (dk_at dksX1_isWaitedFor_2 11 rfl rfl)
theorem dX1_isWaitedFor_58 : decode cX1_isWaitedFor 58 = .ok (.ireturn, 1) := dk_172 (dk_at dksX1_isWaitedFor_2 12 rfl rfl)
def dkwX1_run_7 : List UInt8 := [79, 21, 6, 172]
abbrev dktX1_run_7 : List UInt8 := dkwX1_run_7 ++ []
def dkwX1_run_6 : List UInt8 := [183, 1, 74, 181, 1, 75, 42, 180, 0, 12, 180, 0, 165, 28, 42, 180, 0, 12, 180, 1, 47, 16, 52, 96]
abbrev dktX1_run_6 : List UInt8 := dkwX1_run_6 ++ dktX1_run_7
def dkwX1_run_5 : List UInt8 := [180, 1, 9, 183, 1, 74, 182, 0, 118, 167, 0, 19, 25, 4, 187, 1, 69, 89, 45, 180, 1, 9]
abbrev dktX1_run_5 : List UInt8 := dkwX1_run_5 ++ dktX1_run_6
def dkwX1_run_4 : List UInt8 := [180, 1, 71, 21, 6, 96, 181, 1, 71, 25, 5, 199, 0, 25, 42, 180, 0, 12, 28, 187, 1, 69, 89, 45]
abbrev dktX1_run_4 : List UInt8 := dkwX1_run_4 ++ dktX1_run_5
def dkwX1_run_3 : List UInt8 := [21, 6, 162, 0, 6, 16, 253, 172, 45, 89, 180, 0, 209, 21, 6, 100, 181, 0, 209, 42, 180, 0, 12, 89]
abbrev dktX1_run_3 : List UInt8 := dkwX1_run_3 ++ dktX1_run_4
def dkwX1_run_2 : List UInt8 := [180, 1, 9, 159, 0, 6, 16, 254, 172, 42, 180, 0, 12, 6, 3, 182, 1, 50, 54, 6, 45, 180, 0, 209]
abbrev dktX1_run_2 : List UInt8 := dkwX1_run_2 ++ dktX1_run_3
def dkwX1_run_1 : List UInt8 := [182, 0, 153, 58, 5, 25, 4, 182, 1, 28, 154, 0, 23, 25, 5, 198, 0, 15, 25, 5, 182, 1, 68, 45]
abbrev dktX1_run_1 : List UInt8 := dkwX1_run_1 ++ dktX1_run_2
def dkwX1_run_0 : List UInt8 := [42, 27, 182, 0, 202, 78, 42, 28, 182, 0, 96, 58, 4, 45, 182, 1, 12, 154, 0, 5, 2, 172, 25, 4]
abbrev dktX1_run_0 : List UInt8 := dkwX1_run_0 ++ dktX1_run_1
theorem dksX1_run_0 : cX1_run.data.toList.drop 0 = dktX1_run_0 := by decide +kernel
theorem dksX1_run_1 : cX1_run.data.toList.drop 24 = dktX1_run_1 := dk_seg dksX1_run_0 24 rfl rfl
theorem dksX1_run_2 : cX1_run.data.toList.drop 48 = dktX1_run_2 := dk_seg dksX1_run_1 24 rfl rfl
theorem dksX1_run_3 : cX1_run.data.toList.drop 72 = dktX1_run_3 := dk_seg dksX1_run_2 24 rfl rfl
theorem dksX1_run_4 : cX1_run.data.toList.drop 96 = dktX1_run_4 := dk_seg dksX1_run_3 24 rfl rfl
theorem dksX1_run_5 : cX1_run.data.toList.drop 120 = dktX1_run_5 := dk_seg dksX1_run_4 24 rfl rfl
theorem dksX1_run_6 : cX1_run.data.toList.drop 142 = dktX1_run_6 := dk_seg dksX1_run_5 22 rfl rfl
theorem dksX1_run_7 : cX1_run.data.toList.drop 166 = dktX1_run_7 := dk_seg dksX1_run_6 24 rfl rfl
theorem dX1_run_0 : decode cX1_run 0 = .ok (.aload_n 0, 1) := dk_42 (dk_at dksX1_run_0 0 rfl rfl)
theorem dX1_run_1 : decode cX1_run 1 = .ok (.iload_n 1, 1) := dk_27 (dk_at dksX1_run_0 1 rfl rfl)
theorem dX1_run_2 : decode cX1_run 2 = .ok (.invokevirtual 202, 3) := dk_182 0 202 (dk_at dksX1_run_0 2 rfl rfl)
theorem dX1_run_5 : decode cX1_run 5 = .ok (.astore_n 3, 1) := dk_78 (dk_at dksX1_run_0 5 rfl rfl)
theorem dX1_run_6 : decode cX1_run 6 = .ok (.aload_n 0, 1) := dk_42 (dk_at dksX1_run_0 6 rfl rfl)
theorem dX1_run_7 : decode cX1_run 7 = .ok (.iload_n 2, 1) := dk_28 (dk_at dksX1_run_0 7 rfl rfl)
theorem dX1_run_8 : decode cX1_run 8 = .ok (.invokevirtual 96, 3) := dk_182 0 96 (dk_at dksX1_run_0 8 rfl rfl)
theorem dX1_run_11 : decode cX1_run 11 = .ok (.astore 4, 2) := dk_58 4 (dk_at dksX1_run_0 11 rfl rfl)
theorem dX1_run_13 : decode cX1_run 13 = .ok (.aload_n 3, 1) := dk_45 (dk_at dksX1_run_0 13 rfl rfl)
theorem dX1_run_14 : decode cX1_run 14 = .ok (.invokevirtual 268, 3) := dk_182 1 12 (dk_at dksX1_run_0 14 rfl rfl)
theorem dX1_run_17 : decode cX1_run 17 = .ok (.ifCond .ne 5, 3) := dk_154 0 5 (dk_at dksX1_run_0 17 rfl rfl)
theorem dX1_run_20 : decode cX1_run 20 = .ok (.iconst (-1), 1) := dk_2 (dk_at dksX1_run_0 20 rfl rfl)
theorem dX1_run_21 : decode cX1_run 21 = .ok (.ireturn, 1) := dk_172 (dk_at dksX1_run_0 21 rfl rfl)
theorem dX1_run_22 : decode cX1_run 22 = .ok (.aload 4, 2) := dk_25 4 (dk_at dksX1_run_0 22 rfl rfl)
theorem dX1_run_24 : decode cX1_run 24 = .ok (.invokevirtual 153, 3) := dk_182 0 153 (dk_at dksX1_run_1 0 rfl rfl)
theorem dX1_run_27 : decode cX1_run 27 = .ok (.astore 5, 2) := dk_58 5 (dk_at dksX1_run_1 3 rfl rfl)
theorem dX1_run_29 : decode cX1_run 29 = .ok (.aload 4, 2) := dk_25 4 (dk_at dksX1_run_1 5 rfl rfl)
theorem dX1_run_31 : decode cX1_run 31 = .ok (.invokevirtual 284, 3) := dk_182 1 28 (dk_at dksX1_run_1 7 rfl rfl)
theorem dX1_run_34 : decode cX1_run 34 = .ok (.ifCond .ne 23, 3) := dk_154 0 23 (dk_at dksX1_run_1 10 rfl rfl)
theorem dX1_run_37 : decode cX1_run 37 = .ok (.aload 5, 2) := dk_25 5 (dk_at dksX1_run_1 13 rfl rfl)
theorem dX1_run_39 : decode cX1_run 39 = .ok (.ifnull 15, 3) := dk_198 0 15 (dk_at dksX1_run_1 15 rfl rfl)
theorem dX1_run_42 : decode cX1_run 42 = .ok (.aload 5, 2) := dk_25 5 (dk_at dksX1_run_1 18 rfl rfl)
theorem dX1_run_44 : decode cX1_run 44 = .ok (.invokevirtual 324, 3) := dk_182 1 68 (dk_at dksX1_run_1 20 rfl rfl)
theorem dX1_run_47 : decode cX1_run 47 = .ok (.aload_n 3, 1) := dk_45 (dk_at dksX1_run_1 23 rfl rfl)
theorem dX1_run_48 : decode cX1_run 48 = .ok (.getfield 265, 3) := dk_180 1 9 (dk_at dksX1_run_2 0 rfl rfl)
theorem dX1_run_51 : decode cX1_run 51 = .ok (.if_icmp .eq 6, 3) := dk_159 0 6 (dk_at dksX1_run_2 3 rfl rfl)
theorem dX1_run_54 : decode cX1_run 54 = .ok (.bipush (-2), 2) := dk_16 254 (dk_at dksX1_run_2 6 rfl rfl)
theorem dX1_run_56 : decode cX1_run 56 = .ok (.ireturn, 1) := dk_172 (dk_at dksX1_run_2 8 rfl rfl)
theorem dX1_run_57 : decode cX1_run 57 = .ok (.aload_n 0, 1) := dk_42 (dk_at dksX1_run_2 9 rfl rfl)
theorem dX1_run_58 : decode cX1_run 58 = .ok (.getfield 12, 3) := dk_180 0 12 (dk_at dksX1_run_2 10 rfl rfl)
theorem dX1_run_61 : decode cX1_run 61 = .ok (.iconst 3, 1) := dk_6 (dk_at dksX1_run_2 13 rfl rfl)
theorem dX1_run_62 : decode cX1_run 62 = .ok (.iconst 0, 1) := dk_3 (dk_at dksX1_run_2 14 rfl rfl)
theorem dX1_run_63 : decode cX1_run 63 = .ok (.invokevirtual 306, 3) := dk_182 1 50 (dk_at dksX1_run_2 15 rfl rfl)
theorem dX1_run_66 : decode cX1_run 66 = .ok (.istore 6, 2) := dk_54 6 (dk_at dksX1_run_2 18 rfl rfl)
theorem dX1_run_68 : decode cX1_run 68 = .ok (.aload_n 3, 1) := dk_45 (dk_at dksX1_run_2 20 rfl rfl)
theorem dX1_run_69 : decode cX1_run 69 = .ok (.getfield 209, 3) := dk_180 0 209 (dk_at dksX1_run_2 21 rfl rfl)
theorem dX1_run_72 : decode cX1_run 72 = .ok (.iload 6, 2) := dk_21 6 (dk_at dksX1_run_3 0 rfl rfl)
theorem dX1_run_74 : decode cX1_run 74 = .ok (.if_icmp .ge 6, 3) := dk_162 0 6 (dk_at dksX1_run_3 2 rfl rfl)
theorem dX1_run_77 : decode cX1_run 77 = .ok (.bipush (-3), 2) := dk_16 253 (dk_at dksX1_run_3 5 rfl rfl)
theorem dX1_run_79 : decode cX1_run 79 = .ok (.ireturn, 1) := dk_172 (dk_at dksX1_run_3 7 rfl rfl)
theorem dX1_run_80 : decode cX1_run 80 = .ok (.aload_n 3, 1) := dk_45 (dk_at dksX1_run_3 8 rfl rfl)
theorem dX1_run_81 : decode cX1_run 81 = .ok (.dup, 1) := dk_89 (dk_at dksX1_run_3 9 rfl rfl)
theorem dX1_run_82 : decode cX1_run 82 = .ok (.getfield 209, 3) := dk_180 0 209 (dk_at dksX1_run_3 10 rfl rfl)
theorem dX1_run_85 : decode cX1_run 85 = .ok (.iload 6, 2) := dk_21 6 (dk_at dksX1_run_3 13 rfl rfl)
theorem dX1_run_87 : decode cX1_run 87 = .ok (.isub, 1) := dk_100 (dk_at dksX1_run_3 15 rfl rfl)
theorem dX1_run_88 : decode cX1_run 88 = .ok (.putfield 209, 3) := dk_181 0 209 (dk_at dksX1_run_3 16 rfl rfl)
theorem dX1_run_91 : decode cX1_run 91 = .ok (.aload_n 0, 1) := dk_42 (dk_at dksX1_run_3 19 rfl rfl)
theorem dX1_run_92 : decode cX1_run 92 = .ok (.getfield 12, 3) := dk_180 0 12 (dk_at dksX1_run_3 20 rfl rfl)
theorem dX1_run_95 : decode cX1_run 95 = .ok (.dup, 1) := dk_89 (dk_at dksX1_run_3 23 rfl rfl)
theorem dX1_run_96 : decode cX1_run 96 = .ok (.getfield 327, 3) := dk_180 1 71 (dk_at dksX1_run_4 0 rfl rfl)
theorem dX1_run_99 : decode cX1_run 99 = .ok (.iload 6, 2) := dk_21 6 (dk_at dksX1_run_4 3 rfl rfl)
theorem dX1_run_101 : decode cX1_run 101 = .ok (.iadd, 1) := dk_96 (dk_at dksX1_run_4 5 rfl rfl)
theorem dX1_run_102 : decode cX1_run 102 = .ok (.putfield 327, 3) := dk_181 1 71 (dk_at dksX1_run_4 6 rfl rfl)
theorem dX1_run_105 : decode cX1_run 105 = .ok (.aload 5, 2) := dk_25 5 (dk_at dksX1_run_4 9 rfl rfl)
theorem dX1_run_107 : decode cX1_run 107 = .ok (.ifnonnull 25, 3) := dk_199 0 25 (dk_at dksX1_run_4 11 rfl rfl)
theorem dX1_run_110 : decode cX1_run 110 = .ok (.aload_n 0, 1) := dk_42 (dk_at dksX1_run_4 14 rfl rfl)
theorem dX1_run_111 : decode cX1_run 111 = .ok (.getfield 12, 3) := dk_180 0 12 (dk_at dksX1_run_4 15 rfl rfl)
theorem dX1_run_114 : decode cX1_run 114 = .ok (.iload_n 2, 1) := dk_28 (dk_at dksX1_run_4 18 rfl rfl)
theorem dX1_run_115 : decode cX1_run 115 = .ok (.new 325, 3) := dk_187 1 69 (dk_at dksX1_run_4 19 rfl rfl)
theorem dX1_run_118 : decode cX1_run 118 = .ok (.dup, 1) := dk_89 (dk_at dksX1_run_4 22 rfl rfl)
theorem dX1_run_119 : decode cX1_run 119 = .ok (.aload_n 3, 1) := dk_45 (dk_at dksX1_run_4 23 rfl rfl)
theorem dX1_run_120 : decode cX1_run 120 = .ok (.getfield 265, 3) := dk_180 1 9 (dk_at dksX1_run_5 0 rfl rfl)
theorem dX1_run_123 : decode cX1_run 123 = .ok (.invokespecial 330, 3) := dk_183 1 74 (dk_at dksX1_run_5 3 rfl rfl)
theorem dX1_run_126 : decode cX1_run 126 = .ok (.invokevirtual 118, 3) := dk_182 0 118 (dk_at dksX1_run_5 6 rfl rfl)
theorem dX1_run_129 : decode cX1_run 129 = .ok (.goto 19, 3) := dk_167 0 19 (dk_at dksX1_run_5 9 rfl rfl)
theorem dX1_run_132 : decode cX1_run 132 = .ok (.aload 4, 2) := dk_25 4 (dk_at dksX1_run_5 12 rfl rfl)
theorem dX1_run_134 : decode cX1_run 134 = .ok (.new 325, 3) := dk_187 1 69 (dk_at dksX1_run_5 14 rfl rfl)
theorem dX1_run_137 : decode cX1_run 137 = .ok (.dup, 1) := dk_89 (dk_at dksX1_run_5 17 rfl rfl)
theorem dX1_run_138 : decode cX1_run 138 = .ok (.aload_n 3, 1) := dk_45 (dk_at dksX1_run_5 18 rfl rfl)
theorem dX1_run_139 : decode cX1_run 139 = .ok (.getfield 265, 3) := dk_180 1 9 (dk_at dksX1_run_5 19 rfl rfl)
theorem dX1_run_142 : decode cX1_run 142 = .ok (.invokespecial 330, 3) := dk_183 1 74 (dk_at dksX1_run_6 0 rfl rfl)
theorem dX1_run_145 : decode cX1_run 145 = .ok (.putfield 331, 3) := dk_181 1 75 (dk_at dksX1_run_6 3 rfl rfl)
theorem dX1_run_148 : decode cX1_run 148 = .ok (.aload_n 0, 1) := dk_42 (dk_at dksX1_run_6 6 rfl rfl)
theorem dX1_run_149 : decode cX1_run 149 = .ok (.getfield 12, 3) := dk_180 0 12 (dk_at dksX1_run_6 7 rfl rfl)
theorem dX1_run_152 : decode cX1_run 152 = .ok (.getfield 165, 3) := dk_180 0 165 (dk_at dksX1_run_6 10 rfl rfl)
theorem dX1_run_155 : decode cX1_run 155 = .ok (.iload_n 2, 1) := dk_28 (dk_at dksX1_run_6 13 rfl rfl)
theorem dX1_run_156 : decode cX1_run 156 = .ok (.aload_n 0, 1) := dk_42 (dk_at dksX1_run_6 14 rfl rfl)
theorem dX1_run_157 : decode cX1_run 157 = .ok (.getfield 12, 3) := dk_180 0 12 (dk_at dksX1_run_6 15 rfl rfl)
theorem dX1_run_160 : decode cX1_run 160 = .ok (.getfield 303, 3) := dk_180 1 47 (dk_at dksX1_run_6 18 rfl rfl)
theorem dX1_run_163 : decode cX1_run 163 = .ok (.bipush 52, 2) := dk_16 52 (dk_at dksX1_run_6 21 rfl rfl)
theorem dX1_run_165 : decode cX1_run 165 = .ok (.iadd, 1) := dk_96 (dk_at dksX1_run_6 23 rfl rfl)
theorem dX1_run_166 : decode cX1_run 166 = .ok (.iastore, 1) := dk_79 (dk_at dksX1_run_7 0 rfl rfl)
theorem dX1_run_167 : decode cX1_run 167 = .ok (.iload 6, 2) := dk_21 6 (dk_at dksX1_run_7 1 rfl rfl)
theorem dX1_run_169 : decode cX1_run 169 = .ok (.ireturn, 1) := dk_172 (dk_at dksX1_run_7 3 rfl rfl)
def dkwX1_squat_2 : List UInt8 := [172, 42, 180, 0, 12, 28, 187, 1, 79, 89, 45, 180, 1, 9, 183, 1, 81, 182, 0, 118, 4, 172]
abbrev dktX1_squat_2 : List UInt8 := dkwX1_squat_2 ++ []
def dkwX1_squat_1 : List UInt8 := [182, 1, 28, 154, 0, 6, 16, 254, 172, 42, 180, 0, 12, 16, 7, 3, 182, 1, 50, 154, 0, 6, 16, 253]
abbrev dktX1_squat_1 : List UInt8 := dkwX1_squat_1 ++ dktX1_squat_2
def dkwX1_squat_0 : List UInt8 := [42, 27, 182, 0, 202, 78, 42, 28, 182, 0, 96, 58, 4, 45, 182, 1, 12, 154, 0, 5, 2, 172, 25, 4]
abbrev dktX1_squat_0 : List UInt8 := dkwX1_squat_0 ++ dktX1_squat_1
theorem dksX1_squat_0 : cX1_squat.data.toList.drop 0 = dktX1_squat_0 := by decide +kernel
theorem dksX1_squat_1 : cX1_squat.data.toList.drop 24 = dktX1_squat_1 := dk_seg dksX1_squat_0 24 rfl rfl
theorem dksX1_squat_2 : cX1_squat.data.toList.drop 48 = dktX1_squat_2 := dk_seg dksX1_squat_1 24 rfl rfl
theorem dX1_squat_0 : decode cX1_squat 0 = .ok (.aload_n 0, 1) := dk_42 (dk_at dksX1_squat_0 0 rfl rfl)
theorem dX1_squat_1 : decode cX1_squat 1 = .ok (.iload_n 1, 1) := dk_27 (dk_at dksX1_squat_0 1 rfl rfl)
theorem dX1_squat_2 : decode cX1_squat 2 = .ok (.invokevirtual 202, 3) := dk_182 0 202 (dk_at dksX1_squat_0 2 rfl rfl)
theorem dX1_squat_5 : decode cX1_squat 5 = .ok (.astore_n 3, 1) := dk_78 (dk_at dksX1_squat_0 5 rfl rfl)
theorem dX1_squat_6 : decode cX1_squat 6 = .ok (.aload_n 0, 1) := dk_42 (dk_at dksX1_squat_0 6 rfl rfl)
theorem dX1_squat_7 : decode cX1_squat 7 = .ok (.iload_n 2, 1) := dk_28 (dk_at dksX1_squat_0 7 rfl rfl)
theorem dX1_squat_8 : decode cX1_squat 8 = .ok (.invokevirtual 96, 3) := dk_182 0 96 (dk_at dksX1_squat_0 8 rfl rfl)
theorem dX1_squat_11 : decode cX1_squat 11 = .ok (.astore 4, 2) := dk_58 4 (dk_at dksX1_squat_0 11 rfl rfl)
theorem dX1_squat_13 : decode cX1_squat 13 = .ok (.aload_n 3, 1) := dk_45 (dk_at dksX1_squat_0 13 rfl rfl)
theorem dX1_squat_14 : decode cX1_squat 14 = .ok (.invokevirtual 268, 3) := dk_182 1 12 (dk_at dksX1_squat_0 14 rfl rfl)
theorem dX1_squat_17 : decode cX1_squat 17 = .ok (.ifCond .ne 5, 3) := dk_154 0 5 (dk_at dksX1_squat_0 17 rfl rfl)
theorem dX1_squat_20 : decode cX1_squat 20 = .ok (.iconst (-1), 1) := dk_2 (dk_at dksX1_squat_0 20 rfl rfl)
theorem dX1_squat_21 : decode cX1_squat 21 = .ok (.ireturn, 1) := dk_172 (dk_at dksX1_squat_0 21 rfl rfl)
theorem dX1_squat_22 : decode cX1_squat 22 = .ok (.aload 4, 2) := dk_25 4 (dk_at dksX1_squat_0 22 rfl rfl)
theorem dX1_squat_24 : decode cX1_squat 24 = .ok (.invokevirtual 284, 3) := dk_182 1 28 (dk_at dksX1_squat_1 0 rfl rfl)
theorem dX1_squat_27 : decode cX1_squat 27 = .ok (.ifCond .ne 6, 3) := dk_154 0 6 (dk_at dksX1_squat_1 3 rfl rfl)
theorem dX1_squat_30 : decode cX1_squat 30 = .ok (.bipush (-2), 2) := dk_16 254 (dk_at dksX1_squat_1 6 rfl rfl)
theorem dX1_squat_32 : decode cX1_squat 32 = .ok (.ireturn, 1) := dk_172 (dk_at dksX1_squat_1 8 rfl rfl)
theorem dX1_squat_33 : decode cX1_squat 33 = .ok (.aload_n 0, 1) := dk_42 (dk_at dksX1_squat_1 9 rfl rfl)
theorem dX1_squat_34 : decode cX1_squat 34 = .ok (.getfield 12, 3) := dk_180 0 12 (dk_at dksX1_squat_1 10 rfl rfl)
theorem dX1_squat_37 : decode cX1_squat 37 = .ok (.bipush 7, 2) := dk_16 7 (dk_at dksX1_squat_1 13 rfl rfl)
theorem dX1_squat_39 : decode cX1_squat 39 = .ok (.iconst 0, 1) := dk_3 (dk_at dksX1_squat_1 15 rfl rfl)
theorem dX1_squat_40 : decode cX1_squat 40 = .ok (.invokevirtual 306, 3) := dk_182 1 50 (dk_at dksX1_squat_1 16 rfl rfl)
theorem dX1_squat_43 : decode cX1_squat 43 = .ok (.ifCond .ne 6, 3) := dk_154 0 6 (dk_at dksX1_squat_1 19 rfl rfl)
theorem dX1_squat_46 : decode cX1_squat 46 = .ok (.bipush (-3), 2) := dk_16 253 (dk_at dksX1_squat_1 22 rfl rfl)
theorem dX1_squat_48 : decode cX1_squat 48 = .ok (.ireturn, 1) := dk_172 (dk_at dksX1_squat_2 0 rfl rfl)
theorem dX1_squat_49 : decode cX1_squat 49 = .ok (.aload_n 0, 1) := dk_42 (dk_at dksX1_squat_2 1 rfl rfl)
theorem dX1_squat_50 : decode cX1_squat 50 = .ok (.getfield 12, 3) := dk_180 0 12 (dk_at dksX1_squat_2 2 rfl rfl)
theorem dX1_squat_53 : decode cX1_squat 53 = .ok (.iload_n 2, 1) := dk_28 (dk_at dksX1_squat_2 5 rfl rfl)
theorem dX1_squat_54 : decode cX1_squat 54 = .ok (.new 335, 3) := dk_187 1 79 (dk_at dksX1_squat_2 6 rfl rfl)
theorem dX1_squat_57 : decode cX1_squat 57 = .ok (.dup, 1) := dk_89 (dk_at dksX1_squat_2 9 rfl rfl)
theorem dX1_squat_58 : decode cX1_squat 58 = .ok (.aload_n 3, 1) := dk_45 (dk_at dksX1_squat_2 10 rfl rfl)
theorem dX1_squat_59 : decode cX1_squat 59 = .ok (.getfield 265, 3) := dk_180 1 9 (dk_at dksX1_squat_2 11 rfl rfl)
theorem dX1_squat_62 : decode cX1_squat 62 = .ok (.invokespecial 337, 3) := dk_183 1 81 (dk_at dksX1_squat_2 14 rfl rfl)
theorem dX1_squat_65 : decode cX1_squat 65 = .ok (.invokevirtual 118, 3) := dk_182 0 118 (dk_at dksX1_squat_2 17 rfl rfl)
theorem dX1_squat_68 : decode cX1_squat 68 = .ok (.iconst 1, 1) := dk_4 (dk_at dksX1_squat_2 20 rfl rfl)
theorem dX1_squat_69 : decode cX1_squat 69 = .ok (.ireturn, 1) := dk_172 (dk_at dksX1_squat_2 21 rfl rfl)
def dkwX1_stock_5 : List UInt8 := [180, 0, 168, 28, 46, 172]
abbrev dktX1_stock_5 : List UInt8 := dkwX1_stock_5 ++ []
def dkwX1_stock_4 : List UInt8 := [104, 100, 181, 0, 209, 42, 180, 0, 12, 180, 0, 168, 28, 92, 46, 29, 96, 79, 42, 180, 0, 12]
abbrev dktX1_stock_4 : List UInt8 := dkwX1_stock_4 ++ dktX1_stock_5
def dkwX1_stock_3 : List UInt8 := [180, 0, 168, 28, 46, 29, 96, 17, 3, 232, 164, 0, 6, 16, 253, 172, 25, 4, 89, 180, 0, 209, 5, 29]
abbrev dktX1_stock_3 : List UInt8 := dkwX1_stock_3 ++ dktX1_stock_4
def dkwX1_stock_2 : List UInt8 := [199, 0, 5, 2, 172, 25, 4, 180, 0, 209, 5, 29, 104, 162, 0, 6, 16, 254, 172, 42, 180, 0, 12]
abbrev dktX1_stock_2 : List UInt8 := dkwX1_stock_2 ++ dktX1_stock_3
def dkwX1_stock_1 : List UInt8 := [163, 0, 7, 4, 167, 0, 4, 3, 184, 0, 100, 25, 4, 25, 5, 184, 1, 82, 58, 6, 25, 6]
abbrev dktX1_stock_1 : List UInt8 := dkwX1_stock_1 ++ dktX1_stock_2
def dkwX1_stock_0 : List UInt8 := [42, 27, 182, 0, 202, 58, 4, 42, 28, 182, 0, 96, 58, 5, 29, 155, 0, 14, 29, 17, 3, 232]
abbrev dktX1_stock_0 : List UInt8 := dkwX1_stock_0 ++ dktX1_stock_1
theorem dksX1_stock_0 : cX1_stock.data.toList.drop 0 = dktX1_stock_0 := by decide +kernel
theorem dksX1_stock_1 : cX1_stock.data.toList.drop 22 = dktX1_stock_1 := dk_seg dksX1_stock_0 22 rfl rfl
theorem dksX1_stock_2 : cX1_stock.data.toList.drop 44 = dktX1_stock_2 := dk_seg dksX1_stock_1 22 rfl rfl
theorem dksX1_stock_3 : cX1_stock.data.toList.drop 67 = dktX1_stock_3 := dk_seg dksX1_stock_2 23 rfl rfl
theorem dksX1_stock_4 : cX1_stock.data.toList.drop 91 = dktX1_stock_4 := dk_seg dksX1_stock_3 24 rfl rfl
theorem dksX1_stock_5 : cX1_stock.data.toList.drop 113 = dktX1_stock_5 := dk_seg dksX1_stock_4 22 rfl rfl
theorem dX1_stock_0 : decode cX1_stock 0 = .ok (.aload_n 0, 1) := dk_42 (dk_at dksX1_stock_0 0 rfl rfl)
theorem dX1_stock_1 : decode cX1_stock 1 = .ok (.iload_n 1, 1) := dk_27 (dk_at dksX1_stock_0 1 rfl rfl)
theorem dX1_stock_2 : decode cX1_stock 2 = .ok (.invokevirtual 202, 3) := dk_182 0 202 (dk_at dksX1_stock_0 2 rfl rfl)
theorem dX1_stock_5 : decode cX1_stock 5 = .ok (.astore 4, 2) := dk_58 4 (dk_at dksX1_stock_0 5 rfl rfl)
theorem dX1_stock_7 : decode cX1_stock 7 = .ok (.aload_n 0, 1) := dk_42 (dk_at dksX1_stock_0 7 rfl rfl)
theorem dX1_stock_8 : decode cX1_stock 8 = .ok (.iload_n 2, 1) := dk_28 (dk_at dksX1_stock_0 8 rfl rfl)
theorem dX1_stock_9 : decode cX1_stock 9 = .ok (.invokevirtual 96, 3) := dk_182 0 96 (dk_at dksX1_stock_0 9 rfl rfl)
theorem dX1_stock_12 : decode cX1_stock 12 = .ok (.astore 5, 2) := dk_58 5 (dk_at dksX1_stock_0 12 rfl rfl)
theorem dX1_stock_14 : decode cX1_stock 14 = .ok (.iload_n 3, 1) := dk_29 (dk_at dksX1_stock_0 14 rfl rfl)
theorem dX1_stock_15 : decode cX1_stock 15 = .ok (.ifCond .lt 14, 3) := dk_155 0 14 (dk_at dksX1_stock_0 15 rfl rfl)
theorem dX1_stock_18 : decode cX1_stock 18 = .ok (.iload_n 3, 1) := dk_29 (dk_at dksX1_stock_0 18 rfl rfl)
theorem dX1_stock_19 : decode cX1_stock 19 = .ok (.sipush 1000, 3) := dk_17 3 232 (dk_at dksX1_stock_0 19 rfl rfl)
theorem dX1_stock_22 : decode cX1_stock 22 = .ok (.if_icmp .gt 7, 3) := dk_163 0 7 (dk_at dksX1_stock_1 0 rfl rfl)
theorem dX1_stock_25 : decode cX1_stock 25 = .ok (.iconst 1, 1) := dk_4 (dk_at dksX1_stock_1 3 rfl rfl)
theorem dX1_stock_26 : decode cX1_stock 26 = .ok (.goto 4, 3) := dk_167 0 4 (dk_at dksX1_stock_1 4 rfl rfl)
theorem dX1_stock_29 : decode cX1_stock 29 = .ok (.iconst 0, 1) := dk_3 (dk_at dksX1_stock_1 7 rfl rfl)
theorem dX1_stock_30 : decode cX1_stock 30 = .ok (.invokestatic 100, 3) := dk_184 0 100 (dk_at dksX1_stock_1 8 rfl rfl)
theorem dX1_stock_33 : decode cX1_stock 33 = .ok (.aload 4, 2) := dk_25 4 (dk_at dksX1_stock_1 11 rfl rfl)
theorem dX1_stock_35 : decode cX1_stock 35 = .ok (.aload 5, 2) := dk_25 5 (dk_at dksX1_stock_1 13 rfl rfl)
theorem dX1_stock_37 : decode cX1_stock 37 = .ok (.invokestatic 338, 3) := dk_184 1 82 (dk_at dksX1_stock_1 15 rfl rfl)
theorem dX1_stock_40 : decode cX1_stock 40 = .ok (.astore 6, 2) := dk_58 6 (dk_at dksX1_stock_1 18 rfl rfl)
theorem dX1_stock_42 : decode cX1_stock 42 = .ok (.aload 6, 2) := dk_25 6 (dk_at dksX1_stock_1 20 rfl rfl)
theorem dX1_stock_44 : decode cX1_stock 44 = .ok (.ifnonnull 5, 3) := dk_199 0 5 (dk_at dksX1_stock_2 0 rfl rfl)
theorem dX1_stock_47 : decode cX1_stock 47 = .ok (.iconst (-1), 1) := dk_2 (dk_at dksX1_stock_2 3 rfl rfl)
theorem dX1_stock_48 : decode cX1_stock 48 = .ok (.ireturn, 1) := dk_172 (dk_at dksX1_stock_2 4 rfl rfl)
theorem dX1_stock_49 : decode cX1_stock 49 = .ok (.aload 4, 2) := dk_25 4 (dk_at dksX1_stock_2 5 rfl rfl)
theorem dX1_stock_51 : decode cX1_stock 51 = .ok (.getfield 209, 3) := dk_180 0 209 (dk_at dksX1_stock_2 7 rfl rfl)
theorem dX1_stock_54 : decode cX1_stock 54 = .ok (.iconst 2, 1) := dk_5 (dk_at dksX1_stock_2 10 rfl rfl)
theorem dX1_stock_55 : decode cX1_stock 55 = .ok (.iload_n 3, 1) := dk_29 (dk_at dksX1_stock_2 11 rfl rfl)
theorem dX1_stock_56 : decode cX1_stock 56 = .ok (.imul, 1) := dk_104 (dk_at dksX1_stock_2 12 rfl rfl)
theorem dX1_stock_57 : decode cX1_stock 57 = .ok (.if_icmp .ge 6, 3) := dk_162 0 6 (dk_at dksX1_stock_2 13 rfl rfl)
theorem dX1_stock_60 : decode cX1_stock 60 = .ok (.bipush (-2), 2) := dk_16 254 (dk_at dksX1_stock_2 16 rfl rfl)
theorem dX1_stock_62 : decode cX1_stock 62 = .ok (.ireturn, 1) := dk_172 (dk_at dksX1_stock_2 18 rfl rfl)
theorem dX1_stock_63 : decode cX1_stock 63 = .ok (.aload_n 0, 1) := dk_42 (dk_at dksX1_stock_2 19 rfl rfl)
theorem dX1_stock_64 : decode cX1_stock 64 = .ok (.getfield 12, 3) := dk_180 0 12 (dk_at dksX1_stock_2 20 rfl rfl)
theorem dX1_stock_67 : decode cX1_stock 67 = .ok (.getfield 168, 3) := dk_180 0 168 (dk_at dksX1_stock_3 0 rfl rfl)
theorem dX1_stock_70 : decode cX1_stock 70 = .ok (.iload_n 2, 1) := dk_28 (dk_at dksX1_stock_3 3 rfl rfl)
theorem dX1_stock_71 : decode cX1_stock 71 = .ok (.iaload, 1) := dk_46 (dk_at dksX1_stock_3 4 rfl rfl)
theorem dX1_stock_72 : decode cX1_stock 72 = .ok (.iload_n 3, 1) := dk_29 (dk_at dksX1_stock_3 5 rfl rfl)
theorem dX1_stock_73 : decode cX1_stock 73 = .ok (.iadd, 1) := dk_96 (dk_at dksX1_stock_3 6 rfl rfl)
theorem dX1_stock_74 : decode cX1_stock 74 = .ok (.sipush 1000, 3) := dk_17 3 232 (dk_at dksX1_stock_3 7 rfl rfl)
theorem dX1_stock_77 : decode cX1_stock 77 = .ok (.if_icmp .le 6, 3) := dk_164 0 6 (dk_at dksX1_stock_3 10 rfl rfl)
theorem dX1_stock_80 : decode cX1_stock 80 = .ok (.bipush (-3), 2) := dk_16 253 (dk_at dksX1_stock_3 13 rfl rfl)
theorem dX1_stock_82 : decode cX1_stock 82 = .ok (.ireturn, 1) := dk_172 (dk_at dksX1_stock_3 15 rfl rfl)
theorem dX1_stock_83 : decode cX1_stock 83 = .ok (.aload 4, 2) := dk_25 4 (dk_at dksX1_stock_3 16 rfl rfl)
theorem dX1_stock_85 : decode cX1_stock 85 = .ok (.dup, 1) := dk_89 (dk_at dksX1_stock_3 18 rfl rfl)
theorem dX1_stock_86 : decode cX1_stock 86 = .ok (.getfield 209, 3) := dk_180 0 209 (dk_at dksX1_stock_3 19 rfl rfl)
theorem dX1_stock_89 : decode cX1_stock 89 = .ok (.iconst 2, 1) := dk_5 (dk_at dksX1_stock_3 22 rfl rfl)
theorem dX1_stock_90 : decode cX1_stock 90 = .ok (.iload_n 3, 1) := dk_29 (dk_at dksX1_stock_3 23 rfl rfl)
theorem dX1_stock_91 : decode cX1_stock 91 = .ok (.imul, 1) := dk_104 (dk_at dksX1_stock_4 0 rfl rfl)
theorem dX1_stock_92 : decode cX1_stock 92 = .ok (.isub, 1) := dk_100 (dk_at dksX1_stock_4 1 rfl rfl)
theorem dX1_stock_93 : decode cX1_stock 93 = .ok (.putfield 209, 3) := dk_181 0 209 (dk_at dksX1_stock_4 2 rfl rfl)
theorem dX1_stock_96 : decode cX1_stock 96 = .ok (.aload_n 0, 1) := dk_42 (dk_at dksX1_stock_4 5 rfl rfl)
theorem dX1_stock_97 : decode cX1_stock 97 = .ok (.getfield 12, 3) := dk_180 0 12 (dk_at dksX1_stock_4 6 rfl rfl)
theorem dX1_stock_100 : decode cX1_stock 100 = .ok (.getfield 168, 3) := dk_180 0 168 (dk_at dksX1_stock_4 9 rfl rfl)
theorem dX1_stock_103 : decode cX1_stock 103 = .ok (.iload_n 2, 1) := dk_28 (dk_at dksX1_stock_4 12 rfl rfl)
theorem dX1_stock_104 : decode cX1_stock 104 = .ok (.dup2, 1) := dk_92 (dk_at dksX1_stock_4 13 rfl rfl)
theorem dX1_stock_105 : decode cX1_stock 105 = .ok (.iaload, 1) := dk_46 (dk_at dksX1_stock_4 14 rfl rfl)
theorem dX1_stock_106 : decode cX1_stock 106 = .ok (.iload_n 3, 1) := dk_29 (dk_at dksX1_stock_4 15 rfl rfl)
theorem dX1_stock_107 : decode cX1_stock 107 = .ok (.iadd, 1) := dk_96 (dk_at dksX1_stock_4 16 rfl rfl)
theorem dX1_stock_108 : decode cX1_stock 108 = .ok (.iastore, 1) := dk_79 (dk_at dksX1_stock_4 17 rfl rfl)
theorem dX1_stock_109 : decode cX1_stock 109 = .ok (.aload_n 0, 1) := dk_42 (dk_at dksX1_stock_4 18 rfl rfl)
theorem dX1_stock_110 : decode cX1_stock 110 = .ok (.getfield 12, 3) := dk_180 0 12 (dk_at dksX1_stock_4 19 rfl rfl)
theorem dX1_stock_113 : decode cX1_stock 113 = .ok (.getfield 168, 3) := dk_180 0 168 (dk_at dksX1_stock_5 0 rfl rfl)
theorem dX1_stock_116 : decode cX1_stock 116 = .ok (.iload_n 2, 1) := dk_28 (dk_at dksX1_stock_5 3 rfl rfl)
theorem dX1_stock_117 : decode cX1_stock 117 = .ok (.iaload, 1) := dk_46 (dk_at dksX1_stock_5 4 rfl rfl)
theorem dX1_stock_118 : decode cX1_stock 118 = .ok (.ireturn, 1) := dk_172 (dk_at dksX1_stock_5 5 rfl rfl)
def dkwX1_pastureOf_1 : List UInt8 := [1, 176]
abbrev dktX1_pastureOf_1 : List UInt8 := dkwX1_pastureOf_1 ++ []
def dkwX1_pastureOf_0 : List UInt8 := [43, 182, 0, 153, 77, 44, 198, 0, 18, 44, 182, 1, 68, 42, 180, 1, 9, 160, 0, 7, 44, 167, 0, 4]
abbrev dktX1_pastureOf_0 : List UInt8 := dkwX1_pastureOf_0 ++ dktX1_pastureOf_1
theorem dksX1_pastureOf_0 : cX1_pastureOf.data.toList.drop 0 = dktX1_pastureOf_0 := by decide +kernel
theorem dksX1_pastureOf_1 : cX1_pastureOf.data.toList.drop 24 = dktX1_pastureOf_1 := dk_seg dksX1_pastureOf_0 24 rfl rfl
theorem dX1_pastureOf_0 : decode cX1_pastureOf 0 = .ok (.aload_n 1, 1) := dk_43 (dk_at dksX1_pastureOf_0 0 rfl rfl)
theorem dX1_pastureOf_1 : decode cX1_pastureOf 1 = .ok (.invokevirtual 153, 3) := dk_182 0 153 (dk_at dksX1_pastureOf_0 1 rfl rfl)
theorem dX1_pastureOf_4 : decode cX1_pastureOf 4 = .ok (.astore_n 2, 1) := dk_77 (dk_at dksX1_pastureOf_0 4 rfl rfl)
theorem dX1_pastureOf_5 : decode cX1_pastureOf 5 = .ok (.aload_n 2, 1) := dk_44 (dk_at dksX1_pastureOf_0 5 rfl rfl)
theorem dX1_pastureOf_6 : decode cX1_pastureOf 6 = .ok (.ifnull 18, 3) := dk_198 0 18 (dk_at dksX1_pastureOf_0 6 rfl rfl)
theorem dX1_pastureOf_9 : decode cX1_pastureOf 9 = .ok (.aload_n 2, 1) := dk_44 (dk_at dksX1_pastureOf_0 9 rfl rfl)
theorem dX1_pastureOf_10 : decode cX1_pastureOf 10 = .ok (.invokevirtual 324, 3) := dk_182 1 68 (dk_at dksX1_pastureOf_0 10 rfl rfl)
theorem dX1_pastureOf_13 : decode cX1_pastureOf 13 = .ok (.aload_n 0, 1) := dk_42 (dk_at dksX1_pastureOf_0 13 rfl rfl)
theorem dX1_pastureOf_14 : decode cX1_pastureOf 14 = .ok (.getfield 265, 3) := dk_180 1 9 (dk_at dksX1_pastureOf_0 14 rfl rfl)
theorem dX1_pastureOf_17 : decode cX1_pastureOf 17 = .ok (.if_icmp .ne 7, 3) := dk_160 0 7 (dk_at dksX1_pastureOf_0 17 rfl rfl)
theorem dX1_pastureOf_20 : decode cX1_pastureOf 20 = .ok (.aload_n 2, 1) := dk_44 (dk_at dksX1_pastureOf_0 20 rfl rfl)
theorem dX1_pastureOf_21 : decode cX1_pastureOf 21 = .ok (.goto 4, 3) := dk_167 0 4 (dk_at dksX1_pastureOf_0 21 rfl rfl)
theorem dX1_pastureOf_24 : decode cX1_pastureOf 24 = .ok (.aconst_null, 1) := dk_1 (dk_at dksX1_pastureOf_1 0 rfl rfl)
theorem dX1_pastureOf_25 : decode cX1_pastureOf 25 = .ok (.areturn, 1) := dk_176 (dk_at dksX1_pastureOf_1 1 rfl rfl)
def dkwX1_fence_3 : List UInt8 := [21, 5, 100, 181, 0, 209, 42, 180, 0, 12, 180, 0, 171, 28, 4, 84, 4, 172]
abbrev dktX1_fence_3 : List UInt8 := dkwX1_fence_3 ++ []
def dkwX1_fence_2 : List UInt8 := [167, 0, 5, 16, 15, 54, 5, 45, 180, 0, 209, 21, 5, 162, 0, 6, 16, 253, 172, 45, 89, 180, 0, 209]
abbrev dktX1_fence_2 : List UInt8 := dkwX1_fence_2 ++ dktX1_fence_3
def dkwX1_fence_1 : List UInt8 := [42, 180, 0, 12, 180, 0, 171, 28, 51, 153, 0, 6, 16, 254, 172, 45, 180, 0, 206, 5, 160, 0, 7, 8]
abbrev dktX1_fence_1 : List UInt8 := dkwX1_fence_1 ++ dktX1_fence_2
def dkwX1_fence_0 : List UInt8 := [42, 27, 182, 0, 202, 78, 45, 42, 28, 182, 0, 96, 184, 1, 82, 58, 4, 25, 4, 199, 0, 5, 2, 172]
abbrev dktX1_fence_0 : List UInt8 := dkwX1_fence_0 ++ dktX1_fence_1
theorem dksX1_fence_0 : cX1_fence.data.toList.drop 0 = dktX1_fence_0 := by decide +kernel
theorem dksX1_fence_1 : cX1_fence.data.toList.drop 24 = dktX1_fence_1 := dk_seg dksX1_fence_0 24 rfl rfl
theorem dksX1_fence_2 : cX1_fence.data.toList.drop 48 = dktX1_fence_2 := dk_seg dksX1_fence_1 24 rfl rfl
theorem dksX1_fence_3 : cX1_fence.data.toList.drop 72 = dktX1_fence_3 := dk_seg dksX1_fence_2 24 rfl rfl
theorem dX1_fence_0 : decode cX1_fence 0 = .ok (.aload_n 0, 1) := dk_42 (dk_at dksX1_fence_0 0 rfl rfl)
theorem dX1_fence_1 : decode cX1_fence 1 = .ok (.iload_n 1, 1) := dk_27 (dk_at dksX1_fence_0 1 rfl rfl)
theorem dX1_fence_2 : decode cX1_fence 2 = .ok (.invokevirtual 202, 3) := dk_182 0 202 (dk_at dksX1_fence_0 2 rfl rfl)
theorem dX1_fence_5 : decode cX1_fence 5 = .ok (.astore_n 3, 1) := dk_78 (dk_at dksX1_fence_0 5 rfl rfl)
theorem dX1_fence_6 : decode cX1_fence 6 = .ok (.aload_n 3, 1) := dk_45 (dk_at dksX1_fence_0 6 rfl rfl)
theorem dX1_fence_7 : decode cX1_fence 7 = .ok (.aload_n 0, 1) := dk_42 (dk_at dksX1_fence_0 7 rfl rfl)
theorem dX1_fence_8 : decode cX1_fence 8 = .ok (.iload_n 2, 1) := dk_28 (dk_at dksX1_fence_0 8 rfl rfl)
theorem dX1_fence_9 : decode cX1_fence 9 = .ok (.invokevirtual 96, 3) := dk_182 0 96 (dk_at dksX1_fence_0 9 rfl rfl)
theorem dX1_fence_12 : decode cX1_fence 12 = .ok (.invokestatic 338, 3) := dk_184 1 82 (dk_at dksX1_fence_0 12 rfl rfl)
theorem dX1_fence_15 : decode cX1_fence 15 = .ok (.astore 4, 2) := dk_58 4 (dk_at dksX1_fence_0 15 rfl rfl)
theorem dX1_fence_17 : decode cX1_fence 17 = .ok (.aload 4, 2) := dk_25 4 (dk_at dksX1_fence_0 17 rfl rfl)
theorem dX1_fence_19 : decode cX1_fence 19 = .ok (.ifnonnull 5, 3) := dk_199 0 5 (dk_at dksX1_fence_0 19 rfl rfl)
theorem dX1_fence_22 : decode cX1_fence 22 = .ok (.iconst (-1), 1) := dk_2 (dk_at dksX1_fence_0 22 rfl rfl)
theorem dX1_fence_23 : decode cX1_fence 23 = .ok (.ireturn, 1) := dk_172 (dk_at dksX1_fence_0 23 rfl rfl)
theorem dX1_fence_24 : decode cX1_fence 24 = .ok (.aload_n 0, 1) := dk_42 (dk_at dksX1_fence_1 0 rfl rfl)
theorem dX1_fence_25 : decode cX1_fence 25 = .ok (.getfield 12, 3) := dk_180 0 12 (dk_at dksX1_fence_1 1 rfl rfl)
theorem dX1_fence_28 : decode cX1_fence 28 = .ok (.getfield 171, 3) := dk_180 0 171 (dk_at dksX1_fence_1 4 rfl rfl)
theorem dX1_fence_31 : decode cX1_fence 31 = .ok (.iload_n 2, 1) := dk_28 (dk_at dksX1_fence_1 7 rfl rfl)
theorem dX1_fence_32 : decode cX1_fence 32 = .ok (.baload, 1) := dk_51 (dk_at dksX1_fence_1 8 rfl rfl)
theorem dX1_fence_33 : decode cX1_fence 33 = .ok (.ifCond .eq 6, 3) := dk_153 0 6 (dk_at dksX1_fence_1 9 rfl rfl)
theorem dX1_fence_36 : decode cX1_fence 36 = .ok (.bipush (-2), 2) := dk_16 254 (dk_at dksX1_fence_1 12 rfl rfl)
theorem dX1_fence_38 : decode cX1_fence 38 = .ok (.ireturn, 1) := dk_172 (dk_at dksX1_fence_1 14 rfl rfl)
theorem dX1_fence_39 : decode cX1_fence 39 = .ok (.aload_n 3, 1) := dk_45 (dk_at dksX1_fence_1 15 rfl rfl)
theorem dX1_fence_40 : decode cX1_fence 40 = .ok (.getfield 206, 3) := dk_180 0 206 (dk_at dksX1_fence_1 16 rfl rfl)
theorem dX1_fence_43 : decode cX1_fence 43 = .ok (.iconst 2, 1) := dk_5 (dk_at dksX1_fence_1 19 rfl rfl)
theorem dX1_fence_44 : decode cX1_fence 44 = .ok (.if_icmp .ne 7, 3) := dk_160 0 7 (dk_at dksX1_fence_1 20 rfl rfl)
theorem dX1_fence_47 : decode cX1_fence 47 = .ok (.iconst 5, 1) := dk_8 (dk_at dksX1_fence_1 23 rfl rfl)
theorem dX1_fence_48 : decode cX1_fence 48 = .ok (.goto 5, 3) := dk_167 0 5 (dk_at dksX1_fence_2 0 rfl rfl)
theorem dX1_fence_51 : decode cX1_fence 51 = .ok (.bipush 15, 2) := dk_16 15 (dk_at dksX1_fence_2 3 rfl rfl)
theorem dX1_fence_53 : decode cX1_fence 53 = .ok (.istore 5, 2) := dk_54 5 (dk_at dksX1_fence_2 5 rfl rfl)
theorem dX1_fence_55 : decode cX1_fence 55 = .ok (.aload_n 3, 1) := dk_45 (dk_at dksX1_fence_2 7 rfl rfl)
theorem dX1_fence_56 : decode cX1_fence 56 = .ok (.getfield 209, 3) := dk_180 0 209 (dk_at dksX1_fence_2 8 rfl rfl)
theorem dX1_fence_59 : decode cX1_fence 59 = .ok (.iload 5, 2) := dk_21 5 (dk_at dksX1_fence_2 11 rfl rfl)
theorem dX1_fence_61 : decode cX1_fence 61 = .ok (.if_icmp .ge 6, 3) := dk_162 0 6 (dk_at dksX1_fence_2 13 rfl rfl)
theorem dX1_fence_64 : decode cX1_fence 64 = .ok (.bipush (-3), 2) := dk_16 253 (dk_at dksX1_fence_2 16 rfl rfl)
theorem dX1_fence_66 : decode cX1_fence 66 = .ok (.ireturn, 1) := dk_172 (dk_at dksX1_fence_2 18 rfl rfl)
theorem dX1_fence_67 : decode cX1_fence 67 = .ok (.aload_n 3, 1) := dk_45 (dk_at dksX1_fence_2 19 rfl rfl)
theorem dX1_fence_68 : decode cX1_fence 68 = .ok (.dup, 1) := dk_89 (dk_at dksX1_fence_2 20 rfl rfl)
theorem dX1_fence_69 : decode cX1_fence 69 = .ok (.getfield 209, 3) := dk_180 0 209 (dk_at dksX1_fence_2 21 rfl rfl)
theorem dX1_fence_72 : decode cX1_fence 72 = .ok (.iload 5, 2) := dk_21 5 (dk_at dksX1_fence_3 0 rfl rfl)
theorem dX1_fence_74 : decode cX1_fence 74 = .ok (.isub, 1) := dk_100 (dk_at dksX1_fence_3 2 rfl rfl)
theorem dX1_fence_75 : decode cX1_fence 75 = .ok (.putfield 209, 3) := dk_181 0 209 (dk_at dksX1_fence_3 3 rfl rfl)
theorem dX1_fence_78 : decode cX1_fence 78 = .ok (.aload_n 0, 1) := dk_42 (dk_at dksX1_fence_3 6 rfl rfl)
theorem dX1_fence_79 : decode cX1_fence 79 = .ok (.getfield 12, 3) := dk_180 0 12 (dk_at dksX1_fence_3 7 rfl rfl)
theorem dX1_fence_82 : decode cX1_fence 82 = .ok (.getfield 171, 3) := dk_180 0 171 (dk_at dksX1_fence_3 10 rfl rfl)
theorem dX1_fence_85 : decode cX1_fence 85 = .ok (.iload_n 2, 1) := dk_28 (dk_at dksX1_fence_3 13 rfl rfl)
theorem dX1_fence_86 : decode cX1_fence 86 = .ok (.iconst 1, 1) := dk_4 (dk_at dksX1_fence_3 14 rfl rfl)
theorem dX1_fence_87 : decode cX1_fence 87 = .ok (.bastore, 1) := dk_84 (dk_at dksX1_fence_3 15 rfl rfl)
theorem dX1_fence_88 : decode cX1_fence 88 = .ok (.iconst 1, 1) := dk_4 (dk_at dksX1_fence_3 16 rfl rfl)
theorem dX1_fence_89 : decode cX1_fence 89 = .ok (.ireturn, 1) := dk_172 (dk_at dksX1_fence_3 17 rfl rfl)
def dkwX1_law_5 : List UInt8 := [16, 10, 100, 62, 42, 3, 181, 1, 86, 29, 172, 58, 4, 42, 3, 181, 1, 86, 25, 4, 191]
abbrev dktX1_law_5 : List UInt8 := dkwX1_law_5 ++ []
def dkwX1_law_4 : List UInt8 := [4, 100, 61, 42, 3, 181, 1, 86, 28, 172, 77, 42, 44, 180, 1, 111, 181, 0, 22, 44, 180, 1, 114]
abbrev dktX1_law_4 : List UInt8 := dkwX1_law_4 ++ dktX1_law_5
def dkwX1_law_3 : List UInt8 := [27, 183, 1, 99, 182, 1, 102, 183, 1, 106, 182, 0, 199, 87, 42, 180, 0, 12, 180, 1, 92, 182, 0, 90]
abbrev dktX1_law_3 : List UInt8 := dkwX1_law_3 ++ dktX1_law_4
def dkwX1_law_2 : List UInt8 := [181, 1, 86, 28, 172, 42, 180, 0, 12, 180, 1, 92, 187, 1, 95, 89, 187, 1, 97, 89, 42, 180, 0, 26]
abbrev dktX1_law_2 : List UInt8 := dkwX1_law_2 ++ dktX1_law_3
def dkwX1_law_1 : List UInt8 := [181, 0, 22, 42, 180, 0, 12, 180, 1, 92, 182, 0, 90, 16, 12, 160, 0, 12, 2, 61, 42, 3]
abbrev dktX1_law_1 : List UInt8 := dkwX1_law_1 ++ dktX1_law_2
def dkwX1_law_0 : List UInt8 := [27, 155, 0, 15, 27, 42, 180, 1, 86, 163, 0, 7, 4, 167, 0, 4, 3, 184, 0, 100, 42, 2]
abbrev dktX1_law_0 : List UInt8 := dkwX1_law_0 ++ dktX1_law_1
theorem dksX1_law_0 : cX1_law.data.toList.drop 0 = dktX1_law_0 := by decide +kernel
theorem dksX1_law_1 : cX1_law.data.toList.drop 22 = dktX1_law_1 := dk_seg dksX1_law_0 22 rfl rfl
theorem dksX1_law_2 : cX1_law.data.toList.drop 44 = dktX1_law_2 := dk_seg dksX1_law_1 22 rfl rfl
theorem dksX1_law_3 : cX1_law.data.toList.drop 68 = dktX1_law_3 := dk_seg dksX1_law_2 24 rfl rfl
theorem dksX1_law_4 : cX1_law.data.toList.drop 92 = dktX1_law_4 := dk_seg dksX1_law_3 24 rfl rfl
theorem dksX1_law_5 : cX1_law.data.toList.drop 115 = dktX1_law_5 := dk_seg dksX1_law_4 23 rfl rfl
theorem dX1_law_0 : decode cX1_law 0 = .ok (.iload_n 1, 1) := dk_27 (dk_at dksX1_law_0 0 rfl rfl)
theorem dX1_law_1 : decode cX1_law 1 = .ok (.ifCond .lt 15, 3) := dk_155 0 15 (dk_at dksX1_law_0 1 rfl rfl)
theorem dX1_law_4 : decode cX1_law 4 = .ok (.iload_n 1, 1) := dk_27 (dk_at dksX1_law_0 4 rfl rfl)
theorem dX1_law_5 : decode cX1_law 5 = .ok (.aload_n 0, 1) := dk_42 (dk_at dksX1_law_0 5 rfl rfl)
theorem dX1_law_6 : decode cX1_law 6 = .ok (.getfield 342, 3) := dk_180 1 86 (dk_at dksX1_law_0 6 rfl rfl)
theorem dX1_law_9 : decode cX1_law 9 = .ok (.if_icmp .gt 7, 3) := dk_163 0 7 (dk_at dksX1_law_0 9 rfl rfl)
theorem dX1_law_12 : decode cX1_law 12 = .ok (.iconst 1, 1) := dk_4 (dk_at dksX1_law_0 12 rfl rfl)
theorem dX1_law_13 : decode cX1_law 13 = .ok (.goto 4, 3) := dk_167 0 4 (dk_at dksX1_law_0 13 rfl rfl)
theorem dX1_law_16 : decode cX1_law 16 = .ok (.iconst 0, 1) := dk_3 (dk_at dksX1_law_0 16 rfl rfl)
theorem dX1_law_17 : decode cX1_law 17 = .ok (.invokestatic 100, 3) := dk_184 0 100 (dk_at dksX1_law_0 17 rfl rfl)
theorem dX1_law_20 : decode cX1_law 20 = .ok (.aload_n 0, 1) := dk_42 (dk_at dksX1_law_0 20 rfl rfl)
theorem dX1_law_21 : decode cX1_law 21 = .ok (.iconst (-1), 1) := dk_2 (dk_at dksX1_law_0 21 rfl rfl)
theorem dX1_law_22 : decode cX1_law 22 = .ok (.putfield 22, 3) := dk_181 0 22 (dk_at dksX1_law_1 0 rfl rfl)
theorem dX1_law_25 : decode cX1_law 25 = .ok (.aload_n 0, 1) := dk_42 (dk_at dksX1_law_1 3 rfl rfl)
theorem dX1_law_26 : decode cX1_law 26 = .ok (.getfield 12, 3) := dk_180 0 12 (dk_at dksX1_law_1 4 rfl rfl)
theorem dX1_law_29 : decode cX1_law 29 = .ok (.getfield 348, 3) := dk_180 1 92 (dk_at dksX1_law_1 7 rfl rfl)
theorem dX1_law_32 : decode cX1_law 32 = .ok (.invokevirtual 90, 3) := dk_182 0 90 (dk_at dksX1_law_1 10 rfl rfl)
theorem dX1_law_35 : decode cX1_law 35 = .ok (.bipush 12, 2) := dk_16 12 (dk_at dksX1_law_1 13 rfl rfl)
theorem dX1_law_37 : decode cX1_law 37 = .ok (.if_icmp .ne 12, 3) := dk_160 0 12 (dk_at dksX1_law_1 15 rfl rfl)
theorem dX1_law_40 : decode cX1_law 40 = .ok (.iconst (-1), 1) := dk_2 (dk_at dksX1_law_1 18 rfl rfl)
theorem dX1_law_41 : decode cX1_law 41 = .ok (.istore_n 2, 1) := dk_61 (dk_at dksX1_law_1 19 rfl rfl)
theorem dX1_law_42 : decode cX1_law 42 = .ok (.aload_n 0, 1) := dk_42 (dk_at dksX1_law_1 20 rfl rfl)
theorem dX1_law_43 : decode cX1_law 43 = .ok (.iconst 0, 1) := dk_3 (dk_at dksX1_law_1 21 rfl rfl)
theorem dX1_law_44 : decode cX1_law 44 = .ok (.putfield 342, 3) := dk_181 1 86 (dk_at dksX1_law_2 0 rfl rfl)
theorem dX1_law_47 : decode cX1_law 47 = .ok (.iload_n 2, 1) := dk_28 (dk_at dksX1_law_2 3 rfl rfl)
theorem dX1_law_48 : decode cX1_law 48 = .ok (.ireturn, 1) := dk_172 (dk_at dksX1_law_2 4 rfl rfl)
theorem dX1_law_49 : decode cX1_law 49 = .ok (.aload_n 0, 1) := dk_42 (dk_at dksX1_law_2 5 rfl rfl)
theorem dX1_law_50 : decode cX1_law 50 = .ok (.getfield 12, 3) := dk_180 0 12 (dk_at dksX1_law_2 6 rfl rfl)
theorem dX1_law_53 : decode cX1_law 53 = .ok (.getfield 348, 3) := dk_180 1 92 (dk_at dksX1_law_2 9 rfl rfl)
theorem dX1_law_56 : decode cX1_law 56 = .ok (.new 351, 3) := dk_187 1 95 (dk_at dksX1_law_2 12 rfl rfl)
theorem dX1_law_59 : decode cX1_law 59 = .ok (.dup, 1) := dk_89 (dk_at dksX1_law_2 15 rfl rfl)
theorem dX1_law_60 : decode cX1_law 60 = .ok (.new 353, 3) := dk_187 1 97 (dk_at dksX1_law_2 16 rfl rfl)
theorem dX1_law_63 : decode cX1_law 63 = .ok (.dup, 1) := dk_89 (dk_at dksX1_law_2 19 rfl rfl)
theorem dX1_law_64 : decode cX1_law 64 = .ok (.aload_n 0, 1) := dk_42 (dk_at dksX1_law_2 20 rfl rfl)
theorem dX1_law_65 : decode cX1_law 65 = .ok (.getfield 26, 3) := dk_180 0 26 (dk_at dksX1_law_2 21 rfl rfl)
theorem dX1_law_68 : decode cX1_law 68 = .ok (.iload_n 1, 1) := dk_27 (dk_at dksX1_law_3 0 rfl rfl)
theorem dX1_law_69 : decode cX1_law 69 = .ok (.invokespecial 355, 3) := dk_183 1 99 (dk_at dksX1_law_3 1 rfl rfl)
theorem dX1_law_72 : decode cX1_law 72 = .ok (.invokevirtual 358, 3) := dk_182 1 102 (dk_at dksX1_law_3 4 rfl rfl)
theorem dX1_law_75 : decode cX1_law 75 = .ok (.invokespecial 362, 3) := dk_183 1 106 (dk_at dksX1_law_3 7 rfl rfl)
theorem dX1_law_78 : decode cX1_law 78 = .ok (.invokevirtual 199, 3) := dk_182 0 199 (dk_at dksX1_law_3 10 rfl rfl)
theorem dX1_law_81 : decode cX1_law 81 = .ok (.pop, 1) := dk_87 (dk_at dksX1_law_3 13 rfl rfl)
theorem dX1_law_82 : decode cX1_law 82 = .ok (.aload_n 0, 1) := dk_42 (dk_at dksX1_law_3 14 rfl rfl)
theorem dX1_law_83 : decode cX1_law 83 = .ok (.getfield 12, 3) := dk_180 0 12 (dk_at dksX1_law_3 15 rfl rfl)
theorem dX1_law_86 : decode cX1_law 86 = .ok (.getfield 348, 3) := dk_180 1 92 (dk_at dksX1_law_3 18 rfl rfl)
theorem dX1_law_89 : decode cX1_law 89 = .ok (.invokevirtual 90, 3) := dk_182 0 90 (dk_at dksX1_law_3 21 rfl rfl)
theorem dX1_law_92 : decode cX1_law 92 = .ok (.iconst 1, 1) := dk_4 (dk_at dksX1_law_4 0 rfl rfl)
theorem dX1_law_93 : decode cX1_law 93 = .ok (.isub, 1) := dk_100 (dk_at dksX1_law_4 1 rfl rfl)
theorem dX1_law_94 : decode cX1_law 94 = .ok (.istore_n 2, 1) := dk_61 (dk_at dksX1_law_4 2 rfl rfl)
theorem dX1_law_95 : decode cX1_law 95 = .ok (.aload_n 0, 1) := dk_42 (dk_at dksX1_law_4 3 rfl rfl)
theorem dX1_law_96 : decode cX1_law 96 = .ok (.iconst 0, 1) := dk_3 (dk_at dksX1_law_4 4 rfl rfl)
theorem dX1_law_97 : decode cX1_law 97 = .ok (.putfield 342, 3) := dk_181 1 86 (dk_at dksX1_law_4 5 rfl rfl)
theorem dX1_law_100 : decode cX1_law 100 = .ok (.iload_n 2, 1) := dk_28 (dk_at dksX1_law_4 8 rfl rfl)
theorem dX1_law_101 : decode cX1_law 101 = .ok (.ireturn, 1) := dk_172 (dk_at dksX1_law_4 9 rfl rfl)
theorem dX1_law_102 : decode cX1_law 102 = .ok (.astore_n 2, 1) := dk_77 (dk_at dksX1_law_4 10 rfl rfl)
theorem dX1_law_103 : decode cX1_law 103 = .ok (.aload_n 0, 1) := dk_42 (dk_at dksX1_law_4 11 rfl rfl)
theorem dX1_law_104 : decode cX1_law 104 = .ok (.aload_n 2, 1) := dk_44 (dk_at dksX1_law_4 12 rfl rfl)
theorem dX1_law_105 : decode cX1_law 105 = .ok (.getfield 367, 3) := dk_180 1 111 (dk_at dksX1_law_4 13 rfl rfl)
theorem dX1_law_108 : decode cX1_law 108 = .ok (.putfield 22, 3) := dk_181 0 22 (dk_at dksX1_law_4 16 rfl rfl)
theorem dX1_law_111 : decode cX1_law 111 = .ok (.aload_n 2, 1) := dk_44 (dk_at dksX1_law_4 19 rfl rfl)
theorem dX1_law_112 : decode cX1_law 112 = .ok (.getfield 370, 3) := dk_180 1 114 (dk_at dksX1_law_4 20 rfl rfl)
theorem dX1_law_115 : decode cX1_law 115 = .ok (.bipush 10, 2) := dk_16 10 (dk_at dksX1_law_5 0 rfl rfl)
theorem dX1_law_117 : decode cX1_law 117 = .ok (.isub, 1) := dk_100 (dk_at dksX1_law_5 2 rfl rfl)
theorem dX1_law_118 : decode cX1_law 118 = .ok (.istore_n 3, 1) := dk_62 (dk_at dksX1_law_5 3 rfl rfl)
theorem dX1_law_119 : decode cX1_law 119 = .ok (.aload_n 0, 1) := dk_42 (dk_at dksX1_law_5 4 rfl rfl)
theorem dX1_law_120 : decode cX1_law 120 = .ok (.iconst 0, 1) := dk_3 (dk_at dksX1_law_5 5 rfl rfl)
theorem dX1_law_121 : decode cX1_law 121 = .ok (.putfield 342, 3) := dk_181 1 86 (dk_at dksX1_law_5 6 rfl rfl)
theorem dX1_law_124 : decode cX1_law 124 = .ok (.iload_n 3, 1) := dk_29 (dk_at dksX1_law_5 9 rfl rfl)
theorem dX1_law_125 : decode cX1_law 125 = .ok (.ireturn, 1) := dk_172 (dk_at dksX1_law_5 10 rfl rfl)
theorem dX1_law_126 : decode cX1_law 126 = .ok (.astore 4, 2) := dk_58 4 (dk_at dksX1_law_5 11 rfl rfl)
theorem dX1_law_128 : decode cX1_law 128 = .ok (.aload_n 0, 1) := dk_42 (dk_at dksX1_law_5 13 rfl rfl)
theorem dX1_law_129 : decode cX1_law 129 = .ok (.iconst 0, 1) := dk_3 (dk_at dksX1_law_5 14 rfl rfl)
theorem dX1_law_130 : decode cX1_law 130 = .ok (.putfield 342, 3) := dk_181 1 86 (dk_at dksX1_law_5 15 rfl rfl)
theorem dX1_law_133 : decode cX1_law 133 = .ok (.aload 4, 2) := dk_25 4 (dk_at dksX1_law_5 18 rfl rfl)
theorem dX1_law_135 : decode cX1_law 135 = .ok (.athrow, 1) := dk_191 (dk_at dksX1_law_5 20 rfl rfl)
def dkwX1_vote_5 : List UInt8 := [180, 1, 127, 172]
abbrev dktX1_vote_5 : List UInt8 := dkwX1_vote_5 ++ []
def dkwX1_vote_4 : List UInt8 := [180, 1, 127, 4, 96, 181, 1, 127, 29, 153, 0, 11, 25, 4, 180, 1, 124, 167, 0, 8, 25, 4]
abbrev dktX1_vote_4 : List UInt8 := dkwX1_vote_4 ++ dktX1_vote_5
def dkwX1_vote_3 : List UInt8 := [28, 4, 84, 29, 153, 0, 17, 25, 4, 89, 180, 1, 124, 4, 96, 181, 1, 124, 167, 0, 14, 25, 4, 89]
abbrev dktX1_vote_3 : List UInt8 := dkwX1_vote_3 ++ dktX1_vote_4
def dkwX1_vote_2 : List UInt8 := [154, 0, 6, 16, 254, 172, 25, 4, 180, 1, 121, 28, 51, 153, 0, 6, 16, 253, 172, 25, 4, 180, 1, 121]
abbrev dktX1_vote_2 : List UInt8 := dkwX1_vote_2 ++ dktX1_vote_3
def dkwX1_vote_1 : List UInt8 := [25, 5, 182, 1, 12, 153, 0, 20, 25, 5, 180, 0, 221, 154, 0, 15, 42, 25, 5, 182, 1, 15]
abbrev dktX1_vote_1 : List UInt8 := dkwX1_vote_1 ++ dktX1_vote_2
def dkwX1_vote_0 : List UInt8 := [42, 27, 182, 1, 116, 58, 4, 42, 28, 182, 0, 202, 58, 5, 25, 4, 180, 1, 120, 153, 0, 5, 2, 172]
abbrev dktX1_vote_0 : List UInt8 := dkwX1_vote_0 ++ dktX1_vote_1
theorem dksX1_vote_0 : cX1_vote.data.toList.drop 0 = dktX1_vote_0 := by decide +kernel
theorem dksX1_vote_1 : cX1_vote.data.toList.drop 24 = dktX1_vote_1 := dk_seg dksX1_vote_0 24 rfl rfl
theorem dksX1_vote_2 : cX1_vote.data.toList.drop 46 = dktX1_vote_2 := dk_seg dksX1_vote_1 22 rfl rfl
theorem dksX1_vote_3 : cX1_vote.data.toList.drop 70 = dktX1_vote_3 := dk_seg dksX1_vote_2 24 rfl rfl
theorem dksX1_vote_4 : cX1_vote.data.toList.drop 94 = dktX1_vote_4 := dk_seg dksX1_vote_3 24 rfl rfl
theorem dksX1_vote_5 : cX1_vote.data.toList.drop 116 = dktX1_vote_5 := dk_seg dksX1_vote_4 22 rfl rfl
theorem dX1_vote_0 : decode cX1_vote 0 = .ok (.aload_n 0, 1) := dk_42 (dk_at dksX1_vote_0 0 rfl rfl)
theorem dX1_vote_1 : decode cX1_vote 1 = .ok (.iload_n 1, 1) := dk_27 (dk_at dksX1_vote_0 1 rfl rfl)
theorem dX1_vote_2 : decode cX1_vote 2 = .ok (.invokevirtual 372, 3) := dk_182 1 116 (dk_at dksX1_vote_0 2 rfl rfl)
theorem dX1_vote_5 : decode cX1_vote 5 = .ok (.astore 4, 2) := dk_58 4 (dk_at dksX1_vote_0 5 rfl rfl)
theorem dX1_vote_7 : decode cX1_vote 7 = .ok (.aload_n 0, 1) := dk_42 (dk_at dksX1_vote_0 7 rfl rfl)
theorem dX1_vote_8 : decode cX1_vote 8 = .ok (.iload_n 2, 1) := dk_28 (dk_at dksX1_vote_0 8 rfl rfl)
theorem dX1_vote_9 : decode cX1_vote 9 = .ok (.invokevirtual 202, 3) := dk_182 0 202 (dk_at dksX1_vote_0 9 rfl rfl)
theorem dX1_vote_12 : decode cX1_vote 12 = .ok (.astore 5, 2) := dk_58 5 (dk_at dksX1_vote_0 12 rfl rfl)
theorem dX1_vote_14 : decode cX1_vote 14 = .ok (.aload 4, 2) := dk_25 4 (dk_at dksX1_vote_0 14 rfl rfl)
theorem dX1_vote_16 : decode cX1_vote 16 = .ok (.getfield 376, 3) := dk_180 1 120 (dk_at dksX1_vote_0 16 rfl rfl)
theorem dX1_vote_19 : decode cX1_vote 19 = .ok (.ifCond .eq 5, 3) := dk_153 0 5 (dk_at dksX1_vote_0 19 rfl rfl)
theorem dX1_vote_22 : decode cX1_vote 22 = .ok (.iconst (-1), 1) := dk_2 (dk_at dksX1_vote_0 22 rfl rfl)
theorem dX1_vote_23 : decode cX1_vote 23 = .ok (.ireturn, 1) := dk_172 (dk_at dksX1_vote_0 23 rfl rfl)
theorem dX1_vote_24 : decode cX1_vote 24 = .ok (.aload 5, 2) := dk_25 5 (dk_at dksX1_vote_1 0 rfl rfl)
theorem dX1_vote_26 : decode cX1_vote 26 = .ok (.invokevirtual 268, 3) := dk_182 1 12 (dk_at dksX1_vote_1 2 rfl rfl)
theorem dX1_vote_29 : decode cX1_vote 29 = .ok (.ifCond .eq 20, 3) := dk_153 0 20 (dk_at dksX1_vote_1 5 rfl rfl)
theorem dX1_vote_32 : decode cX1_vote 32 = .ok (.aload 5, 2) := dk_25 5 (dk_at dksX1_vote_1 8 rfl rfl)
theorem dX1_vote_34 : decode cX1_vote 34 = .ok (.getfield 221, 3) := dk_180 0 221 (dk_at dksX1_vote_1 10 rfl rfl)
theorem dX1_vote_37 : decode cX1_vote 37 = .ok (.ifCond .ne 15, 3) := dk_154 0 15 (dk_at dksX1_vote_1 13 rfl rfl)
theorem dX1_vote_40 : decode cX1_vote 40 = .ok (.aload_n 0, 1) := dk_42 (dk_at dksX1_vote_1 16 rfl rfl)
theorem dX1_vote_41 : decode cX1_vote 41 = .ok (.aload 5, 2) := dk_25 5 (dk_at dksX1_vote_1 17 rfl rfl)
theorem dX1_vote_43 : decode cX1_vote 43 = .ok (.invokevirtual 271, 3) := dk_182 1 15 (dk_at dksX1_vote_1 19 rfl rfl)
theorem dX1_vote_46 : decode cX1_vote 46 = .ok (.ifCond .ne 6, 3) := dk_154 0 6 (dk_at dksX1_vote_2 0 rfl rfl)
theorem dX1_vote_49 : decode cX1_vote 49 = .ok (.bipush (-2), 2) := dk_16 254 (dk_at dksX1_vote_2 3 rfl rfl)
theorem dX1_vote_51 : decode cX1_vote 51 = .ok (.ireturn, 1) := dk_172 (dk_at dksX1_vote_2 5 rfl rfl)
theorem dX1_vote_52 : decode cX1_vote 52 = .ok (.aload 4, 2) := dk_25 4 (dk_at dksX1_vote_2 6 rfl rfl)
theorem dX1_vote_54 : decode cX1_vote 54 = .ok (.getfield 377, 3) := dk_180 1 121 (dk_at dksX1_vote_2 8 rfl rfl)
theorem dX1_vote_57 : decode cX1_vote 57 = .ok (.iload_n 2, 1) := dk_28 (dk_at dksX1_vote_2 11 rfl rfl)
theorem dX1_vote_58 : decode cX1_vote 58 = .ok (.baload, 1) := dk_51 (dk_at dksX1_vote_2 12 rfl rfl)
theorem dX1_vote_59 : decode cX1_vote 59 = .ok (.ifCond .eq 6, 3) := dk_153 0 6 (dk_at dksX1_vote_2 13 rfl rfl)
theorem dX1_vote_62 : decode cX1_vote 62 = .ok (.bipush (-3), 2) := dk_16 253 (dk_at dksX1_vote_2 16 rfl rfl)
theorem dX1_vote_64 : decode cX1_vote 64 = .ok (.ireturn, 1) := dk_172 (dk_at dksX1_vote_2 18 rfl rfl)
theorem dX1_vote_65 : decode cX1_vote 65 = .ok (.aload 4, 2) := dk_25 4 (dk_at dksX1_vote_2 19 rfl rfl)
theorem dX1_vote_67 : decode cX1_vote 67 = .ok (.getfield 377, 3) := dk_180 1 121 (dk_at dksX1_vote_2 21 rfl rfl)
theorem dX1_vote_70 : decode cX1_vote 70 = .ok (.iload_n 2, 1) := dk_28 (dk_at dksX1_vote_3 0 rfl rfl)
theorem dX1_vote_71 : decode cX1_vote 71 = .ok (.iconst 1, 1) := dk_4 (dk_at dksX1_vote_3 1 rfl rfl)
theorem dX1_vote_72 : decode cX1_vote 72 = .ok (.bastore, 1) := dk_84 (dk_at dksX1_vote_3 2 rfl rfl)
theorem dX1_vote_73 : decode cX1_vote 73 = .ok (.iload_n 3, 1) := dk_29 (dk_at dksX1_vote_3 3 rfl rfl)
theorem dX1_vote_74 : decode cX1_vote 74 = .ok (.ifCond .eq 17, 3) := dk_153 0 17 (dk_at dksX1_vote_3 4 rfl rfl)
theorem dX1_vote_77 : decode cX1_vote 77 = .ok (.aload 4, 2) := dk_25 4 (dk_at dksX1_vote_3 7 rfl rfl)
theorem dX1_vote_79 : decode cX1_vote 79 = .ok (.dup, 1) := dk_89 (dk_at dksX1_vote_3 9 rfl rfl)
theorem dX1_vote_80 : decode cX1_vote 80 = .ok (.getfield 380, 3) := dk_180 1 124 (dk_at dksX1_vote_3 10 rfl rfl)
theorem dX1_vote_83 : decode cX1_vote 83 = .ok (.iconst 1, 1) := dk_4 (dk_at dksX1_vote_3 13 rfl rfl)
theorem dX1_vote_84 : decode cX1_vote 84 = .ok (.iadd, 1) := dk_96 (dk_at dksX1_vote_3 14 rfl rfl)
theorem dX1_vote_85 : decode cX1_vote 85 = .ok (.putfield 380, 3) := dk_181 1 124 (dk_at dksX1_vote_3 15 rfl rfl)
theorem dX1_vote_88 : decode cX1_vote 88 = .ok (.goto 14, 3) := dk_167 0 14 (dk_at dksX1_vote_3 18 rfl rfl)
theorem dX1_vote_91 : decode cX1_vote 91 = .ok (.aload 4, 2) := dk_25 4 (dk_at dksX1_vote_3 21 rfl rfl)
theorem dX1_vote_93 : decode cX1_vote 93 = .ok (.dup, 1) := dk_89 (dk_at dksX1_vote_3 23 rfl rfl)
theorem dX1_vote_94 : decode cX1_vote 94 = .ok (.getfield 383, 3) := dk_180 1 127 (dk_at dksX1_vote_4 0 rfl rfl)
theorem dX1_vote_97 : decode cX1_vote 97 = .ok (.iconst 1, 1) := dk_4 (dk_at dksX1_vote_4 3 rfl rfl)
theorem dX1_vote_98 : decode cX1_vote 98 = .ok (.iadd, 1) := dk_96 (dk_at dksX1_vote_4 4 rfl rfl)
theorem dX1_vote_99 : decode cX1_vote 99 = .ok (.putfield 383, 3) := dk_181 1 127 (dk_at dksX1_vote_4 5 rfl rfl)
theorem dX1_vote_102 : decode cX1_vote 102 = .ok (.iload_n 3, 1) := dk_29 (dk_at dksX1_vote_4 8 rfl rfl)
theorem dX1_vote_103 : decode cX1_vote 103 = .ok (.ifCond .eq 11, 3) := dk_153 0 11 (dk_at dksX1_vote_4 9 rfl rfl)
theorem dX1_vote_106 : decode cX1_vote 106 = .ok (.aload 4, 2) := dk_25 4 (dk_at dksX1_vote_4 12 rfl rfl)
theorem dX1_vote_108 : decode cX1_vote 108 = .ok (.getfield 380, 3) := dk_180 1 124 (dk_at dksX1_vote_4 14 rfl rfl)
theorem dX1_vote_111 : decode cX1_vote 111 = .ok (.goto 8, 3) := dk_167 0 8 (dk_at dksX1_vote_4 17 rfl rfl)
theorem dX1_vote_114 : decode cX1_vote 114 = .ok (.aload 4, 2) := dk_25 4 (dk_at dksX1_vote_4 20 rfl rfl)
theorem dX1_vote_116 : decode cX1_vote 116 = .ok (.getfield 383, 3) := dk_180 1 127 (dk_at dksX1_vote_5 0 rfl rfl)
theorem dX1_vote_119 : decode cX1_vote 119 = .ok (.ireturn, 1) := dk_172 (dk_at dksX1_vote_5 3 rfl rfl)
def dkwX1_lawOf_1 : List UInt8 := [182, 0, 81, 192, 1, 95, 176]
abbrev dktX1_lawOf_1 : List UInt8 := dkwX1_lawOf_1 ++ []
def dkwX1_lawOf_0 : List UInt8 := [27, 42, 180, 0, 12, 180, 1, 92, 182, 0, 90, 184, 0, 74, 42, 180, 0, 12, 180, 1, 92, 27]
abbrev dktX1_lawOf_0 : List UInt8 := dkwX1_lawOf_0 ++ dktX1_lawOf_1
theorem dksX1_lawOf_0 : cX1_lawOf.data.toList.drop 0 = dktX1_lawOf_0 := by decide +kernel
theorem dksX1_lawOf_1 : cX1_lawOf.data.toList.drop 22 = dktX1_lawOf_1 := dk_seg dksX1_lawOf_0 22 rfl rfl
theorem dX1_lawOf_0 : decode cX1_lawOf 0 = .ok (.iload_n 1, 1) := dk_27 (dk_at dksX1_lawOf_0 0 rfl rfl)
theorem dX1_lawOf_1 : decode cX1_lawOf 1 = .ok (.aload_n 0, 1) := dk_42 (dk_at dksX1_lawOf_0 1 rfl rfl)
theorem dX1_lawOf_2 : decode cX1_lawOf 2 = .ok (.getfield 12, 3) := dk_180 0 12 (dk_at dksX1_lawOf_0 2 rfl rfl)
theorem dX1_lawOf_5 : decode cX1_lawOf 5 = .ok (.getfield 348, 3) := dk_180 1 92 (dk_at dksX1_lawOf_0 5 rfl rfl)
theorem dX1_lawOf_8 : decode cX1_lawOf 8 = .ok (.invokevirtual 90, 3) := dk_182 0 90 (dk_at dksX1_lawOf_0 8 rfl rfl)
theorem dX1_lawOf_11 : decode cX1_lawOf 11 = .ok (.invokestatic 74, 3) := dk_184 0 74 (dk_at dksX1_lawOf_0 11 rfl rfl)
theorem dX1_lawOf_14 : decode cX1_lawOf 14 = .ok (.aload_n 0, 1) := dk_42 (dk_at dksX1_lawOf_0 14 rfl rfl)
theorem dX1_lawOf_15 : decode cX1_lawOf 15 = .ok (.getfield 12, 3) := dk_180 0 12 (dk_at dksX1_lawOf_0 15 rfl rfl)
theorem dX1_lawOf_18 : decode cX1_lawOf 18 = .ok (.getfield 348, 3) := dk_180 1 92 (dk_at dksX1_lawOf_0 18 rfl rfl)
theorem dX1_lawOf_21 : decode cX1_lawOf 21 = .ok (.iload_n 1, 1) := dk_27 (dk_at dksX1_lawOf_0 21 rfl rfl)
theorem dX1_lawOf_22 : decode cX1_lawOf 22 = .ok (.invokevirtual 81, 3) := dk_182 0 81 (dk_at dksX1_lawOf_1 0 rfl rfl)
theorem dX1_lawOf_25 : decode cX1_lawOf 25 = .ok (.checkcast 351, 3) := dk_192 1 95 (dk_at dksX1_lawOf_1 3 rfl rfl)
theorem dX1_lawOf_28 : decode cX1_lawOf 28 = .ok (.areturn, 1) := dk_176 (dk_at dksX1_lawOf_1 6 rfl rfl)
def dkwX1_close_3 : List UInt8 := [180, 1, 47, 181, 1, 130, 44, 180, 1, 120, 172]
abbrev dktX1_close_3 : List UInt8 := dkwX1_close_3 ++ []
def dkwX1_close_2 : List UInt8 := [62, 44, 29, 153, 0, 7, 5, 167, 0, 4, 4, 181, 1, 120, 29, 153, 0, 14, 44, 42, 180, 0, 12]
abbrev dktX1_close_2 : List UInt8 := dkwX1_close_2 ++ dktX1_close_3
def dkwX1_close_1 : List UInt8 := [164, 0, 23, 44, 180, 1, 124, 42, 180, 0, 12, 8, 3, 182, 1, 50, 161, 0, 7, 4, 167, 0, 4, 3]
abbrev dktX1_close_1 : List UInt8 := dkwX1_close_1 ++ dktX1_close_2
def dkwX1_close_0 : List UInt8 := [42, 27, 182, 1, 116, 77, 44, 180, 1, 120, 153, 0, 5, 2, 172, 44, 180, 1, 124, 44, 180, 1, 127]
abbrev dktX1_close_0 : List UInt8 := dkwX1_close_0 ++ dktX1_close_1
theorem dksX1_close_0 : cX1_close.data.toList.drop 0 = dktX1_close_0 := by decide +kernel
theorem dksX1_close_1 : cX1_close.data.toList.drop 23 = dktX1_close_1 := dk_seg dksX1_close_0 23 rfl rfl
theorem dksX1_close_2 : cX1_close.data.toList.drop 47 = dktX1_close_2 := dk_seg dksX1_close_1 24 rfl rfl
theorem dksX1_close_3 : cX1_close.data.toList.drop 70 = dktX1_close_3 := dk_seg dksX1_close_2 23 rfl rfl
theorem dX1_close_0 : decode cX1_close 0 = .ok (.aload_n 0, 1) := dk_42 (dk_at dksX1_close_0 0 rfl rfl)
theorem dX1_close_1 : decode cX1_close 1 = .ok (.iload_n 1, 1) := dk_27 (dk_at dksX1_close_0 1 rfl rfl)
theorem dX1_close_2 : decode cX1_close 2 = .ok (.invokevirtual 372, 3) := dk_182 1 116 (dk_at dksX1_close_0 2 rfl rfl)
theorem dX1_close_5 : decode cX1_close 5 = .ok (.astore_n 2, 1) := dk_77 (dk_at dksX1_close_0 5 rfl rfl)
theorem dX1_close_6 : decode cX1_close 6 = .ok (.aload_n 2, 1) := dk_44 (dk_at dksX1_close_0 6 rfl rfl)
theorem dX1_close_7 : decode cX1_close 7 = .ok (.getfield 376, 3) := dk_180 1 120 (dk_at dksX1_close_0 7 rfl rfl)
theorem dX1_close_10 : decode cX1_close 10 = .ok (.ifCond .eq 5, 3) := dk_153 0 5 (dk_at dksX1_close_0 10 rfl rfl)
theorem dX1_close_13 : decode cX1_close 13 = .ok (.iconst (-1), 1) := dk_2 (dk_at dksX1_close_0 13 rfl rfl)
theorem dX1_close_14 : decode cX1_close 14 = .ok (.ireturn, 1) := dk_172 (dk_at dksX1_close_0 14 rfl rfl)
theorem dX1_close_15 : decode cX1_close 15 = .ok (.aload_n 2, 1) := dk_44 (dk_at dksX1_close_0 15 rfl rfl)
theorem dX1_close_16 : decode cX1_close 16 = .ok (.getfield 380, 3) := dk_180 1 124 (dk_at dksX1_close_0 16 rfl rfl)
theorem dX1_close_19 : decode cX1_close 19 = .ok (.aload_n 2, 1) := dk_44 (dk_at dksX1_close_0 19 rfl rfl)
theorem dX1_close_20 : decode cX1_close 20 = .ok (.getfield 383, 3) := dk_180 1 127 (dk_at dksX1_close_0 20 rfl rfl)
theorem dX1_close_23 : decode cX1_close 23 = .ok (.if_icmp .le 23, 3) := dk_164 0 23 (dk_at dksX1_close_1 0 rfl rfl)
theorem dX1_close_26 : decode cX1_close 26 = .ok (.aload_n 2, 1) := dk_44 (dk_at dksX1_close_1 3 rfl rfl)
theorem dX1_close_27 : decode cX1_close 27 = .ok (.getfield 380, 3) := dk_180 1 124 (dk_at dksX1_close_1 4 rfl rfl)
theorem dX1_close_30 : decode cX1_close 30 = .ok (.aload_n 0, 1) := dk_42 (dk_at dksX1_close_1 7 rfl rfl)
theorem dX1_close_31 : decode cX1_close 31 = .ok (.getfield 12, 3) := dk_180 0 12 (dk_at dksX1_close_1 8 rfl rfl)
theorem dX1_close_34 : decode cX1_close 34 = .ok (.iconst 5, 1) := dk_8 (dk_at dksX1_close_1 11 rfl rfl)
theorem dX1_close_35 : decode cX1_close 35 = .ok (.iconst 0, 1) := dk_3 (dk_at dksX1_close_1 12 rfl rfl)
theorem dX1_close_36 : decode cX1_close 36 = .ok (.invokevirtual 306, 3) := dk_182 1 50 (dk_at dksX1_close_1 13 rfl rfl)
theorem dX1_close_39 : decode cX1_close 39 = .ok (.if_icmp .lt 7, 3) := dk_161 0 7 (dk_at dksX1_close_1 16 rfl rfl)
theorem dX1_close_42 : decode cX1_close 42 = .ok (.iconst 1, 1) := dk_4 (dk_at dksX1_close_1 19 rfl rfl)
theorem dX1_close_43 : decode cX1_close 43 = .ok (.goto 4, 3) := dk_167 0 4 (dk_at dksX1_close_1 20 rfl rfl)
theorem dX1_close_46 : decode cX1_close 46 = .ok (.iconst 0, 1) := dk_3 (dk_at dksX1_close_1 23 rfl rfl)
theorem dX1_close_47 : decode cX1_close 47 = .ok (.istore_n 3, 1) := dk_62 (dk_at dksX1_close_2 0 rfl rfl)
theorem dX1_close_48 : decode cX1_close 48 = .ok (.aload_n 2, 1) := dk_44 (dk_at dksX1_close_2 1 rfl rfl)
theorem dX1_close_49 : decode cX1_close 49 = .ok (.iload_n 3, 1) := dk_29 (dk_at dksX1_close_2 2 rfl rfl)
theorem dX1_close_50 : decode cX1_close 50 = .ok (.ifCond .eq 7, 3) := dk_153 0 7 (dk_at dksX1_close_2 3 rfl rfl)
theorem dX1_close_53 : decode cX1_close 53 = .ok (.iconst 2, 1) := dk_5 (dk_at dksX1_close_2 6 rfl rfl)
theorem dX1_close_54 : decode cX1_close 54 = .ok (.goto 4, 3) := dk_167 0 4 (dk_at dksX1_close_2 7 rfl rfl)
theorem dX1_close_57 : decode cX1_close 57 = .ok (.iconst 1, 1) := dk_4 (dk_at dksX1_close_2 10 rfl rfl)
theorem dX1_close_58 : decode cX1_close 58 = .ok (.putfield 376, 3) := dk_181 1 120 (dk_at dksX1_close_2 11 rfl rfl)
theorem dX1_close_61 : decode cX1_close 61 = .ok (.iload_n 3, 1) := dk_29 (dk_at dksX1_close_2 14 rfl rfl)
theorem dX1_close_62 : decode cX1_close 62 = .ok (.ifCond .eq 14, 3) := dk_153 0 14 (dk_at dksX1_close_2 15 rfl rfl)
theorem dX1_close_65 : decode cX1_close 65 = .ok (.aload_n 2, 1) := dk_44 (dk_at dksX1_close_2 18 rfl rfl)
theorem dX1_close_66 : decode cX1_close 66 = .ok (.aload_n 0, 1) := dk_42 (dk_at dksX1_close_2 19 rfl rfl)
theorem dX1_close_67 : decode cX1_close 67 = .ok (.getfield 12, 3) := dk_180 0 12 (dk_at dksX1_close_2 20 rfl rfl)
theorem dX1_close_70 : decode cX1_close 70 = .ok (.getfield 303, 3) := dk_180 1 47 (dk_at dksX1_close_3 0 rfl rfl)
theorem dX1_close_73 : decode cX1_close 73 = .ok (.putfield 386, 3) := dk_181 1 130 (dk_at dksX1_close_3 3 rfl rfl)
theorem dX1_close_76 : decode cX1_close 76 = .ok (.aload_n 2, 1) := dk_44 (dk_at dksX1_close_3 6 rfl rfl)
theorem dX1_close_77 : decode cX1_close 77 = .ok (.getfield 376, 3) := dk_180 1 120 (dk_at dksX1_close_3 7 rfl rfl)
theorem dX1_close_80 : decode cX1_close 80 = .ok (.ireturn, 1) := dk_172 (dk_at dksX1_close_3 10 rfl rfl)
def dkwX1_assent_2 : List UInt8 := [42, 180, 0, 12, 180, 1, 47, 16, 34, 96, 181, 1, 133, 45, 28, 181, 1, 136, 45, 180, 1, 133, 172]
abbrev dktX1_assent_2 : List UInt8 := dkwX1_assent_2 ++ []
def dkwX1_assent_1 : List UInt8 := [180, 1, 130, 16, 34, 96, 162, 0, 6, 16, 254, 172, 45, 180, 1, 133, 2, 159, 0, 6, 16, 253, 172, 45]
abbrev dktX1_assent_1 : List UInt8 := dkwX1_assent_1 ++ dktX1_assent_2
def dkwX1_assent_0 : List UInt8 := [42, 27, 182, 1, 116, 78, 45, 180, 1, 120, 5, 159, 0, 5, 2, 172, 42, 180, 0, 12, 180, 1, 47, 45]
abbrev dktX1_assent_0 : List UInt8 := dkwX1_assent_0 ++ dktX1_assent_1
theorem dksX1_assent_0 : cX1_assent.data.toList.drop 0 = dktX1_assent_0 := by decide +kernel
theorem dksX1_assent_1 : cX1_assent.data.toList.drop 24 = dktX1_assent_1 := dk_seg dksX1_assent_0 24 rfl rfl
theorem dksX1_assent_2 : cX1_assent.data.toList.drop 48 = dktX1_assent_2 := dk_seg dksX1_assent_1 24 rfl rfl
theorem dX1_assent_0 : decode cX1_assent 0 = .ok (.aload_n 0, 1) := dk_42 (dk_at dksX1_assent_0 0 rfl rfl)
theorem dX1_assent_1 : decode cX1_assent 1 = .ok (.iload_n 1, 1) := dk_27 (dk_at dksX1_assent_0 1 rfl rfl)
theorem dX1_assent_2 : decode cX1_assent 2 = .ok (.invokevirtual 372, 3) := dk_182 1 116 (dk_at dksX1_assent_0 2 rfl rfl)
theorem dX1_assent_5 : decode cX1_assent 5 = .ok (.astore_n 3, 1) := dk_78 (dk_at dksX1_assent_0 5 rfl rfl)
theorem dX1_assent_6 : decode cX1_assent 6 = .ok (.aload_n 3, 1) := dk_45 (dk_at dksX1_assent_0 6 rfl rfl)
theorem dX1_assent_7 : decode cX1_assent 7 = .ok (.getfield 376, 3) := dk_180 1 120 (dk_at dksX1_assent_0 7 rfl rfl)
theorem dX1_assent_10 : decode cX1_assent 10 = .ok (.iconst 2, 1) := dk_5 (dk_at dksX1_assent_0 10 rfl rfl)
theorem dX1_assent_11 : decode cX1_assent 11 = .ok (.if_icmp .eq 5, 3) := dk_159 0 5 (dk_at dksX1_assent_0 11 rfl rfl)
theorem dX1_assent_14 : decode cX1_assent 14 = .ok (.iconst (-1), 1) := dk_2 (dk_at dksX1_assent_0 14 rfl rfl)
theorem dX1_assent_15 : decode cX1_assent 15 = .ok (.ireturn, 1) := dk_172 (dk_at dksX1_assent_0 15 rfl rfl)
theorem dX1_assent_16 : decode cX1_assent 16 = .ok (.aload_n 0, 1) := dk_42 (dk_at dksX1_assent_0 16 rfl rfl)
theorem dX1_assent_17 : decode cX1_assent 17 = .ok (.getfield 12, 3) := dk_180 0 12 (dk_at dksX1_assent_0 17 rfl rfl)
theorem dX1_assent_20 : decode cX1_assent 20 = .ok (.getfield 303, 3) := dk_180 1 47 (dk_at dksX1_assent_0 20 rfl rfl)
theorem dX1_assent_23 : decode cX1_assent 23 = .ok (.aload_n 3, 1) := dk_45 (dk_at dksX1_assent_0 23 rfl rfl)
theorem dX1_assent_24 : decode cX1_assent 24 = .ok (.getfield 386, 3) := dk_180 1 130 (dk_at dksX1_assent_1 0 rfl rfl)
theorem dX1_assent_27 : decode cX1_assent 27 = .ok (.bipush 34, 2) := dk_16 34 (dk_at dksX1_assent_1 3 rfl rfl)
theorem dX1_assent_29 : decode cX1_assent 29 = .ok (.iadd, 1) := dk_96 (dk_at dksX1_assent_1 5 rfl rfl)
theorem dX1_assent_30 : decode cX1_assent 30 = .ok (.if_icmp .ge 6, 3) := dk_162 0 6 (dk_at dksX1_assent_1 6 rfl rfl)
theorem dX1_assent_33 : decode cX1_assent 33 = .ok (.bipush (-2), 2) := dk_16 254 (dk_at dksX1_assent_1 9 rfl rfl)
theorem dX1_assent_35 : decode cX1_assent 35 = .ok (.ireturn, 1) := dk_172 (dk_at dksX1_assent_1 11 rfl rfl)
theorem dX1_assent_36 : decode cX1_assent 36 = .ok (.aload_n 3, 1) := dk_45 (dk_at dksX1_assent_1 12 rfl rfl)
theorem dX1_assent_37 : decode cX1_assent 37 = .ok (.getfield 389, 3) := dk_180 1 133 (dk_at dksX1_assent_1 13 rfl rfl)
theorem dX1_assent_40 : decode cX1_assent 40 = .ok (.iconst (-1), 1) := dk_2 (dk_at dksX1_assent_1 16 rfl rfl)
theorem dX1_assent_41 : decode cX1_assent 41 = .ok (.if_icmp .eq 6, 3) := dk_159 0 6 (dk_at dksX1_assent_1 17 rfl rfl)
theorem dX1_assent_44 : decode cX1_assent 44 = .ok (.bipush (-3), 2) := dk_16 253 (dk_at dksX1_assent_1 20 rfl rfl)
theorem dX1_assent_46 : decode cX1_assent 46 = .ok (.ireturn, 1) := dk_172 (dk_at dksX1_assent_1 22 rfl rfl)
theorem dX1_assent_47 : decode cX1_assent 47 = .ok (.aload_n 3, 1) := dk_45 (dk_at dksX1_assent_1 23 rfl rfl)
theorem dX1_assent_48 : decode cX1_assent 48 = .ok (.aload_n 0, 1) := dk_42 (dk_at dksX1_assent_2 0 rfl rfl)
theorem dX1_assent_49 : decode cX1_assent 49 = .ok (.getfield 12, 3) := dk_180 0 12 (dk_at dksX1_assent_2 1 rfl rfl)
theorem dX1_assent_52 : decode cX1_assent 52 = .ok (.getfield 303, 3) := dk_180 1 47 (dk_at dksX1_assent_2 4 rfl rfl)
theorem dX1_assent_55 : decode cX1_assent 55 = .ok (.bipush 34, 2) := dk_16 34 (dk_at dksX1_assent_2 7 rfl rfl)
theorem dX1_assent_57 : decode cX1_assent 57 = .ok (.iadd, 1) := dk_96 (dk_at dksX1_assent_2 9 rfl rfl)
theorem dX1_assent_58 : decode cX1_assent 58 = .ok (.putfield 389, 3) := dk_181 1 133 (dk_at dksX1_assent_2 10 rfl rfl)
theorem dX1_assent_61 : decode cX1_assent 61 = .ok (.aload_n 3, 1) := dk_45 (dk_at dksX1_assent_2 13 rfl rfl)
theorem dX1_assent_62 : decode cX1_assent 62 = .ok (.iload_n 2, 1) := dk_28 (dk_at dksX1_assent_2 14 rfl rfl)
theorem dX1_assent_63 : decode cX1_assent 63 = .ok (.putfield 392, 3) := dk_181 1 136 (dk_at dksX1_assent_2 15 rfl rfl)
theorem dX1_assent_66 : decode cX1_assent 66 = .ok (.aload_n 3, 1) := dk_45 (dk_at dksX1_assent_2 18 rfl rfl)
theorem dX1_assent_67 : decode cX1_assent 67 = .ok (.getfield 389, 3) := dk_180 1 133 (dk_at dksX1_assent_2 19 rfl rfl)
theorem dX1_assent_70 : decode cX1_assent 70 = .ok (.ireturn, 1) := dk_172 (dk_at dksX1_assent_2 22 rfl rfl)
def dkwX1_force_0 : List UInt8 := [42, 27, 182, 1, 116, 180, 1, 120, 172]
abbrev dktX1_force_0 : List UInt8 := dkwX1_force_0 ++ []
theorem dksX1_force_0 : cX1_force.data.toList.drop 0 = dktX1_force_0 := by decide +kernel
theorem dX1_force_0 : decode cX1_force 0 = .ok (.aload_n 0, 1) := dk_42 (dk_at dksX1_force_0 0 rfl rfl)
theorem dX1_force_1 : decode cX1_force 1 = .ok (.iload_n 1, 1) := dk_27 (dk_at dksX1_force_0 1 rfl rfl)
theorem dX1_force_2 : decode cX1_force 2 = .ok (.invokevirtual 372, 3) := dk_182 1 116 (dk_at dksX1_force_0 2 rfl rfl)
theorem dX1_force_5 : decode cX1_force 5 = .ok (.getfield 376, 3) := dk_180 1 120 (dk_at dksX1_force_0 5 rfl rfl)
theorem dX1_force_8 : decode cX1_force 8 = .ok (.ireturn, 1) := dk_172 (dk_at dksX1_force_0 8 rfl rfl)
def dkwX1_means_2 : List UInt8 := [180, 0, 12, 180, 0, 108, 28, 51, 182, 1, 50, 172]
abbrev dktX1_means_2 : List UInt8 := dkwX1_means_2 ++ []
def dkwX1_means_1 : List UInt8 := [167, 0, 4, 3, 184, 0, 100, 42, 180, 0, 12, 27, 28, 2, 160, 0, 7, 3, 167, 0, 12, 42]
abbrev dktX1_means_1 : List UInt8 := dkwX1_means_1 ++ dktX1_means_2
def dkwX1_means_0 : List UInt8 := [28, 2, 159, 0, 9, 42, 28, 182, 0, 96, 87, 27, 155, 0, 13, 27, 16, 8, 162, 0, 7, 4]
abbrev dktX1_means_0 : List UInt8 := dkwX1_means_0 ++ dktX1_means_1
theorem dksX1_means_0 : cX1_means.data.toList.drop 0 = dktX1_means_0 := by decide +kernel
theorem dksX1_means_1 : cX1_means.data.toList.drop 22 = dktX1_means_1 := dk_seg dksX1_means_0 22 rfl rfl
theorem dksX1_means_2 : cX1_means.data.toList.drop 44 = dktX1_means_2 := dk_seg dksX1_means_1 22 rfl rfl
theorem dX1_means_0 : decode cX1_means 0 = .ok (.iload_n 2, 1) := dk_28 (dk_at dksX1_means_0 0 rfl rfl)
theorem dX1_means_1 : decode cX1_means 1 = .ok (.iconst (-1), 1) := dk_2 (dk_at dksX1_means_0 1 rfl rfl)
theorem dX1_means_2 : decode cX1_means 2 = .ok (.if_icmp .eq 9, 3) := dk_159 0 9 (dk_at dksX1_means_0 2 rfl rfl)
theorem dX1_means_5 : decode cX1_means 5 = .ok (.aload_n 0, 1) := dk_42 (dk_at dksX1_means_0 5 rfl rfl)
theorem dX1_means_6 : decode cX1_means 6 = .ok (.iload_n 2, 1) := dk_28 (dk_at dksX1_means_0 6 rfl rfl)
theorem dX1_means_7 : decode cX1_means 7 = .ok (.invokevirtual 96, 3) := dk_182 0 96 (dk_at dksX1_means_0 7 rfl rfl)
theorem dX1_means_10 : decode cX1_means 10 = .ok (.pop, 1) := dk_87 (dk_at dksX1_means_0 10 rfl rfl)
theorem dX1_means_11 : decode cX1_means 11 = .ok (.iload_n 1, 1) := dk_27 (dk_at dksX1_means_0 11 rfl rfl)
theorem dX1_means_12 : decode cX1_means 12 = .ok (.ifCond .lt 13, 3) := dk_155 0 13 (dk_at dksX1_means_0 12 rfl rfl)
theorem dX1_means_15 : decode cX1_means 15 = .ok (.iload_n 1, 1) := dk_27 (dk_at dksX1_means_0 15 rfl rfl)
theorem dX1_means_16 : decode cX1_means 16 = .ok (.bipush 8, 2) := dk_16 8 (dk_at dksX1_means_0 16 rfl rfl)
theorem dX1_means_18 : decode cX1_means 18 = .ok (.if_icmp .ge 7, 3) := dk_162 0 7 (dk_at dksX1_means_0 18 rfl rfl)
theorem dX1_means_21 : decode cX1_means 21 = .ok (.iconst 1, 1) := dk_4 (dk_at dksX1_means_0 21 rfl rfl)
theorem dX1_means_22 : decode cX1_means 22 = .ok (.goto 4, 3) := dk_167 0 4 (dk_at dksX1_means_1 0 rfl rfl)
theorem dX1_means_25 : decode cX1_means 25 = .ok (.iconst 0, 1) := dk_3 (dk_at dksX1_means_1 3 rfl rfl)
theorem dX1_means_26 : decode cX1_means 26 = .ok (.invokestatic 100, 3) := dk_184 0 100 (dk_at dksX1_means_1 4 rfl rfl)
theorem dX1_means_29 : decode cX1_means 29 = .ok (.aload_n 0, 1) := dk_42 (dk_at dksX1_means_1 7 rfl rfl)
theorem dX1_means_30 : decode cX1_means 30 = .ok (.getfield 12, 3) := dk_180 0 12 (dk_at dksX1_means_1 8 rfl rfl)
theorem dX1_means_33 : decode cX1_means 33 = .ok (.iload_n 1, 1) := dk_27 (dk_at dksX1_means_1 11 rfl rfl)
theorem dX1_means_34 : decode cX1_means 34 = .ok (.iload_n 2, 1) := dk_28 (dk_at dksX1_means_1 12 rfl rfl)
theorem dX1_means_35 : decode cX1_means 35 = .ok (.iconst (-1), 1) := dk_2 (dk_at dksX1_means_1 13 rfl rfl)
theorem dX1_means_36 : decode cX1_means 36 = .ok (.if_icmp .ne 7, 3) := dk_160 0 7 (dk_at dksX1_means_1 14 rfl rfl)
theorem dX1_means_39 : decode cX1_means 39 = .ok (.iconst 0, 1) := dk_3 (dk_at dksX1_means_1 17 rfl rfl)
theorem dX1_means_40 : decode cX1_means 40 = .ok (.goto 12, 3) := dk_167 0 12 (dk_at dksX1_means_1 18 rfl rfl)
theorem dX1_means_43 : decode cX1_means 43 = .ok (.aload_n 0, 1) := dk_42 (dk_at dksX1_means_1 21 rfl rfl)
theorem dX1_means_44 : decode cX1_means 44 = .ok (.getfield 12, 3) := dk_180 0 12 (dk_at dksX1_means_2 0 rfl rfl)
theorem dX1_means_47 : decode cX1_means 47 = .ok (.getfield 108, 3) := dk_180 0 108 (dk_at dksX1_means_2 3 rfl rfl)
theorem dX1_means_50 : decode cX1_means 50 = .ok (.iload_n 2, 1) := dk_28 (dk_at dksX1_means_2 6 rfl rfl)
theorem dX1_means_51 : decode cX1_means 51 = .ok (.baload, 1) := dk_51 (dk_at dksX1_means_2 7 rfl rfl)
theorem dX1_means_52 : decode cX1_means 52 = .ok (.invokevirtual 306, 3) := dk_182 1 50 (dk_at dksX1_means_2 8 rfl rfl)
theorem dX1_means_55 : decode cX1_means 55 = .ok (.ireturn, 1) := dk_172 (dk_at dksX1_means_2 11 rfl rfl)
def dkwX1_why_1 : List UInt8 := [182, 1, 140, 172]
abbrev dktX1_why_1 : List UInt8 := dkwX1_why_1 ++ []
def dkwX1_why_0 : List UInt8 := [27, 155, 0, 13, 27, 16, 8, 162, 0, 7, 4, 167, 0, 4, 3, 184, 0, 100, 42, 180, 0, 12, 27]
abbrev dktX1_why_0 : List UInt8 := dkwX1_why_0 ++ dktX1_why_1
theorem dksX1_why_0 : cX1_why.data.toList.drop 0 = dktX1_why_0 := by decide +kernel
theorem dksX1_why_1 : cX1_why.data.toList.drop 23 = dktX1_why_1 := dk_seg dksX1_why_0 23 rfl rfl
theorem dX1_why_0 : decode cX1_why 0 = .ok (.iload_n 1, 1) := dk_27 (dk_at dksX1_why_0 0 rfl rfl)
theorem dX1_why_1 : decode cX1_why 1 = .ok (.ifCond .lt 13, 3) := dk_155 0 13 (dk_at dksX1_why_0 1 rfl rfl)
theorem dX1_why_4 : decode cX1_why 4 = .ok (.iload_n 1, 1) := dk_27 (dk_at dksX1_why_0 4 rfl rfl)
theorem dX1_why_5 : decode cX1_why 5 = .ok (.bipush 8, 2) := dk_16 8 (dk_at dksX1_why_0 5 rfl rfl)
theorem dX1_why_7 : decode cX1_why 7 = .ok (.if_icmp .ge 7, 3) := dk_162 0 7 (dk_at dksX1_why_0 7 rfl rfl)
theorem dX1_why_10 : decode cX1_why 10 = .ok (.iconst 1, 1) := dk_4 (dk_at dksX1_why_0 10 rfl rfl)
theorem dX1_why_11 : decode cX1_why 11 = .ok (.goto 4, 3) := dk_167 0 4 (dk_at dksX1_why_0 11 rfl rfl)
theorem dX1_why_14 : decode cX1_why 14 = .ok (.iconst 0, 1) := dk_3 (dk_at dksX1_why_0 14 rfl rfl)
theorem dX1_why_15 : decode cX1_why 15 = .ok (.invokestatic 100, 3) := dk_184 0 100 (dk_at dksX1_why_0 15 rfl rfl)
theorem dX1_why_18 : decode cX1_why 18 = .ok (.aload_n 0, 1) := dk_42 (dk_at dksX1_why_0 18 rfl rfl)
theorem dX1_why_19 : decode cX1_why 19 = .ok (.getfield 12, 3) := dk_180 0 12 (dk_at dksX1_why_0 19 rfl rfl)
theorem dX1_why_22 : decode cX1_why 22 = .ok (.iload_n 1, 1) := dk_27 (dk_at dksX1_why_0 22 rfl rfl)
theorem dX1_why_23 : decode cX1_why 23 = .ok (.invokevirtual 396, 3) := dk_182 1 140 (dk_at dksX1_why_1 0 rfl rfl)
theorem dX1_why_26 : decode cX1_why 26 = .ok (.ireturn, 1) := dk_172 (dk_at dksX1_why_1 3 rfl rfl)
def dkwX1_fund_1 : List UInt8 := [180, 1, 168, 27, 96, 181, 1, 168, 42, 180, 0, 12, 180, 1, 168, 172]
abbrev dktX1_fund_1 : List UInt8 := dkwX1_fund_1 ++ []
def dkwX1_fund_0 : List UInt8 := [27, 155, 0, 14, 27, 19, 1, 167, 163, 0, 7, 4, 167, 0, 4, 3, 184, 0, 100, 42, 180, 0, 12, 89]
abbrev dktX1_fund_0 : List UInt8 := dkwX1_fund_0 ++ dktX1_fund_1
theorem dksX1_fund_0 : cX1_fund.data.toList.drop 0 = dktX1_fund_0 := by decide +kernel
theorem dksX1_fund_1 : cX1_fund.data.toList.drop 24 = dktX1_fund_1 := dk_seg dksX1_fund_0 24 rfl rfl
theorem dX1_fund_0 : decode cX1_fund 0 = .ok (.iload_n 1, 1) := dk_27 (dk_at dksX1_fund_0 0 rfl rfl)
theorem dX1_fund_1 : decode cX1_fund 1 = .ok (.ifCond .lt 14, 3) := dk_155 0 14 (dk_at dksX1_fund_0 1 rfl rfl)
theorem dX1_fund_4 : decode cX1_fund 4 = .ok (.iload_n 1, 1) := dk_27 (dk_at dksX1_fund_0 4 rfl rfl)
theorem dX1_fund_5 : decode cX1_fund 5 = .ok (.ldc_w 423, 3) := dk_19 1 167 (dk_at dksX1_fund_0 5 rfl rfl)
theorem dX1_fund_8 : decode cX1_fund 8 = .ok (.if_icmp .gt 7, 3) := dk_163 0 7 (dk_at dksX1_fund_0 8 rfl rfl)
theorem dX1_fund_11 : decode cX1_fund 11 = .ok (.iconst 1, 1) := dk_4 (dk_at dksX1_fund_0 11 rfl rfl)
theorem dX1_fund_12 : decode cX1_fund 12 = .ok (.goto 4, 3) := dk_167 0 4 (dk_at dksX1_fund_0 12 rfl rfl)
theorem dX1_fund_15 : decode cX1_fund 15 = .ok (.iconst 0, 1) := dk_3 (dk_at dksX1_fund_0 15 rfl rfl)
theorem dX1_fund_16 : decode cX1_fund 16 = .ok (.invokestatic 100, 3) := dk_184 0 100 (dk_at dksX1_fund_0 16 rfl rfl)
theorem dX1_fund_19 : decode cX1_fund 19 = .ok (.aload_n 0, 1) := dk_42 (dk_at dksX1_fund_0 19 rfl rfl)
theorem dX1_fund_20 : decode cX1_fund 20 = .ok (.getfield 12, 3) := dk_180 0 12 (dk_at dksX1_fund_0 20 rfl rfl)
theorem dX1_fund_23 : decode cX1_fund 23 = .ok (.dup, 1) := dk_89 (dk_at dksX1_fund_0 23 rfl rfl)
theorem dX1_fund_24 : decode cX1_fund 24 = .ok (.getfield 424, 3) := dk_180 1 168 (dk_at dksX1_fund_1 0 rfl rfl)
theorem dX1_fund_27 : decode cX1_fund 27 = .ok (.iload_n 1, 1) := dk_27 (dk_at dksX1_fund_1 3 rfl rfl)
theorem dX1_fund_28 : decode cX1_fund 28 = .ok (.iadd, 1) := dk_96 (dk_at dksX1_fund_1 4 rfl rfl)
theorem dX1_fund_29 : decode cX1_fund 29 = .ok (.putfield 424, 3) := dk_181 1 168 (dk_at dksX1_fund_1 5 rfl rfl)
theorem dX1_fund_32 : decode cX1_fund 32 = .ok (.aload_n 0, 1) := dk_42 (dk_at dksX1_fund_1 8 rfl rfl)
theorem dX1_fund_33 : decode cX1_fund 33 = .ok (.getfield 12, 3) := dk_180 0 12 (dk_at dksX1_fund_1 9 rfl rfl)
theorem dX1_fund_36 : decode cX1_fund 36 = .ok (.getfield 424, 3) := dk_180 1 168 (dk_at dksX1_fund_1 12 rfl rfl)
theorem dX1_fund_39 : decode cX1_fund 39 = .ok (.ireturn, 1) := dk_172 (dk_at dksX1_fund_1 15 rfl rfl)
def dkwX1_bill_3 : List UInt8 := [96, 181, 1, 71, 42, 180, 0, 12, 180, 1, 171, 182, 0, 90, 4, 100, 172]
abbrev dktX1_bill_3 : List UInt8 := dkwX1_bill_3 ++ []
def dkwX1_bill_2 : List UInt8 := [27, 42, 180, 0, 12, 180, 1, 47, 183, 1, 176, 182, 0, 199, 87, 42, 180, 0, 12, 89, 180, 1, 71, 27]
abbrev dktX1_bill_2 : List UInt8 := dkwX1_bill_2 ++ dktX1_bill_3
def dkwX1_bill_1 : List UInt8 := [180, 1, 171, 182, 0, 90, 16, 20, 160, 0, 5, 2, 172, 42, 180, 0, 12, 180, 1, 171, 187, 1, 174, 89]
abbrev dktX1_bill_1 : List UInt8 := dkwX1_bill_1 ++ dktX1_bill_2
def dkwX1_bill_0 : List UInt8 := [27, 4, 161, 0, 14, 27, 17, 39, 16, 163, 0, 7, 4, 167, 0, 4, 3, 184, 0, 100, 42, 180, 0, 12]
abbrev dktX1_bill_0 : List UInt8 := dkwX1_bill_0 ++ dktX1_bill_1
theorem dksX1_bill_0 : cX1_bill.data.toList.drop 0 = dktX1_bill_0 := by decide +kernel
theorem dksX1_bill_1 : cX1_bill.data.toList.drop 24 = dktX1_bill_1 := dk_seg dksX1_bill_0 24 rfl rfl
theorem dksX1_bill_2 : cX1_bill.data.toList.drop 48 = dktX1_bill_2 := dk_seg dksX1_bill_1 24 rfl rfl
theorem dksX1_bill_3 : cX1_bill.data.toList.drop 72 = dktX1_bill_3 := dk_seg dksX1_bill_2 24 rfl rfl
theorem dX1_bill_0 : decode cX1_bill 0 = .ok (.iload_n 1, 1) := dk_27 (dk_at dksX1_bill_0 0 rfl rfl)
theorem dX1_bill_1 : decode cX1_bill 1 = .ok (.iconst 1, 1) := dk_4 (dk_at dksX1_bill_0 1 rfl rfl)
theorem dX1_bill_2 : decode cX1_bill 2 = .ok (.if_icmp .lt 14, 3) := dk_161 0 14 (dk_at dksX1_bill_0 2 rfl rfl)
theorem dX1_bill_5 : decode cX1_bill 5 = .ok (.iload_n 1, 1) := dk_27 (dk_at dksX1_bill_0 5 rfl rfl)
theorem dX1_bill_6 : decode cX1_bill 6 = .ok (.sipush 10000, 3) := dk_17 39 16 (dk_at dksX1_bill_0 6 rfl rfl)
theorem dX1_bill_9 : decode cX1_bill 9 = .ok (.if_icmp .gt 7, 3) := dk_163 0 7 (dk_at dksX1_bill_0 9 rfl rfl)
theorem dX1_bill_12 : decode cX1_bill 12 = .ok (.iconst 1, 1) := dk_4 (dk_at dksX1_bill_0 12 rfl rfl)
theorem dX1_bill_13 : decode cX1_bill 13 = .ok (.goto 4, 3) := dk_167 0 4 (dk_at dksX1_bill_0 13 rfl rfl)
theorem dX1_bill_16 : decode cX1_bill 16 = .ok (.iconst 0, 1) := dk_3 (dk_at dksX1_bill_0 16 rfl rfl)
theorem dX1_bill_17 : decode cX1_bill 17 = .ok (.invokestatic 100, 3) := dk_184 0 100 (dk_at dksX1_bill_0 17 rfl rfl)
theorem dX1_bill_20 : decode cX1_bill 20 = .ok (.aload_n 0, 1) := dk_42 (dk_at dksX1_bill_0 20 rfl rfl)
theorem dX1_bill_21 : decode cX1_bill 21 = .ok (.getfield 12, 3) := dk_180 0 12 (dk_at dksX1_bill_0 21 rfl rfl)
theorem dX1_bill_24 : decode cX1_bill 24 = .ok (.getfield 427, 3) := dk_180 1 171 (dk_at dksX1_bill_1 0 rfl rfl)
theorem dX1_bill_27 : decode cX1_bill 27 = .ok (.invokevirtual 90, 3) := dk_182 0 90 (dk_at dksX1_bill_1 3 rfl rfl)
theorem dX1_bill_30 : decode cX1_bill 30 = .ok (.bipush 20, 2) := dk_16 20 (dk_at dksX1_bill_1 6 rfl rfl)
theorem dX1_bill_32 : decode cX1_bill 32 = .ok (.if_icmp .ne 5, 3) := dk_160 0 5 (dk_at dksX1_bill_1 8 rfl rfl)
theorem dX1_bill_35 : decode cX1_bill 35 = .ok (.iconst (-1), 1) := dk_2 (dk_at dksX1_bill_1 11 rfl rfl)
theorem dX1_bill_36 : decode cX1_bill 36 = .ok (.ireturn, 1) := dk_172 (dk_at dksX1_bill_1 12 rfl rfl)
theorem dX1_bill_37 : decode cX1_bill 37 = .ok (.aload_n 0, 1) := dk_42 (dk_at dksX1_bill_1 13 rfl rfl)
theorem dX1_bill_38 : decode cX1_bill 38 = .ok (.getfield 12, 3) := dk_180 0 12 (dk_at dksX1_bill_1 14 rfl rfl)
theorem dX1_bill_41 : decode cX1_bill 41 = .ok (.getfield 427, 3) := dk_180 1 171 (dk_at dksX1_bill_1 17 rfl rfl)
theorem dX1_bill_44 : decode cX1_bill 44 = .ok (.new 430, 3) := dk_187 1 174 (dk_at dksX1_bill_1 20 rfl rfl)
theorem dX1_bill_47 : decode cX1_bill 47 = .ok (.dup, 1) := dk_89 (dk_at dksX1_bill_1 23 rfl rfl)
theorem dX1_bill_48 : decode cX1_bill 48 = .ok (.iload_n 1, 1) := dk_27 (dk_at dksX1_bill_2 0 rfl rfl)
theorem dX1_bill_49 : decode cX1_bill 49 = .ok (.aload_n 0, 1) := dk_42 (dk_at dksX1_bill_2 1 rfl rfl)
theorem dX1_bill_50 : decode cX1_bill 50 = .ok (.getfield 12, 3) := dk_180 0 12 (dk_at dksX1_bill_2 2 rfl rfl)
theorem dX1_bill_53 : decode cX1_bill 53 = .ok (.getfield 303, 3) := dk_180 1 47 (dk_at dksX1_bill_2 5 rfl rfl)
theorem dX1_bill_56 : decode cX1_bill 56 = .ok (.invokespecial 432, 3) := dk_183 1 176 (dk_at dksX1_bill_2 8 rfl rfl)
theorem dX1_bill_59 : decode cX1_bill 59 = .ok (.invokevirtual 199, 3) := dk_182 0 199 (dk_at dksX1_bill_2 11 rfl rfl)
theorem dX1_bill_62 : decode cX1_bill 62 = .ok (.pop, 1) := dk_87 (dk_at dksX1_bill_2 14 rfl rfl)
theorem dX1_bill_63 : decode cX1_bill 63 = .ok (.aload_n 0, 1) := dk_42 (dk_at dksX1_bill_2 15 rfl rfl)
theorem dX1_bill_64 : decode cX1_bill 64 = .ok (.getfield 12, 3) := dk_180 0 12 (dk_at dksX1_bill_2 16 rfl rfl)
theorem dX1_bill_67 : decode cX1_bill 67 = .ok (.dup, 1) := dk_89 (dk_at dksX1_bill_2 19 rfl rfl)
theorem dX1_bill_68 : decode cX1_bill 68 = .ok (.getfield 327, 3) := dk_180 1 71 (dk_at dksX1_bill_2 20 rfl rfl)
theorem dX1_bill_71 : decode cX1_bill 71 = .ok (.iload_n 1, 1) := dk_27 (dk_at dksX1_bill_2 23 rfl rfl)
theorem dX1_bill_72 : decode cX1_bill 72 = .ok (.iadd, 1) := dk_96 (dk_at dksX1_bill_3 0 rfl rfl)
theorem dX1_bill_73 : decode cX1_bill 73 = .ok (.putfield 327, 3) := dk_181 1 71 (dk_at dksX1_bill_3 1 rfl rfl)
theorem dX1_bill_76 : decode cX1_bill 76 = .ok (.aload_n 0, 1) := dk_42 (dk_at dksX1_bill_3 4 rfl rfl)
theorem dX1_bill_77 : decode cX1_bill 77 = .ok (.getfield 12, 3) := dk_180 0 12 (dk_at dksX1_bill_3 5 rfl rfl)
theorem dX1_bill_80 : decode cX1_bill 80 = .ok (.getfield 427, 3) := dk_180 1 171 (dk_at dksX1_bill_3 8 rfl rfl)
theorem dX1_bill_83 : decode cX1_bill 83 = .ok (.invokevirtual 90, 3) := dk_182 0 90 (dk_at dksX1_bill_3 11 rfl rfl)
theorem dX1_bill_86 : decode cX1_bill 86 = .ok (.iconst 1, 1) := dk_4 (dk_at dksX1_bill_3 14 rfl rfl)
theorem dX1_bill_87 : decode cX1_bill 87 = .ok (.isub, 1) := dk_100 (dk_at dksX1_bill_3 15 rfl rfl)
theorem dX1_bill_88 : decode cX1_bill 88 = .ok (.ireturn, 1) := dk_172 (dk_at dksX1_bill_3 16 rfl rfl)
def dkwX1_pass_1 : List UInt8 := [16, 254, 172, 44, 89, 180, 1, 181, 4, 96, 181, 1, 181, 44, 180, 1, 181, 172]
abbrev dktX1_pass_1 : List UInt8 := dkwX1_pass_1 ++ []
def dkwX1_pass_0 : List UInt8 := [42, 27, 182, 1, 177, 77, 44, 180, 1, 181, 8, 160, 0, 5, 2, 172, 44, 180, 1, 182, 153, 0, 6]
abbrev dktX1_pass_0 : List UInt8 := dkwX1_pass_0 ++ dktX1_pass_1
theorem dksX1_pass_0 : cX1_pass.data.toList.drop 0 = dktX1_pass_0 := by decide +kernel
theorem dksX1_pass_1 : cX1_pass.data.toList.drop 23 = dktX1_pass_1 := dk_seg dksX1_pass_0 23 rfl rfl
theorem dX1_pass_0 : decode cX1_pass 0 = .ok (.aload_n 0, 1) := dk_42 (dk_at dksX1_pass_0 0 rfl rfl)
theorem dX1_pass_1 : decode cX1_pass 1 = .ok (.iload_n 1, 1) := dk_27 (dk_at dksX1_pass_0 1 rfl rfl)
theorem dX1_pass_2 : decode cX1_pass 2 = .ok (.invokevirtual 433, 3) := dk_182 1 177 (dk_at dksX1_pass_0 2 rfl rfl)
theorem dX1_pass_5 : decode cX1_pass 5 = .ok (.astore_n 2, 1) := dk_77 (dk_at dksX1_pass_0 5 rfl rfl)
theorem dX1_pass_6 : decode cX1_pass 6 = .ok (.aload_n 2, 1) := dk_44 (dk_at dksX1_pass_0 6 rfl rfl)
theorem dX1_pass_7 : decode cX1_pass 7 = .ok (.getfield 437, 3) := dk_180 1 181 (dk_at dksX1_pass_0 7 rfl rfl)
theorem dX1_pass_10 : decode cX1_pass 10 = .ok (.iconst 5, 1) := dk_8 (dk_at dksX1_pass_0 10 rfl rfl)
theorem dX1_pass_11 : decode cX1_pass 11 = .ok (.if_icmp .ne 5, 3) := dk_160 0 5 (dk_at dksX1_pass_0 11 rfl rfl)
theorem dX1_pass_14 : decode cX1_pass 14 = .ok (.iconst (-1), 1) := dk_2 (dk_at dksX1_pass_0 14 rfl rfl)
theorem dX1_pass_15 : decode cX1_pass 15 = .ok (.ireturn, 1) := dk_172 (dk_at dksX1_pass_0 15 rfl rfl)
theorem dX1_pass_16 : decode cX1_pass 16 = .ok (.aload_n 2, 1) := dk_44 (dk_at dksX1_pass_0 16 rfl rfl)
theorem dX1_pass_17 : decode cX1_pass 17 = .ok (.getfield 438, 3) := dk_180 1 182 (dk_at dksX1_pass_0 17 rfl rfl)
theorem dX1_pass_20 : decode cX1_pass 20 = .ok (.ifCond .eq 6, 3) := dk_153 0 6 (dk_at dksX1_pass_0 20 rfl rfl)
theorem dX1_pass_23 : decode cX1_pass 23 = .ok (.bipush (-2), 2) := dk_16 254 (dk_at dksX1_pass_1 0 rfl rfl)
theorem dX1_pass_25 : decode cX1_pass 25 = .ok (.ireturn, 1) := dk_172 (dk_at dksX1_pass_1 2 rfl rfl)
theorem dX1_pass_26 : decode cX1_pass 26 = .ok (.aload_n 2, 1) := dk_44 (dk_at dksX1_pass_1 3 rfl rfl)
theorem dX1_pass_27 : decode cX1_pass 27 = .ok (.dup, 1) := dk_89 (dk_at dksX1_pass_1 4 rfl rfl)
theorem dX1_pass_28 : decode cX1_pass 28 = .ok (.getfield 437, 3) := dk_180 1 181 (dk_at dksX1_pass_1 5 rfl rfl)
theorem dX1_pass_31 : decode cX1_pass 31 = .ok (.iconst 1, 1) := dk_4 (dk_at dksX1_pass_1 8 rfl rfl)
theorem dX1_pass_32 : decode cX1_pass 32 = .ok (.iadd, 1) := dk_96 (dk_at dksX1_pass_1 9 rfl rfl)
theorem dX1_pass_33 : decode cX1_pass 33 = .ok (.putfield 437, 3) := dk_181 1 181 (dk_at dksX1_pass_1 10 rfl rfl)
theorem dX1_pass_36 : decode cX1_pass 36 = .ok (.aload_n 2, 1) := dk_44 (dk_at dksX1_pass_1 13 rfl rfl)
theorem dX1_pass_37 : decode cX1_pass 37 = .ok (.getfield 437, 3) := dk_180 1 181 (dk_at dksX1_pass_1 14 rfl rfl)
theorem dX1_pass_40 : decode cX1_pass 40 = .ok (.ireturn, 1) := dk_172 (dk_at dksX1_pass_1 17 rfl rfl)
def dkwX1_billOf_1 : List UInt8 := [182, 0, 81, 192, 1, 174, 176]
abbrev dktX1_billOf_1 : List UInt8 := dkwX1_billOf_1 ++ []
def dkwX1_billOf_0 : List UInt8 := [27, 42, 180, 0, 12, 180, 1, 171, 182, 0, 90, 184, 0, 74, 42, 180, 0, 12, 180, 1, 171, 27]
abbrev dktX1_billOf_0 : List UInt8 := dkwX1_billOf_0 ++ dktX1_billOf_1
theorem dksX1_billOf_0 : cX1_billOf.data.toList.drop 0 = dktX1_billOf_0 := by decide +kernel
theorem dksX1_billOf_1 : cX1_billOf.data.toList.drop 22 = dktX1_billOf_1 := dk_seg dksX1_billOf_0 22 rfl rfl
theorem dX1_billOf_0 : decode cX1_billOf 0 = .ok (.iload_n 1, 1) := dk_27 (dk_at dksX1_billOf_0 0 rfl rfl)
theorem dX1_billOf_1 : decode cX1_billOf 1 = .ok (.aload_n 0, 1) := dk_42 (dk_at dksX1_billOf_0 1 rfl rfl)
theorem dX1_billOf_2 : decode cX1_billOf 2 = .ok (.getfield 12, 3) := dk_180 0 12 (dk_at dksX1_billOf_0 2 rfl rfl)
theorem dX1_billOf_5 : decode cX1_billOf 5 = .ok (.getfield 427, 3) := dk_180 1 171 (dk_at dksX1_billOf_0 5 rfl rfl)
theorem dX1_billOf_8 : decode cX1_billOf 8 = .ok (.invokevirtual 90, 3) := dk_182 0 90 (dk_at dksX1_billOf_0 8 rfl rfl)
theorem dX1_billOf_11 : decode cX1_billOf 11 = .ok (.invokestatic 74, 3) := dk_184 0 74 (dk_at dksX1_billOf_0 11 rfl rfl)
theorem dX1_billOf_14 : decode cX1_billOf 14 = .ok (.aload_n 0, 1) := dk_42 (dk_at dksX1_billOf_0 14 rfl rfl)
theorem dX1_billOf_15 : decode cX1_billOf 15 = .ok (.getfield 12, 3) := dk_180 0 12 (dk_at dksX1_billOf_0 15 rfl rfl)
theorem dX1_billOf_18 : decode cX1_billOf 18 = .ok (.getfield 427, 3) := dk_180 1 171 (dk_at dksX1_billOf_0 18 rfl rfl)
theorem dX1_billOf_21 : decode cX1_billOf 21 = .ok (.iload_n 1, 1) := dk_27 (dk_at dksX1_billOf_0 21 rfl rfl)
theorem dX1_billOf_22 : decode cX1_billOf 22 = .ok (.invokevirtual 81, 3) := dk_182 0 81 (dk_at dksX1_billOf_1 0 rfl rfl)
theorem dX1_billOf_25 : decode cX1_billOf 25 = .ok (.checkcast 430, 3) := dk_192 1 174 (dk_at dksX1_billOf_1 3 rfl rfl)
theorem dX1_billOf_28 : decode cX1_billOf 28 = .ok (.areturn, 1) := dk_176 (dk_at dksX1_billOf_1 6 rfl rfl)
def dkwX1_billed_0 : List UInt8 := [42, 27, 182, 1, 177, 180, 1, 182, 172]
abbrev dktX1_billed_0 : List UInt8 := dkwX1_billed_0 ++ []
theorem dksX1_billed_0 : cX1_billed.data.toList.drop 0 = dktX1_billed_0 := by decide +kernel
theorem dX1_billed_0 : decode cX1_billed 0 = .ok (.aload_n 0, 1) := dk_42 (dk_at dksX1_billed_0 0 rfl rfl)
theorem dX1_billed_1 : decode cX1_billed 1 = .ok (.iload_n 1, 1) := dk_27 (dk_at dksX1_billed_0 1 rfl rfl)
theorem dX1_billed_2 : decode cX1_billed 2 = .ok (.invokevirtual 433, 3) := dk_182 1 177 (dk_at dksX1_billed_0 2 rfl rfl)
theorem dX1_billed_5 : decode cX1_billed 5 = .ok (.getfield 438, 3) := dk_180 1 182 (dk_at dksX1_billed_0 5 rfl rfl)
theorem dX1_billed_8 : decode cX1_billed 8 = .ok (.ireturn, 1) := dk_172 (dk_at dksX1_billed_0 8 rfl rfl)
def dkwX1_week_2 : List UInt8 := [162, 0, 16, 42, 180, 0, 12, 182, 1, 186, 132, 2, 1, 167, 255, 241, 42, 180, 0, 12, 180, 1, 47, 172]
abbrev dktX1_week_2 : List UInt8 := dkwX1_week_2 ++ []
def dkwX1_week_1 : List UInt8 := [180, 1, 47, 27, 96, 17, 3, 232, 163, 0, 7, 4, 167, 0, 4, 3, 184, 1, 183, 3, 61, 28, 27]
abbrev dktX1_week_1 : List UInt8 := dkwX1_week_1 ++ dktX1_week_2
def dkwX1_week_0 : List UInt8 := [27, 155, 0, 13, 27, 16, 104, 163, 0, 7, 4, 167, 0, 4, 3, 184, 0, 100, 42, 180, 0, 12]
abbrev dktX1_week_0 : List UInt8 := dkwX1_week_0 ++ dktX1_week_1
theorem dksX1_week_0 : cX1_week.data.toList.drop 0 = dktX1_week_0 := by decide +kernel
theorem dksX1_week_1 : cX1_week.data.toList.drop 22 = dktX1_week_1 := dk_seg dksX1_week_0 22 rfl rfl
theorem dksX1_week_2 : cX1_week.data.toList.drop 45 = dktX1_week_2 := dk_seg dksX1_week_1 23 rfl rfl
theorem dX1_week_0 : decode cX1_week 0 = .ok (.iload_n 1, 1) := dk_27 (dk_at dksX1_week_0 0 rfl rfl)
theorem dX1_week_1 : decode cX1_week 1 = .ok (.ifCond .lt 13, 3) := dk_155 0 13 (dk_at dksX1_week_0 1 rfl rfl)
theorem dX1_week_4 : decode cX1_week 4 = .ok (.iload_n 1, 1) := dk_27 (dk_at dksX1_week_0 4 rfl rfl)
theorem dX1_week_5 : decode cX1_week 5 = .ok (.bipush 104, 2) := dk_16 104 (dk_at dksX1_week_0 5 rfl rfl)
theorem dX1_week_7 : decode cX1_week 7 = .ok (.if_icmp .gt 7, 3) := dk_163 0 7 (dk_at dksX1_week_0 7 rfl rfl)
theorem dX1_week_10 : decode cX1_week 10 = .ok (.iconst 1, 1) := dk_4 (dk_at dksX1_week_0 10 rfl rfl)
theorem dX1_week_11 : decode cX1_week 11 = .ok (.goto 4, 3) := dk_167 0 4 (dk_at dksX1_week_0 11 rfl rfl)
theorem dX1_week_14 : decode cX1_week 14 = .ok (.iconst 0, 1) := dk_3 (dk_at dksX1_week_0 14 rfl rfl)
theorem dX1_week_15 : decode cX1_week 15 = .ok (.invokestatic 100, 3) := dk_184 0 100 (dk_at dksX1_week_0 15 rfl rfl)
theorem dX1_week_18 : decode cX1_week 18 = .ok (.aload_n 0, 1) := dk_42 (dk_at dksX1_week_0 18 rfl rfl)
theorem dX1_week_19 : decode cX1_week 19 = .ok (.getfield 12, 3) := dk_180 0 12 (dk_at dksX1_week_0 19 rfl rfl)
theorem dX1_week_22 : decode cX1_week 22 = .ok (.getfield 303, 3) := dk_180 1 47 (dk_at dksX1_week_1 0 rfl rfl)
theorem dX1_week_25 : decode cX1_week 25 = .ok (.iload_n 1, 1) := dk_27 (dk_at dksX1_week_1 3 rfl rfl)
theorem dX1_week_26 : decode cX1_week 26 = .ok (.iadd, 1) := dk_96 (dk_at dksX1_week_1 4 rfl rfl)
theorem dX1_week_27 : decode cX1_week 27 = .ok (.sipush 1000, 3) := dk_17 3 232 (dk_at dksX1_week_1 5 rfl rfl)
theorem dX1_week_30 : decode cX1_week 30 = .ok (.if_icmp .gt 7, 3) := dk_163 0 7 (dk_at dksX1_week_1 8 rfl rfl)
theorem dX1_week_33 : decode cX1_week 33 = .ok (.iconst 1, 1) := dk_4 (dk_at dksX1_week_1 11 rfl rfl)
theorem dX1_week_34 : decode cX1_week 34 = .ok (.goto 4, 3) := dk_167 0 4 (dk_at dksX1_week_1 12 rfl rfl)
theorem dX1_week_37 : decode cX1_week 37 = .ok (.iconst 0, 1) := dk_3 (dk_at dksX1_week_1 15 rfl rfl)
theorem dX1_week_38 : decode cX1_week 38 = .ok (.invokestatic 439, 3) := dk_184 1 183 (dk_at dksX1_week_1 16 rfl rfl)
theorem dX1_week_41 : decode cX1_week 41 = .ok (.iconst 0, 1) := dk_3 (dk_at dksX1_week_1 19 rfl rfl)
theorem dX1_week_42 : decode cX1_week 42 = .ok (.istore_n 2, 1) := dk_61 (dk_at dksX1_week_1 20 rfl rfl)
theorem dX1_week_43 : decode cX1_week 43 = .ok (.iload_n 2, 1) := dk_28 (dk_at dksX1_week_1 21 rfl rfl)
theorem dX1_week_44 : decode cX1_week 44 = .ok (.iload_n 1, 1) := dk_27 (dk_at dksX1_week_1 22 rfl rfl)
theorem dX1_week_45 : decode cX1_week 45 = .ok (.if_icmp .ge 16, 3) := dk_162 0 16 (dk_at dksX1_week_2 0 rfl rfl)
theorem dX1_week_48 : decode cX1_week 48 = .ok (.aload_n 0, 1) := dk_42 (dk_at dksX1_week_2 3 rfl rfl)
theorem dX1_week_49 : decode cX1_week 49 = .ok (.getfield 12, 3) := dk_180 0 12 (dk_at dksX1_week_2 4 rfl rfl)
theorem dX1_week_52 : decode cX1_week 52 = .ok (.invokevirtual 442, 3) := dk_182 1 186 (dk_at dksX1_week_2 7 rfl rfl)
theorem dX1_week_55 : decode cX1_week 55 = .ok (.iinc 2 1, 3) := dk_132 2 1 (dk_at dksX1_week_2 10 rfl rfl)
theorem dX1_week_58 : decode cX1_week 58 = .ok (.goto (-15), 3) := dk_167 255 241 (dk_at dksX1_week_2 13 rfl rfl)
theorem dX1_week_61 : decode cX1_week 61 = .ok (.aload_n 0, 1) := dk_42 (dk_at dksX1_week_2 16 rfl rfl)
theorem dX1_week_62 : decode cX1_week 62 = .ok (.getfield 12, 3) := dk_180 0 12 (dk_at dksX1_week_2 17 rfl rfl)
theorem dX1_week_65 : decode cX1_week 65 = .ok (.getfield 303, 3) := dk_180 1 47 (dk_at dksX1_week_2 20 rfl rfl)
theorem dX1_week_68 : decode cX1_week 68 = .ok (.ireturn, 1) := dk_172 (dk_at dksX1_week_2 23 rfl rfl)
def dkwX1_right_0 : List UInt8 := [26, 154, 0, 11, 187, 0, 68, 89, 183, 0, 70, 191, 177]
abbrev dktX1_right_0 : List UInt8 := dkwX1_right_0 ++ []
theorem dksX1_right_0 : cX1_right.data.toList.drop 0 = dktX1_right_0 := by decide +kernel
theorem dX1_right_0 : decode cX1_right 0 = .ok (.iload_n 0, 1) := dk_26 (dk_at dksX1_right_0 0 rfl rfl)
theorem dX1_right_1 : decode cX1_right 1 = .ok (.ifCond .ne 11, 3) := dk_154 0 11 (dk_at dksX1_right_0 1 rfl rfl)
theorem dX1_right_4 : decode cX1_right 4 = .ok (.new 68, 3) := dk_187 0 68 (dk_at dksX1_right_0 4 rfl rfl)
theorem dX1_right_7 : decode cX1_right 7 = .ok (.dup, 1) := dk_89 (dk_at dksX1_right_0 7 rfl rfl)
theorem dX1_right_8 : decode cX1_right 8 = .ok (.invokespecial 70, 3) := dk_183 0 70 (dk_at dksX1_right_0 8 rfl rfl)
theorem dX1_right_11 : decode cX1_right 11 = .ok (.athrow, 1) := dk_191 (dk_at dksX1_right_0 11 rfl rfl)
theorem dX1_right_12 : decode cX1_right 12 = .ok (.return_, 1) := dk_177 (dk_at dksX1_right_0 12 rfl rfl)
def dkwX1_beside_4 : List UInt8 := [16, 12, 96, 16, 96, 162, 0, 10, 26, 16, 12, 96, 167, 0, 4, 2, 172]
abbrev dktX1_beside_4 : List UInt8 := dkwX1_beside_4 ++ []
def dkwX1_beside_3 : List UInt8 := [100, 167, 0, 4, 2, 172, 26, 16, 12, 112, 16, 11, 162, 0, 9, 26, 4, 96, 167, 0, 4, 2, 172, 26]
abbrev dktX1_beside_3 : List UInt8 := dkwX1_beside_3 ++ dktX1_beside_4
def dkwX1_beside_2 : List UInt8 := [26, 16, 12, 161, 0, 10, 26, 16, 12, 100, 167, 0, 4, 2, 172, 26, 16, 12, 112, 158, 0, 9, 26, 4]
abbrev dktX1_beside_2 : List UInt8 := dkwX1_beside_2 ++ dktX1_beside_3
def dkwX1_beside_1 : List UInt8 := [170, 0, 0, 0, 0, 0, 74, 0, 0, 0, 0, 0, 0, 0, 2, 0, 0, 0, 27, 0, 0, 0, 42, 0, 0, 0, 57]
abbrev dktX1_beside_1 : List UInt8 := dkwX1_beside_1 ++ dktX1_beside_2
def dkwX1_beside_0 : List UInt8 := [27]
abbrev dktX1_beside_0 : List UInt8 := dkwX1_beside_0 ++ dktX1_beside_1
theorem dksX1_beside_0 : cX1_beside.data.toList.drop 0 = dktX1_beside_0 := by decide +kernel
theorem dksX1_beside_1 : cX1_beside.data.toList.drop 1 = dktX1_beside_1 := dk_seg dksX1_beside_0 1 rfl rfl
theorem dksX1_beside_2 : cX1_beside.data.toList.drop 28 = dktX1_beside_2 := dk_seg dksX1_beside_1 27 rfl rfl
theorem dksX1_beside_3 : cX1_beside.data.toList.drop 52 = dktX1_beside_3 := dk_seg dksX1_beside_2 24 rfl rfl
theorem dksX1_beside_4 : cX1_beside.data.toList.drop 76 = dktX1_beside_4 := dk_seg dksX1_beside_3 24 rfl rfl
theorem dX1_beside_0 : decode cX1_beside 0 = .ok (.iload_n 1, 1) := dk_27 (dk_at dksX1_beside_0 0 rfl rfl)
theorem dX1_beside_1 : decode cX1_beside 1 = .ok (.tableswitch 74 0 2 #[27, 42, 57], 27) := by decide +kernel
theorem dX1_beside_28 : decode cX1_beside 28 = .ok (.iload_n 0, 1) := dk_26 (dk_at dksX1_beside_2 0 rfl rfl)
theorem dX1_beside_29 : decode cX1_beside 29 = .ok (.bipush 12, 2) := dk_16 12 (dk_at dksX1_beside_2 1 rfl rfl)
theorem dX1_beside_31 : decode cX1_beside 31 = .ok (.if_icmp .lt 10, 3) := dk_161 0 10 (dk_at dksX1_beside_2 3 rfl rfl)
theorem dX1_beside_34 : decode cX1_beside 34 = .ok (.iload_n 0, 1) := dk_26 (dk_at dksX1_beside_2 6 rfl rfl)
theorem dX1_beside_35 : decode cX1_beside 35 = .ok (.bipush 12, 2) := dk_16 12 (dk_at dksX1_beside_2 7 rfl rfl)
theorem dX1_beside_37 : decode cX1_beside 37 = .ok (.isub, 1) := dk_100 (dk_at dksX1_beside_2 9 rfl rfl)
theorem dX1_beside_38 : decode cX1_beside 38 = .ok (.goto 4, 3) := dk_167 0 4 (dk_at dksX1_beside_2 10 rfl rfl)
theorem dX1_beside_41 : decode cX1_beside 41 = .ok (.iconst (-1), 1) := dk_2 (dk_at dksX1_beside_2 13 rfl rfl)
theorem dX1_beside_42 : decode cX1_beside 42 = .ok (.ireturn, 1) := dk_172 (dk_at dksX1_beside_2 14 rfl rfl)
theorem dX1_beside_43 : decode cX1_beside 43 = .ok (.iload_n 0, 1) := dk_26 (dk_at dksX1_beside_2 15 rfl rfl)
theorem dX1_beside_44 : decode cX1_beside 44 = .ok (.bipush 12, 2) := dk_16 12 (dk_at dksX1_beside_2 16 rfl rfl)
theorem dX1_beside_46 : decode cX1_beside 46 = .ok (.irem, 1) := dk_112 (dk_at dksX1_beside_2 18 rfl rfl)
theorem dX1_beside_47 : decode cX1_beside 47 = .ok (.ifCond .le 9, 3) := dk_158 0 9 (dk_at dksX1_beside_2 19 rfl rfl)
theorem dX1_beside_50 : decode cX1_beside 50 = .ok (.iload_n 0, 1) := dk_26 (dk_at dksX1_beside_2 22 rfl rfl)
theorem dX1_beside_51 : decode cX1_beside 51 = .ok (.iconst 1, 1) := dk_4 (dk_at dksX1_beside_2 23 rfl rfl)
theorem dX1_beside_52 : decode cX1_beside 52 = .ok (.isub, 1) := dk_100 (dk_at dksX1_beside_3 0 rfl rfl)
theorem dX1_beside_53 : decode cX1_beside 53 = .ok (.goto 4, 3) := dk_167 0 4 (dk_at dksX1_beside_3 1 rfl rfl)
theorem dX1_beside_56 : decode cX1_beside 56 = .ok (.iconst (-1), 1) := dk_2 (dk_at dksX1_beside_3 4 rfl rfl)
theorem dX1_beside_57 : decode cX1_beside 57 = .ok (.ireturn, 1) := dk_172 (dk_at dksX1_beside_3 5 rfl rfl)
theorem dX1_beside_58 : decode cX1_beside 58 = .ok (.iload_n 0, 1) := dk_26 (dk_at dksX1_beside_3 6 rfl rfl)
theorem dX1_beside_59 : decode cX1_beside 59 = .ok (.bipush 12, 2) := dk_16 12 (dk_at dksX1_beside_3 7 rfl rfl)
theorem dX1_beside_61 : decode cX1_beside 61 = .ok (.irem, 1) := dk_112 (dk_at dksX1_beside_3 9 rfl rfl)
theorem dX1_beside_62 : decode cX1_beside 62 = .ok (.bipush 11, 2) := dk_16 11 (dk_at dksX1_beside_3 10 rfl rfl)
theorem dX1_beside_64 : decode cX1_beside 64 = .ok (.if_icmp .ge 9, 3) := dk_162 0 9 (dk_at dksX1_beside_3 12 rfl rfl)
theorem dX1_beside_67 : decode cX1_beside 67 = .ok (.iload_n 0, 1) := dk_26 (dk_at dksX1_beside_3 15 rfl rfl)
theorem dX1_beside_68 : decode cX1_beside 68 = .ok (.iconst 1, 1) := dk_4 (dk_at dksX1_beside_3 16 rfl rfl)
theorem dX1_beside_69 : decode cX1_beside 69 = .ok (.iadd, 1) := dk_96 (dk_at dksX1_beside_3 17 rfl rfl)
theorem dX1_beside_70 : decode cX1_beside 70 = .ok (.goto 4, 3) := dk_167 0 4 (dk_at dksX1_beside_3 18 rfl rfl)
theorem dX1_beside_73 : decode cX1_beside 73 = .ok (.iconst (-1), 1) := dk_2 (dk_at dksX1_beside_3 21 rfl rfl)
theorem dX1_beside_74 : decode cX1_beside 74 = .ok (.ireturn, 1) := dk_172 (dk_at dksX1_beside_3 22 rfl rfl)
theorem dX1_beside_75 : decode cX1_beside 75 = .ok (.iload_n 0, 1) := dk_26 (dk_at dksX1_beside_3 23 rfl rfl)
theorem dX1_beside_76 : decode cX1_beside 76 = .ok (.bipush 12, 2) := dk_16 12 (dk_at dksX1_beside_4 0 rfl rfl)
theorem dX1_beside_78 : decode cX1_beside 78 = .ok (.iadd, 1) := dk_96 (dk_at dksX1_beside_4 2 rfl rfl)
theorem dX1_beside_79 : decode cX1_beside 79 = .ok (.bipush 96, 2) := dk_16 96 (dk_at dksX1_beside_4 3 rfl rfl)
theorem dX1_beside_81 : decode cX1_beside 81 = .ok (.if_icmp .ge 10, 3) := dk_162 0 10 (dk_at dksX1_beside_4 5 rfl rfl)
theorem dX1_beside_84 : decode cX1_beside 84 = .ok (.iload_n 0, 1) := dk_26 (dk_at dksX1_beside_4 8 rfl rfl)
theorem dX1_beside_85 : decode cX1_beside 85 = .ok (.bipush 12, 2) := dk_16 12 (dk_at dksX1_beside_4 9 rfl rfl)
theorem dX1_beside_87 : decode cX1_beside 87 = .ok (.iadd, 1) := dk_96 (dk_at dksX1_beside_4 11 rfl rfl)
theorem dX1_beside_88 : decode cX1_beside 88 = .ok (.goto 4, 3) := dk_167 0 4 (dk_at dksX1_beside_4 12 rfl rfl)
theorem dX1_beside_91 : decode cX1_beside 91 = .ok (.iconst (-1), 1) := dk_2 (dk_at dksX1_beside_4 15 rfl rfl)
theorem dX1_beside_92 : decode cX1_beside 92 = .ok (.ireturn, 1) := dk_172 (dk_at dksX1_beside_4 16 rfl rfl)
def dkwX1_as_3 : List UInt8 := [104, 29, 96, 46, 172]
abbrev dktX1_as_3 : List UInt8 := dkwX1_as_3 ++ []
def dkwX1_as_2 : List UInt8 := [42, 180, 0, 12, 182, 1, 189, 164, 0, 7, 19, 1, 192, 172, 42, 180, 0, 12, 180, 1, 193, 16, 6, 27]
abbrev dktX1_as_2 : List UInt8 := dkwX1_as_2 ++ dktX1_as_3
def dkwX1_as_1 : List UInt8 := [184, 0, 100, 27, 155, 0, 30, 27, 42, 180, 0, 12, 180, 1, 47, 162, 0, 19, 28, 4, 160, 0, 18, 27]
abbrev dktX1_as_1 : List UInt8 := dkwX1_as_1 ++ dktX1_as_2
def dkwX1_as_0 : List UInt8 := [28, 153, 0, 8, 28, 4, 160, 0, 17, 29, 155, 0, 13, 29, 16, 6, 162, 0, 7, 4, 167, 0, 4, 3]
abbrev dktX1_as_0 : List UInt8 := dkwX1_as_0 ++ dktX1_as_1
theorem dksX1_as_0 : cX1_as.data.toList.drop 0 = dktX1_as_0 := by decide +kernel
theorem dksX1_as_1 : cX1_as.data.toList.drop 24 = dktX1_as_1 := dk_seg dksX1_as_0 24 rfl rfl
theorem dksX1_as_2 : cX1_as.data.toList.drop 48 = dktX1_as_2 := dk_seg dksX1_as_1 24 rfl rfl
theorem dksX1_as_3 : cX1_as.data.toList.drop 72 = dktX1_as_3 := dk_seg dksX1_as_2 24 rfl rfl
theorem dX1_as_0 : decode cX1_as 0 = .ok (.iload_n 2, 1) := dk_28 (dk_at dksX1_as_0 0 rfl rfl)
theorem dX1_as_1 : decode cX1_as 1 = .ok (.ifCond .eq 8, 3) := dk_153 0 8 (dk_at dksX1_as_0 1 rfl rfl)
theorem dX1_as_4 : decode cX1_as 4 = .ok (.iload_n 2, 1) := dk_28 (dk_at dksX1_as_0 4 rfl rfl)
theorem dX1_as_5 : decode cX1_as 5 = .ok (.iconst 1, 1) := dk_4 (dk_at dksX1_as_0 5 rfl rfl)
theorem dX1_as_6 : decode cX1_as 6 = .ok (.if_icmp .ne 17, 3) := dk_160 0 17 (dk_at dksX1_as_0 6 rfl rfl)
theorem dX1_as_9 : decode cX1_as 9 = .ok (.iload_n 3, 1) := dk_29 (dk_at dksX1_as_0 9 rfl rfl)
theorem dX1_as_10 : decode cX1_as 10 = .ok (.ifCond .lt 13, 3) := dk_155 0 13 (dk_at dksX1_as_0 10 rfl rfl)
theorem dX1_as_13 : decode cX1_as 13 = .ok (.iload_n 3, 1) := dk_29 (dk_at dksX1_as_0 13 rfl rfl)
theorem dX1_as_14 : decode cX1_as 14 = .ok (.bipush 6, 2) := dk_16 6 (dk_at dksX1_as_0 14 rfl rfl)
theorem dX1_as_16 : decode cX1_as 16 = .ok (.if_icmp .ge 7, 3) := dk_162 0 7 (dk_at dksX1_as_0 16 rfl rfl)
theorem dX1_as_19 : decode cX1_as 19 = .ok (.iconst 1, 1) := dk_4 (dk_at dksX1_as_0 19 rfl rfl)
theorem dX1_as_20 : decode cX1_as 20 = .ok (.goto 4, 3) := dk_167 0 4 (dk_at dksX1_as_0 20 rfl rfl)
theorem dX1_as_23 : decode cX1_as 23 = .ok (.iconst 0, 1) := dk_3 (dk_at dksX1_as_0 23 rfl rfl)
theorem dX1_as_24 : decode cX1_as 24 = .ok (.invokestatic 100, 3) := dk_184 0 100 (dk_at dksX1_as_1 0 rfl rfl)
theorem dX1_as_27 : decode cX1_as 27 = .ok (.iload_n 1, 1) := dk_27 (dk_at dksX1_as_1 3 rfl rfl)
theorem dX1_as_28 : decode cX1_as 28 = .ok (.ifCond .lt 30, 3) := dk_155 0 30 (dk_at dksX1_as_1 4 rfl rfl)
theorem dX1_as_31 : decode cX1_as 31 = .ok (.iload_n 1, 1) := dk_27 (dk_at dksX1_as_1 7 rfl rfl)
theorem dX1_as_32 : decode cX1_as 32 = .ok (.aload_n 0, 1) := dk_42 (dk_at dksX1_as_1 8 rfl rfl)
theorem dX1_as_33 : decode cX1_as 33 = .ok (.getfield 12, 3) := dk_180 0 12 (dk_at dksX1_as_1 9 rfl rfl)
theorem dX1_as_36 : decode cX1_as 36 = .ok (.getfield 303, 3) := dk_180 1 47 (dk_at dksX1_as_1 12 rfl rfl)
theorem dX1_as_39 : decode cX1_as 39 = .ok (.if_icmp .ge 19, 3) := dk_162 0 19 (dk_at dksX1_as_1 15 rfl rfl)
theorem dX1_as_42 : decode cX1_as 42 = .ok (.iload_n 2, 1) := dk_28 (dk_at dksX1_as_1 18 rfl rfl)
theorem dX1_as_43 : decode cX1_as 43 = .ok (.iconst 1, 1) := dk_4 (dk_at dksX1_as_1 19 rfl rfl)
theorem dX1_as_44 : decode cX1_as 44 = .ok (.if_icmp .ne 18, 3) := dk_160 0 18 (dk_at dksX1_as_1 20 rfl rfl)
theorem dX1_as_47 : decode cX1_as 47 = .ok (.iload_n 1, 1) := dk_27 (dk_at dksX1_as_1 23 rfl rfl)
theorem dX1_as_48 : decode cX1_as 48 = .ok (.aload_n 0, 1) := dk_42 (dk_at dksX1_as_2 0 rfl rfl)
theorem dX1_as_49 : decode cX1_as 49 = .ok (.getfield 12, 3) := dk_180 0 12 (dk_at dksX1_as_2 1 rfl rfl)
theorem dX1_as_52 : decode cX1_as 52 = .ok (.invokevirtual 445, 3) := dk_182 1 189 (dk_at dksX1_as_2 4 rfl rfl)
theorem dX1_as_55 : decode cX1_as 55 = .ok (.if_icmp .le 7, 3) := dk_164 0 7 (dk_at dksX1_as_2 7 rfl rfl)
theorem dX1_as_58 : decode cX1_as 58 = .ok (.ldc_w 448, 3) := dk_19 1 192 (dk_at dksX1_as_2 10 rfl rfl)
theorem dX1_as_61 : decode cX1_as 61 = .ok (.ireturn, 1) := dk_172 (dk_at dksX1_as_2 13 rfl rfl)
theorem dX1_as_62 : decode cX1_as 62 = .ok (.aload_n 0, 1) := dk_42 (dk_at dksX1_as_2 14 rfl rfl)
theorem dX1_as_63 : decode cX1_as 63 = .ok (.getfield 12, 3) := dk_180 0 12 (dk_at dksX1_as_2 15 rfl rfl)
theorem dX1_as_66 : decode cX1_as 66 = .ok (.getfield 449, 3) := dk_180 1 193 (dk_at dksX1_as_2 18 rfl rfl)
theorem dX1_as_69 : decode cX1_as 69 = .ok (.bipush 6, 2) := dk_16 6 (dk_at dksX1_as_2 21 rfl rfl)
theorem dX1_as_71 : decode cX1_as 71 = .ok (.iload_n 1, 1) := dk_27 (dk_at dksX1_as_2 23 rfl rfl)
theorem dX1_as_72 : decode cX1_as 72 = .ok (.imul, 1) := dk_104 (dk_at dksX1_as_3 0 rfl rfl)
theorem dX1_as_73 : decode cX1_as 73 = .ok (.iload_n 3, 1) := dk_29 (dk_at dksX1_as_3 1 rfl rfl)
theorem dX1_as_74 : decode cX1_as 74 = .ok (.iadd, 1) := dk_96 (dk_at dksX1_as_3 2 rfl rfl)
theorem dX1_as_75 : decode cX1_as 75 = .ok (.iaload, 1) := dk_46 (dk_at dksX1_as_3 3 rfl rfl)
theorem dX1_as_76 : decode cX1_as 76 = .ok (.ireturn, 1) := dk_172 (dk_at dksX1_as_3 4 rfl rfl)
def dkwX1_tried_5 : List UInt8 := [25, 5, 21, 4, 184, 1, 214, 172]
abbrev dktX1_tried_5 : List UInt8 := dkwX1_tried_5 ++ []
def dkwX1_tried_4 : List UInt8 := [28, 181, 1, 211, 3, 54, 6, 21, 6, 29, 162, 0, 14, 25, 5, 182, 1, 186, 132, 6, 1, 167, 255, 242]
abbrev dktX1_tried_4 : List UInt8 := dkwX1_tried_4 ++ dktX1_tried_5
def dkwX1_tried_3 : List UInt8 := [184, 1, 183, 42, 180, 0, 19, 42, 180, 0, 12, 182, 0, 251, 58, 5, 25, 5, 27, 181, 1, 208, 25, 5]
abbrev dktX1_tried_3 : List UInt8 := dkwX1_tried_3 ++ dktX1_tried_4
def dkwX1_tried_2 : List UInt8 := [3, 184, 0, 100, 42, 180, 0, 12, 180, 1, 47, 29, 96, 17, 3, 232, 163, 0, 7, 4, 167, 0, 4, 3]
abbrev dktX1_tried_2 : List UInt8 := dkwX1_tried_2 ++ dktX1_tried_3
def dkwX1_tried_1 : List UInt8 := [161, 0, 24, 29, 16, 104, 163, 0, 18, 21, 4, 155, 0, 13, 21, 4, 8, 163, 0, 7, 4, 167, 0, 4]
abbrev dktX1_tried_1 : List UInt8 := dkwX1_tried_1 ++ dktX1_tried_2
def dkwX1_tried_0 : List UInt8 := [27, 155, 0, 47, 27, 17, 3, 232, 163, 0, 40, 28, 2, 161, 0, 35, 28, 16, 100, 163, 0, 29, 29, 4]
abbrev dktX1_tried_0 : List UInt8 := dkwX1_tried_0 ++ dktX1_tried_1
theorem dksX1_tried_0 : cX1_tried.data.toList.drop 0 = dktX1_tried_0 := by decide +kernel
theorem dksX1_tried_1 : cX1_tried.data.toList.drop 24 = dktX1_tried_1 := dk_seg dksX1_tried_0 24 rfl rfl
theorem dksX1_tried_2 : cX1_tried.data.toList.drop 48 = dktX1_tried_2 := dk_seg dksX1_tried_1 24 rfl rfl
theorem dksX1_tried_3 : cX1_tried.data.toList.drop 72 = dktX1_tried_3 := dk_seg dksX1_tried_2 24 rfl rfl
theorem dksX1_tried_4 : cX1_tried.data.toList.drop 96 = dktX1_tried_4 := dk_seg dksX1_tried_3 24 rfl rfl
theorem dksX1_tried_5 : cX1_tried.data.toList.drop 120 = dktX1_tried_5 := dk_seg dksX1_tried_4 24 rfl rfl
theorem dX1_tried_0 : decode cX1_tried 0 = .ok (.iload_n 1, 1) := dk_27 (dk_at dksX1_tried_0 0 rfl rfl)
theorem dX1_tried_1 : decode cX1_tried 1 = .ok (.ifCond .lt 47, 3) := dk_155 0 47 (dk_at dksX1_tried_0 1 rfl rfl)
theorem dX1_tried_4 : decode cX1_tried 4 = .ok (.iload_n 1, 1) := dk_27 (dk_at dksX1_tried_0 4 rfl rfl)
theorem dX1_tried_5 : decode cX1_tried 5 = .ok (.sipush 1000, 3) := dk_17 3 232 (dk_at dksX1_tried_0 5 rfl rfl)
theorem dX1_tried_8 : decode cX1_tried 8 = .ok (.if_icmp .gt 40, 3) := dk_163 0 40 (dk_at dksX1_tried_0 8 rfl rfl)
theorem dX1_tried_11 : decode cX1_tried 11 = .ok (.iload_n 2, 1) := dk_28 (dk_at dksX1_tried_0 11 rfl rfl)
theorem dX1_tried_12 : decode cX1_tried 12 = .ok (.iconst (-1), 1) := dk_2 (dk_at dksX1_tried_0 12 rfl rfl)
theorem dX1_tried_13 : decode cX1_tried 13 = .ok (.if_icmp .lt 35, 3) := dk_161 0 35 (dk_at dksX1_tried_0 13 rfl rfl)
theorem dX1_tried_16 : decode cX1_tried 16 = .ok (.iload_n 2, 1) := dk_28 (dk_at dksX1_tried_0 16 rfl rfl)
theorem dX1_tried_17 : decode cX1_tried 17 = .ok (.bipush 100, 2) := dk_16 100 (dk_at dksX1_tried_0 17 rfl rfl)
theorem dX1_tried_19 : decode cX1_tried 19 = .ok (.if_icmp .gt 29, 3) := dk_163 0 29 (dk_at dksX1_tried_0 19 rfl rfl)
theorem dX1_tried_22 : decode cX1_tried 22 = .ok (.iload_n 3, 1) := dk_29 (dk_at dksX1_tried_0 22 rfl rfl)
theorem dX1_tried_23 : decode cX1_tried 23 = .ok (.iconst 1, 1) := dk_4 (dk_at dksX1_tried_0 23 rfl rfl)
theorem dX1_tried_24 : decode cX1_tried 24 = .ok (.if_icmp .lt 24, 3) := dk_161 0 24 (dk_at dksX1_tried_1 0 rfl rfl)
theorem dX1_tried_27 : decode cX1_tried 27 = .ok (.iload_n 3, 1) := dk_29 (dk_at dksX1_tried_1 3 rfl rfl)
theorem dX1_tried_28 : decode cX1_tried 28 = .ok (.bipush 104, 2) := dk_16 104 (dk_at dksX1_tried_1 4 rfl rfl)
theorem dX1_tried_30 : decode cX1_tried 30 = .ok (.if_icmp .gt 18, 3) := dk_163 0 18 (dk_at dksX1_tried_1 6 rfl rfl)
theorem dX1_tried_33 : decode cX1_tried 33 = .ok (.iload 4, 2) := dk_21 4 (dk_at dksX1_tried_1 9 rfl rfl)
theorem dX1_tried_35 : decode cX1_tried 35 = .ok (.ifCond .lt 13, 3) := dk_155 0 13 (dk_at dksX1_tried_1 11 rfl rfl)
theorem dX1_tried_38 : decode cX1_tried 38 = .ok (.iload 4, 2) := dk_21 4 (dk_at dksX1_tried_1 14 rfl rfl)
theorem dX1_tried_40 : decode cX1_tried 40 = .ok (.iconst 5, 1) := dk_8 (dk_at dksX1_tried_1 16 rfl rfl)
theorem dX1_tried_41 : decode cX1_tried 41 = .ok (.if_icmp .gt 7, 3) := dk_163 0 7 (dk_at dksX1_tried_1 17 rfl rfl)
theorem dX1_tried_44 : decode cX1_tried 44 = .ok (.iconst 1, 1) := dk_4 (dk_at dksX1_tried_1 20 rfl rfl)
theorem dX1_tried_45 : decode cX1_tried 45 = .ok (.goto 4, 3) := dk_167 0 4 (dk_at dksX1_tried_1 21 rfl rfl)
theorem dX1_tried_48 : decode cX1_tried 48 = .ok (.iconst 0, 1) := dk_3 (dk_at dksX1_tried_2 0 rfl rfl)
theorem dX1_tried_49 : decode cX1_tried 49 = .ok (.invokestatic 100, 3) := dk_184 0 100 (dk_at dksX1_tried_2 1 rfl rfl)
theorem dX1_tried_52 : decode cX1_tried 52 = .ok (.aload_n 0, 1) := dk_42 (dk_at dksX1_tried_2 4 rfl rfl)
theorem dX1_tried_53 : decode cX1_tried 53 = .ok (.getfield 12, 3) := dk_180 0 12 (dk_at dksX1_tried_2 5 rfl rfl)
theorem dX1_tried_56 : decode cX1_tried 56 = .ok (.getfield 303, 3) := dk_180 1 47 (dk_at dksX1_tried_2 8 rfl rfl)
theorem dX1_tried_59 : decode cX1_tried 59 = .ok (.iload_n 3, 1) := dk_29 (dk_at dksX1_tried_2 11 rfl rfl)
theorem dX1_tried_60 : decode cX1_tried 60 = .ok (.iadd, 1) := dk_96 (dk_at dksX1_tried_2 12 rfl rfl)
theorem dX1_tried_61 : decode cX1_tried 61 = .ok (.sipush 1000, 3) := dk_17 3 232 (dk_at dksX1_tried_2 13 rfl rfl)
theorem dX1_tried_64 : decode cX1_tried 64 = .ok (.if_icmp .gt 7, 3) := dk_163 0 7 (dk_at dksX1_tried_2 16 rfl rfl)
theorem dX1_tried_67 : decode cX1_tried 67 = .ok (.iconst 1, 1) := dk_4 (dk_at dksX1_tried_2 19 rfl rfl)
theorem dX1_tried_68 : decode cX1_tried 68 = .ok (.goto 4, 3) := dk_167 0 4 (dk_at dksX1_tried_2 20 rfl rfl)
theorem dX1_tried_71 : decode cX1_tried 71 = .ok (.iconst 0, 1) := dk_3 (dk_at dksX1_tried_2 23 rfl rfl)
theorem dX1_tried_72 : decode cX1_tried 72 = .ok (.invokestatic 439, 3) := dk_184 1 183 (dk_at dksX1_tried_3 0 rfl rfl)
theorem dX1_tried_75 : decode cX1_tried 75 = .ok (.aload_n 0, 1) := dk_42 (dk_at dksX1_tried_3 3 rfl rfl)
theorem dX1_tried_76 : decode cX1_tried 76 = .ok (.getfield 19, 3) := dk_180 0 19 (dk_at dksX1_tried_3 4 rfl rfl)
theorem dX1_tried_79 : decode cX1_tried 79 = .ok (.aload_n 0, 1) := dk_42 (dk_at dksX1_tried_3 7 rfl rfl)
theorem dX1_tried_80 : decode cX1_tried 80 = .ok (.getfield 12, 3) := dk_180 0 12 (dk_at dksX1_tried_3 8 rfl rfl)
theorem dX1_tried_83 : decode cX1_tried 83 = .ok (.invokevirtual 251, 3) := dk_182 0 251 (dk_at dksX1_tried_3 11 rfl rfl)
theorem dX1_tried_86 : decode cX1_tried 86 = .ok (.astore 5, 2) := dk_58 5 (dk_at dksX1_tried_3 14 rfl rfl)
theorem dX1_tried_88 : decode cX1_tried 88 = .ok (.aload 5, 2) := dk_25 5 (dk_at dksX1_tried_3 16 rfl rfl)
theorem dX1_tried_90 : decode cX1_tried 90 = .ok (.iload_n 1, 1) := dk_27 (dk_at dksX1_tried_3 18 rfl rfl)
theorem dX1_tried_91 : decode cX1_tried 91 = .ok (.putfield 464, 3) := dk_181 1 208 (dk_at dksX1_tried_3 19 rfl rfl)
theorem dX1_tried_94 : decode cX1_tried 94 = .ok (.aload 5, 2) := dk_25 5 (dk_at dksX1_tried_3 22 rfl rfl)
theorem dX1_tried_96 : decode cX1_tried 96 = .ok (.iload_n 2, 1) := dk_28 (dk_at dksX1_tried_4 0 rfl rfl)
theorem dX1_tried_97 : decode cX1_tried 97 = .ok (.putfield 467, 3) := dk_181 1 211 (dk_at dksX1_tried_4 1 rfl rfl)
theorem dX1_tried_100 : decode cX1_tried 100 = .ok (.iconst 0, 1) := dk_3 (dk_at dksX1_tried_4 4 rfl rfl)
theorem dX1_tried_101 : decode cX1_tried 101 = .ok (.istore 6, 2) := dk_54 6 (dk_at dksX1_tried_4 5 rfl rfl)
theorem dX1_tried_103 : decode cX1_tried 103 = .ok (.iload 6, 2) := dk_21 6 (dk_at dksX1_tried_4 7 rfl rfl)
theorem dX1_tried_105 : decode cX1_tried 105 = .ok (.iload_n 3, 1) := dk_29 (dk_at dksX1_tried_4 9 rfl rfl)
theorem dX1_tried_106 : decode cX1_tried 106 = .ok (.if_icmp .ge 14, 3) := dk_162 0 14 (dk_at dksX1_tried_4 10 rfl rfl)
theorem dX1_tried_109 : decode cX1_tried 109 = .ok (.aload 5, 2) := dk_25 5 (dk_at dksX1_tried_4 13 rfl rfl)
theorem dX1_tried_111 : decode cX1_tried 111 = .ok (.invokevirtual 442, 3) := dk_182 1 186 (dk_at dksX1_tried_4 15 rfl rfl)
theorem dX1_tried_114 : decode cX1_tried 114 = .ok (.iinc 6 1, 3) := dk_132 6 1 (dk_at dksX1_tried_4 18 rfl rfl)
theorem dX1_tried_117 : decode cX1_tried 117 = .ok (.goto (-14), 3) := dk_167 255 242 (dk_at dksX1_tried_4 21 rfl rfl)
theorem dX1_tried_120 : decode cX1_tried 120 = .ok (.aload 5, 2) := dk_25 5 (dk_at dksX1_tried_5 0 rfl rfl)
theorem dX1_tried_122 : decode cX1_tried 122 = .ok (.iload 4, 2) := dk_21 4 (dk_at dksX1_tried_5 2 rfl rfl)
theorem dX1_tried_124 : decode cX1_tried 124 = .ok (.invokestatic 470, 3) := dk_184 1 214 (dk_at dksX1_tried_5 4 rfl rfl)
theorem dX1_tried_127 : decode cX1_tried 127 = .ok (.ireturn, 1) := dk_172 (dk_at dksX1_tried_5 7 rfl rfl)
def dkwX1_told_3 : List UInt8 := [172, 42, 182, 1, 205, 172]
abbrev dktX1_told_3 : List UInt8 := dkwX1_told_3 ++ []
def dkwX1_told_2 : List UInt8 := [42, 182, 1, 196, 172, 42, 180, 1, 198, 172, 42, 180, 1, 71, 172, 42, 180, 1, 199, 172, 42, 182, 1, 202]
abbrev dktX1_told_2 : List UInt8 := dkwX1_told_2 ++ dktX1_told_3
def dkwX1_told_1 : List UInt8 := [170, 0, 0, 0, 0, 0, 60, 0, 0, 0, 0, 0, 0, 0, 4, 0, 0, 0, 35, 0, 0, 0, 40, 0, 0, 0, 45, 0, 0, 0, 50, 0, 0, 0, 55]
abbrev dktX1_told_1 : List UInt8 := dkwX1_told_1 ++ dktX1_told_2
def dkwX1_told_0 : List UInt8 := [27]
abbrev dktX1_told_0 : List UInt8 := dkwX1_told_0 ++ dktX1_told_1
theorem dksX1_told_0 : cX1_told.data.toList.drop 0 = dktX1_told_0 := by decide +kernel
theorem dksX1_told_1 : cX1_told.data.toList.drop 1 = dktX1_told_1 := dk_seg dksX1_told_0 1 rfl rfl
theorem dksX1_told_2 : cX1_told.data.toList.drop 36 = dktX1_told_2 := dk_seg dksX1_told_1 35 rfl rfl
theorem dksX1_told_3 : cX1_told.data.toList.drop 60 = dktX1_told_3 := dk_seg dksX1_told_2 24 rfl rfl
theorem dX1_told_0 : decode cX1_told 0 = .ok (.iload_n 1, 1) := dk_27 (dk_at dksX1_told_0 0 rfl rfl)
theorem dX1_told_1 : decode cX1_told 1 = .ok (.tableswitch 60 0 4 #[35, 40, 45, 50, 55], 35) := by decide +kernel
theorem dX1_told_36 : decode cX1_told 36 = .ok (.aload_n 0, 1) := dk_42 (dk_at dksX1_told_2 0 rfl rfl)
theorem dX1_told_37 : decode cX1_told 37 = .ok (.invokevirtual 452, 3) := dk_182 1 196 (dk_at dksX1_told_2 1 rfl rfl)
theorem dX1_told_40 : decode cX1_told 40 = .ok (.ireturn, 1) := dk_172 (dk_at dksX1_told_2 4 rfl rfl)
theorem dX1_told_41 : decode cX1_told 41 = .ok (.aload_n 0, 1) := dk_42 (dk_at dksX1_told_2 5 rfl rfl)
theorem dX1_told_42 : decode cX1_told 42 = .ok (.getfield 454, 3) := dk_180 1 198 (dk_at dksX1_told_2 6 rfl rfl)
theorem dX1_told_45 : decode cX1_told 45 = .ok (.ireturn, 1) := dk_172 (dk_at dksX1_told_2 9 rfl rfl)
theorem dX1_told_46 : decode cX1_told 46 = .ok (.aload_n 0, 1) := dk_42 (dk_at dksX1_told_2 10 rfl rfl)
theorem dX1_told_47 : decode cX1_told 47 = .ok (.getfield 327, 3) := dk_180 1 71 (dk_at dksX1_told_2 11 rfl rfl)
theorem dX1_told_50 : decode cX1_told 50 = .ok (.ireturn, 1) := dk_172 (dk_at dksX1_told_2 14 rfl rfl)
theorem dX1_told_51 : decode cX1_told 51 = .ok (.aload_n 0, 1) := dk_42 (dk_at dksX1_told_2 15 rfl rfl)
theorem dX1_told_52 : decode cX1_told 52 = .ok (.getfield 455, 3) := dk_180 1 199 (dk_at dksX1_told_2 16 rfl rfl)
theorem dX1_told_55 : decode cX1_told 55 = .ok (.ireturn, 1) := dk_172 (dk_at dksX1_told_2 19 rfl rfl)
theorem dX1_told_56 : decode cX1_told 56 = .ok (.aload_n 0, 1) := dk_42 (dk_at dksX1_told_2 20 rfl rfl)
theorem dX1_told_57 : decode cX1_told 57 = .ok (.invokevirtual 458, 3) := dk_182 1 202 (dk_at dksX1_told_2 21 rfl rfl)
theorem dX1_told_60 : decode cX1_told 60 = .ok (.ireturn, 1) := dk_172 (dk_at dksX1_told_3 0 rfl rfl)
theorem dX1_told_61 : decode cX1_told 61 = .ok (.aload_n 0, 1) := dk_42 (dk_at dksX1_told_3 1 rfl rfl)
theorem dX1_told_62 : decode cX1_told 62 = .ok (.invokevirtual 461, 3) := dk_182 1 205 (dk_at dksX1_told_3 2 rfl rfl)
theorem dX1_told_65 : decode cX1_told 65 = .ok (.ireturn, 1) := dk_172 (dk_at dksX1_told_3 5 rfl rfl)
def dkwX1_prices_2 : List UInt8 := [3, 27, 79, 42, 180, 0, 49, 4, 28, 79, 42, 180, 0, 49, 5, 29, 79, 42, 4, 181, 1, 218, 177]
abbrev dktX1_prices_2 : List UInt8 := dkwX1_prices_2 ++ []
def dkwX1_prices_1 : List UInt8 := [29, 4, 161, 0, 14, 29, 17, 3, 232, 163, 0, 7, 4, 167, 0, 4, 3, 184, 0, 100, 42, 180, 0, 49]
abbrev dktX1_prices_1 : List UInt8 := dkwX1_prices_1 ++ dktX1_prices_2
def dkwX1_prices_0 : List UInt8 := [27, 4, 161, 0, 38, 27, 17, 3, 232, 163, 0, 31, 28, 4, 161, 0, 26, 28, 17, 3, 232, 163, 0, 19]
abbrev dktX1_prices_0 : List UInt8 := dkwX1_prices_0 ++ dktX1_prices_1
theorem dksX1_prices_0 : cX1_prices.data.toList.drop 0 = dktX1_prices_0 := by decide +kernel
theorem dksX1_prices_1 : cX1_prices.data.toList.drop 24 = dktX1_prices_1 := dk_seg dksX1_prices_0 24 rfl rfl
theorem dksX1_prices_2 : cX1_prices.data.toList.drop 48 = dktX1_prices_2 := dk_seg dksX1_prices_1 24 rfl rfl
theorem dX1_prices_0 : decode cX1_prices 0 = .ok (.iload_n 1, 1) := dk_27 (dk_at dksX1_prices_0 0 rfl rfl)
theorem dX1_prices_1 : decode cX1_prices 1 = .ok (.iconst 1, 1) := dk_4 (dk_at dksX1_prices_0 1 rfl rfl)
theorem dX1_prices_2 : decode cX1_prices 2 = .ok (.if_icmp .lt 38, 3) := dk_161 0 38 (dk_at dksX1_prices_0 2 rfl rfl)
theorem dX1_prices_5 : decode cX1_prices 5 = .ok (.iload_n 1, 1) := dk_27 (dk_at dksX1_prices_0 5 rfl rfl)
theorem dX1_prices_6 : decode cX1_prices 6 = .ok (.sipush 1000, 3) := dk_17 3 232 (dk_at dksX1_prices_0 6 rfl rfl)
theorem dX1_prices_9 : decode cX1_prices 9 = .ok (.if_icmp .gt 31, 3) := dk_163 0 31 (dk_at dksX1_prices_0 9 rfl rfl)
theorem dX1_prices_12 : decode cX1_prices 12 = .ok (.iload_n 2, 1) := dk_28 (dk_at dksX1_prices_0 12 rfl rfl)
theorem dX1_prices_13 : decode cX1_prices 13 = .ok (.iconst 1, 1) := dk_4 (dk_at dksX1_prices_0 13 rfl rfl)
theorem dX1_prices_14 : decode cX1_prices 14 = .ok (.if_icmp .lt 26, 3) := dk_161 0 26 (dk_at dksX1_prices_0 14 rfl rfl)
theorem dX1_prices_17 : decode cX1_prices 17 = .ok (.iload_n 2, 1) := dk_28 (dk_at dksX1_prices_0 17 rfl rfl)
theorem dX1_prices_18 : decode cX1_prices 18 = .ok (.sipush 1000, 3) := dk_17 3 232 (dk_at dksX1_prices_0 18 rfl rfl)
theorem dX1_prices_21 : decode cX1_prices 21 = .ok (.if_icmp .gt 19, 3) := dk_163 0 19 (dk_at dksX1_prices_0 21 rfl rfl)
theorem dX1_prices_24 : decode cX1_prices 24 = .ok (.iload_n 3, 1) := dk_29 (dk_at dksX1_prices_1 0 rfl rfl)
theorem dX1_prices_25 : decode cX1_prices 25 = .ok (.iconst 1, 1) := dk_4 (dk_at dksX1_prices_1 1 rfl rfl)
theorem dX1_prices_26 : decode cX1_prices 26 = .ok (.if_icmp .lt 14, 3) := dk_161 0 14 (dk_at dksX1_prices_1 2 rfl rfl)
theorem dX1_prices_29 : decode cX1_prices 29 = .ok (.iload_n 3, 1) := dk_29 (dk_at dksX1_prices_1 5 rfl rfl)
theorem dX1_prices_30 : decode cX1_prices 30 = .ok (.sipush 1000, 3) := dk_17 3 232 (dk_at dksX1_prices_1 6 rfl rfl)
theorem dX1_prices_33 : decode cX1_prices 33 = .ok (.if_icmp .gt 7, 3) := dk_163 0 7 (dk_at dksX1_prices_1 9 rfl rfl)
theorem dX1_prices_36 : decode cX1_prices 36 = .ok (.iconst 1, 1) := dk_4 (dk_at dksX1_prices_1 12 rfl rfl)
theorem dX1_prices_37 : decode cX1_prices 37 = .ok (.goto 4, 3) := dk_167 0 4 (dk_at dksX1_prices_1 13 rfl rfl)
theorem dX1_prices_40 : decode cX1_prices 40 = .ok (.iconst 0, 1) := dk_3 (dk_at dksX1_prices_1 16 rfl rfl)
theorem dX1_prices_41 : decode cX1_prices 41 = .ok (.invokestatic 100, 3) := dk_184 0 100 (dk_at dksX1_prices_1 17 rfl rfl)
theorem dX1_prices_44 : decode cX1_prices 44 = .ok (.aload_n 0, 1) := dk_42 (dk_at dksX1_prices_1 20 rfl rfl)
theorem dX1_prices_45 : decode cX1_prices 45 = .ok (.getfield 49, 3) := dk_180 0 49 (dk_at dksX1_prices_1 21 rfl rfl)
theorem dX1_prices_48 : decode cX1_prices 48 = .ok (.iconst 0, 1) := dk_3 (dk_at dksX1_prices_2 0 rfl rfl)
theorem dX1_prices_49 : decode cX1_prices 49 = .ok (.iload_n 1, 1) := dk_27 (dk_at dksX1_prices_2 1 rfl rfl)
theorem dX1_prices_50 : decode cX1_prices 50 = .ok (.iastore, 1) := dk_79 (dk_at dksX1_prices_2 2 rfl rfl)
theorem dX1_prices_51 : decode cX1_prices 51 = .ok (.aload_n 0, 1) := dk_42 (dk_at dksX1_prices_2 3 rfl rfl)
theorem dX1_prices_52 : decode cX1_prices 52 = .ok (.getfield 49, 3) := dk_180 0 49 (dk_at dksX1_prices_2 4 rfl rfl)
theorem dX1_prices_55 : decode cX1_prices 55 = .ok (.iconst 1, 1) := dk_4 (dk_at dksX1_prices_2 7 rfl rfl)
theorem dX1_prices_56 : decode cX1_prices 56 = .ok (.iload_n 2, 1) := dk_28 (dk_at dksX1_prices_2 8 rfl rfl)
theorem dX1_prices_57 : decode cX1_prices 57 = .ok (.iastore, 1) := dk_79 (dk_at dksX1_prices_2 9 rfl rfl)
theorem dX1_prices_58 : decode cX1_prices 58 = .ok (.aload_n 0, 1) := dk_42 (dk_at dksX1_prices_2 10 rfl rfl)
theorem dX1_prices_59 : decode cX1_prices 59 = .ok (.getfield 49, 3) := dk_180 0 49 (dk_at dksX1_prices_2 11 rfl rfl)
theorem dX1_prices_62 : decode cX1_prices 62 = .ok (.iconst 2, 1) := dk_5 (dk_at dksX1_prices_2 14 rfl rfl)
theorem dX1_prices_63 : decode cX1_prices 63 = .ok (.iload_n 3, 1) := dk_29 (dk_at dksX1_prices_2 15 rfl rfl)
theorem dX1_prices_64 : decode cX1_prices 64 = .ok (.iastore, 1) := dk_79 (dk_at dksX1_prices_2 16 rfl rfl)
theorem dX1_prices_65 : decode cX1_prices 65 = .ok (.aload_n 0, 1) := dk_42 (dk_at dksX1_prices_2 17 rfl rfl)
theorem dX1_prices_66 : decode cX1_prices 66 = .ok (.iconst 1, 1) := dk_4 (dk_at dksX1_prices_2 18 rfl rfl)
theorem dX1_prices_67 : decode cX1_prices 67 = .ok (.putfield 474, 3) := dk_181 1 218 (dk_at dksX1_prices_2 19 rfl rfl)
theorem dX1_prices_70 : decode cX1_prices 70 = .ok (.return_, 1) := dk_177 (dk_at dksX1_prices_2 22 rfl rfl)
def dkwX1_worst_2 : List UInt8 := [180, 0, 53, 4, 29, 79, 42, 180, 0, 53, 5, 21, 4, 79, 42, 27, 181, 1, 224, 177]
abbrev dktX1_worst_2 : List UInt8 := dkwX1_worst_2 ++ []
def dkwX1_worst_1 : List UInt8 := [21, 4, 184, 1, 221, 153, 0, 7, 4, 167, 0, 4, 3, 184, 0, 100, 42, 180, 0, 53, 3, 28, 79, 42]
abbrev dktX1_worst_1 : List UInt8 := dkwX1_worst_1 ++ dktX1_worst_2
def dkwX1_worst_0 : List UInt8 := [27, 4, 161, 0, 34, 27, 6, 163, 0, 29, 28, 184, 1, 221, 153, 0, 22, 29, 184, 1, 221, 153, 0, 15]
abbrev dktX1_worst_0 : List UInt8 := dkwX1_worst_0 ++ dktX1_worst_1
theorem dksX1_worst_0 : cX1_worst.data.toList.drop 0 = dktX1_worst_0 := by decide +kernel
theorem dksX1_worst_1 : cX1_worst.data.toList.drop 24 = dktX1_worst_1 := dk_seg dksX1_worst_0 24 rfl rfl
theorem dksX1_worst_2 : cX1_worst.data.toList.drop 48 = dktX1_worst_2 := dk_seg dksX1_worst_1 24 rfl rfl
theorem dX1_worst_0 : decode cX1_worst 0 = .ok (.iload_n 1, 1) := dk_27 (dk_at dksX1_worst_0 0 rfl rfl)
theorem dX1_worst_1 : decode cX1_worst 1 = .ok (.iconst 1, 1) := dk_4 (dk_at dksX1_worst_0 1 rfl rfl)
theorem dX1_worst_2 : decode cX1_worst 2 = .ok (.if_icmp .lt 34, 3) := dk_161 0 34 (dk_at dksX1_worst_0 2 rfl rfl)
theorem dX1_worst_5 : decode cX1_worst 5 = .ok (.iload_n 1, 1) := dk_27 (dk_at dksX1_worst_0 5 rfl rfl)
theorem dX1_worst_6 : decode cX1_worst 6 = .ok (.iconst 3, 1) := dk_6 (dk_at dksX1_worst_0 6 rfl rfl)
theorem dX1_worst_7 : decode cX1_worst 7 = .ok (.if_icmp .gt 29, 3) := dk_163 0 29 (dk_at dksX1_worst_0 7 rfl rfl)
theorem dX1_worst_10 : decode cX1_worst 10 = .ok (.iload_n 2, 1) := dk_28 (dk_at dksX1_worst_0 10 rfl rfl)
theorem dX1_worst_11 : decode cX1_worst 11 = .ok (.invokestatic 477, 3) := dk_184 1 221 (dk_at dksX1_worst_0 11 rfl rfl)
theorem dX1_worst_14 : decode cX1_worst 14 = .ok (.ifCond .eq 22, 3) := dk_153 0 22 (dk_at dksX1_worst_0 14 rfl rfl)
theorem dX1_worst_17 : decode cX1_worst 17 = .ok (.iload_n 3, 1) := dk_29 (dk_at dksX1_worst_0 17 rfl rfl)
theorem dX1_worst_18 : decode cX1_worst 18 = .ok (.invokestatic 477, 3) := dk_184 1 221 (dk_at dksX1_worst_0 18 rfl rfl)
theorem dX1_worst_21 : decode cX1_worst 21 = .ok (.ifCond .eq 15, 3) := dk_153 0 15 (dk_at dksX1_worst_0 21 rfl rfl)
theorem dX1_worst_24 : decode cX1_worst 24 = .ok (.iload 4, 2) := dk_21 4 (dk_at dksX1_worst_1 0 rfl rfl)
theorem dX1_worst_26 : decode cX1_worst 26 = .ok (.invokestatic 477, 3) := dk_184 1 221 (dk_at dksX1_worst_1 2 rfl rfl)
theorem dX1_worst_29 : decode cX1_worst 29 = .ok (.ifCond .eq 7, 3) := dk_153 0 7 (dk_at dksX1_worst_1 5 rfl rfl)
theorem dX1_worst_32 : decode cX1_worst 32 = .ok (.iconst 1, 1) := dk_4 (dk_at dksX1_worst_1 8 rfl rfl)
theorem dX1_worst_33 : decode cX1_worst 33 = .ok (.goto 4, 3) := dk_167 0 4 (dk_at dksX1_worst_1 9 rfl rfl)
theorem dX1_worst_36 : decode cX1_worst 36 = .ok (.iconst 0, 1) := dk_3 (dk_at dksX1_worst_1 12 rfl rfl)
theorem dX1_worst_37 : decode cX1_worst 37 = .ok (.invokestatic 100, 3) := dk_184 0 100 (dk_at dksX1_worst_1 13 rfl rfl)
theorem dX1_worst_40 : decode cX1_worst 40 = .ok (.aload_n 0, 1) := dk_42 (dk_at dksX1_worst_1 16 rfl rfl)
theorem dX1_worst_41 : decode cX1_worst 41 = .ok (.getfield 53, 3) := dk_180 0 53 (dk_at dksX1_worst_1 17 rfl rfl)
theorem dX1_worst_44 : decode cX1_worst 44 = .ok (.iconst 0, 1) := dk_3 (dk_at dksX1_worst_1 20 rfl rfl)
theorem dX1_worst_45 : decode cX1_worst 45 = .ok (.iload_n 2, 1) := dk_28 (dk_at dksX1_worst_1 21 rfl rfl)
theorem dX1_worst_46 : decode cX1_worst 46 = .ok (.iastore, 1) := dk_79 (dk_at dksX1_worst_1 22 rfl rfl)
theorem dX1_worst_47 : decode cX1_worst 47 = .ok (.aload_n 0, 1) := dk_42 (dk_at dksX1_worst_1 23 rfl rfl)
theorem dX1_worst_48 : decode cX1_worst 48 = .ok (.getfield 53, 3) := dk_180 0 53 (dk_at dksX1_worst_2 0 rfl rfl)
theorem dX1_worst_51 : decode cX1_worst 51 = .ok (.iconst 1, 1) := dk_4 (dk_at dksX1_worst_2 3 rfl rfl)
theorem dX1_worst_52 : decode cX1_worst 52 = .ok (.iload_n 3, 1) := dk_29 (dk_at dksX1_worst_2 4 rfl rfl)
theorem dX1_worst_53 : decode cX1_worst 53 = .ok (.iastore, 1) := dk_79 (dk_at dksX1_worst_2 5 rfl rfl)
theorem dX1_worst_54 : decode cX1_worst 54 = .ok (.aload_n 0, 1) := dk_42 (dk_at dksX1_worst_2 6 rfl rfl)
theorem dX1_worst_55 : decode cX1_worst 55 = .ok (.getfield 53, 3) := dk_180 0 53 (dk_at dksX1_worst_2 7 rfl rfl)
theorem dX1_worst_58 : decode cX1_worst 58 = .ok (.iconst 2, 1) := dk_5 (dk_at dksX1_worst_2 10 rfl rfl)
theorem dX1_worst_59 : decode cX1_worst 59 = .ok (.iload 4, 2) := dk_21 4 (dk_at dksX1_worst_2 11 rfl rfl)
theorem dX1_worst_61 : decode cX1_worst 61 = .ok (.iastore, 1) := dk_79 (dk_at dksX1_worst_2 13 rfl rfl)
theorem dX1_worst_62 : decode cX1_worst 62 = .ok (.aload_n 0, 1) := dk_42 (dk_at dksX1_worst_2 14 rfl rfl)
theorem dX1_worst_63 : decode cX1_worst 63 = .ok (.iload_n 1, 1) := dk_27 (dk_at dksX1_worst_2 15 rfl rfl)
theorem dX1_worst_64 : decode cX1_worst 64 = .ok (.putfield 480, 3) := dk_181 1 224 (dk_at dksX1_worst_2 16 rfl rfl)
theorem dX1_worst_67 : decode cX1_worst 67 = .ok (.return_, 1) := dk_177 (dk_at dksX1_worst_2 19 rfl rfl)
def dkwX1_isRain_0 : List UInt8 := [26, 155, 0, 14, 26, 17, 1, 244, 163, 0, 7, 4, 167, 0, 4, 3, 172]
abbrev dktX1_isRain_0 : List UInt8 := dkwX1_isRain_0 ++ []
theorem dksX1_isRain_0 : cX1_isRain.data.toList.drop 0 = dktX1_isRain_0 := by decide +kernel
theorem dX1_isRain_0 : decode cX1_isRain 0 = .ok (.iload_n 0, 1) := dk_26 (dk_at dksX1_isRain_0 0 rfl rfl)
theorem dX1_isRain_1 : decode cX1_isRain 1 = .ok (.ifCond .lt 14, 3) := dk_155 0 14 (dk_at dksX1_isRain_0 1 rfl rfl)
theorem dX1_isRain_4 : decode cX1_isRain 4 = .ok (.iload_n 0, 1) := dk_26 (dk_at dksX1_isRain_0 4 rfl rfl)
theorem dX1_isRain_5 : decode cX1_isRain 5 = .ok (.sipush 500, 3) := dk_17 1 244 (dk_at dksX1_isRain_0 5 rfl rfl)
theorem dX1_isRain_8 : decode cX1_isRain 8 = .ok (.if_icmp .gt 7, 3) := dk_163 0 7 (dk_at dksX1_isRain_0 8 rfl rfl)
theorem dX1_isRain_11 : decode cX1_isRain 11 = .ok (.iconst 1, 1) := dk_4 (dk_at dksX1_isRain_0 11 rfl rfl)
theorem dX1_isRain_12 : decode cX1_isRain 12 = .ok (.goto 4, 3) := dk_167 0 4 (dk_at dksX1_isRain_0 12 rfl rfl)
theorem dX1_isRain_15 : decode cX1_isRain 15 = .ok (.iconst 0, 1) := dk_3 (dk_at dksX1_isRain_0 15 rfl rfl)
theorem dX1_isRain_16 : decode cX1_isRain 16 = .ok (.ireturn, 1) := dk_172 (dk_at dksX1_isRain_0 16 rfl rfl)
def dkwX1_planned_11 : List UInt8 := [172, 21, 4, 172]
abbrev dktX1_planned_11 : List UInt8 := dkwX1_planned_11 ++ []
def dkwX1_planned_10 : List UInt8 := [42, 180, 0, 56, 3, 46, 172, 27, 4, 160, 0, 7, 2, 167, 0, 9, 42, 180, 0, 56, 4, 46, 172, 29]
abbrev dktX1_planned_10 : List UInt8 := dkwX1_planned_10 ++ dktX1_planned_11
def dkwX1_planned_9 : List UInt8 := [170, 0, 0, 0, 0, 0, 52, 0, 0, 0, 0, 0, 0, 0, 2, 0, 0, 0, 27, 0, 0, 0, 34, 0, 0, 0, 50]
abbrev dktX1_planned_9 : List UInt8 := dkwX1_planned_9 ++ dktX1_planned_10
def dkwX1_planned_8 : List UInt8 := [167, 255, 144, 28]
abbrev dktX1_planned_8 : List UInt8 := dkwX1_planned_8 ++ dktX1_planned_9
def dkwX1_planned_7 : List UInt8 := [42, 180, 1, 233, 54, 4, 42, 180, 0, 59, 3, 42, 180, 0, 56, 3, 5, 184, 1, 242, 132, 5, 1]
abbrev dktX1_planned_7 : List UInt8 := dkwX1_planned_7 ++ dktX1_planned_8
def dkwX1_planned_6 : List UInt8 := [180, 1, 227, 29, 160, 0, 15, 42, 180, 1, 233, 21, 4, 163, 0, 6, 167, 0, 28, 42, 180, 1, 227, 62]
abbrev dktX1_planned_6 : List UInt8 := dkwX1_planned_6 ++ dktX1_planned_7
def dkwX1_planned_5 : List UInt8 := [21, 5, 6, 112, 79, 42, 27, 182, 1, 239, 29, 2, 159, 0, 31, 42, 180, 1, 227, 29, 163, 0, 48, 42]
abbrev dktX1_planned_5 : List UInt8 := dkwX1_planned_5 ++ dktX1_planned_6
def dkwX1_planned_4 : List UInt8 := [180, 0, 59, 3, 27, 4, 160, 0, 8, 21, 5, 167, 0, 7, 21, 5, 6, 108, 79, 42, 180, 0, 59, 4]
abbrev dktX1_planned_4 : List UInt8 := dkwX1_planned_4 ++ dktX1_planned_5
def dkwX1_planned_3 : List UInt8 := [62, 3, 54, 4, 3, 54, 5, 21, 5, 27, 4, 160, 0, 7, 6, 167, 0, 5, 16, 9, 162, 0, 102, 42]
abbrev dktX1_planned_3 : List UInt8 := dkwX1_planned_3 ++ dktX1_planned_4
def dkwX1_planned_2 : List UInt8 := [167, 0, 4, 3, 184, 1, 183, 42, 180, 1, 218, 153, 0, 10, 42, 180, 1, 224, 154, 0, 5, 2, 172, 2]
abbrev dktX1_planned_2 : List UInt8 := dkwX1_planned_2 ++ dktX1_planned_3
def dkwX1_planned_1 : List UInt8 := [184, 0, 100, 42, 180, 0, 12, 180, 1, 47, 16, 13, 27, 104, 96, 17, 3, 232, 163, 0, 7, 4]
abbrev dktX1_planned_1 : List UInt8 := dkwX1_planned_1 ++ dktX1_planned_2
def dkwX1_planned_0 : List UInt8 := [27, 4, 159, 0, 8, 27, 5, 160, 0, 16, 28, 155, 0, 12, 28, 6, 163, 0, 7, 4, 167, 0, 4, 3]
abbrev dktX1_planned_0 : List UInt8 := dkwX1_planned_0 ++ dktX1_planned_1
theorem dksX1_planned_0 : cX1_planned.data.toList.drop 0 = dktX1_planned_0 := by decide +kernel
theorem dksX1_planned_1 : cX1_planned.data.toList.drop 24 = dktX1_planned_1 := dk_seg dksX1_planned_0 24 rfl rfl
theorem dksX1_planned_2 : cX1_planned.data.toList.drop 46 = dktX1_planned_2 := dk_seg dksX1_planned_1 22 rfl rfl
theorem dksX1_planned_3 : cX1_planned.data.toList.drop 70 = dktX1_planned_3 := dk_seg dksX1_planned_2 24 rfl rfl
theorem dksX1_planned_4 : cX1_planned.data.toList.drop 94 = dktX1_planned_4 := dk_seg dksX1_planned_3 24 rfl rfl
theorem dksX1_planned_5 : cX1_planned.data.toList.drop 118 = dktX1_planned_5 := dk_seg dksX1_planned_4 24 rfl rfl
theorem dksX1_planned_6 : cX1_planned.data.toList.drop 142 = dktX1_planned_6 := dk_seg dksX1_planned_5 24 rfl rfl
theorem dksX1_planned_7 : cX1_planned.data.toList.drop 166 = dktX1_planned_7 := dk_seg dksX1_planned_6 24 rfl rfl
theorem dksX1_planned_8 : cX1_planned.data.toList.drop 189 = dktX1_planned_8 := dk_seg dksX1_planned_7 23 rfl rfl
theorem dksX1_planned_9 : cX1_planned.data.toList.drop 193 = dktX1_planned_9 := dk_seg dksX1_planned_8 4 rfl rfl
theorem dksX1_planned_10 : cX1_planned.data.toList.drop 220 = dktX1_planned_10 := dk_seg dksX1_planned_9 27 rfl rfl
theorem dksX1_planned_11 : cX1_planned.data.toList.drop 244 = dktX1_planned_11 := dk_seg dksX1_planned_10 24 rfl rfl
theorem dX1_planned_0 : decode cX1_planned 0 = .ok (.iload_n 1, 1) := dk_27 (dk_at dksX1_planned_0 0 rfl rfl)
theorem dX1_planned_1 : decode cX1_planned 1 = .ok (.iconst 1, 1) := dk_4 (dk_at dksX1_planned_0 1 rfl rfl)
theorem dX1_planned_2 : decode cX1_planned 2 = .ok (.if_icmp .eq 8, 3) := dk_159 0 8 (dk_at dksX1_planned_0 2 rfl rfl)
theorem dX1_planned_5 : decode cX1_planned 5 = .ok (.iload_n 1, 1) := dk_27 (dk_at dksX1_planned_0 5 rfl rfl)
theorem dX1_planned_6 : decode cX1_planned 6 = .ok (.iconst 2, 1) := dk_5 (dk_at dksX1_planned_0 6 rfl rfl)
theorem dX1_planned_7 : decode cX1_planned 7 = .ok (.if_icmp .ne 16, 3) := dk_160 0 16 (dk_at dksX1_planned_0 7 rfl rfl)
theorem dX1_planned_10 : decode cX1_planned 10 = .ok (.iload_n 2, 1) := dk_28 (dk_at dksX1_planned_0 10 rfl rfl)
theorem dX1_planned_11 : decode cX1_planned 11 = .ok (.ifCond .lt 12, 3) := dk_155 0 12 (dk_at dksX1_planned_0 11 rfl rfl)
theorem dX1_planned_14 : decode cX1_planned 14 = .ok (.iload_n 2, 1) := dk_28 (dk_at dksX1_planned_0 14 rfl rfl)
theorem dX1_planned_15 : decode cX1_planned 15 = .ok (.iconst 3, 1) := dk_6 (dk_at dksX1_planned_0 15 rfl rfl)
theorem dX1_planned_16 : decode cX1_planned 16 = .ok (.if_icmp .gt 7, 3) := dk_163 0 7 (dk_at dksX1_planned_0 16 rfl rfl)
theorem dX1_planned_19 : decode cX1_planned 19 = .ok (.iconst 1, 1) := dk_4 (dk_at dksX1_planned_0 19 rfl rfl)
theorem dX1_planned_20 : decode cX1_planned 20 = .ok (.goto 4, 3) := dk_167 0 4 (dk_at dksX1_planned_0 20 rfl rfl)
theorem dX1_planned_23 : decode cX1_planned 23 = .ok (.iconst 0, 1) := dk_3 (dk_at dksX1_planned_0 23 rfl rfl)
theorem dX1_planned_24 : decode cX1_planned 24 = .ok (.invokestatic 100, 3) := dk_184 0 100 (dk_at dksX1_planned_1 0 rfl rfl)
theorem dX1_planned_27 : decode cX1_planned 27 = .ok (.aload_n 0, 1) := dk_42 (dk_at dksX1_planned_1 3 rfl rfl)
theorem dX1_planned_28 : decode cX1_planned 28 = .ok (.getfield 12, 3) := dk_180 0 12 (dk_at dksX1_planned_1 4 rfl rfl)
theorem dX1_planned_31 : decode cX1_planned 31 = .ok (.getfield 303, 3) := dk_180 1 47 (dk_at dksX1_planned_1 7 rfl rfl)
theorem dX1_planned_34 : decode cX1_planned 34 = .ok (.bipush 13, 2) := dk_16 13 (dk_at dksX1_planned_1 10 rfl rfl)
theorem dX1_planned_36 : decode cX1_planned 36 = .ok (.iload_n 1, 1) := dk_27 (dk_at dksX1_planned_1 12 rfl rfl)
theorem dX1_planned_37 : decode cX1_planned 37 = .ok (.imul, 1) := dk_104 (dk_at dksX1_planned_1 13 rfl rfl)
theorem dX1_planned_38 : decode cX1_planned 38 = .ok (.iadd, 1) := dk_96 (dk_at dksX1_planned_1 14 rfl rfl)
theorem dX1_planned_39 : decode cX1_planned 39 = .ok (.sipush 1000, 3) := dk_17 3 232 (dk_at dksX1_planned_1 15 rfl rfl)
theorem dX1_planned_42 : decode cX1_planned 42 = .ok (.if_icmp .gt 7, 3) := dk_163 0 7 (dk_at dksX1_planned_1 18 rfl rfl)
theorem dX1_planned_45 : decode cX1_planned 45 = .ok (.iconst 1, 1) := dk_4 (dk_at dksX1_planned_1 21 rfl rfl)
theorem dX1_planned_46 : decode cX1_planned 46 = .ok (.goto 4, 3) := dk_167 0 4 (dk_at dksX1_planned_2 0 rfl rfl)
theorem dX1_planned_49 : decode cX1_planned 49 = .ok (.iconst 0, 1) := dk_3 (dk_at dksX1_planned_2 3 rfl rfl)
theorem dX1_planned_50 : decode cX1_planned 50 = .ok (.invokestatic 439, 3) := dk_184 1 183 (dk_at dksX1_planned_2 4 rfl rfl)
theorem dX1_planned_53 : decode cX1_planned 53 = .ok (.aload_n 0, 1) := dk_42 (dk_at dksX1_planned_2 7 rfl rfl)
theorem dX1_planned_54 : decode cX1_planned 54 = .ok (.getfield 474, 3) := dk_180 1 218 (dk_at dksX1_planned_2 8 rfl rfl)
theorem dX1_planned_57 : decode cX1_planned 57 = .ok (.ifCond .eq 10, 3) := dk_153 0 10 (dk_at dksX1_planned_2 11 rfl rfl)
theorem dX1_planned_60 : decode cX1_planned 60 = .ok (.aload_n 0, 1) := dk_42 (dk_at dksX1_planned_2 14 rfl rfl)
theorem dX1_planned_61 : decode cX1_planned 61 = .ok (.getfield 480, 3) := dk_180 1 224 (dk_at dksX1_planned_2 15 rfl rfl)
theorem dX1_planned_64 : decode cX1_planned 64 = .ok (.ifCond .ne 5, 3) := dk_154 0 5 (dk_at dksX1_planned_2 18 rfl rfl)
theorem dX1_planned_67 : decode cX1_planned 67 = .ok (.iconst (-1), 1) := dk_2 (dk_at dksX1_planned_2 21 rfl rfl)
theorem dX1_planned_68 : decode cX1_planned 68 = .ok (.ireturn, 1) := dk_172 (dk_at dksX1_planned_2 22 rfl rfl)
theorem dX1_planned_69 : decode cX1_planned 69 = .ok (.iconst (-1), 1) := dk_2 (dk_at dksX1_planned_2 23 rfl rfl)
theorem dX1_planned_70 : decode cX1_planned 70 = .ok (.istore_n 3, 1) := dk_62 (dk_at dksX1_planned_3 0 rfl rfl)
theorem dX1_planned_71 : decode cX1_planned 71 = .ok (.iconst 0, 1) := dk_3 (dk_at dksX1_planned_3 1 rfl rfl)
theorem dX1_planned_72 : decode cX1_planned 72 = .ok (.istore 4, 2) := dk_54 4 (dk_at dksX1_planned_3 2 rfl rfl)
theorem dX1_planned_74 : decode cX1_planned 74 = .ok (.iconst 0, 1) := dk_3 (dk_at dksX1_planned_3 4 rfl rfl)
theorem dX1_planned_75 : decode cX1_planned 75 = .ok (.istore 5, 2) := dk_54 5 (dk_at dksX1_planned_3 5 rfl rfl)
theorem dX1_planned_77 : decode cX1_planned 77 = .ok (.iload 5, 2) := dk_21 5 (dk_at dksX1_planned_3 7 rfl rfl)
theorem dX1_planned_79 : decode cX1_planned 79 = .ok (.iload_n 1, 1) := dk_27 (dk_at dksX1_planned_3 9 rfl rfl)
theorem dX1_planned_80 : decode cX1_planned 80 = .ok (.iconst 1, 1) := dk_4 (dk_at dksX1_planned_3 10 rfl rfl)
theorem dX1_planned_81 : decode cX1_planned 81 = .ok (.if_icmp .ne 7, 3) := dk_160 0 7 (dk_at dksX1_planned_3 11 rfl rfl)
theorem dX1_planned_84 : decode cX1_planned 84 = .ok (.iconst 3, 1) := dk_6 (dk_at dksX1_planned_3 14 rfl rfl)
theorem dX1_planned_85 : decode cX1_planned 85 = .ok (.goto 5, 3) := dk_167 0 5 (dk_at dksX1_planned_3 15 rfl rfl)
theorem dX1_planned_88 : decode cX1_planned 88 = .ok (.bipush 9, 2) := dk_16 9 (dk_at dksX1_planned_3 18 rfl rfl)
theorem dX1_planned_90 : decode cX1_planned 90 = .ok (.if_icmp .ge 102, 3) := dk_162 0 102 (dk_at dksX1_planned_3 20 rfl rfl)
theorem dX1_planned_93 : decode cX1_planned 93 = .ok (.aload_n 0, 1) := dk_42 (dk_at dksX1_planned_3 23 rfl rfl)
theorem dX1_planned_94 : decode cX1_planned 94 = .ok (.getfield 59, 3) := dk_180 0 59 (dk_at dksX1_planned_4 0 rfl rfl)
theorem dX1_planned_97 : decode cX1_planned 97 = .ok (.iconst 0, 1) := dk_3 (dk_at dksX1_planned_4 3 rfl rfl)
theorem dX1_planned_98 : decode cX1_planned 98 = .ok (.iload_n 1, 1) := dk_27 (dk_at dksX1_planned_4 4 rfl rfl)
theorem dX1_planned_99 : decode cX1_planned 99 = .ok (.iconst 1, 1) := dk_4 (dk_at dksX1_planned_4 5 rfl rfl)
theorem dX1_planned_100 : decode cX1_planned 100 = .ok (.if_icmp .ne 8, 3) := dk_160 0 8 (dk_at dksX1_planned_4 6 rfl rfl)
theorem dX1_planned_103 : decode cX1_planned 103 = .ok (.iload 5, 2) := dk_21 5 (dk_at dksX1_planned_4 9 rfl rfl)
theorem dX1_planned_105 : decode cX1_planned 105 = .ok (.goto 7, 3) := dk_167 0 7 (dk_at dksX1_planned_4 11 rfl rfl)
theorem dX1_planned_108 : decode cX1_planned 108 = .ok (.iload 5, 2) := dk_21 5 (dk_at dksX1_planned_4 14 rfl rfl)
theorem dX1_planned_110 : decode cX1_planned 110 = .ok (.iconst 3, 1) := dk_6 (dk_at dksX1_planned_4 16 rfl rfl)
theorem dX1_planned_111 : decode cX1_planned 111 = .ok (.idiv, 1) := dk_108 (dk_at dksX1_planned_4 17 rfl rfl)
theorem dX1_planned_112 : decode cX1_planned 112 = .ok (.iastore, 1) := dk_79 (dk_at dksX1_planned_4 18 rfl rfl)
theorem dX1_planned_113 : decode cX1_planned 113 = .ok (.aload_n 0, 1) := dk_42 (dk_at dksX1_planned_4 19 rfl rfl)
theorem dX1_planned_114 : decode cX1_planned 114 = .ok (.getfield 59, 3) := dk_180 0 59 (dk_at dksX1_planned_4 20 rfl rfl)
theorem dX1_planned_117 : decode cX1_planned 117 = .ok (.iconst 1, 1) := dk_4 (dk_at dksX1_planned_4 23 rfl rfl)
theorem dX1_planned_118 : decode cX1_planned 118 = .ok (.iload 5, 2) := dk_21 5 (dk_at dksX1_planned_5 0 rfl rfl)
theorem dX1_planned_120 : decode cX1_planned 120 = .ok (.iconst 3, 1) := dk_6 (dk_at dksX1_planned_5 2 rfl rfl)
theorem dX1_planned_121 : decode cX1_planned 121 = .ok (.irem, 1) := dk_112 (dk_at dksX1_planned_5 3 rfl rfl)
theorem dX1_planned_122 : decode cX1_planned 122 = .ok (.iastore, 1) := dk_79 (dk_at dksX1_planned_5 4 rfl rfl)
theorem dX1_planned_123 : decode cX1_planned 123 = .ok (.aload_n 0, 1) := dk_42 (dk_at dksX1_planned_5 5 rfl rfl)
theorem dX1_planned_124 : decode cX1_planned 124 = .ok (.iload_n 1, 1) := dk_27 (dk_at dksX1_planned_5 6 rfl rfl)
theorem dX1_planned_125 : decode cX1_planned 125 = .ok (.invokevirtual 495, 3) := dk_182 1 239 (dk_at dksX1_planned_5 7 rfl rfl)
theorem dX1_planned_128 : decode cX1_planned 128 = .ok (.iload_n 3, 1) := dk_29 (dk_at dksX1_planned_5 10 rfl rfl)
theorem dX1_planned_129 : decode cX1_planned 129 = .ok (.iconst (-1), 1) := dk_2 (dk_at dksX1_planned_5 11 rfl rfl)
theorem dX1_planned_130 : decode cX1_planned 130 = .ok (.if_icmp .eq 31, 3) := dk_159 0 31 (dk_at dksX1_planned_5 12 rfl rfl)
theorem dX1_planned_133 : decode cX1_planned 133 = .ok (.aload_n 0, 1) := dk_42 (dk_at dksX1_planned_5 15 rfl rfl)
theorem dX1_planned_134 : decode cX1_planned 134 = .ok (.getfield 483, 3) := dk_180 1 227 (dk_at dksX1_planned_5 16 rfl rfl)
theorem dX1_planned_137 : decode cX1_planned 137 = .ok (.iload_n 3, 1) := dk_29 (dk_at dksX1_planned_5 19 rfl rfl)
theorem dX1_planned_138 : decode cX1_planned 138 = .ok (.if_icmp .gt 48, 3) := dk_163 0 48 (dk_at dksX1_planned_5 20 rfl rfl)
theorem dX1_planned_141 : decode cX1_planned 141 = .ok (.aload_n 0, 1) := dk_42 (dk_at dksX1_planned_5 23 rfl rfl)
theorem dX1_planned_142 : decode cX1_planned 142 = .ok (.getfield 483, 3) := dk_180 1 227 (dk_at dksX1_planned_6 0 rfl rfl)
theorem dX1_planned_145 : decode cX1_planned 145 = .ok (.iload_n 3, 1) := dk_29 (dk_at dksX1_planned_6 3 rfl rfl)
theorem dX1_planned_146 : decode cX1_planned 146 = .ok (.if_icmp .ne 15, 3) := dk_160 0 15 (dk_at dksX1_planned_6 4 rfl rfl)
theorem dX1_planned_149 : decode cX1_planned 149 = .ok (.aload_n 0, 1) := dk_42 (dk_at dksX1_planned_6 7 rfl rfl)
theorem dX1_planned_150 : decode cX1_planned 150 = .ok (.getfield 489, 3) := dk_180 1 233 (dk_at dksX1_planned_6 8 rfl rfl)
theorem dX1_planned_153 : decode cX1_planned 153 = .ok (.iload 4, 2) := dk_21 4 (dk_at dksX1_planned_6 11 rfl rfl)
theorem dX1_planned_155 : decode cX1_planned 155 = .ok (.if_icmp .gt 6, 3) := dk_163 0 6 (dk_at dksX1_planned_6 13 rfl rfl)
theorem dX1_planned_158 : decode cX1_planned 158 = .ok (.goto 28, 3) := dk_167 0 28 (dk_at dksX1_planned_6 16 rfl rfl)
theorem dX1_planned_161 : decode cX1_planned 161 = .ok (.aload_n 0, 1) := dk_42 (dk_at dksX1_planned_6 19 rfl rfl)
theorem dX1_planned_162 : decode cX1_planned 162 = .ok (.getfield 483, 3) := dk_180 1 227 (dk_at dksX1_planned_6 20 rfl rfl)
theorem dX1_planned_165 : decode cX1_planned 165 = .ok (.istore_n 3, 1) := dk_62 (dk_at dksX1_planned_6 23 rfl rfl)
theorem dX1_planned_166 : decode cX1_planned 166 = .ok (.aload_n 0, 1) := dk_42 (dk_at dksX1_planned_7 0 rfl rfl)
theorem dX1_planned_167 : decode cX1_planned 167 = .ok (.getfield 489, 3) := dk_180 1 233 (dk_at dksX1_planned_7 1 rfl rfl)
theorem dX1_planned_170 : decode cX1_planned 170 = .ok (.istore 4, 2) := dk_54 4 (dk_at dksX1_planned_7 4 rfl rfl)
theorem dX1_planned_172 : decode cX1_planned 172 = .ok (.aload_n 0, 1) := dk_42 (dk_at dksX1_planned_7 6 rfl rfl)
theorem dX1_planned_173 : decode cX1_planned 173 = .ok (.getfield 59, 3) := dk_180 0 59 (dk_at dksX1_planned_7 7 rfl rfl)
theorem dX1_planned_176 : decode cX1_planned 176 = .ok (.iconst 0, 1) := dk_3 (dk_at dksX1_planned_7 10 rfl rfl)
theorem dX1_planned_177 : decode cX1_planned 177 = .ok (.aload_n 0, 1) := dk_42 (dk_at dksX1_planned_7 11 rfl rfl)
theorem dX1_planned_178 : decode cX1_planned 178 = .ok (.getfield 56, 3) := dk_180 0 56 (dk_at dksX1_planned_7 12 rfl rfl)
theorem dX1_planned_181 : decode cX1_planned 181 = .ok (.iconst 0, 1) := dk_3 (dk_at dksX1_planned_7 15 rfl rfl)
theorem dX1_planned_182 : decode cX1_planned 182 = .ok (.iconst 2, 1) := dk_5 (dk_at dksX1_planned_7 16 rfl rfl)
theorem dX1_planned_183 : decode cX1_planned 183 = .ok (.invokestatic 498, 3) := dk_184 1 242 (dk_at dksX1_planned_7 17 rfl rfl)
theorem dX1_planned_186 : decode cX1_planned 186 = .ok (.iinc 5 1, 3) := dk_132 5 1 (dk_at dksX1_planned_7 20 rfl rfl)
theorem dX1_planned_189 : decode cX1_planned 189 = .ok (.goto (-112), 3) := dk_167 255 144 (dk_at dksX1_planned_8 0 rfl rfl)
theorem dX1_planned_192 : decode cX1_planned 192 = .ok (.iload_n 2, 1) := dk_28 (dk_at dksX1_planned_8 3 rfl rfl)
theorem dX1_planned_193 : decode cX1_planned 193 = .ok (.tableswitch 52 0 2 #[27, 34, 50], 27) := by decide +kernel
theorem dX1_planned_220 : decode cX1_planned 220 = .ok (.aload_n 0, 1) := dk_42 (dk_at dksX1_planned_10 0 rfl rfl)
theorem dX1_planned_221 : decode cX1_planned 221 = .ok (.getfield 56, 3) := dk_180 0 56 (dk_at dksX1_planned_10 1 rfl rfl)
theorem dX1_planned_224 : decode cX1_planned 224 = .ok (.iconst 0, 1) := dk_3 (dk_at dksX1_planned_10 4 rfl rfl)
theorem dX1_planned_225 : decode cX1_planned 225 = .ok (.iaload, 1) := dk_46 (dk_at dksX1_planned_10 5 rfl rfl)
theorem dX1_planned_226 : decode cX1_planned 226 = .ok (.ireturn, 1) := dk_172 (dk_at dksX1_planned_10 6 rfl rfl)
theorem dX1_planned_227 : decode cX1_planned 227 = .ok (.iload_n 1, 1) := dk_27 (dk_at dksX1_planned_10 7 rfl rfl)
theorem dX1_planned_228 : decode cX1_planned 228 = .ok (.iconst 1, 1) := dk_4 (dk_at dksX1_planned_10 8 rfl rfl)
theorem dX1_planned_229 : decode cX1_planned 229 = .ok (.if_icmp .ne 7, 3) := dk_160 0 7 (dk_at dksX1_planned_10 9 rfl rfl)
theorem dX1_planned_232 : decode cX1_planned 232 = .ok (.iconst (-1), 1) := dk_2 (dk_at dksX1_planned_10 12 rfl rfl)
theorem dX1_planned_233 : decode cX1_planned 233 = .ok (.goto 9, 3) := dk_167 0 9 (dk_at dksX1_planned_10 13 rfl rfl)
theorem dX1_planned_236 : decode cX1_planned 236 = .ok (.aload_n 0, 1) := dk_42 (dk_at dksX1_planned_10 16 rfl rfl)
theorem dX1_planned_237 : decode cX1_planned 237 = .ok (.getfield 56, 3) := dk_180 0 56 (dk_at dksX1_planned_10 17 rfl rfl)
theorem dX1_planned_240 : decode cX1_planned 240 = .ok (.iconst 1, 1) := dk_4 (dk_at dksX1_planned_10 20 rfl rfl)
theorem dX1_planned_241 : decode cX1_planned 241 = .ok (.iaload, 1) := dk_46 (dk_at dksX1_planned_10 21 rfl rfl)
theorem dX1_planned_242 : decode cX1_planned 242 = .ok (.ireturn, 1) := dk_172 (dk_at dksX1_planned_10 22 rfl rfl)
theorem dX1_planned_243 : decode cX1_planned 243 = .ok (.iload_n 3, 1) := dk_29 (dk_at dksX1_planned_10 23 rfl rfl)
theorem dX1_planned_244 : decode cX1_planned 244 = .ok (.ireturn, 1) := dk_172 (dk_at dksX1_planned_11 0 rfl rfl)
theorem dX1_planned_245 : decode cX1_planned 245 = .ok (.iload 4, 2) := dk_21 4 (dk_at dksX1_planned_11 1 rfl rfl)
theorem dX1_planned_247 : decode cX1_planned 247 = .ok (.ireturn, 1) := dk_172 (dk_at dksX1_planned_11 3 rfl rfl)
def dkwX1_goesOn_5 : List UInt8 := [180, 1, 227, 45, 180, 1, 198, 184, 1, 236, 181, 1, 227, 132, 2, 1, 167, 255, 131, 177]
abbrev dktX1_goesOn_5 : List UInt8 := dkwX1_goesOn_5 ++ []
def dkwX1_goesOn_4 : List UInt8 := [45, 182, 1, 196, 167, 0, 14, 42, 180, 1, 233, 45, 182, 1, 196, 184, 1, 143, 181, 1, 233, 42, 42]
abbrev dktX1_goesOn_4 : List UInt8 := dkwX1_goesOn_4 ++ dktX1_goesOn_5
def dkwX1_goesOn_3 : List UInt8 := [162, 0, 13, 45, 182, 1, 186, 132, 5, 1, 167, 255, 242, 132, 4, 1, 167, 255, 211, 42, 28, 154, 0, 10]
abbrev dktX1_goesOn_3 : List UInt8 := dkwX1_goesOn_3 ++ dktX1_goesOn_4
def dkwX1_goesOn_2 : List UInt8 := [42, 180, 0, 49, 42, 180, 0, 59, 21, 4, 46, 46, 181, 1, 208, 3, 54, 5, 21, 5, 16, 13]
abbrev dktX1_goesOn_2 : List UInt8 := dkwX1_goesOn_2 ++ dktX1_goesOn_3
def dkwX1_goesOn_1 : List UInt8 := [182, 0, 251, 78, 45, 42, 180, 0, 53, 28, 46, 181, 1, 230, 3, 54, 4, 21, 4, 27, 162, 0, 45, 45]
abbrev dktX1_goesOn_1 : List UInt8 := dkwX1_goesOn_1 ++ dktX1_goesOn_2
def dkwX1_goesOn_0 : List UInt8 := [42, 2, 181, 1, 227, 3, 61, 28, 42, 180, 1, 224, 162, 0, 123, 42, 180, 0, 19, 42, 180, 0, 12]
abbrev dktX1_goesOn_0 : List UInt8 := dkwX1_goesOn_0 ++ dktX1_goesOn_1
theorem dksX1_goesOn_0 : cX1_goesOn.data.toList.drop 0 = dktX1_goesOn_0 := by decide +kernel
theorem dksX1_goesOn_1 : cX1_goesOn.data.toList.drop 23 = dktX1_goesOn_1 := dk_seg dksX1_goesOn_0 23 rfl rfl
theorem dksX1_goesOn_2 : cX1_goesOn.data.toList.drop 47 = dktX1_goesOn_2 := dk_seg dksX1_goesOn_1 24 rfl rfl
theorem dksX1_goesOn_3 : cX1_goesOn.data.toList.drop 69 = dktX1_goesOn_3 := dk_seg dksX1_goesOn_2 22 rfl rfl
theorem dksX1_goesOn_4 : cX1_goesOn.data.toList.drop 93 = dktX1_goesOn_4 := dk_seg dksX1_goesOn_3 24 rfl rfl
theorem dksX1_goesOn_5 : cX1_goesOn.data.toList.drop 116 = dktX1_goesOn_5 := dk_seg dksX1_goesOn_4 23 rfl rfl
theorem dX1_goesOn_0 : decode cX1_goesOn 0 = .ok (.aload_n 0, 1) := dk_42 (dk_at dksX1_goesOn_0 0 rfl rfl)
theorem dX1_goesOn_1 : decode cX1_goesOn 1 = .ok (.iconst (-1), 1) := dk_2 (dk_at dksX1_goesOn_0 1 rfl rfl)
theorem dX1_goesOn_2 : decode cX1_goesOn 2 = .ok (.putfield 483, 3) := dk_181 1 227 (dk_at dksX1_goesOn_0 2 rfl rfl)
theorem dX1_goesOn_5 : decode cX1_goesOn 5 = .ok (.iconst 0, 1) := dk_3 (dk_at dksX1_goesOn_0 5 rfl rfl)
theorem dX1_goesOn_6 : decode cX1_goesOn 6 = .ok (.istore_n 2, 1) := dk_61 (dk_at dksX1_goesOn_0 6 rfl rfl)
theorem dX1_goesOn_7 : decode cX1_goesOn 7 = .ok (.iload_n 2, 1) := dk_28 (dk_at dksX1_goesOn_0 7 rfl rfl)
theorem dX1_goesOn_8 : decode cX1_goesOn 8 = .ok (.aload_n 0, 1) := dk_42 (dk_at dksX1_goesOn_0 8 rfl rfl)
theorem dX1_goesOn_9 : decode cX1_goesOn 9 = .ok (.getfield 480, 3) := dk_180 1 224 (dk_at dksX1_goesOn_0 9 rfl rfl)
theorem dX1_goesOn_12 : decode cX1_goesOn 12 = .ok (.if_icmp .ge 123, 3) := dk_162 0 123 (dk_at dksX1_goesOn_0 12 rfl rfl)
theorem dX1_goesOn_15 : decode cX1_goesOn 15 = .ok (.aload_n 0, 1) := dk_42 (dk_at dksX1_goesOn_0 15 rfl rfl)
theorem dX1_goesOn_16 : decode cX1_goesOn 16 = .ok (.getfield 19, 3) := dk_180 0 19 (dk_at dksX1_goesOn_0 16 rfl rfl)
theorem dX1_goesOn_19 : decode cX1_goesOn 19 = .ok (.aload_n 0, 1) := dk_42 (dk_at dksX1_goesOn_0 19 rfl rfl)
theorem dX1_goesOn_20 : decode cX1_goesOn 20 = .ok (.getfield 12, 3) := dk_180 0 12 (dk_at dksX1_goesOn_0 20 rfl rfl)
theorem dX1_goesOn_23 : decode cX1_goesOn 23 = .ok (.invokevirtual 251, 3) := dk_182 0 251 (dk_at dksX1_goesOn_1 0 rfl rfl)
theorem dX1_goesOn_26 : decode cX1_goesOn 26 = .ok (.astore_n 3, 1) := dk_78 (dk_at dksX1_goesOn_1 3 rfl rfl)
theorem dX1_goesOn_27 : decode cX1_goesOn 27 = .ok (.aload_n 3, 1) := dk_45 (dk_at dksX1_goesOn_1 4 rfl rfl)
theorem dX1_goesOn_28 : decode cX1_goesOn 28 = .ok (.aload_n 0, 1) := dk_42 (dk_at dksX1_goesOn_1 5 rfl rfl)
theorem dX1_goesOn_29 : decode cX1_goesOn 29 = .ok (.getfield 53, 3) := dk_180 0 53 (dk_at dksX1_goesOn_1 6 rfl rfl)
theorem dX1_goesOn_32 : decode cX1_goesOn 32 = .ok (.iload_n 2, 1) := dk_28 (dk_at dksX1_goesOn_1 9 rfl rfl)
theorem dX1_goesOn_33 : decode cX1_goesOn 33 = .ok (.iaload, 1) := dk_46 (dk_at dksX1_goesOn_1 10 rfl rfl)
theorem dX1_goesOn_34 : decode cX1_goesOn 34 = .ok (.putfield 486, 3) := dk_181 1 230 (dk_at dksX1_goesOn_1 11 rfl rfl)
theorem dX1_goesOn_37 : decode cX1_goesOn 37 = .ok (.iconst 0, 1) := dk_3 (dk_at dksX1_goesOn_1 14 rfl rfl)
theorem dX1_goesOn_38 : decode cX1_goesOn 38 = .ok (.istore 4, 2) := dk_54 4 (dk_at dksX1_goesOn_1 15 rfl rfl)
theorem dX1_goesOn_40 : decode cX1_goesOn 40 = .ok (.iload 4, 2) := dk_21 4 (dk_at dksX1_goesOn_1 17 rfl rfl)
theorem dX1_goesOn_42 : decode cX1_goesOn 42 = .ok (.iload_n 1, 1) := dk_27 (dk_at dksX1_goesOn_1 19 rfl rfl)
theorem dX1_goesOn_43 : decode cX1_goesOn 43 = .ok (.if_icmp .ge 45, 3) := dk_162 0 45 (dk_at dksX1_goesOn_1 20 rfl rfl)
theorem dX1_goesOn_46 : decode cX1_goesOn 46 = .ok (.aload_n 3, 1) := dk_45 (dk_at dksX1_goesOn_1 23 rfl rfl)
theorem dX1_goesOn_47 : decode cX1_goesOn 47 = .ok (.aload_n 0, 1) := dk_42 (dk_at dksX1_goesOn_2 0 rfl rfl)
theorem dX1_goesOn_48 : decode cX1_goesOn 48 = .ok (.getfield 49, 3) := dk_180 0 49 (dk_at dksX1_goesOn_2 1 rfl rfl)
theorem dX1_goesOn_51 : decode cX1_goesOn 51 = .ok (.aload_n 0, 1) := dk_42 (dk_at dksX1_goesOn_2 4 rfl rfl)
theorem dX1_goesOn_52 : decode cX1_goesOn 52 = .ok (.getfield 59, 3) := dk_180 0 59 (dk_at dksX1_goesOn_2 5 rfl rfl)
theorem dX1_goesOn_55 : decode cX1_goesOn 55 = .ok (.iload 4, 2) := dk_21 4 (dk_at dksX1_goesOn_2 8 rfl rfl)
theorem dX1_goesOn_57 : decode cX1_goesOn 57 = .ok (.iaload, 1) := dk_46 (dk_at dksX1_goesOn_2 10 rfl rfl)
theorem dX1_goesOn_58 : decode cX1_goesOn 58 = .ok (.iaload, 1) := dk_46 (dk_at dksX1_goesOn_2 11 rfl rfl)
theorem dX1_goesOn_59 : decode cX1_goesOn 59 = .ok (.putfield 464, 3) := dk_181 1 208 (dk_at dksX1_goesOn_2 12 rfl rfl)
theorem dX1_goesOn_62 : decode cX1_goesOn 62 = .ok (.iconst 0, 1) := dk_3 (dk_at dksX1_goesOn_2 15 rfl rfl)
theorem dX1_goesOn_63 : decode cX1_goesOn 63 = .ok (.istore 5, 2) := dk_54 5 (dk_at dksX1_goesOn_2 16 rfl rfl)
theorem dX1_goesOn_65 : decode cX1_goesOn 65 = .ok (.iload 5, 2) := dk_21 5 (dk_at dksX1_goesOn_2 18 rfl rfl)
theorem dX1_goesOn_67 : decode cX1_goesOn 67 = .ok (.bipush 13, 2) := dk_16 13 (dk_at dksX1_goesOn_2 20 rfl rfl)
theorem dX1_goesOn_69 : decode cX1_goesOn 69 = .ok (.if_icmp .ge 13, 3) := dk_162 0 13 (dk_at dksX1_goesOn_3 0 rfl rfl)
theorem dX1_goesOn_72 : decode cX1_goesOn 72 = .ok (.aload_n 3, 1) := dk_45 (dk_at dksX1_goesOn_3 3 rfl rfl)
theorem dX1_goesOn_73 : decode cX1_goesOn 73 = .ok (.invokevirtual 442, 3) := dk_182 1 186 (dk_at dksX1_goesOn_3 4 rfl rfl)
theorem dX1_goesOn_76 : decode cX1_goesOn 76 = .ok (.iinc 5 1, 3) := dk_132 5 1 (dk_at dksX1_goesOn_3 7 rfl rfl)
theorem dX1_goesOn_79 : decode cX1_goesOn 79 = .ok (.goto (-14), 3) := dk_167 255 242 (dk_at dksX1_goesOn_3 10 rfl rfl)
theorem dX1_goesOn_82 : decode cX1_goesOn 82 = .ok (.iinc 4 1, 3) := dk_132 4 1 (dk_at dksX1_goesOn_3 13 rfl rfl)
theorem dX1_goesOn_85 : decode cX1_goesOn 85 = .ok (.goto (-45), 3) := dk_167 255 211 (dk_at dksX1_goesOn_3 16 rfl rfl)
theorem dX1_goesOn_88 : decode cX1_goesOn 88 = .ok (.aload_n 0, 1) := dk_42 (dk_at dksX1_goesOn_3 19 rfl rfl)
theorem dX1_goesOn_89 : decode cX1_goesOn 89 = .ok (.iload_n 2, 1) := dk_28 (dk_at dksX1_goesOn_3 20 rfl rfl)
theorem dX1_goesOn_90 : decode cX1_goesOn 90 = .ok (.ifCond .ne 10, 3) := dk_154 0 10 (dk_at dksX1_goesOn_3 21 rfl rfl)
theorem dX1_goesOn_93 : decode cX1_goesOn 93 = .ok (.aload_n 3, 1) := dk_45 (dk_at dksX1_goesOn_4 0 rfl rfl)
theorem dX1_goesOn_94 : decode cX1_goesOn 94 = .ok (.invokevirtual 452, 3) := dk_182 1 196 (dk_at dksX1_goesOn_4 1 rfl rfl)
theorem dX1_goesOn_97 : decode cX1_goesOn 97 = .ok (.goto 14, 3) := dk_167 0 14 (dk_at dksX1_goesOn_4 4 rfl rfl)
theorem dX1_goesOn_100 : decode cX1_goesOn 100 = .ok (.aload_n 0, 1) := dk_42 (dk_at dksX1_goesOn_4 7 rfl rfl)
theorem dX1_goesOn_101 : decode cX1_goesOn 101 = .ok (.getfield 489, 3) := dk_180 1 233 (dk_at dksX1_goesOn_4 8 rfl rfl)
theorem dX1_goesOn_104 : decode cX1_goesOn 104 = .ok (.aload_n 3, 1) := dk_45 (dk_at dksX1_goesOn_4 11 rfl rfl)
theorem dX1_goesOn_105 : decode cX1_goesOn 105 = .ok (.invokevirtual 452, 3) := dk_182 1 196 (dk_at dksX1_goesOn_4 12 rfl rfl)
theorem dX1_goesOn_108 : decode cX1_goesOn 108 = .ok (.invokestatic 399, 3) := dk_184 1 143 (dk_at dksX1_goesOn_4 15 rfl rfl)
theorem dX1_goesOn_111 : decode cX1_goesOn 111 = .ok (.putfield 489, 3) := dk_181 1 233 (dk_at dksX1_goesOn_4 18 rfl rfl)
theorem dX1_goesOn_114 : decode cX1_goesOn 114 = .ok (.aload_n 0, 1) := dk_42 (dk_at dksX1_goesOn_4 21 rfl rfl)
theorem dX1_goesOn_115 : decode cX1_goesOn 115 = .ok (.aload_n 0, 1) := dk_42 (dk_at dksX1_goesOn_4 22 rfl rfl)
theorem dX1_goesOn_116 : decode cX1_goesOn 116 = .ok (.getfield 483, 3) := dk_180 1 227 (dk_at dksX1_goesOn_5 0 rfl rfl)
theorem dX1_goesOn_119 : decode cX1_goesOn 119 = .ok (.aload_n 3, 1) := dk_45 (dk_at dksX1_goesOn_5 3 rfl rfl)
theorem dX1_goesOn_120 : decode cX1_goesOn 120 = .ok (.getfield 454, 3) := dk_180 1 198 (dk_at dksX1_goesOn_5 4 rfl rfl)
theorem dX1_goesOn_123 : decode cX1_goesOn 123 = .ok (.invokestatic 492, 3) := dk_184 1 236 (dk_at dksX1_goesOn_5 7 rfl rfl)
theorem dX1_goesOn_126 : decode cX1_goesOn 126 = .ok (.putfield 483, 3) := dk_181 1 227 (dk_at dksX1_goesOn_5 10 rfl rfl)
theorem dX1_goesOn_129 : decode cX1_goesOn 129 = .ok (.iinc 2 1, 3) := dk_132 2 1 (dk_at dksX1_goesOn_5 13 rfl rfl)
theorem dX1_goesOn_132 : decode cX1_goesOn 132 = .ok (.goto (-125), 3) := dk_167 255 131 (dk_at dksX1_goesOn_5 16 rfl rfl)
theorem dX1_goesOn_135 : decode cX1_goesOn 135 = .ok (.return_, 1) := dk_177 (dk_at dksX1_goesOn_5 19 rfl rfl)
