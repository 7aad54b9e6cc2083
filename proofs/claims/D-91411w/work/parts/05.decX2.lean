set_option maxRecDepth 100000
def dkwX2_init_12 : List UInt8 := [132, 1, 1, 167, 255, 240, 177]
abbrev dktX2_init_12 : List UInt8 := dkwX2_init_12 ++ []
def dkwX2_init_11 : List UInt8 := [182, 0, 116, 132, 1, 1, 167, 255, 216, 3, 60, 27, 16, 12, 162, 0, 16, 42, 180, 0, 70, 27, 2, 79]
abbrev dktX2_init_11 : List UInt8 := dkwX2_init_11 ++ dktX2_init_12
def dkwX2_init_10 : List UInt8 := [27, 8, 84, 42, 180, 0, 29, 187, 0, 109, 89, 183, 0, 111, 182, 0, 112, 87, 42, 27, 42, 180, 0, 50]
abbrev dktX2_init_10 : List UInt8 := dkwX2_init_10 ++ dktX2_init_11
def dkwX2_init_9 : List UInt8 := [181, 0, 102, 42, 17, 23, 118, 188, 10, 181, 0, 106, 3, 60, 27, 16, 96, 162, 0, 40, 42, 180, 0, 92]
abbrev dktX2_init_9 : List UInt8 := dkwX2_init_9 ++ dktX2_init_10
def dkwX2_init_8 : List UInt8 := [16, 96, 188, 8, 181, 0, 92, 42, 16, 96, 188, 4, 181, 0, 96, 42, 187, 0, 99, 89, 183, 0, 101]
abbrev dktX2_init_8 : List UInt8 := dkwX2_init_8 ++ dktX2_init_9
def dkwX2_init_7 : List UInt8 := [187, 0, 24, 89, 5, 183, 0, 26, 181, 0, 82, 42, 187, 0, 85, 89, 183, 0, 87, 181, 0, 88, 42]
abbrev dktX2_init_7 : List UInt8 := dkwX2_init_7 ++ dktX2_init_8
def dkwX2_init_6 : List UInt8 := [187, 0, 24, 89, 5, 183, 0, 26, 181, 0, 76, 42, 187, 0, 24, 89, 5, 183, 0, 26, 181, 0, 79, 42]
abbrev dktX2_init_6 : List UInt8 := dkwX2_init_6 ++ dktX2_init_7
def dkwX2_init_5 : List UInt8 := [42, 16, 12, 188, 10, 181, 0, 70, 42, 187, 0, 24, 89, 16, 8, 183, 0, 26, 181, 0, 73, 42]
abbrev dktX2_init_5 : List UInt8 := dkwX2_init_5 ++ dktX2_init_6
def dkwX2_init_4 : List UInt8 := [181, 0, 57, 42, 7, 188, 10, 181, 0, 61, 42, 7, 188, 10, 181, 0, 64, 42, 7, 188, 10, 181, 0, 67]
abbrev dktX2_init_4 : List UInt8 := dkwX2_init_4 ++ dktX2_init_5
def dkwX2_init_3 : List UInt8 := [181, 0, 43, 42, 187, 0, 47, 89, 183, 0, 49, 181, 0, 50, 42, 187, 0, 54, 89, 183, 0, 56]
abbrev dktX2_init_3 : List UInt8 := dkwX2_init_3 ++ dktX2_init_4
def dkwX2_init_2 : List UInt8 := [181, 0, 33, 42, 16, 96, 188, 10, 181, 0, 37, 42, 16, 96, 188, 10, 181, 0, 40, 42, 16, 96, 188, 4]
abbrev dktX2_init_2 : List UInt8 := dkwX2_init_2 ++ dktX2_init_3
def dkwX2_init_1 : List UInt8 := [2, 181, 0, 21, 42, 187, 0, 24, 89, 16, 96, 183, 0, 26, 181, 0, 29, 42, 16, 96, 188, 10]
abbrev dktX2_init_1 : List UInt8 := dkwX2_init_1 ++ dktX2_init_2
def dkwX2_init_0 : List UInt8 := [42, 183, 0, 3, 42, 17, 1, 244, 181, 0, 9, 42, 17, 0, 200, 181, 0, 15, 42, 2, 181, 0, 18, 42]
abbrev dktX2_init_0 : List UInt8 := dkwX2_init_0 ++ dktX2_init_1
theorem dksX2_init_0 : cX2_init.data.toList.drop 0 = dktX2_init_0 := by decide +kernel
theorem dksX2_init_1 : cX2_init.data.toList.drop 24 = dktX2_init_1 := dk_seg dksX2_init_0 24 rfl rfl
theorem dksX2_init_2 : cX2_init.data.toList.drop 46 = dktX2_init_2 := dk_seg dksX2_init_1 22 rfl rfl
theorem dksX2_init_3 : cX2_init.data.toList.drop 70 = dktX2_init_3 := dk_seg dksX2_init_2 24 rfl rfl
theorem dksX2_init_4 : cX2_init.data.toList.drop 92 = dktX2_init_4 := dk_seg dksX2_init_3 22 rfl rfl
theorem dksX2_init_5 : cX2_init.data.toList.drop 116 = dktX2_init_5 := dk_seg dksX2_init_4 24 rfl rfl
theorem dksX2_init_6 : cX2_init.data.toList.drop 138 = dktX2_init_6 := dk_seg dksX2_init_5 22 rfl rfl
theorem dksX2_init_7 : cX2_init.data.toList.drop 162 = dktX2_init_7 := dk_seg dksX2_init_6 24 rfl rfl
theorem dksX2_init_8 : cX2_init.data.toList.drop 185 = dktX2_init_8 := dk_seg dksX2_init_7 23 rfl rfl
theorem dksX2_init_9 : cX2_init.data.toList.drop 208 = dktX2_init_9 := dk_seg dksX2_init_8 23 rfl rfl
theorem dksX2_init_10 : cX2_init.data.toList.drop 232 = dktX2_init_10 := dk_seg dksX2_init_9 24 rfl rfl
theorem dksX2_init_11 : cX2_init.data.toList.drop 256 = dktX2_init_11 := dk_seg dksX2_init_10 24 rfl rfl
theorem dksX2_init_12 : cX2_init.data.toList.drop 280 = dktX2_init_12 := dk_seg dksX2_init_11 24 rfl rfl
theorem dX2_init_0 : decode cX2_init 0 = .ok (.aload_n 0, 1) := dk_42 (dk_at dksX2_init_0 0 rfl rfl)
theorem dX2_init_1 : decode cX2_init 1 = .ok (.invokespecial 3, 3) := dk_183 0 3 (dk_at dksX2_init_0 1 rfl rfl)
theorem dX2_init_4 : decode cX2_init 4 = .ok (.aload_n 0, 1) := dk_42 (dk_at dksX2_init_0 4 rfl rfl)
theorem dX2_init_5 : decode cX2_init 5 = .ok (.sipush 500, 3) := dk_17 1 244 (dk_at dksX2_init_0 5 rfl rfl)
theorem dX2_init_8 : decode cX2_init 8 = .ok (.putfield 9, 3) := dk_181 0 9 (dk_at dksX2_init_0 8 rfl rfl)
theorem dX2_init_11 : decode cX2_init 11 = .ok (.aload_n 0, 1) := dk_42 (dk_at dksX2_init_0 11 rfl rfl)
theorem dX2_init_12 : decode cX2_init 12 = .ok (.sipush 200, 3) := dk_17 0 200 (dk_at dksX2_init_0 12 rfl rfl)
theorem dX2_init_15 : decode cX2_init 15 = .ok (.putfield 15, 3) := dk_181 0 15 (dk_at dksX2_init_0 15 rfl rfl)
theorem dX2_init_18 : decode cX2_init 18 = .ok (.aload_n 0, 1) := dk_42 (dk_at dksX2_init_0 18 rfl rfl)
theorem dX2_init_19 : decode cX2_init 19 = .ok (.iconst (-1), 1) := dk_2 (dk_at dksX2_init_0 19 rfl rfl)
theorem dX2_init_20 : decode cX2_init 20 = .ok (.putfield 18, 3) := dk_181 0 18 (dk_at dksX2_init_0 20 rfl rfl)
theorem dX2_init_23 : decode cX2_init 23 = .ok (.aload_n 0, 1) := dk_42 (dk_at dksX2_init_0 23 rfl rfl)
theorem dX2_init_24 : decode cX2_init 24 = .ok (.iconst (-1), 1) := dk_2 (dk_at dksX2_init_1 0 rfl rfl)
theorem dX2_init_25 : decode cX2_init 25 = .ok (.putfield 21, 3) := dk_181 0 21 (dk_at dksX2_init_1 1 rfl rfl)
theorem dX2_init_28 : decode cX2_init 28 = .ok (.aload_n 0, 1) := dk_42 (dk_at dksX2_init_1 4 rfl rfl)
theorem dX2_init_29 : decode cX2_init 29 = .ok (.new 24, 3) := dk_187 0 24 (dk_at dksX2_init_1 5 rfl rfl)
theorem dX2_init_32 : decode cX2_init 32 = .ok (.dup, 1) := dk_89 (dk_at dksX2_init_1 8 rfl rfl)
theorem dX2_init_33 : decode cX2_init 33 = .ok (.bipush 96, 2) := dk_16 96 (dk_at dksX2_init_1 9 rfl rfl)
theorem dX2_init_35 : decode cX2_init 35 = .ok (.invokespecial 26, 3) := dk_183 0 26 (dk_at dksX2_init_1 11 rfl rfl)
theorem dX2_init_38 : decode cX2_init 38 = .ok (.putfield 29, 3) := dk_181 0 29 (dk_at dksX2_init_1 14 rfl rfl)
theorem dX2_init_41 : decode cX2_init 41 = .ok (.aload_n 0, 1) := dk_42 (dk_at dksX2_init_1 17 rfl rfl)
theorem dX2_init_42 : decode cX2_init 42 = .ok (.bipush 96, 2) := dk_16 96 (dk_at dksX2_init_1 18 rfl rfl)
theorem dX2_init_44 : decode cX2_init 44 = .ok (.newarray .int, 2) := dk_188_10 (dk_at dksX2_init_1 20 rfl rfl)
theorem dX2_init_46 : decode cX2_init 46 = .ok (.putfield 33, 3) := dk_181 0 33 (dk_at dksX2_init_2 0 rfl rfl)
theorem dX2_init_49 : decode cX2_init 49 = .ok (.aload_n 0, 1) := dk_42 (dk_at dksX2_init_2 3 rfl rfl)
theorem dX2_init_50 : decode cX2_init 50 = .ok (.bipush 96, 2) := dk_16 96 (dk_at dksX2_init_2 4 rfl rfl)
theorem dX2_init_52 : decode cX2_init 52 = .ok (.newarray .int, 2) := dk_188_10 (dk_at dksX2_init_2 6 rfl rfl)
theorem dX2_init_54 : decode cX2_init 54 = .ok (.putfield 37, 3) := dk_181 0 37 (dk_at dksX2_init_2 8 rfl rfl)
theorem dX2_init_57 : decode cX2_init 57 = .ok (.aload_n 0, 1) := dk_42 (dk_at dksX2_init_2 11 rfl rfl)
theorem dX2_init_58 : decode cX2_init 58 = .ok (.bipush 96, 2) := dk_16 96 (dk_at dksX2_init_2 12 rfl rfl)
theorem dX2_init_60 : decode cX2_init 60 = .ok (.newarray .int, 2) := dk_188_10 (dk_at dksX2_init_2 14 rfl rfl)
theorem dX2_init_62 : decode cX2_init 62 = .ok (.putfield 40, 3) := dk_181 0 40 (dk_at dksX2_init_2 16 rfl rfl)
theorem dX2_init_65 : decode cX2_init 65 = .ok (.aload_n 0, 1) := dk_42 (dk_at dksX2_init_2 19 rfl rfl)
theorem dX2_init_66 : decode cX2_init 66 = .ok (.bipush 96, 2) := dk_16 96 (dk_at dksX2_init_2 20 rfl rfl)
theorem dX2_init_68 : decode cX2_init 68 = .ok (.newarray .boolean, 2) := dk_188_4 (dk_at dksX2_init_2 22 rfl rfl)
theorem dX2_init_70 : decode cX2_init 70 = .ok (.putfield 43, 3) := dk_181 0 43 (dk_at dksX2_init_3 0 rfl rfl)
theorem dX2_init_73 : decode cX2_init 73 = .ok (.aload_n 0, 1) := dk_42 (dk_at dksX2_init_3 3 rfl rfl)
theorem dX2_init_74 : decode cX2_init 74 = .ok (.new 47, 3) := dk_187 0 47 (dk_at dksX2_init_3 4 rfl rfl)
theorem dX2_init_77 : decode cX2_init 77 = .ok (.dup, 1) := dk_89 (dk_at dksX2_init_3 7 rfl rfl)
theorem dX2_init_78 : decode cX2_init 78 = .ok (.invokespecial 49, 3) := dk_183 0 49 (dk_at dksX2_init_3 8 rfl rfl)
theorem dX2_init_81 : decode cX2_init 81 = .ok (.putfield 50, 3) := dk_181 0 50 (dk_at dksX2_init_3 11 rfl rfl)
theorem dX2_init_84 : decode cX2_init 84 = .ok (.aload_n 0, 1) := dk_42 (dk_at dksX2_init_3 14 rfl rfl)
theorem dX2_init_85 : decode cX2_init 85 = .ok (.new 54, 3) := dk_187 0 54 (dk_at dksX2_init_3 15 rfl rfl)
theorem dX2_init_88 : decode cX2_init 88 = .ok (.dup, 1) := dk_89 (dk_at dksX2_init_3 18 rfl rfl)
theorem dX2_init_89 : decode cX2_init 89 = .ok (.invokespecial 56, 3) := dk_183 0 56 (dk_at dksX2_init_3 19 rfl rfl)
theorem dX2_init_92 : decode cX2_init 92 = .ok (.putfield 57, 3) := dk_181 0 57 (dk_at dksX2_init_4 0 rfl rfl)
theorem dX2_init_95 : decode cX2_init 95 = .ok (.aload_n 0, 1) := dk_42 (dk_at dksX2_init_4 3 rfl rfl)
theorem dX2_init_96 : decode cX2_init 96 = .ok (.iconst 4, 1) := dk_7 (dk_at dksX2_init_4 4 rfl rfl)
theorem dX2_init_97 : decode cX2_init 97 = .ok (.newarray .int, 2) := dk_188_10 (dk_at dksX2_init_4 5 rfl rfl)
theorem dX2_init_99 : decode cX2_init 99 = .ok (.putfield 61, 3) := dk_181 0 61 (dk_at dksX2_init_4 7 rfl rfl)
theorem dX2_init_102 : decode cX2_init 102 = .ok (.aload_n 0, 1) := dk_42 (dk_at dksX2_init_4 10 rfl rfl)
theorem dX2_init_103 : decode cX2_init 103 = .ok (.iconst 4, 1) := dk_7 (dk_at dksX2_init_4 11 rfl rfl)
theorem dX2_init_104 : decode cX2_init 104 = .ok (.newarray .int, 2) := dk_188_10 (dk_at dksX2_init_4 12 rfl rfl)
theorem dX2_init_106 : decode cX2_init 106 = .ok (.putfield 64, 3) := dk_181 0 64 (dk_at dksX2_init_4 14 rfl rfl)
theorem dX2_init_109 : decode cX2_init 109 = .ok (.aload_n 0, 1) := dk_42 (dk_at dksX2_init_4 17 rfl rfl)
theorem dX2_init_110 : decode cX2_init 110 = .ok (.iconst 4, 1) := dk_7 (dk_at dksX2_init_4 18 rfl rfl)
theorem dX2_init_111 : decode cX2_init 111 = .ok (.newarray .int, 2) := dk_188_10 (dk_at dksX2_init_4 19 rfl rfl)
theorem dX2_init_113 : decode cX2_init 113 = .ok (.putfield 67, 3) := dk_181 0 67 (dk_at dksX2_init_4 21 rfl rfl)
theorem dX2_init_116 : decode cX2_init 116 = .ok (.aload_n 0, 1) := dk_42 (dk_at dksX2_init_5 0 rfl rfl)
theorem dX2_init_117 : decode cX2_init 117 = .ok (.bipush 12, 2) := dk_16 12 (dk_at dksX2_init_5 1 rfl rfl)
theorem dX2_init_119 : decode cX2_init 119 = .ok (.newarray .int, 2) := dk_188_10 (dk_at dksX2_init_5 3 rfl rfl)
theorem dX2_init_121 : decode cX2_init 121 = .ok (.putfield 70, 3) := dk_181 0 70 (dk_at dksX2_init_5 5 rfl rfl)
theorem dX2_init_124 : decode cX2_init 124 = .ok (.aload_n 0, 1) := dk_42 (dk_at dksX2_init_5 8 rfl rfl)
theorem dX2_init_125 : decode cX2_init 125 = .ok (.new 24, 3) := dk_187 0 24 (dk_at dksX2_init_5 9 rfl rfl)
theorem dX2_init_128 : decode cX2_init 128 = .ok (.dup, 1) := dk_89 (dk_at dksX2_init_5 12 rfl rfl)
theorem dX2_init_129 : decode cX2_init 129 = .ok (.bipush 8, 2) := dk_16 8 (dk_at dksX2_init_5 13 rfl rfl)
theorem dX2_init_131 : decode cX2_init 131 = .ok (.invokespecial 26, 3) := dk_183 0 26 (dk_at dksX2_init_5 15 rfl rfl)
theorem dX2_init_134 : decode cX2_init 134 = .ok (.putfield 73, 3) := dk_181 0 73 (dk_at dksX2_init_5 18 rfl rfl)
theorem dX2_init_137 : decode cX2_init 137 = .ok (.aload_n 0, 1) := dk_42 (dk_at dksX2_init_5 21 rfl rfl)
theorem dX2_init_138 : decode cX2_init 138 = .ok (.new 24, 3) := dk_187 0 24 (dk_at dksX2_init_6 0 rfl rfl)
theorem dX2_init_141 : decode cX2_init 141 = .ok (.dup, 1) := dk_89 (dk_at dksX2_init_6 3 rfl rfl)
theorem dX2_init_142 : decode cX2_init 142 = .ok (.iconst 2, 1) := dk_5 (dk_at dksX2_init_6 4 rfl rfl)
theorem dX2_init_143 : decode cX2_init 143 = .ok (.invokespecial 26, 3) := dk_183 0 26 (dk_at dksX2_init_6 5 rfl rfl)
theorem dX2_init_146 : decode cX2_init 146 = .ok (.putfield 76, 3) := dk_181 0 76 (dk_at dksX2_init_6 8 rfl rfl)
theorem dX2_init_149 : decode cX2_init 149 = .ok (.aload_n 0, 1) := dk_42 (dk_at dksX2_init_6 11 rfl rfl)
theorem dX2_init_150 : decode cX2_init 150 = .ok (.new 24, 3) := dk_187 0 24 (dk_at dksX2_init_6 12 rfl rfl)
theorem dX2_init_153 : decode cX2_init 153 = .ok (.dup, 1) := dk_89 (dk_at dksX2_init_6 15 rfl rfl)
theorem dX2_init_154 : decode cX2_init 154 = .ok (.iconst 2, 1) := dk_5 (dk_at dksX2_init_6 16 rfl rfl)
theorem dX2_init_155 : decode cX2_init 155 = .ok (.invokespecial 26, 3) := dk_183 0 26 (dk_at dksX2_init_6 17 rfl rfl)
theorem dX2_init_158 : decode cX2_init 158 = .ok (.putfield 79, 3) := dk_181 0 79 (dk_at dksX2_init_6 20 rfl rfl)
theorem dX2_init_161 : decode cX2_init 161 = .ok (.aload_n 0, 1) := dk_42 (dk_at dksX2_init_6 23 rfl rfl)
theorem dX2_init_162 : decode cX2_init 162 = .ok (.new 24, 3) := dk_187 0 24 (dk_at dksX2_init_7 0 rfl rfl)
theorem dX2_init_165 : decode cX2_init 165 = .ok (.dup, 1) := dk_89 (dk_at dksX2_init_7 3 rfl rfl)
theorem dX2_init_166 : decode cX2_init 166 = .ok (.iconst 2, 1) := dk_5 (dk_at dksX2_init_7 4 rfl rfl)
theorem dX2_init_167 : decode cX2_init 167 = .ok (.invokespecial 26, 3) := dk_183 0 26 (dk_at dksX2_init_7 5 rfl rfl)
theorem dX2_init_170 : decode cX2_init 170 = .ok (.putfield 82, 3) := dk_181 0 82 (dk_at dksX2_init_7 8 rfl rfl)
theorem dX2_init_173 : decode cX2_init 173 = .ok (.aload_n 0, 1) := dk_42 (dk_at dksX2_init_7 11 rfl rfl)
theorem dX2_init_174 : decode cX2_init 174 = .ok (.new 85, 3) := dk_187 0 85 (dk_at dksX2_init_7 12 rfl rfl)
theorem dX2_init_177 : decode cX2_init 177 = .ok (.dup, 1) := dk_89 (dk_at dksX2_init_7 15 rfl rfl)
theorem dX2_init_178 : decode cX2_init 178 = .ok (.invokespecial 87, 3) := dk_183 0 87 (dk_at dksX2_init_7 16 rfl rfl)
theorem dX2_init_181 : decode cX2_init 181 = .ok (.putfield 88, 3) := dk_181 0 88 (dk_at dksX2_init_7 19 rfl rfl)
theorem dX2_init_184 : decode cX2_init 184 = .ok (.aload_n 0, 1) := dk_42 (dk_at dksX2_init_7 22 rfl rfl)
theorem dX2_init_185 : decode cX2_init 185 = .ok (.bipush 96, 2) := dk_16 96 (dk_at dksX2_init_8 0 rfl rfl)
theorem dX2_init_187 : decode cX2_init 187 = .ok (.newarray .byte, 2) := dk_188_8 (dk_at dksX2_init_8 2 rfl rfl)
theorem dX2_init_189 : decode cX2_init 189 = .ok (.putfield 92, 3) := dk_181 0 92 (dk_at dksX2_init_8 4 rfl rfl)
theorem dX2_init_192 : decode cX2_init 192 = .ok (.aload_n 0, 1) := dk_42 (dk_at dksX2_init_8 7 rfl rfl)
theorem dX2_init_193 : decode cX2_init 193 = .ok (.bipush 96, 2) := dk_16 96 (dk_at dksX2_init_8 8 rfl rfl)
theorem dX2_init_195 : decode cX2_init 195 = .ok (.newarray .boolean, 2) := dk_188_4 (dk_at dksX2_init_8 10 rfl rfl)
theorem dX2_init_197 : decode cX2_init 197 = .ok (.putfield 96, 3) := dk_181 0 96 (dk_at dksX2_init_8 12 rfl rfl)
theorem dX2_init_200 : decode cX2_init 200 = .ok (.aload_n 0, 1) := dk_42 (dk_at dksX2_init_8 15 rfl rfl)
theorem dX2_init_201 : decode cX2_init 201 = .ok (.new 99, 3) := dk_187 0 99 (dk_at dksX2_init_8 16 rfl rfl)
theorem dX2_init_204 : decode cX2_init 204 = .ok (.dup, 1) := dk_89 (dk_at dksX2_init_8 19 rfl rfl)
theorem dX2_init_205 : decode cX2_init 205 = .ok (.invokespecial 101, 3) := dk_183 0 101 (dk_at dksX2_init_8 20 rfl rfl)
theorem dX2_init_208 : decode cX2_init 208 = .ok (.putfield 102, 3) := dk_181 0 102 (dk_at dksX2_init_9 0 rfl rfl)
theorem dX2_init_211 : decode cX2_init 211 = .ok (.aload_n 0, 1) := dk_42 (dk_at dksX2_init_9 3 rfl rfl)
theorem dX2_init_212 : decode cX2_init 212 = .ok (.sipush 6006, 3) := dk_17 23 118 (dk_at dksX2_init_9 4 rfl rfl)
theorem dX2_init_215 : decode cX2_init 215 = .ok (.newarray .int, 2) := dk_188_10 (dk_at dksX2_init_9 7 rfl rfl)
theorem dX2_init_217 : decode cX2_init 217 = .ok (.putfield 106, 3) := dk_181 0 106 (dk_at dksX2_init_9 9 rfl rfl)
theorem dX2_init_220 : decode cX2_init 220 = .ok (.iconst 0, 1) := dk_3 (dk_at dksX2_init_9 12 rfl rfl)
theorem dX2_init_221 : decode cX2_init 221 = .ok (.istore_n 1, 1) := dk_60 (dk_at dksX2_init_9 13 rfl rfl)
theorem dX2_init_222 : decode cX2_init 222 = .ok (.iload_n 1, 1) := dk_27 (dk_at dksX2_init_9 14 rfl rfl)
theorem dX2_init_223 : decode cX2_init 223 = .ok (.bipush 96, 2) := dk_16 96 (dk_at dksX2_init_9 15 rfl rfl)
theorem dX2_init_225 : decode cX2_init 225 = .ok (.if_icmp .ge 40, 3) := dk_162 0 40 (dk_at dksX2_init_9 17 rfl rfl)
theorem dX2_init_228 : decode cX2_init 228 = .ok (.aload_n 0, 1) := dk_42 (dk_at dksX2_init_9 20 rfl rfl)
theorem dX2_init_229 : decode cX2_init 229 = .ok (.getfield 92, 3) := dk_180 0 92 (dk_at dksX2_init_9 21 rfl rfl)
theorem dX2_init_232 : decode cX2_init 232 = .ok (.iload_n 1, 1) := dk_27 (dk_at dksX2_init_10 0 rfl rfl)
theorem dX2_init_233 : decode cX2_init 233 = .ok (.iconst 5, 1) := dk_8 (dk_at dksX2_init_10 1 rfl rfl)
theorem dX2_init_234 : decode cX2_init 234 = .ok (.bastore, 1) := dk_84 (dk_at dksX2_init_10 2 rfl rfl)
theorem dX2_init_235 : decode cX2_init 235 = .ok (.aload_n 0, 1) := dk_42 (dk_at dksX2_init_10 3 rfl rfl)
theorem dX2_init_236 : decode cX2_init 236 = .ok (.getfield 29, 3) := dk_180 0 29 (dk_at dksX2_init_10 4 rfl rfl)
theorem dX2_init_239 : decode cX2_init 239 = .ok (.new 109, 3) := dk_187 0 109 (dk_at dksX2_init_10 7 rfl rfl)
theorem dX2_init_242 : decode cX2_init 242 = .ok (.dup, 1) := dk_89 (dk_at dksX2_init_10 10 rfl rfl)
theorem dX2_init_243 : decode cX2_init 243 = .ok (.invokespecial 111, 3) := dk_183 0 111 (dk_at dksX2_init_10 11 rfl rfl)
theorem dX2_init_246 : decode cX2_init 246 = .ok (.invokevirtual 112, 3) := dk_182 0 112 (dk_at dksX2_init_10 14 rfl rfl)
theorem dX2_init_249 : decode cX2_init 249 = .ok (.pop, 1) := dk_87 (dk_at dksX2_init_10 17 rfl rfl)
theorem dX2_init_250 : decode cX2_init 250 = .ok (.aload_n 0, 1) := dk_42 (dk_at dksX2_init_10 18 rfl rfl)
theorem dX2_init_251 : decode cX2_init 251 = .ok (.iload_n 1, 1) := dk_27 (dk_at dksX2_init_10 19 rfl rfl)
theorem dX2_init_252 : decode cX2_init 252 = .ok (.aload_n 0, 1) := dk_42 (dk_at dksX2_init_10 20 rfl rfl)
theorem dX2_init_253 : decode cX2_init 253 = .ok (.getfield 50, 3) := dk_180 0 50 (dk_at dksX2_init_10 21 rfl rfl)
theorem dX2_init_256 : decode cX2_init 256 = .ok (.invokevirtual 116, 3) := dk_182 0 116 (dk_at dksX2_init_11 0 rfl rfl)
theorem dX2_init_259 : decode cX2_init 259 = .ok (.iinc 1 1, 3) := dk_132 1 1 (dk_at dksX2_init_11 3 rfl rfl)
theorem dX2_init_262 : decode cX2_init 262 = .ok (.goto (-40), 3) := dk_167 255 216 (dk_at dksX2_init_11 6 rfl rfl)
theorem dX2_init_265 : decode cX2_init 265 = .ok (.iconst 0, 1) := dk_3 (dk_at dksX2_init_11 9 rfl rfl)
theorem dX2_init_266 : decode cX2_init 266 = .ok (.istore_n 1, 1) := dk_60 (dk_at dksX2_init_11 10 rfl rfl)
theorem dX2_init_267 : decode cX2_init 267 = .ok (.iload_n 1, 1) := dk_27 (dk_at dksX2_init_11 11 rfl rfl)
theorem dX2_init_268 : decode cX2_init 268 = .ok (.bipush 12, 2) := dk_16 12 (dk_at dksX2_init_11 12 rfl rfl)
theorem dX2_init_270 : decode cX2_init 270 = .ok (.if_icmp .ge 16, 3) := dk_162 0 16 (dk_at dksX2_init_11 14 rfl rfl)
theorem dX2_init_273 : decode cX2_init 273 = .ok (.aload_n 0, 1) := dk_42 (dk_at dksX2_init_11 17 rfl rfl)
theorem dX2_init_274 : decode cX2_init 274 = .ok (.getfield 70, 3) := dk_180 0 70 (dk_at dksX2_init_11 18 rfl rfl)
theorem dX2_init_277 : decode cX2_init 277 = .ok (.iload_n 1, 1) := dk_27 (dk_at dksX2_init_11 21 rfl rfl)
theorem dX2_init_278 : decode cX2_init 278 = .ok (.iconst (-1), 1) := dk_2 (dk_at dksX2_init_11 22 rfl rfl)
theorem dX2_init_279 : decode cX2_init 279 = .ok (.iastore, 1) := dk_79 (dk_at dksX2_init_11 23 rfl rfl)
theorem dX2_init_280 : decode cX2_init 280 = .ok (.iinc 1 1, 3) := dk_132 1 1 (dk_at dksX2_init_12 0 rfl rfl)
theorem dX2_init_283 : decode cX2_init 283 = .ok (.goto (-16), 3) := dk_167 255 240 (dk_at dksX2_init_12 3 rfl rfl)
theorem dX2_init_286 : decode cX2_init 286 = .ok (.return_, 1) := dk_177 (dk_at dksX2_init_12 6 rfl rfl)
def dkwX2_puts_2 : List UInt8 := [180, 0, 40, 27, 2, 79, 42, 180, 0, 43, 27, 3, 84, 177]
abbrev dktX2_puts_2 : List UInt8 := dkwX2_puts_2 ++ []
def dkwX2_puts_1 : List UInt8 := [180, 0, 50, 166, 0, 11, 42, 27, 182, 0, 204, 167, 0, 4, 3, 79, 42, 180, 0, 37, 27, 3, 79, 42]
abbrev dktX2_puts_1 : List UInt8 := dkwX2_puts_1 ++ dktX2_puts_2
def dkwX2_puts_0 : List UInt8 := [42, 180, 0, 29, 27, 182, 0, 141, 192, 0, 109, 44, 181, 0, 145, 42, 180, 0, 33, 27, 44, 42]
abbrev dktX2_puts_0 : List UInt8 := dkwX2_puts_0 ++ dktX2_puts_1
theorem dksX2_puts_0 : cX2_puts.data.toList.drop 0 = dktX2_puts_0 := by decide +kernel
theorem dksX2_puts_1 : cX2_puts.data.toList.drop 22 = dktX2_puts_1 := dk_seg dksX2_puts_0 22 rfl rfl
theorem dksX2_puts_2 : cX2_puts.data.toList.drop 46 = dktX2_puts_2 := dk_seg dksX2_puts_1 24 rfl rfl
theorem dX2_puts_0 : decode cX2_puts 0 = .ok (.aload_n 0, 1) := dk_42 (dk_at dksX2_puts_0 0 rfl rfl)
theorem dX2_puts_1 : decode cX2_puts 1 = .ok (.getfield 29, 3) := dk_180 0 29 (dk_at dksX2_puts_0 1 rfl rfl)
theorem dX2_puts_4 : decode cX2_puts 4 = .ok (.iload_n 1, 1) := dk_27 (dk_at dksX2_puts_0 4 rfl rfl)
theorem dX2_puts_5 : decode cX2_puts 5 = .ok (.invokevirtual 141, 3) := dk_182 0 141 (dk_at dksX2_puts_0 5 rfl rfl)
theorem dX2_puts_8 : decode cX2_puts 8 = .ok (.checkcast 109, 3) := dk_192 0 109 (dk_at dksX2_puts_0 8 rfl rfl)
theorem dX2_puts_11 : decode cX2_puts 11 = .ok (.aload_n 2, 1) := dk_44 (dk_at dksX2_puts_0 11 rfl rfl)
theorem dX2_puts_12 : decode cX2_puts 12 = .ok (.putfield 145, 3) := dk_181 0 145 (dk_at dksX2_puts_0 12 rfl rfl)
theorem dX2_puts_15 : decode cX2_puts 15 = .ok (.aload_n 0, 1) := dk_42 (dk_at dksX2_puts_0 15 rfl rfl)
theorem dX2_puts_16 : decode cX2_puts 16 = .ok (.getfield 33, 3) := dk_180 0 33 (dk_at dksX2_puts_0 16 rfl rfl)
theorem dX2_puts_19 : decode cX2_puts 19 = .ok (.iload_n 1, 1) := dk_27 (dk_at dksX2_puts_0 19 rfl rfl)
theorem dX2_puts_20 : decode cX2_puts 20 = .ok (.aload_n 2, 1) := dk_44 (dk_at dksX2_puts_0 20 rfl rfl)
theorem dX2_puts_21 : decode cX2_puts 21 = .ok (.aload_n 0, 1) := dk_42 (dk_at dksX2_puts_0 21 rfl rfl)
theorem dX2_puts_22 : decode cX2_puts 22 = .ok (.getfield 50, 3) := dk_180 0 50 (dk_at dksX2_puts_1 0 rfl rfl)
theorem dX2_puts_25 : decode cX2_puts 25 = .ok (.if_acmp .ne 11, 3) := dk_166 0 11 (dk_at dksX2_puts_1 3 rfl rfl)
theorem dX2_puts_28 : decode cX2_puts 28 = .ok (.aload_n 0, 1) := dk_42 (dk_at dksX2_puts_1 6 rfl rfl)
theorem dX2_puts_29 : decode cX2_puts 29 = .ok (.iload_n 1, 1) := dk_27 (dk_at dksX2_puts_1 7 rfl rfl)
theorem dX2_puts_30 : decode cX2_puts 30 = .ok (.invokevirtual 204, 3) := dk_182 0 204 (dk_at dksX2_puts_1 8 rfl rfl)
theorem dX2_puts_33 : decode cX2_puts 33 = .ok (.goto 4, 3) := dk_167 0 4 (dk_at dksX2_puts_1 11 rfl rfl)
theorem dX2_puts_36 : decode cX2_puts 36 = .ok (.iconst 0, 1) := dk_3 (dk_at dksX2_puts_1 14 rfl rfl)
theorem dX2_puts_37 : decode cX2_puts 37 = .ok (.iastore, 1) := dk_79 (dk_at dksX2_puts_1 15 rfl rfl)
theorem dX2_puts_38 : decode cX2_puts 38 = .ok (.aload_n 0, 1) := dk_42 (dk_at dksX2_puts_1 16 rfl rfl)
theorem dX2_puts_39 : decode cX2_puts 39 = .ok (.getfield 37, 3) := dk_180 0 37 (dk_at dksX2_puts_1 17 rfl rfl)
theorem dX2_puts_42 : decode cX2_puts 42 = .ok (.iload_n 1, 1) := dk_27 (dk_at dksX2_puts_1 20 rfl rfl)
theorem dX2_puts_43 : decode cX2_puts 43 = .ok (.iconst 0, 1) := dk_3 (dk_at dksX2_puts_1 21 rfl rfl)
theorem dX2_puts_44 : decode cX2_puts 44 = .ok (.iastore, 1) := dk_79 (dk_at dksX2_puts_1 22 rfl rfl)
theorem dX2_puts_45 : decode cX2_puts 45 = .ok (.aload_n 0, 1) := dk_42 (dk_at dksX2_puts_1 23 rfl rfl)
theorem dX2_puts_46 : decode cX2_puts 46 = .ok (.getfield 40, 3) := dk_180 0 40 (dk_at dksX2_puts_2 0 rfl rfl)
theorem dX2_puts_49 : decode cX2_puts 49 = .ok (.iload_n 1, 1) := dk_27 (dk_at dksX2_puts_2 3 rfl rfl)
theorem dX2_puts_50 : decode cX2_puts 50 = .ok (.iconst (-1), 1) := dk_2 (dk_at dksX2_puts_2 4 rfl rfl)
theorem dX2_puts_51 : decode cX2_puts 51 = .ok (.iastore, 1) := dk_79 (dk_at dksX2_puts_2 5 rfl rfl)
theorem dX2_puts_52 : decode cX2_puts 52 = .ok (.aload_n 0, 1) := dk_42 (dk_at dksX2_puts_2 6 rfl rfl)
theorem dX2_puts_53 : decode cX2_puts 53 = .ok (.getfield 43, 3) := dk_180 0 43 (dk_at dksX2_puts_2 7 rfl rfl)
theorem dX2_puts_56 : decode cX2_puts 56 = .ok (.iload_n 1, 1) := dk_27 (dk_at dksX2_puts_2 10 rfl rfl)
theorem dX2_puts_57 : decode cX2_puts 57 = .ok (.iconst 0, 1) := dk_3 (dk_at dksX2_puts_2 11 rfl rfl)
theorem dX2_puts_58 : decode cX2_puts 58 = .ok (.bastore, 1) := dk_84 (dk_at dksX2_puts_2 12 rfl rfl)
theorem dX2_puts_59 : decode cX2_puts 59 = .ok (.return_, 1) := dk_177 (dk_at dksX2_puts_2 13 rfl rfl)
def dkwX2_wanted_1 : List UInt8 := [51, 100, 6, 108, 96, 172]
abbrev dktX2_wanted_1 : List UInt8 := dkwX2_wanted_1 ++ []
def dkwX2_wanted_0 : List UInt8 := [16, 6, 42, 180, 0, 96, 27, 51, 153, 0, 7, 6, 167, 0, 4, 3, 96, 16, 9, 42, 180, 0, 92, 27]
abbrev dktX2_wanted_0 : List UInt8 := dkwX2_wanted_0 ++ dktX2_wanted_1
theorem dksX2_wanted_0 : cX2_wanted.data.toList.drop 0 = dktX2_wanted_0 := by decide +kernel
theorem dksX2_wanted_1 : cX2_wanted.data.toList.drop 24 = dktX2_wanted_1 := dk_seg dksX2_wanted_0 24 rfl rfl
theorem dX2_wanted_0 : decode cX2_wanted 0 = .ok (.bipush 6, 2) := dk_16 6 (dk_at dksX2_wanted_0 0 rfl rfl)
theorem dX2_wanted_2 : decode cX2_wanted 2 = .ok (.aload_n 0, 1) := dk_42 (dk_at dksX2_wanted_0 2 rfl rfl)
theorem dX2_wanted_3 : decode cX2_wanted 3 = .ok (.getfield 96, 3) := dk_180 0 96 (dk_at dksX2_wanted_0 3 rfl rfl)
theorem dX2_wanted_6 : decode cX2_wanted 6 = .ok (.iload_n 1, 1) := dk_27 (dk_at dksX2_wanted_0 6 rfl rfl)
theorem dX2_wanted_7 : decode cX2_wanted 7 = .ok (.baload, 1) := dk_51 (dk_at dksX2_wanted_0 7 rfl rfl)
theorem dX2_wanted_8 : decode cX2_wanted 8 = .ok (.ifCond .eq 7, 3) := dk_153 0 7 (dk_at dksX2_wanted_0 8 rfl rfl)
theorem dX2_wanted_11 : decode cX2_wanted 11 = .ok (.iconst 3, 1) := dk_6 (dk_at dksX2_wanted_0 11 rfl rfl)
theorem dX2_wanted_12 : decode cX2_wanted 12 = .ok (.goto 4, 3) := dk_167 0 4 (dk_at dksX2_wanted_0 12 rfl rfl)
theorem dX2_wanted_15 : decode cX2_wanted 15 = .ok (.iconst 0, 1) := dk_3 (dk_at dksX2_wanted_0 15 rfl rfl)
theorem dX2_wanted_16 : decode cX2_wanted 16 = .ok (.iadd, 1) := dk_96 (dk_at dksX2_wanted_0 16 rfl rfl)
theorem dX2_wanted_17 : decode cX2_wanted 17 = .ok (.bipush 9, 2) := dk_16 9 (dk_at dksX2_wanted_0 17 rfl rfl)
theorem dX2_wanted_19 : decode cX2_wanted 19 = .ok (.aload_n 0, 1) := dk_42 (dk_at dksX2_wanted_0 19 rfl rfl)
theorem dX2_wanted_20 : decode cX2_wanted 20 = .ok (.getfield 92, 3) := dk_180 0 92 (dk_at dksX2_wanted_0 20 rfl rfl)
theorem dX2_wanted_23 : decode cX2_wanted 23 = .ok (.iload_n 1, 1) := dk_27 (dk_at dksX2_wanted_0 23 rfl rfl)
theorem dX2_wanted_24 : decode cX2_wanted 24 = .ok (.baload, 1) := dk_51 (dk_at dksX2_wanted_1 0 rfl rfl)
theorem dX2_wanted_25 : decode cX2_wanted 25 = .ok (.isub, 1) := dk_100 (dk_at dksX2_wanted_1 1 rfl rfl)
theorem dX2_wanted_26 : decode cX2_wanted 26 = .ok (.iconst 3, 1) := dk_6 (dk_at dksX2_wanted_1 2 rfl rfl)
theorem dX2_wanted_27 : decode cX2_wanted 27 = .ok (.idiv, 1) := dk_108 (dk_at dksX2_wanted_1 3 rfl rfl)
theorem dX2_wanted_28 : decode cX2_wanted 28 = .ok (.iadd, 1) := dk_96 (dk_at dksX2_wanted_1 4 rfl rfl)
theorem dX2_wanted_29 : decode cX2_wanted 29 = .ok (.ireturn, 1) := dk_172 (dk_at dksX2_wanted_1 5 rfl rfl)
def dkwX2_init_2_10 : List UInt8 := [182, 0, 112, 87, 132, 2, 1, 167, 255, 232, 177]
abbrev dktX2_init_2_10 : List UInt8 := dkwX2_init_2_10 ++ []
def dkwX2_init_2_9 : List UInt8 := [181, 0, 106, 3, 61, 28, 16, 96, 162, 0, 24, 42, 180, 0, 29, 187, 0, 109, 89, 183, 0, 111]
abbrev dktX2_init_2_9 : List UInt8 := dkwX2_init_2_9 ++ dktX2_init_2_10
def dkwX2_init_2_8 : List UInt8 := [180, 0, 92, 181, 0, 92, 42, 43, 180, 0, 96, 181, 0, 96, 42, 43, 180, 0, 102, 181, 0, 102, 42, 1]
abbrev dktX2_init_2_8 : List UInt8 := dkwX2_init_2_8 ++ dktX2_init_2_9
def dkwX2_init_2_7 : List UInt8 := [187, 0, 24, 89, 5, 183, 0, 26, 181, 0, 82, 42, 187, 0, 85, 89, 183, 0, 87, 181, 0, 88, 42, 43]
abbrev dktX2_init_2_7 : List UInt8 := dkwX2_init_2_7 ++ dktX2_init_2_8
def dkwX2_init_2_6 : List UInt8 := [187, 0, 24, 89, 5, 183, 0, 26, 181, 0, 76, 42, 187, 0, 24, 89, 5, 183, 0, 26, 181, 0, 79, 42]
abbrev dktX2_init_2_6 : List UInt8 := dkwX2_init_2_6 ++ dktX2_init_2_7
def dkwX2_init_2_5 : List UInt8 := [42, 16, 12, 188, 10, 181, 0, 70, 42, 187, 0, 24, 89, 16, 8, 183, 0, 26, 181, 0, 73, 42]
abbrev dktX2_init_2_5 : List UInt8 := dkwX2_init_2_5 ++ dktX2_init_2_6
def dkwX2_init_2_4 : List UInt8 := [181, 0, 57, 42, 7, 188, 10, 181, 0, 61, 42, 7, 188, 10, 181, 0, 64, 42, 7, 188, 10, 181, 0, 67]
abbrev dktX2_init_2_4 : List UInt8 := dkwX2_init_2_4 ++ dktX2_init_2_5
def dkwX2_init_2_3 : List UInt8 := [181, 0, 43, 42, 187, 0, 47, 89, 183, 0, 49, 181, 0, 50, 42, 187, 0, 54, 89, 183, 0, 56]
abbrev dktX2_init_2_3 : List UInt8 := dkwX2_init_2_3 ++ dktX2_init_2_4
def dkwX2_init_2_2 : List UInt8 := [181, 0, 33, 42, 16, 96, 188, 10, 181, 0, 37, 42, 16, 96, 188, 10, 181, 0, 40, 42, 16, 96, 188, 4]
abbrev dktX2_init_2_2 : List UInt8 := dkwX2_init_2_2 ++ dktX2_init_2_3
def dkwX2_init_2_1 : List UInt8 := [2, 181, 0, 21, 42, 187, 0, 24, 89, 16, 96, 183, 0, 26, 181, 0, 29, 42, 16, 96, 188, 10]
abbrev dktX2_init_2_1 : List UInt8 := dkwX2_init_2_1 ++ dktX2_init_2_2
def dkwX2_init_2_0 : List UInt8 := [42, 183, 0, 3, 42, 17, 1, 244, 181, 0, 9, 42, 17, 0, 200, 181, 0, 15, 42, 2, 181, 0, 18, 42]
abbrev dktX2_init_2_0 : List UInt8 := dkwX2_init_2_0 ++ dktX2_init_2_1
theorem dksX2_init_2_0 : cX2_init_2.data.toList.drop 0 = dktX2_init_2_0 := by decide +kernel
theorem dksX2_init_2_1 : cX2_init_2.data.toList.drop 24 = dktX2_init_2_1 := dk_seg dksX2_init_2_0 24 rfl rfl
theorem dksX2_init_2_2 : cX2_init_2.data.toList.drop 46 = dktX2_init_2_2 := dk_seg dksX2_init_2_1 22 rfl rfl
theorem dksX2_init_2_3 : cX2_init_2.data.toList.drop 70 = dktX2_init_2_3 := dk_seg dksX2_init_2_2 24 rfl rfl
theorem dksX2_init_2_4 : cX2_init_2.data.toList.drop 92 = dktX2_init_2_4 := dk_seg dksX2_init_2_3 22 rfl rfl
theorem dksX2_init_2_5 : cX2_init_2.data.toList.drop 116 = dktX2_init_2_5 := dk_seg dksX2_init_2_4 24 rfl rfl
theorem dksX2_init_2_6 : cX2_init_2.data.toList.drop 138 = dktX2_init_2_6 := dk_seg dksX2_init_2_5 22 rfl rfl
theorem dksX2_init_2_7 : cX2_init_2.data.toList.drop 162 = dktX2_init_2_7 := dk_seg dksX2_init_2_6 24 rfl rfl
theorem dksX2_init_2_8 : cX2_init_2.data.toList.drop 186 = dktX2_init_2_8 := dk_seg dksX2_init_2_7 24 rfl rfl
theorem dksX2_init_2_9 : cX2_init_2.data.toList.drop 210 = dktX2_init_2_9 := dk_seg dksX2_init_2_8 24 rfl rfl
theorem dksX2_init_2_10 : cX2_init_2.data.toList.drop 232 = dktX2_init_2_10 := dk_seg dksX2_init_2_9 22 rfl rfl
theorem dX2_init_2_0 : decode cX2_init_2 0 = .ok (.aload_n 0, 1) := dk_42 (dk_at dksX2_init_2_0 0 rfl rfl)
theorem dX2_init_2_1 : decode cX2_init_2 1 = .ok (.invokespecial 3, 3) := dk_183 0 3 (dk_at dksX2_init_2_0 1 rfl rfl)
theorem dX2_init_2_4 : decode cX2_init_2 4 = .ok (.aload_n 0, 1) := dk_42 (dk_at dksX2_init_2_0 4 rfl rfl)
theorem dX2_init_2_5 : decode cX2_init_2 5 = .ok (.sipush 500, 3) := dk_17 1 244 (dk_at dksX2_init_2_0 5 rfl rfl)
theorem dX2_init_2_8 : decode cX2_init_2 8 = .ok (.putfield 9, 3) := dk_181 0 9 (dk_at dksX2_init_2_0 8 rfl rfl)
theorem dX2_init_2_11 : decode cX2_init_2 11 = .ok (.aload_n 0, 1) := dk_42 (dk_at dksX2_init_2_0 11 rfl rfl)
theorem dX2_init_2_12 : decode cX2_init_2 12 = .ok (.sipush 200, 3) := dk_17 0 200 (dk_at dksX2_init_2_0 12 rfl rfl)
theorem dX2_init_2_15 : decode cX2_init_2 15 = .ok (.putfield 15, 3) := dk_181 0 15 (dk_at dksX2_init_2_0 15 rfl rfl)
theorem dX2_init_2_18 : decode cX2_init_2 18 = .ok (.aload_n 0, 1) := dk_42 (dk_at dksX2_init_2_0 18 rfl rfl)
theorem dX2_init_2_19 : decode cX2_init_2 19 = .ok (.iconst (-1), 1) := dk_2 (dk_at dksX2_init_2_0 19 rfl rfl)
theorem dX2_init_2_20 : decode cX2_init_2 20 = .ok (.putfield 18, 3) := dk_181 0 18 (dk_at dksX2_init_2_0 20 rfl rfl)
theorem dX2_init_2_23 : decode cX2_init_2 23 = .ok (.aload_n 0, 1) := dk_42 (dk_at dksX2_init_2_0 23 rfl rfl)
theorem dX2_init_2_24 : decode cX2_init_2 24 = .ok (.iconst (-1), 1) := dk_2 (dk_at dksX2_init_2_1 0 rfl rfl)
theorem dX2_init_2_25 : decode cX2_init_2 25 = .ok (.putfield 21, 3) := dk_181 0 21 (dk_at dksX2_init_2_1 1 rfl rfl)
theorem dX2_init_2_28 : decode cX2_init_2 28 = .ok (.aload_n 0, 1) := dk_42 (dk_at dksX2_init_2_1 4 rfl rfl)
theorem dX2_init_2_29 : decode cX2_init_2 29 = .ok (.new 24, 3) := dk_187 0 24 (dk_at dksX2_init_2_1 5 rfl rfl)
theorem dX2_init_2_32 : decode cX2_init_2 32 = .ok (.dup, 1) := dk_89 (dk_at dksX2_init_2_1 8 rfl rfl)
theorem dX2_init_2_33 : decode cX2_init_2 33 = .ok (.bipush 96, 2) := dk_16 96 (dk_at dksX2_init_2_1 9 rfl rfl)
theorem dX2_init_2_35 : decode cX2_init_2 35 = .ok (.invokespecial 26, 3) := dk_183 0 26 (dk_at dksX2_init_2_1 11 rfl rfl)
theorem dX2_init_2_38 : decode cX2_init_2 38 = .ok (.putfield 29, 3) := dk_181 0 29 (dk_at dksX2_init_2_1 14 rfl rfl)
theorem dX2_init_2_41 : decode cX2_init_2 41 = .ok (.aload_n 0, 1) := dk_42 (dk_at dksX2_init_2_1 17 rfl rfl)
theorem dX2_init_2_42 : decode cX2_init_2 42 = .ok (.bipush 96, 2) := dk_16 96 (dk_at dksX2_init_2_1 18 rfl rfl)
theorem dX2_init_2_44 : decode cX2_init_2 44 = .ok (.newarray .int, 2) := dk_188_10 (dk_at dksX2_init_2_1 20 rfl rfl)
theorem dX2_init_2_46 : decode cX2_init_2 46 = .ok (.putfield 33, 3) := dk_181 0 33 (dk_at dksX2_init_2_2 0 rfl rfl)
theorem dX2_init_2_49 : decode cX2_init_2 49 = .ok (.aload_n 0, 1) := dk_42 (dk_at dksX2_init_2_2 3 rfl rfl)
theorem dX2_init_2_50 : decode cX2_init_2 50 = .ok (.bipush 96, 2) := dk_16 96 (dk_at dksX2_init_2_2 4 rfl rfl)
theorem dX2_init_2_52 : decode cX2_init_2 52 = .ok (.newarray .int, 2) := dk_188_10 (dk_at dksX2_init_2_2 6 rfl rfl)
theorem dX2_init_2_54 : decode cX2_init_2 54 = .ok (.putfield 37, 3) := dk_181 0 37 (dk_at dksX2_init_2_2 8 rfl rfl)
theorem dX2_init_2_57 : decode cX2_init_2 57 = .ok (.aload_n 0, 1) := dk_42 (dk_at dksX2_init_2_2 11 rfl rfl)
theorem dX2_init_2_58 : decode cX2_init_2 58 = .ok (.bipush 96, 2) := dk_16 96 (dk_at dksX2_init_2_2 12 rfl rfl)
theorem dX2_init_2_60 : decode cX2_init_2 60 = .ok (.newarray .int, 2) := dk_188_10 (dk_at dksX2_init_2_2 14 rfl rfl)
theorem dX2_init_2_62 : decode cX2_init_2 62 = .ok (.putfield 40, 3) := dk_181 0 40 (dk_at dksX2_init_2_2 16 rfl rfl)
theorem dX2_init_2_65 : decode cX2_init_2 65 = .ok (.aload_n 0, 1) := dk_42 (dk_at dksX2_init_2_2 19 rfl rfl)
theorem dX2_init_2_66 : decode cX2_init_2 66 = .ok (.bipush 96, 2) := dk_16 96 (dk_at dksX2_init_2_2 20 rfl rfl)
theorem dX2_init_2_68 : decode cX2_init_2 68 = .ok (.newarray .boolean, 2) := dk_188_4 (dk_at dksX2_init_2_2 22 rfl rfl)
theorem dX2_init_2_70 : decode cX2_init_2 70 = .ok (.putfield 43, 3) := dk_181 0 43 (dk_at dksX2_init_2_3 0 rfl rfl)
theorem dX2_init_2_73 : decode cX2_init_2 73 = .ok (.aload_n 0, 1) := dk_42 (dk_at dksX2_init_2_3 3 rfl rfl)
theorem dX2_init_2_74 : decode cX2_init_2 74 = .ok (.new 47, 3) := dk_187 0 47 (dk_at dksX2_init_2_3 4 rfl rfl)
theorem dX2_init_2_77 : decode cX2_init_2 77 = .ok (.dup, 1) := dk_89 (dk_at dksX2_init_2_3 7 rfl rfl)
theorem dX2_init_2_78 : decode cX2_init_2 78 = .ok (.invokespecial 49, 3) := dk_183 0 49 (dk_at dksX2_init_2_3 8 rfl rfl)
theorem dX2_init_2_81 : decode cX2_init_2 81 = .ok (.putfield 50, 3) := dk_181 0 50 (dk_at dksX2_init_2_3 11 rfl rfl)
theorem dX2_init_2_84 : decode cX2_init_2 84 = .ok (.aload_n 0, 1) := dk_42 (dk_at dksX2_init_2_3 14 rfl rfl)
theorem dX2_init_2_85 : decode cX2_init_2 85 = .ok (.new 54, 3) := dk_187 0 54 (dk_at dksX2_init_2_3 15 rfl rfl)
theorem dX2_init_2_88 : decode cX2_init_2 88 = .ok (.dup, 1) := dk_89 (dk_at dksX2_init_2_3 18 rfl rfl)
theorem dX2_init_2_89 : decode cX2_init_2 89 = .ok (.invokespecial 56, 3) := dk_183 0 56 (dk_at dksX2_init_2_3 19 rfl rfl)
theorem dX2_init_2_92 : decode cX2_init_2 92 = .ok (.putfield 57, 3) := dk_181 0 57 (dk_at dksX2_init_2_4 0 rfl rfl)
theorem dX2_init_2_95 : decode cX2_init_2 95 = .ok (.aload_n 0, 1) := dk_42 (dk_at dksX2_init_2_4 3 rfl rfl)
theorem dX2_init_2_96 : decode cX2_init_2 96 = .ok (.iconst 4, 1) := dk_7 (dk_at dksX2_init_2_4 4 rfl rfl)
theorem dX2_init_2_97 : decode cX2_init_2 97 = .ok (.newarray .int, 2) := dk_188_10 (dk_at dksX2_init_2_4 5 rfl rfl)
theorem dX2_init_2_99 : decode cX2_init_2 99 = .ok (.putfield 61, 3) := dk_181 0 61 (dk_at dksX2_init_2_4 7 rfl rfl)
theorem dX2_init_2_102 : decode cX2_init_2 102 = .ok (.aload_n 0, 1) := dk_42 (dk_at dksX2_init_2_4 10 rfl rfl)
theorem dX2_init_2_103 : decode cX2_init_2 103 = .ok (.iconst 4, 1) := dk_7 (dk_at dksX2_init_2_4 11 rfl rfl)
theorem dX2_init_2_104 : decode cX2_init_2 104 = .ok (.newarray .int, 2) := dk_188_10 (dk_at dksX2_init_2_4 12 rfl rfl)
theorem dX2_init_2_106 : decode cX2_init_2 106 = .ok (.putfield 64, 3) := dk_181 0 64 (dk_at dksX2_init_2_4 14 rfl rfl)
theorem dX2_init_2_109 : decode cX2_init_2 109 = .ok (.aload_n 0, 1) := dk_42 (dk_at dksX2_init_2_4 17 rfl rfl)
theorem dX2_init_2_110 : decode cX2_init_2 110 = .ok (.iconst 4, 1) := dk_7 (dk_at dksX2_init_2_4 18 rfl rfl)
theorem dX2_init_2_111 : decode cX2_init_2 111 = .ok (.newarray .int, 2) := dk_188_10 (dk_at dksX2_init_2_4 19 rfl rfl)
theorem dX2_init_2_113 : decode cX2_init_2 113 = .ok (.putfield 67, 3) := dk_181 0 67 (dk_at dksX2_init_2_4 21 rfl rfl)
theorem dX2_init_2_116 : decode cX2_init_2 116 = .ok (.aload_n 0, 1) := dk_42 (dk_at dksX2_init_2_5 0 rfl rfl)
theorem dX2_init_2_117 : decode cX2_init_2 117 = .ok (.bipush 12, 2) := dk_16 12 (dk_at dksX2_init_2_5 1 rfl rfl)
theorem dX2_init_2_119 : decode cX2_init_2 119 = .ok (.newarray .int, 2) := dk_188_10 (dk_at dksX2_init_2_5 3 rfl rfl)
theorem dX2_init_2_121 : decode cX2_init_2 121 = .ok (.putfield 70, 3) := dk_181 0 70 (dk_at dksX2_init_2_5 5 rfl rfl)
theorem dX2_init_2_124 : decode cX2_init_2 124 = .ok (.aload_n 0, 1) := dk_42 (dk_at dksX2_init_2_5 8 rfl rfl)
theorem dX2_init_2_125 : decode cX2_init_2 125 = .ok (.new 24, 3) := dk_187 0 24 (dk_at dksX2_init_2_5 9 rfl rfl)
theorem dX2_init_2_128 : decode cX2_init_2 128 = .ok (.dup, 1) := dk_89 (dk_at dksX2_init_2_5 12 rfl rfl)
theorem dX2_init_2_129 : decode cX2_init_2 129 = .ok (.bipush 8, 2) := dk_16 8 (dk_at dksX2_init_2_5 13 rfl rfl)
theorem dX2_init_2_131 : decode cX2_init_2 131 = .ok (.invokespecial 26, 3) := dk_183 0 26 (dk_at dksX2_init_2_5 15 rfl rfl)
theorem dX2_init_2_134 : decode cX2_init_2 134 = .ok (.putfield 73, 3) := dk_181 0 73 (dk_at dksX2_init_2_5 18 rfl rfl)
theorem dX2_init_2_137 : decode cX2_init_2 137 = .ok (.aload_n 0, 1) := dk_42 (dk_at dksX2_init_2_5 21 rfl rfl)
theorem dX2_init_2_138 : decode cX2_init_2 138 = .ok (.new 24, 3) := dk_187 0 24 (dk_at dksX2_init_2_6 0 rfl rfl)
theorem dX2_init_2_141 : decode cX2_init_2 141 = .ok (.dup, 1) := dk_89 (dk_at dksX2_init_2_6 3 rfl rfl)
theorem dX2_init_2_142 : decode cX2_init_2 142 = .ok (.iconst 2, 1) := dk_5 (dk_at dksX2_init_2_6 4 rfl rfl)
theorem dX2_init_2_143 : decode cX2_init_2 143 = .ok (.invokespecial 26, 3) := dk_183 0 26 (dk_at dksX2_init_2_6 5 rfl rfl)
theorem dX2_init_2_146 : decode cX2_init_2 146 = .ok (.putfield 76, 3) := dk_181 0 76 (dk_at dksX2_init_2_6 8 rfl rfl)
theorem dX2_init_2_149 : decode cX2_init_2 149 = .ok (.aload_n 0, 1) := dk_42 (dk_at dksX2_init_2_6 11 rfl rfl)
theorem dX2_init_2_150 : decode cX2_init_2 150 = .ok (.new 24, 3) := dk_187 0 24 (dk_at dksX2_init_2_6 12 rfl rfl)
theorem dX2_init_2_153 : decode cX2_init_2 153 = .ok (.dup, 1) := dk_89 (dk_at dksX2_init_2_6 15 rfl rfl)
theorem dX2_init_2_154 : decode cX2_init_2 154 = .ok (.iconst 2, 1) := dk_5 (dk_at dksX2_init_2_6 16 rfl rfl)
theorem dX2_init_2_155 : decode cX2_init_2 155 = .ok (.invokespecial 26, 3) := dk_183 0 26 (dk_at dksX2_init_2_6 17 rfl rfl)
theorem dX2_init_2_158 : decode cX2_init_2 158 = .ok (.putfield 79, 3) := dk_181 0 79 (dk_at dksX2_init_2_6 20 rfl rfl)
theorem dX2_init_2_161 : decode cX2_init_2 161 = .ok (.aload_n 0, 1) := dk_42 (dk_at dksX2_init_2_6 23 rfl rfl)
theorem dX2_init_2_162 : decode cX2_init_2 162 = .ok (.new 24, 3) := dk_187 0 24 (dk_at dksX2_init_2_7 0 rfl rfl)
theorem dX2_init_2_165 : decode cX2_init_2 165 = .ok (.dup, 1) := dk_89 (dk_at dksX2_init_2_7 3 rfl rfl)
theorem dX2_init_2_166 : decode cX2_init_2 166 = .ok (.iconst 2, 1) := dk_5 (dk_at dksX2_init_2_7 4 rfl rfl)
theorem dX2_init_2_167 : decode cX2_init_2 167 = .ok (.invokespecial 26, 3) := dk_183 0 26 (dk_at dksX2_init_2_7 5 rfl rfl)
theorem dX2_init_2_170 : decode cX2_init_2 170 = .ok (.putfield 82, 3) := dk_181 0 82 (dk_at dksX2_init_2_7 8 rfl rfl)
theorem dX2_init_2_173 : decode cX2_init_2 173 = .ok (.aload_n 0, 1) := dk_42 (dk_at dksX2_init_2_7 11 rfl rfl)
theorem dX2_init_2_174 : decode cX2_init_2 174 = .ok (.new 85, 3) := dk_187 0 85 (dk_at dksX2_init_2_7 12 rfl rfl)
theorem dX2_init_2_177 : decode cX2_init_2 177 = .ok (.dup, 1) := dk_89 (dk_at dksX2_init_2_7 15 rfl rfl)
theorem dX2_init_2_178 : decode cX2_init_2 178 = .ok (.invokespecial 87, 3) := dk_183 0 87 (dk_at dksX2_init_2_7 16 rfl rfl)
theorem dX2_init_2_181 : decode cX2_init_2 181 = .ok (.putfield 88, 3) := dk_181 0 88 (dk_at dksX2_init_2_7 19 rfl rfl)
theorem dX2_init_2_184 : decode cX2_init_2 184 = .ok (.aload_n 0, 1) := dk_42 (dk_at dksX2_init_2_7 22 rfl rfl)
theorem dX2_init_2_185 : decode cX2_init_2 185 = .ok (.aload_n 1, 1) := dk_43 (dk_at dksX2_init_2_7 23 rfl rfl)
theorem dX2_init_2_186 : decode cX2_init_2 186 = .ok (.getfield 92, 3) := dk_180 0 92 (dk_at dksX2_init_2_8 0 rfl rfl)
theorem dX2_init_2_189 : decode cX2_init_2 189 = .ok (.putfield 92, 3) := dk_181 0 92 (dk_at dksX2_init_2_8 3 rfl rfl)
theorem dX2_init_2_192 : decode cX2_init_2 192 = .ok (.aload_n 0, 1) := dk_42 (dk_at dksX2_init_2_8 6 rfl rfl)
theorem dX2_init_2_193 : decode cX2_init_2 193 = .ok (.aload_n 1, 1) := dk_43 (dk_at dksX2_init_2_8 7 rfl rfl)
theorem dX2_init_2_194 : decode cX2_init_2 194 = .ok (.getfield 96, 3) := dk_180 0 96 (dk_at dksX2_init_2_8 8 rfl rfl)
theorem dX2_init_2_197 : decode cX2_init_2 197 = .ok (.putfield 96, 3) := dk_181 0 96 (dk_at dksX2_init_2_8 11 rfl rfl)
theorem dX2_init_2_200 : decode cX2_init_2 200 = .ok (.aload_n 0, 1) := dk_42 (dk_at dksX2_init_2_8 14 rfl rfl)
theorem dX2_init_2_201 : decode cX2_init_2 201 = .ok (.aload_n 1, 1) := dk_43 (dk_at dksX2_init_2_8 15 rfl rfl)
theorem dX2_init_2_202 : decode cX2_init_2 202 = .ok (.getfield 102, 3) := dk_180 0 102 (dk_at dksX2_init_2_8 16 rfl rfl)
theorem dX2_init_2_205 : decode cX2_init_2 205 = .ok (.putfield 102, 3) := dk_181 0 102 (dk_at dksX2_init_2_8 19 rfl rfl)
theorem dX2_init_2_208 : decode cX2_init_2 208 = .ok (.aload_n 0, 1) := dk_42 (dk_at dksX2_init_2_8 22 rfl rfl)
theorem dX2_init_2_209 : decode cX2_init_2 209 = .ok (.aconst_null, 1) := dk_1 (dk_at dksX2_init_2_8 23 rfl rfl)
theorem dX2_init_2_210 : decode cX2_init_2 210 = .ok (.putfield 106, 3) := dk_181 0 106 (dk_at dksX2_init_2_9 0 rfl rfl)
theorem dX2_init_2_213 : decode cX2_init_2 213 = .ok (.iconst 0, 1) := dk_3 (dk_at dksX2_init_2_9 3 rfl rfl)
theorem dX2_init_2_214 : decode cX2_init_2 214 = .ok (.istore_n 2, 1) := dk_61 (dk_at dksX2_init_2_9 4 rfl rfl)
theorem dX2_init_2_215 : decode cX2_init_2 215 = .ok (.iload_n 2, 1) := dk_28 (dk_at dksX2_init_2_9 5 rfl rfl)
theorem dX2_init_2_216 : decode cX2_init_2 216 = .ok (.bipush 96, 2) := dk_16 96 (dk_at dksX2_init_2_9 6 rfl rfl)
theorem dX2_init_2_218 : decode cX2_init_2 218 = .ok (.if_icmp .ge 24, 3) := dk_162 0 24 (dk_at dksX2_init_2_9 8 rfl rfl)
theorem dX2_init_2_221 : decode cX2_init_2 221 = .ok (.aload_n 0, 1) := dk_42 (dk_at dksX2_init_2_9 11 rfl rfl)
theorem dX2_init_2_222 : decode cX2_init_2 222 = .ok (.getfield 29, 3) := dk_180 0 29 (dk_at dksX2_init_2_9 12 rfl rfl)
theorem dX2_init_2_225 : decode cX2_init_2 225 = .ok (.new 109, 3) := dk_187 0 109 (dk_at dksX2_init_2_9 15 rfl rfl)
theorem dX2_init_2_228 : decode cX2_init_2 228 = .ok (.dup, 1) := dk_89 (dk_at dksX2_init_2_9 18 rfl rfl)
theorem dX2_init_2_229 : decode cX2_init_2 229 = .ok (.invokespecial 111, 3) := dk_183 0 111 (dk_at dksX2_init_2_9 19 rfl rfl)
theorem dX2_init_2_232 : decode cX2_init_2 232 = .ok (.invokevirtual 112, 3) := dk_182 0 112 (dk_at dksX2_init_2_10 0 rfl rfl)
theorem dX2_init_2_235 : decode cX2_init_2 235 = .ok (.pop, 1) := dk_87 (dk_at dksX2_init_2_10 3 rfl rfl)
theorem dX2_init_2_236 : decode cX2_init_2 236 = .ok (.iinc 2 1, 3) := dk_132 2 1 (dk_at dksX2_init_2_10 4 rfl rfl)
theorem dX2_init_2_239 : decode cX2_init_2 239 = .ok (.goto (-24), 3) := dk_167 255 232 (dk_at dksX2_init_2_10 7 rfl rfl)
theorem dX2_init_2_242 : decode cX2_init_2 242 = .ok (.return_, 1) := dk_177 (dk_at dksX2_init_2_10 10 rfl rfl)
def dkwX2_quoted_6 : List UInt8 := [182, 1, 5, 184, 1, 10, 172]
abbrev dktX2_quoted_6 : List UInt8 := dkwX2_quoted_6 ++ []
def dkwX2_quoted_5 : List UInt8 := [180, 0, 106, 16, 6, 27, 104, 4, 96, 46, 42, 180, 0, 106, 16, 6, 27, 104, 46, 3, 182, 1, 1]
abbrev dktX2_quoted_5 : List UInt8 := dkwX2_quoted_5 ++ dktX2_quoted_6
def dkwX2_quoted_4 : List UInt8 := [167, 255, 182, 44, 199, 0, 10, 3, 184, 0, 248, 167, 0, 40, 3, 44, 42, 180, 0, 88, 27, 42]
abbrev dktX2_quoted_4 : List UInt8 := dkwX2_quoted_4 ++ dktX2_quoted_5
def dkwX2_quoted_3 : List UInt8 := [180, 0, 79, 29, 182, 0, 141, 192, 0, 174, 180, 0, 176, 180, 0, 239, 3, 50, 77, 132, 3, 1]
abbrev dktX2_quoted_3 : List UInt8 := dkwX2_quoted_3 ++ dktX2_quoted_4
def dkwX2_quoted_2 : List UInt8 := [42, 180, 0, 79, 29, 182, 0, 141, 192, 0, 174, 180, 0, 176, 180, 0, 239, 3, 50, 198, 0, 23, 42]
abbrev dktX2_quoted_2 : List UInt8 := dkwX2_quoted_2 ++ dktX2_quoted_3
def dkwX2_quoted_1 : List UInt8 := [182, 0, 149, 162, 0, 69, 42, 180, 0, 79, 29, 182, 0, 141, 192, 0, 174, 27, 182, 1, 174, 153, 0, 45]
abbrev dktX2_quoted_1 : List UInt8 := dkwX2_quoted_1 ++ dktX2_quoted_2
def dkwX2_quoted_0 : List UInt8 := [42, 182, 1, 171, 60, 27, 156, 0, 8, 3, 184, 0, 248, 172, 1, 77, 3, 62, 29, 42, 180, 0, 79]
abbrev dktX2_quoted_0 : List UInt8 := dkwX2_quoted_0 ++ dktX2_quoted_1
theorem dksX2_quoted_0 : cX2_quoted.data.toList.drop 0 = dktX2_quoted_0 := by decide +kernel
theorem dksX2_quoted_1 : cX2_quoted.data.toList.drop 23 = dktX2_quoted_1 := dk_seg dksX2_quoted_0 23 rfl rfl
theorem dksX2_quoted_2 : cX2_quoted.data.toList.drop 47 = dktX2_quoted_2 := dk_seg dksX2_quoted_1 24 rfl rfl
theorem dksX2_quoted_3 : cX2_quoted.data.toList.drop 70 = dktX2_quoted_3 := dk_seg dksX2_quoted_2 23 rfl rfl
theorem dksX2_quoted_4 : cX2_quoted.data.toList.drop 92 = dktX2_quoted_4 := dk_seg dksX2_quoted_3 22 rfl rfl
theorem dksX2_quoted_5 : cX2_quoted.data.toList.drop 114 = dktX2_quoted_5 := dk_seg dksX2_quoted_4 22 rfl rfl
theorem dksX2_quoted_6 : cX2_quoted.data.toList.drop 137 = dktX2_quoted_6 := dk_seg dksX2_quoted_5 23 rfl rfl
theorem dX2_quoted_0 : decode cX2_quoted 0 = .ok (.aload_n 0, 1) := dk_42 (dk_at dksX2_quoted_0 0 rfl rfl)
theorem dX2_quoted_1 : decode cX2_quoted 1 = .ok (.invokevirtual 427, 3) := dk_182 1 171 (dk_at dksX2_quoted_0 1 rfl rfl)
theorem dX2_quoted_4 : decode cX2_quoted 4 = .ok (.istore_n 1, 1) := dk_60 (dk_at dksX2_quoted_0 4 rfl rfl)
theorem dX2_quoted_5 : decode cX2_quoted 5 = .ok (.iload_n 1, 1) := dk_27 (dk_at dksX2_quoted_0 5 rfl rfl)
theorem dX2_quoted_6 : decode cX2_quoted 6 = .ok (.ifCond .ge 8, 3) := dk_156 0 8 (dk_at dksX2_quoted_0 6 rfl rfl)
theorem dX2_quoted_9 : decode cX2_quoted 9 = .ok (.iconst 0, 1) := dk_3 (dk_at dksX2_quoted_0 9 rfl rfl)
theorem dX2_quoted_10 : decode cX2_quoted 10 = .ok (.invokestatic 248, 3) := dk_184 0 248 (dk_at dksX2_quoted_0 10 rfl rfl)
theorem dX2_quoted_13 : decode cX2_quoted 13 = .ok (.ireturn, 1) := dk_172 (dk_at dksX2_quoted_0 13 rfl rfl)
theorem dX2_quoted_14 : decode cX2_quoted 14 = .ok (.aconst_null, 1) := dk_1 (dk_at dksX2_quoted_0 14 rfl rfl)
theorem dX2_quoted_15 : decode cX2_quoted 15 = .ok (.astore_n 2, 1) := dk_77 (dk_at dksX2_quoted_0 15 rfl rfl)
theorem dX2_quoted_16 : decode cX2_quoted 16 = .ok (.iconst 0, 1) := dk_3 (dk_at dksX2_quoted_0 16 rfl rfl)
theorem dX2_quoted_17 : decode cX2_quoted 17 = .ok (.istore_n 3, 1) := dk_62 (dk_at dksX2_quoted_0 17 rfl rfl)
theorem dX2_quoted_18 : decode cX2_quoted 18 = .ok (.iload_n 3, 1) := dk_29 (dk_at dksX2_quoted_0 18 rfl rfl)
theorem dX2_quoted_19 : decode cX2_quoted 19 = .ok (.aload_n 0, 1) := dk_42 (dk_at dksX2_quoted_0 19 rfl rfl)
theorem dX2_quoted_20 : decode cX2_quoted 20 = .ok (.getfield 79, 3) := dk_180 0 79 (dk_at dksX2_quoted_0 20 rfl rfl)
theorem dX2_quoted_23 : decode cX2_quoted 23 = .ok (.invokevirtual 149, 3) := dk_182 0 149 (dk_at dksX2_quoted_1 0 rfl rfl)
theorem dX2_quoted_26 : decode cX2_quoted 26 = .ok (.if_icmp .ge 69, 3) := dk_162 0 69 (dk_at dksX2_quoted_1 3 rfl rfl)
theorem dX2_quoted_29 : decode cX2_quoted 29 = .ok (.aload_n 0, 1) := dk_42 (dk_at dksX2_quoted_1 6 rfl rfl)
theorem dX2_quoted_30 : decode cX2_quoted 30 = .ok (.getfield 79, 3) := dk_180 0 79 (dk_at dksX2_quoted_1 7 rfl rfl)
theorem dX2_quoted_33 : decode cX2_quoted 33 = .ok (.iload_n 3, 1) := dk_29 (dk_at dksX2_quoted_1 10 rfl rfl)
theorem dX2_quoted_34 : decode cX2_quoted 34 = .ok (.invokevirtual 141, 3) := dk_182 0 141 (dk_at dksX2_quoted_1 11 rfl rfl)
theorem dX2_quoted_37 : decode cX2_quoted 37 = .ok (.checkcast 174, 3) := dk_192 0 174 (dk_at dksX2_quoted_1 14 rfl rfl)
theorem dX2_quoted_40 : decode cX2_quoted 40 = .ok (.iload_n 1, 1) := dk_27 (dk_at dksX2_quoted_1 17 rfl rfl)
theorem dX2_quoted_41 : decode cX2_quoted 41 = .ok (.invokevirtual 430, 3) := dk_182 1 174 (dk_at dksX2_quoted_1 18 rfl rfl)
theorem dX2_quoted_44 : decode cX2_quoted 44 = .ok (.ifCond .eq 45, 3) := dk_153 0 45 (dk_at dksX2_quoted_1 21 rfl rfl)
theorem dX2_quoted_47 : decode cX2_quoted 47 = .ok (.aload_n 0, 1) := dk_42 (dk_at dksX2_quoted_2 0 rfl rfl)
theorem dX2_quoted_48 : decode cX2_quoted 48 = .ok (.getfield 79, 3) := dk_180 0 79 (dk_at dksX2_quoted_2 1 rfl rfl)
theorem dX2_quoted_51 : decode cX2_quoted 51 = .ok (.iload_n 3, 1) := dk_29 (dk_at dksX2_quoted_2 4 rfl rfl)
theorem dX2_quoted_52 : decode cX2_quoted 52 = .ok (.invokevirtual 141, 3) := dk_182 0 141 (dk_at dksX2_quoted_2 5 rfl rfl)
theorem dX2_quoted_55 : decode cX2_quoted 55 = .ok (.checkcast 174, 3) := dk_192 0 174 (dk_at dksX2_quoted_2 8 rfl rfl)
theorem dX2_quoted_58 : decode cX2_quoted 58 = .ok (.getfield 176, 3) := dk_180 0 176 (dk_at dksX2_quoted_2 11 rfl rfl)
theorem dX2_quoted_61 : decode cX2_quoted 61 = .ok (.getfield 239, 3) := dk_180 0 239 (dk_at dksX2_quoted_2 14 rfl rfl)
theorem dX2_quoted_64 : decode cX2_quoted 64 = .ok (.iconst 0, 1) := dk_3 (dk_at dksX2_quoted_2 17 rfl rfl)
theorem dX2_quoted_65 : decode cX2_quoted 65 = .ok (.aaload, 1) := dk_50 (dk_at dksX2_quoted_2 18 rfl rfl)
theorem dX2_quoted_66 : decode cX2_quoted 66 = .ok (.ifnull 23, 3) := dk_198 0 23 (dk_at dksX2_quoted_2 19 rfl rfl)
theorem dX2_quoted_69 : decode cX2_quoted 69 = .ok (.aload_n 0, 1) := dk_42 (dk_at dksX2_quoted_2 22 rfl rfl)
theorem dX2_quoted_70 : decode cX2_quoted 70 = .ok (.getfield 79, 3) := dk_180 0 79 (dk_at dksX2_quoted_3 0 rfl rfl)
theorem dX2_quoted_73 : decode cX2_quoted 73 = .ok (.iload_n 3, 1) := dk_29 (dk_at dksX2_quoted_3 3 rfl rfl)
theorem dX2_quoted_74 : decode cX2_quoted 74 = .ok (.invokevirtual 141, 3) := dk_182 0 141 (dk_at dksX2_quoted_3 4 rfl rfl)
theorem dX2_quoted_77 : decode cX2_quoted 77 = .ok (.checkcast 174, 3) := dk_192 0 174 (dk_at dksX2_quoted_3 7 rfl rfl)
theorem dX2_quoted_80 : decode cX2_quoted 80 = .ok (.getfield 176, 3) := dk_180 0 176 (dk_at dksX2_quoted_3 10 rfl rfl)
theorem dX2_quoted_83 : decode cX2_quoted 83 = .ok (.getfield 239, 3) := dk_180 0 239 (dk_at dksX2_quoted_3 13 rfl rfl)
theorem dX2_quoted_86 : decode cX2_quoted 86 = .ok (.iconst 0, 1) := dk_3 (dk_at dksX2_quoted_3 16 rfl rfl)
theorem dX2_quoted_87 : decode cX2_quoted 87 = .ok (.aaload, 1) := dk_50 (dk_at dksX2_quoted_3 17 rfl rfl)
theorem dX2_quoted_88 : decode cX2_quoted 88 = .ok (.astore_n 2, 1) := dk_77 (dk_at dksX2_quoted_3 18 rfl rfl)
theorem dX2_quoted_89 : decode cX2_quoted 89 = .ok (.iinc 3 1, 3) := dk_132 3 1 (dk_at dksX2_quoted_3 19 rfl rfl)
theorem dX2_quoted_92 : decode cX2_quoted 92 = .ok (.goto (-74), 3) := dk_167 255 182 (dk_at dksX2_quoted_4 0 rfl rfl)
theorem dX2_quoted_95 : decode cX2_quoted 95 = .ok (.aload_n 2, 1) := dk_44 (dk_at dksX2_quoted_4 3 rfl rfl)
theorem dX2_quoted_96 : decode cX2_quoted 96 = .ok (.ifnonnull 10, 3) := dk_199 0 10 (dk_at dksX2_quoted_4 4 rfl rfl)
theorem dX2_quoted_99 : decode cX2_quoted 99 = .ok (.iconst 0, 1) := dk_3 (dk_at dksX2_quoted_4 7 rfl rfl)
theorem dX2_quoted_100 : decode cX2_quoted 100 = .ok (.invokestatic 248, 3) := dk_184 0 248 (dk_at dksX2_quoted_4 8 rfl rfl)
theorem dX2_quoted_103 : decode cX2_quoted 103 = .ok (.goto 40, 3) := dk_167 0 40 (dk_at dksX2_quoted_4 11 rfl rfl)
theorem dX2_quoted_106 : decode cX2_quoted 106 = .ok (.iconst 0, 1) := dk_3 (dk_at dksX2_quoted_4 14 rfl rfl)
theorem dX2_quoted_107 : decode cX2_quoted 107 = .ok (.aload_n 2, 1) := dk_44 (dk_at dksX2_quoted_4 15 rfl rfl)
theorem dX2_quoted_108 : decode cX2_quoted 108 = .ok (.aload_n 0, 1) := dk_42 (dk_at dksX2_quoted_4 16 rfl rfl)
theorem dX2_quoted_109 : decode cX2_quoted 109 = .ok (.getfield 88, 3) := dk_180 0 88 (dk_at dksX2_quoted_4 17 rfl rfl)
theorem dX2_quoted_112 : decode cX2_quoted 112 = .ok (.iload_n 1, 1) := dk_27 (dk_at dksX2_quoted_4 20 rfl rfl)
theorem dX2_quoted_113 : decode cX2_quoted 113 = .ok (.aload_n 0, 1) := dk_42 (dk_at dksX2_quoted_4 21 rfl rfl)
theorem dX2_quoted_114 : decode cX2_quoted 114 = .ok (.getfield 106, 3) := dk_180 0 106 (dk_at dksX2_quoted_5 0 rfl rfl)
theorem dX2_quoted_117 : decode cX2_quoted 117 = .ok (.bipush 6, 2) := dk_16 6 (dk_at dksX2_quoted_5 3 rfl rfl)
theorem dX2_quoted_119 : decode cX2_quoted 119 = .ok (.iload_n 1, 1) := dk_27 (dk_at dksX2_quoted_5 5 rfl rfl)
theorem dX2_quoted_120 : decode cX2_quoted 120 = .ok (.imul, 1) := dk_104 (dk_at dksX2_quoted_5 6 rfl rfl)
theorem dX2_quoted_121 : decode cX2_quoted 121 = .ok (.iconst 1, 1) := dk_4 (dk_at dksX2_quoted_5 7 rfl rfl)
theorem dX2_quoted_122 : decode cX2_quoted 122 = .ok (.iadd, 1) := dk_96 (dk_at dksX2_quoted_5 8 rfl rfl)
theorem dX2_quoted_123 : decode cX2_quoted 123 = .ok (.iaload, 1) := dk_46 (dk_at dksX2_quoted_5 9 rfl rfl)
theorem dX2_quoted_124 : decode cX2_quoted 124 = .ok (.aload_n 0, 1) := dk_42 (dk_at dksX2_quoted_5 10 rfl rfl)
theorem dX2_quoted_125 : decode cX2_quoted 125 = .ok (.getfield 106, 3) := dk_180 0 106 (dk_at dksX2_quoted_5 11 rfl rfl)
theorem dX2_quoted_128 : decode cX2_quoted 128 = .ok (.bipush 6, 2) := dk_16 6 (dk_at dksX2_quoted_5 14 rfl rfl)
theorem dX2_quoted_130 : decode cX2_quoted 130 = .ok (.iload_n 1, 1) := dk_27 (dk_at dksX2_quoted_5 16 rfl rfl)
theorem dX2_quoted_131 : decode cX2_quoted 131 = .ok (.imul, 1) := dk_104 (dk_at dksX2_quoted_5 17 rfl rfl)
theorem dX2_quoted_132 : decode cX2_quoted 132 = .ok (.iaload, 1) := dk_46 (dk_at dksX2_quoted_5 18 rfl rfl)
theorem dX2_quoted_133 : decode cX2_quoted 133 = .ok (.iconst 0, 1) := dk_3 (dk_at dksX2_quoted_5 19 rfl rfl)
theorem dX2_quoted_134 : decode cX2_quoted 134 = .ok (.invokevirtual 257, 3) := dk_182 1 1 (dk_at dksX2_quoted_5 20 rfl rfl)
theorem dX2_quoted_137 : decode cX2_quoted 137 = .ok (.invokevirtual 261, 3) := dk_182 1 5 (dk_at dksX2_quoted_6 0 rfl rfl)
theorem dX2_quoted_140 : decode cX2_quoted 140 = .ok (.invokestatic 266, 3) := dk_184 1 10 (dk_at dksX2_quoted_6 3 rfl rfl)
theorem dX2_quoted_143 : decode cX2_quoted 143 = .ok (.ireturn, 1) := dk_172 (dk_at dksX2_quoted_6 6 rfl rfl)
def dkwX2_knownWeek_0 : List UInt8 := [42, 180, 0, 120, 16, 34, 100, 172]
abbrev dktX2_knownWeek_0 : List UInt8 := dkwX2_knownWeek_0 ++ []
theorem dksX2_knownWeek_0 : cX2_knownWeek.data.toList.drop 0 = dktX2_knownWeek_0 := by decide +kernel
theorem dX2_knownWeek_0 : decode cX2_knownWeek 0 = .ok (.aload_n 0, 1) := dk_42 (dk_at dksX2_knownWeek_0 0 rfl rfl)
theorem dX2_knownWeek_1 : decode cX2_knownWeek 1 = .ok (.getfield 120, 3) := dk_180 0 120 (dk_at dksX2_knownWeek_0 1 rfl rfl)
theorem dX2_knownWeek_4 : decode cX2_knownWeek 4 = .ok (.bipush 34, 2) := dk_16 34 (dk_at dksX2_knownWeek_0 4 rfl rfl)
theorem dX2_knownWeek_6 : decode cX2_knownWeek 6 = .ok (.isub, 1) := dk_100 (dk_at dksX2_knownWeek_0 6 rfl rfl)
theorem dX2_knownWeek_7 : decode cX2_knownWeek 7 = .ok (.ireturn, 1) := dk_172 (dk_at dksX2_knownWeek_0 7 rfl rfl)
def dkwX2_plain_2 : List UInt8 := [16, 20, 172, 16, 50, 172, 5, 172, 8, 172, 3, 172, 7, 172, 4, 172]
abbrev dktX2_plain_2 : List UInt8 := dkwX2_plain_2 ++ []
def dkwX2_plain_1 : List UInt8 := [170, 0, 0, 0, 0, 0, 57, 0, 0, 0, 0, 0, 0, 0, 6, 0, 0, 0, 43, 0, 0, 0, 46, 0, 0, 0, 49, 0, 0, 0, 51, 0, 0, 0, 57, 0, 0, 0, 53, 0, 0, 0, 55]
abbrev dktX2_plain_1 : List UInt8 := dkwX2_plain_1 ++ dktX2_plain_2
def dkwX2_plain_0 : List UInt8 := [26]
abbrev dktX2_plain_0 : List UInt8 := dkwX2_plain_0 ++ dktX2_plain_1
theorem dksX2_plain_0 : cX2_plain.data.toList.drop 0 = dktX2_plain_0 := by decide +kernel
theorem dksX2_plain_1 : cX2_plain.data.toList.drop 1 = dktX2_plain_1 := dk_seg dksX2_plain_0 1 rfl rfl
theorem dksX2_plain_2 : cX2_plain.data.toList.drop 44 = dktX2_plain_2 := dk_seg dksX2_plain_1 43 rfl rfl
theorem dX2_plain_0 : decode cX2_plain 0 = .ok (.iload_n 0, 1) := dk_26 (dk_at dksX2_plain_0 0 rfl rfl)
theorem dX2_plain_1 : decode cX2_plain 1 = .ok (.tableswitch 57 0 6 #[43, 46, 49, 51, 57, 53, 55], 43) := by decide +kernel
theorem dX2_plain_44 : decode cX2_plain 44 = .ok (.bipush 20, 2) := dk_16 20 (dk_at dksX2_plain_2 0 rfl rfl)
theorem dX2_plain_46 : decode cX2_plain 46 = .ok (.ireturn, 1) := dk_172 (dk_at dksX2_plain_2 2 rfl rfl)
theorem dX2_plain_47 : decode cX2_plain 47 = .ok (.bipush 50, 2) := dk_16 50 (dk_at dksX2_plain_2 3 rfl rfl)
theorem dX2_plain_49 : decode cX2_plain 49 = .ok (.ireturn, 1) := dk_172 (dk_at dksX2_plain_2 5 rfl rfl)
theorem dX2_plain_50 : decode cX2_plain 50 = .ok (.iconst 2, 1) := dk_5 (dk_at dksX2_plain_2 6 rfl rfl)
theorem dX2_plain_51 : decode cX2_plain 51 = .ok (.ireturn, 1) := dk_172 (dk_at dksX2_plain_2 7 rfl rfl)
theorem dX2_plain_52 : decode cX2_plain 52 = .ok (.iconst 5, 1) := dk_8 (dk_at dksX2_plain_2 8 rfl rfl)
theorem dX2_plain_53 : decode cX2_plain 53 = .ok (.ireturn, 1) := dk_172 (dk_at dksX2_plain_2 9 rfl rfl)
theorem dX2_plain_54 : decode cX2_plain 54 = .ok (.iconst 0, 1) := dk_3 (dk_at dksX2_plain_2 10 rfl rfl)
theorem dX2_plain_55 : decode cX2_plain 55 = .ok (.ireturn, 1) := dk_172 (dk_at dksX2_plain_2 11 rfl rfl)
theorem dX2_plain_56 : decode cX2_plain 56 = .ok (.iconst 4, 1) := dk_7 (dk_at dksX2_plain_2 12 rfl rfl)
theorem dX2_plain_57 : decode cX2_plain 57 = .ok (.ireturn, 1) := dk_172 (dk_at dksX2_plain_2 13 rfl rfl)
theorem dX2_plain_58 : decode cX2_plain 58 = .ok (.iconst 1, 1) := dk_4 (dk_at dksX2_plain_2 14 rfl rfl)
theorem dX2_plain_59 : decode cX2_plain 59 = .ok (.ireturn, 1) := dk_172 (dk_at dksX2_plain_2 15 rfl rfl)
def dkwX2_bounded_3 : List UInt8 := [17, 3, 232, 27, 184, 0, 227, 184, 0, 233, 172]
abbrev dktX2_bounded_3 : List UInt8 := dkwX2_bounded_3 ++ []
def dkwX2_bounded_2 : List UInt8 := [4, 17, 3, 232, 27, 184, 0, 227, 184, 0, 233, 172, 3, 16, 100, 27, 184, 0, 227, 184, 0, 233, 172, 3]
abbrev dktX2_bounded_2 : List UInt8 := dkwX2_bounded_2 ++ dktX2_bounded_3
def dkwX2_bounded_1 : List UInt8 := [171, 0, 0, 0, 0, 0, 50, 0, 0, 0, 2, 0, 0, 0, 0, 0, 0, 0, 27, 0, 0, 0, 1, 0, 0, 0, 39]
abbrev dktX2_bounded_1 : List UInt8 := dkwX2_bounded_1 ++ dktX2_bounded_2
def dkwX2_bounded_0 : List UInt8 := [26]
abbrev dktX2_bounded_0 : List UInt8 := dkwX2_bounded_0 ++ dktX2_bounded_1
theorem dksX2_bounded_0 : cX2_bounded.data.toList.drop 0 = dktX2_bounded_0 := by decide +kernel
theorem dksX2_bounded_1 : cX2_bounded.data.toList.drop 1 = dktX2_bounded_1 := dk_seg dksX2_bounded_0 1 rfl rfl
theorem dksX2_bounded_2 : cX2_bounded.data.toList.drop 28 = dktX2_bounded_2 := dk_seg dksX2_bounded_1 27 rfl rfl
theorem dksX2_bounded_3 : cX2_bounded.data.toList.drop 52 = dktX2_bounded_3 := dk_seg dksX2_bounded_2 24 rfl rfl
theorem dX2_bounded_0 : decode cX2_bounded 0 = .ok (.iload_n 0, 1) := dk_26 (dk_at dksX2_bounded_0 0 rfl rfl)
theorem dX2_bounded_1 : decode cX2_bounded 1 = .ok (.lookupswitch 50 #[(0, 27), (1, 39)], 27) := by decide +kernel
theorem dX2_bounded_28 : decode cX2_bounded 28 = .ok (.iconst 1, 1) := dk_4 (dk_at dksX2_bounded_2 0 rfl rfl)
theorem dX2_bounded_29 : decode cX2_bounded 29 = .ok (.sipush 1000, 3) := dk_17 3 232 (dk_at dksX2_bounded_2 1 rfl rfl)
theorem dX2_bounded_32 : decode cX2_bounded 32 = .ok (.iload_n 1, 1) := dk_27 (dk_at dksX2_bounded_2 4 rfl rfl)
theorem dX2_bounded_33 : decode cX2_bounded 33 = .ok (.invokestatic 227, 3) := dk_184 0 227 (dk_at dksX2_bounded_2 5 rfl rfl)
theorem dX2_bounded_36 : decode cX2_bounded 36 = .ok (.invokestatic 233, 3) := dk_184 0 233 (dk_at dksX2_bounded_2 8 rfl rfl)
theorem dX2_bounded_39 : decode cX2_bounded 39 = .ok (.ireturn, 1) := dk_172 (dk_at dksX2_bounded_2 11 rfl rfl)
theorem dX2_bounded_40 : decode cX2_bounded 40 = .ok (.iconst 0, 1) := dk_3 (dk_at dksX2_bounded_2 12 rfl rfl)
theorem dX2_bounded_41 : decode cX2_bounded 41 = .ok (.bipush 100, 2) := dk_16 100 (dk_at dksX2_bounded_2 13 rfl rfl)
theorem dX2_bounded_43 : decode cX2_bounded 43 = .ok (.iload_n 1, 1) := dk_27 (dk_at dksX2_bounded_2 15 rfl rfl)
theorem dX2_bounded_44 : decode cX2_bounded 44 = .ok (.invokestatic 227, 3) := dk_184 0 227 (dk_at dksX2_bounded_2 16 rfl rfl)
theorem dX2_bounded_47 : decode cX2_bounded 47 = .ok (.invokestatic 233, 3) := dk_184 0 233 (dk_at dksX2_bounded_2 19 rfl rfl)
theorem dX2_bounded_50 : decode cX2_bounded 50 = .ok (.ireturn, 1) := dk_172 (dk_at dksX2_bounded_2 22 rfl rfl)
theorem dX2_bounded_51 : decode cX2_bounded 51 = .ok (.iconst 0, 1) := dk_3 (dk_at dksX2_bounded_2 23 rfl rfl)
theorem dX2_bounded_52 : decode cX2_bounded 52 = .ok (.sipush 1000, 3) := dk_17 3 232 (dk_at dksX2_bounded_3 0 rfl rfl)
theorem dX2_bounded_55 : decode cX2_bounded 55 = .ok (.iload_n 1, 1) := dk_27 (dk_at dksX2_bounded_3 3 rfl rfl)
theorem dX2_bounded_56 : decode cX2_bounded 56 = .ok (.invokestatic 227, 3) := dk_184 0 227 (dk_at dksX2_bounded_3 4 rfl rfl)
theorem dX2_bounded_59 : decode cX2_bounded 59 = .ok (.invokestatic 233, 3) := dk_184 0 233 (dk_at dksX2_bounded_3 7 rfl rfl)
theorem dX2_bounded_62 : decode cX2_bounded 62 = .ok (.ireturn, 1) := dk_172 (dk_at dksX2_bounded_3 10 rfl rfl)
def dkwX2_passages_1 : List UInt8 := [42, 180, 1, 177, 96, 42, 180, 1, 180, 100, 172]
abbrev dktX2_passages_1 : List UInt8 := dkwX2_passages_1 ++ []
def dkwX2_passages_0 : List UInt8 := [42, 182, 1, 171, 60, 27, 156, 0, 7, 3, 167, 0, 14, 42, 180, 0, 106, 16, 6, 27, 104, 8, 96, 46]
abbrev dktX2_passages_0 : List UInt8 := dkwX2_passages_0 ++ dktX2_passages_1
theorem dksX2_passages_0 : cX2_passages.data.toList.drop 0 = dktX2_passages_0 := by decide +kernel
theorem dksX2_passages_1 : cX2_passages.data.toList.drop 24 = dktX2_passages_1 := dk_seg dksX2_passages_0 24 rfl rfl
theorem dX2_passages_0 : decode cX2_passages 0 = .ok (.aload_n 0, 1) := dk_42 (dk_at dksX2_passages_0 0 rfl rfl)
theorem dX2_passages_1 : decode cX2_passages 1 = .ok (.invokevirtual 427, 3) := dk_182 1 171 (dk_at dksX2_passages_0 1 rfl rfl)
theorem dX2_passages_4 : decode cX2_passages 4 = .ok (.istore_n 1, 1) := dk_60 (dk_at dksX2_passages_0 4 rfl rfl)
theorem dX2_passages_5 : decode cX2_passages 5 = .ok (.iload_n 1, 1) := dk_27 (dk_at dksX2_passages_0 5 rfl rfl)
theorem dX2_passages_6 : decode cX2_passages 6 = .ok (.ifCond .ge 7, 3) := dk_156 0 7 (dk_at dksX2_passages_0 6 rfl rfl)
theorem dX2_passages_9 : decode cX2_passages 9 = .ok (.iconst 0, 1) := dk_3 (dk_at dksX2_passages_0 9 rfl rfl)
theorem dX2_passages_10 : decode cX2_passages 10 = .ok (.goto 14, 3) := dk_167 0 14 (dk_at dksX2_passages_0 10 rfl rfl)
theorem dX2_passages_13 : decode cX2_passages 13 = .ok (.aload_n 0, 1) := dk_42 (dk_at dksX2_passages_0 13 rfl rfl)
theorem dX2_passages_14 : decode cX2_passages 14 = .ok (.getfield 106, 3) := dk_180 0 106 (dk_at dksX2_passages_0 14 rfl rfl)
theorem dX2_passages_17 : decode cX2_passages 17 = .ok (.bipush 6, 2) := dk_16 6 (dk_at dksX2_passages_0 17 rfl rfl)
theorem dX2_passages_19 : decode cX2_passages 19 = .ok (.iload_n 1, 1) := dk_27 (dk_at dksX2_passages_0 19 rfl rfl)
theorem dX2_passages_20 : decode cX2_passages 20 = .ok (.imul, 1) := dk_104 (dk_at dksX2_passages_0 20 rfl rfl)
theorem dX2_passages_21 : decode cX2_passages 21 = .ok (.iconst 5, 1) := dk_8 (dk_at dksX2_passages_0 21 rfl rfl)
theorem dX2_passages_22 : decode cX2_passages 22 = .ok (.iadd, 1) := dk_96 (dk_at dksX2_passages_0 22 rfl rfl)
theorem dX2_passages_23 : decode cX2_passages 23 = .ok (.iaload, 1) := dk_46 (dk_at dksX2_passages_0 23 rfl rfl)
theorem dX2_passages_24 : decode cX2_passages 24 = .ok (.aload_n 0, 1) := dk_42 (dk_at dksX2_passages_1 0 rfl rfl)
theorem dX2_passages_25 : decode cX2_passages 25 = .ok (.getfield 433, 3) := dk_180 1 177 (dk_at dksX2_passages_1 1 rfl rfl)
theorem dX2_passages_28 : decode cX2_passages 28 = .ok (.iadd, 1) := dk_96 (dk_at dksX2_passages_1 4 rfl rfl)
theorem dX2_passages_29 : decode cX2_passages 29 = .ok (.aload_n 0, 1) := dk_42 (dk_at dksX2_passages_1 5 rfl rfl)
theorem dX2_passages_30 : decode cX2_passages 30 = .ok (.getfield 436, 3) := dk_180 1 180 (dk_at dksX2_passages_1 6 rfl rfl)
theorem dX2_passages_33 : decode cX2_passages 33 = .ok (.isub, 1) := dk_100 (dk_at dksX2_passages_1 9 rfl rfl)
theorem dX2_passages_34 : decode cX2_passages 34 = .ok (.ireturn, 1) := dk_172 (dk_at dksX2_passages_1 10 rfl rfl)
def dkwX2_at_0 : List UInt8 := [42, 180, 0, 29, 27, 182, 0, 141, 192, 0, 109, 182, 0, 200, 176]
abbrev dktX2_at_0 : List UInt8 := dkwX2_at_0 ++ []
theorem dksX2_at_0 : cX2_at.data.toList.drop 0 = dktX2_at_0 := by decide +kernel
theorem dX2_at_0 : decode cX2_at 0 = .ok (.aload_n 0, 1) := dk_42 (dk_at dksX2_at_0 0 rfl rfl)
theorem dX2_at_1 : decode cX2_at 1 = .ok (.getfield 29, 3) := dk_180 0 29 (dk_at dksX2_at_0 1 rfl rfl)
theorem dX2_at_4 : decode cX2_at 4 = .ok (.iload_n 1, 1) := dk_27 (dk_at dksX2_at_0 4 rfl rfl)
theorem dX2_at_5 : decode cX2_at 5 = .ok (.invokevirtual 141, 3) := dk_182 0 141 (dk_at dksX2_at_0 5 rfl rfl)
theorem dX2_at_8 : decode cX2_at 8 = .ok (.checkcast 109, 3) := dk_192 0 109 (dk_at dksX2_at_0 8 rfl rfl)
theorem dX2_at_11 : decode cX2_at 11 = .ok (.invokevirtual 200, 3) := dk_182 0 200 (dk_at dksX2_at_0 11 rfl rfl)
theorem dX2_at_14 : decode cX2_at 14 = .ok (.areturn, 1) := dk_176 (dk_at dksX2_at_0 14 rfl rfl)
def dkwX2_here_1 : List UInt8 := [192, 0, 153, 182, 0, 218, 153, 0, 7, 4, 167, 0, 4, 3, 96, 60, 132, 2, 1, 167, 255, 217, 27, 172]
abbrev dktX2_here_1 : List UInt8 := dkwX2_here_1 ++ []
def dkwX2_here_0 : List UInt8 := [3, 60, 3, 61, 28, 42, 180, 0, 73, 182, 0, 149, 162, 0, 34, 27, 42, 180, 0, 73, 28, 182, 0, 141]
abbrev dktX2_here_0 : List UInt8 := dkwX2_here_0 ++ dktX2_here_1
theorem dksX2_here_0 : cX2_here.data.toList.drop 0 = dktX2_here_0 := by decide +kernel
theorem dksX2_here_1 : cX2_here.data.toList.drop 24 = dktX2_here_1 := dk_seg dksX2_here_0 24 rfl rfl
theorem dX2_here_0 : decode cX2_here 0 = .ok (.iconst 0, 1) := dk_3 (dk_at dksX2_here_0 0 rfl rfl)
theorem dX2_here_1 : decode cX2_here 1 = .ok (.istore_n 1, 1) := dk_60 (dk_at dksX2_here_0 1 rfl rfl)
theorem dX2_here_2 : decode cX2_here 2 = .ok (.iconst 0, 1) := dk_3 (dk_at dksX2_here_0 2 rfl rfl)
theorem dX2_here_3 : decode cX2_here 3 = .ok (.istore_n 2, 1) := dk_61 (dk_at dksX2_here_0 3 rfl rfl)
theorem dX2_here_4 : decode cX2_here 4 = .ok (.iload_n 2, 1) := dk_28 (dk_at dksX2_here_0 4 rfl rfl)
theorem dX2_here_5 : decode cX2_here 5 = .ok (.aload_n 0, 1) := dk_42 (dk_at dksX2_here_0 5 rfl rfl)
theorem dX2_here_6 : decode cX2_here 6 = .ok (.getfield 73, 3) := dk_180 0 73 (dk_at dksX2_here_0 6 rfl rfl)
theorem dX2_here_9 : decode cX2_here 9 = .ok (.invokevirtual 149, 3) := dk_182 0 149 (dk_at dksX2_here_0 9 rfl rfl)
theorem dX2_here_12 : decode cX2_here 12 = .ok (.if_icmp .ge 34, 3) := dk_162 0 34 (dk_at dksX2_here_0 12 rfl rfl)
theorem dX2_here_15 : decode cX2_here 15 = .ok (.iload_n 1, 1) := dk_27 (dk_at dksX2_here_0 15 rfl rfl)
theorem dX2_here_16 : decode cX2_here 16 = .ok (.aload_n 0, 1) := dk_42 (dk_at dksX2_here_0 16 rfl rfl)
theorem dX2_here_17 : decode cX2_here 17 = .ok (.getfield 73, 3) := dk_180 0 73 (dk_at dksX2_here_0 17 rfl rfl)
theorem dX2_here_20 : decode cX2_here 20 = .ok (.iload_n 2, 1) := dk_28 (dk_at dksX2_here_0 20 rfl rfl)
theorem dX2_here_21 : decode cX2_here 21 = .ok (.invokevirtual 141, 3) := dk_182 0 141 (dk_at dksX2_here_0 21 rfl rfl)
theorem dX2_here_24 : decode cX2_here 24 = .ok (.checkcast 153, 3) := dk_192 0 153 (dk_at dksX2_here_1 0 rfl rfl)
theorem dX2_here_27 : decode cX2_here 27 = .ok (.invokevirtual 218, 3) := dk_182 0 218 (dk_at dksX2_here_1 3 rfl rfl)
theorem dX2_here_30 : decode cX2_here 30 = .ok (.ifCond .eq 7, 3) := dk_153 0 7 (dk_at dksX2_here_1 6 rfl rfl)
theorem dX2_here_33 : decode cX2_here 33 = .ok (.iconst 1, 1) := dk_4 (dk_at dksX2_here_1 9 rfl rfl)
theorem dX2_here_34 : decode cX2_here 34 = .ok (.goto 4, 3) := dk_167 0 4 (dk_at dksX2_here_1 10 rfl rfl)
theorem dX2_here_37 : decode cX2_here 37 = .ok (.iconst 0, 1) := dk_3 (dk_at dksX2_here_1 13 rfl rfl)
theorem dX2_here_38 : decode cX2_here 38 = .ok (.iadd, 1) := dk_96 (dk_at dksX2_here_1 14 rfl rfl)
theorem dX2_here_39 : decode cX2_here 39 = .ok (.istore_n 1, 1) := dk_60 (dk_at dksX2_here_1 15 rfl rfl)
theorem dX2_here_40 : decode cX2_here 40 = .ok (.iinc 2 1, 3) := dk_132 2 1 (dk_at dksX2_here_1 16 rfl rfl)
theorem dX2_here_43 : decode cX2_here 43 = .ok (.goto (-39), 3) := dk_167 255 217 (dk_at dksX2_here_1 19 rfl rfl)
theorem dX2_here_46 : decode cX2_here 46 = .ok (.iload_n 1, 1) := dk_27 (dk_at dksX2_here_1 22 rfl rfl)
theorem dX2_here_47 : decode cX2_here 47 = .ok (.ireturn, 1) := dk_172 (dk_at dksX2_here_1 23 rfl rfl)
def dkwX2_farms_1 : List UInt8 := [167, 0, 4, 3, 96, 60, 132, 2, 1, 167, 255, 228, 27, 172]
abbrev dktX2_farms_1 : List UInt8 := dkwX2_farms_1 ++ []
def dkwX2_farms_0 : List UInt8 := [3, 60, 3, 61, 28, 16, 96, 162, 0, 28, 27, 42, 28, 182, 0, 208, 182, 0, 212, 153, 0, 7, 4]
abbrev dktX2_farms_0 : List UInt8 := dkwX2_farms_0 ++ dktX2_farms_1
theorem dksX2_farms_0 : cX2_farms.data.toList.drop 0 = dktX2_farms_0 := by decide +kernel
theorem dksX2_farms_1 : cX2_farms.data.toList.drop 23 = dktX2_farms_1 := dk_seg dksX2_farms_0 23 rfl rfl
theorem dX2_farms_0 : decode cX2_farms 0 = .ok (.iconst 0, 1) := dk_3 (dk_at dksX2_farms_0 0 rfl rfl)
theorem dX2_farms_1 : decode cX2_farms 1 = .ok (.istore_n 1, 1) := dk_60 (dk_at dksX2_farms_0 1 rfl rfl)
theorem dX2_farms_2 : decode cX2_farms 2 = .ok (.iconst 0, 1) := dk_3 (dk_at dksX2_farms_0 2 rfl rfl)
theorem dX2_farms_3 : decode cX2_farms 3 = .ok (.istore_n 2, 1) := dk_61 (dk_at dksX2_farms_0 3 rfl rfl)
theorem dX2_farms_4 : decode cX2_farms 4 = .ok (.iload_n 2, 1) := dk_28 (dk_at dksX2_farms_0 4 rfl rfl)
theorem dX2_farms_5 : decode cX2_farms 5 = .ok (.bipush 96, 2) := dk_16 96 (dk_at dksX2_farms_0 5 rfl rfl)
theorem dX2_farms_7 : decode cX2_farms 7 = .ok (.if_icmp .ge 28, 3) := dk_162 0 28 (dk_at dksX2_farms_0 7 rfl rfl)
theorem dX2_farms_10 : decode cX2_farms 10 = .ok (.iload_n 1, 1) := dk_27 (dk_at dksX2_farms_0 10 rfl rfl)
theorem dX2_farms_11 : decode cX2_farms 11 = .ok (.aload_n 0, 1) := dk_42 (dk_at dksX2_farms_0 11 rfl rfl)
theorem dX2_farms_12 : decode cX2_farms 12 = .ok (.iload_n 2, 1) := dk_28 (dk_at dksX2_farms_0 12 rfl rfl)
theorem dX2_farms_13 : decode cX2_farms 13 = .ok (.invokevirtual 208, 3) := dk_182 0 208 (dk_at dksX2_farms_0 13 rfl rfl)
theorem dX2_farms_16 : decode cX2_farms 16 = .ok (.invokevirtual 212, 3) := dk_182 0 212 (dk_at dksX2_farms_0 16 rfl rfl)
theorem dX2_farms_19 : decode cX2_farms 19 = .ok (.ifCond .eq 7, 3) := dk_153 0 7 (dk_at dksX2_farms_0 19 rfl rfl)
theorem dX2_farms_22 : decode cX2_farms 22 = .ok (.iconst 1, 1) := dk_4 (dk_at dksX2_farms_0 22 rfl rfl)
theorem dX2_farms_23 : decode cX2_farms 23 = .ok (.goto 4, 3) := dk_167 0 4 (dk_at dksX2_farms_1 0 rfl rfl)
theorem dX2_farms_26 : decode cX2_farms 26 = .ok (.iconst 0, 1) := dk_3 (dk_at dksX2_farms_1 3 rfl rfl)
theorem dX2_farms_27 : decode cX2_farms 27 = .ok (.iadd, 1) := dk_96 (dk_at dksX2_farms_1 4 rfl rfl)
theorem dX2_farms_28 : decode cX2_farms 28 = .ok (.istore_n 1, 1) := dk_60 (dk_at dksX2_farms_1 5 rfl rfl)
theorem dX2_farms_29 : decode cX2_farms 29 = .ok (.iinc 2 1, 3) := dk_132 2 1 (dk_at dksX2_farms_1 6 rfl rfl)
theorem dX2_farms_32 : decode cX2_farms 32 = .ok (.goto (-28), 3) := dk_167 255 228 (dk_at dksX2_farms_1 9 rfl rfl)
theorem dX2_farms_35 : decode cX2_farms 35 = .ok (.iload_n 1, 1) := dk_27 (dk_at dksX2_farms_1 12 rfl rfl)
theorem dX2_farms_36 : decode cX2_farms 36 = .ok (.ireturn, 1) := dk_172 (dk_at dksX2_farms_1 13 rfl rfl)
def dkwX2_promise_1 : List UInt8 := [167, 0, 19, 42, 180, 0, 67, 28, 46, 42, 180, 0, 64, 28, 46, 108, 16, 10, 108, 96, 172]
abbrev dktX2_promise_1 : List UInt8 := dkwX2_promise_1 ++ []
def dkwX2_promise_0 : List UInt8 := [27, 184, 0, 224, 61, 16, 10, 42, 180, 0, 92, 27, 51, 104, 42, 180, 0, 64, 28, 46, 154, 0, 7, 3]
abbrev dktX2_promise_0 : List UInt8 := dkwX2_promise_0 ++ dktX2_promise_1
theorem dksX2_promise_0 : cX2_promise.data.toList.drop 0 = dktX2_promise_0 := by decide +kernel
theorem dksX2_promise_1 : cX2_promise.data.toList.drop 24 = dktX2_promise_1 := dk_seg dksX2_promise_0 24 rfl rfl
theorem dX2_promise_0 : decode cX2_promise 0 = .ok (.iload_n 1, 1) := dk_27 (dk_at dksX2_promise_0 0 rfl rfl)
theorem dX2_promise_1 : decode cX2_promise 1 = .ok (.invokestatic 224, 3) := dk_184 0 224 (dk_at dksX2_promise_0 1 rfl rfl)
theorem dX2_promise_4 : decode cX2_promise 4 = .ok (.istore_n 2, 1) := dk_61 (dk_at dksX2_promise_0 4 rfl rfl)
theorem dX2_promise_5 : decode cX2_promise 5 = .ok (.bipush 10, 2) := dk_16 10 (dk_at dksX2_promise_0 5 rfl rfl)
theorem dX2_promise_7 : decode cX2_promise 7 = .ok (.aload_n 0, 1) := dk_42 (dk_at dksX2_promise_0 7 rfl rfl)
theorem dX2_promise_8 : decode cX2_promise 8 = .ok (.getfield 92, 3) := dk_180 0 92 (dk_at dksX2_promise_0 8 rfl rfl)
theorem dX2_promise_11 : decode cX2_promise 11 = .ok (.iload_n 1, 1) := dk_27 (dk_at dksX2_promise_0 11 rfl rfl)
theorem dX2_promise_12 : decode cX2_promise 12 = .ok (.baload, 1) := dk_51 (dk_at dksX2_promise_0 12 rfl rfl)
theorem dX2_promise_13 : decode cX2_promise 13 = .ok (.imul, 1) := dk_104 (dk_at dksX2_promise_0 13 rfl rfl)
theorem dX2_promise_14 : decode cX2_promise 14 = .ok (.aload_n 0, 1) := dk_42 (dk_at dksX2_promise_0 14 rfl rfl)
theorem dX2_promise_15 : decode cX2_promise 15 = .ok (.getfield 64, 3) := dk_180 0 64 (dk_at dksX2_promise_0 15 rfl rfl)
theorem dX2_promise_18 : decode cX2_promise 18 = .ok (.iload_n 2, 1) := dk_28 (dk_at dksX2_promise_0 18 rfl rfl)
theorem dX2_promise_19 : decode cX2_promise 19 = .ok (.iaload, 1) := dk_46 (dk_at dksX2_promise_0 19 rfl rfl)
theorem dX2_promise_20 : decode cX2_promise 20 = .ok (.ifCond .ne 7, 3) := dk_154 0 7 (dk_at dksX2_promise_0 20 rfl rfl)
theorem dX2_promise_23 : decode cX2_promise 23 = .ok (.iconst 0, 1) := dk_3 (dk_at dksX2_promise_0 23 rfl rfl)
theorem dX2_promise_24 : decode cX2_promise 24 = .ok (.goto 19, 3) := dk_167 0 19 (dk_at dksX2_promise_1 0 rfl rfl)
theorem dX2_promise_27 : decode cX2_promise 27 = .ok (.aload_n 0, 1) := dk_42 (dk_at dksX2_promise_1 3 rfl rfl)
theorem dX2_promise_28 : decode cX2_promise 28 = .ok (.getfield 67, 3) := dk_180 0 67 (dk_at dksX2_promise_1 4 rfl rfl)
theorem dX2_promise_31 : decode cX2_promise 31 = .ok (.iload_n 2, 1) := dk_28 (dk_at dksX2_promise_1 7 rfl rfl)
theorem dX2_promise_32 : decode cX2_promise 32 = .ok (.iaload, 1) := dk_46 (dk_at dksX2_promise_1 8 rfl rfl)
theorem dX2_promise_33 : decode cX2_promise 33 = .ok (.aload_n 0, 1) := dk_42 (dk_at dksX2_promise_1 9 rfl rfl)
theorem dX2_promise_34 : decode cX2_promise 34 = .ok (.getfield 64, 3) := dk_180 0 64 (dk_at dksX2_promise_1 10 rfl rfl)
theorem dX2_promise_37 : decode cX2_promise 37 = .ok (.iload_n 2, 1) := dk_28 (dk_at dksX2_promise_1 13 rfl rfl)
theorem dX2_promise_38 : decode cX2_promise 38 = .ok (.iaload, 1) := dk_46 (dk_at dksX2_promise_1 14 rfl rfl)
theorem dX2_promise_39 : decode cX2_promise 39 = .ok (.idiv, 1) := dk_108 (dk_at dksX2_promise_1 15 rfl rfl)
theorem dX2_promise_40 : decode cX2_promise 40 = .ok (.bipush 10, 2) := dk_16 10 (dk_at dksX2_promise_1 16 rfl rfl)
theorem dX2_promise_42 : decode cX2_promise 42 = .ok (.idiv, 1) := dk_108 (dk_at dksX2_promise_1 18 rfl rfl)
theorem dX2_promise_43 : decode cX2_promise 43 = .ok (.iadd, 1) := dk_96 (dk_at dksX2_promise_1 19 rfl rfl)
theorem dX2_promise_44 : decode cX2_promise 44 = .ok (.ireturn, 1) := dk_172 (dk_at dksX2_promise_1 20 rfl rfl)
def dkwX2_set_23 : List UInt8 := [180, 0, 82, 28, 182, 0, 141, 192, 0, 186, 182, 0, 197, 132, 2, 1, 167, 255, 163, 42, 176]
abbrev dktX2_set_23 : List UInt8 := dkwX2_set_23 ++ []
def dkwX2_set_22 : List UInt8 := [180, 0, 191, 183, 0, 194, 182, 0, 112, 87, 42, 180, 0, 82, 28, 182, 0, 141, 192, 0, 186, 43]
abbrev dktX2_set_22 : List UInt8 := dkwX2_set_22 ++ dktX2_set_23
def dkwX2_set_21 : List UInt8 := [180, 0, 82, 28, 182, 0, 141, 192, 0, 186, 180, 0, 188, 43, 180, 0, 82, 28, 182, 0, 141, 192, 0, 186]
abbrev dktX2_set_21 : List UInt8 := dkwX2_set_21 ++ dktX2_set_22
def dkwX2_set_20 : List UInt8 := [162, 0, 88, 28, 42, 180, 0, 82, 182, 0, 149, 160, 0, 46, 42, 180, 0, 82, 187, 0, 186, 89, 43]
abbrev dktX2_set_20 : List UInt8 := dkwX2_set_20 ++ dktX2_set_21
def dkwX2_set_19 : List UInt8 := [192, 0, 174, 182, 0, 183, 132, 2, 1, 167, 255, 177, 3, 61, 28, 43, 180, 0, 82, 182, 0, 149]
abbrev dktX2_set_19 : List UInt8 := dkwX2_set_19 ++ dktX2_set_20
def dkwX2_set_18 : List UInt8 := [182, 0, 112, 87, 42, 180, 0, 79, 28, 182, 0, 141, 192, 0, 174, 43, 180, 0, 79, 28, 182, 0, 141]
abbrev dktX2_set_18 : List UInt8 := dkwX2_set_18 ++ dktX2_set_19
def dkwX2_set_17 : List UInt8 := [180, 0, 79, 187, 0, 174, 89, 43, 180, 0, 79, 28, 182, 0, 141, 192, 0, 174, 180, 0, 176, 183, 0, 180]
abbrev dktX2_set_17 : List UInt8 := dkwX2_set_17 ++ dktX2_set_18
def dkwX2_set_16 : List UInt8 := [61, 28, 43, 180, 0, 79, 182, 0, 149, 162, 0, 74, 28, 42, 180, 0, 79, 182, 0, 149, 160, 0, 32, 42]
abbrev dktX2_set_16 : List UInt8 := dkwX2_set_16 ++ dktX2_set_17
def dkwX2_set_15 : List UInt8 := [192, 0, 165, 43, 180, 0, 76, 28, 182, 0, 141, 192, 0, 165, 182, 0, 171, 132, 2, 1, 167, 255, 177, 3]
abbrev dktX2_set_15 : List UInt8 := dkwX2_set_15 ++ dktX2_set_16
def dkwX2_set_14 : List UInt8 := [182, 0, 141, 192, 0, 165, 180, 0, 167, 183, 0, 170, 182, 0, 112, 87, 42, 180, 0, 76, 28, 182, 0, 141]
abbrev dktX2_set_14 : List UInt8 := dkwX2_set_14 ++ dktX2_set_15
def dkwX2_set_13 : List UInt8 := [180, 0, 76, 182, 0, 149, 160, 0, 32, 42, 180, 0, 76, 187, 0, 165, 89, 43, 180, 0, 76, 28]
abbrev dktX2_set_13 : List UInt8 := dkwX2_set_13 ++ dktX2_set_14
def dkwX2_set_12 : List UInt8 := [182, 0, 161, 132, 2, 1, 167, 255, 175, 3, 61, 28, 43, 180, 0, 76, 182, 0, 149, 162, 0, 74, 28, 42]
abbrev dktX2_set_12 : List UInt8 := dkwX2_set_12 ++ dktX2_set_13
def dkwX2_set_11 : List UInt8 := [42, 180, 0, 73, 28, 182, 0, 141, 192, 0, 153, 43, 180, 0, 73, 28, 182, 0, 141, 192, 0, 153]
abbrev dktX2_set_11 : List UInt8 := dkwX2_set_11 ++ dktX2_set_12
def dkwX2_set_10 : List UInt8 := [89, 28, 43, 180, 0, 73, 28, 182, 0, 141, 192, 0, 153, 180, 0, 155, 3, 183, 0, 158, 182, 0, 112, 87]
abbrev dktX2_set_10 : List UInt8 := dkwX2_set_10 ++ dktX2_set_11
def dkwX2_set_9 : List UInt8 := [182, 0, 149, 162, 0, 76, 28, 42, 180, 0, 73, 182, 0, 149, 160, 0, 34, 42, 180, 0, 73, 187, 0, 153]
abbrev dktX2_set_9 : List UInt8 := dkwX2_set_9 ++ dktX2_set_10
def dkwX2_set_8 : List UInt8 := [192, 0, 109, 180, 0, 145, 181, 0, 145, 132, 2, 1, 167, 255, 219, 3, 61, 28, 43, 180, 0, 73]
abbrev dktX2_set_8 : List UInt8 := dkwX2_set_8 ++ dktX2_set_9
def dkwX2_set_7 : List UInt8 := [16, 96, 162, 0, 37, 42, 180, 0, 29, 28, 182, 0, 141, 192, 0, 109, 43, 180, 0, 29, 28, 182, 0, 141]
abbrev dktX2_set_7 : List UInt8 := dkwX2_set_7 ++ dktX2_set_8
def dkwX2_set_6 : List UInt8 := [3, 16, 96, 184, 0, 135, 43, 180, 0, 43, 3, 42, 180, 0, 43, 3, 16, 96, 184, 0, 135, 3, 61, 28]
abbrev dktX2_set_6 : List UInt8 := dkwX2_set_6 ++ dktX2_set_7
def dkwX2_set_5 : List UInt8 := [43, 180, 0, 37, 3, 42, 180, 0, 37, 3, 16, 96, 184, 0, 135, 43, 180, 0, 40, 3, 42, 180, 0, 40]
abbrev dktX2_set_5 : List UInt8 := dkwX2_set_5 ++ dktX2_set_6
def dkwX2_set_4 : List UInt8 := [42, 180, 0, 67, 3, 7, 184, 0, 135, 43, 180, 0, 33, 3, 42, 180, 0, 33, 3, 16, 96, 184, 0, 135]
abbrev dktX2_set_4 : List UInt8 := dkwX2_set_4 ++ dktX2_set_5
def dkwX2_set_3 : List UInt8 := [3, 7, 184, 0, 135, 43, 180, 0, 64, 3, 42, 180, 0, 64, 3, 7, 184, 0, 135, 43, 180, 0, 67, 3]
abbrev dktX2_set_3 : List UInt8 := dkwX2_set_3 ++ dktX2_set_4
def dkwX2_set_2 : List UInt8 := [42, 3, 181, 0, 132, 42, 2, 181, 0, 18, 42, 2, 181, 0, 21, 43, 180, 0, 61, 3, 42, 180, 0, 61]
abbrev dktX2_set_2 : List UInt8 := dkwX2_set_2 ++ dktX2_set_3
def dkwX2_set_1 : List UInt8 := [42, 43, 180, 0, 123, 181, 0, 123, 42, 43, 180, 0, 126, 181, 0, 126, 42, 43, 180, 0, 129, 181, 0, 129]
abbrev dktX2_set_1 : List UInt8 := dkwX2_set_1 ++ dktX2_set_2
def dkwX2_set_0 : List UInt8 := [42, 43, 180, 0, 120, 181, 0, 120, 42, 43, 180, 0, 9, 181, 0, 9, 42, 43, 180, 0, 15, 181, 0, 15]
abbrev dktX2_set_0 : List UInt8 := dkwX2_set_0 ++ dktX2_set_1
theorem dksX2_set_0 : cX2_set.data.toList.drop 0 = dktX2_set_0 := by decide +kernel
theorem dksX2_set_1 : cX2_set.data.toList.drop 24 = dktX2_set_1 := dk_seg dksX2_set_0 24 rfl rfl
theorem dksX2_set_2 : cX2_set.data.toList.drop 48 = dktX2_set_2 := dk_seg dksX2_set_1 24 rfl rfl
theorem dksX2_set_3 : cX2_set.data.toList.drop 72 = dktX2_set_3 := dk_seg dksX2_set_2 24 rfl rfl
theorem dksX2_set_4 : cX2_set.data.toList.drop 96 = dktX2_set_4 := dk_seg dksX2_set_3 24 rfl rfl
theorem dksX2_set_5 : cX2_set.data.toList.drop 120 = dktX2_set_5 := dk_seg dksX2_set_4 24 rfl rfl
theorem dksX2_set_6 : cX2_set.data.toList.drop 144 = dktX2_set_6 := dk_seg dksX2_set_5 24 rfl rfl
theorem dksX2_set_7 : cX2_set.data.toList.drop 168 = dktX2_set_7 := dk_seg dksX2_set_6 24 rfl rfl
theorem dksX2_set_8 : cX2_set.data.toList.drop 192 = dktX2_set_8 := dk_seg dksX2_set_7 24 rfl rfl
theorem dksX2_set_9 : cX2_set.data.toList.drop 214 = dktX2_set_9 := dk_seg dksX2_set_8 22 rfl rfl
theorem dksX2_set_10 : cX2_set.data.toList.drop 238 = dktX2_set_10 := dk_seg dksX2_set_9 24 rfl rfl
theorem dksX2_set_11 : cX2_set.data.toList.drop 262 = dktX2_set_11 := dk_seg dksX2_set_10 24 rfl rfl
theorem dksX2_set_12 : cX2_set.data.toList.drop 284 = dktX2_set_12 := dk_seg dksX2_set_11 22 rfl rfl
theorem dksX2_set_13 : cX2_set.data.toList.drop 308 = dktX2_set_13 := dk_seg dksX2_set_12 24 rfl rfl
theorem dksX2_set_14 : cX2_set.data.toList.drop 330 = dktX2_set_14 := dk_seg dksX2_set_13 22 rfl rfl
theorem dksX2_set_15 : cX2_set.data.toList.drop 354 = dktX2_set_15 := dk_seg dksX2_set_14 24 rfl rfl
theorem dksX2_set_16 : cX2_set.data.toList.drop 378 = dktX2_set_16 := dk_seg dksX2_set_15 24 rfl rfl
theorem dksX2_set_17 : cX2_set.data.toList.drop 402 = dktX2_set_17 := dk_seg dksX2_set_16 24 rfl rfl
theorem dksX2_set_18 : cX2_set.data.toList.drop 426 = dktX2_set_18 := dk_seg dksX2_set_17 24 rfl rfl
theorem dksX2_set_19 : cX2_set.data.toList.drop 449 = dktX2_set_19 := dk_seg dksX2_set_18 23 rfl rfl
theorem dksX2_set_20 : cX2_set.data.toList.drop 471 = dktX2_set_20 := dk_seg dksX2_set_19 22 rfl rfl
theorem dksX2_set_21 : cX2_set.data.toList.drop 494 = dktX2_set_21 := dk_seg dksX2_set_20 23 rfl rfl
theorem dksX2_set_22 : cX2_set.data.toList.drop 518 = dktX2_set_22 := dk_seg dksX2_set_21 24 rfl rfl
theorem dksX2_set_23 : cX2_set.data.toList.drop 540 = dktX2_set_23 := dk_seg dksX2_set_22 22 rfl rfl
theorem dX2_set_0 : decode cX2_set 0 = .ok (.aload_n 0, 1) := dk_42 (dk_at dksX2_set_0 0 rfl rfl)
theorem dX2_set_1 : decode cX2_set 1 = .ok (.aload_n 1, 1) := dk_43 (dk_at dksX2_set_0 1 rfl rfl)
theorem dX2_set_2 : decode cX2_set 2 = .ok (.getfield 120, 3) := dk_180 0 120 (dk_at dksX2_set_0 2 rfl rfl)
theorem dX2_set_5 : decode cX2_set 5 = .ok (.putfield 120, 3) := dk_181 0 120 (dk_at dksX2_set_0 5 rfl rfl)
theorem dX2_set_8 : decode cX2_set 8 = .ok (.aload_n 0, 1) := dk_42 (dk_at dksX2_set_0 8 rfl rfl)
theorem dX2_set_9 : decode cX2_set 9 = .ok (.aload_n 1, 1) := dk_43 (dk_at dksX2_set_0 9 rfl rfl)
theorem dX2_set_10 : decode cX2_set 10 = .ok (.getfield 9, 3) := dk_180 0 9 (dk_at dksX2_set_0 10 rfl rfl)
theorem dX2_set_13 : decode cX2_set 13 = .ok (.putfield 9, 3) := dk_181 0 9 (dk_at dksX2_set_0 13 rfl rfl)
theorem dX2_set_16 : decode cX2_set 16 = .ok (.aload_n 0, 1) := dk_42 (dk_at dksX2_set_0 16 rfl rfl)
theorem dX2_set_17 : decode cX2_set 17 = .ok (.aload_n 1, 1) := dk_43 (dk_at dksX2_set_0 17 rfl rfl)
theorem dX2_set_18 : decode cX2_set 18 = .ok (.getfield 15, 3) := dk_180 0 15 (dk_at dksX2_set_0 18 rfl rfl)
theorem dX2_set_21 : decode cX2_set 21 = .ok (.putfield 15, 3) := dk_181 0 15 (dk_at dksX2_set_0 21 rfl rfl)
theorem dX2_set_24 : decode cX2_set 24 = .ok (.aload_n 0, 1) := dk_42 (dk_at dksX2_set_1 0 rfl rfl)
theorem dX2_set_25 : decode cX2_set 25 = .ok (.aload_n 1, 1) := dk_43 (dk_at dksX2_set_1 1 rfl rfl)
theorem dX2_set_26 : decode cX2_set 26 = .ok (.getfield 123, 3) := dk_180 0 123 (dk_at dksX2_set_1 2 rfl rfl)
theorem dX2_set_29 : decode cX2_set 29 = .ok (.putfield 123, 3) := dk_181 0 123 (dk_at dksX2_set_1 5 rfl rfl)
theorem dX2_set_32 : decode cX2_set 32 = .ok (.aload_n 0, 1) := dk_42 (dk_at dksX2_set_1 8 rfl rfl)
theorem dX2_set_33 : decode cX2_set 33 = .ok (.aload_n 1, 1) := dk_43 (dk_at dksX2_set_1 9 rfl rfl)
theorem dX2_set_34 : decode cX2_set 34 = .ok (.getfield 126, 3) := dk_180 0 126 (dk_at dksX2_set_1 10 rfl rfl)
theorem dX2_set_37 : decode cX2_set 37 = .ok (.putfield 126, 3) := dk_181 0 126 (dk_at dksX2_set_1 13 rfl rfl)
theorem dX2_set_40 : decode cX2_set 40 = .ok (.aload_n 0, 1) := dk_42 (dk_at dksX2_set_1 16 rfl rfl)
theorem dX2_set_41 : decode cX2_set 41 = .ok (.aload_n 1, 1) := dk_43 (dk_at dksX2_set_1 17 rfl rfl)
theorem dX2_set_42 : decode cX2_set 42 = .ok (.getfield 129, 3) := dk_180 0 129 (dk_at dksX2_set_1 18 rfl rfl)
theorem dX2_set_45 : decode cX2_set 45 = .ok (.putfield 129, 3) := dk_181 0 129 (dk_at dksX2_set_1 21 rfl rfl)
theorem dX2_set_48 : decode cX2_set 48 = .ok (.aload_n 0, 1) := dk_42 (dk_at dksX2_set_2 0 rfl rfl)
theorem dX2_set_49 : decode cX2_set 49 = .ok (.iconst 0, 1) := dk_3 (dk_at dksX2_set_2 1 rfl rfl)
theorem dX2_set_50 : decode cX2_set 50 = .ok (.putfield 132, 3) := dk_181 0 132 (dk_at dksX2_set_2 2 rfl rfl)
theorem dX2_set_53 : decode cX2_set 53 = .ok (.aload_n 0, 1) := dk_42 (dk_at dksX2_set_2 5 rfl rfl)
theorem dX2_set_54 : decode cX2_set 54 = .ok (.iconst (-1), 1) := dk_2 (dk_at dksX2_set_2 6 rfl rfl)
theorem dX2_set_55 : decode cX2_set 55 = .ok (.putfield 18, 3) := dk_181 0 18 (dk_at dksX2_set_2 7 rfl rfl)
theorem dX2_set_58 : decode cX2_set 58 = .ok (.aload_n 0, 1) := dk_42 (dk_at dksX2_set_2 10 rfl rfl)
theorem dX2_set_59 : decode cX2_set 59 = .ok (.iconst (-1), 1) := dk_2 (dk_at dksX2_set_2 11 rfl rfl)
theorem dX2_set_60 : decode cX2_set 60 = .ok (.putfield 21, 3) := dk_181 0 21 (dk_at dksX2_set_2 12 rfl rfl)
theorem dX2_set_63 : decode cX2_set 63 = .ok (.aload_n 1, 1) := dk_43 (dk_at dksX2_set_2 15 rfl rfl)
theorem dX2_set_64 : decode cX2_set 64 = .ok (.getfield 61, 3) := dk_180 0 61 (dk_at dksX2_set_2 16 rfl rfl)
theorem dX2_set_67 : decode cX2_set 67 = .ok (.iconst 0, 1) := dk_3 (dk_at dksX2_set_2 19 rfl rfl)
theorem dX2_set_68 : decode cX2_set 68 = .ok (.aload_n 0, 1) := dk_42 (dk_at dksX2_set_2 20 rfl rfl)
theorem dX2_set_69 : decode cX2_set 69 = .ok (.getfield 61, 3) := dk_180 0 61 (dk_at dksX2_set_2 21 rfl rfl)
theorem dX2_set_72 : decode cX2_set 72 = .ok (.iconst 0, 1) := dk_3 (dk_at dksX2_set_3 0 rfl rfl)
theorem dX2_set_73 : decode cX2_set 73 = .ok (.iconst 4, 1) := dk_7 (dk_at dksX2_set_3 1 rfl rfl)
theorem dX2_set_74 : decode cX2_set 74 = .ok (.invokestatic 135, 3) := dk_184 0 135 (dk_at dksX2_set_3 2 rfl rfl)
theorem dX2_set_77 : decode cX2_set 77 = .ok (.aload_n 1, 1) := dk_43 (dk_at dksX2_set_3 5 rfl rfl)
theorem dX2_set_78 : decode cX2_set 78 = .ok (.getfield 64, 3) := dk_180 0 64 (dk_at dksX2_set_3 6 rfl rfl)
theorem dX2_set_81 : decode cX2_set 81 = .ok (.iconst 0, 1) := dk_3 (dk_at dksX2_set_3 9 rfl rfl)
theorem dX2_set_82 : decode cX2_set 82 = .ok (.aload_n 0, 1) := dk_42 (dk_at dksX2_set_3 10 rfl rfl)
theorem dX2_set_83 : decode cX2_set 83 = .ok (.getfield 64, 3) := dk_180 0 64 (dk_at dksX2_set_3 11 rfl rfl)
theorem dX2_set_86 : decode cX2_set 86 = .ok (.iconst 0, 1) := dk_3 (dk_at dksX2_set_3 14 rfl rfl)
theorem dX2_set_87 : decode cX2_set 87 = .ok (.iconst 4, 1) := dk_7 (dk_at dksX2_set_3 15 rfl rfl)
theorem dX2_set_88 : decode cX2_set 88 = .ok (.invokestatic 135, 3) := dk_184 0 135 (dk_at dksX2_set_3 16 rfl rfl)
theorem dX2_set_91 : decode cX2_set 91 = .ok (.aload_n 1, 1) := dk_43 (dk_at dksX2_set_3 19 rfl rfl)
theorem dX2_set_92 : decode cX2_set 92 = .ok (.getfield 67, 3) := dk_180 0 67 (dk_at dksX2_set_3 20 rfl rfl)
theorem dX2_set_95 : decode cX2_set 95 = .ok (.iconst 0, 1) := dk_3 (dk_at dksX2_set_3 23 rfl rfl)
theorem dX2_set_96 : decode cX2_set 96 = .ok (.aload_n 0, 1) := dk_42 (dk_at dksX2_set_4 0 rfl rfl)
theorem dX2_set_97 : decode cX2_set 97 = .ok (.getfield 67, 3) := dk_180 0 67 (dk_at dksX2_set_4 1 rfl rfl)
theorem dX2_set_100 : decode cX2_set 100 = .ok (.iconst 0, 1) := dk_3 (dk_at dksX2_set_4 4 rfl rfl)
theorem dX2_set_101 : decode cX2_set 101 = .ok (.iconst 4, 1) := dk_7 (dk_at dksX2_set_4 5 rfl rfl)
theorem dX2_set_102 : decode cX2_set 102 = .ok (.invokestatic 135, 3) := dk_184 0 135 (dk_at dksX2_set_4 6 rfl rfl)
theorem dX2_set_105 : decode cX2_set 105 = .ok (.aload_n 1, 1) := dk_43 (dk_at dksX2_set_4 9 rfl rfl)
theorem dX2_set_106 : decode cX2_set 106 = .ok (.getfield 33, 3) := dk_180 0 33 (dk_at dksX2_set_4 10 rfl rfl)
theorem dX2_set_109 : decode cX2_set 109 = .ok (.iconst 0, 1) := dk_3 (dk_at dksX2_set_4 13 rfl rfl)
theorem dX2_set_110 : decode cX2_set 110 = .ok (.aload_n 0, 1) := dk_42 (dk_at dksX2_set_4 14 rfl rfl)
theorem dX2_set_111 : decode cX2_set 111 = .ok (.getfield 33, 3) := dk_180 0 33 (dk_at dksX2_set_4 15 rfl rfl)
theorem dX2_set_114 : decode cX2_set 114 = .ok (.iconst 0, 1) := dk_3 (dk_at dksX2_set_4 18 rfl rfl)
theorem dX2_set_115 : decode cX2_set 115 = .ok (.bipush 96, 2) := dk_16 96 (dk_at dksX2_set_4 19 rfl rfl)
theorem dX2_set_117 : decode cX2_set 117 = .ok (.invokestatic 135, 3) := dk_184 0 135 (dk_at dksX2_set_4 21 rfl rfl)
theorem dX2_set_120 : decode cX2_set 120 = .ok (.aload_n 1, 1) := dk_43 (dk_at dksX2_set_5 0 rfl rfl)
theorem dX2_set_121 : decode cX2_set 121 = .ok (.getfield 37, 3) := dk_180 0 37 (dk_at dksX2_set_5 1 rfl rfl)
theorem dX2_set_124 : decode cX2_set 124 = .ok (.iconst 0, 1) := dk_3 (dk_at dksX2_set_5 4 rfl rfl)
theorem dX2_set_125 : decode cX2_set 125 = .ok (.aload_n 0, 1) := dk_42 (dk_at dksX2_set_5 5 rfl rfl)
theorem dX2_set_126 : decode cX2_set 126 = .ok (.getfield 37, 3) := dk_180 0 37 (dk_at dksX2_set_5 6 rfl rfl)
theorem dX2_set_129 : decode cX2_set 129 = .ok (.iconst 0, 1) := dk_3 (dk_at dksX2_set_5 9 rfl rfl)
theorem dX2_set_130 : decode cX2_set 130 = .ok (.bipush 96, 2) := dk_16 96 (dk_at dksX2_set_5 10 rfl rfl)
theorem dX2_set_132 : decode cX2_set 132 = .ok (.invokestatic 135, 3) := dk_184 0 135 (dk_at dksX2_set_5 12 rfl rfl)
theorem dX2_set_135 : decode cX2_set 135 = .ok (.aload_n 1, 1) := dk_43 (dk_at dksX2_set_5 15 rfl rfl)
theorem dX2_set_136 : decode cX2_set 136 = .ok (.getfield 40, 3) := dk_180 0 40 (dk_at dksX2_set_5 16 rfl rfl)
theorem dX2_set_139 : decode cX2_set 139 = .ok (.iconst 0, 1) := dk_3 (dk_at dksX2_set_5 19 rfl rfl)
theorem dX2_set_140 : decode cX2_set 140 = .ok (.aload_n 0, 1) := dk_42 (dk_at dksX2_set_5 20 rfl rfl)
theorem dX2_set_141 : decode cX2_set 141 = .ok (.getfield 40, 3) := dk_180 0 40 (dk_at dksX2_set_5 21 rfl rfl)
theorem dX2_set_144 : decode cX2_set 144 = .ok (.iconst 0, 1) := dk_3 (dk_at dksX2_set_6 0 rfl rfl)
theorem dX2_set_145 : decode cX2_set 145 = .ok (.bipush 96, 2) := dk_16 96 (dk_at dksX2_set_6 1 rfl rfl)
theorem dX2_set_147 : decode cX2_set 147 = .ok (.invokestatic 135, 3) := dk_184 0 135 (dk_at dksX2_set_6 3 rfl rfl)
theorem dX2_set_150 : decode cX2_set 150 = .ok (.aload_n 1, 1) := dk_43 (dk_at dksX2_set_6 6 rfl rfl)
theorem dX2_set_151 : decode cX2_set 151 = .ok (.getfield 43, 3) := dk_180 0 43 (dk_at dksX2_set_6 7 rfl rfl)
theorem dX2_set_154 : decode cX2_set 154 = .ok (.iconst 0, 1) := dk_3 (dk_at dksX2_set_6 10 rfl rfl)
theorem dX2_set_155 : decode cX2_set 155 = .ok (.aload_n 0, 1) := dk_42 (dk_at dksX2_set_6 11 rfl rfl)
theorem dX2_set_156 : decode cX2_set 156 = .ok (.getfield 43, 3) := dk_180 0 43 (dk_at dksX2_set_6 12 rfl rfl)
theorem dX2_set_159 : decode cX2_set 159 = .ok (.iconst 0, 1) := dk_3 (dk_at dksX2_set_6 15 rfl rfl)
theorem dX2_set_160 : decode cX2_set 160 = .ok (.bipush 96, 2) := dk_16 96 (dk_at dksX2_set_6 16 rfl rfl)
theorem dX2_set_162 : decode cX2_set 162 = .ok (.invokestatic 135, 3) := dk_184 0 135 (dk_at dksX2_set_6 18 rfl rfl)
theorem dX2_set_165 : decode cX2_set 165 = .ok (.iconst 0, 1) := dk_3 (dk_at dksX2_set_6 21 rfl rfl)
theorem dX2_set_166 : decode cX2_set 166 = .ok (.istore_n 2, 1) := dk_61 (dk_at dksX2_set_6 22 rfl rfl)
theorem dX2_set_167 : decode cX2_set 167 = .ok (.iload_n 2, 1) := dk_28 (dk_at dksX2_set_6 23 rfl rfl)
theorem dX2_set_168 : decode cX2_set 168 = .ok (.bipush 96, 2) := dk_16 96 (dk_at dksX2_set_7 0 rfl rfl)
theorem dX2_set_170 : decode cX2_set 170 = .ok (.if_icmp .ge 37, 3) := dk_162 0 37 (dk_at dksX2_set_7 2 rfl rfl)
theorem dX2_set_173 : decode cX2_set 173 = .ok (.aload_n 0, 1) := dk_42 (dk_at dksX2_set_7 5 rfl rfl)
theorem dX2_set_174 : decode cX2_set 174 = .ok (.getfield 29, 3) := dk_180 0 29 (dk_at dksX2_set_7 6 rfl rfl)
theorem dX2_set_177 : decode cX2_set 177 = .ok (.iload_n 2, 1) := dk_28 (dk_at dksX2_set_7 9 rfl rfl)
theorem dX2_set_178 : decode cX2_set 178 = .ok (.invokevirtual 141, 3) := dk_182 0 141 (dk_at dksX2_set_7 10 rfl rfl)
theorem dX2_set_181 : decode cX2_set 181 = .ok (.checkcast 109, 3) := dk_192 0 109 (dk_at dksX2_set_7 13 rfl rfl)
theorem dX2_set_184 : decode cX2_set 184 = .ok (.aload_n 1, 1) := dk_43 (dk_at dksX2_set_7 16 rfl rfl)
theorem dX2_set_185 : decode cX2_set 185 = .ok (.getfield 29, 3) := dk_180 0 29 (dk_at dksX2_set_7 17 rfl rfl)
theorem dX2_set_188 : decode cX2_set 188 = .ok (.iload_n 2, 1) := dk_28 (dk_at dksX2_set_7 20 rfl rfl)
theorem dX2_set_189 : decode cX2_set 189 = .ok (.invokevirtual 141, 3) := dk_182 0 141 (dk_at dksX2_set_7 21 rfl rfl)
theorem dX2_set_192 : decode cX2_set 192 = .ok (.checkcast 109, 3) := dk_192 0 109 (dk_at dksX2_set_8 0 rfl rfl)
theorem dX2_set_195 : decode cX2_set 195 = .ok (.getfield 145, 3) := dk_180 0 145 (dk_at dksX2_set_8 3 rfl rfl)
theorem dX2_set_198 : decode cX2_set 198 = .ok (.putfield 145, 3) := dk_181 0 145 (dk_at dksX2_set_8 6 rfl rfl)
theorem dX2_set_201 : decode cX2_set 201 = .ok (.iinc 2 1, 3) := dk_132 2 1 (dk_at dksX2_set_8 9 rfl rfl)
theorem dX2_set_204 : decode cX2_set 204 = .ok (.goto (-37), 3) := dk_167 255 219 (dk_at dksX2_set_8 12 rfl rfl)
theorem dX2_set_207 : decode cX2_set 207 = .ok (.iconst 0, 1) := dk_3 (dk_at dksX2_set_8 15 rfl rfl)
theorem dX2_set_208 : decode cX2_set 208 = .ok (.istore_n 2, 1) := dk_61 (dk_at dksX2_set_8 16 rfl rfl)
theorem dX2_set_209 : decode cX2_set 209 = .ok (.iload_n 2, 1) := dk_28 (dk_at dksX2_set_8 17 rfl rfl)
theorem dX2_set_210 : decode cX2_set 210 = .ok (.aload_n 1, 1) := dk_43 (dk_at dksX2_set_8 18 rfl rfl)
theorem dX2_set_211 : decode cX2_set 211 = .ok (.getfield 73, 3) := dk_180 0 73 (dk_at dksX2_set_8 19 rfl rfl)
theorem dX2_set_214 : decode cX2_set 214 = .ok (.invokevirtual 149, 3) := dk_182 0 149 (dk_at dksX2_set_9 0 rfl rfl)
theorem dX2_set_217 : decode cX2_set 217 = .ok (.if_icmp .ge 76, 3) := dk_162 0 76 (dk_at dksX2_set_9 3 rfl rfl)
theorem dX2_set_220 : decode cX2_set 220 = .ok (.iload_n 2, 1) := dk_28 (dk_at dksX2_set_9 6 rfl rfl)
theorem dX2_set_221 : decode cX2_set 221 = .ok (.aload_n 0, 1) := dk_42 (dk_at dksX2_set_9 7 rfl rfl)
theorem dX2_set_222 : decode cX2_set 222 = .ok (.getfield 73, 3) := dk_180 0 73 (dk_at dksX2_set_9 8 rfl rfl)
theorem dX2_set_225 : decode cX2_set 225 = .ok (.invokevirtual 149, 3) := dk_182 0 149 (dk_at dksX2_set_9 11 rfl rfl)
theorem dX2_set_228 : decode cX2_set 228 = .ok (.if_icmp .ne 34, 3) := dk_160 0 34 (dk_at dksX2_set_9 14 rfl rfl)
theorem dX2_set_231 : decode cX2_set 231 = .ok (.aload_n 0, 1) := dk_42 (dk_at dksX2_set_9 17 rfl rfl)
theorem dX2_set_232 : decode cX2_set 232 = .ok (.getfield 73, 3) := dk_180 0 73 (dk_at dksX2_set_9 18 rfl rfl)
theorem dX2_set_235 : decode cX2_set 235 = .ok (.new 153, 3) := dk_187 0 153 (dk_at dksX2_set_9 21 rfl rfl)
theorem dX2_set_238 : decode cX2_set 238 = .ok (.dup, 1) := dk_89 (dk_at dksX2_set_10 0 rfl rfl)
theorem dX2_set_239 : decode cX2_set 239 = .ok (.iload_n 2, 1) := dk_28 (dk_at dksX2_set_10 1 rfl rfl)
theorem dX2_set_240 : decode cX2_set 240 = .ok (.aload_n 1, 1) := dk_43 (dk_at dksX2_set_10 2 rfl rfl)
theorem dX2_set_241 : decode cX2_set 241 = .ok (.getfield 73, 3) := dk_180 0 73 (dk_at dksX2_set_10 3 rfl rfl)
theorem dX2_set_244 : decode cX2_set 244 = .ok (.iload_n 2, 1) := dk_28 (dk_at dksX2_set_10 6 rfl rfl)
theorem dX2_set_245 : decode cX2_set 245 = .ok (.invokevirtual 141, 3) := dk_182 0 141 (dk_at dksX2_set_10 7 rfl rfl)
theorem dX2_set_248 : decode cX2_set 248 = .ok (.checkcast 153, 3) := dk_192 0 153 (dk_at dksX2_set_10 10 rfl rfl)
theorem dX2_set_251 : decode cX2_set 251 = .ok (.getfield 155, 3) := dk_180 0 155 (dk_at dksX2_set_10 13 rfl rfl)
theorem dX2_set_254 : decode cX2_set 254 = .ok (.iconst 0, 1) := dk_3 (dk_at dksX2_set_10 16 rfl rfl)
theorem dX2_set_255 : decode cX2_set 255 = .ok (.invokespecial 158, 3) := dk_183 0 158 (dk_at dksX2_set_10 17 rfl rfl)
theorem dX2_set_258 : decode cX2_set 258 = .ok (.invokevirtual 112, 3) := dk_182 0 112 (dk_at dksX2_set_10 20 rfl rfl)
theorem dX2_set_261 : decode cX2_set 261 = .ok (.pop, 1) := dk_87 (dk_at dksX2_set_10 23 rfl rfl)
theorem dX2_set_262 : decode cX2_set 262 = .ok (.aload_n 0, 1) := dk_42 (dk_at dksX2_set_11 0 rfl rfl)
theorem dX2_set_263 : decode cX2_set 263 = .ok (.getfield 73, 3) := dk_180 0 73 (dk_at dksX2_set_11 1 rfl rfl)
theorem dX2_set_266 : decode cX2_set 266 = .ok (.iload_n 2, 1) := dk_28 (dk_at dksX2_set_11 4 rfl rfl)
theorem dX2_set_267 : decode cX2_set 267 = .ok (.invokevirtual 141, 3) := dk_182 0 141 (dk_at dksX2_set_11 5 rfl rfl)
theorem dX2_set_270 : decode cX2_set 270 = .ok (.checkcast 153, 3) := dk_192 0 153 (dk_at dksX2_set_11 8 rfl rfl)
theorem dX2_set_273 : decode cX2_set 273 = .ok (.aload_n 1, 1) := dk_43 (dk_at dksX2_set_11 11 rfl rfl)
theorem dX2_set_274 : decode cX2_set 274 = .ok (.getfield 73, 3) := dk_180 0 73 (dk_at dksX2_set_11 12 rfl rfl)
theorem dX2_set_277 : decode cX2_set 277 = .ok (.iload_n 2, 1) := dk_28 (dk_at dksX2_set_11 15 rfl rfl)
theorem dX2_set_278 : decode cX2_set 278 = .ok (.invokevirtual 141, 3) := dk_182 0 141 (dk_at dksX2_set_11 16 rfl rfl)
theorem dX2_set_281 : decode cX2_set 281 = .ok (.checkcast 153, 3) := dk_192 0 153 (dk_at dksX2_set_11 19 rfl rfl)
theorem dX2_set_284 : decode cX2_set 284 = .ok (.invokevirtual 161, 3) := dk_182 0 161 (dk_at dksX2_set_12 0 rfl rfl)
theorem dX2_set_287 : decode cX2_set 287 = .ok (.iinc 2 1, 3) := dk_132 2 1 (dk_at dksX2_set_12 3 rfl rfl)
theorem dX2_set_290 : decode cX2_set 290 = .ok (.goto (-81), 3) := dk_167 255 175 (dk_at dksX2_set_12 6 rfl rfl)
theorem dX2_set_293 : decode cX2_set 293 = .ok (.iconst 0, 1) := dk_3 (dk_at dksX2_set_12 9 rfl rfl)
theorem dX2_set_294 : decode cX2_set 294 = .ok (.istore_n 2, 1) := dk_61 (dk_at dksX2_set_12 10 rfl rfl)
theorem dX2_set_295 : decode cX2_set 295 = .ok (.iload_n 2, 1) := dk_28 (dk_at dksX2_set_12 11 rfl rfl)
theorem dX2_set_296 : decode cX2_set 296 = .ok (.aload_n 1, 1) := dk_43 (dk_at dksX2_set_12 12 rfl rfl)
theorem dX2_set_297 : decode cX2_set 297 = .ok (.getfield 76, 3) := dk_180 0 76 (dk_at dksX2_set_12 13 rfl rfl)
theorem dX2_set_300 : decode cX2_set 300 = .ok (.invokevirtual 149, 3) := dk_182 0 149 (dk_at dksX2_set_12 16 rfl rfl)
theorem dX2_set_303 : decode cX2_set 303 = .ok (.if_icmp .ge 74, 3) := dk_162 0 74 (dk_at dksX2_set_12 19 rfl rfl)
theorem dX2_set_306 : decode cX2_set 306 = .ok (.iload_n 2, 1) := dk_28 (dk_at dksX2_set_12 22 rfl rfl)
theorem dX2_set_307 : decode cX2_set 307 = .ok (.aload_n 0, 1) := dk_42 (dk_at dksX2_set_12 23 rfl rfl)
theorem dX2_set_308 : decode cX2_set 308 = .ok (.getfield 76, 3) := dk_180 0 76 (dk_at dksX2_set_13 0 rfl rfl)
theorem dX2_set_311 : decode cX2_set 311 = .ok (.invokevirtual 149, 3) := dk_182 0 149 (dk_at dksX2_set_13 3 rfl rfl)
theorem dX2_set_314 : decode cX2_set 314 = .ok (.if_icmp .ne 32, 3) := dk_160 0 32 (dk_at dksX2_set_13 6 rfl rfl)
theorem dX2_set_317 : decode cX2_set 317 = .ok (.aload_n 0, 1) := dk_42 (dk_at dksX2_set_13 9 rfl rfl)
theorem dX2_set_318 : decode cX2_set 318 = .ok (.getfield 76, 3) := dk_180 0 76 (dk_at dksX2_set_13 10 rfl rfl)
theorem dX2_set_321 : decode cX2_set 321 = .ok (.new 165, 3) := dk_187 0 165 (dk_at dksX2_set_13 13 rfl rfl)
theorem dX2_set_324 : decode cX2_set 324 = .ok (.dup, 1) := dk_89 (dk_at dksX2_set_13 16 rfl rfl)
theorem dX2_set_325 : decode cX2_set 325 = .ok (.aload_n 1, 1) := dk_43 (dk_at dksX2_set_13 17 rfl rfl)
theorem dX2_set_326 : decode cX2_set 326 = .ok (.getfield 76, 3) := dk_180 0 76 (dk_at dksX2_set_13 18 rfl rfl)
theorem dX2_set_329 : decode cX2_set 329 = .ok (.iload_n 2, 1) := dk_28 (dk_at dksX2_set_13 21 rfl rfl)
theorem dX2_set_330 : decode cX2_set 330 = .ok (.invokevirtual 141, 3) := dk_182 0 141 (dk_at dksX2_set_14 0 rfl rfl)
theorem dX2_set_333 : decode cX2_set 333 = .ok (.checkcast 165, 3) := dk_192 0 165 (dk_at dksX2_set_14 3 rfl rfl)
theorem dX2_set_336 : decode cX2_set 336 = .ok (.getfield 167, 3) := dk_180 0 167 (dk_at dksX2_set_14 6 rfl rfl)
theorem dX2_set_339 : decode cX2_set 339 = .ok (.invokespecial 170, 3) := dk_183 0 170 (dk_at dksX2_set_14 9 rfl rfl)
theorem dX2_set_342 : decode cX2_set 342 = .ok (.invokevirtual 112, 3) := dk_182 0 112 (dk_at dksX2_set_14 12 rfl rfl)
theorem dX2_set_345 : decode cX2_set 345 = .ok (.pop, 1) := dk_87 (dk_at dksX2_set_14 15 rfl rfl)
theorem dX2_set_346 : decode cX2_set 346 = .ok (.aload_n 0, 1) := dk_42 (dk_at dksX2_set_14 16 rfl rfl)
theorem dX2_set_347 : decode cX2_set 347 = .ok (.getfield 76, 3) := dk_180 0 76 (dk_at dksX2_set_14 17 rfl rfl)
theorem dX2_set_350 : decode cX2_set 350 = .ok (.iload_n 2, 1) := dk_28 (dk_at dksX2_set_14 20 rfl rfl)
theorem dX2_set_351 : decode cX2_set 351 = .ok (.invokevirtual 141, 3) := dk_182 0 141 (dk_at dksX2_set_14 21 rfl rfl)
theorem dX2_set_354 : decode cX2_set 354 = .ok (.checkcast 165, 3) := dk_192 0 165 (dk_at dksX2_set_15 0 rfl rfl)
theorem dX2_set_357 : decode cX2_set 357 = .ok (.aload_n 1, 1) := dk_43 (dk_at dksX2_set_15 3 rfl rfl)
theorem dX2_set_358 : decode cX2_set 358 = .ok (.getfield 76, 3) := dk_180 0 76 (dk_at dksX2_set_15 4 rfl rfl)
theorem dX2_set_361 : decode cX2_set 361 = .ok (.iload_n 2, 1) := dk_28 (dk_at dksX2_set_15 7 rfl rfl)
theorem dX2_set_362 : decode cX2_set 362 = .ok (.invokevirtual 141, 3) := dk_182 0 141 (dk_at dksX2_set_15 8 rfl rfl)
theorem dX2_set_365 : decode cX2_set 365 = .ok (.checkcast 165, 3) := dk_192 0 165 (dk_at dksX2_set_15 11 rfl rfl)
theorem dX2_set_368 : decode cX2_set 368 = .ok (.invokevirtual 171, 3) := dk_182 0 171 (dk_at dksX2_set_15 14 rfl rfl)
theorem dX2_set_371 : decode cX2_set 371 = .ok (.iinc 2 1, 3) := dk_132 2 1 (dk_at dksX2_set_15 17 rfl rfl)
theorem dX2_set_374 : decode cX2_set 374 = .ok (.goto (-79), 3) := dk_167 255 177 (dk_at dksX2_set_15 20 rfl rfl)
theorem dX2_set_377 : decode cX2_set 377 = .ok (.iconst 0, 1) := dk_3 (dk_at dksX2_set_15 23 rfl rfl)
theorem dX2_set_378 : decode cX2_set 378 = .ok (.istore_n 2, 1) := dk_61 (dk_at dksX2_set_16 0 rfl rfl)
theorem dX2_set_379 : decode cX2_set 379 = .ok (.iload_n 2, 1) := dk_28 (dk_at dksX2_set_16 1 rfl rfl)
theorem dX2_set_380 : decode cX2_set 380 = .ok (.aload_n 1, 1) := dk_43 (dk_at dksX2_set_16 2 rfl rfl)
theorem dX2_set_381 : decode cX2_set 381 = .ok (.getfield 79, 3) := dk_180 0 79 (dk_at dksX2_set_16 3 rfl rfl)
theorem dX2_set_384 : decode cX2_set 384 = .ok (.invokevirtual 149, 3) := dk_182 0 149 (dk_at dksX2_set_16 6 rfl rfl)
theorem dX2_set_387 : decode cX2_set 387 = .ok (.if_icmp .ge 74, 3) := dk_162 0 74 (dk_at dksX2_set_16 9 rfl rfl)
theorem dX2_set_390 : decode cX2_set 390 = .ok (.iload_n 2, 1) := dk_28 (dk_at dksX2_set_16 12 rfl rfl)
theorem dX2_set_391 : decode cX2_set 391 = .ok (.aload_n 0, 1) := dk_42 (dk_at dksX2_set_16 13 rfl rfl)
theorem dX2_set_392 : decode cX2_set 392 = .ok (.getfield 79, 3) := dk_180 0 79 (dk_at dksX2_set_16 14 rfl rfl)
theorem dX2_set_395 : decode cX2_set 395 = .ok (.invokevirtual 149, 3) := dk_182 0 149 (dk_at dksX2_set_16 17 rfl rfl)
theorem dX2_set_398 : decode cX2_set 398 = .ok (.if_icmp .ne 32, 3) := dk_160 0 32 (dk_at dksX2_set_16 20 rfl rfl)
theorem dX2_set_401 : decode cX2_set 401 = .ok (.aload_n 0, 1) := dk_42 (dk_at dksX2_set_16 23 rfl rfl)
theorem dX2_set_402 : decode cX2_set 402 = .ok (.getfield 79, 3) := dk_180 0 79 (dk_at dksX2_set_17 0 rfl rfl)
theorem dX2_set_405 : decode cX2_set 405 = .ok (.new 174, 3) := dk_187 0 174 (dk_at dksX2_set_17 3 rfl rfl)
theorem dX2_set_408 : decode cX2_set 408 = .ok (.dup, 1) := dk_89 (dk_at dksX2_set_17 6 rfl rfl)
theorem dX2_set_409 : decode cX2_set 409 = .ok (.aload_n 1, 1) := dk_43 (dk_at dksX2_set_17 7 rfl rfl)
theorem dX2_set_410 : decode cX2_set 410 = .ok (.getfield 79, 3) := dk_180 0 79 (dk_at dksX2_set_17 8 rfl rfl)
theorem dX2_set_413 : decode cX2_set 413 = .ok (.iload_n 2, 1) := dk_28 (dk_at dksX2_set_17 11 rfl rfl)
theorem dX2_set_414 : decode cX2_set 414 = .ok (.invokevirtual 141, 3) := dk_182 0 141 (dk_at dksX2_set_17 12 rfl rfl)
theorem dX2_set_417 : decode cX2_set 417 = .ok (.checkcast 174, 3) := dk_192 0 174 (dk_at dksX2_set_17 15 rfl rfl)
theorem dX2_set_420 : decode cX2_set 420 = .ok (.getfield 176, 3) := dk_180 0 176 (dk_at dksX2_set_17 18 rfl rfl)
theorem dX2_set_423 : decode cX2_set 423 = .ok (.invokespecial 180, 3) := dk_183 0 180 (dk_at dksX2_set_17 21 rfl rfl)
theorem dX2_set_426 : decode cX2_set 426 = .ok (.invokevirtual 112, 3) := dk_182 0 112 (dk_at dksX2_set_18 0 rfl rfl)
theorem dX2_set_429 : decode cX2_set 429 = .ok (.pop, 1) := dk_87 (dk_at dksX2_set_18 3 rfl rfl)
theorem dX2_set_430 : decode cX2_set 430 = .ok (.aload_n 0, 1) := dk_42 (dk_at dksX2_set_18 4 rfl rfl)
theorem dX2_set_431 : decode cX2_set 431 = .ok (.getfield 79, 3) := dk_180 0 79 (dk_at dksX2_set_18 5 rfl rfl)
theorem dX2_set_434 : decode cX2_set 434 = .ok (.iload_n 2, 1) := dk_28 (dk_at dksX2_set_18 8 rfl rfl)
theorem dX2_set_435 : decode cX2_set 435 = .ok (.invokevirtual 141, 3) := dk_182 0 141 (dk_at dksX2_set_18 9 rfl rfl)
theorem dX2_set_438 : decode cX2_set 438 = .ok (.checkcast 174, 3) := dk_192 0 174 (dk_at dksX2_set_18 12 rfl rfl)
theorem dX2_set_441 : decode cX2_set 441 = .ok (.aload_n 1, 1) := dk_43 (dk_at dksX2_set_18 15 rfl rfl)
theorem dX2_set_442 : decode cX2_set 442 = .ok (.getfield 79, 3) := dk_180 0 79 (dk_at dksX2_set_18 16 rfl rfl)
theorem dX2_set_445 : decode cX2_set 445 = .ok (.iload_n 2, 1) := dk_28 (dk_at dksX2_set_18 19 rfl rfl)
theorem dX2_set_446 : decode cX2_set 446 = .ok (.invokevirtual 141, 3) := dk_182 0 141 (dk_at dksX2_set_18 20 rfl rfl)
theorem dX2_set_449 : decode cX2_set 449 = .ok (.checkcast 174, 3) := dk_192 0 174 (dk_at dksX2_set_19 0 rfl rfl)
theorem dX2_set_452 : decode cX2_set 452 = .ok (.invokevirtual 183, 3) := dk_182 0 183 (dk_at dksX2_set_19 3 rfl rfl)
theorem dX2_set_455 : decode cX2_set 455 = .ok (.iinc 2 1, 3) := dk_132 2 1 (dk_at dksX2_set_19 6 rfl rfl)
theorem dX2_set_458 : decode cX2_set 458 = .ok (.goto (-79), 3) := dk_167 255 177 (dk_at dksX2_set_19 9 rfl rfl)
theorem dX2_set_461 : decode cX2_set 461 = .ok (.iconst 0, 1) := dk_3 (dk_at dksX2_set_19 12 rfl rfl)
theorem dX2_set_462 : decode cX2_set 462 = .ok (.istore_n 2, 1) := dk_61 (dk_at dksX2_set_19 13 rfl rfl)
theorem dX2_set_463 : decode cX2_set 463 = .ok (.iload_n 2, 1) := dk_28 (dk_at dksX2_set_19 14 rfl rfl)
theorem dX2_set_464 : decode cX2_set 464 = .ok (.aload_n 1, 1) := dk_43 (dk_at dksX2_set_19 15 rfl rfl)
theorem dX2_set_465 : decode cX2_set 465 = .ok (.getfield 82, 3) := dk_180 0 82 (dk_at dksX2_set_19 16 rfl rfl)
theorem dX2_set_468 : decode cX2_set 468 = .ok (.invokevirtual 149, 3) := dk_182 0 149 (dk_at dksX2_set_19 19 rfl rfl)
theorem dX2_set_471 : decode cX2_set 471 = .ok (.if_icmp .ge 88, 3) := dk_162 0 88 (dk_at dksX2_set_20 0 rfl rfl)
theorem dX2_set_474 : decode cX2_set 474 = .ok (.iload_n 2, 1) := dk_28 (dk_at dksX2_set_20 3 rfl rfl)
theorem dX2_set_475 : decode cX2_set 475 = .ok (.aload_n 0, 1) := dk_42 (dk_at dksX2_set_20 4 rfl rfl)
theorem dX2_set_476 : decode cX2_set 476 = .ok (.getfield 82, 3) := dk_180 0 82 (dk_at dksX2_set_20 5 rfl rfl)
theorem dX2_set_479 : decode cX2_set 479 = .ok (.invokevirtual 149, 3) := dk_182 0 149 (dk_at dksX2_set_20 8 rfl rfl)
theorem dX2_set_482 : decode cX2_set 482 = .ok (.if_icmp .ne 46, 3) := dk_160 0 46 (dk_at dksX2_set_20 11 rfl rfl)
theorem dX2_set_485 : decode cX2_set 485 = .ok (.aload_n 0, 1) := dk_42 (dk_at dksX2_set_20 14 rfl rfl)
theorem dX2_set_486 : decode cX2_set 486 = .ok (.getfield 82, 3) := dk_180 0 82 (dk_at dksX2_set_20 15 rfl rfl)
theorem dX2_set_489 : decode cX2_set 489 = .ok (.new 186, 3) := dk_187 0 186 (dk_at dksX2_set_20 18 rfl rfl)
theorem dX2_set_492 : decode cX2_set 492 = .ok (.dup, 1) := dk_89 (dk_at dksX2_set_20 21 rfl rfl)
theorem dX2_set_493 : decode cX2_set 493 = .ok (.aload_n 1, 1) := dk_43 (dk_at dksX2_set_20 22 rfl rfl)
theorem dX2_set_494 : decode cX2_set 494 = .ok (.getfield 82, 3) := dk_180 0 82 (dk_at dksX2_set_21 0 rfl rfl)
theorem dX2_set_497 : decode cX2_set 497 = .ok (.iload_n 2, 1) := dk_28 (dk_at dksX2_set_21 3 rfl rfl)
theorem dX2_set_498 : decode cX2_set 498 = .ok (.invokevirtual 141, 3) := dk_182 0 141 (dk_at dksX2_set_21 4 rfl rfl)
theorem dX2_set_501 : decode cX2_set 501 = .ok (.checkcast 186, 3) := dk_192 0 186 (dk_at dksX2_set_21 7 rfl rfl)
theorem dX2_set_504 : decode cX2_set 504 = .ok (.getfield 188, 3) := dk_180 0 188 (dk_at dksX2_set_21 10 rfl rfl)
theorem dX2_set_507 : decode cX2_set 507 = .ok (.aload_n 1, 1) := dk_43 (dk_at dksX2_set_21 13 rfl rfl)
theorem dX2_set_508 : decode cX2_set 508 = .ok (.getfield 82, 3) := dk_180 0 82 (dk_at dksX2_set_21 14 rfl rfl)
theorem dX2_set_511 : decode cX2_set 511 = .ok (.iload_n 2, 1) := dk_28 (dk_at dksX2_set_21 17 rfl rfl)
theorem dX2_set_512 : decode cX2_set 512 = .ok (.invokevirtual 141, 3) := dk_182 0 141 (dk_at dksX2_set_21 18 rfl rfl)
theorem dX2_set_515 : decode cX2_set 515 = .ok (.checkcast 186, 3) := dk_192 0 186 (dk_at dksX2_set_21 21 rfl rfl)
theorem dX2_set_518 : decode cX2_set 518 = .ok (.getfield 191, 3) := dk_180 0 191 (dk_at dksX2_set_22 0 rfl rfl)
theorem dX2_set_521 : decode cX2_set 521 = .ok (.invokespecial 194, 3) := dk_183 0 194 (dk_at dksX2_set_22 3 rfl rfl)
theorem dX2_set_524 : decode cX2_set 524 = .ok (.invokevirtual 112, 3) := dk_182 0 112 (dk_at dksX2_set_22 6 rfl rfl)
theorem dX2_set_527 : decode cX2_set 527 = .ok (.pop, 1) := dk_87 (dk_at dksX2_set_22 9 rfl rfl)
theorem dX2_set_528 : decode cX2_set 528 = .ok (.aload_n 0, 1) := dk_42 (dk_at dksX2_set_22 10 rfl rfl)
theorem dX2_set_529 : decode cX2_set 529 = .ok (.getfield 82, 3) := dk_180 0 82 (dk_at dksX2_set_22 11 rfl rfl)
theorem dX2_set_532 : decode cX2_set 532 = .ok (.iload_n 2, 1) := dk_28 (dk_at dksX2_set_22 14 rfl rfl)
theorem dX2_set_533 : decode cX2_set 533 = .ok (.invokevirtual 141, 3) := dk_182 0 141 (dk_at dksX2_set_22 15 rfl rfl)
theorem dX2_set_536 : decode cX2_set 536 = .ok (.checkcast 186, 3) := dk_192 0 186 (dk_at dksX2_set_22 18 rfl rfl)
theorem dX2_set_539 : decode cX2_set 539 = .ok (.aload_n 1, 1) := dk_43 (dk_at dksX2_set_22 21 rfl rfl)
theorem dX2_set_540 : decode cX2_set 540 = .ok (.getfield 82, 3) := dk_180 0 82 (dk_at dksX2_set_23 0 rfl rfl)
theorem dX2_set_543 : decode cX2_set 543 = .ok (.iload_n 2, 1) := dk_28 (dk_at dksX2_set_23 3 rfl rfl)
theorem dX2_set_544 : decode cX2_set 544 = .ok (.invokevirtual 141, 3) := dk_182 0 141 (dk_at dksX2_set_23 4 rfl rfl)
theorem dX2_set_547 : decode cX2_set 547 = .ok (.checkcast 186, 3) := dk_192 0 186 (dk_at dksX2_set_23 7 rfl rfl)
theorem dX2_set_550 : decode cX2_set 550 = .ok (.invokevirtual 197, 3) := dk_182 0 197 (dk_at dksX2_set_23 10 rfl rfl)
theorem dX2_set_553 : decode cX2_set 553 = .ok (.iinc 2 1, 3) := dk_132 2 1 (dk_at dksX2_set_23 13 rfl rfl)
theorem dX2_set_556 : decode cX2_set 556 = .ok (.goto (-93), 3) := dk_167 255 163 (dk_at dksX2_set_23 16 rfl rfl)
theorem dX2_set_559 : decode cX2_set 559 = .ok (.aload_n 0, 1) := dk_42 (dk_at dksX2_set_23 19 rfl rfl)
theorem dX2_set_560 : decode cX2_set 560 = .ok (.areturn, 1) := dk_176 (dk_at dksX2_set_23 20 rfl rfl)
def dkwX2_surveys_6 : List UInt8 := [182, 1, 120, 167, 255, 114, 177]
abbrev dktX2_surveys_6 : List UInt8 := dkwX2_surveys_6 ++ []
def dkwX2_surveys_5 : List UInt8 := [100, 61, 42, 180, 0, 33, 29, 46, 158, 0, 6, 167, 0, 19, 42, 29, 42, 180, 0, 57, 182, 0, 116, 43]
abbrev dktX2_surveys_5 : List UInt8 := dkwX2_surveys_5 ++ dktX2_surveys_6
def dkwX2_surveys_4 : List UInt8 := [180, 0, 33, 29, 46, 184, 0, 227, 54, 4, 42, 180, 0, 33, 29, 92, 46, 21, 4, 100, 79, 28, 21, 4]
abbrev dktX2_surveys_4 : List UInt8 := dkwX2_surveys_4 ++ dktX2_surveys_5
def dkwX2_surveys_3 : List UInt8 := [43, 43, 180, 1, 123, 29, 21, 4, 184, 1, 128, 181, 1, 123, 28, 21, 4, 100, 61, 167, 255, 208, 28, 42]
abbrev dktX2_surveys_3 : List UInt8 := dkwX2_surveys_3 ++ dktX2_surveys_4
def dkwX2_surveys_2 : List UInt8 := [159, 0, 46, 28, 154, 0, 6, 167, 0, 95, 28, 43, 180, 1, 123, 29, 184, 1, 125, 184, 0, 227, 54, 4]
abbrev dktX2_surveys_2 : List UInt8 := dkwX2_surveys_2 ++ dktX2_surveys_3
def dkwX2_surveys_1 : List UInt8 := [182, 0, 141, 192, 0, 109, 182, 1, 117, 154, 0, 10, 43, 182, 1, 120, 167, 255, 221, 43, 180, 1, 123, 29]
abbrev dktX2_surveys_1 : List UInt8 := dkwX2_surveys_1 ++ dktX2_surveys_2
def dkwX2_surveys_0 : List UInt8 := [43, 180, 0, 167, 61, 43, 180, 1, 111, 158, 0, 141, 43, 180, 1, 114, 3, 46, 62, 42, 180, 0, 29, 29]
abbrev dktX2_surveys_0 : List UInt8 := dkwX2_surveys_0 ++ dktX2_surveys_1
theorem dksX2_surveys_0 : cX2_surveys.data.toList.drop 0 = dktX2_surveys_0 := by decide +kernel
theorem dksX2_surveys_1 : cX2_surveys.data.toList.drop 24 = dktX2_surveys_1 := dk_seg dksX2_surveys_0 24 rfl rfl
theorem dksX2_surveys_2 : cX2_surveys.data.toList.drop 48 = dktX2_surveys_2 := dk_seg dksX2_surveys_1 24 rfl rfl
theorem dksX2_surveys_3 : cX2_surveys.data.toList.drop 72 = dktX2_surveys_3 := dk_seg dksX2_surveys_2 24 rfl rfl
theorem dksX2_surveys_4 : cX2_surveys.data.toList.drop 96 = dktX2_surveys_4 := dk_seg dksX2_surveys_3 24 rfl rfl
theorem dksX2_surveys_5 : cX2_surveys.data.toList.drop 120 = dktX2_surveys_5 := dk_seg dksX2_surveys_4 24 rfl rfl
theorem dksX2_surveys_6 : cX2_surveys.data.toList.drop 144 = dktX2_surveys_6 := dk_seg dksX2_surveys_5 24 rfl rfl
theorem dX2_surveys_0 : decode cX2_surveys 0 = .ok (.aload_n 1, 1) := dk_43 (dk_at dksX2_surveys_0 0 rfl rfl)
theorem dX2_surveys_1 : decode cX2_surveys 1 = .ok (.getfield 167, 3) := dk_180 0 167 (dk_at dksX2_surveys_0 1 rfl rfl)
theorem dX2_surveys_4 : decode cX2_surveys 4 = .ok (.istore_n 2, 1) := dk_61 (dk_at dksX2_surveys_0 4 rfl rfl)
theorem dX2_surveys_5 : decode cX2_surveys 5 = .ok (.aload_n 1, 1) := dk_43 (dk_at dksX2_surveys_0 5 rfl rfl)
theorem dX2_surveys_6 : decode cX2_surveys 6 = .ok (.getfield 367, 3) := dk_180 1 111 (dk_at dksX2_surveys_0 6 rfl rfl)
theorem dX2_surveys_9 : decode cX2_surveys 9 = .ok (.ifCond .le 141, 3) := dk_158 0 141 (dk_at dksX2_surveys_0 9 rfl rfl)
theorem dX2_surveys_12 : decode cX2_surveys 12 = .ok (.aload_n 1, 1) := dk_43 (dk_at dksX2_surveys_0 12 rfl rfl)
theorem dX2_surveys_13 : decode cX2_surveys 13 = .ok (.getfield 370, 3) := dk_180 1 114 (dk_at dksX2_surveys_0 13 rfl rfl)
theorem dX2_surveys_16 : decode cX2_surveys 16 = .ok (.iconst 0, 1) := dk_3 (dk_at dksX2_surveys_0 16 rfl rfl)
theorem dX2_surveys_17 : decode cX2_surveys 17 = .ok (.iaload, 1) := dk_46 (dk_at dksX2_surveys_0 17 rfl rfl)
theorem dX2_surveys_18 : decode cX2_surveys 18 = .ok (.istore_n 3, 1) := dk_62 (dk_at dksX2_surveys_0 18 rfl rfl)
theorem dX2_surveys_19 : decode cX2_surveys 19 = .ok (.aload_n 0, 1) := dk_42 (dk_at dksX2_surveys_0 19 rfl rfl)
theorem dX2_surveys_20 : decode cX2_surveys 20 = .ok (.getfield 29, 3) := dk_180 0 29 (dk_at dksX2_surveys_0 20 rfl rfl)
theorem dX2_surveys_23 : decode cX2_surveys 23 = .ok (.iload_n 3, 1) := dk_29 (dk_at dksX2_surveys_0 23 rfl rfl)
theorem dX2_surveys_24 : decode cX2_surveys 24 = .ok (.invokevirtual 141, 3) := dk_182 0 141 (dk_at dksX2_surveys_1 0 rfl rfl)
theorem dX2_surveys_27 : decode cX2_surveys 27 = .ok (.checkcast 109, 3) := dk_192 0 109 (dk_at dksX2_surveys_1 3 rfl rfl)
theorem dX2_surveys_30 : decode cX2_surveys 30 = .ok (.invokevirtual 373, 3) := dk_182 1 117 (dk_at dksX2_surveys_1 6 rfl rfl)
theorem dX2_surveys_33 : decode cX2_surveys 33 = .ok (.ifCond .ne 10, 3) := dk_154 0 10 (dk_at dksX2_surveys_1 9 rfl rfl)
theorem dX2_surveys_36 : decode cX2_surveys 36 = .ok (.aload_n 1, 1) := dk_43 (dk_at dksX2_surveys_1 12 rfl rfl)
theorem dX2_surveys_37 : decode cX2_surveys 37 = .ok (.invokevirtual 376, 3) := dk_182 1 120 (dk_at dksX2_surveys_1 13 rfl rfl)
theorem dX2_surveys_40 : decode cX2_surveys 40 = .ok (.goto (-35), 3) := dk_167 255 221 (dk_at dksX2_surveys_1 16 rfl rfl)
theorem dX2_surveys_43 : decode cX2_surveys 43 = .ok (.aload_n 1, 1) := dk_43 (dk_at dksX2_surveys_1 19 rfl rfl)
theorem dX2_surveys_44 : decode cX2_surveys 44 = .ok (.getfield 379, 3) := dk_180 1 123 (dk_at dksX2_surveys_1 20 rfl rfl)
theorem dX2_surveys_47 : decode cX2_surveys 47 = .ok (.iload_n 3, 1) := dk_29 (dk_at dksX2_surveys_1 23 rfl rfl)
theorem dX2_surveys_48 : decode cX2_surveys 48 = .ok (.if_icmp .eq 46, 3) := dk_159 0 46 (dk_at dksX2_surveys_2 0 rfl rfl)
theorem dX2_surveys_51 : decode cX2_surveys 51 = .ok (.iload_n 2, 1) := dk_28 (dk_at dksX2_surveys_2 3 rfl rfl)
theorem dX2_surveys_52 : decode cX2_surveys 52 = .ok (.ifCond .ne 6, 3) := dk_154 0 6 (dk_at dksX2_surveys_2 4 rfl rfl)
theorem dX2_surveys_55 : decode cX2_surveys 55 = .ok (.goto 95, 3) := dk_167 0 95 (dk_at dksX2_surveys_2 7 rfl rfl)
theorem dX2_surveys_58 : decode cX2_surveys 58 = .ok (.iload_n 2, 1) := dk_28 (dk_at dksX2_surveys_2 10 rfl rfl)
theorem dX2_surveys_59 : decode cX2_surveys 59 = .ok (.aload_n 1, 1) := dk_43 (dk_at dksX2_surveys_2 11 rfl rfl)
theorem dX2_surveys_60 : decode cX2_surveys 60 = .ok (.getfield 379, 3) := dk_180 1 123 (dk_at dksX2_surveys_2 12 rfl rfl)
theorem dX2_surveys_63 : decode cX2_surveys 63 = .ok (.iload_n 3, 1) := dk_29 (dk_at dksX2_surveys_2 15 rfl rfl)
theorem dX2_surveys_64 : decode cX2_surveys 64 = .ok (.invokestatic 381, 3) := dk_184 1 125 (dk_at dksX2_surveys_2 16 rfl rfl)
theorem dX2_surveys_67 : decode cX2_surveys 67 = .ok (.invokestatic 227, 3) := dk_184 0 227 (dk_at dksX2_surveys_2 19 rfl rfl)
theorem dX2_surveys_70 : decode cX2_surveys 70 = .ok (.istore 4, 2) := dk_54 4 (dk_at dksX2_surveys_2 22 rfl rfl)
theorem dX2_surveys_72 : decode cX2_surveys 72 = .ok (.aload_n 1, 1) := dk_43 (dk_at dksX2_surveys_3 0 rfl rfl)
theorem dX2_surveys_73 : decode cX2_surveys 73 = .ok (.aload_n 1, 1) := dk_43 (dk_at dksX2_surveys_3 1 rfl rfl)
theorem dX2_surveys_74 : decode cX2_surveys 74 = .ok (.getfield 379, 3) := dk_180 1 123 (dk_at dksX2_surveys_3 2 rfl rfl)
theorem dX2_surveys_77 : decode cX2_surveys 77 = .ok (.iload_n 3, 1) := dk_29 (dk_at dksX2_surveys_3 5 rfl rfl)
theorem dX2_surveys_78 : decode cX2_surveys 78 = .ok (.iload 4, 2) := dk_21 4 (dk_at dksX2_surveys_3 6 rfl rfl)
theorem dX2_surveys_80 : decode cX2_surveys 80 = .ok (.invokestatic 384, 3) := dk_184 1 128 (dk_at dksX2_surveys_3 8 rfl rfl)
theorem dX2_surveys_83 : decode cX2_surveys 83 = .ok (.putfield 379, 3) := dk_181 1 123 (dk_at dksX2_surveys_3 11 rfl rfl)
theorem dX2_surveys_86 : decode cX2_surveys 86 = .ok (.iload_n 2, 1) := dk_28 (dk_at dksX2_surveys_3 14 rfl rfl)
theorem dX2_surveys_87 : decode cX2_surveys 87 = .ok (.iload 4, 2) := dk_21 4 (dk_at dksX2_surveys_3 15 rfl rfl)
theorem dX2_surveys_89 : decode cX2_surveys 89 = .ok (.isub, 1) := dk_100 (dk_at dksX2_surveys_3 17 rfl rfl)
theorem dX2_surveys_90 : decode cX2_surveys 90 = .ok (.istore_n 2, 1) := dk_61 (dk_at dksX2_surveys_3 18 rfl rfl)
theorem dX2_surveys_91 : decode cX2_surveys 91 = .ok (.goto (-48), 3) := dk_167 255 208 (dk_at dksX2_surveys_3 19 rfl rfl)
theorem dX2_surveys_94 : decode cX2_surveys 94 = .ok (.iload_n 2, 1) := dk_28 (dk_at dksX2_surveys_3 22 rfl rfl)
theorem dX2_surveys_95 : decode cX2_surveys 95 = .ok (.aload_n 0, 1) := dk_42 (dk_at dksX2_surveys_3 23 rfl rfl)
theorem dX2_surveys_96 : decode cX2_surveys 96 = .ok (.getfield 33, 3) := dk_180 0 33 (dk_at dksX2_surveys_4 0 rfl rfl)
theorem dX2_surveys_99 : decode cX2_surveys 99 = .ok (.iload_n 3, 1) := dk_29 (dk_at dksX2_surveys_4 3 rfl rfl)
theorem dX2_surveys_100 : decode cX2_surveys 100 = .ok (.iaload, 1) := dk_46 (dk_at dksX2_surveys_4 4 rfl rfl)
theorem dX2_surveys_101 : decode cX2_surveys 101 = .ok (.invokestatic 227, 3) := dk_184 0 227 (dk_at dksX2_surveys_4 5 rfl rfl)
theorem dX2_surveys_104 : decode cX2_surveys 104 = .ok (.istore 4, 2) := dk_54 4 (dk_at dksX2_surveys_4 8 rfl rfl)
theorem dX2_surveys_106 : decode cX2_surveys 106 = .ok (.aload_n 0, 1) := dk_42 (dk_at dksX2_surveys_4 10 rfl rfl)
theorem dX2_surveys_107 : decode cX2_surveys 107 = .ok (.getfield 33, 3) := dk_180 0 33 (dk_at dksX2_surveys_4 11 rfl rfl)
theorem dX2_surveys_110 : decode cX2_surveys 110 = .ok (.iload_n 3, 1) := dk_29 (dk_at dksX2_surveys_4 14 rfl rfl)
theorem dX2_surveys_111 : decode cX2_surveys 111 = .ok (.dup2, 1) := dk_92 (dk_at dksX2_surveys_4 15 rfl rfl)
theorem dX2_surveys_112 : decode cX2_surveys 112 = .ok (.iaload, 1) := dk_46 (dk_at dksX2_surveys_4 16 rfl rfl)
theorem dX2_surveys_113 : decode cX2_surveys 113 = .ok (.iload 4, 2) := dk_21 4 (dk_at dksX2_surveys_4 17 rfl rfl)
theorem dX2_surveys_115 : decode cX2_surveys 115 = .ok (.isub, 1) := dk_100 (dk_at dksX2_surveys_4 19 rfl rfl)
theorem dX2_surveys_116 : decode cX2_surveys 116 = .ok (.iastore, 1) := dk_79 (dk_at dksX2_surveys_4 20 rfl rfl)
theorem dX2_surveys_117 : decode cX2_surveys 117 = .ok (.iload_n 2, 1) := dk_28 (dk_at dksX2_surveys_4 21 rfl rfl)
theorem dX2_surveys_118 : decode cX2_surveys 118 = .ok (.iload 4, 2) := dk_21 4 (dk_at dksX2_surveys_4 22 rfl rfl)
theorem dX2_surveys_120 : decode cX2_surveys 120 = .ok (.isub, 1) := dk_100 (dk_at dksX2_surveys_5 0 rfl rfl)
theorem dX2_surveys_121 : decode cX2_surveys 121 = .ok (.istore_n 2, 1) := dk_61 (dk_at dksX2_surveys_5 1 rfl rfl)
theorem dX2_surveys_122 : decode cX2_surveys 122 = .ok (.aload_n 0, 1) := dk_42 (dk_at dksX2_surveys_5 2 rfl rfl)
theorem dX2_surveys_123 : decode cX2_surveys 123 = .ok (.getfield 33, 3) := dk_180 0 33 (dk_at dksX2_surveys_5 3 rfl rfl)
theorem dX2_surveys_126 : decode cX2_surveys 126 = .ok (.iload_n 3, 1) := dk_29 (dk_at dksX2_surveys_5 6 rfl rfl)
theorem dX2_surveys_127 : decode cX2_surveys 127 = .ok (.iaload, 1) := dk_46 (dk_at dksX2_surveys_5 7 rfl rfl)
theorem dX2_surveys_128 : decode cX2_surveys 128 = .ok (.ifCond .le 6, 3) := dk_158 0 6 (dk_at dksX2_surveys_5 8 rfl rfl)
theorem dX2_surveys_131 : decode cX2_surveys 131 = .ok (.goto 19, 3) := dk_167 0 19 (dk_at dksX2_surveys_5 11 rfl rfl)
theorem dX2_surveys_134 : decode cX2_surveys 134 = .ok (.aload_n 0, 1) := dk_42 (dk_at dksX2_surveys_5 14 rfl rfl)
theorem dX2_surveys_135 : decode cX2_surveys 135 = .ok (.iload_n 3, 1) := dk_29 (dk_at dksX2_surveys_5 15 rfl rfl)
theorem dX2_surveys_136 : decode cX2_surveys 136 = .ok (.aload_n 0, 1) := dk_42 (dk_at dksX2_surveys_5 16 rfl rfl)
theorem dX2_surveys_137 : decode cX2_surveys 137 = .ok (.getfield 57, 3) := dk_180 0 57 (dk_at dksX2_surveys_5 17 rfl rfl)
theorem dX2_surveys_140 : decode cX2_surveys 140 = .ok (.invokevirtual 116, 3) := dk_182 0 116 (dk_at dksX2_surveys_5 20 rfl rfl)
theorem dX2_surveys_143 : decode cX2_surveys 143 = .ok (.aload_n 1, 1) := dk_43 (dk_at dksX2_surveys_5 23 rfl rfl)
theorem dX2_surveys_144 : decode cX2_surveys 144 = .ok (.invokevirtual 376, 3) := dk_182 1 120 (dk_at dksX2_surveys_6 0 rfl rfl)
theorem dX2_surveys_147 : decode cX2_surveys 147 = .ok (.goto (-142), 3) := dk_167 255 114 (dk_at dksX2_surveys_6 3 rfl rfl)
theorem dX2_surveys_150 : decode cX2_surveys 150 = .ok (.return_, 1) := dk_177 (dk_at dksX2_surveys_6 6 rfl rfl)
def dkwX2_distance_1 : List UInt8 := [96, 172]
abbrev dktX2_distance_1 : List UInt8 := dkwX2_distance_1 ++ []
def dkwX2_distance_0 : List UInt8 := [26, 16, 12, 112, 27, 16, 12, 112, 100, 184, 1, 108, 26, 16, 12, 108, 27, 16, 12, 108, 100, 184, 1, 108]
abbrev dktX2_distance_0 : List UInt8 := dkwX2_distance_0 ++ dktX2_distance_1
theorem dksX2_distance_0 : cX2_distance.data.toList.drop 0 = dktX2_distance_0 := by decide +kernel
theorem dksX2_distance_1 : cX2_distance.data.toList.drop 24 = dktX2_distance_1 := dk_seg dksX2_distance_0 24 rfl rfl
theorem dX2_distance_0 : decode cX2_distance 0 = .ok (.iload_n 0, 1) := dk_26 (dk_at dksX2_distance_0 0 rfl rfl)
theorem dX2_distance_1 : decode cX2_distance 1 = .ok (.bipush 12, 2) := dk_16 12 (dk_at dksX2_distance_0 1 rfl rfl)
theorem dX2_distance_3 : decode cX2_distance 3 = .ok (.irem, 1) := dk_112 (dk_at dksX2_distance_0 3 rfl rfl)
theorem dX2_distance_4 : decode cX2_distance 4 = .ok (.iload_n 1, 1) := dk_27 (dk_at dksX2_distance_0 4 rfl rfl)
theorem dX2_distance_5 : decode cX2_distance 5 = .ok (.bipush 12, 2) := dk_16 12 (dk_at dksX2_distance_0 5 rfl rfl)
theorem dX2_distance_7 : decode cX2_distance 7 = .ok (.irem, 1) := dk_112 (dk_at dksX2_distance_0 7 rfl rfl)
theorem dX2_distance_8 : decode cX2_distance 8 = .ok (.isub, 1) := dk_100 (dk_at dksX2_distance_0 8 rfl rfl)
theorem dX2_distance_9 : decode cX2_distance 9 = .ok (.invokestatic 364, 3) := dk_184 1 108 (dk_at dksX2_distance_0 9 rfl rfl)
theorem dX2_distance_12 : decode cX2_distance 12 = .ok (.iload_n 0, 1) := dk_26 (dk_at dksX2_distance_0 12 rfl rfl)
theorem dX2_distance_13 : decode cX2_distance 13 = .ok (.bipush 12, 2) := dk_16 12 (dk_at dksX2_distance_0 13 rfl rfl)
theorem dX2_distance_15 : decode cX2_distance 15 = .ok (.idiv, 1) := dk_108 (dk_at dksX2_distance_0 15 rfl rfl)
theorem dX2_distance_16 : decode cX2_distance 16 = .ok (.iload_n 1, 1) := dk_27 (dk_at dksX2_distance_0 16 rfl rfl)
theorem dX2_distance_17 : decode cX2_distance 17 = .ok (.bipush 12, 2) := dk_16 12 (dk_at dksX2_distance_0 17 rfl rfl)
theorem dX2_distance_19 : decode cX2_distance 19 = .ok (.idiv, 1) := dk_108 (dk_at dksX2_distance_0 19 rfl rfl)
theorem dX2_distance_20 : decode cX2_distance 20 = .ok (.isub, 1) := dk_100 (dk_at dksX2_distance_0 20 rfl rfl)
theorem dX2_distance_21 : decode cX2_distance 21 = .ok (.invokestatic 364, 3) := dk_184 1 108 (dk_at dksX2_distance_0 21 rfl rfl)
theorem dX2_distance_24 : decode cX2_distance 24 = .ok (.iadd, 1) := dk_96 (dk_at dksX2_distance_1 0 rfl rfl)
theorem dX2_distance_25 : decode cX2_distance 25 = .ok (.ireturn, 1) := dk_172 (dk_at dksX2_distance_1 1 rfl rfl)
def dkwX2_nearer_3 : List UInt8 := [21, 4, 104, 29, 96, 172]
abbrev dktX2_nearer_3 : List UInt8 := dkwX2_nearer_3 ++ []
def dkwX2_nearer_2 : List UInt8 := [16, 12, 108, 21, 4, 164, 0, 10, 28, 21, 5, 100, 167, 0, 7, 21, 5, 28, 100, 96, 54, 4, 16, 12]
abbrev dktX2_nearer_2 : List UInt8 := dkwX2_nearer_2 ++ dktX2_nearer_3
def dkwX2_nearer_1 : List UInt8 := [54, 5, 29, 27, 16, 12, 112, 29, 164, 0, 8, 21, 5, 167, 0, 6, 21, 5, 116, 96, 62, 21, 4, 27]
abbrev dktX2_nearer_1 : List UInt8 := dkwX2_nearer_1 ++ dktX2_nearer_2
def dkwX2_nearer_0 : List UInt8 := [26, 16, 12, 112, 62, 26, 16, 12, 108, 54, 4, 28, 27, 16, 12, 112, 29, 100, 184, 1, 108, 184, 0, 227]
abbrev dktX2_nearer_0 : List UInt8 := dkwX2_nearer_0 ++ dktX2_nearer_1
theorem dksX2_nearer_0 : cX2_nearer.data.toList.drop 0 = dktX2_nearer_0 := by decide +kernel
theorem dksX2_nearer_1 : cX2_nearer.data.toList.drop 24 = dktX2_nearer_1 := dk_seg dksX2_nearer_0 24 rfl rfl
theorem dksX2_nearer_2 : cX2_nearer.data.toList.drop 48 = dktX2_nearer_2 := dk_seg dksX2_nearer_1 24 rfl rfl
theorem dksX2_nearer_3 : cX2_nearer.data.toList.drop 72 = dktX2_nearer_3 := dk_seg dksX2_nearer_2 24 rfl rfl
theorem dX2_nearer_0 : decode cX2_nearer 0 = .ok (.iload_n 0, 1) := dk_26 (dk_at dksX2_nearer_0 0 rfl rfl)
theorem dX2_nearer_1 : decode cX2_nearer 1 = .ok (.bipush 12, 2) := dk_16 12 (dk_at dksX2_nearer_0 1 rfl rfl)
theorem dX2_nearer_3 : decode cX2_nearer 3 = .ok (.irem, 1) := dk_112 (dk_at dksX2_nearer_0 3 rfl rfl)
theorem dX2_nearer_4 : decode cX2_nearer 4 = .ok (.istore_n 3, 1) := dk_62 (dk_at dksX2_nearer_0 4 rfl rfl)
theorem dX2_nearer_5 : decode cX2_nearer 5 = .ok (.iload_n 0, 1) := dk_26 (dk_at dksX2_nearer_0 5 rfl rfl)
theorem dX2_nearer_6 : decode cX2_nearer 6 = .ok (.bipush 12, 2) := dk_16 12 (dk_at dksX2_nearer_0 6 rfl rfl)
theorem dX2_nearer_8 : decode cX2_nearer 8 = .ok (.idiv, 1) := dk_108 (dk_at dksX2_nearer_0 8 rfl rfl)
theorem dX2_nearer_9 : decode cX2_nearer 9 = .ok (.istore 4, 2) := dk_54 4 (dk_at dksX2_nearer_0 9 rfl rfl)
theorem dX2_nearer_11 : decode cX2_nearer 11 = .ok (.iload_n 2, 1) := dk_28 (dk_at dksX2_nearer_0 11 rfl rfl)
theorem dX2_nearer_12 : decode cX2_nearer 12 = .ok (.iload_n 1, 1) := dk_27 (dk_at dksX2_nearer_0 12 rfl rfl)
theorem dX2_nearer_13 : decode cX2_nearer 13 = .ok (.bipush 12, 2) := dk_16 12 (dk_at dksX2_nearer_0 13 rfl rfl)
theorem dX2_nearer_15 : decode cX2_nearer 15 = .ok (.irem, 1) := dk_112 (dk_at dksX2_nearer_0 15 rfl rfl)
theorem dX2_nearer_16 : decode cX2_nearer 16 = .ok (.iload_n 3, 1) := dk_29 (dk_at dksX2_nearer_0 16 rfl rfl)
theorem dX2_nearer_17 : decode cX2_nearer 17 = .ok (.isub, 1) := dk_100 (dk_at dksX2_nearer_0 17 rfl rfl)
theorem dX2_nearer_18 : decode cX2_nearer 18 = .ok (.invokestatic 364, 3) := dk_184 1 108 (dk_at dksX2_nearer_0 18 rfl rfl)
theorem dX2_nearer_21 : decode cX2_nearer 21 = .ok (.invokestatic 227, 3) := dk_184 0 227 (dk_at dksX2_nearer_0 21 rfl rfl)
theorem dX2_nearer_24 : decode cX2_nearer 24 = .ok (.istore 5, 2) := dk_54 5 (dk_at dksX2_nearer_1 0 rfl rfl)
theorem dX2_nearer_26 : decode cX2_nearer 26 = .ok (.iload_n 3, 1) := dk_29 (dk_at dksX2_nearer_1 2 rfl rfl)
theorem dX2_nearer_27 : decode cX2_nearer 27 = .ok (.iload_n 1, 1) := dk_27 (dk_at dksX2_nearer_1 3 rfl rfl)
theorem dX2_nearer_28 : decode cX2_nearer 28 = .ok (.bipush 12, 2) := dk_16 12 (dk_at dksX2_nearer_1 4 rfl rfl)
theorem dX2_nearer_30 : decode cX2_nearer 30 = .ok (.irem, 1) := dk_112 (dk_at dksX2_nearer_1 6 rfl rfl)
theorem dX2_nearer_31 : decode cX2_nearer 31 = .ok (.iload_n 3, 1) := dk_29 (dk_at dksX2_nearer_1 7 rfl rfl)
theorem dX2_nearer_32 : decode cX2_nearer 32 = .ok (.if_icmp .le 8, 3) := dk_164 0 8 (dk_at dksX2_nearer_1 8 rfl rfl)
theorem dX2_nearer_35 : decode cX2_nearer 35 = .ok (.iload 5, 2) := dk_21 5 (dk_at dksX2_nearer_1 11 rfl rfl)
theorem dX2_nearer_37 : decode cX2_nearer 37 = .ok (.goto 6, 3) := dk_167 0 6 (dk_at dksX2_nearer_1 13 rfl rfl)
theorem dX2_nearer_40 : decode cX2_nearer 40 = .ok (.iload 5, 2) := dk_21 5 (dk_at dksX2_nearer_1 16 rfl rfl)
theorem dX2_nearer_42 : decode cX2_nearer 42 = .ok (.ineg, 1) := dk_116 (dk_at dksX2_nearer_1 18 rfl rfl)
theorem dX2_nearer_43 : decode cX2_nearer 43 = .ok (.iadd, 1) := dk_96 (dk_at dksX2_nearer_1 19 rfl rfl)
theorem dX2_nearer_44 : decode cX2_nearer 44 = .ok (.istore_n 3, 1) := dk_62 (dk_at dksX2_nearer_1 20 rfl rfl)
theorem dX2_nearer_45 : decode cX2_nearer 45 = .ok (.iload 4, 2) := dk_21 4 (dk_at dksX2_nearer_1 21 rfl rfl)
theorem dX2_nearer_47 : decode cX2_nearer 47 = .ok (.iload_n 1, 1) := dk_27 (dk_at dksX2_nearer_1 23 rfl rfl)
theorem dX2_nearer_48 : decode cX2_nearer 48 = .ok (.bipush 12, 2) := dk_16 12 (dk_at dksX2_nearer_2 0 rfl rfl)
theorem dX2_nearer_50 : decode cX2_nearer 50 = .ok (.idiv, 1) := dk_108 (dk_at dksX2_nearer_2 2 rfl rfl)
theorem dX2_nearer_51 : decode cX2_nearer 51 = .ok (.iload 4, 2) := dk_21 4 (dk_at dksX2_nearer_2 3 rfl rfl)
theorem dX2_nearer_53 : decode cX2_nearer 53 = .ok (.if_icmp .le 10, 3) := dk_164 0 10 (dk_at dksX2_nearer_2 5 rfl rfl)
theorem dX2_nearer_56 : decode cX2_nearer 56 = .ok (.iload_n 2, 1) := dk_28 (dk_at dksX2_nearer_2 8 rfl rfl)
theorem dX2_nearer_57 : decode cX2_nearer 57 = .ok (.iload 5, 2) := dk_21 5 (dk_at dksX2_nearer_2 9 rfl rfl)
theorem dX2_nearer_59 : decode cX2_nearer 59 = .ok (.isub, 1) := dk_100 (dk_at dksX2_nearer_2 11 rfl rfl)
theorem dX2_nearer_60 : decode cX2_nearer 60 = .ok (.goto 7, 3) := dk_167 0 7 (dk_at dksX2_nearer_2 12 rfl rfl)
theorem dX2_nearer_63 : decode cX2_nearer 63 = .ok (.iload 5, 2) := dk_21 5 (dk_at dksX2_nearer_2 15 rfl rfl)
theorem dX2_nearer_65 : decode cX2_nearer 65 = .ok (.iload_n 2, 1) := dk_28 (dk_at dksX2_nearer_2 17 rfl rfl)
theorem dX2_nearer_66 : decode cX2_nearer 66 = .ok (.isub, 1) := dk_100 (dk_at dksX2_nearer_2 18 rfl rfl)
theorem dX2_nearer_67 : decode cX2_nearer 67 = .ok (.iadd, 1) := dk_96 (dk_at dksX2_nearer_2 19 rfl rfl)
theorem dX2_nearer_68 : decode cX2_nearer 68 = .ok (.istore 4, 2) := dk_54 4 (dk_at dksX2_nearer_2 20 rfl rfl)
theorem dX2_nearer_70 : decode cX2_nearer 70 = .ok (.bipush 12, 2) := dk_16 12 (dk_at dksX2_nearer_2 22 rfl rfl)
theorem dX2_nearer_72 : decode cX2_nearer 72 = .ok (.iload 4, 2) := dk_21 4 (dk_at dksX2_nearer_3 0 rfl rfl)
theorem dX2_nearer_74 : decode cX2_nearer 74 = .ok (.imul, 1) := dk_104 (dk_at dksX2_nearer_3 2 rfl rfl)
theorem dX2_nearer_75 : decode cX2_nearer 75 = .ok (.iload_n 3, 1) := dk_29 (dk_at dksX2_nearer_3 3 rfl rfl)
theorem dX2_nearer_76 : decode cX2_nearer 76 = .ok (.iadd, 1) := dk_96 (dk_at dksX2_nearer_3 4 rfl rfl)
theorem dX2_nearer_77 : decode cX2_nearer 77 = .ok (.ireturn, 1) := dk_172 (dk_at dksX2_nearer_3 5 rfl rfl)
def dkwX2_sells_4 : List UInt8 := [180, 1, 27, 29, 21, 4, 183, 1, 38, 182, 1, 39, 29, 172]
abbrev dktX2_sells_4 : List UInt8 := dkwX2_sells_4 ++ []
def dkwX2_sells_3 : List UInt8 := [181, 0, 123, 42, 89, 180, 0, 15, 29, 21, 5, 100, 96, 181, 0, 15, 42, 43, 28, 187, 1, 36, 89, 43]
abbrev dktX2_sells_3 : List UInt8 := dkwX2_sells_3 ++ dktX2_sells_4
def dkwX2_sells_2 : List UInt8 := [104, 16, 100, 108, 54, 5, 43, 89, 180, 1, 33, 29, 100, 181, 1, 33, 42, 89, 180, 0, 123, 21, 5, 96]
abbrev dktX2_sells_2 : List UInt8 := dkwX2_sells_2 ++ dktX2_sells_3
def dkwX2_sells_1 : List UInt8 := [180, 0, 132, 158, 0, 7, 2, 167, 0, 8, 42, 3, 182, 0, 245, 54, 4, 29, 42, 4, 3, 182, 1, 30]
abbrev dktX2_sells_1 : List UInt8 := dkwX2_sells_1 ++ dktX2_sells_2
def dkwX2_sells_0 : List UInt8 := [42, 3, 42, 180, 0, 92, 28, 51, 182, 1, 30, 62, 43, 180, 1, 33, 29, 162, 0, 6, 16, 253, 172, 42]
abbrev dktX2_sells_0 : List UInt8 := dkwX2_sells_0 ++ dktX2_sells_1
theorem dksX2_sells_0 : cX2_sells.data.toList.drop 0 = dktX2_sells_0 := by decide +kernel
theorem dksX2_sells_1 : cX2_sells.data.toList.drop 24 = dktX2_sells_1 := dk_seg dksX2_sells_0 24 rfl rfl
theorem dksX2_sells_2 : cX2_sells.data.toList.drop 48 = dktX2_sells_2 := dk_seg dksX2_sells_1 24 rfl rfl
theorem dksX2_sells_3 : cX2_sells.data.toList.drop 72 = dktX2_sells_3 := dk_seg dksX2_sells_2 24 rfl rfl
theorem dksX2_sells_4 : cX2_sells.data.toList.drop 96 = dktX2_sells_4 := dk_seg dksX2_sells_3 24 rfl rfl
theorem dX2_sells_0 : decode cX2_sells 0 = .ok (.aload_n 0, 1) := dk_42 (dk_at dksX2_sells_0 0 rfl rfl)
theorem dX2_sells_1 : decode cX2_sells 1 = .ok (.iconst 0, 1) := dk_3 (dk_at dksX2_sells_0 1 rfl rfl)
theorem dX2_sells_2 : decode cX2_sells 2 = .ok (.aload_n 0, 1) := dk_42 (dk_at dksX2_sells_0 2 rfl rfl)
theorem dX2_sells_3 : decode cX2_sells 3 = .ok (.getfield 92, 3) := dk_180 0 92 (dk_at dksX2_sells_0 3 rfl rfl)
theorem dX2_sells_6 : decode cX2_sells 6 = .ok (.iload_n 2, 1) := dk_28 (dk_at dksX2_sells_0 6 rfl rfl)
theorem dX2_sells_7 : decode cX2_sells 7 = .ok (.baload, 1) := dk_51 (dk_at dksX2_sells_0 7 rfl rfl)
theorem dX2_sells_8 : decode cX2_sells 8 = .ok (.invokevirtual 286, 3) := dk_182 1 30 (dk_at dksX2_sells_0 8 rfl rfl)
theorem dX2_sells_11 : decode cX2_sells 11 = .ok (.istore_n 3, 1) := dk_62 (dk_at dksX2_sells_0 11 rfl rfl)
theorem dX2_sells_12 : decode cX2_sells 12 = .ok (.aload_n 1, 1) := dk_43 (dk_at dksX2_sells_0 12 rfl rfl)
theorem dX2_sells_13 : decode cX2_sells 13 = .ok (.getfield 289, 3) := dk_180 1 33 (dk_at dksX2_sells_0 13 rfl rfl)
theorem dX2_sells_16 : decode cX2_sells 16 = .ok (.iload_n 3, 1) := dk_29 (dk_at dksX2_sells_0 16 rfl rfl)
theorem dX2_sells_17 : decode cX2_sells 17 = .ok (.if_icmp .ge 6, 3) := dk_162 0 6 (dk_at dksX2_sells_0 17 rfl rfl)
theorem dX2_sells_20 : decode cX2_sells 20 = .ok (.bipush (-3), 2) := dk_16 253 (dk_at dksX2_sells_0 20 rfl rfl)
theorem dX2_sells_22 : decode cX2_sells 22 = .ok (.ireturn, 1) := dk_172 (dk_at dksX2_sells_0 22 rfl rfl)
theorem dX2_sells_23 : decode cX2_sells 23 = .ok (.aload_n 0, 1) := dk_42 (dk_at dksX2_sells_0 23 rfl rfl)
theorem dX2_sells_24 : decode cX2_sells 24 = .ok (.getfield 132, 3) := dk_180 0 132 (dk_at dksX2_sells_1 0 rfl rfl)
theorem dX2_sells_27 : decode cX2_sells 27 = .ok (.ifCond .le 7, 3) := dk_158 0 7 (dk_at dksX2_sells_1 3 rfl rfl)
theorem dX2_sells_30 : decode cX2_sells 30 = .ok (.iconst (-1), 1) := dk_2 (dk_at dksX2_sells_1 6 rfl rfl)
theorem dX2_sells_31 : decode cX2_sells 31 = .ok (.goto 8, 3) := dk_167 0 8 (dk_at dksX2_sells_1 7 rfl rfl)
theorem dX2_sells_34 : decode cX2_sells 34 = .ok (.aload_n 0, 1) := dk_42 (dk_at dksX2_sells_1 10 rfl rfl)
theorem dX2_sells_35 : decode cX2_sells 35 = .ok (.iconst 0, 1) := dk_3 (dk_at dksX2_sells_1 11 rfl rfl)
theorem dX2_sells_36 : decode cX2_sells 36 = .ok (.invokevirtual 245, 3) := dk_182 0 245 (dk_at dksX2_sells_1 12 rfl rfl)
theorem dX2_sells_39 : decode cX2_sells 39 = .ok (.istore 4, 2) := dk_54 4 (dk_at dksX2_sells_1 15 rfl rfl)
theorem dX2_sells_41 : decode cX2_sells 41 = .ok (.iload_n 3, 1) := dk_29 (dk_at dksX2_sells_1 17 rfl rfl)
theorem dX2_sells_42 : decode cX2_sells 42 = .ok (.aload_n 0, 1) := dk_42 (dk_at dksX2_sells_1 18 rfl rfl)
theorem dX2_sells_43 : decode cX2_sells 43 = .ok (.iconst 1, 1) := dk_4 (dk_at dksX2_sells_1 19 rfl rfl)
theorem dX2_sells_44 : decode cX2_sells 44 = .ok (.iconst 0, 1) := dk_3 (dk_at dksX2_sells_1 20 rfl rfl)
theorem dX2_sells_45 : decode cX2_sells 45 = .ok (.invokevirtual 286, 3) := dk_182 1 30 (dk_at dksX2_sells_1 21 rfl rfl)
theorem dX2_sells_48 : decode cX2_sells 48 = .ok (.imul, 1) := dk_104 (dk_at dksX2_sells_2 0 rfl rfl)
theorem dX2_sells_49 : decode cX2_sells 49 = .ok (.bipush 100, 2) := dk_16 100 (dk_at dksX2_sells_2 1 rfl rfl)
theorem dX2_sells_51 : decode cX2_sells 51 = .ok (.idiv, 1) := dk_108 (dk_at dksX2_sells_2 3 rfl rfl)
theorem dX2_sells_52 : decode cX2_sells 52 = .ok (.istore 5, 2) := dk_54 5 (dk_at dksX2_sells_2 4 rfl rfl)
theorem dX2_sells_54 : decode cX2_sells 54 = .ok (.aload_n 1, 1) := dk_43 (dk_at dksX2_sells_2 6 rfl rfl)
theorem dX2_sells_55 : decode cX2_sells 55 = .ok (.dup, 1) := dk_89 (dk_at dksX2_sells_2 7 rfl rfl)
theorem dX2_sells_56 : decode cX2_sells 56 = .ok (.getfield 289, 3) := dk_180 1 33 (dk_at dksX2_sells_2 8 rfl rfl)
theorem dX2_sells_59 : decode cX2_sells 59 = .ok (.iload_n 3, 1) := dk_29 (dk_at dksX2_sells_2 11 rfl rfl)
theorem dX2_sells_60 : decode cX2_sells 60 = .ok (.isub, 1) := dk_100 (dk_at dksX2_sells_2 12 rfl rfl)
theorem dX2_sells_61 : decode cX2_sells 61 = .ok (.putfield 289, 3) := dk_181 1 33 (dk_at dksX2_sells_2 13 rfl rfl)
theorem dX2_sells_64 : decode cX2_sells 64 = .ok (.aload_n 0, 1) := dk_42 (dk_at dksX2_sells_2 16 rfl rfl)
theorem dX2_sells_65 : decode cX2_sells 65 = .ok (.dup, 1) := dk_89 (dk_at dksX2_sells_2 17 rfl rfl)
theorem dX2_sells_66 : decode cX2_sells 66 = .ok (.getfield 123, 3) := dk_180 0 123 (dk_at dksX2_sells_2 18 rfl rfl)
theorem dX2_sells_69 : decode cX2_sells 69 = .ok (.iload 5, 2) := dk_21 5 (dk_at dksX2_sells_2 21 rfl rfl)
theorem dX2_sells_71 : decode cX2_sells 71 = .ok (.iadd, 1) := dk_96 (dk_at dksX2_sells_2 23 rfl rfl)
theorem dX2_sells_72 : decode cX2_sells 72 = .ok (.putfield 123, 3) := dk_181 0 123 (dk_at dksX2_sells_3 0 rfl rfl)
theorem dX2_sells_75 : decode cX2_sells 75 = .ok (.aload_n 0, 1) := dk_42 (dk_at dksX2_sells_3 3 rfl rfl)
theorem dX2_sells_76 : decode cX2_sells 76 = .ok (.dup, 1) := dk_89 (dk_at dksX2_sells_3 4 rfl rfl)
theorem dX2_sells_77 : decode cX2_sells 77 = .ok (.getfield 15, 3) := dk_180 0 15 (dk_at dksX2_sells_3 5 rfl rfl)
theorem dX2_sells_80 : decode cX2_sells 80 = .ok (.iload_n 3, 1) := dk_29 (dk_at dksX2_sells_3 8 rfl rfl)
theorem dX2_sells_81 : decode cX2_sells 81 = .ok (.iload 5, 2) := dk_21 5 (dk_at dksX2_sells_3 9 rfl rfl)
theorem dX2_sells_83 : decode cX2_sells 83 = .ok (.isub, 1) := dk_100 (dk_at dksX2_sells_3 11 rfl rfl)
theorem dX2_sells_84 : decode cX2_sells 84 = .ok (.iadd, 1) := dk_96 (dk_at dksX2_sells_3 12 rfl rfl)
theorem dX2_sells_85 : decode cX2_sells 85 = .ok (.putfield 15, 3) := dk_181 0 15 (dk_at dksX2_sells_3 13 rfl rfl)
theorem dX2_sells_88 : decode cX2_sells 88 = .ok (.aload_n 0, 1) := dk_42 (dk_at dksX2_sells_3 16 rfl rfl)
theorem dX2_sells_89 : decode cX2_sells 89 = .ok (.aload_n 1, 1) := dk_43 (dk_at dksX2_sells_3 17 rfl rfl)
theorem dX2_sells_90 : decode cX2_sells 90 = .ok (.iload_n 2, 1) := dk_28 (dk_at dksX2_sells_3 18 rfl rfl)
theorem dX2_sells_91 : decode cX2_sells 91 = .ok (.new 292, 3) := dk_187 1 36 (dk_at dksX2_sells_3 19 rfl rfl)
theorem dX2_sells_94 : decode cX2_sells 94 = .ok (.dup, 1) := dk_89 (dk_at dksX2_sells_3 22 rfl rfl)
theorem dX2_sells_95 : decode cX2_sells 95 = .ok (.aload_n 1, 1) := dk_43 (dk_at dksX2_sells_3 23 rfl rfl)
theorem dX2_sells_96 : decode cX2_sells 96 = .ok (.getfield 283, 3) := dk_180 1 27 (dk_at dksX2_sells_4 0 rfl rfl)
theorem dX2_sells_99 : decode cX2_sells 99 = .ok (.iload_n 3, 1) := dk_29 (dk_at dksX2_sells_4 3 rfl rfl)
theorem dX2_sells_100 : decode cX2_sells 100 = .ok (.iload 4, 2) := dk_21 4 (dk_at dksX2_sells_4 4 rfl rfl)
theorem dX2_sells_102 : decode cX2_sells 102 = .ok (.invokespecial 294, 3) := dk_183 1 38 (dk_at dksX2_sells_4 6 rfl rfl)
theorem dX2_sells_105 : decode cX2_sells 105 = .ok (.invokevirtual 295, 3) := dk_182 1 39 (dk_at dksX2_sells_4 9 rfl rfl)
theorem dX2_sells_108 : decode cX2_sells 108 = .ok (.iload_n 3, 1) := dk_29 (dk_at dksX2_sells_4 12 rfl rfl)
theorem dX2_sells_109 : decode cX2_sells 109 = .ok (.ireturn, 1) := dk_172 (dk_at dksX2_sells_4 13 rfl rfl)
def dkwX2_means_4 : List UInt8 := [182, 1, 5, 184, 1, 10, 172]
abbrev dktX2_means_4 : List UInt8 := dkwX2_means_4 ++ []
def dkwX2_means_3 : List UInt8 := [27, 50, 42, 180, 0, 88, 42, 180, 0, 120, 42, 182, 0, 251, 42, 182, 0, 254, 28, 182, 1, 1]
abbrev dktX2_means_3 : List UInt8 := dkwX2_means_3 ++ dktX2_means_4
def dkwX2_means_2 : List UInt8 := [184, 0, 248, 167, 0, 49, 27, 42, 180, 0, 79, 29, 182, 0, 141, 192, 0, 174, 180, 0, 176, 180, 0, 239]
abbrev dktX2_means_2 : List UInt8 := dkwX2_means_2 ++ dktX2_means_3
def dkwX2_means_1 : List UInt8 := [180, 0, 18, 2, 159, 0, 8, 42, 180, 0, 18, 172, 42, 27, 182, 0, 245, 62, 29, 2, 160, 0, 10, 27]
abbrev dktX2_means_1 : List UInt8 := dkwX2_means_1 ++ dktX2_means_2
def dkwX2_means_0 : List UInt8 := [27, 154, 0, 15, 42, 180, 0, 132, 158, 0, 8, 42, 180, 0, 132, 172, 27, 4, 160, 0, 16, 42]
abbrev dktX2_means_0 : List UInt8 := dkwX2_means_0 ++ dktX2_means_1
theorem dksX2_means_0 : cX2_means.data.toList.drop 0 = dktX2_means_0 := by decide +kernel
theorem dksX2_means_1 : cX2_means.data.toList.drop 22 = dktX2_means_1 := dk_seg dksX2_means_0 22 rfl rfl
theorem dksX2_means_2 : cX2_means.data.toList.drop 46 = dktX2_means_2 := dk_seg dksX2_means_1 24 rfl rfl
theorem dksX2_means_3 : cX2_means.data.toList.drop 70 = dktX2_means_3 := dk_seg dksX2_means_2 24 rfl rfl
theorem dksX2_means_4 : cX2_means.data.toList.drop 92 = dktX2_means_4 := dk_seg dksX2_means_3 22 rfl rfl
theorem dX2_means_0 : decode cX2_means 0 = .ok (.iload_n 1, 1) := dk_27 (dk_at dksX2_means_0 0 rfl rfl)
theorem dX2_means_1 : decode cX2_means 1 = .ok (.ifCond .ne 15, 3) := dk_154 0 15 (dk_at dksX2_means_0 1 rfl rfl)
theorem dX2_means_4 : decode cX2_means 4 = .ok (.aload_n 0, 1) := dk_42 (dk_at dksX2_means_0 4 rfl rfl)
theorem dX2_means_5 : decode cX2_means 5 = .ok (.getfield 132, 3) := dk_180 0 132 (dk_at dksX2_means_0 5 rfl rfl)
theorem dX2_means_8 : decode cX2_means 8 = .ok (.ifCond .le 8, 3) := dk_158 0 8 (dk_at dksX2_means_0 8 rfl rfl)
theorem dX2_means_11 : decode cX2_means 11 = .ok (.aload_n 0, 1) := dk_42 (dk_at dksX2_means_0 11 rfl rfl)
theorem dX2_means_12 : decode cX2_means 12 = .ok (.getfield 132, 3) := dk_180 0 132 (dk_at dksX2_means_0 12 rfl rfl)
theorem dX2_means_15 : decode cX2_means 15 = .ok (.ireturn, 1) := dk_172 (dk_at dksX2_means_0 15 rfl rfl)
theorem dX2_means_16 : decode cX2_means 16 = .ok (.iload_n 1, 1) := dk_27 (dk_at dksX2_means_0 16 rfl rfl)
theorem dX2_means_17 : decode cX2_means 17 = .ok (.iconst 1, 1) := dk_4 (dk_at dksX2_means_0 17 rfl rfl)
theorem dX2_means_18 : decode cX2_means 18 = .ok (.if_icmp .ne 16, 3) := dk_160 0 16 (dk_at dksX2_means_0 18 rfl rfl)
theorem dX2_means_21 : decode cX2_means 21 = .ok (.aload_n 0, 1) := dk_42 (dk_at dksX2_means_0 21 rfl rfl)
theorem dX2_means_22 : decode cX2_means 22 = .ok (.getfield 18, 3) := dk_180 0 18 (dk_at dksX2_means_1 0 rfl rfl)
theorem dX2_means_25 : decode cX2_means 25 = .ok (.iconst (-1), 1) := dk_2 (dk_at dksX2_means_1 3 rfl rfl)
theorem dX2_means_26 : decode cX2_means 26 = .ok (.if_icmp .eq 8, 3) := dk_159 0 8 (dk_at dksX2_means_1 4 rfl rfl)
theorem dX2_means_29 : decode cX2_means 29 = .ok (.aload_n 0, 1) := dk_42 (dk_at dksX2_means_1 7 rfl rfl)
theorem dX2_means_30 : decode cX2_means 30 = .ok (.getfield 18, 3) := dk_180 0 18 (dk_at dksX2_means_1 8 rfl rfl)
theorem dX2_means_33 : decode cX2_means 33 = .ok (.ireturn, 1) := dk_172 (dk_at dksX2_means_1 11 rfl rfl)
theorem dX2_means_34 : decode cX2_means 34 = .ok (.aload_n 0, 1) := dk_42 (dk_at dksX2_means_1 12 rfl rfl)
theorem dX2_means_35 : decode cX2_means 35 = .ok (.iload_n 1, 1) := dk_27 (dk_at dksX2_means_1 13 rfl rfl)
theorem dX2_means_36 : decode cX2_means 36 = .ok (.invokevirtual 245, 3) := dk_182 0 245 (dk_at dksX2_means_1 14 rfl rfl)
theorem dX2_means_39 : decode cX2_means 39 = .ok (.istore_n 3, 1) := dk_62 (dk_at dksX2_means_1 17 rfl rfl)
theorem dX2_means_40 : decode cX2_means 40 = .ok (.iload_n 3, 1) := dk_29 (dk_at dksX2_means_1 18 rfl rfl)
theorem dX2_means_41 : decode cX2_means 41 = .ok (.iconst (-1), 1) := dk_2 (dk_at dksX2_means_1 19 rfl rfl)
theorem dX2_means_42 : decode cX2_means 42 = .ok (.if_icmp .ne 10, 3) := dk_160 0 10 (dk_at dksX2_means_1 20 rfl rfl)
theorem dX2_means_45 : decode cX2_means 45 = .ok (.iload_n 1, 1) := dk_27 (dk_at dksX2_means_1 23 rfl rfl)
theorem dX2_means_46 : decode cX2_means 46 = .ok (.invokestatic 248, 3) := dk_184 0 248 (dk_at dksX2_means_2 0 rfl rfl)
theorem dX2_means_49 : decode cX2_means 49 = .ok (.goto 49, 3) := dk_167 0 49 (dk_at dksX2_means_2 3 rfl rfl)
theorem dX2_means_52 : decode cX2_means 52 = .ok (.iload_n 1, 1) := dk_27 (dk_at dksX2_means_2 6 rfl rfl)
theorem dX2_means_53 : decode cX2_means 53 = .ok (.aload_n 0, 1) := dk_42 (dk_at dksX2_means_2 7 rfl rfl)
theorem dX2_means_54 : decode cX2_means 54 = .ok (.getfield 79, 3) := dk_180 0 79 (dk_at dksX2_means_2 8 rfl rfl)
theorem dX2_means_57 : decode cX2_means 57 = .ok (.iload_n 3, 1) := dk_29 (dk_at dksX2_means_2 11 rfl rfl)
theorem dX2_means_58 : decode cX2_means 58 = .ok (.invokevirtual 141, 3) := dk_182 0 141 (dk_at dksX2_means_2 12 rfl rfl)
theorem dX2_means_61 : decode cX2_means 61 = .ok (.checkcast 174, 3) := dk_192 0 174 (dk_at dksX2_means_2 15 rfl rfl)
theorem dX2_means_64 : decode cX2_means 64 = .ok (.getfield 176, 3) := dk_180 0 176 (dk_at dksX2_means_2 18 rfl rfl)
theorem dX2_means_67 : decode cX2_means 67 = .ok (.getfield 239, 3) := dk_180 0 239 (dk_at dksX2_means_2 21 rfl rfl)
theorem dX2_means_70 : decode cX2_means 70 = .ok (.iload_n 1, 1) := dk_27 (dk_at dksX2_means_3 0 rfl rfl)
theorem dX2_means_71 : decode cX2_means 71 = .ok (.aaload, 1) := dk_50 (dk_at dksX2_means_3 1 rfl rfl)
theorem dX2_means_72 : decode cX2_means 72 = .ok (.aload_n 0, 1) := dk_42 (dk_at dksX2_means_3 2 rfl rfl)
theorem dX2_means_73 : decode cX2_means 73 = .ok (.getfield 88, 3) := dk_180 0 88 (dk_at dksX2_means_3 3 rfl rfl)
theorem dX2_means_76 : decode cX2_means 76 = .ok (.aload_n 0, 1) := dk_42 (dk_at dksX2_means_3 6 rfl rfl)
theorem dX2_means_77 : decode cX2_means 77 = .ok (.getfield 120, 3) := dk_180 0 120 (dk_at dksX2_means_3 7 rfl rfl)
theorem dX2_means_80 : decode cX2_means 80 = .ok (.aload_n 0, 1) := dk_42 (dk_at dksX2_means_3 10 rfl rfl)
theorem dX2_means_81 : decode cX2_means 81 = .ok (.invokevirtual 251, 3) := dk_182 0 251 (dk_at dksX2_means_3 11 rfl rfl)
theorem dX2_means_84 : decode cX2_means 84 = .ok (.aload_n 0, 1) := dk_42 (dk_at dksX2_means_3 14 rfl rfl)
theorem dX2_means_85 : decode cX2_means 85 = .ok (.invokevirtual 254, 3) := dk_182 0 254 (dk_at dksX2_means_3 15 rfl rfl)
theorem dX2_means_88 : decode cX2_means 88 = .ok (.iload_n 2, 1) := dk_28 (dk_at dksX2_means_3 18 rfl rfl)
theorem dX2_means_89 : decode cX2_means 89 = .ok (.invokevirtual 257, 3) := dk_182 1 1 (dk_at dksX2_means_3 19 rfl rfl)
theorem dX2_means_92 : decode cX2_means 92 = .ok (.invokevirtual 261, 3) := dk_182 1 5 (dk_at dksX2_means_4 0 rfl rfl)
theorem dX2_means_95 : decode cX2_means 95 = .ok (.invokestatic 266, 3) := dk_184 1 10 (dk_at dksX2_means_4 3 rfl rfl)
theorem dX2_means_98 : decode cX2_means 98 = .ok (.ireturn, 1) := dk_172 (dk_at dksX2_means_4 6 rfl rfl)
def dkwX2_why_2 : List UInt8 := [180, 0, 239, 27, 50, 198, 0, 5, 28, 172, 132, 2, 255, 167, 255, 208, 2, 172]
abbrev dktX2_why_2 : List UInt8 := dkwX2_why_2 ++ []
def dkwX2_why_1 : List UInt8 := [192, 0, 174, 182, 0, 236, 153, 0, 27, 42, 180, 0, 79, 28, 182, 0, 141, 192, 0, 174, 180, 0, 176]
abbrev dktX2_why_1 : List UInt8 := dkwX2_why_1 ++ dktX2_why_2
def dkwX2_why_0 : List UInt8 := [42, 180, 0, 79, 182, 0, 149, 4, 100, 61, 28, 155, 0, 50, 42, 180, 0, 79, 28, 182, 0, 141]
abbrev dktX2_why_0 : List UInt8 := dkwX2_why_0 ++ dktX2_why_1
theorem dksX2_why_0 : cX2_why.data.toList.drop 0 = dktX2_why_0 := by decide +kernel
theorem dksX2_why_1 : cX2_why.data.toList.drop 22 = dktX2_why_1 := dk_seg dksX2_why_0 22 rfl rfl
theorem dksX2_why_2 : cX2_why.data.toList.drop 45 = dktX2_why_2 := dk_seg dksX2_why_1 23 rfl rfl
theorem dX2_why_0 : decode cX2_why 0 = .ok (.aload_n 0, 1) := dk_42 (dk_at dksX2_why_0 0 rfl rfl)
theorem dX2_why_1 : decode cX2_why 1 = .ok (.getfield 79, 3) := dk_180 0 79 (dk_at dksX2_why_0 1 rfl rfl)
theorem dX2_why_4 : decode cX2_why 4 = .ok (.invokevirtual 149, 3) := dk_182 0 149 (dk_at dksX2_why_0 4 rfl rfl)
theorem dX2_why_7 : decode cX2_why 7 = .ok (.iconst 1, 1) := dk_4 (dk_at dksX2_why_0 7 rfl rfl)
theorem dX2_why_8 : decode cX2_why 8 = .ok (.isub, 1) := dk_100 (dk_at dksX2_why_0 8 rfl rfl)
theorem dX2_why_9 : decode cX2_why 9 = .ok (.istore_n 2, 1) := dk_61 (dk_at dksX2_why_0 9 rfl rfl)
theorem dX2_why_10 : decode cX2_why 10 = .ok (.iload_n 2, 1) := dk_28 (dk_at dksX2_why_0 10 rfl rfl)
theorem dX2_why_11 : decode cX2_why 11 = .ok (.ifCond .lt 50, 3) := dk_155 0 50 (dk_at dksX2_why_0 11 rfl rfl)
theorem dX2_why_14 : decode cX2_why 14 = .ok (.aload_n 0, 1) := dk_42 (dk_at dksX2_why_0 14 rfl rfl)
theorem dX2_why_15 : decode cX2_why 15 = .ok (.getfield 79, 3) := dk_180 0 79 (dk_at dksX2_why_0 15 rfl rfl)
theorem dX2_why_18 : decode cX2_why 18 = .ok (.iload_n 2, 1) := dk_28 (dk_at dksX2_why_0 18 rfl rfl)
theorem dX2_why_19 : decode cX2_why 19 = .ok (.invokevirtual 141, 3) := dk_182 0 141 (dk_at dksX2_why_0 19 rfl rfl)
theorem dX2_why_22 : decode cX2_why 22 = .ok (.checkcast 174, 3) := dk_192 0 174 (dk_at dksX2_why_1 0 rfl rfl)
theorem dX2_why_25 : decode cX2_why 25 = .ok (.invokevirtual 236, 3) := dk_182 0 236 (dk_at dksX2_why_1 3 rfl rfl)
theorem dX2_why_28 : decode cX2_why 28 = .ok (.ifCond .eq 27, 3) := dk_153 0 27 (dk_at dksX2_why_1 6 rfl rfl)
theorem dX2_why_31 : decode cX2_why 31 = .ok (.aload_n 0, 1) := dk_42 (dk_at dksX2_why_1 9 rfl rfl)
theorem dX2_why_32 : decode cX2_why 32 = .ok (.getfield 79, 3) := dk_180 0 79 (dk_at dksX2_why_1 10 rfl rfl)
theorem dX2_why_35 : decode cX2_why 35 = .ok (.iload_n 2, 1) := dk_28 (dk_at dksX2_why_1 13 rfl rfl)
theorem dX2_why_36 : decode cX2_why 36 = .ok (.invokevirtual 141, 3) := dk_182 0 141 (dk_at dksX2_why_1 14 rfl rfl)
theorem dX2_why_39 : decode cX2_why 39 = .ok (.checkcast 174, 3) := dk_192 0 174 (dk_at dksX2_why_1 17 rfl rfl)
theorem dX2_why_42 : decode cX2_why 42 = .ok (.getfield 176, 3) := dk_180 0 176 (dk_at dksX2_why_1 20 rfl rfl)
theorem dX2_why_45 : decode cX2_why 45 = .ok (.getfield 239, 3) := dk_180 0 239 (dk_at dksX2_why_2 0 rfl rfl)
theorem dX2_why_48 : decode cX2_why 48 = .ok (.iload_n 1, 1) := dk_27 (dk_at dksX2_why_2 3 rfl rfl)
theorem dX2_why_49 : decode cX2_why 49 = .ok (.aaload, 1) := dk_50 (dk_at dksX2_why_2 4 rfl rfl)
theorem dX2_why_50 : decode cX2_why 50 = .ok (.ifnull 5, 3) := dk_198 0 5 (dk_at dksX2_why_2 5 rfl rfl)
theorem dX2_why_53 : decode cX2_why 53 = .ok (.iload_n 2, 1) := dk_28 (dk_at dksX2_why_2 8 rfl rfl)
theorem dX2_why_54 : decode cX2_why 54 = .ok (.ireturn, 1) := dk_172 (dk_at dksX2_why_2 9 rfl rfl)
theorem dX2_why_55 : decode cX2_why 55 = .ok (.iinc 2 (-1), 3) := dk_132 2 255 (dk_at dksX2_why_2 10 rfl rfl)
theorem dX2_why_58 : decode cX2_why 58 = .ok (.goto (-48), 3) := dk_167 255 208 (dk_at dksX2_why_2 13 rfl rfl)
theorem dX2_why_61 : decode cX2_why 61 = .ok (.iconst (-1), 1) := dk_2 (dk_at dksX2_why_2 16 rfl rfl)
theorem dX2_why_62 : decode cX2_why 62 = .ok (.ireturn, 1) := dk_172 (dk_at dksX2_why_2 17 rfl rfl)
def dkwX2_settles_1 : List UInt8 := [181, 0, 221, 177]
abbrev dktX2_settles_1 : List UInt8 := dkwX2_settles_1 ++ []
def dkwX2_settles_0 : List UInt8 := [42, 28, 45, 182, 0, 116, 42, 43, 182, 1, 13, 43, 89, 180, 1, 16, 4, 96, 181, 1, 16, 43, 7]
abbrev dktX2_settles_0 : List UInt8 := dkwX2_settles_0 ++ dktX2_settles_1
theorem dksX2_settles_0 : cX2_settles.data.toList.drop 0 = dktX2_settles_0 := by decide +kernel
theorem dksX2_settles_1 : cX2_settles.data.toList.drop 23 = dktX2_settles_1 := dk_seg dksX2_settles_0 23 rfl rfl
theorem dX2_settles_0 : decode cX2_settles 0 = .ok (.aload_n 0, 1) := dk_42 (dk_at dksX2_settles_0 0 rfl rfl)
theorem dX2_settles_1 : decode cX2_settles 1 = .ok (.iload_n 2, 1) := dk_28 (dk_at dksX2_settles_0 1 rfl rfl)
theorem dX2_settles_2 : decode cX2_settles 2 = .ok (.aload_n 3, 1) := dk_45 (dk_at dksX2_settles_0 2 rfl rfl)
theorem dX2_settles_3 : decode cX2_settles 3 = .ok (.invokevirtual 116, 3) := dk_182 0 116 (dk_at dksX2_settles_0 3 rfl rfl)
theorem dX2_settles_6 : decode cX2_settles 6 = .ok (.aload_n 0, 1) := dk_42 (dk_at dksX2_settles_0 6 rfl rfl)
theorem dX2_settles_7 : decode cX2_settles 7 = .ok (.aload_n 1, 1) := dk_43 (dk_at dksX2_settles_0 7 rfl rfl)
theorem dX2_settles_8 : decode cX2_settles 8 = .ok (.invokevirtual 269, 3) := dk_182 1 13 (dk_at dksX2_settles_0 8 rfl rfl)
theorem dX2_settles_11 : decode cX2_settles 11 = .ok (.aload_n 1, 1) := dk_43 (dk_at dksX2_settles_0 11 rfl rfl)
theorem dX2_settles_12 : decode cX2_settles 12 = .ok (.dup, 1) := dk_89 (dk_at dksX2_settles_0 12 rfl rfl)
theorem dX2_settles_13 : decode cX2_settles 13 = .ok (.getfield 272, 3) := dk_180 1 16 (dk_at dksX2_settles_0 13 rfl rfl)
theorem dX2_settles_16 : decode cX2_settles 16 = .ok (.iconst 1, 1) := dk_4 (dk_at dksX2_settles_0 16 rfl rfl)
theorem dX2_settles_17 : decode cX2_settles 17 = .ok (.iadd, 1) := dk_96 (dk_at dksX2_settles_0 17 rfl rfl)
theorem dX2_settles_18 : decode cX2_settles 18 = .ok (.putfield 272, 3) := dk_181 1 16 (dk_at dksX2_settles_0 18 rfl rfl)
theorem dX2_settles_21 : decode cX2_settles 21 = .ok (.aload_n 1, 1) := dk_43 (dk_at dksX2_settles_0 21 rfl rfl)
theorem dX2_settles_22 : decode cX2_settles 22 = .ok (.iconst 4, 1) := dk_7 (dk_at dksX2_settles_0 22 rfl rfl)
theorem dX2_settles_23 : decode cX2_settles 23 = .ok (.putfield 221, 3) := dk_181 0 221 (dk_at dksX2_settles_1 0 rfl rfl)
theorem dX2_settles_26 : decode cX2_settles 26 = .ok (.return_, 1) := dk_177 (dk_at dksX2_settles_1 3 rfl rfl)
def dkwX2_leaves_1 : List UInt8 := [180, 1, 21, 4, 100, 181, 1, 21, 43, 2, 181, 1, 18, 43, 5, 181, 0, 221, 177]
abbrev dktX2_leaves_1 : List UInt8 := dkwX2_leaves_1 ++ []
def dkwX2_leaves_0 : List UInt8 := [43, 180, 0, 221, 6, 159, 0, 4, 177, 42, 180, 0, 73, 43, 180, 1, 18, 182, 0, 141, 192, 0, 153, 89]
abbrev dktX2_leaves_0 : List UInt8 := dkwX2_leaves_0 ++ dktX2_leaves_1
theorem dksX2_leaves_0 : cX2_leaves.data.toList.drop 0 = dktX2_leaves_0 := by decide +kernel
theorem dksX2_leaves_1 : cX2_leaves.data.toList.drop 24 = dktX2_leaves_1 := dk_seg dksX2_leaves_0 24 rfl rfl
theorem dX2_leaves_0 : decode cX2_leaves 0 = .ok (.aload_n 1, 1) := dk_43 (dk_at dksX2_leaves_0 0 rfl rfl)
theorem dX2_leaves_1 : decode cX2_leaves 1 = .ok (.getfield 221, 3) := dk_180 0 221 (dk_at dksX2_leaves_0 1 rfl rfl)
theorem dX2_leaves_4 : decode cX2_leaves 4 = .ok (.iconst 3, 1) := dk_6 (dk_at dksX2_leaves_0 4 rfl rfl)
theorem dX2_leaves_5 : decode cX2_leaves 5 = .ok (.if_icmp .eq 4, 3) := dk_159 0 4 (dk_at dksX2_leaves_0 5 rfl rfl)
theorem dX2_leaves_8 : decode cX2_leaves 8 = .ok (.return_, 1) := dk_177 (dk_at dksX2_leaves_0 8 rfl rfl)
theorem dX2_leaves_9 : decode cX2_leaves 9 = .ok (.aload_n 0, 1) := dk_42 (dk_at dksX2_leaves_0 9 rfl rfl)
theorem dX2_leaves_10 : decode cX2_leaves 10 = .ok (.getfield 73, 3) := dk_180 0 73 (dk_at dksX2_leaves_0 10 rfl rfl)
theorem dX2_leaves_13 : decode cX2_leaves 13 = .ok (.aload_n 1, 1) := dk_43 (dk_at dksX2_leaves_0 13 rfl rfl)
theorem dX2_leaves_14 : decode cX2_leaves 14 = .ok (.getfield 274, 3) := dk_180 1 18 (dk_at dksX2_leaves_0 14 rfl rfl)
theorem dX2_leaves_17 : decode cX2_leaves 17 = .ok (.invokevirtual 141, 3) := dk_182 0 141 (dk_at dksX2_leaves_0 17 rfl rfl)
theorem dX2_leaves_20 : decode cX2_leaves 20 = .ok (.checkcast 153, 3) := dk_192 0 153 (dk_at dksX2_leaves_0 20 rfl rfl)
theorem dX2_leaves_23 : decode cX2_leaves 23 = .ok (.dup, 1) := dk_89 (dk_at dksX2_leaves_0 23 rfl rfl)
theorem dX2_leaves_24 : decode cX2_leaves 24 = .ok (.getfield 277, 3) := dk_180 1 21 (dk_at dksX2_leaves_1 0 rfl rfl)
theorem dX2_leaves_27 : decode cX2_leaves 27 = .ok (.iconst 1, 1) := dk_4 (dk_at dksX2_leaves_1 3 rfl rfl)
theorem dX2_leaves_28 : decode cX2_leaves 28 = .ok (.isub, 1) := dk_100 (dk_at dksX2_leaves_1 4 rfl rfl)
theorem dX2_leaves_29 : decode cX2_leaves 29 = .ok (.putfield 277, 3) := dk_181 1 21 (dk_at dksX2_leaves_1 5 rfl rfl)
theorem dX2_leaves_32 : decode cX2_leaves 32 = .ok (.aload_n 1, 1) := dk_43 (dk_at dksX2_leaves_1 8 rfl rfl)
theorem dX2_leaves_33 : decode cX2_leaves 33 = .ok (.iconst (-1), 1) := dk_2 (dk_at dksX2_leaves_1 9 rfl rfl)
theorem dX2_leaves_34 : decode cX2_leaves 34 = .ok (.putfield 274, 3) := dk_181 1 18 (dk_at dksX2_leaves_1 10 rfl rfl)
theorem dX2_leaves_37 : decode cX2_leaves 37 = .ok (.aload_n 1, 1) := dk_43 (dk_at dksX2_leaves_1 13 rfl rfl)
theorem dX2_leaves_38 : decode cX2_leaves 38 = .ok (.iconst 2, 1) := dk_5 (dk_at dksX2_leaves_1 14 rfl rfl)
theorem dX2_leaves_39 : decode cX2_leaves 39 = .ok (.putfield 221, 3) := dk_181 0 221 (dk_at dksX2_leaves_1 15 rfl rfl)
theorem dX2_leaves_42 : decode cX2_leaves 42 = .ok (.return_, 1) := dk_177 (dk_at dksX2_leaves_1 18 rfl rfl)
def dkwX2_passes_8 : List UInt8 := [177]
abbrev dktX2_passes_8 : List UInt8 := dkwX2_passes_8 ++ []
def dkwX2_passes_7 : List UInt8 := [182, 1, 63, 42, 180, 0, 106, 198, 0, 7, 42, 182, 1, 66, 42, 89, 180, 0, 120, 4, 96, 181, 0, 120]
abbrev dktX2_passes_7 : List UInt8 := dkwX2_passes_7 ++ dktX2_passes_8
def dkwX2_passes_6 : List UInt8 := [182, 0, 116, 132, 1, 1, 167, 255, 214, 42, 180, 0, 120, 16, 52, 112, 16, 51, 160, 0, 7, 42]
abbrev dktX2_passes_6 : List UInt8 := dkwX2_passes_6 ++ dktX2_passes_7
def dkwX2_passes_5 : List UInt8 := [153, 0, 25, 42, 180, 0, 40, 27, 46, 42, 180, 0, 120, 160, 0, 12, 42, 27, 42, 180, 0, 57]
abbrev dktX2_passes_5 : List UInt8 := dkwX2_passes_5 ++ dktX2_passes_6
def dkwX2_passes_4 : List UInt8 := [167, 255, 212, 42, 182, 1, 58, 3, 60, 27, 16, 96, 162, 0, 42, 42, 27, 182, 0, 208, 182, 1, 61]
abbrev dktX2_passes_4 : List UInt8 := dkwX2_passes_4 ++ dktX2_passes_5
def dkwX2_passes_3 : List UInt8 := [180, 0, 21, 167, 0, 15, 42, 180, 0, 102, 27, 42, 180, 0, 120, 182, 1, 55, 96, 79, 132, 1, 1]
abbrev dktX2_passes_3 : List UInt8 := dkwX2_passes_3 ++ dktX2_passes_4
def dkwX2_passes_2 : List UInt8 := [60, 27, 7, 162, 0, 45, 42, 180, 0, 61, 27, 92, 46, 42, 180, 0, 21, 2, 159, 0, 10, 42]
abbrev dktX2_passes_2 : List UInt8 := dkwX2_passes_2 ++ dktX2_passes_3
def dkwX2_passes_1 : List UInt8 := [180, 0, 76, 27, 182, 0, 141, 192, 0, 165, 182, 1, 49, 132, 1, 1, 167, 255, 227, 42, 182, 1, 52, 3]
abbrev dktX2_passes_1 : List UInt8 := dkwX2_passes_1 ++ dktX2_passes_2
def dkwX2_passes_0 : List UInt8 := [42, 182, 1, 43, 42, 182, 1, 46, 3, 60, 27, 42, 180, 0, 76, 182, 0, 149, 162, 0, 24, 42, 42]
abbrev dktX2_passes_0 : List UInt8 := dkwX2_passes_0 ++ dktX2_passes_1
theorem dksX2_passes_0 : cX2_passes.data.toList.drop 0 = dktX2_passes_0 := by decide +kernel
theorem dksX2_passes_1 : cX2_passes.data.toList.drop 23 = dktX2_passes_1 := dk_seg dksX2_passes_0 23 rfl rfl
theorem dksX2_passes_2 : cX2_passes.data.toList.drop 47 = dktX2_passes_2 := dk_seg dksX2_passes_1 24 rfl rfl
theorem dksX2_passes_3 : cX2_passes.data.toList.drop 69 = dktX2_passes_3 := dk_seg dksX2_passes_2 22 rfl rfl
theorem dksX2_passes_4 : cX2_passes.data.toList.drop 92 = dktX2_passes_4 := dk_seg dksX2_passes_3 23 rfl rfl
theorem dksX2_passes_5 : cX2_passes.data.toList.drop 115 = dktX2_passes_5 := dk_seg dksX2_passes_4 23 rfl rfl
theorem dksX2_passes_6 : cX2_passes.data.toList.drop 137 = dktX2_passes_6 := dk_seg dksX2_passes_5 22 rfl rfl
theorem dksX2_passes_7 : cX2_passes.data.toList.drop 159 = dktX2_passes_7 := dk_seg dksX2_passes_6 22 rfl rfl
theorem dksX2_passes_8 : cX2_passes.data.toList.drop 183 = dktX2_passes_8 := dk_seg dksX2_passes_7 24 rfl rfl
theorem dX2_passes_0 : decode cX2_passes 0 = .ok (.aload_n 0, 1) := dk_42 (dk_at dksX2_passes_0 0 rfl rfl)
theorem dX2_passes_1 : decode cX2_passes 1 = .ok (.invokevirtual 299, 3) := dk_182 1 43 (dk_at dksX2_passes_0 1 rfl rfl)
theorem dX2_passes_4 : decode cX2_passes 4 = .ok (.aload_n 0, 1) := dk_42 (dk_at dksX2_passes_0 4 rfl rfl)
theorem dX2_passes_5 : decode cX2_passes 5 = .ok (.invokevirtual 302, 3) := dk_182 1 46 (dk_at dksX2_passes_0 5 rfl rfl)
theorem dX2_passes_8 : decode cX2_passes 8 = .ok (.iconst 0, 1) := dk_3 (dk_at dksX2_passes_0 8 rfl rfl)
theorem dX2_passes_9 : decode cX2_passes 9 = .ok (.istore_n 1, 1) := dk_60 (dk_at dksX2_passes_0 9 rfl rfl)
theorem dX2_passes_10 : decode cX2_passes 10 = .ok (.iload_n 1, 1) := dk_27 (dk_at dksX2_passes_0 10 rfl rfl)
theorem dX2_passes_11 : decode cX2_passes 11 = .ok (.aload_n 0, 1) := dk_42 (dk_at dksX2_passes_0 11 rfl rfl)
theorem dX2_passes_12 : decode cX2_passes 12 = .ok (.getfield 76, 3) := dk_180 0 76 (dk_at dksX2_passes_0 12 rfl rfl)
theorem dX2_passes_15 : decode cX2_passes 15 = .ok (.invokevirtual 149, 3) := dk_182 0 149 (dk_at dksX2_passes_0 15 rfl rfl)
theorem dX2_passes_18 : decode cX2_passes 18 = .ok (.if_icmp .ge 24, 3) := dk_162 0 24 (dk_at dksX2_passes_0 18 rfl rfl)
theorem dX2_passes_21 : decode cX2_passes 21 = .ok (.aload_n 0, 1) := dk_42 (dk_at dksX2_passes_0 21 rfl rfl)
theorem dX2_passes_22 : decode cX2_passes 22 = .ok (.aload_n 0, 1) := dk_42 (dk_at dksX2_passes_0 22 rfl rfl)
theorem dX2_passes_23 : decode cX2_passes 23 = .ok (.getfield 76, 3) := dk_180 0 76 (dk_at dksX2_passes_1 0 rfl rfl)
theorem dX2_passes_26 : decode cX2_passes 26 = .ok (.iload_n 1, 1) := dk_27 (dk_at dksX2_passes_1 3 rfl rfl)
theorem dX2_passes_27 : decode cX2_passes 27 = .ok (.invokevirtual 141, 3) := dk_182 0 141 (dk_at dksX2_passes_1 4 rfl rfl)
theorem dX2_passes_30 : decode cX2_passes 30 = .ok (.checkcast 165, 3) := dk_192 0 165 (dk_at dksX2_passes_1 7 rfl rfl)
theorem dX2_passes_33 : decode cX2_passes 33 = .ok (.invokevirtual 305, 3) := dk_182 1 49 (dk_at dksX2_passes_1 10 rfl rfl)
theorem dX2_passes_36 : decode cX2_passes 36 = .ok (.iinc 1 1, 3) := dk_132 1 1 (dk_at dksX2_passes_1 13 rfl rfl)
theorem dX2_passes_39 : decode cX2_passes 39 = .ok (.goto (-29), 3) := dk_167 255 227 (dk_at dksX2_passes_1 16 rfl rfl)
theorem dX2_passes_42 : decode cX2_passes 42 = .ok (.aload_n 0, 1) := dk_42 (dk_at dksX2_passes_1 19 rfl rfl)
theorem dX2_passes_43 : decode cX2_passes 43 = .ok (.invokevirtual 308, 3) := dk_182 1 52 (dk_at dksX2_passes_1 20 rfl rfl)
theorem dX2_passes_46 : decode cX2_passes 46 = .ok (.iconst 0, 1) := dk_3 (dk_at dksX2_passes_1 23 rfl rfl)
theorem dX2_passes_47 : decode cX2_passes 47 = .ok (.istore_n 1, 1) := dk_60 (dk_at dksX2_passes_2 0 rfl rfl)
theorem dX2_passes_48 : decode cX2_passes 48 = .ok (.iload_n 1, 1) := dk_27 (dk_at dksX2_passes_2 1 rfl rfl)
theorem dX2_passes_49 : decode cX2_passes 49 = .ok (.iconst 4, 1) := dk_7 (dk_at dksX2_passes_2 2 rfl rfl)
theorem dX2_passes_50 : decode cX2_passes 50 = .ok (.if_icmp .ge 45, 3) := dk_162 0 45 (dk_at dksX2_passes_2 3 rfl rfl)
theorem dX2_passes_53 : decode cX2_passes 53 = .ok (.aload_n 0, 1) := dk_42 (dk_at dksX2_passes_2 6 rfl rfl)
theorem dX2_passes_54 : decode cX2_passes 54 = .ok (.getfield 61, 3) := dk_180 0 61 (dk_at dksX2_passes_2 7 rfl rfl)
theorem dX2_passes_57 : decode cX2_passes 57 = .ok (.iload_n 1, 1) := dk_27 (dk_at dksX2_passes_2 10 rfl rfl)
theorem dX2_passes_58 : decode cX2_passes 58 = .ok (.dup2, 1) := dk_92 (dk_at dksX2_passes_2 11 rfl rfl)
theorem dX2_passes_59 : decode cX2_passes 59 = .ok (.iaload, 1) := dk_46 (dk_at dksX2_passes_2 12 rfl rfl)
theorem dX2_passes_60 : decode cX2_passes 60 = .ok (.aload_n 0, 1) := dk_42 (dk_at dksX2_passes_2 13 rfl rfl)
theorem dX2_passes_61 : decode cX2_passes 61 = .ok (.getfield 21, 3) := dk_180 0 21 (dk_at dksX2_passes_2 14 rfl rfl)
theorem dX2_passes_64 : decode cX2_passes 64 = .ok (.iconst (-1), 1) := dk_2 (dk_at dksX2_passes_2 17 rfl rfl)
theorem dX2_passes_65 : decode cX2_passes 65 = .ok (.if_icmp .eq 10, 3) := dk_159 0 10 (dk_at dksX2_passes_2 18 rfl rfl)
theorem dX2_passes_68 : decode cX2_passes 68 = .ok (.aload_n 0, 1) := dk_42 (dk_at dksX2_passes_2 21 rfl rfl)
theorem dX2_passes_69 : decode cX2_passes 69 = .ok (.getfield 21, 3) := dk_180 0 21 (dk_at dksX2_passes_3 0 rfl rfl)
theorem dX2_passes_72 : decode cX2_passes 72 = .ok (.goto 15, 3) := dk_167 0 15 (dk_at dksX2_passes_3 3 rfl rfl)
theorem dX2_passes_75 : decode cX2_passes 75 = .ok (.aload_n 0, 1) := dk_42 (dk_at dksX2_passes_3 6 rfl rfl)
theorem dX2_passes_76 : decode cX2_passes 76 = .ok (.getfield 102, 3) := dk_180 0 102 (dk_at dksX2_passes_3 7 rfl rfl)
theorem dX2_passes_79 : decode cX2_passes 79 = .ok (.iload_n 1, 1) := dk_27 (dk_at dksX2_passes_3 10 rfl rfl)
theorem dX2_passes_80 : decode cX2_passes 80 = .ok (.aload_n 0, 1) := dk_42 (dk_at dksX2_passes_3 11 rfl rfl)
theorem dX2_passes_81 : decode cX2_passes 81 = .ok (.getfield 120, 3) := dk_180 0 120 (dk_at dksX2_passes_3 12 rfl rfl)
theorem dX2_passes_84 : decode cX2_passes 84 = .ok (.invokevirtual 311, 3) := dk_182 1 55 (dk_at dksX2_passes_3 15 rfl rfl)
theorem dX2_passes_87 : decode cX2_passes 87 = .ok (.iadd, 1) := dk_96 (dk_at dksX2_passes_3 18 rfl rfl)
theorem dX2_passes_88 : decode cX2_passes 88 = .ok (.iastore, 1) := dk_79 (dk_at dksX2_passes_3 19 rfl rfl)
theorem dX2_passes_89 : decode cX2_passes 89 = .ok (.iinc 1 1, 3) := dk_132 1 1 (dk_at dksX2_passes_3 20 rfl rfl)
theorem dX2_passes_92 : decode cX2_passes 92 = .ok (.goto (-44), 3) := dk_167 255 212 (dk_at dksX2_passes_4 0 rfl rfl)
theorem dX2_passes_95 : decode cX2_passes 95 = .ok (.aload_n 0, 1) := dk_42 (dk_at dksX2_passes_4 3 rfl rfl)
theorem dX2_passes_96 : decode cX2_passes 96 = .ok (.invokevirtual 314, 3) := dk_182 1 58 (dk_at dksX2_passes_4 4 rfl rfl)
theorem dX2_passes_99 : decode cX2_passes 99 = .ok (.iconst 0, 1) := dk_3 (dk_at dksX2_passes_4 7 rfl rfl)
theorem dX2_passes_100 : decode cX2_passes 100 = .ok (.istore_n 1, 1) := dk_60 (dk_at dksX2_passes_4 8 rfl rfl)
theorem dX2_passes_101 : decode cX2_passes 101 = .ok (.iload_n 1, 1) := dk_27 (dk_at dksX2_passes_4 9 rfl rfl)
theorem dX2_passes_102 : decode cX2_passes 102 = .ok (.bipush 96, 2) := dk_16 96 (dk_at dksX2_passes_4 10 rfl rfl)
theorem dX2_passes_104 : decode cX2_passes 104 = .ok (.if_icmp .ge 42, 3) := dk_162 0 42 (dk_at dksX2_passes_4 12 rfl rfl)
theorem dX2_passes_107 : decode cX2_passes 107 = .ok (.aload_n 0, 1) := dk_42 (dk_at dksX2_passes_4 15 rfl rfl)
theorem dX2_passes_108 : decode cX2_passes 108 = .ok (.iload_n 1, 1) := dk_27 (dk_at dksX2_passes_4 16 rfl rfl)
theorem dX2_passes_109 : decode cX2_passes 109 = .ok (.invokevirtual 208, 3) := dk_182 0 208 (dk_at dksX2_passes_4 17 rfl rfl)
theorem dX2_passes_112 : decode cX2_passes 112 = .ok (.invokevirtual 317, 3) := dk_182 1 61 (dk_at dksX2_passes_4 20 rfl rfl)
theorem dX2_passes_115 : decode cX2_passes 115 = .ok (.ifCond .eq 25, 3) := dk_153 0 25 (dk_at dksX2_passes_5 0 rfl rfl)
theorem dX2_passes_118 : decode cX2_passes 118 = .ok (.aload_n 0, 1) := dk_42 (dk_at dksX2_passes_5 3 rfl rfl)
theorem dX2_passes_119 : decode cX2_passes 119 = .ok (.getfield 40, 3) := dk_180 0 40 (dk_at dksX2_passes_5 4 rfl rfl)
theorem dX2_passes_122 : decode cX2_passes 122 = .ok (.iload_n 1, 1) := dk_27 (dk_at dksX2_passes_5 7 rfl rfl)
theorem dX2_passes_123 : decode cX2_passes 123 = .ok (.iaload, 1) := dk_46 (dk_at dksX2_passes_5 8 rfl rfl)
theorem dX2_passes_124 : decode cX2_passes 124 = .ok (.aload_n 0, 1) := dk_42 (dk_at dksX2_passes_5 9 rfl rfl)
theorem dX2_passes_125 : decode cX2_passes 125 = .ok (.getfield 120, 3) := dk_180 0 120 (dk_at dksX2_passes_5 10 rfl rfl)
theorem dX2_passes_128 : decode cX2_passes 128 = .ok (.if_icmp .ne 12, 3) := dk_160 0 12 (dk_at dksX2_passes_5 13 rfl rfl)
theorem dX2_passes_131 : decode cX2_passes 131 = .ok (.aload_n 0, 1) := dk_42 (dk_at dksX2_passes_5 16 rfl rfl)
theorem dX2_passes_132 : decode cX2_passes 132 = .ok (.iload_n 1, 1) := dk_27 (dk_at dksX2_passes_5 17 rfl rfl)
theorem dX2_passes_133 : decode cX2_passes 133 = .ok (.aload_n 0, 1) := dk_42 (dk_at dksX2_passes_5 18 rfl rfl)
theorem dX2_passes_134 : decode cX2_passes 134 = .ok (.getfield 57, 3) := dk_180 0 57 (dk_at dksX2_passes_5 19 rfl rfl)
theorem dX2_passes_137 : decode cX2_passes 137 = .ok (.invokevirtual 116, 3) := dk_182 0 116 (dk_at dksX2_passes_6 0 rfl rfl)
theorem dX2_passes_140 : decode cX2_passes 140 = .ok (.iinc 1 1, 3) := dk_132 1 1 (dk_at dksX2_passes_6 3 rfl rfl)
theorem dX2_passes_143 : decode cX2_passes 143 = .ok (.goto (-42), 3) := dk_167 255 214 (dk_at dksX2_passes_6 6 rfl rfl)
theorem dX2_passes_146 : decode cX2_passes 146 = .ok (.aload_n 0, 1) := dk_42 (dk_at dksX2_passes_6 9 rfl rfl)
theorem dX2_passes_147 : decode cX2_passes 147 = .ok (.getfield 120, 3) := dk_180 0 120 (dk_at dksX2_passes_6 10 rfl rfl)
theorem dX2_passes_150 : decode cX2_passes 150 = .ok (.bipush 52, 2) := dk_16 52 (dk_at dksX2_passes_6 13 rfl rfl)
theorem dX2_passes_152 : decode cX2_passes 152 = .ok (.irem, 1) := dk_112 (dk_at dksX2_passes_6 15 rfl rfl)
theorem dX2_passes_153 : decode cX2_passes 153 = .ok (.bipush 51, 2) := dk_16 51 (dk_at dksX2_passes_6 16 rfl rfl)
theorem dX2_passes_155 : decode cX2_passes 155 = .ok (.if_icmp .ne 7, 3) := dk_160 0 7 (dk_at dksX2_passes_6 18 rfl rfl)
theorem dX2_passes_158 : decode cX2_passes 158 = .ok (.aload_n 0, 1) := dk_42 (dk_at dksX2_passes_6 21 rfl rfl)
theorem dX2_passes_159 : decode cX2_passes 159 = .ok (.invokevirtual 319, 3) := dk_182 1 63 (dk_at dksX2_passes_7 0 rfl rfl)
theorem dX2_passes_162 : decode cX2_passes 162 = .ok (.aload_n 0, 1) := dk_42 (dk_at dksX2_passes_7 3 rfl rfl)
theorem dX2_passes_163 : decode cX2_passes 163 = .ok (.getfield 106, 3) := dk_180 0 106 (dk_at dksX2_passes_7 4 rfl rfl)
theorem dX2_passes_166 : decode cX2_passes 166 = .ok (.ifnull 7, 3) := dk_198 0 7 (dk_at dksX2_passes_7 7 rfl rfl)
theorem dX2_passes_169 : decode cX2_passes 169 = .ok (.aload_n 0, 1) := dk_42 (dk_at dksX2_passes_7 10 rfl rfl)
theorem dX2_passes_170 : decode cX2_passes 170 = .ok (.invokevirtual 322, 3) := dk_182 1 66 (dk_at dksX2_passes_7 11 rfl rfl)
theorem dX2_passes_173 : decode cX2_passes 173 = .ok (.aload_n 0, 1) := dk_42 (dk_at dksX2_passes_7 14 rfl rfl)
theorem dX2_passes_174 : decode cX2_passes 174 = .ok (.dup, 1) := dk_89 (dk_at dksX2_passes_7 15 rfl rfl)
theorem dX2_passes_175 : decode cX2_passes 175 = .ok (.getfield 120, 3) := dk_180 0 120 (dk_at dksX2_passes_7 16 rfl rfl)
theorem dX2_passes_178 : decode cX2_passes 178 = .ok (.iconst 1, 1) := dk_4 (dk_at dksX2_passes_7 19 rfl rfl)
theorem dX2_passes_179 : decode cX2_passes 179 = .ok (.iadd, 1) := dk_96 (dk_at dksX2_passes_7 20 rfl rfl)
theorem dX2_passes_180 : decode cX2_passes 180 = .ok (.putfield 120, 3) := dk_181 0 120 (dk_at dksX2_passes_7 21 rfl rfl)
theorem dX2_passes_183 : decode cX2_passes 183 = .ok (.return_, 1) := dk_177 (dk_at dksX2_passes_8 0 rfl rfl)
def dkwX2_lands_3 : List UInt8 := [167, 255, 188, 177]
abbrev dktX2_lands_3 : List UInt8 := dkwX2_lands_3 ++ []
def dkwX2_lands_2 : List UInt8 := [180, 0, 120, 160, 0, 18, 42, 180, 0, 73, 27, 182, 0, 141, 192, 0, 153, 5, 181, 0, 221, 132, 1, 1]
abbrev dktX2_lands_2 : List UInt8 := dkwX2_lands_2 ++ dktX2_lands_3
def dkwX2_lands_1 : List UInt8 := [180, 0, 221, 4, 160, 0, 39, 42, 180, 0, 73, 27, 182, 0, 141, 192, 0, 153, 180, 1, 69, 42]
abbrev dktX2_lands_1 : List UInt8 := dkwX2_lands_1 ++ dktX2_lands_2
def dkwX2_lands_0 : List UInt8 := [3, 60, 27, 42, 180, 0, 73, 182, 0, 149, 162, 0, 63, 42, 180, 0, 73, 27, 182, 0, 141, 192, 0, 153]
abbrev dktX2_lands_0 : List UInt8 := dkwX2_lands_0 ++ dktX2_lands_1
theorem dksX2_lands_0 : cX2_lands.data.toList.drop 0 = dktX2_lands_0 := by decide +kernel
theorem dksX2_lands_1 : cX2_lands.data.toList.drop 24 = dktX2_lands_1 := dk_seg dksX2_lands_0 24 rfl rfl
theorem dksX2_lands_2 : cX2_lands.data.toList.drop 46 = dktX2_lands_2 := dk_seg dksX2_lands_1 22 rfl rfl
theorem dksX2_lands_3 : cX2_lands.data.toList.drop 70 = dktX2_lands_3 := dk_seg dksX2_lands_2 24 rfl rfl
theorem dX2_lands_0 : decode cX2_lands 0 = .ok (.iconst 0, 1) := dk_3 (dk_at dksX2_lands_0 0 rfl rfl)
theorem dX2_lands_1 : decode cX2_lands 1 = .ok (.istore_n 1, 1) := dk_60 (dk_at dksX2_lands_0 1 rfl rfl)
theorem dX2_lands_2 : decode cX2_lands 2 = .ok (.iload_n 1, 1) := dk_27 (dk_at dksX2_lands_0 2 rfl rfl)
theorem dX2_lands_3 : decode cX2_lands 3 = .ok (.aload_n 0, 1) := dk_42 (dk_at dksX2_lands_0 3 rfl rfl)
theorem dX2_lands_4 : decode cX2_lands 4 = .ok (.getfield 73, 3) := dk_180 0 73 (dk_at dksX2_lands_0 4 rfl rfl)
theorem dX2_lands_7 : decode cX2_lands 7 = .ok (.invokevirtual 149, 3) := dk_182 0 149 (dk_at dksX2_lands_0 7 rfl rfl)
theorem dX2_lands_10 : decode cX2_lands 10 = .ok (.if_icmp .ge 63, 3) := dk_162 0 63 (dk_at dksX2_lands_0 10 rfl rfl)
theorem dX2_lands_13 : decode cX2_lands 13 = .ok (.aload_n 0, 1) := dk_42 (dk_at dksX2_lands_0 13 rfl rfl)
theorem dX2_lands_14 : decode cX2_lands 14 = .ok (.getfield 73, 3) := dk_180 0 73 (dk_at dksX2_lands_0 14 rfl rfl)
theorem dX2_lands_17 : decode cX2_lands 17 = .ok (.iload_n 1, 1) := dk_27 (dk_at dksX2_lands_0 17 rfl rfl)
theorem dX2_lands_18 : decode cX2_lands 18 = .ok (.invokevirtual 141, 3) := dk_182 0 141 (dk_at dksX2_lands_0 18 rfl rfl)
theorem dX2_lands_21 : decode cX2_lands 21 = .ok (.checkcast 153, 3) := dk_192 0 153 (dk_at dksX2_lands_0 21 rfl rfl)
theorem dX2_lands_24 : decode cX2_lands 24 = .ok (.getfield 221, 3) := dk_180 0 221 (dk_at dksX2_lands_1 0 rfl rfl)
theorem dX2_lands_27 : decode cX2_lands 27 = .ok (.iconst 1, 1) := dk_4 (dk_at dksX2_lands_1 3 rfl rfl)
theorem dX2_lands_28 : decode cX2_lands 28 = .ok (.if_icmp .ne 39, 3) := dk_160 0 39 (dk_at dksX2_lands_1 4 rfl rfl)
theorem dX2_lands_31 : decode cX2_lands 31 = .ok (.aload_n 0, 1) := dk_42 (dk_at dksX2_lands_1 7 rfl rfl)
theorem dX2_lands_32 : decode cX2_lands 32 = .ok (.getfield 73, 3) := dk_180 0 73 (dk_at dksX2_lands_1 8 rfl rfl)
theorem dX2_lands_35 : decode cX2_lands 35 = .ok (.iload_n 1, 1) := dk_27 (dk_at dksX2_lands_1 11 rfl rfl)
theorem dX2_lands_36 : decode cX2_lands 36 = .ok (.invokevirtual 141, 3) := dk_182 0 141 (dk_at dksX2_lands_1 12 rfl rfl)
theorem dX2_lands_39 : decode cX2_lands 39 = .ok (.checkcast 153, 3) := dk_192 0 153 (dk_at dksX2_lands_1 15 rfl rfl)
theorem dX2_lands_42 : decode cX2_lands 42 = .ok (.getfield 325, 3) := dk_180 1 69 (dk_at dksX2_lands_1 18 rfl rfl)
theorem dX2_lands_45 : decode cX2_lands 45 = .ok (.aload_n 0, 1) := dk_42 (dk_at dksX2_lands_1 21 rfl rfl)
theorem dX2_lands_46 : decode cX2_lands 46 = .ok (.getfield 120, 3) := dk_180 0 120 (dk_at dksX2_lands_2 0 rfl rfl)
theorem dX2_lands_49 : decode cX2_lands 49 = .ok (.if_icmp .ne 18, 3) := dk_160 0 18 (dk_at dksX2_lands_2 3 rfl rfl)
theorem dX2_lands_52 : decode cX2_lands 52 = .ok (.aload_n 0, 1) := dk_42 (dk_at dksX2_lands_2 6 rfl rfl)
theorem dX2_lands_53 : decode cX2_lands 53 = .ok (.getfield 73, 3) := dk_180 0 73 (dk_at dksX2_lands_2 7 rfl rfl)
theorem dX2_lands_56 : decode cX2_lands 56 = .ok (.iload_n 1, 1) := dk_27 (dk_at dksX2_lands_2 10 rfl rfl)
theorem dX2_lands_57 : decode cX2_lands 57 = .ok (.invokevirtual 141, 3) := dk_182 0 141 (dk_at dksX2_lands_2 11 rfl rfl)
theorem dX2_lands_60 : decode cX2_lands 60 = .ok (.checkcast 153, 3) := dk_192 0 153 (dk_at dksX2_lands_2 14 rfl rfl)
theorem dX2_lands_63 : decode cX2_lands 63 = .ok (.iconst 2, 1) := dk_5 (dk_at dksX2_lands_2 17 rfl rfl)
theorem dX2_lands_64 : decode cX2_lands 64 = .ok (.putfield 221, 3) := dk_181 0 221 (dk_at dksX2_lands_2 18 rfl rfl)
theorem dX2_lands_67 : decode cX2_lands 67 = .ok (.iinc 1 1, 3) := dk_132 1 1 (dk_at dksX2_lands_2 21 rfl rfl)
theorem dX2_lands_70 : decode cX2_lands 70 = .ok (.goto (-68), 3) := dk_167 255 188 (dk_at dksX2_lands_3 0 rfl rfl)
theorem dX2_lands_73 : decode cX2_lands 73 = .ok (.return_, 1) := dk_177 (dk_at dksX2_lands_3 3 rfl rfl)
def dkwX2_reads_4 : List UInt8 := [167, 255, 227, 177]
abbrev dktX2_reads_4 : List UInt8 := dkwX2_reads_4 ++ []
def dkwX2_reads_3 : List UInt8 := [182, 0, 149, 162, 0, 24, 42, 42, 180, 0, 82, 27, 182, 0, 141, 192, 0, 186, 182, 1, 77, 132, 1, 1]
abbrev dktX2_reads_3 : List UInt8 := dkwX2_reads_3 ++ dktX2_reads_4
def dkwX2_reads_2 : List UInt8 := [180, 0, 120, 160, 0, 8, 42, 27, 182, 1, 75, 132, 1, 1, 167, 255, 198, 3, 60, 27, 42, 180, 0, 82]
abbrev dktX2_reads_2 : List UInt8 := dkwX2_reads_2 ++ dktX2_reads_3
def dkwX2_reads_1 : List UInt8 := [180, 1, 71, 5, 160, 0, 29, 42, 180, 0, 79, 27, 182, 0, 141, 192, 0, 174, 180, 1, 72, 42]
abbrev dktX2_reads_1 : List UInt8 := dkwX2_reads_1 ++ dktX2_reads_2
def dkwX2_reads_0 : List UInt8 := [3, 60, 27, 42, 180, 0, 79, 182, 0, 149, 162, 0, 53, 42, 180, 0, 79, 27, 182, 0, 141, 192, 0, 174]
abbrev dktX2_reads_0 : List UInt8 := dkwX2_reads_0 ++ dktX2_reads_1
theorem dksX2_reads_0 : cX2_reads.data.toList.drop 0 = dktX2_reads_0 := by decide +kernel
theorem dksX2_reads_1 : cX2_reads.data.toList.drop 24 = dktX2_reads_1 := dk_seg dksX2_reads_0 24 rfl rfl
theorem dksX2_reads_2 : cX2_reads.data.toList.drop 46 = dktX2_reads_2 := dk_seg dksX2_reads_1 22 rfl rfl
theorem dksX2_reads_3 : cX2_reads.data.toList.drop 70 = dktX2_reads_3 := dk_seg dksX2_reads_2 24 rfl rfl
theorem dksX2_reads_4 : cX2_reads.data.toList.drop 94 = dktX2_reads_4 := dk_seg dksX2_reads_3 24 rfl rfl
theorem dX2_reads_0 : decode cX2_reads 0 = .ok (.iconst 0, 1) := dk_3 (dk_at dksX2_reads_0 0 rfl rfl)
theorem dX2_reads_1 : decode cX2_reads 1 = .ok (.istore_n 1, 1) := dk_60 (dk_at dksX2_reads_0 1 rfl rfl)
theorem dX2_reads_2 : decode cX2_reads 2 = .ok (.iload_n 1, 1) := dk_27 (dk_at dksX2_reads_0 2 rfl rfl)
theorem dX2_reads_3 : decode cX2_reads 3 = .ok (.aload_n 0, 1) := dk_42 (dk_at dksX2_reads_0 3 rfl rfl)
theorem dX2_reads_4 : decode cX2_reads 4 = .ok (.getfield 79, 3) := dk_180 0 79 (dk_at dksX2_reads_0 4 rfl rfl)
theorem dX2_reads_7 : decode cX2_reads 7 = .ok (.invokevirtual 149, 3) := dk_182 0 149 (dk_at dksX2_reads_0 7 rfl rfl)
theorem dX2_reads_10 : decode cX2_reads 10 = .ok (.if_icmp .ge 53, 3) := dk_162 0 53 (dk_at dksX2_reads_0 10 rfl rfl)
theorem dX2_reads_13 : decode cX2_reads 13 = .ok (.aload_n 0, 1) := dk_42 (dk_at dksX2_reads_0 13 rfl rfl)
theorem dX2_reads_14 : decode cX2_reads 14 = .ok (.getfield 79, 3) := dk_180 0 79 (dk_at dksX2_reads_0 14 rfl rfl)
theorem dX2_reads_17 : decode cX2_reads 17 = .ok (.iload_n 1, 1) := dk_27 (dk_at dksX2_reads_0 17 rfl rfl)
theorem dX2_reads_18 : decode cX2_reads 18 = .ok (.invokevirtual 141, 3) := dk_182 0 141 (dk_at dksX2_reads_0 18 rfl rfl)
theorem dX2_reads_21 : decode cX2_reads 21 = .ok (.checkcast 174, 3) := dk_192 0 174 (dk_at dksX2_reads_0 21 rfl rfl)
theorem dX2_reads_24 : decode cX2_reads 24 = .ok (.getfield 327, 3) := dk_180 1 71 (dk_at dksX2_reads_1 0 rfl rfl)
theorem dX2_reads_27 : decode cX2_reads 27 = .ok (.iconst 2, 1) := dk_5 (dk_at dksX2_reads_1 3 rfl rfl)
theorem dX2_reads_28 : decode cX2_reads 28 = .ok (.if_icmp .ne 29, 3) := dk_160 0 29 (dk_at dksX2_reads_1 4 rfl rfl)
theorem dX2_reads_31 : decode cX2_reads 31 = .ok (.aload_n 0, 1) := dk_42 (dk_at dksX2_reads_1 7 rfl rfl)
theorem dX2_reads_32 : decode cX2_reads 32 = .ok (.getfield 79, 3) := dk_180 0 79 (dk_at dksX2_reads_1 8 rfl rfl)
theorem dX2_reads_35 : decode cX2_reads 35 = .ok (.iload_n 1, 1) := dk_27 (dk_at dksX2_reads_1 11 rfl rfl)
theorem dX2_reads_36 : decode cX2_reads 36 = .ok (.invokevirtual 141, 3) := dk_182 0 141 (dk_at dksX2_reads_1 12 rfl rfl)
theorem dX2_reads_39 : decode cX2_reads 39 = .ok (.checkcast 174, 3) := dk_192 0 174 (dk_at dksX2_reads_1 15 rfl rfl)
theorem dX2_reads_42 : decode cX2_reads 42 = .ok (.getfield 328, 3) := dk_180 1 72 (dk_at dksX2_reads_1 18 rfl rfl)
theorem dX2_reads_45 : decode cX2_reads 45 = .ok (.aload_n 0, 1) := dk_42 (dk_at dksX2_reads_1 21 rfl rfl)
theorem dX2_reads_46 : decode cX2_reads 46 = .ok (.getfield 120, 3) := dk_180 0 120 (dk_at dksX2_reads_2 0 rfl rfl)
theorem dX2_reads_49 : decode cX2_reads 49 = .ok (.if_icmp .ne 8, 3) := dk_160 0 8 (dk_at dksX2_reads_2 3 rfl rfl)
theorem dX2_reads_52 : decode cX2_reads 52 = .ok (.aload_n 0, 1) := dk_42 (dk_at dksX2_reads_2 6 rfl rfl)
theorem dX2_reads_53 : decode cX2_reads 53 = .ok (.iload_n 1, 1) := dk_27 (dk_at dksX2_reads_2 7 rfl rfl)
theorem dX2_reads_54 : decode cX2_reads 54 = .ok (.invokevirtual 331, 3) := dk_182 1 75 (dk_at dksX2_reads_2 8 rfl rfl)
theorem dX2_reads_57 : decode cX2_reads 57 = .ok (.iinc 1 1, 3) := dk_132 1 1 (dk_at dksX2_reads_2 11 rfl rfl)
theorem dX2_reads_60 : decode cX2_reads 60 = .ok (.goto (-58), 3) := dk_167 255 198 (dk_at dksX2_reads_2 14 rfl rfl)
theorem dX2_reads_63 : decode cX2_reads 63 = .ok (.iconst 0, 1) := dk_3 (dk_at dksX2_reads_2 17 rfl rfl)
theorem dX2_reads_64 : decode cX2_reads 64 = .ok (.istore_n 1, 1) := dk_60 (dk_at dksX2_reads_2 18 rfl rfl)
theorem dX2_reads_65 : decode cX2_reads 65 = .ok (.iload_n 1, 1) := dk_27 (dk_at dksX2_reads_2 19 rfl rfl)
theorem dX2_reads_66 : decode cX2_reads 66 = .ok (.aload_n 0, 1) := dk_42 (dk_at dksX2_reads_2 20 rfl rfl)
theorem dX2_reads_67 : decode cX2_reads 67 = .ok (.getfield 82, 3) := dk_180 0 82 (dk_at dksX2_reads_2 21 rfl rfl)
theorem dX2_reads_70 : decode cX2_reads 70 = .ok (.invokevirtual 149, 3) := dk_182 0 149 (dk_at dksX2_reads_3 0 rfl rfl)
theorem dX2_reads_73 : decode cX2_reads 73 = .ok (.if_icmp .ge 24, 3) := dk_162 0 24 (dk_at dksX2_reads_3 3 rfl rfl)
theorem dX2_reads_76 : decode cX2_reads 76 = .ok (.aload_n 0, 1) := dk_42 (dk_at dksX2_reads_3 6 rfl rfl)
theorem dX2_reads_77 : decode cX2_reads 77 = .ok (.aload_n 0, 1) := dk_42 (dk_at dksX2_reads_3 7 rfl rfl)
theorem dX2_reads_78 : decode cX2_reads 78 = .ok (.getfield 82, 3) := dk_180 0 82 (dk_at dksX2_reads_3 8 rfl rfl)
theorem dX2_reads_81 : decode cX2_reads 81 = .ok (.iload_n 1, 1) := dk_27 (dk_at dksX2_reads_3 11 rfl rfl)
theorem dX2_reads_82 : decode cX2_reads 82 = .ok (.invokevirtual 141, 3) := dk_182 0 141 (dk_at dksX2_reads_3 12 rfl rfl)
theorem dX2_reads_85 : decode cX2_reads 85 = .ok (.checkcast 186, 3) := dk_192 0 186 (dk_at dksX2_reads_3 15 rfl rfl)
theorem dX2_reads_88 : decode cX2_reads 88 = .ok (.invokevirtual 333, 3) := dk_182 1 77 (dk_at dksX2_reads_3 18 rfl rfl)
theorem dX2_reads_91 : decode cX2_reads 91 = .ok (.iinc 1 1, 3) := dk_132 1 1 (dk_at dksX2_reads_3 21 rfl rfl)
theorem dX2_reads_94 : decode cX2_reads 94 = .ok (.goto (-29), 3) := dk_167 255 227 (dk_at dksX2_reads_4 0 rfl rfl)
theorem dX2_reads_97 : decode cX2_reads 97 = .ok (.return_, 1) := dk_177 (dk_at dksX2_reads_4 3 rfl rfl)
def dkwX2_reads_2_6 : List UInt8 := [132, 3, 1, 167, 255, 162, 177]
abbrev dktX2_reads_2_6 : List UInt8 := dkwX2_reads_2_6 ++ []
def dkwX2_reads_2_5 : List UInt8 := [182, 1, 101, 42, 89, 180, 0, 15, 25, 4, 182, 1, 98, 100, 181, 0, 15, 42, 29, 182, 1, 104]
abbrev dktX2_reads_2_5 : List UInt8 := dkwX2_reads_2_5 ++ dktX2_reads_2_6
def dkwX2_reads_2_4 : List UInt8 := [167, 0, 45, 42, 180, 0, 73, 25, 4, 182, 1, 97, 182, 0, 141, 192, 0, 153, 25, 4, 182, 1, 98]
abbrev dktX2_reads_2_4 : List UInt8 := dkwX2_reads_2_4 ++ dktX2_reads_2_5
def dkwX2_reads_2_3 : List UInt8 := [192, 0, 109, 182, 1, 89, 58, 4, 25, 4, 198, 0, 57, 25, 4, 27, 182, 1, 93, 154, 0, 6]
abbrev dktX2_reads_2_3 : List UInt8 := dkwX2_reads_2_3 ++ dktX2_reads_2_4
def dkwX2_reads_2_2 : List UInt8 := [16, 96, 162, 0, 94, 44, 180, 0, 176, 180, 1, 86, 153, 0, 84, 42, 180, 0, 29, 29, 182, 0, 141]
abbrev dktX2_reads_2_2 : List UInt8 := dkwX2_reads_2_2 ++ dktX2_reads_2_3
def dkwX2_reads_2_1 : List UInt8 := [7, 181, 1, 71, 44, 180, 1, 79, 153, 0, 4, 177, 44, 42, 180, 0, 120, 181, 1, 83, 3, 62, 29]
abbrev dktX2_reads_2_1 : List UInt8 := dkwX2_reads_2_1 ++ dktX2_reads_2_2
def dkwX2_reads_2_0 : List UInt8 := [42, 180, 0, 79, 27, 182, 0, 141, 192, 0, 174, 77, 44, 44, 180, 1, 79, 153, 0, 7, 6, 167, 0, 4]
abbrev dktX2_reads_2_0 : List UInt8 := dkwX2_reads_2_0 ++ dktX2_reads_2_1
theorem dksX2_reads_2_0 : cX2_reads_2.data.toList.drop 0 = dktX2_reads_2_0 := by decide +kernel
theorem dksX2_reads_2_1 : cX2_reads_2.data.toList.drop 24 = dktX2_reads_2_1 := dk_seg dksX2_reads_2_0 24 rfl rfl
theorem dksX2_reads_2_2 : cX2_reads_2.data.toList.drop 47 = dktX2_reads_2_2 := dk_seg dksX2_reads_2_1 23 rfl rfl
theorem dksX2_reads_2_3 : cX2_reads_2.data.toList.drop 70 = dktX2_reads_2_3 := dk_seg dksX2_reads_2_2 23 rfl rfl
theorem dksX2_reads_2_4 : cX2_reads_2.data.toList.drop 92 = dktX2_reads_2_4 := dk_seg dksX2_reads_2_3 22 rfl rfl
theorem dksX2_reads_2_5 : cX2_reads_2.data.toList.drop 115 = dktX2_reads_2_5 := dk_seg dksX2_reads_2_4 23 rfl rfl
theorem dksX2_reads_2_6 : cX2_reads_2.data.toList.drop 137 = dktX2_reads_2_6 := dk_seg dksX2_reads_2_5 22 rfl rfl
theorem dX2_reads_2_0 : decode cX2_reads_2 0 = .ok (.aload_n 0, 1) := dk_42 (dk_at dksX2_reads_2_0 0 rfl rfl)
theorem dX2_reads_2_1 : decode cX2_reads_2 1 = .ok (.getfield 79, 3) := dk_180 0 79 (dk_at dksX2_reads_2_0 1 rfl rfl)
theorem dX2_reads_2_4 : decode cX2_reads_2 4 = .ok (.iload_n 1, 1) := dk_27 (dk_at dksX2_reads_2_0 4 rfl rfl)
theorem dX2_reads_2_5 : decode cX2_reads_2 5 = .ok (.invokevirtual 141, 3) := dk_182 0 141 (dk_at dksX2_reads_2_0 5 rfl rfl)
theorem dX2_reads_2_8 : decode cX2_reads_2 8 = .ok (.checkcast 174, 3) := dk_192 0 174 (dk_at dksX2_reads_2_0 8 rfl rfl)
theorem dX2_reads_2_11 : decode cX2_reads_2 11 = .ok (.astore_n 2, 1) := dk_77 (dk_at dksX2_reads_2_0 11 rfl rfl)
theorem dX2_reads_2_12 : decode cX2_reads_2 12 = .ok (.aload_n 2, 1) := dk_44 (dk_at dksX2_reads_2_0 12 rfl rfl)
theorem dX2_reads_2_13 : decode cX2_reads_2 13 = .ok (.aload_n 2, 1) := dk_44 (dk_at dksX2_reads_2_0 13 rfl rfl)
theorem dX2_reads_2_14 : decode cX2_reads_2 14 = .ok (.getfield 335, 3) := dk_180 1 79 (dk_at dksX2_reads_2_0 14 rfl rfl)
theorem dX2_reads_2_17 : decode cX2_reads_2 17 = .ok (.ifCond .eq 7, 3) := dk_153 0 7 (dk_at dksX2_reads_2_0 17 rfl rfl)
theorem dX2_reads_2_20 : decode cX2_reads_2 20 = .ok (.iconst 3, 1) := dk_6 (dk_at dksX2_reads_2_0 20 rfl rfl)
theorem dX2_reads_2_21 : decode cX2_reads_2 21 = .ok (.goto 4, 3) := dk_167 0 4 (dk_at dksX2_reads_2_0 21 rfl rfl)
theorem dX2_reads_2_24 : decode cX2_reads_2 24 = .ok (.iconst 4, 1) := dk_7 (dk_at dksX2_reads_2_1 0 rfl rfl)
theorem dX2_reads_2_25 : decode cX2_reads_2 25 = .ok (.putfield 327, 3) := dk_181 1 71 (dk_at dksX2_reads_2_1 1 rfl rfl)
theorem dX2_reads_2_28 : decode cX2_reads_2 28 = .ok (.aload_n 2, 1) := dk_44 (dk_at dksX2_reads_2_1 4 rfl rfl)
theorem dX2_reads_2_29 : decode cX2_reads_2 29 = .ok (.getfield 335, 3) := dk_180 1 79 (dk_at dksX2_reads_2_1 5 rfl rfl)
theorem dX2_reads_2_32 : decode cX2_reads_2 32 = .ok (.ifCond .eq 4, 3) := dk_153 0 4 (dk_at dksX2_reads_2_1 8 rfl rfl)
theorem dX2_reads_2_35 : decode cX2_reads_2 35 = .ok (.return_, 1) := dk_177 (dk_at dksX2_reads_2_1 11 rfl rfl)
theorem dX2_reads_2_36 : decode cX2_reads_2 36 = .ok (.aload_n 2, 1) := dk_44 (dk_at dksX2_reads_2_1 12 rfl rfl)
theorem dX2_reads_2_37 : decode cX2_reads_2 37 = .ok (.aload_n 0, 1) := dk_42 (dk_at dksX2_reads_2_1 13 rfl rfl)
theorem dX2_reads_2_38 : decode cX2_reads_2 38 = .ok (.getfield 120, 3) := dk_180 0 120 (dk_at dksX2_reads_2_1 14 rfl rfl)
theorem dX2_reads_2_41 : decode cX2_reads_2 41 = .ok (.putfield 339, 3) := dk_181 1 83 (dk_at dksX2_reads_2_1 17 rfl rfl)
theorem dX2_reads_2_44 : decode cX2_reads_2 44 = .ok (.iconst 0, 1) := dk_3 (dk_at dksX2_reads_2_1 20 rfl rfl)
theorem dX2_reads_2_45 : decode cX2_reads_2 45 = .ok (.istore_n 3, 1) := dk_62 (dk_at dksX2_reads_2_1 21 rfl rfl)
theorem dX2_reads_2_46 : decode cX2_reads_2 46 = .ok (.iload_n 3, 1) := dk_29 (dk_at dksX2_reads_2_1 22 rfl rfl)
theorem dX2_reads_2_47 : decode cX2_reads_2 47 = .ok (.bipush 96, 2) := dk_16 96 (dk_at dksX2_reads_2_2 0 rfl rfl)
theorem dX2_reads_2_49 : decode cX2_reads_2 49 = .ok (.if_icmp .ge 94, 3) := dk_162 0 94 (dk_at dksX2_reads_2_2 2 rfl rfl)
theorem dX2_reads_2_52 : decode cX2_reads_2 52 = .ok (.aload_n 2, 1) := dk_44 (dk_at dksX2_reads_2_2 5 rfl rfl)
theorem dX2_reads_2_53 : decode cX2_reads_2 53 = .ok (.getfield 176, 3) := dk_180 0 176 (dk_at dksX2_reads_2_2 6 rfl rfl)
theorem dX2_reads_2_56 : decode cX2_reads_2 56 = .ok (.getfield 342, 3) := dk_180 1 86 (dk_at dksX2_reads_2_2 9 rfl rfl)
theorem dX2_reads_2_59 : decode cX2_reads_2 59 = .ok (.ifCond .eq 84, 3) := dk_153 0 84 (dk_at dksX2_reads_2_2 12 rfl rfl)
theorem dX2_reads_2_62 : decode cX2_reads_2 62 = .ok (.aload_n 0, 1) := dk_42 (dk_at dksX2_reads_2_2 15 rfl rfl)
theorem dX2_reads_2_63 : decode cX2_reads_2 63 = .ok (.getfield 29, 3) := dk_180 0 29 (dk_at dksX2_reads_2_2 16 rfl rfl)
theorem dX2_reads_2_66 : decode cX2_reads_2 66 = .ok (.iload_n 3, 1) := dk_29 (dk_at dksX2_reads_2_2 19 rfl rfl)
theorem dX2_reads_2_67 : decode cX2_reads_2 67 = .ok (.invokevirtual 141, 3) := dk_182 0 141 (dk_at dksX2_reads_2_2 20 rfl rfl)
theorem dX2_reads_2_70 : decode cX2_reads_2 70 = .ok (.checkcast 109, 3) := dk_192 0 109 (dk_at dksX2_reads_2_3 0 rfl rfl)
theorem dX2_reads_2_73 : decode cX2_reads_2 73 = .ok (.invokevirtual 345, 3) := dk_182 1 89 (dk_at dksX2_reads_2_3 3 rfl rfl)
theorem dX2_reads_2_76 : decode cX2_reads_2 76 = .ok (.astore 4, 2) := dk_58 4 (dk_at dksX2_reads_2_3 6 rfl rfl)
theorem dX2_reads_2_78 : decode cX2_reads_2 78 = .ok (.aload 4, 2) := dk_25 4 (dk_at dksX2_reads_2_3 8 rfl rfl)
theorem dX2_reads_2_80 : decode cX2_reads_2 80 = .ok (.ifnull 57, 3) := dk_198 0 57 (dk_at dksX2_reads_2_3 10 rfl rfl)
theorem dX2_reads_2_83 : decode cX2_reads_2 83 = .ok (.aload 4, 2) := dk_25 4 (dk_at dksX2_reads_2_3 13 rfl rfl)
theorem dX2_reads_2_85 : decode cX2_reads_2 85 = .ok (.iload_n 1, 1) := dk_27 (dk_at dksX2_reads_2_3 15 rfl rfl)
theorem dX2_reads_2_86 : decode cX2_reads_2 86 = .ok (.invokevirtual 349, 3) := dk_182 1 93 (dk_at dksX2_reads_2_3 16 rfl rfl)
theorem dX2_reads_2_89 : decode cX2_reads_2 89 = .ok (.ifCond .ne 6, 3) := dk_154 0 6 (dk_at dksX2_reads_2_3 19 rfl rfl)
theorem dX2_reads_2_92 : decode cX2_reads_2 92 = .ok (.goto 45, 3) := dk_167 0 45 (dk_at dksX2_reads_2_4 0 rfl rfl)
theorem dX2_reads_2_95 : decode cX2_reads_2 95 = .ok (.aload_n 0, 1) := dk_42 (dk_at dksX2_reads_2_4 3 rfl rfl)
theorem dX2_reads_2_96 : decode cX2_reads_2 96 = .ok (.getfield 73, 3) := dk_180 0 73 (dk_at dksX2_reads_2_4 4 rfl rfl)
theorem dX2_reads_2_99 : decode cX2_reads_2 99 = .ok (.aload 4, 2) := dk_25 4 (dk_at dksX2_reads_2_4 7 rfl rfl)
theorem dX2_reads_2_101 : decode cX2_reads_2 101 = .ok (.invokevirtual 353, 3) := dk_182 1 97 (dk_at dksX2_reads_2_4 9 rfl rfl)
theorem dX2_reads_2_104 : decode cX2_reads_2 104 = .ok (.invokevirtual 141, 3) := dk_182 0 141 (dk_at dksX2_reads_2_4 12 rfl rfl)
theorem dX2_reads_2_107 : decode cX2_reads_2 107 = .ok (.checkcast 153, 3) := dk_192 0 153 (dk_at dksX2_reads_2_4 15 rfl rfl)
theorem dX2_reads_2_110 : decode cX2_reads_2 110 = .ok (.aload 4, 2) := dk_25 4 (dk_at dksX2_reads_2_4 18 rfl rfl)
theorem dX2_reads_2_112 : decode cX2_reads_2 112 = .ok (.invokevirtual 354, 3) := dk_182 1 98 (dk_at dksX2_reads_2_4 20 rfl rfl)
theorem dX2_reads_2_115 : decode cX2_reads_2 115 = .ok (.invokevirtual 357, 3) := dk_182 1 101 (dk_at dksX2_reads_2_5 0 rfl rfl)
theorem dX2_reads_2_118 : decode cX2_reads_2 118 = .ok (.aload_n 0, 1) := dk_42 (dk_at dksX2_reads_2_5 3 rfl rfl)
theorem dX2_reads_2_119 : decode cX2_reads_2 119 = .ok (.dup, 1) := dk_89 (dk_at dksX2_reads_2_5 4 rfl rfl)
theorem dX2_reads_2_120 : decode cX2_reads_2 120 = .ok (.getfield 15, 3) := dk_180 0 15 (dk_at dksX2_reads_2_5 5 rfl rfl)
theorem dX2_reads_2_123 : decode cX2_reads_2 123 = .ok (.aload 4, 2) := dk_25 4 (dk_at dksX2_reads_2_5 8 rfl rfl)
theorem dX2_reads_2_125 : decode cX2_reads_2 125 = .ok (.invokevirtual 354, 3) := dk_182 1 98 (dk_at dksX2_reads_2_5 10 rfl rfl)
theorem dX2_reads_2_128 : decode cX2_reads_2 128 = .ok (.isub, 1) := dk_100 (dk_at dksX2_reads_2_5 13 rfl rfl)
theorem dX2_reads_2_129 : decode cX2_reads_2 129 = .ok (.putfield 15, 3) := dk_181 0 15 (dk_at dksX2_reads_2_5 14 rfl rfl)
theorem dX2_reads_2_132 : decode cX2_reads_2 132 = .ok (.aload_n 0, 1) := dk_42 (dk_at dksX2_reads_2_5 17 rfl rfl)
theorem dX2_reads_2_133 : decode cX2_reads_2 133 = .ok (.iload_n 3, 1) := dk_29 (dk_at dksX2_reads_2_5 18 rfl rfl)
theorem dX2_reads_2_134 : decode cX2_reads_2 134 = .ok (.invokevirtual 360, 3) := dk_182 1 104 (dk_at dksX2_reads_2_5 19 rfl rfl)
theorem dX2_reads_2_137 : decode cX2_reads_2 137 = .ok (.iinc 3 1, 3) := dk_132 3 1 (dk_at dksX2_reads_2_6 0 rfl rfl)
theorem dX2_reads_2_140 : decode cX2_reads_2 140 = .ok (.goto (-94), 3) := dk_167 255 162 (dk_at dksX2_reads_2_6 3 rfl rfl)
theorem dX2_reads_2_143 : decode cX2_reads_2 143 = .ok (.return_, 1) := dk_177 (dk_at dksX2_reads_2_6 6 rfl rfl)
def dkwX2_falls_5 : List UInt8 := [182, 1, 13, 132, 3, 1, 167, 255, 188, 177]
abbrev dktX2_falls_5 : List UInt8 := dkwX2_falls_5 ++ []
def dkwX2_falls_4 : List UInt8 := [180, 1, 18, 44, 180, 1, 27, 160, 0, 18, 42, 42, 180, 0, 73, 29, 182, 0, 141, 192, 0, 153]
abbrev dktX2_falls_4 : List UInt8 := dkwX2_falls_4 ++ dktX2_falls_5
def dkwX2_falls_3 : List UInt8 := [182, 0, 141, 192, 0, 153, 180, 0, 221, 6, 160, 0, 39, 42, 180, 0, 73, 29, 182, 0, 141, 192, 0, 153]
abbrev dktX2_falls_3 : List UInt8 := dkwX2_falls_3 ++ dktX2_falls_4
def dkwX2_falls_2 : List UInt8 := [44, 5, 181, 0, 221, 3, 62, 29, 42, 180, 0, 73, 182, 0, 149, 162, 0, 63, 42, 180, 0, 73, 29]
abbrev dktX2_falls_2 : List UInt8 := dkwX2_falls_2 ++ dktX2_falls_3
def dkwX2_falls_1 : List UInt8 := [180, 0, 57, 182, 0, 116, 44, 89, 180, 1, 16, 4, 100, 181, 1, 16, 44, 180, 1, 16, 158, 0, 4, 177]
abbrev dktX2_falls_1 : List UInt8 := dkwX2_falls_1 ++ dktX2_falls_2
def dkwX2_falls_0 : List UInt8 := [42, 180, 0, 73, 42, 27, 182, 0, 208, 182, 1, 24, 182, 0, 141, 192, 0, 153, 77, 42, 27, 42]
abbrev dktX2_falls_0 : List UInt8 := dkwX2_falls_0 ++ dktX2_falls_1
theorem dksX2_falls_0 : cX2_falls.data.toList.drop 0 = dktX2_falls_0 := by decide +kernel
theorem dksX2_falls_1 : cX2_falls.data.toList.drop 22 = dktX2_falls_1 := dk_seg dksX2_falls_0 22 rfl rfl
theorem dksX2_falls_2 : cX2_falls.data.toList.drop 46 = dktX2_falls_2 := dk_seg dksX2_falls_1 24 rfl rfl
theorem dksX2_falls_3 : cX2_falls.data.toList.drop 69 = dktX2_falls_3 := dk_seg dksX2_falls_2 23 rfl rfl
theorem dksX2_falls_4 : cX2_falls.data.toList.drop 93 = dktX2_falls_4 := dk_seg dksX2_falls_3 24 rfl rfl
theorem dksX2_falls_5 : cX2_falls.data.toList.drop 115 = dktX2_falls_5 := dk_seg dksX2_falls_4 22 rfl rfl
theorem dX2_falls_0 : decode cX2_falls 0 = .ok (.aload_n 0, 1) := dk_42 (dk_at dksX2_falls_0 0 rfl rfl)
theorem dX2_falls_1 : decode cX2_falls 1 = .ok (.getfield 73, 3) := dk_180 0 73 (dk_at dksX2_falls_0 1 rfl rfl)
theorem dX2_falls_4 : decode cX2_falls 4 = .ok (.aload_n 0, 1) := dk_42 (dk_at dksX2_falls_0 4 rfl rfl)
theorem dX2_falls_5 : decode cX2_falls 5 = .ok (.iload_n 1, 1) := dk_27 (dk_at dksX2_falls_0 5 rfl rfl)
theorem dX2_falls_6 : decode cX2_falls 6 = .ok (.invokevirtual 208, 3) := dk_182 0 208 (dk_at dksX2_falls_0 6 rfl rfl)
theorem dX2_falls_9 : decode cX2_falls 9 = .ok (.invokevirtual 280, 3) := dk_182 1 24 (dk_at dksX2_falls_0 9 rfl rfl)
theorem dX2_falls_12 : decode cX2_falls 12 = .ok (.invokevirtual 141, 3) := dk_182 0 141 (dk_at dksX2_falls_0 12 rfl rfl)
theorem dX2_falls_15 : decode cX2_falls 15 = .ok (.checkcast 153, 3) := dk_192 0 153 (dk_at dksX2_falls_0 15 rfl rfl)
theorem dX2_falls_18 : decode cX2_falls 18 = .ok (.astore_n 2, 1) := dk_77 (dk_at dksX2_falls_0 18 rfl rfl)
theorem dX2_falls_19 : decode cX2_falls 19 = .ok (.aload_n 0, 1) := dk_42 (dk_at dksX2_falls_0 19 rfl rfl)
theorem dX2_falls_20 : decode cX2_falls 20 = .ok (.iload_n 1, 1) := dk_27 (dk_at dksX2_falls_0 20 rfl rfl)
theorem dX2_falls_21 : decode cX2_falls 21 = .ok (.aload_n 0, 1) := dk_42 (dk_at dksX2_falls_0 21 rfl rfl)
theorem dX2_falls_22 : decode cX2_falls 22 = .ok (.getfield 57, 3) := dk_180 0 57 (dk_at dksX2_falls_1 0 rfl rfl)
theorem dX2_falls_25 : decode cX2_falls 25 = .ok (.invokevirtual 116, 3) := dk_182 0 116 (dk_at dksX2_falls_1 3 rfl rfl)
theorem dX2_falls_28 : decode cX2_falls 28 = .ok (.aload_n 2, 1) := dk_44 (dk_at dksX2_falls_1 6 rfl rfl)
theorem dX2_falls_29 : decode cX2_falls 29 = .ok (.dup, 1) := dk_89 (dk_at dksX2_falls_1 7 rfl rfl)
theorem dX2_falls_30 : decode cX2_falls 30 = .ok (.getfield 272, 3) := dk_180 1 16 (dk_at dksX2_falls_1 8 rfl rfl)
theorem dX2_falls_33 : decode cX2_falls 33 = .ok (.iconst 1, 1) := dk_4 (dk_at dksX2_falls_1 11 rfl rfl)
theorem dX2_falls_34 : decode cX2_falls 34 = .ok (.isub, 1) := dk_100 (dk_at dksX2_falls_1 12 rfl rfl)
theorem dX2_falls_35 : decode cX2_falls 35 = .ok (.putfield 272, 3) := dk_181 1 16 (dk_at dksX2_falls_1 13 rfl rfl)
theorem dX2_falls_38 : decode cX2_falls 38 = .ok (.aload_n 2, 1) := dk_44 (dk_at dksX2_falls_1 16 rfl rfl)
theorem dX2_falls_39 : decode cX2_falls 39 = .ok (.getfield 272, 3) := dk_180 1 16 (dk_at dksX2_falls_1 17 rfl rfl)
theorem dX2_falls_42 : decode cX2_falls 42 = .ok (.ifCond .le 4, 3) := dk_158 0 4 (dk_at dksX2_falls_1 20 rfl rfl)
theorem dX2_falls_45 : decode cX2_falls 45 = .ok (.return_, 1) := dk_177 (dk_at dksX2_falls_1 23 rfl rfl)
theorem dX2_falls_46 : decode cX2_falls 46 = .ok (.aload_n 2, 1) := dk_44 (dk_at dksX2_falls_2 0 rfl rfl)
theorem dX2_falls_47 : decode cX2_falls 47 = .ok (.iconst 2, 1) := dk_5 (dk_at dksX2_falls_2 1 rfl rfl)
theorem dX2_falls_48 : decode cX2_falls 48 = .ok (.putfield 221, 3) := dk_181 0 221 (dk_at dksX2_falls_2 2 rfl rfl)
theorem dX2_falls_51 : decode cX2_falls 51 = .ok (.iconst 0, 1) := dk_3 (dk_at dksX2_falls_2 5 rfl rfl)
theorem dX2_falls_52 : decode cX2_falls 52 = .ok (.istore_n 3, 1) := dk_62 (dk_at dksX2_falls_2 6 rfl rfl)
theorem dX2_falls_53 : decode cX2_falls 53 = .ok (.iload_n 3, 1) := dk_29 (dk_at dksX2_falls_2 7 rfl rfl)
theorem dX2_falls_54 : decode cX2_falls 54 = .ok (.aload_n 0, 1) := dk_42 (dk_at dksX2_falls_2 8 rfl rfl)
theorem dX2_falls_55 : decode cX2_falls 55 = .ok (.getfield 73, 3) := dk_180 0 73 (dk_at dksX2_falls_2 9 rfl rfl)
theorem dX2_falls_58 : decode cX2_falls 58 = .ok (.invokevirtual 149, 3) := dk_182 0 149 (dk_at dksX2_falls_2 12 rfl rfl)
theorem dX2_falls_61 : decode cX2_falls 61 = .ok (.if_icmp .ge 63, 3) := dk_162 0 63 (dk_at dksX2_falls_2 15 rfl rfl)
theorem dX2_falls_64 : decode cX2_falls 64 = .ok (.aload_n 0, 1) := dk_42 (dk_at dksX2_falls_2 18 rfl rfl)
theorem dX2_falls_65 : decode cX2_falls 65 = .ok (.getfield 73, 3) := dk_180 0 73 (dk_at dksX2_falls_2 19 rfl rfl)
theorem dX2_falls_68 : decode cX2_falls 68 = .ok (.iload_n 3, 1) := dk_29 (dk_at dksX2_falls_2 22 rfl rfl)
theorem dX2_falls_69 : decode cX2_falls 69 = .ok (.invokevirtual 141, 3) := dk_182 0 141 (dk_at dksX2_falls_3 0 rfl rfl)
theorem dX2_falls_72 : decode cX2_falls 72 = .ok (.checkcast 153, 3) := dk_192 0 153 (dk_at dksX2_falls_3 3 rfl rfl)
theorem dX2_falls_75 : decode cX2_falls 75 = .ok (.getfield 221, 3) := dk_180 0 221 (dk_at dksX2_falls_3 6 rfl rfl)
theorem dX2_falls_78 : decode cX2_falls 78 = .ok (.iconst 3, 1) := dk_6 (dk_at dksX2_falls_3 9 rfl rfl)
theorem dX2_falls_79 : decode cX2_falls 79 = .ok (.if_icmp .ne 39, 3) := dk_160 0 39 (dk_at dksX2_falls_3 10 rfl rfl)
theorem dX2_falls_82 : decode cX2_falls 82 = .ok (.aload_n 0, 1) := dk_42 (dk_at dksX2_falls_3 13 rfl rfl)
theorem dX2_falls_83 : decode cX2_falls 83 = .ok (.getfield 73, 3) := dk_180 0 73 (dk_at dksX2_falls_3 14 rfl rfl)
theorem dX2_falls_86 : decode cX2_falls 86 = .ok (.iload_n 3, 1) := dk_29 (dk_at dksX2_falls_3 17 rfl rfl)
theorem dX2_falls_87 : decode cX2_falls 87 = .ok (.invokevirtual 141, 3) := dk_182 0 141 (dk_at dksX2_falls_3 18 rfl rfl)
theorem dX2_falls_90 : decode cX2_falls 90 = .ok (.checkcast 153, 3) := dk_192 0 153 (dk_at dksX2_falls_3 21 rfl rfl)
theorem dX2_falls_93 : decode cX2_falls 93 = .ok (.getfield 274, 3) := dk_180 1 18 (dk_at dksX2_falls_4 0 rfl rfl)
theorem dX2_falls_96 : decode cX2_falls 96 = .ok (.aload_n 2, 1) := dk_44 (dk_at dksX2_falls_4 3 rfl rfl)
theorem dX2_falls_97 : decode cX2_falls 97 = .ok (.getfield 283, 3) := dk_180 1 27 (dk_at dksX2_falls_4 4 rfl rfl)
theorem dX2_falls_100 : decode cX2_falls 100 = .ok (.if_icmp .ne 18, 3) := dk_160 0 18 (dk_at dksX2_falls_4 7 rfl rfl)
theorem dX2_falls_103 : decode cX2_falls 103 = .ok (.aload_n 0, 1) := dk_42 (dk_at dksX2_falls_4 10 rfl rfl)
theorem dX2_falls_104 : decode cX2_falls 104 = .ok (.aload_n 0, 1) := dk_42 (dk_at dksX2_falls_4 11 rfl rfl)
theorem dX2_falls_105 : decode cX2_falls 105 = .ok (.getfield 73, 3) := dk_180 0 73 (dk_at dksX2_falls_4 12 rfl rfl)
theorem dX2_falls_108 : decode cX2_falls 108 = .ok (.iload_n 3, 1) := dk_29 (dk_at dksX2_falls_4 15 rfl rfl)
theorem dX2_falls_109 : decode cX2_falls 109 = .ok (.invokevirtual 141, 3) := dk_182 0 141 (dk_at dksX2_falls_4 16 rfl rfl)
theorem dX2_falls_112 : decode cX2_falls 112 = .ok (.checkcast 153, 3) := dk_192 0 153 (dk_at dksX2_falls_4 19 rfl rfl)
theorem dX2_falls_115 : decode cX2_falls 115 = .ok (.invokevirtual 269, 3) := dk_182 1 13 (dk_at dksX2_falls_5 0 rfl rfl)
theorem dX2_falls_118 : decode cX2_falls 118 = .ok (.iinc 3 1, 3) := dk_132 3 1 (dk_at dksX2_falls_5 3 rfl rfl)
theorem dX2_falls_121 : decode cX2_falls 121 = .ok (.goto (-68), 3) := dk_167 255 188 (dk_at dksX2_falls_5 6 rfl rfl)
theorem dX2_falls_124 : decode cX2_falls 124 = .ok (.return_, 1) := dk_177 (dk_at dksX2_falls_5 9 rfl rfl)
def dkwX2_reads_3_5 : List UInt8 := [181, 0, 15, 177]
abbrev dktX2_reads_3_5 : List UInt8 := dkwX2_reads_3_5 ++ []
def dkwX2_reads_3_4 : List UInt8 := [180, 0, 15, 43, 180, 0, 188, 43, 180, 0, 188, 16, 20, 104, 16, 100, 108, 96, 43, 180, 1, 107, 96, 100]
abbrev dktX2_reads_3_4 : List UInt8 := dkwX2_reads_3_4 ++ dktX2_reads_3_5
def dkwX2_reads_3_3 : List UInt8 := [160, 0, 51, 42, 180, 0, 120, 43, 180, 0, 191, 16, 68, 96, 160, 0, 37, 43, 6, 181, 1, 106, 42, 89]
abbrev dktX2_reads_3_3 : List UInt8 := dkwX2_reads_3_3 ++ dktX2_reads_3_4
def dkwX2_reads_3_2 : List UInt8 := [160, 0, 75, 42, 89, 180, 0, 129, 43, 180, 0, 188, 100, 181, 0, 129, 167, 0, 59, 43, 180, 1, 106, 5]
abbrev dktX2_reads_3_2 : List UInt8 := dkwX2_reads_3_2 ++ dktX2_reads_3_3
def dkwX2_reads_3_1 : List UInt8 := [180, 0, 129, 43, 180, 0, 188, 161, 0, 7, 4, 167, 0, 4, 5, 181, 1, 106, 43, 180, 1, 106, 4]
abbrev dktX2_reads_3_1 : List UInt8 := dkwX2_reads_3_1 ++ dktX2_reads_3_2
def dkwX2_reads_3_0 : List UInt8 := [43, 180, 1, 106, 154, 0, 61, 42, 180, 0, 120, 43, 180, 0, 191, 16, 34, 96, 160, 0, 47, 43, 42]
abbrev dktX2_reads_3_0 : List UInt8 := dkwX2_reads_3_0 ++ dktX2_reads_3_1
theorem dksX2_reads_3_0 : cX2_reads_3.data.toList.drop 0 = dktX2_reads_3_0 := by decide +kernel
theorem dksX2_reads_3_1 : cX2_reads_3.data.toList.drop 23 = dktX2_reads_3_1 := dk_seg dksX2_reads_3_0 23 rfl rfl
theorem dksX2_reads_3_2 : cX2_reads_3.data.toList.drop 46 = dktX2_reads_3_2 := dk_seg dksX2_reads_3_1 23 rfl rfl
theorem dksX2_reads_3_3 : cX2_reads_3.data.toList.drop 70 = dktX2_reads_3_3 := dk_seg dksX2_reads_3_2 24 rfl rfl
theorem dksX2_reads_3_4 : cX2_reads_3.data.toList.drop 94 = dktX2_reads_3_4 := dk_seg dksX2_reads_3_3 24 rfl rfl
theorem dksX2_reads_3_5 : cX2_reads_3.data.toList.drop 118 = dktX2_reads_3_5 := dk_seg dksX2_reads_3_4 24 rfl rfl
theorem dX2_reads_3_0 : decode cX2_reads_3 0 = .ok (.aload_n 1, 1) := dk_43 (dk_at dksX2_reads_3_0 0 rfl rfl)
theorem dX2_reads_3_1 : decode cX2_reads_3 1 = .ok (.getfield 362, 3) := dk_180 1 106 (dk_at dksX2_reads_3_0 1 rfl rfl)
theorem dX2_reads_3_4 : decode cX2_reads_3 4 = .ok (.ifCond .ne 61, 3) := dk_154 0 61 (dk_at dksX2_reads_3_0 4 rfl rfl)
theorem dX2_reads_3_7 : decode cX2_reads_3 7 = .ok (.aload_n 0, 1) := dk_42 (dk_at dksX2_reads_3_0 7 rfl rfl)
theorem dX2_reads_3_8 : decode cX2_reads_3 8 = .ok (.getfield 120, 3) := dk_180 0 120 (dk_at dksX2_reads_3_0 8 rfl rfl)
theorem dX2_reads_3_11 : decode cX2_reads_3 11 = .ok (.aload_n 1, 1) := dk_43 (dk_at dksX2_reads_3_0 11 rfl rfl)
theorem dX2_reads_3_12 : decode cX2_reads_3 12 = .ok (.getfield 191, 3) := dk_180 0 191 (dk_at dksX2_reads_3_0 12 rfl rfl)
theorem dX2_reads_3_15 : decode cX2_reads_3 15 = .ok (.bipush 34, 2) := dk_16 34 (dk_at dksX2_reads_3_0 15 rfl rfl)
theorem dX2_reads_3_17 : decode cX2_reads_3 17 = .ok (.iadd, 1) := dk_96 (dk_at dksX2_reads_3_0 17 rfl rfl)
theorem dX2_reads_3_18 : decode cX2_reads_3 18 = .ok (.if_icmp .ne 47, 3) := dk_160 0 47 (dk_at dksX2_reads_3_0 18 rfl rfl)
theorem dX2_reads_3_21 : decode cX2_reads_3 21 = .ok (.aload_n 1, 1) := dk_43 (dk_at dksX2_reads_3_0 21 rfl rfl)
theorem dX2_reads_3_22 : decode cX2_reads_3 22 = .ok (.aload_n 0, 1) := dk_42 (dk_at dksX2_reads_3_0 22 rfl rfl)
theorem dX2_reads_3_23 : decode cX2_reads_3 23 = .ok (.getfield 129, 3) := dk_180 0 129 (dk_at dksX2_reads_3_1 0 rfl rfl)
theorem dX2_reads_3_26 : decode cX2_reads_3 26 = .ok (.aload_n 1, 1) := dk_43 (dk_at dksX2_reads_3_1 3 rfl rfl)
theorem dX2_reads_3_27 : decode cX2_reads_3 27 = .ok (.getfield 188, 3) := dk_180 0 188 (dk_at dksX2_reads_3_1 4 rfl rfl)
theorem dX2_reads_3_30 : decode cX2_reads_3 30 = .ok (.if_icmp .lt 7, 3) := dk_161 0 7 (dk_at dksX2_reads_3_1 7 rfl rfl)
theorem dX2_reads_3_33 : decode cX2_reads_3 33 = .ok (.iconst 1, 1) := dk_4 (dk_at dksX2_reads_3_1 10 rfl rfl)
theorem dX2_reads_3_34 : decode cX2_reads_3 34 = .ok (.goto 4, 3) := dk_167 0 4 (dk_at dksX2_reads_3_1 11 rfl rfl)
theorem dX2_reads_3_37 : decode cX2_reads_3 37 = .ok (.iconst 2, 1) := dk_5 (dk_at dksX2_reads_3_1 14 rfl rfl)
theorem dX2_reads_3_38 : decode cX2_reads_3 38 = .ok (.putfield 362, 3) := dk_181 1 106 (dk_at dksX2_reads_3_1 15 rfl rfl)
theorem dX2_reads_3_41 : decode cX2_reads_3 41 = .ok (.aload_n 1, 1) := dk_43 (dk_at dksX2_reads_3_1 18 rfl rfl)
theorem dX2_reads_3_42 : decode cX2_reads_3 42 = .ok (.getfield 362, 3) := dk_180 1 106 (dk_at dksX2_reads_3_1 19 rfl rfl)
theorem dX2_reads_3_45 : decode cX2_reads_3 45 = .ok (.iconst 1, 1) := dk_4 (dk_at dksX2_reads_3_1 22 rfl rfl)
theorem dX2_reads_3_46 : decode cX2_reads_3 46 = .ok (.if_icmp .ne 75, 3) := dk_160 0 75 (dk_at dksX2_reads_3_2 0 rfl rfl)
theorem dX2_reads_3_49 : decode cX2_reads_3 49 = .ok (.aload_n 0, 1) := dk_42 (dk_at dksX2_reads_3_2 3 rfl rfl)
theorem dX2_reads_3_50 : decode cX2_reads_3 50 = .ok (.dup, 1) := dk_89 (dk_at dksX2_reads_3_2 4 rfl rfl)
theorem dX2_reads_3_51 : decode cX2_reads_3 51 = .ok (.getfield 129, 3) := dk_180 0 129 (dk_at dksX2_reads_3_2 5 rfl rfl)
theorem dX2_reads_3_54 : decode cX2_reads_3 54 = .ok (.aload_n 1, 1) := dk_43 (dk_at dksX2_reads_3_2 8 rfl rfl)
theorem dX2_reads_3_55 : decode cX2_reads_3 55 = .ok (.getfield 188, 3) := dk_180 0 188 (dk_at dksX2_reads_3_2 9 rfl rfl)
theorem dX2_reads_3_58 : decode cX2_reads_3 58 = .ok (.isub, 1) := dk_100 (dk_at dksX2_reads_3_2 12 rfl rfl)
theorem dX2_reads_3_59 : decode cX2_reads_3 59 = .ok (.putfield 129, 3) := dk_181 0 129 (dk_at dksX2_reads_3_2 13 rfl rfl)
theorem dX2_reads_3_62 : decode cX2_reads_3 62 = .ok (.goto 59, 3) := dk_167 0 59 (dk_at dksX2_reads_3_2 16 rfl rfl)
theorem dX2_reads_3_65 : decode cX2_reads_3 65 = .ok (.aload_n 1, 1) := dk_43 (dk_at dksX2_reads_3_2 19 rfl rfl)
theorem dX2_reads_3_66 : decode cX2_reads_3 66 = .ok (.getfield 362, 3) := dk_180 1 106 (dk_at dksX2_reads_3_2 20 rfl rfl)
theorem dX2_reads_3_69 : decode cX2_reads_3 69 = .ok (.iconst 2, 1) := dk_5 (dk_at dksX2_reads_3_2 23 rfl rfl)
theorem dX2_reads_3_70 : decode cX2_reads_3 70 = .ok (.if_icmp .ne 51, 3) := dk_160 0 51 (dk_at dksX2_reads_3_3 0 rfl rfl)
theorem dX2_reads_3_73 : decode cX2_reads_3 73 = .ok (.aload_n 0, 1) := dk_42 (dk_at dksX2_reads_3_3 3 rfl rfl)
theorem dX2_reads_3_74 : decode cX2_reads_3 74 = .ok (.getfield 120, 3) := dk_180 0 120 (dk_at dksX2_reads_3_3 4 rfl rfl)
theorem dX2_reads_3_77 : decode cX2_reads_3 77 = .ok (.aload_n 1, 1) := dk_43 (dk_at dksX2_reads_3_3 7 rfl rfl)
theorem dX2_reads_3_78 : decode cX2_reads_3 78 = .ok (.getfield 191, 3) := dk_180 0 191 (dk_at dksX2_reads_3_3 8 rfl rfl)
theorem dX2_reads_3_81 : decode cX2_reads_3 81 = .ok (.bipush 68, 2) := dk_16 68 (dk_at dksX2_reads_3_3 11 rfl rfl)
theorem dX2_reads_3_83 : decode cX2_reads_3 83 = .ok (.iadd, 1) := dk_96 (dk_at dksX2_reads_3_3 13 rfl rfl)
theorem dX2_reads_3_84 : decode cX2_reads_3 84 = .ok (.if_icmp .ne 37, 3) := dk_160 0 37 (dk_at dksX2_reads_3_3 14 rfl rfl)
theorem dX2_reads_3_87 : decode cX2_reads_3 87 = .ok (.aload_n 1, 1) := dk_43 (dk_at dksX2_reads_3_3 17 rfl rfl)
theorem dX2_reads_3_88 : decode cX2_reads_3 88 = .ok (.iconst 3, 1) := dk_6 (dk_at dksX2_reads_3_3 18 rfl rfl)
theorem dX2_reads_3_89 : decode cX2_reads_3 89 = .ok (.putfield 362, 3) := dk_181 1 106 (dk_at dksX2_reads_3_3 19 rfl rfl)
theorem dX2_reads_3_92 : decode cX2_reads_3 92 = .ok (.aload_n 0, 1) := dk_42 (dk_at dksX2_reads_3_3 22 rfl rfl)
theorem dX2_reads_3_93 : decode cX2_reads_3 93 = .ok (.dup, 1) := dk_89 (dk_at dksX2_reads_3_3 23 rfl rfl)
theorem dX2_reads_3_94 : decode cX2_reads_3 94 = .ok (.getfield 15, 3) := dk_180 0 15 (dk_at dksX2_reads_3_4 0 rfl rfl)
theorem dX2_reads_3_97 : decode cX2_reads_3 97 = .ok (.aload_n 1, 1) := dk_43 (dk_at dksX2_reads_3_4 3 rfl rfl)
theorem dX2_reads_3_98 : decode cX2_reads_3 98 = .ok (.getfield 188, 3) := dk_180 0 188 (dk_at dksX2_reads_3_4 4 rfl rfl)
theorem dX2_reads_3_101 : decode cX2_reads_3 101 = .ok (.aload_n 1, 1) := dk_43 (dk_at dksX2_reads_3_4 7 rfl rfl)
theorem dX2_reads_3_102 : decode cX2_reads_3 102 = .ok (.getfield 188, 3) := dk_180 0 188 (dk_at dksX2_reads_3_4 8 rfl rfl)
theorem dX2_reads_3_105 : decode cX2_reads_3 105 = .ok (.bipush 20, 2) := dk_16 20 (dk_at dksX2_reads_3_4 11 rfl rfl)
theorem dX2_reads_3_107 : decode cX2_reads_3 107 = .ok (.imul, 1) := dk_104 (dk_at dksX2_reads_3_4 13 rfl rfl)
theorem dX2_reads_3_108 : decode cX2_reads_3 108 = .ok (.bipush 100, 2) := dk_16 100 (dk_at dksX2_reads_3_4 14 rfl rfl)
theorem dX2_reads_3_110 : decode cX2_reads_3 110 = .ok (.idiv, 1) := dk_108 (dk_at dksX2_reads_3_4 16 rfl rfl)
theorem dX2_reads_3_111 : decode cX2_reads_3 111 = .ok (.iadd, 1) := dk_96 (dk_at dksX2_reads_3_4 17 rfl rfl)
theorem dX2_reads_3_112 : decode cX2_reads_3 112 = .ok (.aload_n 1, 1) := dk_43 (dk_at dksX2_reads_3_4 18 rfl rfl)
theorem dX2_reads_3_113 : decode cX2_reads_3 113 = .ok (.getfield 363, 3) := dk_180 1 107 (dk_at dksX2_reads_3_4 19 rfl rfl)
theorem dX2_reads_3_116 : decode cX2_reads_3 116 = .ok (.iadd, 1) := dk_96 (dk_at dksX2_reads_3_4 22 rfl rfl)
theorem dX2_reads_3_117 : decode cX2_reads_3 117 = .ok (.isub, 1) := dk_100 (dk_at dksX2_reads_3_4 23 rfl rfl)
theorem dX2_reads_3_118 : decode cX2_reads_3 118 = .ok (.putfield 15, 3) := dk_181 0 15 (dk_at dksX2_reads_3_5 0 rfl rfl)
theorem dX2_reads_3_121 : decode cX2_reads_3 121 = .ok (.return_, 1) := dk_177 (dk_at dksX2_reads_3_5 3 rfl rfl)
def dkwX2_works_5 : List UInt8 := [167, 255, 141, 177]
abbrev dktX2_works_5 : List UInt8 := dkwX2_works_5 ++ []
def dkwX2_works_4 : List UInt8 := [89, 180, 1, 147, 4, 96, 181, 1, 147, 42, 89, 180, 0, 126, 4, 96, 181, 0, 126, 132, 1, 1]
abbrev dktX2_works_4 : List UInt8 := dkwX2_works_4 ++ dktX2_works_5
def dkwX2_works_3 : List UInt8 := [182, 1, 144, 42, 180, 0, 9, 158, 0, 16, 42, 89, 180, 0, 9, 4, 100, 181, 0, 9, 167, 0, 23, 44]
abbrev dktX2_works_3 : List UInt8 := dkwX2_works_3 ++ dktX2_works_4
def dkwX2_works_2 : List UInt8 := [44, 180, 0, 221, 7, 159, 0, 8, 42, 44, 182, 1, 141, 44, 180, 0, 221, 5, 160, 0, 8, 42, 44]
abbrev dktX2_works_2 : List UInt8 := dkwX2_works_2 ++ dktX2_works_3
def dkwX2_works_1 : List UInt8 := [77, 44, 182, 0, 218, 154, 0, 6, 167, 0, 82, 44, 180, 0, 221, 6, 160, 0, 8, 42, 44, 182, 1, 138]
abbrev dktX2_works_1 : List UInt8 := dkwX2_works_1 ++ dktX2_works_2
def dkwX2_works_0 : List UInt8 := [3, 60, 27, 42, 180, 0, 73, 182, 0, 149, 162, 0, 110, 42, 180, 0, 73, 27, 182, 0, 141, 192, 0, 153]
abbrev dktX2_works_0 : List UInt8 := dkwX2_works_0 ++ dktX2_works_1
theorem dksX2_works_0 : cX2_works.data.toList.drop 0 = dktX2_works_0 := by decide +kernel
theorem dksX2_works_1 : cX2_works.data.toList.drop 24 = dktX2_works_1 := dk_seg dksX2_works_0 24 rfl rfl
theorem dksX2_works_2 : cX2_works.data.toList.drop 48 = dktX2_works_2 := dk_seg dksX2_works_1 24 rfl rfl
theorem dksX2_works_3 : cX2_works.data.toList.drop 71 = dktX2_works_3 := dk_seg dksX2_works_2 23 rfl rfl
theorem dksX2_works_4 : cX2_works.data.toList.drop 95 = dktX2_works_4 := dk_seg dksX2_works_3 24 rfl rfl
theorem dksX2_works_5 : cX2_works.data.toList.drop 117 = dktX2_works_5 := dk_seg dksX2_works_4 22 rfl rfl
theorem dX2_works_0 : decode cX2_works 0 = .ok (.iconst 0, 1) := dk_3 (dk_at dksX2_works_0 0 rfl rfl)
theorem dX2_works_1 : decode cX2_works 1 = .ok (.istore_n 1, 1) := dk_60 (dk_at dksX2_works_0 1 rfl rfl)
theorem dX2_works_2 : decode cX2_works 2 = .ok (.iload_n 1, 1) := dk_27 (dk_at dksX2_works_0 2 rfl rfl)
theorem dX2_works_3 : decode cX2_works 3 = .ok (.aload_n 0, 1) := dk_42 (dk_at dksX2_works_0 3 rfl rfl)
theorem dX2_works_4 : decode cX2_works 4 = .ok (.getfield 73, 3) := dk_180 0 73 (dk_at dksX2_works_0 4 rfl rfl)
theorem dX2_works_7 : decode cX2_works 7 = .ok (.invokevirtual 149, 3) := dk_182 0 149 (dk_at dksX2_works_0 7 rfl rfl)
theorem dX2_works_10 : decode cX2_works 10 = .ok (.if_icmp .ge 110, 3) := dk_162 0 110 (dk_at dksX2_works_0 10 rfl rfl)
theorem dX2_works_13 : decode cX2_works 13 = .ok (.aload_n 0, 1) := dk_42 (dk_at dksX2_works_0 13 rfl rfl)
theorem dX2_works_14 : decode cX2_works 14 = .ok (.getfield 73, 3) := dk_180 0 73 (dk_at dksX2_works_0 14 rfl rfl)
theorem dX2_works_17 : decode cX2_works 17 = .ok (.iload_n 1, 1) := dk_27 (dk_at dksX2_works_0 17 rfl rfl)
theorem dX2_works_18 : decode cX2_works 18 = .ok (.invokevirtual 141, 3) := dk_182 0 141 (dk_at dksX2_works_0 18 rfl rfl)
theorem dX2_works_21 : decode cX2_works 21 = .ok (.checkcast 153, 3) := dk_192 0 153 (dk_at dksX2_works_0 21 rfl rfl)
theorem dX2_works_24 : decode cX2_works 24 = .ok (.astore_n 2, 1) := dk_77 (dk_at dksX2_works_1 0 rfl rfl)
theorem dX2_works_25 : decode cX2_works 25 = .ok (.aload_n 2, 1) := dk_44 (dk_at dksX2_works_1 1 rfl rfl)
theorem dX2_works_26 : decode cX2_works 26 = .ok (.invokevirtual 218, 3) := dk_182 0 218 (dk_at dksX2_works_1 2 rfl rfl)
theorem dX2_works_29 : decode cX2_works 29 = .ok (.ifCond .ne 6, 3) := dk_154 0 6 (dk_at dksX2_works_1 5 rfl rfl)
theorem dX2_works_32 : decode cX2_works 32 = .ok (.goto 82, 3) := dk_167 0 82 (dk_at dksX2_works_1 8 rfl rfl)
theorem dX2_works_35 : decode cX2_works 35 = .ok (.aload_n 2, 1) := dk_44 (dk_at dksX2_works_1 11 rfl rfl)
theorem dX2_works_36 : decode cX2_works 36 = .ok (.getfield 221, 3) := dk_180 0 221 (dk_at dksX2_works_1 12 rfl rfl)
theorem dX2_works_39 : decode cX2_works 39 = .ok (.iconst 3, 1) := dk_6 (dk_at dksX2_works_1 15 rfl rfl)
theorem dX2_works_40 : decode cX2_works 40 = .ok (.if_icmp .ne 8, 3) := dk_160 0 8 (dk_at dksX2_works_1 16 rfl rfl)
theorem dX2_works_43 : decode cX2_works 43 = .ok (.aload_n 0, 1) := dk_42 (dk_at dksX2_works_1 19 rfl rfl)
theorem dX2_works_44 : decode cX2_works 44 = .ok (.aload_n 2, 1) := dk_44 (dk_at dksX2_works_1 20 rfl rfl)
theorem dX2_works_45 : decode cX2_works 45 = .ok (.invokevirtual 394, 3) := dk_182 1 138 (dk_at dksX2_works_1 21 rfl rfl)
theorem dX2_works_48 : decode cX2_works 48 = .ok (.aload_n 2, 1) := dk_44 (dk_at dksX2_works_2 0 rfl rfl)
theorem dX2_works_49 : decode cX2_works 49 = .ok (.getfield 221, 3) := dk_180 0 221 (dk_at dksX2_works_2 1 rfl rfl)
theorem dX2_works_52 : decode cX2_works 52 = .ok (.iconst 4, 1) := dk_7 (dk_at dksX2_works_2 4 rfl rfl)
theorem dX2_works_53 : decode cX2_works 53 = .ok (.if_icmp .eq 8, 3) := dk_159 0 8 (dk_at dksX2_works_2 5 rfl rfl)
theorem dX2_works_56 : decode cX2_works 56 = .ok (.aload_n 0, 1) := dk_42 (dk_at dksX2_works_2 8 rfl rfl)
theorem dX2_works_57 : decode cX2_works 57 = .ok (.aload_n 2, 1) := dk_44 (dk_at dksX2_works_2 9 rfl rfl)
theorem dX2_works_58 : decode cX2_works 58 = .ok (.invokevirtual 397, 3) := dk_182 1 141 (dk_at dksX2_works_2 10 rfl rfl)
theorem dX2_works_61 : decode cX2_works 61 = .ok (.aload_n 2, 1) := dk_44 (dk_at dksX2_works_2 13 rfl rfl)
theorem dX2_works_62 : decode cX2_works 62 = .ok (.getfield 221, 3) := dk_180 0 221 (dk_at dksX2_works_2 14 rfl rfl)
theorem dX2_works_65 : decode cX2_works 65 = .ok (.iconst 2, 1) := dk_5 (dk_at dksX2_works_2 17 rfl rfl)
theorem dX2_works_66 : decode cX2_works 66 = .ok (.if_icmp .ne 8, 3) := dk_160 0 8 (dk_at dksX2_works_2 18 rfl rfl)
theorem dX2_works_69 : decode cX2_works 69 = .ok (.aload_n 0, 1) := dk_42 (dk_at dksX2_works_2 21 rfl rfl)
theorem dX2_works_70 : decode cX2_works 70 = .ok (.aload_n 2, 1) := dk_44 (dk_at dksX2_works_2 22 rfl rfl)
theorem dX2_works_71 : decode cX2_works 71 = .ok (.invokevirtual 400, 3) := dk_182 1 144 (dk_at dksX2_works_3 0 rfl rfl)
theorem dX2_works_74 : decode cX2_works 74 = .ok (.aload_n 0, 1) := dk_42 (dk_at dksX2_works_3 3 rfl rfl)
theorem dX2_works_75 : decode cX2_works 75 = .ok (.getfield 9, 3) := dk_180 0 9 (dk_at dksX2_works_3 4 rfl rfl)
theorem dX2_works_78 : decode cX2_works 78 = .ok (.ifCond .le 16, 3) := dk_158 0 16 (dk_at dksX2_works_3 7 rfl rfl)
theorem dX2_works_81 : decode cX2_works 81 = .ok (.aload_n 0, 1) := dk_42 (dk_at dksX2_works_3 10 rfl rfl)
theorem dX2_works_82 : decode cX2_works 82 = .ok (.dup, 1) := dk_89 (dk_at dksX2_works_3 11 rfl rfl)
theorem dX2_works_83 : decode cX2_works 83 = .ok (.getfield 9, 3) := dk_180 0 9 (dk_at dksX2_works_3 12 rfl rfl)
theorem dX2_works_86 : decode cX2_works 86 = .ok (.iconst 1, 1) := dk_4 (dk_at dksX2_works_3 15 rfl rfl)
theorem dX2_works_87 : decode cX2_works 87 = .ok (.isub, 1) := dk_100 (dk_at dksX2_works_3 16 rfl rfl)
theorem dX2_works_88 : decode cX2_works 88 = .ok (.putfield 9, 3) := dk_181 0 9 (dk_at dksX2_works_3 17 rfl rfl)
theorem dX2_works_91 : decode cX2_works 91 = .ok (.goto 23, 3) := dk_167 0 23 (dk_at dksX2_works_3 20 rfl rfl)
theorem dX2_works_94 : decode cX2_works 94 = .ok (.aload_n 2, 1) := dk_44 (dk_at dksX2_works_3 23 rfl rfl)
theorem dX2_works_95 : decode cX2_works 95 = .ok (.dup, 1) := dk_89 (dk_at dksX2_works_4 0 rfl rfl)
theorem dX2_works_96 : decode cX2_works 96 = .ok (.getfield 403, 3) := dk_180 1 147 (dk_at dksX2_works_4 1 rfl rfl)
theorem dX2_works_99 : decode cX2_works 99 = .ok (.iconst 1, 1) := dk_4 (dk_at dksX2_works_4 4 rfl rfl)
theorem dX2_works_100 : decode cX2_works 100 = .ok (.iadd, 1) := dk_96 (dk_at dksX2_works_4 5 rfl rfl)
theorem dX2_works_101 : decode cX2_works 101 = .ok (.putfield 403, 3) := dk_181 1 147 (dk_at dksX2_works_4 6 rfl rfl)
theorem dX2_works_104 : decode cX2_works 104 = .ok (.aload_n 0, 1) := dk_42 (dk_at dksX2_works_4 9 rfl rfl)
theorem dX2_works_105 : decode cX2_works 105 = .ok (.dup, 1) := dk_89 (dk_at dksX2_works_4 10 rfl rfl)
theorem dX2_works_106 : decode cX2_works 106 = .ok (.getfield 126, 3) := dk_180 0 126 (dk_at dksX2_works_4 11 rfl rfl)
theorem dX2_works_109 : decode cX2_works 109 = .ok (.iconst 1, 1) := dk_4 (dk_at dksX2_works_4 14 rfl rfl)
theorem dX2_works_110 : decode cX2_works 110 = .ok (.iadd, 1) := dk_96 (dk_at dksX2_works_4 15 rfl rfl)
theorem dX2_works_111 : decode cX2_works 111 = .ok (.putfield 126, 3) := dk_181 0 126 (dk_at dksX2_works_4 16 rfl rfl)
theorem dX2_works_114 : decode cX2_works 114 = .ok (.iinc 1 1, 3) := dk_132 1 1 (dk_at dksX2_works_4 19 rfl rfl)
theorem dX2_works_117 : decode cX2_works 117 = .ok (.goto (-115), 3) := dk_167 255 141 (dk_at dksX2_works_5 0 rfl rfl)
theorem dX2_works_120 : decode cX2_works 120 = .ok (.return_, 1) := dk_177 (dk_at dksX2_works_5 3 rfl rfl)
def dkwX2_isPaid_2 : List UInt8 := [29, 182, 1, 101, 177]
abbrev dktX2_isPaid_2 : List UInt8 := dkwX2_isPaid_2 ++ []
def dkwX2_isPaid_1 : List UInt8 := [180, 1, 33, 29, 162, 0, 9, 42, 43, 182, 1, 13, 177, 44, 89, 180, 1, 33, 29, 100, 181, 1, 33, 43]
abbrev dktX2_isPaid_1 : List UInt8 := dkwX2_isPaid_1 ++ dktX2_isPaid_2
def dkwX2_isPaid_0 : List UInt8 := [42, 180, 0, 73, 43, 180, 1, 18, 182, 0, 141, 192, 0, 153, 77, 42, 5, 3, 182, 1, 30, 62, 44]
abbrev dktX2_isPaid_0 : List UInt8 := dkwX2_isPaid_0 ++ dktX2_isPaid_1
theorem dksX2_isPaid_0 : cX2_isPaid.data.toList.drop 0 = dktX2_isPaid_0 := by decide +kernel
theorem dksX2_isPaid_1 : cX2_isPaid.data.toList.drop 23 = dktX2_isPaid_1 := dk_seg dksX2_isPaid_0 23 rfl rfl
theorem dksX2_isPaid_2 : cX2_isPaid.data.toList.drop 47 = dktX2_isPaid_2 := dk_seg dksX2_isPaid_1 24 rfl rfl
theorem dX2_isPaid_0 : decode cX2_isPaid 0 = .ok (.aload_n 0, 1) := dk_42 (dk_at dksX2_isPaid_0 0 rfl rfl)
theorem dX2_isPaid_1 : decode cX2_isPaid 1 = .ok (.getfield 73, 3) := dk_180 0 73 (dk_at dksX2_isPaid_0 1 rfl rfl)
theorem dX2_isPaid_4 : decode cX2_isPaid 4 = .ok (.aload_n 1, 1) := dk_43 (dk_at dksX2_isPaid_0 4 rfl rfl)
theorem dX2_isPaid_5 : decode cX2_isPaid 5 = .ok (.getfield 274, 3) := dk_180 1 18 (dk_at dksX2_isPaid_0 5 rfl rfl)
theorem dX2_isPaid_8 : decode cX2_isPaid 8 = .ok (.invokevirtual 141, 3) := dk_182 0 141 (dk_at dksX2_isPaid_0 8 rfl rfl)
theorem dX2_isPaid_11 : decode cX2_isPaid 11 = .ok (.checkcast 153, 3) := dk_192 0 153 (dk_at dksX2_isPaid_0 11 rfl rfl)
theorem dX2_isPaid_14 : decode cX2_isPaid 14 = .ok (.astore_n 2, 1) := dk_77 (dk_at dksX2_isPaid_0 14 rfl rfl)
theorem dX2_isPaid_15 : decode cX2_isPaid 15 = .ok (.aload_n 0, 1) := dk_42 (dk_at dksX2_isPaid_0 15 rfl rfl)
theorem dX2_isPaid_16 : decode cX2_isPaid 16 = .ok (.iconst 2, 1) := dk_5 (dk_at dksX2_isPaid_0 16 rfl rfl)
theorem dX2_isPaid_17 : decode cX2_isPaid 17 = .ok (.iconst 0, 1) := dk_3 (dk_at dksX2_isPaid_0 17 rfl rfl)
theorem dX2_isPaid_18 : decode cX2_isPaid 18 = .ok (.invokevirtual 286, 3) := dk_182 1 30 (dk_at dksX2_isPaid_0 18 rfl rfl)
theorem dX2_isPaid_21 : decode cX2_isPaid 21 = .ok (.istore_n 3, 1) := dk_62 (dk_at dksX2_isPaid_0 21 rfl rfl)
theorem dX2_isPaid_22 : decode cX2_isPaid 22 = .ok (.aload_n 2, 1) := dk_44 (dk_at dksX2_isPaid_0 22 rfl rfl)
theorem dX2_isPaid_23 : decode cX2_isPaid 23 = .ok (.getfield 289, 3) := dk_180 1 33 (dk_at dksX2_isPaid_1 0 rfl rfl)
theorem dX2_isPaid_26 : decode cX2_isPaid 26 = .ok (.iload_n 3, 1) := dk_29 (dk_at dksX2_isPaid_1 3 rfl rfl)
theorem dX2_isPaid_27 : decode cX2_isPaid 27 = .ok (.if_icmp .ge 9, 3) := dk_162 0 9 (dk_at dksX2_isPaid_1 4 rfl rfl)
theorem dX2_isPaid_30 : decode cX2_isPaid 30 = .ok (.aload_n 0, 1) := dk_42 (dk_at dksX2_isPaid_1 7 rfl rfl)
theorem dX2_isPaid_31 : decode cX2_isPaid 31 = .ok (.aload_n 1, 1) := dk_43 (dk_at dksX2_isPaid_1 8 rfl rfl)
theorem dX2_isPaid_32 : decode cX2_isPaid 32 = .ok (.invokevirtual 269, 3) := dk_182 1 13 (dk_at dksX2_isPaid_1 9 rfl rfl)
theorem dX2_isPaid_35 : decode cX2_isPaid 35 = .ok (.return_, 1) := dk_177 (dk_at dksX2_isPaid_1 12 rfl rfl)
theorem dX2_isPaid_36 : decode cX2_isPaid 36 = .ok (.aload_n 2, 1) := dk_44 (dk_at dksX2_isPaid_1 13 rfl rfl)
theorem dX2_isPaid_37 : decode cX2_isPaid 37 = .ok (.dup, 1) := dk_89 (dk_at dksX2_isPaid_1 14 rfl rfl)
theorem dX2_isPaid_38 : decode cX2_isPaid 38 = .ok (.getfield 289, 3) := dk_180 1 33 (dk_at dksX2_isPaid_1 15 rfl rfl)
theorem dX2_isPaid_41 : decode cX2_isPaid 41 = .ok (.iload_n 3, 1) := dk_29 (dk_at dksX2_isPaid_1 18 rfl rfl)
theorem dX2_isPaid_42 : decode cX2_isPaid 42 = .ok (.isub, 1) := dk_100 (dk_at dksX2_isPaid_1 19 rfl rfl)
theorem dX2_isPaid_43 : decode cX2_isPaid 43 = .ok (.putfield 289, 3) := dk_181 1 33 (dk_at dksX2_isPaid_1 20 rfl rfl)
theorem dX2_isPaid_46 : decode cX2_isPaid 46 = .ok (.aload_n 1, 1) := dk_43 (dk_at dksX2_isPaid_1 23 rfl rfl)
theorem dX2_isPaid_47 : decode cX2_isPaid 47 = .ok (.iload_n 3, 1) := dk_29 (dk_at dksX2_isPaid_2 0 rfl rfl)
theorem dX2_isPaid_48 : decode cX2_isPaid 48 = .ok (.invokevirtual 357, 3) := dk_182 1 101 (dk_at dksX2_isPaid_2 1 rfl rfl)
theorem dX2_isPaid_51 : decode cX2_isPaid 51 = .ok (.return_, 1) := dk_177 (dk_at dksX2_isPaid_2 4 rfl rfl)
def dkwX2_wants_1 : List UInt8 := [43, 180, 1, 33, 163, 0, 10, 42, 43, 28, 182, 1, 151, 87, 177]
abbrev dktX2_wants_1 : List UInt8 := dkwX2_wants_1 ++ []
def dkwX2_wants_0 : List UInt8 := [42, 182, 1, 148, 61, 28, 2, 159, 0, 31, 42, 3, 42, 180, 0, 92, 28, 51, 182, 1, 30, 16, 10, 96]
abbrev dktX2_wants_0 : List UInt8 := dkwX2_wants_0 ++ dktX2_wants_1
theorem dksX2_wants_0 : cX2_wants.data.toList.drop 0 = dktX2_wants_0 := by decide +kernel
theorem dksX2_wants_1 : cX2_wants.data.toList.drop 24 = dktX2_wants_1 := dk_seg dksX2_wants_0 24 rfl rfl
theorem dX2_wants_0 : decode cX2_wants 0 = .ok (.aload_n 0, 1) := dk_42 (dk_at dksX2_wants_0 0 rfl rfl)
theorem dX2_wants_1 : decode cX2_wants 1 = .ok (.invokevirtual 404, 3) := dk_182 1 148 (dk_at dksX2_wants_0 1 rfl rfl)
theorem dX2_wants_4 : decode cX2_wants 4 = .ok (.istore_n 2, 1) := dk_61 (dk_at dksX2_wants_0 4 rfl rfl)
theorem dX2_wants_5 : decode cX2_wants 5 = .ok (.iload_n 2, 1) := dk_28 (dk_at dksX2_wants_0 5 rfl rfl)
theorem dX2_wants_6 : decode cX2_wants 6 = .ok (.iconst (-1), 1) := dk_2 (dk_at dksX2_wants_0 6 rfl rfl)
theorem dX2_wants_7 : decode cX2_wants 7 = .ok (.if_icmp .eq 31, 3) := dk_159 0 31 (dk_at dksX2_wants_0 7 rfl rfl)
theorem dX2_wants_10 : decode cX2_wants 10 = .ok (.aload_n 0, 1) := dk_42 (dk_at dksX2_wants_0 10 rfl rfl)
theorem dX2_wants_11 : decode cX2_wants 11 = .ok (.iconst 0, 1) := dk_3 (dk_at dksX2_wants_0 11 rfl rfl)
theorem dX2_wants_12 : decode cX2_wants 12 = .ok (.aload_n 0, 1) := dk_42 (dk_at dksX2_wants_0 12 rfl rfl)
theorem dX2_wants_13 : decode cX2_wants 13 = .ok (.getfield 92, 3) := dk_180 0 92 (dk_at dksX2_wants_0 13 rfl rfl)
theorem dX2_wants_16 : decode cX2_wants 16 = .ok (.iload_n 2, 1) := dk_28 (dk_at dksX2_wants_0 16 rfl rfl)
theorem dX2_wants_17 : decode cX2_wants 17 = .ok (.baload, 1) := dk_51 (dk_at dksX2_wants_0 17 rfl rfl)
theorem dX2_wants_18 : decode cX2_wants 18 = .ok (.invokevirtual 286, 3) := dk_182 1 30 (dk_at dksX2_wants_0 18 rfl rfl)
theorem dX2_wants_21 : decode cX2_wants 21 = .ok (.bipush 10, 2) := dk_16 10 (dk_at dksX2_wants_0 21 rfl rfl)
theorem dX2_wants_23 : decode cX2_wants 23 = .ok (.iadd, 1) := dk_96 (dk_at dksX2_wants_0 23 rfl rfl)
theorem dX2_wants_24 : decode cX2_wants 24 = .ok (.aload_n 1, 1) := dk_43 (dk_at dksX2_wants_1 0 rfl rfl)
theorem dX2_wants_25 : decode cX2_wants 25 = .ok (.getfield 289, 3) := dk_180 1 33 (dk_at dksX2_wants_1 1 rfl rfl)
theorem dX2_wants_28 : decode cX2_wants 28 = .ok (.if_icmp .gt 10, 3) := dk_163 0 10 (dk_at dksX2_wants_1 4 rfl rfl)
theorem dX2_wants_31 : decode cX2_wants 31 = .ok (.aload_n 0, 1) := dk_42 (dk_at dksX2_wants_1 7 rfl rfl)
theorem dX2_wants_32 : decode cX2_wants 32 = .ok (.aload_n 1, 1) := dk_43 (dk_at dksX2_wants_1 8 rfl rfl)
theorem dX2_wants_33 : decode cX2_wants 33 = .ok (.iload_n 2, 1) := dk_28 (dk_at dksX2_wants_1 9 rfl rfl)
theorem dX2_wants_34 : decode cX2_wants 34 = .ok (.invokevirtual 407, 3) := dk_182 1 151 (dk_at dksX2_wants_1 10 rfl rfl)
theorem dX2_wants_37 : decode cX2_wants 37 = .ok (.pop, 1) := dk_87 (dk_at dksX2_wants_1 13 rfl rfl)
theorem dX2_wants_38 : decode cX2_wants 38 = .ok (.return_, 1) := dk_177 (dk_at dksX2_wants_1 14 rfl rfl)
def dkwX2_bestLot_2 : List UInt8 := [132, 2, 1, 167, 255, 210, 27, 172]
abbrev dktX2_bestLot_2 : List UInt8 := dkwX2_bestLot_2 ++ []
def dkwX2_bestLot_1 : List UInt8 := [153, 0, 23, 27, 2, 159, 0, 16, 42, 28, 182, 1, 135, 42, 27, 182, 1, 135, 164, 0, 5, 28, 60]
abbrev dktX2_bestLot_1 : List UInt8 := dkwX2_bestLot_1 ++ dktX2_bestLot_2
def dkwX2_bestLot_0 : List UInt8 := [2, 60, 3, 61, 28, 16, 96, 162, 0, 46, 42, 180, 0, 29, 28, 182, 0, 141, 192, 0, 109, 182, 1, 132]
abbrev dktX2_bestLot_0 : List UInt8 := dkwX2_bestLot_0 ++ dktX2_bestLot_1
theorem dksX2_bestLot_0 : cX2_bestLot.data.toList.drop 0 = dktX2_bestLot_0 := by decide +kernel
theorem dksX2_bestLot_1 : cX2_bestLot.data.toList.drop 24 = dktX2_bestLot_1 := dk_seg dksX2_bestLot_0 24 rfl rfl
theorem dksX2_bestLot_2 : cX2_bestLot.data.toList.drop 47 = dktX2_bestLot_2 := dk_seg dksX2_bestLot_1 23 rfl rfl
theorem dX2_bestLot_0 : decode cX2_bestLot 0 = .ok (.iconst (-1), 1) := dk_2 (dk_at dksX2_bestLot_0 0 rfl rfl)
theorem dX2_bestLot_1 : decode cX2_bestLot 1 = .ok (.istore_n 1, 1) := dk_60 (dk_at dksX2_bestLot_0 1 rfl rfl)
theorem dX2_bestLot_2 : decode cX2_bestLot 2 = .ok (.iconst 0, 1) := dk_3 (dk_at dksX2_bestLot_0 2 rfl rfl)
theorem dX2_bestLot_3 : decode cX2_bestLot 3 = .ok (.istore_n 2, 1) := dk_61 (dk_at dksX2_bestLot_0 3 rfl rfl)
theorem dX2_bestLot_4 : decode cX2_bestLot 4 = .ok (.iload_n 2, 1) := dk_28 (dk_at dksX2_bestLot_0 4 rfl rfl)
theorem dX2_bestLot_5 : decode cX2_bestLot 5 = .ok (.bipush 96, 2) := dk_16 96 (dk_at dksX2_bestLot_0 5 rfl rfl)
theorem dX2_bestLot_7 : decode cX2_bestLot 7 = .ok (.if_icmp .ge 46, 3) := dk_162 0 46 (dk_at dksX2_bestLot_0 7 rfl rfl)
theorem dX2_bestLot_10 : decode cX2_bestLot 10 = .ok (.aload_n 0, 1) := dk_42 (dk_at dksX2_bestLot_0 10 rfl rfl)
theorem dX2_bestLot_11 : decode cX2_bestLot 11 = .ok (.getfield 29, 3) := dk_180 0 29 (dk_at dksX2_bestLot_0 11 rfl rfl)
theorem dX2_bestLot_14 : decode cX2_bestLot 14 = .ok (.iload_n 2, 1) := dk_28 (dk_at dksX2_bestLot_0 14 rfl rfl)
theorem dX2_bestLot_15 : decode cX2_bestLot 15 = .ok (.invokevirtual 141, 3) := dk_182 0 141 (dk_at dksX2_bestLot_0 15 rfl rfl)
theorem dX2_bestLot_18 : decode cX2_bestLot 18 = .ok (.checkcast 109, 3) := dk_192 0 109 (dk_at dksX2_bestLot_0 18 rfl rfl)
theorem dX2_bestLot_21 : decode cX2_bestLot 21 = .ok (.invokevirtual 388, 3) := dk_182 1 132 (dk_at dksX2_bestLot_0 21 rfl rfl)
theorem dX2_bestLot_24 : decode cX2_bestLot 24 = .ok (.ifCond .eq 23, 3) := dk_153 0 23 (dk_at dksX2_bestLot_1 0 rfl rfl)
theorem dX2_bestLot_27 : decode cX2_bestLot 27 = .ok (.iload_n 1, 1) := dk_27 (dk_at dksX2_bestLot_1 3 rfl rfl)
theorem dX2_bestLot_28 : decode cX2_bestLot 28 = .ok (.iconst (-1), 1) := dk_2 (dk_at dksX2_bestLot_1 4 rfl rfl)
theorem dX2_bestLot_29 : decode cX2_bestLot 29 = .ok (.if_icmp .eq 16, 3) := dk_159 0 16 (dk_at dksX2_bestLot_1 5 rfl rfl)
theorem dX2_bestLot_32 : decode cX2_bestLot 32 = .ok (.aload_n 0, 1) := dk_42 (dk_at dksX2_bestLot_1 8 rfl rfl)
theorem dX2_bestLot_33 : decode cX2_bestLot 33 = .ok (.iload_n 2, 1) := dk_28 (dk_at dksX2_bestLot_1 9 rfl rfl)
theorem dX2_bestLot_34 : decode cX2_bestLot 34 = .ok (.invokevirtual 391, 3) := dk_182 1 135 (dk_at dksX2_bestLot_1 10 rfl rfl)
theorem dX2_bestLot_37 : decode cX2_bestLot 37 = .ok (.aload_n 0, 1) := dk_42 (dk_at dksX2_bestLot_1 13 rfl rfl)
theorem dX2_bestLot_38 : decode cX2_bestLot 38 = .ok (.iload_n 1, 1) := dk_27 (dk_at dksX2_bestLot_1 14 rfl rfl)
theorem dX2_bestLot_39 : decode cX2_bestLot 39 = .ok (.invokevirtual 391, 3) := dk_182 1 135 (dk_at dksX2_bestLot_1 15 rfl rfl)
theorem dX2_bestLot_42 : decode cX2_bestLot 42 = .ok (.if_icmp .le 5, 3) := dk_164 0 5 (dk_at dksX2_bestLot_1 18 rfl rfl)
theorem dX2_bestLot_45 : decode cX2_bestLot 45 = .ok (.iload_n 2, 1) := dk_28 (dk_at dksX2_bestLot_1 21 rfl rfl)
theorem dX2_bestLot_46 : decode cX2_bestLot 46 = .ok (.istore_n 1, 1) := dk_60 (dk_at dksX2_bestLot_1 22 rfl rfl)
theorem dX2_bestLot_47 : decode cX2_bestLot 47 = .ok (.iinc 2 1, 3) := dk_132 2 1 (dk_at dksX2_bestLot_2 0 rfl rfl)
theorem dX2_bestLot_50 : decode cX2_bestLot 50 = .ok (.goto (-46), 3) := dk_167 255 210 (dk_at dksX2_bestLot_2 3 rfl rfl)
theorem dX2_bestLot_53 : decode cX2_bestLot 53 = .ok (.iload_n 1, 1) := dk_27 (dk_at dksX2_bestLot_2 6 rfl rfl)
theorem dX2_bestLot_54 : decode cX2_bestLot 54 = .ok (.ireturn, 1) := dk_172 (dk_at dksX2_bestLot_2 7 rfl rfl)
def dkwX2_seeks_4 : List UInt8 := [45, 89, 180, 1, 21, 4, 96, 181, 1, 21, 43, 45, 180, 1, 27, 181, 1, 18, 43, 6, 181, 0, 221, 177]
abbrev dktX2_seeks_4 : List UInt8 := dkwX2_seeks_4 ++ []
def dkwX2_seeks_3 : List UInt8 := [180, 1, 21, 45, 180, 1, 21, 162, 0, 6, 25, 5, 78, 132, 4, 1, 167, 255, 181, 45, 199, 0, 4, 177]
abbrev dktX2_seeks_3 : List UInt8 := dkwX2_seeks_3 ++ dktX2_seeks_4
def dkwX2_seeks_2 : List UInt8 := [25, 5, 180, 1, 21, 7, 162, 0, 31, 25, 5, 180, 1, 33, 28, 161, 0, 22, 45, 198, 0, 15, 25, 5]
abbrev dktX2_seeks_2 : List UInt8 := dkwX2_seeks_2 ++ dktX2_seeks_3
def dkwX2_seeks_1 : List UInt8 := [42, 180, 0, 73, 21, 4, 182, 0, 141, 192, 0, 153, 58, 5, 25, 5, 180, 0, 221, 7, 160, 0, 40]
abbrev dktX2_seeks_1 : List UInt8 := dkwX2_seeks_1 ++ dktX2_seeks_2
def dkwX2_seeks_0 : List UInt8 := [42, 5, 3, 182, 1, 30, 61, 1, 78, 3, 54, 4, 21, 4, 42, 180, 0, 73, 182, 0, 149, 162, 0, 69]
abbrev dktX2_seeks_0 : List UInt8 := dkwX2_seeks_0 ++ dktX2_seeks_1
theorem dksX2_seeks_0 : cX2_seeks.data.toList.drop 0 = dktX2_seeks_0 := by decide +kernel
theorem dksX2_seeks_1 : cX2_seeks.data.toList.drop 24 = dktX2_seeks_1 := dk_seg dksX2_seeks_0 24 rfl rfl
theorem dksX2_seeks_2 : cX2_seeks.data.toList.drop 47 = dktX2_seeks_2 := dk_seg dksX2_seeks_1 23 rfl rfl
theorem dksX2_seeks_3 : cX2_seeks.data.toList.drop 71 = dktX2_seeks_3 := dk_seg dksX2_seeks_2 24 rfl rfl
theorem dksX2_seeks_4 : cX2_seeks.data.toList.drop 95 = dktX2_seeks_4 := dk_seg dksX2_seeks_3 24 rfl rfl
theorem dX2_seeks_0 : decode cX2_seeks 0 = .ok (.aload_n 0, 1) := dk_42 (dk_at dksX2_seeks_0 0 rfl rfl)
theorem dX2_seeks_1 : decode cX2_seeks 1 = .ok (.iconst 2, 1) := dk_5 (dk_at dksX2_seeks_0 1 rfl rfl)
theorem dX2_seeks_2 : decode cX2_seeks 2 = .ok (.iconst 0, 1) := dk_3 (dk_at dksX2_seeks_0 2 rfl rfl)
theorem dX2_seeks_3 : decode cX2_seeks 3 = .ok (.invokevirtual 286, 3) := dk_182 1 30 (dk_at dksX2_seeks_0 3 rfl rfl)
theorem dX2_seeks_6 : decode cX2_seeks 6 = .ok (.istore_n 2, 1) := dk_61 (dk_at dksX2_seeks_0 6 rfl rfl)
theorem dX2_seeks_7 : decode cX2_seeks 7 = .ok (.aconst_null, 1) := dk_1 (dk_at dksX2_seeks_0 7 rfl rfl)
theorem dX2_seeks_8 : decode cX2_seeks 8 = .ok (.astore_n 3, 1) := dk_78 (dk_at dksX2_seeks_0 8 rfl rfl)
theorem dX2_seeks_9 : decode cX2_seeks 9 = .ok (.iconst 0, 1) := dk_3 (dk_at dksX2_seeks_0 9 rfl rfl)
theorem dX2_seeks_10 : decode cX2_seeks 10 = .ok (.istore 4, 2) := dk_54 4 (dk_at dksX2_seeks_0 10 rfl rfl)
theorem dX2_seeks_12 : decode cX2_seeks 12 = .ok (.iload 4, 2) := dk_21 4 (dk_at dksX2_seeks_0 12 rfl rfl)
theorem dX2_seeks_14 : decode cX2_seeks 14 = .ok (.aload_n 0, 1) := dk_42 (dk_at dksX2_seeks_0 14 rfl rfl)
theorem dX2_seeks_15 : decode cX2_seeks 15 = .ok (.getfield 73, 3) := dk_180 0 73 (dk_at dksX2_seeks_0 15 rfl rfl)
theorem dX2_seeks_18 : decode cX2_seeks 18 = .ok (.invokevirtual 149, 3) := dk_182 0 149 (dk_at dksX2_seeks_0 18 rfl rfl)
theorem dX2_seeks_21 : decode cX2_seeks 21 = .ok (.if_icmp .ge 69, 3) := dk_162 0 69 (dk_at dksX2_seeks_0 21 rfl rfl)
theorem dX2_seeks_24 : decode cX2_seeks 24 = .ok (.aload_n 0, 1) := dk_42 (dk_at dksX2_seeks_1 0 rfl rfl)
theorem dX2_seeks_25 : decode cX2_seeks 25 = .ok (.getfield 73, 3) := dk_180 0 73 (dk_at dksX2_seeks_1 1 rfl rfl)
theorem dX2_seeks_28 : decode cX2_seeks 28 = .ok (.iload 4, 2) := dk_21 4 (dk_at dksX2_seeks_1 4 rfl rfl)
theorem dX2_seeks_30 : decode cX2_seeks 30 = .ok (.invokevirtual 141, 3) := dk_182 0 141 (dk_at dksX2_seeks_1 6 rfl rfl)
theorem dX2_seeks_33 : decode cX2_seeks 33 = .ok (.checkcast 153, 3) := dk_192 0 153 (dk_at dksX2_seeks_1 9 rfl rfl)
theorem dX2_seeks_36 : decode cX2_seeks 36 = .ok (.astore 5, 2) := dk_58 5 (dk_at dksX2_seeks_1 12 rfl rfl)
theorem dX2_seeks_38 : decode cX2_seeks 38 = .ok (.aload 5, 2) := dk_25 5 (dk_at dksX2_seeks_1 14 rfl rfl)
theorem dX2_seeks_40 : decode cX2_seeks 40 = .ok (.getfield 221, 3) := dk_180 0 221 (dk_at dksX2_seeks_1 16 rfl rfl)
theorem dX2_seeks_43 : decode cX2_seeks 43 = .ok (.iconst 4, 1) := dk_7 (dk_at dksX2_seeks_1 19 rfl rfl)
theorem dX2_seeks_44 : decode cX2_seeks 44 = .ok (.if_icmp .ne 40, 3) := dk_160 0 40 (dk_at dksX2_seeks_1 20 rfl rfl)
theorem dX2_seeks_47 : decode cX2_seeks 47 = .ok (.aload 5, 2) := dk_25 5 (dk_at dksX2_seeks_2 0 rfl rfl)
theorem dX2_seeks_49 : decode cX2_seeks 49 = .ok (.getfield 277, 3) := dk_180 1 21 (dk_at dksX2_seeks_2 2 rfl rfl)
theorem dX2_seeks_52 : decode cX2_seeks 52 = .ok (.iconst 4, 1) := dk_7 (dk_at dksX2_seeks_2 5 rfl rfl)
theorem dX2_seeks_53 : decode cX2_seeks 53 = .ok (.if_icmp .ge 31, 3) := dk_162 0 31 (dk_at dksX2_seeks_2 6 rfl rfl)
theorem dX2_seeks_56 : decode cX2_seeks 56 = .ok (.aload 5, 2) := dk_25 5 (dk_at dksX2_seeks_2 9 rfl rfl)
theorem dX2_seeks_58 : decode cX2_seeks 58 = .ok (.getfield 289, 3) := dk_180 1 33 (dk_at dksX2_seeks_2 11 rfl rfl)
theorem dX2_seeks_61 : decode cX2_seeks 61 = .ok (.iload_n 2, 1) := dk_28 (dk_at dksX2_seeks_2 14 rfl rfl)
theorem dX2_seeks_62 : decode cX2_seeks 62 = .ok (.if_icmp .lt 22, 3) := dk_161 0 22 (dk_at dksX2_seeks_2 15 rfl rfl)
theorem dX2_seeks_65 : decode cX2_seeks 65 = .ok (.aload_n 3, 1) := dk_45 (dk_at dksX2_seeks_2 18 rfl rfl)
theorem dX2_seeks_66 : decode cX2_seeks 66 = .ok (.ifnull 15, 3) := dk_198 0 15 (dk_at dksX2_seeks_2 19 rfl rfl)
theorem dX2_seeks_69 : decode cX2_seeks 69 = .ok (.aload 5, 2) := dk_25 5 (dk_at dksX2_seeks_2 22 rfl rfl)
theorem dX2_seeks_71 : decode cX2_seeks 71 = .ok (.getfield 277, 3) := dk_180 1 21 (dk_at dksX2_seeks_3 0 rfl rfl)
theorem dX2_seeks_74 : decode cX2_seeks 74 = .ok (.aload_n 3, 1) := dk_45 (dk_at dksX2_seeks_3 3 rfl rfl)
theorem dX2_seeks_75 : decode cX2_seeks 75 = .ok (.getfield 277, 3) := dk_180 1 21 (dk_at dksX2_seeks_3 4 rfl rfl)
theorem dX2_seeks_78 : decode cX2_seeks 78 = .ok (.if_icmp .ge 6, 3) := dk_162 0 6 (dk_at dksX2_seeks_3 7 rfl rfl)
theorem dX2_seeks_81 : decode cX2_seeks 81 = .ok (.aload 5, 2) := dk_25 5 (dk_at dksX2_seeks_3 10 rfl rfl)
theorem dX2_seeks_83 : decode cX2_seeks 83 = .ok (.astore_n 3, 1) := dk_78 (dk_at dksX2_seeks_3 12 rfl rfl)
theorem dX2_seeks_84 : decode cX2_seeks 84 = .ok (.iinc 4 1, 3) := dk_132 4 1 (dk_at dksX2_seeks_3 13 rfl rfl)
theorem dX2_seeks_87 : decode cX2_seeks 87 = .ok (.goto (-75), 3) := dk_167 255 181 (dk_at dksX2_seeks_3 16 rfl rfl)
theorem dX2_seeks_90 : decode cX2_seeks 90 = .ok (.aload_n 3, 1) := dk_45 (dk_at dksX2_seeks_3 19 rfl rfl)
theorem dX2_seeks_91 : decode cX2_seeks 91 = .ok (.ifnonnull 4, 3) := dk_199 0 4 (dk_at dksX2_seeks_3 20 rfl rfl)
theorem dX2_seeks_94 : decode cX2_seeks 94 = .ok (.return_, 1) := dk_177 (dk_at dksX2_seeks_3 23 rfl rfl)
theorem dX2_seeks_95 : decode cX2_seeks 95 = .ok (.aload_n 3, 1) := dk_45 (dk_at dksX2_seeks_4 0 rfl rfl)
theorem dX2_seeks_96 : decode cX2_seeks 96 = .ok (.dup, 1) := dk_89 (dk_at dksX2_seeks_4 1 rfl rfl)
theorem dX2_seeks_97 : decode cX2_seeks 97 = .ok (.getfield 277, 3) := dk_180 1 21 (dk_at dksX2_seeks_4 2 rfl rfl)
theorem dX2_seeks_100 : decode cX2_seeks 100 = .ok (.iconst 1, 1) := dk_4 (dk_at dksX2_seeks_4 5 rfl rfl)
theorem dX2_seeks_101 : decode cX2_seeks 101 = .ok (.iadd, 1) := dk_96 (dk_at dksX2_seeks_4 6 rfl rfl)
theorem dX2_seeks_102 : decode cX2_seeks 102 = .ok (.putfield 277, 3) := dk_181 1 21 (dk_at dksX2_seeks_4 7 rfl rfl)
theorem dX2_seeks_105 : decode cX2_seeks 105 = .ok (.aload_n 1, 1) := dk_43 (dk_at dksX2_seeks_4 10 rfl rfl)
theorem dX2_seeks_106 : decode cX2_seeks 106 = .ok (.aload_n 3, 1) := dk_45 (dk_at dksX2_seeks_4 11 rfl rfl)
theorem dX2_seeks_107 : decode cX2_seeks 107 = .ok (.getfield 283, 3) := dk_180 1 27 (dk_at dksX2_seeks_4 12 rfl rfl)
theorem dX2_seeks_110 : decode cX2_seeks 110 = .ok (.putfield 274, 3) := dk_181 1 18 (dk_at dksX2_seeks_4 15 rfl rfl)
theorem dX2_seeks_113 : decode cX2_seeks 113 = .ok (.aload_n 1, 1) := dk_43 (dk_at dksX2_seeks_4 18 rfl rfl)
theorem dX2_seeks_114 : decode cX2_seeks 114 = .ok (.iconst 3, 1) := dk_6 (dk_at dksX2_seeks_4 19 rfl rfl)
theorem dX2_seeks_115 : decode cX2_seeks 115 = .ok (.putfield 221, 3) := dk_181 0 221 (dk_at dksX2_seeks_4 20 rfl rfl)
theorem dX2_seeks_118 : decode cX2_seeks 118 = .ok (.return_, 1) := dk_177 (dk_at dksX2_seeks_4 23 rfl rfl)
def dkwX2_strays_6 : List UInt8 := [182, 0, 208, 182, 1, 24, 182, 0, 141, 192, 0, 153, 21, 6, 182, 1, 101, 132, 1, 1, 167, 255, 95, 177]
abbrev dktX2_strays_6 : List UInt8 := dkwX2_strays_6 ++ []
def dkwX2_strays_5 : List UInt8 := [184, 0, 227, 54, 6, 25, 5, 89, 180, 1, 33, 21, 6, 100, 181, 1, 33, 42, 180, 0, 73, 42, 21, 4]
abbrev dktX2_strays_5 : List UInt8 := dkwX2_strays_5 ++ dktX2_strays_6
def dkwX2_strays_4 : List UInt8 := [182, 1, 159, 182, 0, 141, 192, 0, 153, 58, 5, 25, 5, 180, 1, 33, 29, 42, 7, 3, 182, 1, 30, 104]
abbrev dktX2_strays_4 : List UInt8 := dkwX2_strays_4 ++ dktX2_strays_5
def dkwX2_strays_3 : List UInt8 := [21, 4, 2, 160, 0, 16, 42, 180, 0, 37, 27, 92, 46, 29, 100, 79, 167, 0, 73, 42, 180, 0, 73, 44]
abbrev dktX2_strays_3 : List UInt8 := dkwX2_strays_3 ++ dktX2_strays_4
def dkwX2_strays_2 : List UInt8 := [167, 0, 113, 42, 180, 0, 37, 27, 46, 16, 8, 108, 62, 42, 27, 44, 182, 1, 159, 182, 1, 162, 54, 4]
abbrev dktX2_strays_2 : List UInt8 := dkwX2_strays_2 ++ dktX2_strays_3
def dkwX2_strays_1 : List UInt8 := [198, 0, 136, 42, 180, 0, 37, 27, 46, 16, 8, 161, 0, 125, 42, 180, 0, 43, 27, 51, 153, 0, 6]
abbrev dktX2_strays_1 : List UInt8 := dkwX2_strays_1 ++ dktX2_strays_2
def dkwX2_strays_0 : List UInt8 := [3, 60, 27, 16, 96, 162, 0, 161, 42, 180, 0, 29, 27, 182, 0, 141, 192, 0, 109, 182, 1, 155, 77, 44]
abbrev dktX2_strays_0 : List UInt8 := dkwX2_strays_0 ++ dktX2_strays_1
theorem dksX2_strays_0 : cX2_strays.data.toList.drop 0 = dktX2_strays_0 := by decide +kernel
theorem dksX2_strays_1 : cX2_strays.data.toList.drop 24 = dktX2_strays_1 := dk_seg dksX2_strays_0 24 rfl rfl
theorem dksX2_strays_2 : cX2_strays.data.toList.drop 47 = dktX2_strays_2 := dk_seg dksX2_strays_1 23 rfl rfl
theorem dksX2_strays_3 : cX2_strays.data.toList.drop 71 = dktX2_strays_3 := dk_seg dksX2_strays_2 24 rfl rfl
theorem dksX2_strays_4 : cX2_strays.data.toList.drop 95 = dktX2_strays_4 := dk_seg dksX2_strays_3 24 rfl rfl
theorem dksX2_strays_5 : cX2_strays.data.toList.drop 119 = dktX2_strays_5 := dk_seg dksX2_strays_4 24 rfl rfl
theorem dksX2_strays_6 : cX2_strays.data.toList.drop 143 = dktX2_strays_6 := dk_seg dksX2_strays_5 24 rfl rfl
theorem dX2_strays_0 : decode cX2_strays 0 = .ok (.iconst 0, 1) := dk_3 (dk_at dksX2_strays_0 0 rfl rfl)
theorem dX2_strays_1 : decode cX2_strays 1 = .ok (.istore_n 1, 1) := dk_60 (dk_at dksX2_strays_0 1 rfl rfl)
theorem dX2_strays_2 : decode cX2_strays 2 = .ok (.iload_n 1, 1) := dk_27 (dk_at dksX2_strays_0 2 rfl rfl)
theorem dX2_strays_3 : decode cX2_strays 3 = .ok (.bipush 96, 2) := dk_16 96 (dk_at dksX2_strays_0 3 rfl rfl)
theorem dX2_strays_5 : decode cX2_strays 5 = .ok (.if_icmp .ge 161, 3) := dk_162 0 161 (dk_at dksX2_strays_0 5 rfl rfl)
theorem dX2_strays_8 : decode cX2_strays 8 = .ok (.aload_n 0, 1) := dk_42 (dk_at dksX2_strays_0 8 rfl rfl)
theorem dX2_strays_9 : decode cX2_strays 9 = .ok (.getfield 29, 3) := dk_180 0 29 (dk_at dksX2_strays_0 9 rfl rfl)
theorem dX2_strays_12 : decode cX2_strays 12 = .ok (.iload_n 1, 1) := dk_27 (dk_at dksX2_strays_0 12 rfl rfl)
theorem dX2_strays_13 : decode cX2_strays 13 = .ok (.invokevirtual 141, 3) := dk_182 0 141 (dk_at dksX2_strays_0 13 rfl rfl)
theorem dX2_strays_16 : decode cX2_strays 16 = .ok (.checkcast 109, 3) := dk_192 0 109 (dk_at dksX2_strays_0 16 rfl rfl)
theorem dX2_strays_19 : decode cX2_strays 19 = .ok (.invokevirtual 411, 3) := dk_182 1 155 (dk_at dksX2_strays_0 19 rfl rfl)
theorem dX2_strays_22 : decode cX2_strays 22 = .ok (.astore_n 2, 1) := dk_77 (dk_at dksX2_strays_0 22 rfl rfl)
theorem dX2_strays_23 : decode cX2_strays 23 = .ok (.aload_n 2, 1) := dk_44 (dk_at dksX2_strays_0 23 rfl rfl)
theorem dX2_strays_24 : decode cX2_strays 24 = .ok (.ifnull 136, 3) := dk_198 0 136 (dk_at dksX2_strays_1 0 rfl rfl)
theorem dX2_strays_27 : decode cX2_strays 27 = .ok (.aload_n 0, 1) := dk_42 (dk_at dksX2_strays_1 3 rfl rfl)
theorem dX2_strays_28 : decode cX2_strays 28 = .ok (.getfield 37, 3) := dk_180 0 37 (dk_at dksX2_strays_1 4 rfl rfl)
theorem dX2_strays_31 : decode cX2_strays 31 = .ok (.iload_n 1, 1) := dk_27 (dk_at dksX2_strays_1 7 rfl rfl)
theorem dX2_strays_32 : decode cX2_strays 32 = .ok (.iaload, 1) := dk_46 (dk_at dksX2_strays_1 8 rfl rfl)
theorem dX2_strays_33 : decode cX2_strays 33 = .ok (.bipush 8, 2) := dk_16 8 (dk_at dksX2_strays_1 9 rfl rfl)
theorem dX2_strays_35 : decode cX2_strays 35 = .ok (.if_icmp .lt 125, 3) := dk_161 0 125 (dk_at dksX2_strays_1 11 rfl rfl)
theorem dX2_strays_38 : decode cX2_strays 38 = .ok (.aload_n 0, 1) := dk_42 (dk_at dksX2_strays_1 14 rfl rfl)
theorem dX2_strays_39 : decode cX2_strays 39 = .ok (.getfield 43, 3) := dk_180 0 43 (dk_at dksX2_strays_1 15 rfl rfl)
theorem dX2_strays_42 : decode cX2_strays 42 = .ok (.iload_n 1, 1) := dk_27 (dk_at dksX2_strays_1 18 rfl rfl)
theorem dX2_strays_43 : decode cX2_strays 43 = .ok (.baload, 1) := dk_51 (dk_at dksX2_strays_1 19 rfl rfl)
theorem dX2_strays_44 : decode cX2_strays 44 = .ok (.ifCond .eq 6, 3) := dk_153 0 6 (dk_at dksX2_strays_1 20 rfl rfl)
theorem dX2_strays_47 : decode cX2_strays 47 = .ok (.goto 113, 3) := dk_167 0 113 (dk_at dksX2_strays_2 0 rfl rfl)
theorem dX2_strays_50 : decode cX2_strays 50 = .ok (.aload_n 0, 1) := dk_42 (dk_at dksX2_strays_2 3 rfl rfl)
theorem dX2_strays_51 : decode cX2_strays 51 = .ok (.getfield 37, 3) := dk_180 0 37 (dk_at dksX2_strays_2 4 rfl rfl)
theorem dX2_strays_54 : decode cX2_strays 54 = .ok (.iload_n 1, 1) := dk_27 (dk_at dksX2_strays_2 7 rfl rfl)
theorem dX2_strays_55 : decode cX2_strays 55 = .ok (.iaload, 1) := dk_46 (dk_at dksX2_strays_2 8 rfl rfl)
theorem dX2_strays_56 : decode cX2_strays 56 = .ok (.bipush 8, 2) := dk_16 8 (dk_at dksX2_strays_2 9 rfl rfl)
theorem dX2_strays_58 : decode cX2_strays 58 = .ok (.idiv, 1) := dk_108 (dk_at dksX2_strays_2 11 rfl rfl)
theorem dX2_strays_59 : decode cX2_strays 59 = .ok (.istore_n 3, 1) := dk_62 (dk_at dksX2_strays_2 12 rfl rfl)
theorem dX2_strays_60 : decode cX2_strays 60 = .ok (.aload_n 0, 1) := dk_42 (dk_at dksX2_strays_2 13 rfl rfl)
theorem dX2_strays_61 : decode cX2_strays 61 = .ok (.iload_n 1, 1) := dk_27 (dk_at dksX2_strays_2 14 rfl rfl)
theorem dX2_strays_62 : decode cX2_strays 62 = .ok (.aload_n 2, 1) := dk_44 (dk_at dksX2_strays_2 15 rfl rfl)
theorem dX2_strays_63 : decode cX2_strays 63 = .ok (.invokevirtual 415, 3) := dk_182 1 159 (dk_at dksX2_strays_2 16 rfl rfl)
theorem dX2_strays_66 : decode cX2_strays 66 = .ok (.invokevirtual 418, 3) := dk_182 1 162 (dk_at dksX2_strays_2 19 rfl rfl)
theorem dX2_strays_69 : decode cX2_strays 69 = .ok (.istore 4, 2) := dk_54 4 (dk_at dksX2_strays_2 22 rfl rfl)
theorem dX2_strays_71 : decode cX2_strays 71 = .ok (.iload 4, 2) := dk_21 4 (dk_at dksX2_strays_3 0 rfl rfl)
theorem dX2_strays_73 : decode cX2_strays 73 = .ok (.iconst (-1), 1) := dk_2 (dk_at dksX2_strays_3 2 rfl rfl)
theorem dX2_strays_74 : decode cX2_strays 74 = .ok (.if_icmp .ne 16, 3) := dk_160 0 16 (dk_at dksX2_strays_3 3 rfl rfl)
theorem dX2_strays_77 : decode cX2_strays 77 = .ok (.aload_n 0, 1) := dk_42 (dk_at dksX2_strays_3 6 rfl rfl)
theorem dX2_strays_78 : decode cX2_strays 78 = .ok (.getfield 37, 3) := dk_180 0 37 (dk_at dksX2_strays_3 7 rfl rfl)
theorem dX2_strays_81 : decode cX2_strays 81 = .ok (.iload_n 1, 1) := dk_27 (dk_at dksX2_strays_3 10 rfl rfl)
theorem dX2_strays_82 : decode cX2_strays 82 = .ok (.dup2, 1) := dk_92 (dk_at dksX2_strays_3 11 rfl rfl)
theorem dX2_strays_83 : decode cX2_strays 83 = .ok (.iaload, 1) := dk_46 (dk_at dksX2_strays_3 12 rfl rfl)
theorem dX2_strays_84 : decode cX2_strays 84 = .ok (.iload_n 3, 1) := dk_29 (dk_at dksX2_strays_3 13 rfl rfl)
theorem dX2_strays_85 : decode cX2_strays 85 = .ok (.isub, 1) := dk_100 (dk_at dksX2_strays_3 14 rfl rfl)
theorem dX2_strays_86 : decode cX2_strays 86 = .ok (.iastore, 1) := dk_79 (dk_at dksX2_strays_3 15 rfl rfl)
theorem dX2_strays_87 : decode cX2_strays 87 = .ok (.goto 73, 3) := dk_167 0 73 (dk_at dksX2_strays_3 16 rfl rfl)
theorem dX2_strays_90 : decode cX2_strays 90 = .ok (.aload_n 0, 1) := dk_42 (dk_at dksX2_strays_3 19 rfl rfl)
theorem dX2_strays_91 : decode cX2_strays 91 = .ok (.getfield 73, 3) := dk_180 0 73 (dk_at dksX2_strays_3 20 rfl rfl)
theorem dX2_strays_94 : decode cX2_strays 94 = .ok (.aload_n 2, 1) := dk_44 (dk_at dksX2_strays_3 23 rfl rfl)
theorem dX2_strays_95 : decode cX2_strays 95 = .ok (.invokevirtual 415, 3) := dk_182 1 159 (dk_at dksX2_strays_4 0 rfl rfl)
theorem dX2_strays_98 : decode cX2_strays 98 = .ok (.invokevirtual 141, 3) := dk_182 0 141 (dk_at dksX2_strays_4 3 rfl rfl)
theorem dX2_strays_101 : decode cX2_strays 101 = .ok (.checkcast 153, 3) := dk_192 0 153 (dk_at dksX2_strays_4 6 rfl rfl)
theorem dX2_strays_104 : decode cX2_strays 104 = .ok (.astore 5, 2) := dk_58 5 (dk_at dksX2_strays_4 9 rfl rfl)
theorem dX2_strays_106 : decode cX2_strays 106 = .ok (.aload 5, 2) := dk_25 5 (dk_at dksX2_strays_4 11 rfl rfl)
theorem dX2_strays_108 : decode cX2_strays 108 = .ok (.getfield 289, 3) := dk_180 1 33 (dk_at dksX2_strays_4 13 rfl rfl)
theorem dX2_strays_111 : decode cX2_strays 111 = .ok (.iload_n 3, 1) := dk_29 (dk_at dksX2_strays_4 16 rfl rfl)
theorem dX2_strays_112 : decode cX2_strays 112 = .ok (.aload_n 0, 1) := dk_42 (dk_at dksX2_strays_4 17 rfl rfl)
theorem dX2_strays_113 : decode cX2_strays 113 = .ok (.iconst 4, 1) := dk_7 (dk_at dksX2_strays_4 18 rfl rfl)
theorem dX2_strays_114 : decode cX2_strays 114 = .ok (.iconst 0, 1) := dk_3 (dk_at dksX2_strays_4 19 rfl rfl)
theorem dX2_strays_115 : decode cX2_strays 115 = .ok (.invokevirtual 286, 3) := dk_182 1 30 (dk_at dksX2_strays_4 20 rfl rfl)
theorem dX2_strays_118 : decode cX2_strays 118 = .ok (.imul, 1) := dk_104 (dk_at dksX2_strays_4 23 rfl rfl)
theorem dX2_strays_119 : decode cX2_strays 119 = .ok (.invokestatic 227, 3) := dk_184 0 227 (dk_at dksX2_strays_5 0 rfl rfl)
theorem dX2_strays_122 : decode cX2_strays 122 = .ok (.istore 6, 2) := dk_54 6 (dk_at dksX2_strays_5 3 rfl rfl)
theorem dX2_strays_124 : decode cX2_strays 124 = .ok (.aload 5, 2) := dk_25 5 (dk_at dksX2_strays_5 5 rfl rfl)
theorem dX2_strays_126 : decode cX2_strays 126 = .ok (.dup, 1) := dk_89 (dk_at dksX2_strays_5 7 rfl rfl)
theorem dX2_strays_127 : decode cX2_strays 127 = .ok (.getfield 289, 3) := dk_180 1 33 (dk_at dksX2_strays_5 8 rfl rfl)
theorem dX2_strays_130 : decode cX2_strays 130 = .ok (.iload 6, 2) := dk_21 6 (dk_at dksX2_strays_5 11 rfl rfl)
theorem dX2_strays_132 : decode cX2_strays 132 = .ok (.isub, 1) := dk_100 (dk_at dksX2_strays_5 13 rfl rfl)
theorem dX2_strays_133 : decode cX2_strays 133 = .ok (.putfield 289, 3) := dk_181 1 33 (dk_at dksX2_strays_5 14 rfl rfl)
theorem dX2_strays_136 : decode cX2_strays 136 = .ok (.aload_n 0, 1) := dk_42 (dk_at dksX2_strays_5 17 rfl rfl)
theorem dX2_strays_137 : decode cX2_strays 137 = .ok (.getfield 73, 3) := dk_180 0 73 (dk_at dksX2_strays_5 18 rfl rfl)
theorem dX2_strays_140 : decode cX2_strays 140 = .ok (.aload_n 0, 1) := dk_42 (dk_at dksX2_strays_5 21 rfl rfl)
theorem dX2_strays_141 : decode cX2_strays 141 = .ok (.iload 4, 2) := dk_21 4 (dk_at dksX2_strays_5 22 rfl rfl)
theorem dX2_strays_143 : decode cX2_strays 143 = .ok (.invokevirtual 208, 3) := dk_182 0 208 (dk_at dksX2_strays_6 0 rfl rfl)
theorem dX2_strays_146 : decode cX2_strays 146 = .ok (.invokevirtual 280, 3) := dk_182 1 24 (dk_at dksX2_strays_6 3 rfl rfl)
theorem dX2_strays_149 : decode cX2_strays 149 = .ok (.invokevirtual 141, 3) := dk_182 0 141 (dk_at dksX2_strays_6 6 rfl rfl)
theorem dX2_strays_152 : decode cX2_strays 152 = .ok (.checkcast 153, 3) := dk_192 0 153 (dk_at dksX2_strays_6 9 rfl rfl)
theorem dX2_strays_155 : decode cX2_strays 155 = .ok (.iload 6, 2) := dk_21 6 (dk_at dksX2_strays_6 12 rfl rfl)
theorem dX2_strays_157 : decode cX2_strays 157 = .ok (.invokevirtual 357, 3) := dk_182 1 101 (dk_at dksX2_strays_6 14 rfl rfl)
theorem dX2_strays_160 : decode cX2_strays 160 = .ok (.iinc 1 1, 3) := dk_132 1 1 (dk_at dksX2_strays_6 17 rfl rfl)
theorem dX2_strays_163 : decode cX2_strays 163 = .ok (.goto (-161), 3) := dk_167 255 95 (dk_at dksX2_strays_6 20 rfl rfl)
theorem dX2_strays_166 : decode cX2_strays 166 = .ok (.return_, 1) := dk_177 (dk_at dksX2_strays_6 23 rfl rfl)
def dkwX2_straysTo_2 : List UInt8 := [172, 132, 3, 1, 167, 255, 207, 2, 172]
abbrev dktX2_straysTo_2 : List UInt8 := dkwX2_straysTo_2 ++ []
def dkwX2_straysTo_1 : List UInt8 := [182, 0, 208, 182, 0, 212, 153, 0, 19, 42, 21, 4, 182, 0, 208, 182, 1, 24, 28, 159, 0, 6, 21, 4]
abbrev dktX2_straysTo_1 : List UInt8 := dkwX2_straysTo_1 ++ dktX2_straysTo_2
def dkwX2_straysTo_0 : List UInt8 := [3, 62, 29, 7, 162, 0, 50, 27, 29, 184, 1, 165, 54, 4, 21, 4, 2, 159, 0, 31, 42, 21, 4]
abbrev dktX2_straysTo_0 : List UInt8 := dkwX2_straysTo_0 ++ dktX2_straysTo_1
theorem dksX2_straysTo_0 : cX2_straysTo.data.toList.drop 0 = dktX2_straysTo_0 := by decide +kernel
theorem dksX2_straysTo_1 : cX2_straysTo.data.toList.drop 23 = dktX2_straysTo_1 := dk_seg dksX2_straysTo_0 23 rfl rfl
theorem dksX2_straysTo_2 : cX2_straysTo.data.toList.drop 47 = dktX2_straysTo_2 := dk_seg dksX2_straysTo_1 24 rfl rfl
theorem dX2_straysTo_0 : decode cX2_straysTo 0 = .ok (.iconst 0, 1) := dk_3 (dk_at dksX2_straysTo_0 0 rfl rfl)
theorem dX2_straysTo_1 : decode cX2_straysTo 1 = .ok (.istore_n 3, 1) := dk_62 (dk_at dksX2_straysTo_0 1 rfl rfl)
theorem dX2_straysTo_2 : decode cX2_straysTo 2 = .ok (.iload_n 3, 1) := dk_29 (dk_at dksX2_straysTo_0 2 rfl rfl)
theorem dX2_straysTo_3 : decode cX2_straysTo 3 = .ok (.iconst 4, 1) := dk_7 (dk_at dksX2_straysTo_0 3 rfl rfl)
theorem dX2_straysTo_4 : decode cX2_straysTo 4 = .ok (.if_icmp .ge 50, 3) := dk_162 0 50 (dk_at dksX2_straysTo_0 4 rfl rfl)
theorem dX2_straysTo_7 : decode cX2_straysTo 7 = .ok (.iload_n 1, 1) := dk_27 (dk_at dksX2_straysTo_0 7 rfl rfl)
theorem dX2_straysTo_8 : decode cX2_straysTo 8 = .ok (.iload_n 3, 1) := dk_29 (dk_at dksX2_straysTo_0 8 rfl rfl)
theorem dX2_straysTo_9 : decode cX2_straysTo 9 = .ok (.invokestatic 421, 3) := dk_184 1 165 (dk_at dksX2_straysTo_0 9 rfl rfl)
theorem dX2_straysTo_12 : decode cX2_straysTo 12 = .ok (.istore 4, 2) := dk_54 4 (dk_at dksX2_straysTo_0 12 rfl rfl)
theorem dX2_straysTo_14 : decode cX2_straysTo 14 = .ok (.iload 4, 2) := dk_21 4 (dk_at dksX2_straysTo_0 14 rfl rfl)
theorem dX2_straysTo_16 : decode cX2_straysTo 16 = .ok (.iconst (-1), 1) := dk_2 (dk_at dksX2_straysTo_0 16 rfl rfl)
theorem dX2_straysTo_17 : decode cX2_straysTo 17 = .ok (.if_icmp .eq 31, 3) := dk_159 0 31 (dk_at dksX2_straysTo_0 17 rfl rfl)
theorem dX2_straysTo_20 : decode cX2_straysTo 20 = .ok (.aload_n 0, 1) := dk_42 (dk_at dksX2_straysTo_0 20 rfl rfl)
theorem dX2_straysTo_21 : decode cX2_straysTo 21 = .ok (.iload 4, 2) := dk_21 4 (dk_at dksX2_straysTo_0 21 rfl rfl)
theorem dX2_straysTo_23 : decode cX2_straysTo 23 = .ok (.invokevirtual 208, 3) := dk_182 0 208 (dk_at dksX2_straysTo_1 0 rfl rfl)
theorem dX2_straysTo_26 : decode cX2_straysTo 26 = .ok (.invokevirtual 212, 3) := dk_182 0 212 (dk_at dksX2_straysTo_1 3 rfl rfl)
theorem dX2_straysTo_29 : decode cX2_straysTo 29 = .ok (.ifCond .eq 19, 3) := dk_153 0 19 (dk_at dksX2_straysTo_1 6 rfl rfl)
theorem dX2_straysTo_32 : decode cX2_straysTo 32 = .ok (.aload_n 0, 1) := dk_42 (dk_at dksX2_straysTo_1 9 rfl rfl)
theorem dX2_straysTo_33 : decode cX2_straysTo 33 = .ok (.iload 4, 2) := dk_21 4 (dk_at dksX2_straysTo_1 10 rfl rfl)
theorem dX2_straysTo_35 : decode cX2_straysTo 35 = .ok (.invokevirtual 208, 3) := dk_182 0 208 (dk_at dksX2_straysTo_1 12 rfl rfl)
theorem dX2_straysTo_38 : decode cX2_straysTo 38 = .ok (.invokevirtual 280, 3) := dk_182 1 24 (dk_at dksX2_straysTo_1 15 rfl rfl)
theorem dX2_straysTo_41 : decode cX2_straysTo 41 = .ok (.iload_n 2, 1) := dk_28 (dk_at dksX2_straysTo_1 18 rfl rfl)
theorem dX2_straysTo_42 : decode cX2_straysTo 42 = .ok (.if_icmp .eq 6, 3) := dk_159 0 6 (dk_at dksX2_straysTo_1 19 rfl rfl)
theorem dX2_straysTo_45 : decode cX2_straysTo 45 = .ok (.iload 4, 2) := dk_21 4 (dk_at dksX2_straysTo_1 22 rfl rfl)
theorem dX2_straysTo_47 : decode cX2_straysTo 47 = .ok (.ireturn, 1) := dk_172 (dk_at dksX2_straysTo_2 0 rfl rfl)
theorem dX2_straysTo_48 : decode cX2_straysTo 48 = .ok (.iinc 3 1, 3) := dk_132 3 1 (dk_at dksX2_straysTo_2 1 rfl rfl)
theorem dX2_straysTo_51 : decode cX2_straysTo 51 = .ok (.goto (-49), 3) := dk_167 255 207 (dk_at dksX2_straysTo_2 4 rfl rfl)
theorem dX2_straysTo_54 : decode cX2_straysTo 54 = .ok (.iconst (-1), 1) := dk_2 (dk_at dksX2_straysTo_2 7 rfl rfl)
theorem dX2_straysTo_55 : decode cX2_straysTo 55 = .ok (.ireturn, 1) := dk_172 (dk_at dksX2_straysTo_2 8 rfl rfl)
def dkwX2_harvests_10 : List UInt8 := [167, 255, 241, 177]
abbrev dktX2_harvests_10 : List UInt8 := dkwX2_harvests_10 ++ []
def dkwX2_harvests_9 : List UInt8 := [132, 2, 1, 167, 255, 129, 3, 61, 28, 7, 162, 0, 16, 42, 180, 0, 61, 28, 3, 79, 132, 2, 1]
abbrev dktX2_harvests_9 : List UInt8 := dkwX2_harvests_9 ++ dktX2_harvests_10
def dkwX2_harvests_8 : List UInt8 := [96, 104, 54, 4, 42, 89, 180, 0, 9, 21, 4, 96, 181, 0, 9, 45, 21, 4, 5, 108, 182, 1, 101]
abbrev dktX2_harvests_8 : List UInt8 := dkwX2_harvests_8 ++ dktX2_harvests_9
def dkwX2_harvests_7 : List UInt8 := [42, 180, 0, 92, 28, 51, 42, 180, 0, 61, 28, 184, 0, 224, 46, 184, 1, 168, 104, 4, 45, 180, 1, 21]
abbrev dktX2_harvests_7 : List UInt8 := dkwX2_harvests_7 ++ dktX2_harvests_8
def dkwX2_harvests_6 : List UInt8 := [182, 0, 208, 182, 1, 24, 182, 0, 141, 192, 0, 153, 78, 45, 180, 0, 221, 7, 159, 0, 6, 167, 0, 50]
abbrev dktX2_harvests_6 : List UInt8 := dkwX2_harvests_6 ++ dktX2_harvests_7
def dkwX2_harvests_5 : List UInt8 := [184, 0, 227, 79, 42, 28, 182, 0, 208, 182, 0, 212, 154, 0, 6, 167, 0, 80, 42, 180, 0, 73, 42, 28]
abbrev dktX2_harvests_5 : List UInt8 := dkwX2_harvests_5 ++ dktX2_harvests_6
def dkwX2_harvests_4 : List UInt8 := [180, 0, 37, 28, 17, 3, 232, 42, 180, 0, 37, 28, 46, 42, 180, 0, 37, 28, 46, 7, 108, 96]
abbrev dktX2_harvests_4 : List UInt8 := dkwX2_harvests_4 ++ dktX2_harvests_5
def dkwX2_harvests_3 : List UInt8 := [42, 180, 0, 61, 28, 46, 96, 79, 132, 2, 1, 167, 255, 212, 3, 61, 28, 16, 96, 162, 0, 127, 42]
abbrev dktX2_harvests_3 : List UInt8 := dkwX2_harvests_3 ++ dktX2_harvests_4
def dkwX2_harvests_2 : List UInt8 := [126, 154, 0, 6, 167, 0, 28, 42, 180, 0, 64, 28, 92, 46, 4, 96, 79, 42, 180, 0, 67, 28, 92, 46]
abbrev dktX2_harvests_2 : List UInt8 := dkwX2_harvests_2 ++ dktX2_harvests_3
def dkwX2_harvests_1 : List UInt8 := [28, 184, 0, 224, 120, 128, 60, 132, 2, 1, 167, 255, 226, 3, 61, 28, 7, 162, 0, 45, 27, 28, 122, 4]
abbrev dktX2_harvests_1 : List UInt8 := dkwX2_harvests_1 ++ dktX2_harvests_2
def dkwX2_harvests_0 : List UInt8 := [3, 60, 3, 61, 28, 16, 96, 162, 0, 30, 42, 28, 182, 0, 208, 182, 1, 24, 2, 159, 0, 12, 27, 4]
abbrev dktX2_harvests_0 : List UInt8 := dkwX2_harvests_0 ++ dktX2_harvests_1
theorem dksX2_harvests_0 : cX2_harvests.data.toList.drop 0 = dktX2_harvests_0 := by decide +kernel
theorem dksX2_harvests_1 : cX2_harvests.data.toList.drop 24 = dktX2_harvests_1 := dk_seg dksX2_harvests_0 24 rfl rfl
theorem dksX2_harvests_2 : cX2_harvests.data.toList.drop 48 = dktX2_harvests_2 := dk_seg dksX2_harvests_1 24 rfl rfl
theorem dksX2_harvests_3 : cX2_harvests.data.toList.drop 72 = dktX2_harvests_3 := dk_seg dksX2_harvests_2 24 rfl rfl
theorem dksX2_harvests_4 : cX2_harvests.data.toList.drop 95 = dktX2_harvests_4 := dk_seg dksX2_harvests_3 23 rfl rfl
theorem dksX2_harvests_5 : cX2_harvests.data.toList.drop 117 = dktX2_harvests_5 := dk_seg dksX2_harvests_4 22 rfl rfl
theorem dksX2_harvests_6 : cX2_harvests.data.toList.drop 141 = dktX2_harvests_6 := dk_seg dksX2_harvests_5 24 rfl rfl
theorem dksX2_harvests_7 : cX2_harvests.data.toList.drop 165 = dktX2_harvests_7 := dk_seg dksX2_harvests_6 24 rfl rfl
theorem dksX2_harvests_8 : cX2_harvests.data.toList.drop 189 = dktX2_harvests_8 := dk_seg dksX2_harvests_7 24 rfl rfl
theorem dksX2_harvests_9 : cX2_harvests.data.toList.drop 212 = dktX2_harvests_9 := dk_seg dksX2_harvests_8 23 rfl rfl
theorem dksX2_harvests_10 : cX2_harvests.data.toList.drop 235 = dktX2_harvests_10 := dk_seg dksX2_harvests_9 23 rfl rfl
theorem dX2_harvests_0 : decode cX2_harvests 0 = .ok (.iconst 0, 1) := dk_3 (dk_at dksX2_harvests_0 0 rfl rfl)
theorem dX2_harvests_1 : decode cX2_harvests 1 = .ok (.istore_n 1, 1) := dk_60 (dk_at dksX2_harvests_0 1 rfl rfl)
theorem dX2_harvests_2 : decode cX2_harvests 2 = .ok (.iconst 0, 1) := dk_3 (dk_at dksX2_harvests_0 2 rfl rfl)
theorem dX2_harvests_3 : decode cX2_harvests 3 = .ok (.istore_n 2, 1) := dk_61 (dk_at dksX2_harvests_0 3 rfl rfl)
theorem dX2_harvests_4 : decode cX2_harvests 4 = .ok (.iload_n 2, 1) := dk_28 (dk_at dksX2_harvests_0 4 rfl rfl)
theorem dX2_harvests_5 : decode cX2_harvests 5 = .ok (.bipush 96, 2) := dk_16 96 (dk_at dksX2_harvests_0 5 rfl rfl)
theorem dX2_harvests_7 : decode cX2_harvests 7 = .ok (.if_icmp .ge 30, 3) := dk_162 0 30 (dk_at dksX2_harvests_0 7 rfl rfl)
theorem dX2_harvests_10 : decode cX2_harvests 10 = .ok (.aload_n 0, 1) := dk_42 (dk_at dksX2_harvests_0 10 rfl rfl)
theorem dX2_harvests_11 : decode cX2_harvests 11 = .ok (.iload_n 2, 1) := dk_28 (dk_at dksX2_harvests_0 11 rfl rfl)
theorem dX2_harvests_12 : decode cX2_harvests 12 = .ok (.invokevirtual 208, 3) := dk_182 0 208 (dk_at dksX2_harvests_0 12 rfl rfl)
theorem dX2_harvests_15 : decode cX2_harvests 15 = .ok (.invokevirtual 280, 3) := dk_182 1 24 (dk_at dksX2_harvests_0 15 rfl rfl)
theorem dX2_harvests_18 : decode cX2_harvests 18 = .ok (.iconst (-1), 1) := dk_2 (dk_at dksX2_harvests_0 18 rfl rfl)
theorem dX2_harvests_19 : decode cX2_harvests 19 = .ok (.if_icmp .eq 12, 3) := dk_159 0 12 (dk_at dksX2_harvests_0 19 rfl rfl)
theorem dX2_harvests_22 : decode cX2_harvests 22 = .ok (.iload_n 1, 1) := dk_27 (dk_at dksX2_harvests_0 22 rfl rfl)
theorem dX2_harvests_23 : decode cX2_harvests 23 = .ok (.iconst 1, 1) := dk_4 (dk_at dksX2_harvests_0 23 rfl rfl)
theorem dX2_harvests_24 : decode cX2_harvests 24 = .ok (.iload_n 2, 1) := dk_28 (dk_at dksX2_harvests_1 0 rfl rfl)
theorem dX2_harvests_25 : decode cX2_harvests 25 = .ok (.invokestatic 224, 3) := dk_184 0 224 (dk_at dksX2_harvests_1 1 rfl rfl)
theorem dX2_harvests_28 : decode cX2_harvests 28 = .ok (.ishl, 1) := dk_120 (dk_at dksX2_harvests_1 4 rfl rfl)
theorem dX2_harvests_29 : decode cX2_harvests 29 = .ok (.ior, 1) := dk_128 (dk_at dksX2_harvests_1 5 rfl rfl)
theorem dX2_harvests_30 : decode cX2_harvests 30 = .ok (.istore_n 1, 1) := dk_60 (dk_at dksX2_harvests_1 6 rfl rfl)
theorem dX2_harvests_31 : decode cX2_harvests 31 = .ok (.iinc 2 1, 3) := dk_132 2 1 (dk_at dksX2_harvests_1 7 rfl rfl)
theorem dX2_harvests_34 : decode cX2_harvests 34 = .ok (.goto (-30), 3) := dk_167 255 226 (dk_at dksX2_harvests_1 10 rfl rfl)
theorem dX2_harvests_37 : decode cX2_harvests 37 = .ok (.iconst 0, 1) := dk_3 (dk_at dksX2_harvests_1 13 rfl rfl)
theorem dX2_harvests_38 : decode cX2_harvests 38 = .ok (.istore_n 2, 1) := dk_61 (dk_at dksX2_harvests_1 14 rfl rfl)
theorem dX2_harvests_39 : decode cX2_harvests 39 = .ok (.iload_n 2, 1) := dk_28 (dk_at dksX2_harvests_1 15 rfl rfl)
theorem dX2_harvests_40 : decode cX2_harvests 40 = .ok (.iconst 4, 1) := dk_7 (dk_at dksX2_harvests_1 16 rfl rfl)
theorem dX2_harvests_41 : decode cX2_harvests 41 = .ok (.if_icmp .ge 45, 3) := dk_162 0 45 (dk_at dksX2_harvests_1 17 rfl rfl)
theorem dX2_harvests_44 : decode cX2_harvests 44 = .ok (.iload_n 1, 1) := dk_27 (dk_at dksX2_harvests_1 20 rfl rfl)
theorem dX2_harvests_45 : decode cX2_harvests 45 = .ok (.iload_n 2, 1) := dk_28 (dk_at dksX2_harvests_1 21 rfl rfl)
theorem dX2_harvests_46 : decode cX2_harvests 46 = .ok (.ishr, 1) := dk_122 (dk_at dksX2_harvests_1 22 rfl rfl)
theorem dX2_harvests_47 : decode cX2_harvests 47 = .ok (.iconst 1, 1) := dk_4 (dk_at dksX2_harvests_1 23 rfl rfl)
theorem dX2_harvests_48 : decode cX2_harvests 48 = .ok (.iand, 1) := dk_126 (dk_at dksX2_harvests_2 0 rfl rfl)
theorem dX2_harvests_49 : decode cX2_harvests 49 = .ok (.ifCond .ne 6, 3) := dk_154 0 6 (dk_at dksX2_harvests_2 1 rfl rfl)
theorem dX2_harvests_52 : decode cX2_harvests 52 = .ok (.goto 28, 3) := dk_167 0 28 (dk_at dksX2_harvests_2 4 rfl rfl)
theorem dX2_harvests_55 : decode cX2_harvests 55 = .ok (.aload_n 0, 1) := dk_42 (dk_at dksX2_harvests_2 7 rfl rfl)
theorem dX2_harvests_56 : decode cX2_harvests 56 = .ok (.getfield 64, 3) := dk_180 0 64 (dk_at dksX2_harvests_2 8 rfl rfl)
theorem dX2_harvests_59 : decode cX2_harvests 59 = .ok (.iload_n 2, 1) := dk_28 (dk_at dksX2_harvests_2 11 rfl rfl)
theorem dX2_harvests_60 : decode cX2_harvests 60 = .ok (.dup2, 1) := dk_92 (dk_at dksX2_harvests_2 12 rfl rfl)
theorem dX2_harvests_61 : decode cX2_harvests 61 = .ok (.iaload, 1) := dk_46 (dk_at dksX2_harvests_2 13 rfl rfl)
theorem dX2_harvests_62 : decode cX2_harvests 62 = .ok (.iconst 1, 1) := dk_4 (dk_at dksX2_harvests_2 14 rfl rfl)
theorem dX2_harvests_63 : decode cX2_harvests 63 = .ok (.iadd, 1) := dk_96 (dk_at dksX2_harvests_2 15 rfl rfl)
theorem dX2_harvests_64 : decode cX2_harvests 64 = .ok (.iastore, 1) := dk_79 (dk_at dksX2_harvests_2 16 rfl rfl)
theorem dX2_harvests_65 : decode cX2_harvests 65 = .ok (.aload_n 0, 1) := dk_42 (dk_at dksX2_harvests_2 17 rfl rfl)
theorem dX2_harvests_66 : decode cX2_harvests 66 = .ok (.getfield 67, 3) := dk_180 0 67 (dk_at dksX2_harvests_2 18 rfl rfl)
theorem dX2_harvests_69 : decode cX2_harvests 69 = .ok (.iload_n 2, 1) := dk_28 (dk_at dksX2_harvests_2 21 rfl rfl)
theorem dX2_harvests_70 : decode cX2_harvests 70 = .ok (.dup2, 1) := dk_92 (dk_at dksX2_harvests_2 22 rfl rfl)
theorem dX2_harvests_71 : decode cX2_harvests 71 = .ok (.iaload, 1) := dk_46 (dk_at dksX2_harvests_2 23 rfl rfl)
theorem dX2_harvests_72 : decode cX2_harvests 72 = .ok (.aload_n 0, 1) := dk_42 (dk_at dksX2_harvests_3 0 rfl rfl)
theorem dX2_harvests_73 : decode cX2_harvests 73 = .ok (.getfield 61, 3) := dk_180 0 61 (dk_at dksX2_harvests_3 1 rfl rfl)
theorem dX2_harvests_76 : decode cX2_harvests 76 = .ok (.iload_n 2, 1) := dk_28 (dk_at dksX2_harvests_3 4 rfl rfl)
theorem dX2_harvests_77 : decode cX2_harvests 77 = .ok (.iaload, 1) := dk_46 (dk_at dksX2_harvests_3 5 rfl rfl)
theorem dX2_harvests_78 : decode cX2_harvests 78 = .ok (.iadd, 1) := dk_96 (dk_at dksX2_harvests_3 6 rfl rfl)
theorem dX2_harvests_79 : decode cX2_harvests 79 = .ok (.iastore, 1) := dk_79 (dk_at dksX2_harvests_3 7 rfl rfl)
theorem dX2_harvests_80 : decode cX2_harvests 80 = .ok (.iinc 2 1, 3) := dk_132 2 1 (dk_at dksX2_harvests_3 8 rfl rfl)
theorem dX2_harvests_83 : decode cX2_harvests 83 = .ok (.goto (-44), 3) := dk_167 255 212 (dk_at dksX2_harvests_3 11 rfl rfl)
theorem dX2_harvests_86 : decode cX2_harvests 86 = .ok (.iconst 0, 1) := dk_3 (dk_at dksX2_harvests_3 14 rfl rfl)
theorem dX2_harvests_87 : decode cX2_harvests 87 = .ok (.istore_n 2, 1) := dk_61 (dk_at dksX2_harvests_3 15 rfl rfl)
theorem dX2_harvests_88 : decode cX2_harvests 88 = .ok (.iload_n 2, 1) := dk_28 (dk_at dksX2_harvests_3 16 rfl rfl)
theorem dX2_harvests_89 : decode cX2_harvests 89 = .ok (.bipush 96, 2) := dk_16 96 (dk_at dksX2_harvests_3 17 rfl rfl)
theorem dX2_harvests_91 : decode cX2_harvests 91 = .ok (.if_icmp .ge 127, 3) := dk_162 0 127 (dk_at dksX2_harvests_3 19 rfl rfl)
theorem dX2_harvests_94 : decode cX2_harvests 94 = .ok (.aload_n 0, 1) := dk_42 (dk_at dksX2_harvests_3 22 rfl rfl)
theorem dX2_harvests_95 : decode cX2_harvests 95 = .ok (.getfield 37, 3) := dk_180 0 37 (dk_at dksX2_harvests_4 0 rfl rfl)
theorem dX2_harvests_98 : decode cX2_harvests 98 = .ok (.iload_n 2, 1) := dk_28 (dk_at dksX2_harvests_4 3 rfl rfl)
theorem dX2_harvests_99 : decode cX2_harvests 99 = .ok (.sipush 1000, 3) := dk_17 3 232 (dk_at dksX2_harvests_4 4 rfl rfl)
theorem dX2_harvests_102 : decode cX2_harvests 102 = .ok (.aload_n 0, 1) := dk_42 (dk_at dksX2_harvests_4 7 rfl rfl)
theorem dX2_harvests_103 : decode cX2_harvests 103 = .ok (.getfield 37, 3) := dk_180 0 37 (dk_at dksX2_harvests_4 8 rfl rfl)
theorem dX2_harvests_106 : decode cX2_harvests 106 = .ok (.iload_n 2, 1) := dk_28 (dk_at dksX2_harvests_4 11 rfl rfl)
theorem dX2_harvests_107 : decode cX2_harvests 107 = .ok (.iaload, 1) := dk_46 (dk_at dksX2_harvests_4 12 rfl rfl)
theorem dX2_harvests_108 : decode cX2_harvests 108 = .ok (.aload_n 0, 1) := dk_42 (dk_at dksX2_harvests_4 13 rfl rfl)
theorem dX2_harvests_109 : decode cX2_harvests 109 = .ok (.getfield 37, 3) := dk_180 0 37 (dk_at dksX2_harvests_4 14 rfl rfl)
theorem dX2_harvests_112 : decode cX2_harvests 112 = .ok (.iload_n 2, 1) := dk_28 (dk_at dksX2_harvests_4 17 rfl rfl)
theorem dX2_harvests_113 : decode cX2_harvests 113 = .ok (.iaload, 1) := dk_46 (dk_at dksX2_harvests_4 18 rfl rfl)
theorem dX2_harvests_114 : decode cX2_harvests 114 = .ok (.iconst 4, 1) := dk_7 (dk_at dksX2_harvests_4 19 rfl rfl)
theorem dX2_harvests_115 : decode cX2_harvests 115 = .ok (.idiv, 1) := dk_108 (dk_at dksX2_harvests_4 20 rfl rfl)
theorem dX2_harvests_116 : decode cX2_harvests 116 = .ok (.iadd, 1) := dk_96 (dk_at dksX2_harvests_4 21 rfl rfl)
theorem dX2_harvests_117 : decode cX2_harvests 117 = .ok (.invokestatic 227, 3) := dk_184 0 227 (dk_at dksX2_harvests_5 0 rfl rfl)
theorem dX2_harvests_120 : decode cX2_harvests 120 = .ok (.iastore, 1) := dk_79 (dk_at dksX2_harvests_5 3 rfl rfl)
theorem dX2_harvests_121 : decode cX2_harvests 121 = .ok (.aload_n 0, 1) := dk_42 (dk_at dksX2_harvests_5 4 rfl rfl)
theorem dX2_harvests_122 : decode cX2_harvests 122 = .ok (.iload_n 2, 1) := dk_28 (dk_at dksX2_harvests_5 5 rfl rfl)
theorem dX2_harvests_123 : decode cX2_harvests 123 = .ok (.invokevirtual 208, 3) := dk_182 0 208 (dk_at dksX2_harvests_5 6 rfl rfl)
theorem dX2_harvests_126 : decode cX2_harvests 126 = .ok (.invokevirtual 212, 3) := dk_182 0 212 (dk_at dksX2_harvests_5 9 rfl rfl)
theorem dX2_harvests_129 : decode cX2_harvests 129 = .ok (.ifCond .ne 6, 3) := dk_154 0 6 (dk_at dksX2_harvests_5 12 rfl rfl)
theorem dX2_harvests_132 : decode cX2_harvests 132 = .ok (.goto 80, 3) := dk_167 0 80 (dk_at dksX2_harvests_5 15 rfl rfl)
theorem dX2_harvests_135 : decode cX2_harvests 135 = .ok (.aload_n 0, 1) := dk_42 (dk_at dksX2_harvests_5 18 rfl rfl)
theorem dX2_harvests_136 : decode cX2_harvests 136 = .ok (.getfield 73, 3) := dk_180 0 73 (dk_at dksX2_harvests_5 19 rfl rfl)
theorem dX2_harvests_139 : decode cX2_harvests 139 = .ok (.aload_n 0, 1) := dk_42 (dk_at dksX2_harvests_5 22 rfl rfl)
theorem dX2_harvests_140 : decode cX2_harvests 140 = .ok (.iload_n 2, 1) := dk_28 (dk_at dksX2_harvests_5 23 rfl rfl)
theorem dX2_harvests_141 : decode cX2_harvests 141 = .ok (.invokevirtual 208, 3) := dk_182 0 208 (dk_at dksX2_harvests_6 0 rfl rfl)
theorem dX2_harvests_144 : decode cX2_harvests 144 = .ok (.invokevirtual 280, 3) := dk_182 1 24 (dk_at dksX2_harvests_6 3 rfl rfl)
theorem dX2_harvests_147 : decode cX2_harvests 147 = .ok (.invokevirtual 141, 3) := dk_182 0 141 (dk_at dksX2_harvests_6 6 rfl rfl)
theorem dX2_harvests_150 : decode cX2_harvests 150 = .ok (.checkcast 153, 3) := dk_192 0 153 (dk_at dksX2_harvests_6 9 rfl rfl)
theorem dX2_harvests_153 : decode cX2_harvests 153 = .ok (.astore_n 3, 1) := dk_78 (dk_at dksX2_harvests_6 12 rfl rfl)
theorem dX2_harvests_154 : decode cX2_harvests 154 = .ok (.aload_n 3, 1) := dk_45 (dk_at dksX2_harvests_6 13 rfl rfl)
theorem dX2_harvests_155 : decode cX2_harvests 155 = .ok (.getfield 221, 3) := dk_180 0 221 (dk_at dksX2_harvests_6 14 rfl rfl)
theorem dX2_harvests_158 : decode cX2_harvests 158 = .ok (.iconst 4, 1) := dk_7 (dk_at dksX2_harvests_6 17 rfl rfl)
theorem dX2_harvests_159 : decode cX2_harvests 159 = .ok (.if_icmp .eq 6, 3) := dk_159 0 6 (dk_at dksX2_harvests_6 18 rfl rfl)
theorem dX2_harvests_162 : decode cX2_harvests 162 = .ok (.goto 50, 3) := dk_167 0 50 (dk_at dksX2_harvests_6 21 rfl rfl)
theorem dX2_harvests_165 : decode cX2_harvests 165 = .ok (.aload_n 0, 1) := dk_42 (dk_at dksX2_harvests_7 0 rfl rfl)
theorem dX2_harvests_166 : decode cX2_harvests 166 = .ok (.getfield 92, 3) := dk_180 0 92 (dk_at dksX2_harvests_7 1 rfl rfl)
theorem dX2_harvests_169 : decode cX2_harvests 169 = .ok (.iload_n 2, 1) := dk_28 (dk_at dksX2_harvests_7 4 rfl rfl)
theorem dX2_harvests_170 : decode cX2_harvests 170 = .ok (.baload, 1) := dk_51 (dk_at dksX2_harvests_7 5 rfl rfl)
theorem dX2_harvests_171 : decode cX2_harvests 171 = .ok (.aload_n 0, 1) := dk_42 (dk_at dksX2_harvests_7 6 rfl rfl)
theorem dX2_harvests_172 : decode cX2_harvests 172 = .ok (.getfield 61, 3) := dk_180 0 61 (dk_at dksX2_harvests_7 7 rfl rfl)
theorem dX2_harvests_175 : decode cX2_harvests 175 = .ok (.iload_n 2, 1) := dk_28 (dk_at dksX2_harvests_7 10 rfl rfl)
theorem dX2_harvests_176 : decode cX2_harvests 176 = .ok (.invokestatic 224, 3) := dk_184 0 224 (dk_at dksX2_harvests_7 11 rfl rfl)
theorem dX2_harvests_179 : decode cX2_harvests 179 = .ok (.iaload, 1) := dk_46 (dk_at dksX2_harvests_7 14 rfl rfl)
theorem dX2_harvests_180 : decode cX2_harvests 180 = .ok (.invokestatic 424, 3) := dk_184 1 168 (dk_at dksX2_harvests_7 15 rfl rfl)
theorem dX2_harvests_183 : decode cX2_harvests 183 = .ok (.imul, 1) := dk_104 (dk_at dksX2_harvests_7 18 rfl rfl)
theorem dX2_harvests_184 : decode cX2_harvests 184 = .ok (.iconst 1, 1) := dk_4 (dk_at dksX2_harvests_7 19 rfl rfl)
theorem dX2_harvests_185 : decode cX2_harvests 185 = .ok (.aload_n 3, 1) := dk_45 (dk_at dksX2_harvests_7 20 rfl rfl)
theorem dX2_harvests_186 : decode cX2_harvests 186 = .ok (.getfield 277, 3) := dk_180 1 21 (dk_at dksX2_harvests_7 21 rfl rfl)
theorem dX2_harvests_189 : decode cX2_harvests 189 = .ok (.iadd, 1) := dk_96 (dk_at dksX2_harvests_8 0 rfl rfl)
theorem dX2_harvests_190 : decode cX2_harvests 190 = .ok (.imul, 1) := dk_104 (dk_at dksX2_harvests_8 1 rfl rfl)
theorem dX2_harvests_191 : decode cX2_harvests 191 = .ok (.istore 4, 2) := dk_54 4 (dk_at dksX2_harvests_8 2 rfl rfl)
theorem dX2_harvests_193 : decode cX2_harvests 193 = .ok (.aload_n 0, 1) := dk_42 (dk_at dksX2_harvests_8 4 rfl rfl)
theorem dX2_harvests_194 : decode cX2_harvests 194 = .ok (.dup, 1) := dk_89 (dk_at dksX2_harvests_8 5 rfl rfl)
theorem dX2_harvests_195 : decode cX2_harvests 195 = .ok (.getfield 9, 3) := dk_180 0 9 (dk_at dksX2_harvests_8 6 rfl rfl)
theorem dX2_harvests_198 : decode cX2_harvests 198 = .ok (.iload 4, 2) := dk_21 4 (dk_at dksX2_harvests_8 9 rfl rfl)
theorem dX2_harvests_200 : decode cX2_harvests 200 = .ok (.iadd, 1) := dk_96 (dk_at dksX2_harvests_8 11 rfl rfl)
theorem dX2_harvests_201 : decode cX2_harvests 201 = .ok (.putfield 9, 3) := dk_181 0 9 (dk_at dksX2_harvests_8 12 rfl rfl)
theorem dX2_harvests_204 : decode cX2_harvests 204 = .ok (.aload_n 3, 1) := dk_45 (dk_at dksX2_harvests_8 15 rfl rfl)
theorem dX2_harvests_205 : decode cX2_harvests 205 = .ok (.iload 4, 2) := dk_21 4 (dk_at dksX2_harvests_8 16 rfl rfl)
theorem dX2_harvests_207 : decode cX2_harvests 207 = .ok (.iconst 2, 1) := dk_5 (dk_at dksX2_harvests_8 18 rfl rfl)
theorem dX2_harvests_208 : decode cX2_harvests 208 = .ok (.idiv, 1) := dk_108 (dk_at dksX2_harvests_8 19 rfl rfl)
theorem dX2_harvests_209 : decode cX2_harvests 209 = .ok (.invokevirtual 357, 3) := dk_182 1 101 (dk_at dksX2_harvests_8 20 rfl rfl)
theorem dX2_harvests_212 : decode cX2_harvests 212 = .ok (.iinc 2 1, 3) := dk_132 2 1 (dk_at dksX2_harvests_9 0 rfl rfl)
theorem dX2_harvests_215 : decode cX2_harvests 215 = .ok (.goto (-127), 3) := dk_167 255 129 (dk_at dksX2_harvests_9 3 rfl rfl)
theorem dX2_harvests_218 : decode cX2_harvests 218 = .ok (.iconst 0, 1) := dk_3 (dk_at dksX2_harvests_9 6 rfl rfl)
theorem dX2_harvests_219 : decode cX2_harvests 219 = .ok (.istore_n 2, 1) := dk_61 (dk_at dksX2_harvests_9 7 rfl rfl)
theorem dX2_harvests_220 : decode cX2_harvests 220 = .ok (.iload_n 2, 1) := dk_28 (dk_at dksX2_harvests_9 8 rfl rfl)
theorem dX2_harvests_221 : decode cX2_harvests 221 = .ok (.iconst 4, 1) := dk_7 (dk_at dksX2_harvests_9 9 rfl rfl)
theorem dX2_harvests_222 : decode cX2_harvests 222 = .ok (.if_icmp .ge 16, 3) := dk_162 0 16 (dk_at dksX2_harvests_9 10 rfl rfl)
theorem dX2_harvests_225 : decode cX2_harvests 225 = .ok (.aload_n 0, 1) := dk_42 (dk_at dksX2_harvests_9 13 rfl rfl)
theorem dX2_harvests_226 : decode cX2_harvests 226 = .ok (.getfield 61, 3) := dk_180 0 61 (dk_at dksX2_harvests_9 14 rfl rfl)
theorem dX2_harvests_229 : decode cX2_harvests 229 = .ok (.iload_n 2, 1) := dk_28 (dk_at dksX2_harvests_9 17 rfl rfl)
theorem dX2_harvests_230 : decode cX2_harvests 230 = .ok (.iconst 0, 1) := dk_3 (dk_at dksX2_harvests_9 18 rfl rfl)
theorem dX2_harvests_231 : decode cX2_harvests 231 = .ok (.iastore, 1) := dk_79 (dk_at dksX2_harvests_9 19 rfl rfl)
theorem dX2_harvests_232 : decode cX2_harvests 232 = .ok (.iinc 2 1, 3) := dk_132 2 1 (dk_at dksX2_harvests_9 20 rfl rfl)
theorem dX2_harvests_235 : decode cX2_harvests 235 = .ok (.goto (-15), 3) := dk_167 255 241 (dk_at dksX2_harvests_10 0 rfl rfl)
theorem dX2_harvests_238 : decode cX2_harvests 238 = .ok (.return_, 1) := dk_177 (dk_at dksX2_harvests_10 3 rfl rfl)
def dkwX2_band_1 : List UInt8 := [17, 3, 132, 162, 0, 7, 5, 167, 0, 15, 26, 17, 5, 220, 162, 0, 7, 6, 167, 0, 4, 4, 172]
abbrev dktX2_band_1 : List UInt8 := dkwX2_band_1 ++ []
def dkwX2_band_0 : List UInt8 := [26, 17, 1, 44, 162, 0, 7, 3, 167, 0, 37, 26, 17, 2, 88, 162, 0, 7, 4, 167, 0, 26, 26]
abbrev dktX2_band_0 : List UInt8 := dkwX2_band_0 ++ dktX2_band_1
theorem dksX2_band_0 : cX2_band.data.toList.drop 0 = dktX2_band_0 := by decide +kernel
theorem dksX2_band_1 : cX2_band.data.toList.drop 23 = dktX2_band_1 := dk_seg dksX2_band_0 23 rfl rfl
theorem dX2_band_0 : decode cX2_band 0 = .ok (.iload_n 0, 1) := dk_26 (dk_at dksX2_band_0 0 rfl rfl)
theorem dX2_band_1 : decode cX2_band 1 = .ok (.sipush 300, 3) := dk_17 1 44 (dk_at dksX2_band_0 1 rfl rfl)
theorem dX2_band_4 : decode cX2_band 4 = .ok (.if_icmp .ge 7, 3) := dk_162 0 7 (dk_at dksX2_band_0 4 rfl rfl)
theorem dX2_band_7 : decode cX2_band 7 = .ok (.iconst 0, 1) := dk_3 (dk_at dksX2_band_0 7 rfl rfl)
theorem dX2_band_8 : decode cX2_band 8 = .ok (.goto 37, 3) := dk_167 0 37 (dk_at dksX2_band_0 8 rfl rfl)
theorem dX2_band_11 : decode cX2_band 11 = .ok (.iload_n 0, 1) := dk_26 (dk_at dksX2_band_0 11 rfl rfl)
theorem dX2_band_12 : decode cX2_band 12 = .ok (.sipush 600, 3) := dk_17 2 88 (dk_at dksX2_band_0 12 rfl rfl)
theorem dX2_band_15 : decode cX2_band 15 = .ok (.if_icmp .ge 7, 3) := dk_162 0 7 (dk_at dksX2_band_0 15 rfl rfl)
theorem dX2_band_18 : decode cX2_band 18 = .ok (.iconst 1, 1) := dk_4 (dk_at dksX2_band_0 18 rfl rfl)
theorem dX2_band_19 : decode cX2_band 19 = .ok (.goto 26, 3) := dk_167 0 26 (dk_at dksX2_band_0 19 rfl rfl)
theorem dX2_band_22 : decode cX2_band 22 = .ok (.iload_n 0, 1) := dk_26 (dk_at dksX2_band_0 22 rfl rfl)
theorem dX2_band_23 : decode cX2_band 23 = .ok (.sipush 900, 3) := dk_17 3 132 (dk_at dksX2_band_1 0 rfl rfl)
theorem dX2_band_26 : decode cX2_band 26 = .ok (.if_icmp .ge 7, 3) := dk_162 0 7 (dk_at dksX2_band_1 3 rfl rfl)
theorem dX2_band_29 : decode cX2_band 29 = .ok (.iconst 2, 1) := dk_5 (dk_at dksX2_band_1 6 rfl rfl)
theorem dX2_band_30 : decode cX2_band 30 = .ok (.goto 15, 3) := dk_167 0 15 (dk_at dksX2_band_1 7 rfl rfl)
theorem dX2_band_33 : decode cX2_band 33 = .ok (.iload_n 0, 1) := dk_26 (dk_at dksX2_band_1 10 rfl rfl)
theorem dX2_band_34 : decode cX2_band 34 = .ok (.sipush 1500, 3) := dk_17 5 220 (dk_at dksX2_band_1 11 rfl rfl)
theorem dX2_band_37 : decode cX2_band 37 = .ok (.if_icmp .ge 7, 3) := dk_162 0 7 (dk_at dksX2_band_1 14 rfl rfl)
theorem dX2_band_40 : decode cX2_band 40 = .ok (.iconst 3, 1) := dk_6 (dk_at dksX2_band_1 17 rfl rfl)
theorem dX2_band_41 : decode cX2_band 41 = .ok (.goto 4, 3) := dk_167 0 4 (dk_at dksX2_band_1 18 rfl rfl)
theorem dX2_band_44 : decode cX2_band 44 = .ok (.iconst 1, 1) := dk_4 (dk_at dksX2_band_1 21 rfl rfl)
theorem dX2_band_45 : decode cX2_band 45 = .ok (.ireturn, 1) := dk_172 (dk_at dksX2_band_1 22 rfl rfl)
def dkwX2_writes_3 : List UInt8 := [96, 42, 180, 0, 123, 79, 177]
abbrev dktX2_writes_3 : List UInt8 := dkwX2_writes_3 ++ []
def dkwX2_writes_2 : List UInt8 := [96, 42, 180, 0, 15, 79, 42, 180, 0, 106, 27, 7, 96, 42, 180, 0, 126, 79, 42, 180, 0, 106, 27, 8]
abbrev dktX2_writes_2 : List UInt8 := dkwX2_writes_2 ++ dktX2_writes_3
def dkwX2_writes_1 : List UInt8 := [96, 42, 182, 0, 251, 79, 42, 180, 0, 106, 27, 5, 96, 42, 180, 0, 9, 79, 42, 180, 0, 106, 27, 6]
abbrev dktX2_writes_1 : List UInt8 := dkwX2_writes_1 ++ dktX2_writes_2
def dkwX2_writes_0 : List UInt8 := [16, 6, 42, 180, 0, 120, 104, 60, 42, 180, 0, 106, 27, 42, 182, 0, 254, 79, 42, 180, 0, 106, 27, 4]
abbrev dktX2_writes_0 : List UInt8 := dkwX2_writes_0 ++ dktX2_writes_1
theorem dksX2_writes_0 : cX2_writes.data.toList.drop 0 = dktX2_writes_0 := by decide +kernel
theorem dksX2_writes_1 : cX2_writes.data.toList.drop 24 = dktX2_writes_1 := dk_seg dksX2_writes_0 24 rfl rfl
theorem dksX2_writes_2 : cX2_writes.data.toList.drop 48 = dktX2_writes_2 := dk_seg dksX2_writes_1 24 rfl rfl
theorem dksX2_writes_3 : cX2_writes.data.toList.drop 72 = dktX2_writes_3 := dk_seg dksX2_writes_2 24 rfl rfl
theorem dX2_writes_0 : decode cX2_writes 0 = .ok (.bipush 6, 2) := dk_16 6 (dk_at dksX2_writes_0 0 rfl rfl)
theorem dX2_writes_2 : decode cX2_writes 2 = .ok (.aload_n 0, 1) := dk_42 (dk_at dksX2_writes_0 2 rfl rfl)
theorem dX2_writes_3 : decode cX2_writes 3 = .ok (.getfield 120, 3) := dk_180 0 120 (dk_at dksX2_writes_0 3 rfl rfl)
theorem dX2_writes_6 : decode cX2_writes 6 = .ok (.imul, 1) := dk_104 (dk_at dksX2_writes_0 6 rfl rfl)
theorem dX2_writes_7 : decode cX2_writes 7 = .ok (.istore_n 1, 1) := dk_60 (dk_at dksX2_writes_0 7 rfl rfl)
theorem dX2_writes_8 : decode cX2_writes 8 = .ok (.aload_n 0, 1) := dk_42 (dk_at dksX2_writes_0 8 rfl rfl)
theorem dX2_writes_9 : decode cX2_writes 9 = .ok (.getfield 106, 3) := dk_180 0 106 (dk_at dksX2_writes_0 9 rfl rfl)
theorem dX2_writes_12 : decode cX2_writes 12 = .ok (.iload_n 1, 1) := dk_27 (dk_at dksX2_writes_0 12 rfl rfl)
theorem dX2_writes_13 : decode cX2_writes 13 = .ok (.aload_n 0, 1) := dk_42 (dk_at dksX2_writes_0 13 rfl rfl)
theorem dX2_writes_14 : decode cX2_writes 14 = .ok (.invokevirtual 254, 3) := dk_182 0 254 (dk_at dksX2_writes_0 14 rfl rfl)
theorem dX2_writes_17 : decode cX2_writes 17 = .ok (.iastore, 1) := dk_79 (dk_at dksX2_writes_0 17 rfl rfl)
theorem dX2_writes_18 : decode cX2_writes 18 = .ok (.aload_n 0, 1) := dk_42 (dk_at dksX2_writes_0 18 rfl rfl)
theorem dX2_writes_19 : decode cX2_writes 19 = .ok (.getfield 106, 3) := dk_180 0 106 (dk_at dksX2_writes_0 19 rfl rfl)
theorem dX2_writes_22 : decode cX2_writes 22 = .ok (.iload_n 1, 1) := dk_27 (dk_at dksX2_writes_0 22 rfl rfl)
theorem dX2_writes_23 : decode cX2_writes 23 = .ok (.iconst 1, 1) := dk_4 (dk_at dksX2_writes_0 23 rfl rfl)
theorem dX2_writes_24 : decode cX2_writes 24 = .ok (.iadd, 1) := dk_96 (dk_at dksX2_writes_1 0 rfl rfl)
theorem dX2_writes_25 : decode cX2_writes 25 = .ok (.aload_n 0, 1) := dk_42 (dk_at dksX2_writes_1 1 rfl rfl)
theorem dX2_writes_26 : decode cX2_writes 26 = .ok (.invokevirtual 251, 3) := dk_182 0 251 (dk_at dksX2_writes_1 2 rfl rfl)
theorem dX2_writes_29 : decode cX2_writes 29 = .ok (.iastore, 1) := dk_79 (dk_at dksX2_writes_1 5 rfl rfl)
theorem dX2_writes_30 : decode cX2_writes 30 = .ok (.aload_n 0, 1) := dk_42 (dk_at dksX2_writes_1 6 rfl rfl)
theorem dX2_writes_31 : decode cX2_writes 31 = .ok (.getfield 106, 3) := dk_180 0 106 (dk_at dksX2_writes_1 7 rfl rfl)
theorem dX2_writes_34 : decode cX2_writes 34 = .ok (.iload_n 1, 1) := dk_27 (dk_at dksX2_writes_1 10 rfl rfl)
theorem dX2_writes_35 : decode cX2_writes 35 = .ok (.iconst 2, 1) := dk_5 (dk_at dksX2_writes_1 11 rfl rfl)
theorem dX2_writes_36 : decode cX2_writes 36 = .ok (.iadd, 1) := dk_96 (dk_at dksX2_writes_1 12 rfl rfl)
theorem dX2_writes_37 : decode cX2_writes 37 = .ok (.aload_n 0, 1) := dk_42 (dk_at dksX2_writes_1 13 rfl rfl)
theorem dX2_writes_38 : decode cX2_writes 38 = .ok (.getfield 9, 3) := dk_180 0 9 (dk_at dksX2_writes_1 14 rfl rfl)
theorem dX2_writes_41 : decode cX2_writes 41 = .ok (.iastore, 1) := dk_79 (dk_at dksX2_writes_1 17 rfl rfl)
theorem dX2_writes_42 : decode cX2_writes 42 = .ok (.aload_n 0, 1) := dk_42 (dk_at dksX2_writes_1 18 rfl rfl)
theorem dX2_writes_43 : decode cX2_writes 43 = .ok (.getfield 106, 3) := dk_180 0 106 (dk_at dksX2_writes_1 19 rfl rfl)
theorem dX2_writes_46 : decode cX2_writes 46 = .ok (.iload_n 1, 1) := dk_27 (dk_at dksX2_writes_1 22 rfl rfl)
theorem dX2_writes_47 : decode cX2_writes 47 = .ok (.iconst 3, 1) := dk_6 (dk_at dksX2_writes_1 23 rfl rfl)
theorem dX2_writes_48 : decode cX2_writes 48 = .ok (.iadd, 1) := dk_96 (dk_at dksX2_writes_2 0 rfl rfl)
theorem dX2_writes_49 : decode cX2_writes 49 = .ok (.aload_n 0, 1) := dk_42 (dk_at dksX2_writes_2 1 rfl rfl)
theorem dX2_writes_50 : decode cX2_writes 50 = .ok (.getfield 15, 3) := dk_180 0 15 (dk_at dksX2_writes_2 2 rfl rfl)
theorem dX2_writes_53 : decode cX2_writes 53 = .ok (.iastore, 1) := dk_79 (dk_at dksX2_writes_2 5 rfl rfl)
theorem dX2_writes_54 : decode cX2_writes 54 = .ok (.aload_n 0, 1) := dk_42 (dk_at dksX2_writes_2 6 rfl rfl)
theorem dX2_writes_55 : decode cX2_writes 55 = .ok (.getfield 106, 3) := dk_180 0 106 (dk_at dksX2_writes_2 7 rfl rfl)
theorem dX2_writes_58 : decode cX2_writes 58 = .ok (.iload_n 1, 1) := dk_27 (dk_at dksX2_writes_2 10 rfl rfl)
theorem dX2_writes_59 : decode cX2_writes 59 = .ok (.iconst 4, 1) := dk_7 (dk_at dksX2_writes_2 11 rfl rfl)
theorem dX2_writes_60 : decode cX2_writes 60 = .ok (.iadd, 1) := dk_96 (dk_at dksX2_writes_2 12 rfl rfl)
theorem dX2_writes_61 : decode cX2_writes 61 = .ok (.aload_n 0, 1) := dk_42 (dk_at dksX2_writes_2 13 rfl rfl)
theorem dX2_writes_62 : decode cX2_writes 62 = .ok (.getfield 126, 3) := dk_180 0 126 (dk_at dksX2_writes_2 14 rfl rfl)
theorem dX2_writes_65 : decode cX2_writes 65 = .ok (.iastore, 1) := dk_79 (dk_at dksX2_writes_2 17 rfl rfl)
theorem dX2_writes_66 : decode cX2_writes 66 = .ok (.aload_n 0, 1) := dk_42 (dk_at dksX2_writes_2 18 rfl rfl)
theorem dX2_writes_67 : decode cX2_writes 67 = .ok (.getfield 106, 3) := dk_180 0 106 (dk_at dksX2_writes_2 19 rfl rfl)
theorem dX2_writes_70 : decode cX2_writes 70 = .ok (.iload_n 1, 1) := dk_27 (dk_at dksX2_writes_2 22 rfl rfl)
theorem dX2_writes_71 : decode cX2_writes 71 = .ok (.iconst 5, 1) := dk_8 (dk_at dksX2_writes_2 23 rfl rfl)
theorem dX2_writes_72 : decode cX2_writes 72 = .ok (.iadd, 1) := dk_96 (dk_at dksX2_writes_3 0 rfl rfl)
theorem dX2_writes_73 : decode cX2_writes 73 = .ok (.aload_n 0, 1) := dk_42 (dk_at dksX2_writes_3 1 rfl rfl)
theorem dX2_writes_74 : decode cX2_writes 74 = .ok (.getfield 123, 3) := dk_180 0 123 (dk_at dksX2_writes_3 2 rfl rfl)
theorem dX2_writes_77 : decode cX2_writes 77 = .ok (.iastore, 1) := dk_79 (dk_at dksX2_writes_3 5 rfl rfl)
theorem dX2_writes_78 : decode cX2_writes 78 = .ok (.return_, 1) := dk_177 (dk_at dksX2_writes_3 6 rfl rfl)
def dkwX2_hired_2 : List UInt8 := [172]
abbrev dktX2_hired_2 : List UInt8 := dkwX2_hired_2 ++ []
def dkwX2_hired_1 : List UInt8 := [192, 0, 153, 180, 0, 221, 6, 160, 0, 7, 4, 167, 0, 4, 3, 96, 60, 132, 2, 1, 167, 255, 216, 27]
abbrev dktX2_hired_1 : List UInt8 := dkwX2_hired_1 ++ dktX2_hired_2
def dkwX2_hired_0 : List UInt8 := [3, 60, 3, 61, 28, 42, 180, 0, 73, 182, 0, 149, 162, 0, 35, 27, 42, 180, 0, 73, 28, 182, 0, 141]
abbrev dktX2_hired_0 : List UInt8 := dkwX2_hired_0 ++ dktX2_hired_1
theorem dksX2_hired_0 : cX2_hired.data.toList.drop 0 = dktX2_hired_0 := by decide +kernel
theorem dksX2_hired_1 : cX2_hired.data.toList.drop 24 = dktX2_hired_1 := dk_seg dksX2_hired_0 24 rfl rfl
theorem dksX2_hired_2 : cX2_hired.data.toList.drop 48 = dktX2_hired_2 := dk_seg dksX2_hired_1 24 rfl rfl
theorem dX2_hired_0 : decode cX2_hired 0 = .ok (.iconst 0, 1) := dk_3 (dk_at dksX2_hired_0 0 rfl rfl)
theorem dX2_hired_1 : decode cX2_hired 1 = .ok (.istore_n 1, 1) := dk_60 (dk_at dksX2_hired_0 1 rfl rfl)
theorem dX2_hired_2 : decode cX2_hired 2 = .ok (.iconst 0, 1) := dk_3 (dk_at dksX2_hired_0 2 rfl rfl)
theorem dX2_hired_3 : decode cX2_hired 3 = .ok (.istore_n 2, 1) := dk_61 (dk_at dksX2_hired_0 3 rfl rfl)
theorem dX2_hired_4 : decode cX2_hired 4 = .ok (.iload_n 2, 1) := dk_28 (dk_at dksX2_hired_0 4 rfl rfl)
theorem dX2_hired_5 : decode cX2_hired 5 = .ok (.aload_n 0, 1) := dk_42 (dk_at dksX2_hired_0 5 rfl rfl)
theorem dX2_hired_6 : decode cX2_hired 6 = .ok (.getfield 73, 3) := dk_180 0 73 (dk_at dksX2_hired_0 6 rfl rfl)
theorem dX2_hired_9 : decode cX2_hired 9 = .ok (.invokevirtual 149, 3) := dk_182 0 149 (dk_at dksX2_hired_0 9 rfl rfl)
theorem dX2_hired_12 : decode cX2_hired 12 = .ok (.if_icmp .ge 35, 3) := dk_162 0 35 (dk_at dksX2_hired_0 12 rfl rfl)
theorem dX2_hired_15 : decode cX2_hired 15 = .ok (.iload_n 1, 1) := dk_27 (dk_at dksX2_hired_0 15 rfl rfl)
theorem dX2_hired_16 : decode cX2_hired 16 = .ok (.aload_n 0, 1) := dk_42 (dk_at dksX2_hired_0 16 rfl rfl)
theorem dX2_hired_17 : decode cX2_hired 17 = .ok (.getfield 73, 3) := dk_180 0 73 (dk_at dksX2_hired_0 17 rfl rfl)
theorem dX2_hired_20 : decode cX2_hired 20 = .ok (.iload_n 2, 1) := dk_28 (dk_at dksX2_hired_0 20 rfl rfl)
theorem dX2_hired_21 : decode cX2_hired 21 = .ok (.invokevirtual 141, 3) := dk_182 0 141 (dk_at dksX2_hired_0 21 rfl rfl)
theorem dX2_hired_24 : decode cX2_hired 24 = .ok (.checkcast 153, 3) := dk_192 0 153 (dk_at dksX2_hired_1 0 rfl rfl)
theorem dX2_hired_27 : decode cX2_hired 27 = .ok (.getfield 221, 3) := dk_180 0 221 (dk_at dksX2_hired_1 3 rfl rfl)
theorem dX2_hired_30 : decode cX2_hired 30 = .ok (.iconst 3, 1) := dk_6 (dk_at dksX2_hired_1 6 rfl rfl)
theorem dX2_hired_31 : decode cX2_hired 31 = .ok (.if_icmp .ne 7, 3) := dk_160 0 7 (dk_at dksX2_hired_1 7 rfl rfl)
theorem dX2_hired_34 : decode cX2_hired 34 = .ok (.iconst 1, 1) := dk_4 (dk_at dksX2_hired_1 10 rfl rfl)
theorem dX2_hired_35 : decode cX2_hired 35 = .ok (.goto 4, 3) := dk_167 0 4 (dk_at dksX2_hired_1 11 rfl rfl)
theorem dX2_hired_38 : decode cX2_hired 38 = .ok (.iconst 0, 1) := dk_3 (dk_at dksX2_hired_1 14 rfl rfl)
theorem dX2_hired_39 : decode cX2_hired 39 = .ok (.iadd, 1) := dk_96 (dk_at dksX2_hired_1 15 rfl rfl)
theorem dX2_hired_40 : decode cX2_hired 40 = .ok (.istore_n 1, 1) := dk_60 (dk_at dksX2_hired_1 16 rfl rfl)
theorem dX2_hired_41 : decode cX2_hired 41 = .ok (.iinc 2 1, 3) := dk_132 2 1 (dk_at dksX2_hired_1 17 rfl rfl)
theorem dX2_hired_44 : decode cX2_hired 44 = .ok (.goto (-40), 3) := dk_167 255 216 (dk_at dksX2_hired_1 20 rfl rfl)
theorem dX2_hired_47 : decode cX2_hired 47 = .ok (.iload_n 1, 1) := dk_27 (dk_at dksX2_hired_1 23 rfl rfl)
theorem dX2_hired_48 : decode cX2_hired 48 = .ok (.ireturn, 1) := dk_172 (dk_at dksX2_hired_2 0 rfl rfl)
