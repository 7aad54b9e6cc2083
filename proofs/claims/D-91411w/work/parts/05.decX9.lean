set_option maxRecDepth 100000
def dkwX9_init_12 : List UInt8 := [132, 1, 1, 167, 255, 240, 177]
abbrev dktX9_init_12 : List UInt8 := dkwX9_init_12 ++ []
def dkwX9_init_11 : List UInt8 := [2, 79, 132, 1, 1, 167, 255, 236, 3, 60, 27, 16, 96, 162, 0, 16, 42, 180, 0, 46, 27, 2, 79]
abbrev dktX9_init_11 : List UInt8 := dkwX9_init_11 ++ dktX9_init_12
def dkwX9_init_10 : List UInt8 := [17, 8, 70, 17, 0, 200, 79, 3, 60, 27, 16, 12, 162, 0, 20, 42, 180, 0, 9, 17, 8, 32, 27, 96]
abbrev dktX9_init_10 : List UInt8 := dkwX9_init_10 ++ dktX9_init_11
def dkwX9_init_9 : List UInt8 := [79, 132, 1, 1, 167, 255, 203, 42, 180, 0, 9, 17, 8, 69, 17, 1, 244, 79, 42, 180, 0, 9]
abbrev dktX9_init_9 : List UInt8 := dkwX9_init_9 ++ dktX9_init_10
def dkwX9_init_8 : List UInt8 := [42, 180, 0, 9, 16, 8, 27, 104, 8, 96, 2, 79, 42, 180, 0, 9, 16, 8, 27, 104, 16, 6, 96, 2]
abbrev dktX9_init_8 : List UInt8 := dkwX9_init_8 ++ dktX9_init_9
def dkwX9_init_7 : List UInt8 := [16, 96, 162, 0, 53, 42, 180, 0, 16, 27, 8, 79, 42, 180, 0, 9, 16, 8, 27, 104, 4, 96, 2, 79]
abbrev dktX9_init_7 : List UInt8 := dkwX9_init_7 ++ dktX9_init_8
def dkwX9_init_6 : List UInt8 := [188, 10, 181, 0, 64, 42, 6, 188, 10, 181, 0, 67, 42, 17, 0, 196, 188, 10, 181, 0, 70, 3, 60, 27]
abbrev dktX9_init_6 : List UInt8 := dkwX9_init_6 ++ dktX9_init_7
def dkwX9_init_5 : List UInt8 := [17, 1, 144, 188, 10, 181, 0, 55, 42, 2, 181, 0, 58, 42, 17, 27, 95, 188, 10, 181, 0, 61, 42, 6]
abbrev dktX9_init_5 : List UInt8 := dkwX9_init_5 ++ dktX9_init_6
def dkwX9_init_4 : List UInt8 := [188, 10, 181, 0, 46, 42, 16, 12, 188, 4, 181, 0, 49, 42, 17, 4, 176, 188, 4, 181, 0, 52, 42]
abbrev dktX9_init_4 : List UInt8 := dkwX9_init_4 ++ dktX9_init_5
def dkwX9_init_3 : List UInt8 := [181, 0, 37, 42, 17, 18, 192, 188, 10, 181, 0, 40, 42, 17, 18, 192, 188, 10, 181, 0, 43, 42, 16, 96]
abbrev dktX9_init_3 : List UInt8 := dkwX9_init_3 ++ dktX9_init_4
def dkwX9_init_2 : List UInt8 := [42, 7, 188, 10, 181, 0, 26, 42, 2, 181, 0, 29, 42, 17, 1, 44, 188, 8, 181, 0, 33, 42, 2]
abbrev dktX9_init_2 : List UInt8 := dkwX9_init_2 ++ dktX9_init_3
def dkwX9_init_1 : List UInt8 := [16, 96, 188, 10, 181, 0, 16, 42, 16, 96, 188, 4, 181, 0, 19, 42, 17, 15, 160, 188, 10, 181, 0, 23]
abbrev dktX9_init_1 : List UInt8 := dkwX9_init_1 ++ dktX9_init_2
def dkwX9_init_0 : List UInt8 := [42, 183, 0, 3, 42, 17, 8, 84, 188, 10, 181, 0, 9, 42, 17, 8, 84, 188, 10, 181, 0, 13, 42]
abbrev dktX9_init_0 : List UInt8 := dkwX9_init_0 ++ dktX9_init_1
theorem dksX9_init_0 : cX9_init.data.toList.drop 0 = dktX9_init_0 := by decide +kernel
theorem dksX9_init_1 : cX9_init.data.toList.drop 23 = dktX9_init_1 := dk_seg dksX9_init_0 23 rfl rfl
theorem dksX9_init_2 : cX9_init.data.toList.drop 47 = dktX9_init_2 := dk_seg dksX9_init_1 24 rfl rfl
theorem dksX9_init_3 : cX9_init.data.toList.drop 70 = dktX9_init_3 := dk_seg dksX9_init_2 23 rfl rfl
theorem dksX9_init_4 : cX9_init.data.toList.drop 94 = dktX9_init_4 := dk_seg dksX9_init_3 24 rfl rfl
theorem dksX9_init_5 : cX9_init.data.toList.drop 117 = dktX9_init_5 := dk_seg dksX9_init_4 23 rfl rfl
theorem dksX9_init_6 : cX9_init.data.toList.drop 141 = dktX9_init_6 := dk_seg dksX9_init_5 24 rfl rfl
theorem dksX9_init_7 : cX9_init.data.toList.drop 165 = dktX9_init_7 := dk_seg dksX9_init_6 24 rfl rfl
theorem dksX9_init_8 : cX9_init.data.toList.drop 189 = dktX9_init_8 := dk_seg dksX9_init_7 24 rfl rfl
theorem dksX9_init_9 : cX9_init.data.toList.drop 213 = dktX9_init_9 := dk_seg dksX9_init_8 24 rfl rfl
theorem dksX9_init_10 : cX9_init.data.toList.drop 235 = dktX9_init_10 := dk_seg dksX9_init_9 22 rfl rfl
theorem dksX9_init_11 : cX9_init.data.toList.drop 259 = dktX9_init_11 := dk_seg dksX9_init_10 24 rfl rfl
theorem dksX9_init_12 : cX9_init.data.toList.drop 282 = dktX9_init_12 := dk_seg dksX9_init_11 23 rfl rfl
theorem dX9_init_0 : decode cX9_init 0 = .ok (.aload_n 0, 1) := dk_42 (dk_at dksX9_init_0 0 rfl rfl)
theorem dX9_init_1 : decode cX9_init 1 = .ok (.invokespecial 3, 3) := dk_183 0 3 (dk_at dksX9_init_0 1 rfl rfl)
theorem dX9_init_4 : decode cX9_init 4 = .ok (.aload_n 0, 1) := dk_42 (dk_at dksX9_init_0 4 rfl rfl)
theorem dX9_init_5 : decode cX9_init 5 = .ok (.sipush 2132, 3) := dk_17 8 84 (dk_at dksX9_init_0 5 rfl rfl)
theorem dX9_init_8 : decode cX9_init 8 = .ok (.newarray .int, 2) := dk_188_10 (dk_at dksX9_init_0 8 rfl rfl)
theorem dX9_init_10 : decode cX9_init 10 = .ok (.putfield 9, 3) := dk_181 0 9 (dk_at dksX9_init_0 10 rfl rfl)
theorem dX9_init_13 : decode cX9_init 13 = .ok (.aload_n 0, 1) := dk_42 (dk_at dksX9_init_0 13 rfl rfl)
theorem dX9_init_14 : decode cX9_init 14 = .ok (.sipush 2132, 3) := dk_17 8 84 (dk_at dksX9_init_0 14 rfl rfl)
theorem dX9_init_17 : decode cX9_init 17 = .ok (.newarray .int, 2) := dk_188_10 (dk_at dksX9_init_0 17 rfl rfl)
theorem dX9_init_19 : decode cX9_init 19 = .ok (.putfield 13, 3) := dk_181 0 13 (dk_at dksX9_init_0 19 rfl rfl)
theorem dX9_init_22 : decode cX9_init 22 = .ok (.aload_n 0, 1) := dk_42 (dk_at dksX9_init_0 22 rfl rfl)
theorem dX9_init_23 : decode cX9_init 23 = .ok (.bipush 96, 2) := dk_16 96 (dk_at dksX9_init_1 0 rfl rfl)
theorem dX9_init_25 : decode cX9_init 25 = .ok (.newarray .int, 2) := dk_188_10 (dk_at dksX9_init_1 2 rfl rfl)
theorem dX9_init_27 : decode cX9_init 27 = .ok (.putfield 16, 3) := dk_181 0 16 (dk_at dksX9_init_1 4 rfl rfl)
theorem dX9_init_30 : decode cX9_init 30 = .ok (.aload_n 0, 1) := dk_42 (dk_at dksX9_init_1 7 rfl rfl)
theorem dX9_init_31 : decode cX9_init 31 = .ok (.bipush 96, 2) := dk_16 96 (dk_at dksX9_init_1 8 rfl rfl)
theorem dX9_init_33 : decode cX9_init 33 = .ok (.newarray .boolean, 2) := dk_188_4 (dk_at dksX9_init_1 10 rfl rfl)
theorem dX9_init_35 : decode cX9_init 35 = .ok (.putfield 19, 3) := dk_181 0 19 (dk_at dksX9_init_1 12 rfl rfl)
theorem dX9_init_38 : decode cX9_init 38 = .ok (.aload_n 0, 1) := dk_42 (dk_at dksX9_init_1 15 rfl rfl)
theorem dX9_init_39 : decode cX9_init 39 = .ok (.sipush 4000, 3) := dk_17 15 160 (dk_at dksX9_init_1 16 rfl rfl)
theorem dX9_init_42 : decode cX9_init 42 = .ok (.newarray .int, 2) := dk_188_10 (dk_at dksX9_init_1 19 rfl rfl)
theorem dX9_init_44 : decode cX9_init 44 = .ok (.putfield 23, 3) := dk_181 0 23 (dk_at dksX9_init_1 21 rfl rfl)
theorem dX9_init_47 : decode cX9_init 47 = .ok (.aload_n 0, 1) := dk_42 (dk_at dksX9_init_2 0 rfl rfl)
theorem dX9_init_48 : decode cX9_init 48 = .ok (.iconst 4, 1) := dk_7 (dk_at dksX9_init_2 1 rfl rfl)
theorem dX9_init_49 : decode cX9_init 49 = .ok (.newarray .int, 2) := dk_188_10 (dk_at dksX9_init_2 2 rfl rfl)
theorem dX9_init_51 : decode cX9_init 51 = .ok (.putfield 26, 3) := dk_181 0 26 (dk_at dksX9_init_2 4 rfl rfl)
theorem dX9_init_54 : decode cX9_init 54 = .ok (.aload_n 0, 1) := dk_42 (dk_at dksX9_init_2 7 rfl rfl)
theorem dX9_init_55 : decode cX9_init 55 = .ok (.iconst (-1), 1) := dk_2 (dk_at dksX9_init_2 8 rfl rfl)
theorem dX9_init_56 : decode cX9_init 56 = .ok (.putfield 29, 3) := dk_181 0 29 (dk_at dksX9_init_2 9 rfl rfl)
theorem dX9_init_59 : decode cX9_init 59 = .ok (.aload_n 0, 1) := dk_42 (dk_at dksX9_init_2 12 rfl rfl)
theorem dX9_init_60 : decode cX9_init 60 = .ok (.sipush 300, 3) := dk_17 1 44 (dk_at dksX9_init_2 13 rfl rfl)
theorem dX9_init_63 : decode cX9_init 63 = .ok (.newarray .byte, 2) := dk_188_8 (dk_at dksX9_init_2 16 rfl rfl)
theorem dX9_init_65 : decode cX9_init 65 = .ok (.putfield 33, 3) := dk_181 0 33 (dk_at dksX9_init_2 18 rfl rfl)
theorem dX9_init_68 : decode cX9_init 68 = .ok (.aload_n 0, 1) := dk_42 (dk_at dksX9_init_2 21 rfl rfl)
theorem dX9_init_69 : decode cX9_init 69 = .ok (.iconst (-1), 1) := dk_2 (dk_at dksX9_init_2 22 rfl rfl)
theorem dX9_init_70 : decode cX9_init 70 = .ok (.putfield 37, 3) := dk_181 0 37 (dk_at dksX9_init_3 0 rfl rfl)
theorem dX9_init_73 : decode cX9_init 73 = .ok (.aload_n 0, 1) := dk_42 (dk_at dksX9_init_3 3 rfl rfl)
theorem dX9_init_74 : decode cX9_init 74 = .ok (.sipush 4800, 3) := dk_17 18 192 (dk_at dksX9_init_3 4 rfl rfl)
theorem dX9_init_77 : decode cX9_init 77 = .ok (.newarray .int, 2) := dk_188_10 (dk_at dksX9_init_3 7 rfl rfl)
theorem dX9_init_79 : decode cX9_init 79 = .ok (.putfield 40, 3) := dk_181 0 40 (dk_at dksX9_init_3 9 rfl rfl)
theorem dX9_init_82 : decode cX9_init 82 = .ok (.aload_n 0, 1) := dk_42 (dk_at dksX9_init_3 12 rfl rfl)
theorem dX9_init_83 : decode cX9_init 83 = .ok (.sipush 4800, 3) := dk_17 18 192 (dk_at dksX9_init_3 13 rfl rfl)
theorem dX9_init_86 : decode cX9_init 86 = .ok (.newarray .int, 2) := dk_188_10 (dk_at dksX9_init_3 16 rfl rfl)
theorem dX9_init_88 : decode cX9_init 88 = .ok (.putfield 43, 3) := dk_181 0 43 (dk_at dksX9_init_3 18 rfl rfl)
theorem dX9_init_91 : decode cX9_init 91 = .ok (.aload_n 0, 1) := dk_42 (dk_at dksX9_init_3 21 rfl rfl)
theorem dX9_init_92 : decode cX9_init 92 = .ok (.bipush 96, 2) := dk_16 96 (dk_at dksX9_init_3 22 rfl rfl)
theorem dX9_init_94 : decode cX9_init 94 = .ok (.newarray .int, 2) := dk_188_10 (dk_at dksX9_init_4 0 rfl rfl)
theorem dX9_init_96 : decode cX9_init 96 = .ok (.putfield 46, 3) := dk_181 0 46 (dk_at dksX9_init_4 2 rfl rfl)
theorem dX9_init_99 : decode cX9_init 99 = .ok (.aload_n 0, 1) := dk_42 (dk_at dksX9_init_4 5 rfl rfl)
theorem dX9_init_100 : decode cX9_init 100 = .ok (.bipush 12, 2) := dk_16 12 (dk_at dksX9_init_4 6 rfl rfl)
theorem dX9_init_102 : decode cX9_init 102 = .ok (.newarray .boolean, 2) := dk_188_4 (dk_at dksX9_init_4 8 rfl rfl)
theorem dX9_init_104 : decode cX9_init 104 = .ok (.putfield 49, 3) := dk_181 0 49 (dk_at dksX9_init_4 10 rfl rfl)
theorem dX9_init_107 : decode cX9_init 107 = .ok (.aload_n 0, 1) := dk_42 (dk_at dksX9_init_4 13 rfl rfl)
theorem dX9_init_108 : decode cX9_init 108 = .ok (.sipush 1200, 3) := dk_17 4 176 (dk_at dksX9_init_4 14 rfl rfl)
theorem dX9_init_111 : decode cX9_init 111 = .ok (.newarray .boolean, 2) := dk_188_4 (dk_at dksX9_init_4 17 rfl rfl)
theorem dX9_init_113 : decode cX9_init 113 = .ok (.putfield 52, 3) := dk_181 0 52 (dk_at dksX9_init_4 19 rfl rfl)
theorem dX9_init_116 : decode cX9_init 116 = .ok (.aload_n 0, 1) := dk_42 (dk_at dksX9_init_4 22 rfl rfl)
theorem dX9_init_117 : decode cX9_init 117 = .ok (.sipush 400, 3) := dk_17 1 144 (dk_at dksX9_init_5 0 rfl rfl)
theorem dX9_init_120 : decode cX9_init 120 = .ok (.newarray .int, 2) := dk_188_10 (dk_at dksX9_init_5 3 rfl rfl)
theorem dX9_init_122 : decode cX9_init 122 = .ok (.putfield 55, 3) := dk_181 0 55 (dk_at dksX9_init_5 5 rfl rfl)
theorem dX9_init_125 : decode cX9_init 125 = .ok (.aload_n 0, 1) := dk_42 (dk_at dksX9_init_5 8 rfl rfl)
theorem dX9_init_126 : decode cX9_init 126 = .ok (.iconst (-1), 1) := dk_2 (dk_at dksX9_init_5 9 rfl rfl)
theorem dX9_init_127 : decode cX9_init 127 = .ok (.putfield 58, 3) := dk_181 0 58 (dk_at dksX9_init_5 10 rfl rfl)
theorem dX9_init_130 : decode cX9_init 130 = .ok (.aload_n 0, 1) := dk_42 (dk_at dksX9_init_5 13 rfl rfl)
theorem dX9_init_131 : decode cX9_init 131 = .ok (.sipush 7007, 3) := dk_17 27 95 (dk_at dksX9_init_5 14 rfl rfl)
theorem dX9_init_134 : decode cX9_init 134 = .ok (.newarray .int, 2) := dk_188_10 (dk_at dksX9_init_5 17 rfl rfl)
theorem dX9_init_136 : decode cX9_init 136 = .ok (.putfield 61, 3) := dk_181 0 61 (dk_at dksX9_init_5 19 rfl rfl)
theorem dX9_init_139 : decode cX9_init 139 = .ok (.aload_n 0, 1) := dk_42 (dk_at dksX9_init_5 22 rfl rfl)
theorem dX9_init_140 : decode cX9_init 140 = .ok (.iconst 3, 1) := dk_6 (dk_at dksX9_init_5 23 rfl rfl)
theorem dX9_init_141 : decode cX9_init 141 = .ok (.newarray .int, 2) := dk_188_10 (dk_at dksX9_init_6 0 rfl rfl)
theorem dX9_init_143 : decode cX9_init 143 = .ok (.putfield 64, 3) := dk_181 0 64 (dk_at dksX9_init_6 2 rfl rfl)
theorem dX9_init_146 : decode cX9_init 146 = .ok (.aload_n 0, 1) := dk_42 (dk_at dksX9_init_6 5 rfl rfl)
theorem dX9_init_147 : decode cX9_init 147 = .ok (.iconst 3, 1) := dk_6 (dk_at dksX9_init_6 6 rfl rfl)
theorem dX9_init_148 : decode cX9_init 148 = .ok (.newarray .int, 2) := dk_188_10 (dk_at dksX9_init_6 7 rfl rfl)
theorem dX9_init_150 : decode cX9_init 150 = .ok (.putfield 67, 3) := dk_181 0 67 (dk_at dksX9_init_6 9 rfl rfl)
theorem dX9_init_153 : decode cX9_init 153 = .ok (.aload_n 0, 1) := dk_42 (dk_at dksX9_init_6 12 rfl rfl)
theorem dX9_init_154 : decode cX9_init 154 = .ok (.sipush 196, 3) := dk_17 0 196 (dk_at dksX9_init_6 13 rfl rfl)
theorem dX9_init_157 : decode cX9_init 157 = .ok (.newarray .int, 2) := dk_188_10 (dk_at dksX9_init_6 16 rfl rfl)
theorem dX9_init_159 : decode cX9_init 159 = .ok (.putfield 70, 3) := dk_181 0 70 (dk_at dksX9_init_6 18 rfl rfl)
theorem dX9_init_162 : decode cX9_init 162 = .ok (.iconst 0, 1) := dk_3 (dk_at dksX9_init_6 21 rfl rfl)
theorem dX9_init_163 : decode cX9_init 163 = .ok (.istore_n 1, 1) := dk_60 (dk_at dksX9_init_6 22 rfl rfl)
theorem dX9_init_164 : decode cX9_init 164 = .ok (.iload_n 1, 1) := dk_27 (dk_at dksX9_init_6 23 rfl rfl)
theorem dX9_init_165 : decode cX9_init 165 = .ok (.bipush 96, 2) := dk_16 96 (dk_at dksX9_init_7 0 rfl rfl)
theorem dX9_init_167 : decode cX9_init 167 = .ok (.if_icmp .ge 53, 3) := dk_162 0 53 (dk_at dksX9_init_7 2 rfl rfl)
theorem dX9_init_170 : decode cX9_init 170 = .ok (.aload_n 0, 1) := dk_42 (dk_at dksX9_init_7 5 rfl rfl)
theorem dX9_init_171 : decode cX9_init 171 = .ok (.getfield 16, 3) := dk_180 0 16 (dk_at dksX9_init_7 6 rfl rfl)
theorem dX9_init_174 : decode cX9_init 174 = .ok (.iload_n 1, 1) := dk_27 (dk_at dksX9_init_7 9 rfl rfl)
theorem dX9_init_175 : decode cX9_init 175 = .ok (.iconst 5, 1) := dk_8 (dk_at dksX9_init_7 10 rfl rfl)
theorem dX9_init_176 : decode cX9_init 176 = .ok (.iastore, 1) := dk_79 (dk_at dksX9_init_7 11 rfl rfl)
theorem dX9_init_177 : decode cX9_init 177 = .ok (.aload_n 0, 1) := dk_42 (dk_at dksX9_init_7 12 rfl rfl)
theorem dX9_init_178 : decode cX9_init 178 = .ok (.getfield 9, 3) := dk_180 0 9 (dk_at dksX9_init_7 13 rfl rfl)
theorem dX9_init_181 : decode cX9_init 181 = .ok (.bipush 8, 2) := dk_16 8 (dk_at dksX9_init_7 16 rfl rfl)
theorem dX9_init_183 : decode cX9_init 183 = .ok (.iload_n 1, 1) := dk_27 (dk_at dksX9_init_7 18 rfl rfl)
theorem dX9_init_184 : decode cX9_init 184 = .ok (.imul, 1) := dk_104 (dk_at dksX9_init_7 19 rfl rfl)
theorem dX9_init_185 : decode cX9_init 185 = .ok (.iconst 1, 1) := dk_4 (dk_at dksX9_init_7 20 rfl rfl)
theorem dX9_init_186 : decode cX9_init 186 = .ok (.iadd, 1) := dk_96 (dk_at dksX9_init_7 21 rfl rfl)
theorem dX9_init_187 : decode cX9_init 187 = .ok (.iconst (-1), 1) := dk_2 (dk_at dksX9_init_7 22 rfl rfl)
theorem dX9_init_188 : decode cX9_init 188 = .ok (.iastore, 1) := dk_79 (dk_at dksX9_init_7 23 rfl rfl)
theorem dX9_init_189 : decode cX9_init 189 = .ok (.aload_n 0, 1) := dk_42 (dk_at dksX9_init_8 0 rfl rfl)
theorem dX9_init_190 : decode cX9_init 190 = .ok (.getfield 9, 3) := dk_180 0 9 (dk_at dksX9_init_8 1 rfl rfl)
theorem dX9_init_193 : decode cX9_init 193 = .ok (.bipush 8, 2) := dk_16 8 (dk_at dksX9_init_8 4 rfl rfl)
theorem dX9_init_195 : decode cX9_init 195 = .ok (.iload_n 1, 1) := dk_27 (dk_at dksX9_init_8 6 rfl rfl)
theorem dX9_init_196 : decode cX9_init 196 = .ok (.imul, 1) := dk_104 (dk_at dksX9_init_8 7 rfl rfl)
theorem dX9_init_197 : decode cX9_init 197 = .ok (.iconst 5, 1) := dk_8 (dk_at dksX9_init_8 8 rfl rfl)
theorem dX9_init_198 : decode cX9_init 198 = .ok (.iadd, 1) := dk_96 (dk_at dksX9_init_8 9 rfl rfl)
theorem dX9_init_199 : decode cX9_init 199 = .ok (.iconst (-1), 1) := dk_2 (dk_at dksX9_init_8 10 rfl rfl)
theorem dX9_init_200 : decode cX9_init 200 = .ok (.iastore, 1) := dk_79 (dk_at dksX9_init_8 11 rfl rfl)
theorem dX9_init_201 : decode cX9_init 201 = .ok (.aload_n 0, 1) := dk_42 (dk_at dksX9_init_8 12 rfl rfl)
theorem dX9_init_202 : decode cX9_init 202 = .ok (.getfield 9, 3) := dk_180 0 9 (dk_at dksX9_init_8 13 rfl rfl)
theorem dX9_init_205 : decode cX9_init 205 = .ok (.bipush 8, 2) := dk_16 8 (dk_at dksX9_init_8 16 rfl rfl)
theorem dX9_init_207 : decode cX9_init 207 = .ok (.iload_n 1, 1) := dk_27 (dk_at dksX9_init_8 18 rfl rfl)
theorem dX9_init_208 : decode cX9_init 208 = .ok (.imul, 1) := dk_104 (dk_at dksX9_init_8 19 rfl rfl)
theorem dX9_init_209 : decode cX9_init 209 = .ok (.bipush 6, 2) := dk_16 6 (dk_at dksX9_init_8 20 rfl rfl)
theorem dX9_init_211 : decode cX9_init 211 = .ok (.iadd, 1) := dk_96 (dk_at dksX9_init_8 22 rfl rfl)
theorem dX9_init_212 : decode cX9_init 212 = .ok (.iconst (-1), 1) := dk_2 (dk_at dksX9_init_8 23 rfl rfl)
theorem dX9_init_213 : decode cX9_init 213 = .ok (.iastore, 1) := dk_79 (dk_at dksX9_init_9 0 rfl rfl)
theorem dX9_init_214 : decode cX9_init 214 = .ok (.iinc 1 1, 3) := dk_132 1 1 (dk_at dksX9_init_9 1 rfl rfl)
theorem dX9_init_217 : decode cX9_init 217 = .ok (.goto (-53), 3) := dk_167 255 203 (dk_at dksX9_init_9 4 rfl rfl)
theorem dX9_init_220 : decode cX9_init 220 = .ok (.aload_n 0, 1) := dk_42 (dk_at dksX9_init_9 7 rfl rfl)
theorem dX9_init_221 : decode cX9_init 221 = .ok (.getfield 9, 3) := dk_180 0 9 (dk_at dksX9_init_9 8 rfl rfl)
theorem dX9_init_224 : decode cX9_init 224 = .ok (.sipush 2117, 3) := dk_17 8 69 (dk_at dksX9_init_9 11 rfl rfl)
theorem dX9_init_227 : decode cX9_init 227 = .ok (.sipush 500, 3) := dk_17 1 244 (dk_at dksX9_init_9 14 rfl rfl)
theorem dX9_init_230 : decode cX9_init 230 = .ok (.iastore, 1) := dk_79 (dk_at dksX9_init_9 17 rfl rfl)
theorem dX9_init_231 : decode cX9_init 231 = .ok (.aload_n 0, 1) := dk_42 (dk_at dksX9_init_9 18 rfl rfl)
theorem dX9_init_232 : decode cX9_init 232 = .ok (.getfield 9, 3) := dk_180 0 9 (dk_at dksX9_init_9 19 rfl rfl)
theorem dX9_init_235 : decode cX9_init 235 = .ok (.sipush 2118, 3) := dk_17 8 70 (dk_at dksX9_init_10 0 rfl rfl)
theorem dX9_init_238 : decode cX9_init 238 = .ok (.sipush 200, 3) := dk_17 0 200 (dk_at dksX9_init_10 3 rfl rfl)
theorem dX9_init_241 : decode cX9_init 241 = .ok (.iastore, 1) := dk_79 (dk_at dksX9_init_10 6 rfl rfl)
theorem dX9_init_242 : decode cX9_init 242 = .ok (.iconst 0, 1) := dk_3 (dk_at dksX9_init_10 7 rfl rfl)
theorem dX9_init_243 : decode cX9_init 243 = .ok (.istore_n 1, 1) := dk_60 (dk_at dksX9_init_10 8 rfl rfl)
theorem dX9_init_244 : decode cX9_init 244 = .ok (.iload_n 1, 1) := dk_27 (dk_at dksX9_init_10 9 rfl rfl)
theorem dX9_init_245 : decode cX9_init 245 = .ok (.bipush 12, 2) := dk_16 12 (dk_at dksX9_init_10 10 rfl rfl)
theorem dX9_init_247 : decode cX9_init 247 = .ok (.if_icmp .ge 20, 3) := dk_162 0 20 (dk_at dksX9_init_10 12 rfl rfl)
theorem dX9_init_250 : decode cX9_init 250 = .ok (.aload_n 0, 1) := dk_42 (dk_at dksX9_init_10 15 rfl rfl)
theorem dX9_init_251 : decode cX9_init 251 = .ok (.getfield 9, 3) := dk_180 0 9 (dk_at dksX9_init_10 16 rfl rfl)
theorem dX9_init_254 : decode cX9_init 254 = .ok (.sipush 2080, 3) := dk_17 8 32 (dk_at dksX9_init_10 19 rfl rfl)
theorem dX9_init_257 : decode cX9_init 257 = .ok (.iload_n 1, 1) := dk_27 (dk_at dksX9_init_10 22 rfl rfl)
theorem dX9_init_258 : decode cX9_init 258 = .ok (.iadd, 1) := dk_96 (dk_at dksX9_init_10 23 rfl rfl)
theorem dX9_init_259 : decode cX9_init 259 = .ok (.iconst (-1), 1) := dk_2 (dk_at dksX9_init_11 0 rfl rfl)
theorem dX9_init_260 : decode cX9_init 260 = .ok (.iastore, 1) := dk_79 (dk_at dksX9_init_11 1 rfl rfl)
theorem dX9_init_261 : decode cX9_init 261 = .ok (.iinc 1 1, 3) := dk_132 1 1 (dk_at dksX9_init_11 2 rfl rfl)
theorem dX9_init_264 : decode cX9_init 264 = .ok (.goto (-20), 3) := dk_167 255 236 (dk_at dksX9_init_11 5 rfl rfl)
theorem dX9_init_267 : decode cX9_init 267 = .ok (.iconst 0, 1) := dk_3 (dk_at dksX9_init_11 8 rfl rfl)
theorem dX9_init_268 : decode cX9_init 268 = .ok (.istore_n 1, 1) := dk_60 (dk_at dksX9_init_11 9 rfl rfl)
theorem dX9_init_269 : decode cX9_init 269 = .ok (.iload_n 1, 1) := dk_27 (dk_at dksX9_init_11 10 rfl rfl)
theorem dX9_init_270 : decode cX9_init 270 = .ok (.bipush 96, 2) := dk_16 96 (dk_at dksX9_init_11 11 rfl rfl)
theorem dX9_init_272 : decode cX9_init 272 = .ok (.if_icmp .ge 16, 3) := dk_162 0 16 (dk_at dksX9_init_11 13 rfl rfl)
theorem dX9_init_275 : decode cX9_init 275 = .ok (.aload_n 0, 1) := dk_42 (dk_at dksX9_init_11 16 rfl rfl)
theorem dX9_init_276 : decode cX9_init 276 = .ok (.getfield 46, 3) := dk_180 0 46 (dk_at dksX9_init_11 17 rfl rfl)
theorem dX9_init_279 : decode cX9_init 279 = .ok (.iload_n 1, 1) := dk_27 (dk_at dksX9_init_11 20 rfl rfl)
theorem dX9_init_280 : decode cX9_init 280 = .ok (.iconst (-1), 1) := dk_2 (dk_at dksX9_init_11 21 rfl rfl)
theorem dX9_init_281 : decode cX9_init 281 = .ok (.iastore, 1) := dk_79 (dk_at dksX9_init_11 22 rfl rfl)
theorem dX9_init_282 : decode cX9_init 282 = .ok (.iinc 1 1, 3) := dk_132 1 1 (dk_at dksX9_init_12 0 rfl rfl)
theorem dX9_init_285 : decode cX9_init 285 = .ok (.goto (-16), 3) := dk_167 255 240 (dk_at dksX9_init_12 3 rfl rfl)
theorem dX9_init_288 : decode cX9_init 288 = .ok (.return_, 1) := dk_177 (dk_at dksX9_init_12 6 rfl rfl)
theorem dX9_thrown_0 : decode cX9_thrown 0 = .ok (.aload_n 0, 1) := by decide +kernel
theorem dX9_thrown_1 : decode cX9_thrown 1 = .ok (.getfield 73, 3) := by decide +kernel
theorem dX9_thrown_4 : decode cX9_thrown 4 = .ok (.ireturn, 1) := by decide +kernel
def dkwX9_land_3 : List UInt8 := [180, 0, 19, 27, 29, 84, 42, 180, 0, 9, 16, 8, 27, 104, 16, 7, 96, 3, 79, 4, 172]
abbrev dktX9_land_3 : List UInt8 := dkwX9_land_3 ++ []
def dkwX9_land_2 : List UInt8 := [153, 0, 5, 3, 172, 42, 27, 3, 182, 0, 88, 153, 0, 5, 2, 172, 42, 180, 0, 16, 27, 28, 79, 42]
abbrev dktX9_land_2 : List UInt8 := dkwX9_land_2 ++ dktX9_land_3
def dkwX9_land_1 : List UInt8 := [154, 0, 26, 42, 28, 155, 0, 9, 28, 16, 9, 164, 0, 7, 4, 167, 0, 4, 3, 5, 182, 0, 84]
abbrev dktX9_land_1 : List UInt8 := dkwX9_land_1 ++ dktX9_land_2
def dkwX9_land_0 : List UInt8 := [42, 3, 181, 0, 73, 42, 42, 27, 182, 0, 80, 154, 0, 7, 4, 167, 0, 4, 3, 4, 182, 0, 84]
abbrev dktX9_land_0 : List UInt8 := dkwX9_land_0 ++ dktX9_land_1
theorem dksX9_land_0 : cX9_land.data.toList.drop 0 = dktX9_land_0 := by decide +kernel
theorem dksX9_land_1 : cX9_land.data.toList.drop 23 = dktX9_land_1 := dk_seg dksX9_land_0 23 rfl rfl
theorem dksX9_land_2 : cX9_land.data.toList.drop 46 = dktX9_land_2 := dk_seg dksX9_land_1 23 rfl rfl
theorem dksX9_land_3 : cX9_land.data.toList.drop 70 = dktX9_land_3 := dk_seg dksX9_land_2 24 rfl rfl
theorem dX9_land_0 : decode cX9_land 0 = .ok (.aload_n 0, 1) := dk_42 (dk_at dksX9_land_0 0 rfl rfl)
theorem dX9_land_1 : decode cX9_land 1 = .ok (.iconst 0, 1) := dk_3 (dk_at dksX9_land_0 1 rfl rfl)
theorem dX9_land_2 : decode cX9_land 2 = .ok (.putfield 73, 3) := dk_181 0 73 (dk_at dksX9_land_0 2 rfl rfl)
theorem dX9_land_5 : decode cX9_land 5 = .ok (.aload_n 0, 1) := dk_42 (dk_at dksX9_land_0 5 rfl rfl)
theorem dX9_land_6 : decode cX9_land 6 = .ok (.aload_n 0, 1) := dk_42 (dk_at dksX9_land_0 6 rfl rfl)
theorem dX9_land_7 : decode cX9_land 7 = .ok (.iload_n 1, 1) := dk_27 (dk_at dksX9_land_0 7 rfl rfl)
theorem dX9_land_8 : decode cX9_land 8 = .ok (.invokevirtual 80, 3) := dk_182 0 80 (dk_at dksX9_land_0 8 rfl rfl)
theorem dX9_land_11 : decode cX9_land 11 = .ok (.ifCond .ne 7, 3) := dk_154 0 7 (dk_at dksX9_land_0 11 rfl rfl)
theorem dX9_land_14 : decode cX9_land 14 = .ok (.iconst 1, 1) := dk_4 (dk_at dksX9_land_0 14 rfl rfl)
theorem dX9_land_15 : decode cX9_land 15 = .ok (.goto 4, 3) := dk_167 0 4 (dk_at dksX9_land_0 15 rfl rfl)
theorem dX9_land_18 : decode cX9_land 18 = .ok (.iconst 0, 1) := dk_3 (dk_at dksX9_land_0 18 rfl rfl)
theorem dX9_land_19 : decode cX9_land 19 = .ok (.iconst 1, 1) := dk_4 (dk_at dksX9_land_0 19 rfl rfl)
theorem dX9_land_20 : decode cX9_land 20 = .ok (.invokevirtual 84, 3) := dk_182 0 84 (dk_at dksX9_land_0 20 rfl rfl)
theorem dX9_land_23 : decode cX9_land 23 = .ok (.ifCond .ne 26, 3) := dk_154 0 26 (dk_at dksX9_land_1 0 rfl rfl)
theorem dX9_land_26 : decode cX9_land 26 = .ok (.aload_n 0, 1) := dk_42 (dk_at dksX9_land_1 3 rfl rfl)
theorem dX9_land_27 : decode cX9_land 27 = .ok (.iload_n 2, 1) := dk_28 (dk_at dksX9_land_1 4 rfl rfl)
theorem dX9_land_28 : decode cX9_land 28 = .ok (.ifCond .lt 9, 3) := dk_155 0 9 (dk_at dksX9_land_1 5 rfl rfl)
theorem dX9_land_31 : decode cX9_land 31 = .ok (.iload_n 2, 1) := dk_28 (dk_at dksX9_land_1 8 rfl rfl)
theorem dX9_land_32 : decode cX9_land 32 = .ok (.bipush 9, 2) := dk_16 9 (dk_at dksX9_land_1 9 rfl rfl)
theorem dX9_land_34 : decode cX9_land 34 = .ok (.if_icmp .le 7, 3) := dk_164 0 7 (dk_at dksX9_land_1 11 rfl rfl)
theorem dX9_land_37 : decode cX9_land 37 = .ok (.iconst 1, 1) := dk_4 (dk_at dksX9_land_1 14 rfl rfl)
theorem dX9_land_38 : decode cX9_land 38 = .ok (.goto 4, 3) := dk_167 0 4 (dk_at dksX9_land_1 15 rfl rfl)
theorem dX9_land_41 : decode cX9_land 41 = .ok (.iconst 0, 1) := dk_3 (dk_at dksX9_land_1 18 rfl rfl)
theorem dX9_land_42 : decode cX9_land 42 = .ok (.iconst 2, 1) := dk_5 (dk_at dksX9_land_1 19 rfl rfl)
theorem dX9_land_43 : decode cX9_land 43 = .ok (.invokevirtual 84, 3) := dk_182 0 84 (dk_at dksX9_land_1 20 rfl rfl)
theorem dX9_land_46 : decode cX9_land 46 = .ok (.ifCond .eq 5, 3) := dk_153 0 5 (dk_at dksX9_land_2 0 rfl rfl)
theorem dX9_land_49 : decode cX9_land 49 = .ok (.iconst 0, 1) := dk_3 (dk_at dksX9_land_2 3 rfl rfl)
theorem dX9_land_50 : decode cX9_land 50 = .ok (.ireturn, 1) := dk_172 (dk_at dksX9_land_2 4 rfl rfl)
theorem dX9_land_51 : decode cX9_land 51 = .ok (.aload_n 0, 1) := dk_42 (dk_at dksX9_land_2 5 rfl rfl)
theorem dX9_land_52 : decode cX9_land 52 = .ok (.iload_n 1, 1) := dk_27 (dk_at dksX9_land_2 6 rfl rfl)
theorem dX9_land_53 : decode cX9_land 53 = .ok (.iconst 0, 1) := dk_3 (dk_at dksX9_land_2 7 rfl rfl)
theorem dX9_land_54 : decode cX9_land 54 = .ok (.invokevirtual 88, 3) := dk_182 0 88 (dk_at dksX9_land_2 8 rfl rfl)
theorem dX9_land_57 : decode cX9_land 57 = .ok (.ifCond .eq 5, 3) := dk_153 0 5 (dk_at dksX9_land_2 11 rfl rfl)
theorem dX9_land_60 : decode cX9_land 60 = .ok (.iconst (-1), 1) := dk_2 (dk_at dksX9_land_2 14 rfl rfl)
theorem dX9_land_61 : decode cX9_land 61 = .ok (.ireturn, 1) := dk_172 (dk_at dksX9_land_2 15 rfl rfl)
theorem dX9_land_62 : decode cX9_land 62 = .ok (.aload_n 0, 1) := dk_42 (dk_at dksX9_land_2 16 rfl rfl)
theorem dX9_land_63 : decode cX9_land 63 = .ok (.getfield 16, 3) := dk_180 0 16 (dk_at dksX9_land_2 17 rfl rfl)
theorem dX9_land_66 : decode cX9_land 66 = .ok (.iload_n 1, 1) := dk_27 (dk_at dksX9_land_2 20 rfl rfl)
theorem dX9_land_67 : decode cX9_land 67 = .ok (.iload_n 2, 1) := dk_28 (dk_at dksX9_land_2 21 rfl rfl)
theorem dX9_land_68 : decode cX9_land 68 = .ok (.iastore, 1) := dk_79 (dk_at dksX9_land_2 22 rfl rfl)
theorem dX9_land_69 : decode cX9_land 69 = .ok (.aload_n 0, 1) := dk_42 (dk_at dksX9_land_2 23 rfl rfl)
theorem dX9_land_70 : decode cX9_land 70 = .ok (.getfield 19, 3) := dk_180 0 19 (dk_at dksX9_land_3 0 rfl rfl)
theorem dX9_land_73 : decode cX9_land 73 = .ok (.iload_n 1, 1) := dk_27 (dk_at dksX9_land_3 3 rfl rfl)
theorem dX9_land_74 : decode cX9_land 74 = .ok (.iload_n 3, 1) := dk_29 (dk_at dksX9_land_3 4 rfl rfl)
theorem dX9_land_75 : decode cX9_land 75 = .ok (.bastore, 1) := dk_84 (dk_at dksX9_land_3 5 rfl rfl)
theorem dX9_land_76 : decode cX9_land 76 = .ok (.aload_n 0, 1) := dk_42 (dk_at dksX9_land_3 6 rfl rfl)
theorem dX9_land_77 : decode cX9_land 77 = .ok (.getfield 9, 3) := dk_180 0 9 (dk_at dksX9_land_3 7 rfl rfl)
theorem dX9_land_80 : decode cX9_land 80 = .ok (.bipush 8, 2) := dk_16 8 (dk_at dksX9_land_3 10 rfl rfl)
theorem dX9_land_82 : decode cX9_land 82 = .ok (.iload_n 1, 1) := dk_27 (dk_at dksX9_land_3 12 rfl rfl)
theorem dX9_land_83 : decode cX9_land 83 = .ok (.imul, 1) := dk_104 (dk_at dksX9_land_3 13 rfl rfl)
theorem dX9_land_84 : decode cX9_land 84 = .ok (.bipush 7, 2) := dk_16 7 (dk_at dksX9_land_3 14 rfl rfl)
theorem dX9_land_86 : decode cX9_land 86 = .ok (.iadd, 1) := dk_96 (dk_at dksX9_land_3 16 rfl rfl)
theorem dX9_land_87 : decode cX9_land 87 = .ok (.iconst 0, 1) := dk_3 (dk_at dksX9_land_3 17 rfl rfl)
theorem dX9_land_88 : decode cX9_land 88 = .ok (.iastore, 1) := dk_79 (dk_at dksX9_land_3 18 rfl rfl)
theorem dX9_land_89 : decode cX9_land 89 = .ok (.iconst 1, 1) := dk_4 (dk_at dksX9_land_3 19 rfl rfl)
theorem dX9_land_90 : decode cX9_land 90 = .ok (.ireturn, 1) := dk_172 (dk_at dksX9_land_3 20 rfl rfl)
def dkwX9_isSection_0 : List UInt8 := [27, 155, 0, 13, 27, 16, 96, 162, 0, 7, 4, 167, 0, 4, 3, 172]
abbrev dktX9_isSection_0 : List UInt8 := dkwX9_isSection_0 ++ []
theorem dksX9_isSection_0 : cX9_isSection.data.toList.drop 0 = dktX9_isSection_0 := by decide +kernel
theorem dX9_isSection_0 : decode cX9_isSection 0 = .ok (.iload_n 1, 1) := dk_27 (dk_at dksX9_isSection_0 0 rfl rfl)
theorem dX9_isSection_1 : decode cX9_isSection 1 = .ok (.ifCond .lt 13, 3) := dk_155 0 13 (dk_at dksX9_isSection_0 1 rfl rfl)
theorem dX9_isSection_4 : decode cX9_isSection 4 = .ok (.iload_n 1, 1) := dk_27 (dk_at dksX9_isSection_0 4 rfl rfl)
theorem dX9_isSection_5 : decode cX9_isSection 5 = .ok (.bipush 96, 2) := dk_16 96 (dk_at dksX9_isSection_0 5 rfl rfl)
theorem dX9_isSection_7 : decode cX9_isSection 7 = .ok (.if_icmp .ge 7, 3) := dk_162 0 7 (dk_at dksX9_isSection_0 7 rfl rfl)
theorem dX9_isSection_10 : decode cX9_isSection 10 = .ok (.iconst 1, 1) := dk_4 (dk_at dksX9_isSection_0 10 rfl rfl)
theorem dX9_isSection_11 : decode cX9_isSection 11 = .ok (.goto 4, 3) := dk_167 0 4 (dk_at dksX9_isSection_0 11 rfl rfl)
theorem dX9_isSection_14 : decode cX9_isSection 14 = .ok (.iconst 0, 1) := dk_3 (dk_at dksX9_isSection_0 14 rfl rfl)
theorem dX9_isSection_15 : decode cX9_isSection 15 = .ok (.ireturn, 1) := dk_172 (dk_at dksX9_isSection_0 15 rfl rfl)
def dkwX9_bad_0 : List UInt8 := [27, 153, 0, 8, 42, 28, 181, 0, 73, 27, 172]
abbrev dktX9_bad_0 : List UInt8 := dkwX9_bad_0 ++ []
theorem dksX9_bad_0 : cX9_bad.data.toList.drop 0 = dktX9_bad_0 := by decide +kernel
theorem dX9_bad_0 : decode cX9_bad 0 = .ok (.iload_n 1, 1) := dk_27 (dk_at dksX9_bad_0 0 rfl rfl)
theorem dX9_bad_1 : decode cX9_bad 1 = .ok (.ifCond .eq 8, 3) := dk_153 0 8 (dk_at dksX9_bad_0 1 rfl rfl)
theorem dX9_bad_4 : decode cX9_bad 4 = .ok (.aload_n 0, 1) := dk_42 (dk_at dksX9_bad_0 4 rfl rfl)
theorem dX9_bad_5 : decode cX9_bad 5 = .ok (.iload_n 2, 1) := dk_28 (dk_at dksX9_bad_0 5 rfl rfl)
theorem dX9_bad_6 : decode cX9_bad 6 = .ok (.putfield 73, 3) := dk_181 0 73 (dk_at dksX9_bad_0 6 rfl rfl)
theorem dX9_bad_9 : decode cX9_bad 9 = .ok (.iload_n 1, 1) := dk_27 (dk_at dksX9_bad_0 9 rfl rfl)
theorem dX9_bad_10 : decode cX9_bad 10 = .ok (.ireturn, 1) := dk_172 (dk_at dksX9_bad_0 10 rfl rfl)
def dkwX9_sec_0 : List UInt8 := [42, 180, 0, 9, 16, 8, 27, 104, 28, 96, 46, 172]
abbrev dktX9_sec_0 : List UInt8 := dkwX9_sec_0 ++ []
theorem dksX9_sec_0 : cX9_sec.data.toList.drop 0 = dktX9_sec_0 := by decide +kernel
theorem dX9_sec_0 : decode cX9_sec 0 = .ok (.aload_n 0, 1) := dk_42 (dk_at dksX9_sec_0 0 rfl rfl)
theorem dX9_sec_1 : decode cX9_sec 1 = .ok (.getfield 9, 3) := dk_180 0 9 (dk_at dksX9_sec_0 1 rfl rfl)
theorem dX9_sec_4 : decode cX9_sec 4 = .ok (.bipush 8, 2) := dk_16 8 (dk_at dksX9_sec_0 4 rfl rfl)
theorem dX9_sec_6 : decode cX9_sec 6 = .ok (.iload_n 1, 1) := dk_27 (dk_at dksX9_sec_0 6 rfl rfl)
theorem dX9_sec_7 : decode cX9_sec 7 = .ok (.imul, 1) := dk_104 (dk_at dksX9_sec_0 7 rfl rfl)
theorem dX9_sec_8 : decode cX9_sec 8 = .ok (.iload_n 2, 1) := dk_28 (dk_at dksX9_sec_0 8 rfl rfl)
theorem dX9_sec_9 : decode cX9_sec 9 = .ok (.iadd, 1) := dk_96 (dk_at dksX9_sec_0 9 rfl rfl)
theorem dX9_sec_10 : decode cX9_sec 10 = .ok (.iaload, 1) := dk_46 (dk_at dksX9_sec_0 10 rfl rfl)
theorem dX9_sec_11 : decode cX9_sec 11 = .ok (.ireturn, 1) := dk_172 (dk_at dksX9_sec_0 11 rfl rfl)
def dkwX9_rain_4 : List UInt8 := [4, 96, 79, 42, 180, 0, 26, 27, 46, 172]
abbrev dktX9_rain_4 : List UInt8 := dkwX9_rain_4 ++ []
def dkwX9_rain_3 : List UInt8 := [180, 0, 23, 17, 3, 232, 27, 104, 42, 180, 0, 26, 27, 46, 96, 28, 79, 42, 180, 0, 26, 27, 92, 46]
abbrev dktX9_rain_3 : List UInt8 := dkwX9_rain_3 ++ dktX9_rain_4
def dkwX9_rain_2 : List UInt8 := [182, 0, 84, 153, 0, 5, 3, 172, 42, 180, 0, 26, 27, 46, 17, 3, 232, 160, 0, 5, 2, 172, 42]
abbrev dktX9_rain_2 : List UInt8 := dkwX9_rain_2 ++ dktX9_rain_3
def dkwX9_rain_1 : List UInt8 := [154, 0, 28, 42, 28, 2, 161, 0, 10, 28, 17, 1, 244, 164, 0, 7, 4, 167, 0, 4, 3, 5]
abbrev dktX9_rain_1 : List UInt8 := dkwX9_rain_1 ++ dktX9_rain_2
def dkwX9_rain_0 : List UInt8 := [42, 3, 181, 0, 73, 42, 42, 27, 182, 0, 91, 154, 0, 7, 4, 167, 0, 4, 3, 4, 182, 0, 84]
abbrev dktX9_rain_0 : List UInt8 := dkwX9_rain_0 ++ dktX9_rain_1
theorem dksX9_rain_0 : cX9_rain.data.toList.drop 0 = dktX9_rain_0 := by decide +kernel
theorem dksX9_rain_1 : cX9_rain.data.toList.drop 23 = dktX9_rain_1 := dk_seg dksX9_rain_0 23 rfl rfl
theorem dksX9_rain_2 : cX9_rain.data.toList.drop 45 = dktX9_rain_2 := dk_seg dksX9_rain_1 22 rfl rfl
theorem dksX9_rain_3 : cX9_rain.data.toList.drop 68 = dktX9_rain_3 := dk_seg dksX9_rain_2 23 rfl rfl
theorem dksX9_rain_4 : cX9_rain.data.toList.drop 92 = dktX9_rain_4 := dk_seg dksX9_rain_3 24 rfl rfl
theorem dX9_rain_0 : decode cX9_rain 0 = .ok (.aload_n 0, 1) := dk_42 (dk_at dksX9_rain_0 0 rfl rfl)
theorem dX9_rain_1 : decode cX9_rain 1 = .ok (.iconst 0, 1) := dk_3 (dk_at dksX9_rain_0 1 rfl rfl)
theorem dX9_rain_2 : decode cX9_rain 2 = .ok (.putfield 73, 3) := dk_181 0 73 (dk_at dksX9_rain_0 2 rfl rfl)
theorem dX9_rain_5 : decode cX9_rain 5 = .ok (.aload_n 0, 1) := dk_42 (dk_at dksX9_rain_0 5 rfl rfl)
theorem dX9_rain_6 : decode cX9_rain 6 = .ok (.aload_n 0, 1) := dk_42 (dk_at dksX9_rain_0 6 rfl rfl)
theorem dX9_rain_7 : decode cX9_rain 7 = .ok (.iload_n 1, 1) := dk_27 (dk_at dksX9_rain_0 7 rfl rfl)
theorem dX9_rain_8 : decode cX9_rain 8 = .ok (.invokevirtual 91, 3) := dk_182 0 91 (dk_at dksX9_rain_0 8 rfl rfl)
theorem dX9_rain_11 : decode cX9_rain 11 = .ok (.ifCond .ne 7, 3) := dk_154 0 7 (dk_at dksX9_rain_0 11 rfl rfl)
theorem dX9_rain_14 : decode cX9_rain 14 = .ok (.iconst 1, 1) := dk_4 (dk_at dksX9_rain_0 14 rfl rfl)
theorem dX9_rain_15 : decode cX9_rain 15 = .ok (.goto 4, 3) := dk_167 0 4 (dk_at dksX9_rain_0 15 rfl rfl)
theorem dX9_rain_18 : decode cX9_rain 18 = .ok (.iconst 0, 1) := dk_3 (dk_at dksX9_rain_0 18 rfl rfl)
theorem dX9_rain_19 : decode cX9_rain 19 = .ok (.iconst 1, 1) := dk_4 (dk_at dksX9_rain_0 19 rfl rfl)
theorem dX9_rain_20 : decode cX9_rain 20 = .ok (.invokevirtual 84, 3) := dk_182 0 84 (dk_at dksX9_rain_0 20 rfl rfl)
theorem dX9_rain_23 : decode cX9_rain 23 = .ok (.ifCond .ne 28, 3) := dk_154 0 28 (dk_at dksX9_rain_1 0 rfl rfl)
theorem dX9_rain_26 : decode cX9_rain 26 = .ok (.aload_n 0, 1) := dk_42 (dk_at dksX9_rain_1 3 rfl rfl)
theorem dX9_rain_27 : decode cX9_rain 27 = .ok (.iload_n 2, 1) := dk_28 (dk_at dksX9_rain_1 4 rfl rfl)
theorem dX9_rain_28 : decode cX9_rain 28 = .ok (.iconst (-1), 1) := dk_2 (dk_at dksX9_rain_1 5 rfl rfl)
theorem dX9_rain_29 : decode cX9_rain 29 = .ok (.if_icmp .lt 10, 3) := dk_161 0 10 (dk_at dksX9_rain_1 6 rfl rfl)
theorem dX9_rain_32 : decode cX9_rain 32 = .ok (.iload_n 2, 1) := dk_28 (dk_at dksX9_rain_1 9 rfl rfl)
theorem dX9_rain_33 : decode cX9_rain 33 = .ok (.sipush 500, 3) := dk_17 1 244 (dk_at dksX9_rain_1 10 rfl rfl)
theorem dX9_rain_36 : decode cX9_rain 36 = .ok (.if_icmp .le 7, 3) := dk_164 0 7 (dk_at dksX9_rain_1 13 rfl rfl)
theorem dX9_rain_39 : decode cX9_rain 39 = .ok (.iconst 1, 1) := dk_4 (dk_at dksX9_rain_1 16 rfl rfl)
theorem dX9_rain_40 : decode cX9_rain 40 = .ok (.goto 4, 3) := dk_167 0 4 (dk_at dksX9_rain_1 17 rfl rfl)
theorem dX9_rain_43 : decode cX9_rain 43 = .ok (.iconst 0, 1) := dk_3 (dk_at dksX9_rain_1 20 rfl rfl)
theorem dX9_rain_44 : decode cX9_rain 44 = .ok (.iconst 2, 1) := dk_5 (dk_at dksX9_rain_1 21 rfl rfl)
theorem dX9_rain_45 : decode cX9_rain 45 = .ok (.invokevirtual 84, 3) := dk_182 0 84 (dk_at dksX9_rain_2 0 rfl rfl)
theorem dX9_rain_48 : decode cX9_rain 48 = .ok (.ifCond .eq 5, 3) := dk_153 0 5 (dk_at dksX9_rain_2 3 rfl rfl)
theorem dX9_rain_51 : decode cX9_rain 51 = .ok (.iconst 0, 1) := dk_3 (dk_at dksX9_rain_2 6 rfl rfl)
theorem dX9_rain_52 : decode cX9_rain 52 = .ok (.ireturn, 1) := dk_172 (dk_at dksX9_rain_2 7 rfl rfl)
theorem dX9_rain_53 : decode cX9_rain 53 = .ok (.aload_n 0, 1) := dk_42 (dk_at dksX9_rain_2 8 rfl rfl)
theorem dX9_rain_54 : decode cX9_rain 54 = .ok (.getfield 26, 3) := dk_180 0 26 (dk_at dksX9_rain_2 9 rfl rfl)
theorem dX9_rain_57 : decode cX9_rain 57 = .ok (.iload_n 1, 1) := dk_27 (dk_at dksX9_rain_2 12 rfl rfl)
theorem dX9_rain_58 : decode cX9_rain 58 = .ok (.iaload, 1) := dk_46 (dk_at dksX9_rain_2 13 rfl rfl)
theorem dX9_rain_59 : decode cX9_rain 59 = .ok (.sipush 1000, 3) := dk_17 3 232 (dk_at dksX9_rain_2 14 rfl rfl)
theorem dX9_rain_62 : decode cX9_rain 62 = .ok (.if_icmp .ne 5, 3) := dk_160 0 5 (dk_at dksX9_rain_2 17 rfl rfl)
theorem dX9_rain_65 : decode cX9_rain 65 = .ok (.iconst (-1), 1) := dk_2 (dk_at dksX9_rain_2 20 rfl rfl)
theorem dX9_rain_66 : decode cX9_rain 66 = .ok (.ireturn, 1) := dk_172 (dk_at dksX9_rain_2 21 rfl rfl)
theorem dX9_rain_67 : decode cX9_rain 67 = .ok (.aload_n 0, 1) := dk_42 (dk_at dksX9_rain_2 22 rfl rfl)
theorem dX9_rain_68 : decode cX9_rain 68 = .ok (.getfield 23, 3) := dk_180 0 23 (dk_at dksX9_rain_3 0 rfl rfl)
theorem dX9_rain_71 : decode cX9_rain 71 = .ok (.sipush 1000, 3) := dk_17 3 232 (dk_at dksX9_rain_3 3 rfl rfl)
theorem dX9_rain_74 : decode cX9_rain 74 = .ok (.iload_n 1, 1) := dk_27 (dk_at dksX9_rain_3 6 rfl rfl)
theorem dX9_rain_75 : decode cX9_rain 75 = .ok (.imul, 1) := dk_104 (dk_at dksX9_rain_3 7 rfl rfl)
theorem dX9_rain_76 : decode cX9_rain 76 = .ok (.aload_n 0, 1) := dk_42 (dk_at dksX9_rain_3 8 rfl rfl)
theorem dX9_rain_77 : decode cX9_rain 77 = .ok (.getfield 26, 3) := dk_180 0 26 (dk_at dksX9_rain_3 9 rfl rfl)
theorem dX9_rain_80 : decode cX9_rain 80 = .ok (.iload_n 1, 1) := dk_27 (dk_at dksX9_rain_3 12 rfl rfl)
theorem dX9_rain_81 : decode cX9_rain 81 = .ok (.iaload, 1) := dk_46 (dk_at dksX9_rain_3 13 rfl rfl)
theorem dX9_rain_82 : decode cX9_rain 82 = .ok (.iadd, 1) := dk_96 (dk_at dksX9_rain_3 14 rfl rfl)
theorem dX9_rain_83 : decode cX9_rain 83 = .ok (.iload_n 2, 1) := dk_28 (dk_at dksX9_rain_3 15 rfl rfl)
theorem dX9_rain_84 : decode cX9_rain 84 = .ok (.iastore, 1) := dk_79 (dk_at dksX9_rain_3 16 rfl rfl)
theorem dX9_rain_85 : decode cX9_rain 85 = .ok (.aload_n 0, 1) := dk_42 (dk_at dksX9_rain_3 17 rfl rfl)
theorem dX9_rain_86 : decode cX9_rain 86 = .ok (.getfield 26, 3) := dk_180 0 26 (dk_at dksX9_rain_3 18 rfl rfl)
theorem dX9_rain_89 : decode cX9_rain 89 = .ok (.iload_n 1, 1) := dk_27 (dk_at dksX9_rain_3 21 rfl rfl)
theorem dX9_rain_90 : decode cX9_rain 90 = .ok (.dup2, 1) := dk_92 (dk_at dksX9_rain_3 22 rfl rfl)
theorem dX9_rain_91 : decode cX9_rain 91 = .ok (.iaload, 1) := dk_46 (dk_at dksX9_rain_3 23 rfl rfl)
theorem dX9_rain_92 : decode cX9_rain 92 = .ok (.iconst 1, 1) := dk_4 (dk_at dksX9_rain_4 0 rfl rfl)
theorem dX9_rain_93 : decode cX9_rain 93 = .ok (.iadd, 1) := dk_96 (dk_at dksX9_rain_4 1 rfl rfl)
theorem dX9_rain_94 : decode cX9_rain 94 = .ok (.iastore, 1) := dk_79 (dk_at dksX9_rain_4 2 rfl rfl)
theorem dX9_rain_95 : decode cX9_rain 95 = .ok (.aload_n 0, 1) := dk_42 (dk_at dksX9_rain_4 3 rfl rfl)
theorem dX9_rain_96 : decode cX9_rain 96 = .ok (.getfield 26, 3) := dk_180 0 26 (dk_at dksX9_rain_4 4 rfl rfl)
theorem dX9_rain_99 : decode cX9_rain 99 = .ok (.iload_n 1, 1) := dk_27 (dk_at dksX9_rain_4 7 rfl rfl)
theorem dX9_rain_100 : decode cX9_rain 100 = .ok (.iaload, 1) := dk_46 (dk_at dksX9_rain_4 8 rfl rfl)
theorem dX9_rain_101 : decode cX9_rain 101 = .ok (.ireturn, 1) := dk_172 (dk_at dksX9_rain_4 9 rfl rfl)
def dkwX9_isZone_0 : List UInt8 := [27, 155, 0, 12, 27, 7, 162, 0, 7, 4, 167, 0, 4, 3, 172]
abbrev dktX9_isZone_0 : List UInt8 := dkwX9_isZone_0 ++ []
theorem dksX9_isZone_0 : cX9_isZone.data.toList.drop 0 = dktX9_isZone_0 := by decide +kernel
theorem dX9_isZone_0 : decode cX9_isZone 0 = .ok (.iload_n 1, 1) := dk_27 (dk_at dksX9_isZone_0 0 rfl rfl)
theorem dX9_isZone_1 : decode cX9_isZone 1 = .ok (.ifCond .lt 12, 3) := dk_155 0 12 (dk_at dksX9_isZone_0 1 rfl rfl)
theorem dX9_isZone_4 : decode cX9_isZone 4 = .ok (.iload_n 1, 1) := dk_27 (dk_at dksX9_isZone_0 4 rfl rfl)
theorem dX9_isZone_5 : decode cX9_isZone 5 = .ok (.iconst 4, 1) := dk_7 (dk_at dksX9_isZone_0 5 rfl rfl)
theorem dX9_isZone_6 : decode cX9_isZone 6 = .ok (.if_icmp .ge 7, 3) := dk_162 0 7 (dk_at dksX9_isZone_0 6 rfl rfl)
theorem dX9_isZone_9 : decode cX9_isZone 9 = .ok (.iconst 1, 1) := dk_4 (dk_at dksX9_isZone_0 9 rfl rfl)
theorem dX9_isZone_10 : decode cX9_isZone 10 = .ok (.goto 4, 3) := dk_167 0 4 (dk_at dksX9_isZone_0 10 rfl rfl)
theorem dX9_isZone_13 : decode cX9_isZone 13 = .ok (.iconst 0, 1) := dk_3 (dk_at dksX9_isZone_0 13 rfl rfl)
theorem dX9_isZone_14 : decode cX9_isZone 14 = .ok (.ireturn, 1) := dk_172 (dk_at dksX9_isZone_0 14 rfl rfl)
def dkwX9_rains_5 : List UInt8 := [132, 4, 1, 167, 255, 219, 42, 180, 0, 26, 27, 46, 172]
abbrev dktX9_rains_5 : List UInt8 := dkwX9_rains_5 ++ []
def dkwX9_rains_4 : List UInt8 := [17, 3, 232, 27, 104, 42, 180, 0, 26, 27, 46, 96, 28, 79, 42, 180, 0, 26, 27, 92, 46, 4, 96, 79]
abbrev dktX9_rains_4 : List UInt8 := dkwX9_rains_4 ++ dktX9_rains_5
def dkwX9_rains_3 : List UInt8 := [96, 17, 3, 232, 164, 0, 5, 2, 172, 3, 54, 4, 21, 4, 29, 162, 0, 37, 42, 180, 0, 23]
abbrev dktX9_rains_3 : List UInt8 := dkwX9_rains_3 ++ dktX9_rains_4
def dkwX9_rains_2 : List UInt8 := [164, 0, 7, 4, 167, 0, 4, 3, 5, 182, 0, 84, 153, 0, 5, 3, 172, 42, 180, 0, 26, 27, 46, 29]
abbrev dktX9_rains_2 : List UInt8 := dkwX9_rains_2 ++ dktX9_rains_3
def dkwX9_rains_1 : List UInt8 := [154, 0, 39, 42, 28, 155, 0, 22, 28, 17, 1, 244, 163, 0, 15, 29, 4, 161, 0, 10, 29, 17, 3, 232]
abbrev dktX9_rains_1 : List UInt8 := dkwX9_rains_1 ++ dktX9_rains_2
def dkwX9_rains_0 : List UInt8 := [42, 3, 181, 0, 73, 42, 42, 27, 182, 0, 91, 154, 0, 7, 4, 167, 0, 4, 3, 4, 182, 0, 84]
abbrev dktX9_rains_0 : List UInt8 := dkwX9_rains_0 ++ dktX9_rains_1
theorem dksX9_rains_0 : cX9_rains.data.toList.drop 0 = dktX9_rains_0 := by decide +kernel
theorem dksX9_rains_1 : cX9_rains.data.toList.drop 23 = dktX9_rains_1 := dk_seg dksX9_rains_0 23 rfl rfl
theorem dksX9_rains_2 : cX9_rains.data.toList.drop 47 = dktX9_rains_2 := dk_seg dksX9_rains_1 24 rfl rfl
theorem dksX9_rains_3 : cX9_rains.data.toList.drop 71 = dktX9_rains_3 := dk_seg dksX9_rains_2 24 rfl rfl
theorem dksX9_rains_4 : cX9_rains.data.toList.drop 93 = dktX9_rains_4 := dk_seg dksX9_rains_3 22 rfl rfl
theorem dksX9_rains_5 : cX9_rains.data.toList.drop 117 = dktX9_rains_5 := dk_seg dksX9_rains_4 24 rfl rfl
theorem dX9_rains_0 : decode cX9_rains 0 = .ok (.aload_n 0, 1) := dk_42 (dk_at dksX9_rains_0 0 rfl rfl)
theorem dX9_rains_1 : decode cX9_rains 1 = .ok (.iconst 0, 1) := dk_3 (dk_at dksX9_rains_0 1 rfl rfl)
theorem dX9_rains_2 : decode cX9_rains 2 = .ok (.putfield 73, 3) := dk_181 0 73 (dk_at dksX9_rains_0 2 rfl rfl)
theorem dX9_rains_5 : decode cX9_rains 5 = .ok (.aload_n 0, 1) := dk_42 (dk_at dksX9_rains_0 5 rfl rfl)
theorem dX9_rains_6 : decode cX9_rains 6 = .ok (.aload_n 0, 1) := dk_42 (dk_at dksX9_rains_0 6 rfl rfl)
theorem dX9_rains_7 : decode cX9_rains 7 = .ok (.iload_n 1, 1) := dk_27 (dk_at dksX9_rains_0 7 rfl rfl)
theorem dX9_rains_8 : decode cX9_rains 8 = .ok (.invokevirtual 91, 3) := dk_182 0 91 (dk_at dksX9_rains_0 8 rfl rfl)
theorem dX9_rains_11 : decode cX9_rains 11 = .ok (.ifCond .ne 7, 3) := dk_154 0 7 (dk_at dksX9_rains_0 11 rfl rfl)
theorem dX9_rains_14 : decode cX9_rains 14 = .ok (.iconst 1, 1) := dk_4 (dk_at dksX9_rains_0 14 rfl rfl)
theorem dX9_rains_15 : decode cX9_rains 15 = .ok (.goto 4, 3) := dk_167 0 4 (dk_at dksX9_rains_0 15 rfl rfl)
theorem dX9_rains_18 : decode cX9_rains 18 = .ok (.iconst 0, 1) := dk_3 (dk_at dksX9_rains_0 18 rfl rfl)
theorem dX9_rains_19 : decode cX9_rains 19 = .ok (.iconst 1, 1) := dk_4 (dk_at dksX9_rains_0 19 rfl rfl)
theorem dX9_rains_20 : decode cX9_rains 20 = .ok (.invokevirtual 84, 3) := dk_182 0 84 (dk_at dksX9_rains_0 20 rfl rfl)
theorem dX9_rains_23 : decode cX9_rains 23 = .ok (.ifCond .ne 39, 3) := dk_154 0 39 (dk_at dksX9_rains_1 0 rfl rfl)
theorem dX9_rains_26 : decode cX9_rains 26 = .ok (.aload_n 0, 1) := dk_42 (dk_at dksX9_rains_1 3 rfl rfl)
theorem dX9_rains_27 : decode cX9_rains 27 = .ok (.iload_n 2, 1) := dk_28 (dk_at dksX9_rains_1 4 rfl rfl)
theorem dX9_rains_28 : decode cX9_rains 28 = .ok (.ifCond .lt 22, 3) := dk_155 0 22 (dk_at dksX9_rains_1 5 rfl rfl)
theorem dX9_rains_31 : decode cX9_rains 31 = .ok (.iload_n 2, 1) := dk_28 (dk_at dksX9_rains_1 8 rfl rfl)
theorem dX9_rains_32 : decode cX9_rains 32 = .ok (.sipush 500, 3) := dk_17 1 244 (dk_at dksX9_rains_1 9 rfl rfl)
theorem dX9_rains_35 : decode cX9_rains 35 = .ok (.if_icmp .gt 15, 3) := dk_163 0 15 (dk_at dksX9_rains_1 12 rfl rfl)
theorem dX9_rains_38 : decode cX9_rains 38 = .ok (.iload_n 3, 1) := dk_29 (dk_at dksX9_rains_1 15 rfl rfl)
theorem dX9_rains_39 : decode cX9_rains 39 = .ok (.iconst 1, 1) := dk_4 (dk_at dksX9_rains_1 16 rfl rfl)
theorem dX9_rains_40 : decode cX9_rains 40 = .ok (.if_icmp .lt 10, 3) := dk_161 0 10 (dk_at dksX9_rains_1 17 rfl rfl)
theorem dX9_rains_43 : decode cX9_rains 43 = .ok (.iload_n 3, 1) := dk_29 (dk_at dksX9_rains_1 20 rfl rfl)
theorem dX9_rains_44 : decode cX9_rains 44 = .ok (.sipush 1000, 3) := dk_17 3 232 (dk_at dksX9_rains_1 21 rfl rfl)
theorem dX9_rains_47 : decode cX9_rains 47 = .ok (.if_icmp .le 7, 3) := dk_164 0 7 (dk_at dksX9_rains_2 0 rfl rfl)
theorem dX9_rains_50 : decode cX9_rains 50 = .ok (.iconst 1, 1) := dk_4 (dk_at dksX9_rains_2 3 rfl rfl)
theorem dX9_rains_51 : decode cX9_rains 51 = .ok (.goto 4, 3) := dk_167 0 4 (dk_at dksX9_rains_2 4 rfl rfl)
theorem dX9_rains_54 : decode cX9_rains 54 = .ok (.iconst 0, 1) := dk_3 (dk_at dksX9_rains_2 7 rfl rfl)
theorem dX9_rains_55 : decode cX9_rains 55 = .ok (.iconst 2, 1) := dk_5 (dk_at dksX9_rains_2 8 rfl rfl)
theorem dX9_rains_56 : decode cX9_rains 56 = .ok (.invokevirtual 84, 3) := dk_182 0 84 (dk_at dksX9_rains_2 9 rfl rfl)
theorem dX9_rains_59 : decode cX9_rains 59 = .ok (.ifCond .eq 5, 3) := dk_153 0 5 (dk_at dksX9_rains_2 12 rfl rfl)
theorem dX9_rains_62 : decode cX9_rains 62 = .ok (.iconst 0, 1) := dk_3 (dk_at dksX9_rains_2 15 rfl rfl)
theorem dX9_rains_63 : decode cX9_rains 63 = .ok (.ireturn, 1) := dk_172 (dk_at dksX9_rains_2 16 rfl rfl)
theorem dX9_rains_64 : decode cX9_rains 64 = .ok (.aload_n 0, 1) := dk_42 (dk_at dksX9_rains_2 17 rfl rfl)
theorem dX9_rains_65 : decode cX9_rains 65 = .ok (.getfield 26, 3) := dk_180 0 26 (dk_at dksX9_rains_2 18 rfl rfl)
theorem dX9_rains_68 : decode cX9_rains 68 = .ok (.iload_n 1, 1) := dk_27 (dk_at dksX9_rains_2 21 rfl rfl)
theorem dX9_rains_69 : decode cX9_rains 69 = .ok (.iaload, 1) := dk_46 (dk_at dksX9_rains_2 22 rfl rfl)
theorem dX9_rains_70 : decode cX9_rains 70 = .ok (.iload_n 3, 1) := dk_29 (dk_at dksX9_rains_2 23 rfl rfl)
theorem dX9_rains_71 : decode cX9_rains 71 = .ok (.iadd, 1) := dk_96 (dk_at dksX9_rains_3 0 rfl rfl)
theorem dX9_rains_72 : decode cX9_rains 72 = .ok (.sipush 1000, 3) := dk_17 3 232 (dk_at dksX9_rains_3 1 rfl rfl)
theorem dX9_rains_75 : decode cX9_rains 75 = .ok (.if_icmp .le 5, 3) := dk_164 0 5 (dk_at dksX9_rains_3 4 rfl rfl)
theorem dX9_rains_78 : decode cX9_rains 78 = .ok (.iconst (-1), 1) := dk_2 (dk_at dksX9_rains_3 7 rfl rfl)
theorem dX9_rains_79 : decode cX9_rains 79 = .ok (.ireturn, 1) := dk_172 (dk_at dksX9_rains_3 8 rfl rfl)
theorem dX9_rains_80 : decode cX9_rains 80 = .ok (.iconst 0, 1) := dk_3 (dk_at dksX9_rains_3 9 rfl rfl)
theorem dX9_rains_81 : decode cX9_rains 81 = .ok (.istore 4, 2) := dk_54 4 (dk_at dksX9_rains_3 10 rfl rfl)
theorem dX9_rains_83 : decode cX9_rains 83 = .ok (.iload 4, 2) := dk_21 4 (dk_at dksX9_rains_3 12 rfl rfl)
theorem dX9_rains_85 : decode cX9_rains 85 = .ok (.iload_n 3, 1) := dk_29 (dk_at dksX9_rains_3 14 rfl rfl)
theorem dX9_rains_86 : decode cX9_rains 86 = .ok (.if_icmp .ge 37, 3) := dk_162 0 37 (dk_at dksX9_rains_3 15 rfl rfl)
theorem dX9_rains_89 : decode cX9_rains 89 = .ok (.aload_n 0, 1) := dk_42 (dk_at dksX9_rains_3 18 rfl rfl)
theorem dX9_rains_90 : decode cX9_rains 90 = .ok (.getfield 23, 3) := dk_180 0 23 (dk_at dksX9_rains_3 19 rfl rfl)
theorem dX9_rains_93 : decode cX9_rains 93 = .ok (.sipush 1000, 3) := dk_17 3 232 (dk_at dksX9_rains_4 0 rfl rfl)
theorem dX9_rains_96 : decode cX9_rains 96 = .ok (.iload_n 1, 1) := dk_27 (dk_at dksX9_rains_4 3 rfl rfl)
theorem dX9_rains_97 : decode cX9_rains 97 = .ok (.imul, 1) := dk_104 (dk_at dksX9_rains_4 4 rfl rfl)
theorem dX9_rains_98 : decode cX9_rains 98 = .ok (.aload_n 0, 1) := dk_42 (dk_at dksX9_rains_4 5 rfl rfl)
theorem dX9_rains_99 : decode cX9_rains 99 = .ok (.getfield 26, 3) := dk_180 0 26 (dk_at dksX9_rains_4 6 rfl rfl)
theorem dX9_rains_102 : decode cX9_rains 102 = .ok (.iload_n 1, 1) := dk_27 (dk_at dksX9_rains_4 9 rfl rfl)
theorem dX9_rains_103 : decode cX9_rains 103 = .ok (.iaload, 1) := dk_46 (dk_at dksX9_rains_4 10 rfl rfl)
theorem dX9_rains_104 : decode cX9_rains 104 = .ok (.iadd, 1) := dk_96 (dk_at dksX9_rains_4 11 rfl rfl)
theorem dX9_rains_105 : decode cX9_rains 105 = .ok (.iload_n 2, 1) := dk_28 (dk_at dksX9_rains_4 12 rfl rfl)
theorem dX9_rains_106 : decode cX9_rains 106 = .ok (.iastore, 1) := dk_79 (dk_at dksX9_rains_4 13 rfl rfl)
theorem dX9_rains_107 : decode cX9_rains 107 = .ok (.aload_n 0, 1) := dk_42 (dk_at dksX9_rains_4 14 rfl rfl)
theorem dX9_rains_108 : decode cX9_rains 108 = .ok (.getfield 26, 3) := dk_180 0 26 (dk_at dksX9_rains_4 15 rfl rfl)
theorem dX9_rains_111 : decode cX9_rains 111 = .ok (.iload_n 1, 1) := dk_27 (dk_at dksX9_rains_4 18 rfl rfl)
theorem dX9_rains_112 : decode cX9_rains 112 = .ok (.dup2, 1) := dk_92 (dk_at dksX9_rains_4 19 rfl rfl)
theorem dX9_rains_113 : decode cX9_rains 113 = .ok (.iaload, 1) := dk_46 (dk_at dksX9_rains_4 20 rfl rfl)
theorem dX9_rains_114 : decode cX9_rains 114 = .ok (.iconst 1, 1) := dk_4 (dk_at dksX9_rains_4 21 rfl rfl)
theorem dX9_rains_115 : decode cX9_rains 115 = .ok (.iadd, 1) := dk_96 (dk_at dksX9_rains_4 22 rfl rfl)
theorem dX9_rains_116 : decode cX9_rains 116 = .ok (.iastore, 1) := dk_79 (dk_at dksX9_rains_4 23 rfl rfl)
theorem dX9_rains_117 : decode cX9_rains 117 = .ok (.iinc 4 1, 3) := dk_132 4 1 (dk_at dksX9_rains_5 0 rfl rfl)
theorem dX9_rains_120 : decode cX9_rains 120 = .ok (.goto (-37), 3) := dk_167 255 219 (dk_at dksX9_rains_5 3 rfl rfl)
theorem dX9_rains_123 : decode cX9_rains 123 = .ok (.aload_n 0, 1) := dk_42 (dk_at dksX9_rains_5 6 rfl rfl)
theorem dX9_rains_124 : decode cX9_rains 124 = .ok (.getfield 26, 3) := dk_180 0 26 (dk_at dksX9_rains_5 7 rfl rfl)
theorem dX9_rains_127 : decode cX9_rains 127 = .ok (.iload_n 1, 1) := dk_27 (dk_at dksX9_rains_5 10 rfl rfl)
theorem dX9_rains_128 : decode cX9_rains 128 = .ok (.iaload, 1) := dk_46 (dk_at dksX9_rains_5 11 rfl rfl)
theorem dX9_rains_129 : decode cX9_rains 129 = .ok (.ireturn, 1) := dk_172 (dk_at dksX9_rains_5 12 rfl rfl)
def dkwX9_fell_2 : List UInt8 := [153, 0, 7, 3, 167, 0, 9, 42, 27, 28, 182, 0, 94, 172]
abbrev dktX9_fell_2 : List UInt8 := dkwX9_fell_2 ++ []
def dkwX9_fell_1 : List UInt8 := [154, 0, 27, 42, 28, 155, 0, 10, 28, 17, 3, 232, 164, 0, 7, 4, 167, 0, 4, 3, 5, 182, 0, 84]
abbrev dktX9_fell_1 : List UInt8 := dkwX9_fell_1 ++ dktX9_fell_2
def dkwX9_fell_0 : List UInt8 := [42, 3, 181, 0, 73, 42, 42, 27, 182, 0, 91, 154, 0, 7, 4, 167, 0, 4, 3, 4, 182, 0, 84]
abbrev dktX9_fell_0 : List UInt8 := dkwX9_fell_0 ++ dktX9_fell_1
theorem dksX9_fell_0 : cX9_fell.data.toList.drop 0 = dktX9_fell_0 := by decide +kernel
theorem dksX9_fell_1 : cX9_fell.data.toList.drop 23 = dktX9_fell_1 := dk_seg dksX9_fell_0 23 rfl rfl
theorem dksX9_fell_2 : cX9_fell.data.toList.drop 47 = dktX9_fell_2 := dk_seg dksX9_fell_1 24 rfl rfl
theorem dX9_fell_0 : decode cX9_fell 0 = .ok (.aload_n 0, 1) := dk_42 (dk_at dksX9_fell_0 0 rfl rfl)
theorem dX9_fell_1 : decode cX9_fell 1 = .ok (.iconst 0, 1) := dk_3 (dk_at dksX9_fell_0 1 rfl rfl)
theorem dX9_fell_2 : decode cX9_fell 2 = .ok (.putfield 73, 3) := dk_181 0 73 (dk_at dksX9_fell_0 2 rfl rfl)
theorem dX9_fell_5 : decode cX9_fell 5 = .ok (.aload_n 0, 1) := dk_42 (dk_at dksX9_fell_0 5 rfl rfl)
theorem dX9_fell_6 : decode cX9_fell 6 = .ok (.aload_n 0, 1) := dk_42 (dk_at dksX9_fell_0 6 rfl rfl)
theorem dX9_fell_7 : decode cX9_fell 7 = .ok (.iload_n 1, 1) := dk_27 (dk_at dksX9_fell_0 7 rfl rfl)
theorem dX9_fell_8 : decode cX9_fell 8 = .ok (.invokevirtual 91, 3) := dk_182 0 91 (dk_at dksX9_fell_0 8 rfl rfl)
theorem dX9_fell_11 : decode cX9_fell 11 = .ok (.ifCond .ne 7, 3) := dk_154 0 7 (dk_at dksX9_fell_0 11 rfl rfl)
theorem dX9_fell_14 : decode cX9_fell 14 = .ok (.iconst 1, 1) := dk_4 (dk_at dksX9_fell_0 14 rfl rfl)
theorem dX9_fell_15 : decode cX9_fell 15 = .ok (.goto 4, 3) := dk_167 0 4 (dk_at dksX9_fell_0 15 rfl rfl)
theorem dX9_fell_18 : decode cX9_fell 18 = .ok (.iconst 0, 1) := dk_3 (dk_at dksX9_fell_0 18 rfl rfl)
theorem dX9_fell_19 : decode cX9_fell 19 = .ok (.iconst 1, 1) := dk_4 (dk_at dksX9_fell_0 19 rfl rfl)
theorem dX9_fell_20 : decode cX9_fell 20 = .ok (.invokevirtual 84, 3) := dk_182 0 84 (dk_at dksX9_fell_0 20 rfl rfl)
theorem dX9_fell_23 : decode cX9_fell 23 = .ok (.ifCond .ne 27, 3) := dk_154 0 27 (dk_at dksX9_fell_1 0 rfl rfl)
theorem dX9_fell_26 : decode cX9_fell 26 = .ok (.aload_n 0, 1) := dk_42 (dk_at dksX9_fell_1 3 rfl rfl)
theorem dX9_fell_27 : decode cX9_fell 27 = .ok (.iload_n 2, 1) := dk_28 (dk_at dksX9_fell_1 4 rfl rfl)
theorem dX9_fell_28 : decode cX9_fell 28 = .ok (.ifCond .lt 10, 3) := dk_155 0 10 (dk_at dksX9_fell_1 5 rfl rfl)
theorem dX9_fell_31 : decode cX9_fell 31 = .ok (.iload_n 2, 1) := dk_28 (dk_at dksX9_fell_1 8 rfl rfl)
theorem dX9_fell_32 : decode cX9_fell 32 = .ok (.sipush 1000, 3) := dk_17 3 232 (dk_at dksX9_fell_1 9 rfl rfl)
theorem dX9_fell_35 : decode cX9_fell 35 = .ok (.if_icmp .le 7, 3) := dk_164 0 7 (dk_at dksX9_fell_1 12 rfl rfl)
theorem dX9_fell_38 : decode cX9_fell 38 = .ok (.iconst 1, 1) := dk_4 (dk_at dksX9_fell_1 15 rfl rfl)
theorem dX9_fell_39 : decode cX9_fell 39 = .ok (.goto 4, 3) := dk_167 0 4 (dk_at dksX9_fell_1 16 rfl rfl)
theorem dX9_fell_42 : decode cX9_fell 42 = .ok (.iconst 0, 1) := dk_3 (dk_at dksX9_fell_1 19 rfl rfl)
theorem dX9_fell_43 : decode cX9_fell 43 = .ok (.iconst 2, 1) := dk_5 (dk_at dksX9_fell_1 20 rfl rfl)
theorem dX9_fell_44 : decode cX9_fell 44 = .ok (.invokevirtual 84, 3) := dk_182 0 84 (dk_at dksX9_fell_1 21 rfl rfl)
theorem dX9_fell_47 : decode cX9_fell 47 = .ok (.ifCond .eq 7, 3) := dk_153 0 7 (dk_at dksX9_fell_2 0 rfl rfl)
theorem dX9_fell_50 : decode cX9_fell 50 = .ok (.iconst 0, 1) := dk_3 (dk_at dksX9_fell_2 3 rfl rfl)
theorem dX9_fell_51 : decode cX9_fell 51 = .ok (.goto 9, 3) := dk_167 0 9 (dk_at dksX9_fell_2 4 rfl rfl)
theorem dX9_fell_54 : decode cX9_fell 54 = .ok (.aload_n 0, 1) := dk_42 (dk_at dksX9_fell_2 7 rfl rfl)
theorem dX9_fell_55 : decode cX9_fell 55 = .ok (.iload_n 1, 1) := dk_27 (dk_at dksX9_fell_2 8 rfl rfl)
theorem dX9_fell_56 : decode cX9_fell 56 = .ok (.iload_n 2, 1) := dk_28 (dk_at dksX9_fell_2 9 rfl rfl)
theorem dX9_fell_57 : decode cX9_fell 57 = .ok (.invokevirtual 94, 3) := dk_182 0 94 (dk_at dksX9_fell_2 10 rfl rfl)
theorem dX9_fell_60 : decode cX9_fell 60 = .ok (.ireturn, 1) := dk_172 (dk_at dksX9_fell_2 13 rfl rfl)
def dkwX9_fallen_6 : List UInt8 := [167, 0, 7, 21, 4, 29, 108, 172]
abbrev dktX9_fallen_6 : List UInt8 := dkwX9_fallen_6 ++ []
def dkwX9_fallen_5 : List UInt8 := [21, 5, 104, 28, 96, 46, 96, 54, 4, 132, 3, 1, 132, 5, 2, 167, 255, 185, 29, 154, 0, 7, 3]
abbrev dktX9_fallen_5 : List UInt8 := dkwX9_fallen_5 ++ dktX9_fallen_6
def dkwX9_fallen_4 : List UInt8 := [17, 3, 232, 21, 5, 104, 28, 96, 46, 156, 0, 6, 167, 0, 24, 21, 4, 42, 180, 0, 23, 17, 3, 232]
abbrev dktX9_fallen_4 : List UInt8 := dkwX9_fallen_4 ++ dktX9_fallen_5
def dkwX9_fallen_3 : List UInt8 := [21, 5, 182, 0, 91, 153, 0, 54, 28, 42, 180, 0, 26, 21, 5, 46, 162, 0, 43, 42, 180, 0, 23]
abbrev dktX9_fallen_3 : List UInt8 := dkwX9_fallen_3 ++ dktX9_fallen_4
def dkwX9_fallen_2 : List UInt8 := [104, 28, 96, 46, 172, 3, 62, 3, 54, 4, 27, 4, 100, 54, 5, 21, 5, 27, 4, 96, 163, 0, 69, 42]
abbrev dktX9_fallen_2 : List UInt8 := dkwX9_fallen_2 ++ dktX9_fallen_3
def dkwX9_fallen_1 : List UInt8 := [172, 42, 180, 0, 23, 17, 3, 232, 27, 104, 28, 96, 46, 155, 0, 16, 42, 180, 0, 23, 17, 3, 232, 27]
abbrev dktX9_fallen_1 : List UInt8 := dkwX9_fallen_1 ++ dktX9_fallen_2
def dkwX9_fallen_0 : List UInt8 := [42, 180, 0, 29, 155, 0, 8, 42, 180, 0, 29, 172, 28, 42, 180, 0, 26, 27, 46, 161, 0, 6, 16, 10]
abbrev dktX9_fallen_0 : List UInt8 := dkwX9_fallen_0 ++ dktX9_fallen_1
theorem dksX9_fallen_0 : cX9_fallen.data.toList.drop 0 = dktX9_fallen_0 := by decide +kernel
theorem dksX9_fallen_1 : cX9_fallen.data.toList.drop 24 = dktX9_fallen_1 := dk_seg dksX9_fallen_0 24 rfl rfl
theorem dksX9_fallen_2 : cX9_fallen.data.toList.drop 48 = dktX9_fallen_2 := dk_seg dksX9_fallen_1 24 rfl rfl
theorem dksX9_fallen_3 : cX9_fallen.data.toList.drop 72 = dktX9_fallen_3 := dk_seg dksX9_fallen_2 24 rfl rfl
theorem dksX9_fallen_4 : cX9_fallen.data.toList.drop 95 = dktX9_fallen_4 := dk_seg dksX9_fallen_3 23 rfl rfl
theorem dksX9_fallen_5 : cX9_fallen.data.toList.drop 119 = dktX9_fallen_5 := dk_seg dksX9_fallen_4 24 rfl rfl
theorem dksX9_fallen_6 : cX9_fallen.data.toList.drop 142 = dktX9_fallen_6 := dk_seg dksX9_fallen_5 23 rfl rfl
theorem dX9_fallen_0 : decode cX9_fallen 0 = .ok (.aload_n 0, 1) := dk_42 (dk_at dksX9_fallen_0 0 rfl rfl)
theorem dX9_fallen_1 : decode cX9_fallen 1 = .ok (.getfield 29, 3) := dk_180 0 29 (dk_at dksX9_fallen_0 1 rfl rfl)
theorem dX9_fallen_4 : decode cX9_fallen 4 = .ok (.ifCond .lt 8, 3) := dk_155 0 8 (dk_at dksX9_fallen_0 4 rfl rfl)
theorem dX9_fallen_7 : decode cX9_fallen 7 = .ok (.aload_n 0, 1) := dk_42 (dk_at dksX9_fallen_0 7 rfl rfl)
theorem dX9_fallen_8 : decode cX9_fallen 8 = .ok (.getfield 29, 3) := dk_180 0 29 (dk_at dksX9_fallen_0 8 rfl rfl)
theorem dX9_fallen_11 : decode cX9_fallen 11 = .ok (.ireturn, 1) := dk_172 (dk_at dksX9_fallen_0 11 rfl rfl)
theorem dX9_fallen_12 : decode cX9_fallen 12 = .ok (.iload_n 2, 1) := dk_28 (dk_at dksX9_fallen_0 12 rfl rfl)
theorem dX9_fallen_13 : decode cX9_fallen 13 = .ok (.aload_n 0, 1) := dk_42 (dk_at dksX9_fallen_0 13 rfl rfl)
theorem dX9_fallen_14 : decode cX9_fallen 14 = .ok (.getfield 26, 3) := dk_180 0 26 (dk_at dksX9_fallen_0 14 rfl rfl)
theorem dX9_fallen_17 : decode cX9_fallen 17 = .ok (.iload_n 1, 1) := dk_27 (dk_at dksX9_fallen_0 17 rfl rfl)
theorem dX9_fallen_18 : decode cX9_fallen 18 = .ok (.iaload, 1) := dk_46 (dk_at dksX9_fallen_0 18 rfl rfl)
theorem dX9_fallen_19 : decode cX9_fallen 19 = .ok (.if_icmp .lt 6, 3) := dk_161 0 6 (dk_at dksX9_fallen_0 19 rfl rfl)
theorem dX9_fallen_22 : decode cX9_fallen 22 = .ok (.bipush 10, 2) := dk_16 10 (dk_at dksX9_fallen_0 22 rfl rfl)
theorem dX9_fallen_24 : decode cX9_fallen 24 = .ok (.ireturn, 1) := dk_172 (dk_at dksX9_fallen_1 0 rfl rfl)
theorem dX9_fallen_25 : decode cX9_fallen 25 = .ok (.aload_n 0, 1) := dk_42 (dk_at dksX9_fallen_1 1 rfl rfl)
theorem dX9_fallen_26 : decode cX9_fallen 26 = .ok (.getfield 23, 3) := dk_180 0 23 (dk_at dksX9_fallen_1 2 rfl rfl)
theorem dX9_fallen_29 : decode cX9_fallen 29 = .ok (.sipush 1000, 3) := dk_17 3 232 (dk_at dksX9_fallen_1 5 rfl rfl)
theorem dX9_fallen_32 : decode cX9_fallen 32 = .ok (.iload_n 1, 1) := dk_27 (dk_at dksX9_fallen_1 8 rfl rfl)
theorem dX9_fallen_33 : decode cX9_fallen 33 = .ok (.imul, 1) := dk_104 (dk_at dksX9_fallen_1 9 rfl rfl)
theorem dX9_fallen_34 : decode cX9_fallen 34 = .ok (.iload_n 2, 1) := dk_28 (dk_at dksX9_fallen_1 10 rfl rfl)
theorem dX9_fallen_35 : decode cX9_fallen 35 = .ok (.iadd, 1) := dk_96 (dk_at dksX9_fallen_1 11 rfl rfl)
theorem dX9_fallen_36 : decode cX9_fallen 36 = .ok (.iaload, 1) := dk_46 (dk_at dksX9_fallen_1 12 rfl rfl)
theorem dX9_fallen_37 : decode cX9_fallen 37 = .ok (.ifCond .lt 16, 3) := dk_155 0 16 (dk_at dksX9_fallen_1 13 rfl rfl)
theorem dX9_fallen_40 : decode cX9_fallen 40 = .ok (.aload_n 0, 1) := dk_42 (dk_at dksX9_fallen_1 16 rfl rfl)
theorem dX9_fallen_41 : decode cX9_fallen 41 = .ok (.getfield 23, 3) := dk_180 0 23 (dk_at dksX9_fallen_1 17 rfl rfl)
theorem dX9_fallen_44 : decode cX9_fallen 44 = .ok (.sipush 1000, 3) := dk_17 3 232 (dk_at dksX9_fallen_1 20 rfl rfl)
theorem dX9_fallen_47 : decode cX9_fallen 47 = .ok (.iload_n 1, 1) := dk_27 (dk_at dksX9_fallen_1 23 rfl rfl)
theorem dX9_fallen_48 : decode cX9_fallen 48 = .ok (.imul, 1) := dk_104 (dk_at dksX9_fallen_2 0 rfl rfl)
theorem dX9_fallen_49 : decode cX9_fallen 49 = .ok (.iload_n 2, 1) := dk_28 (dk_at dksX9_fallen_2 1 rfl rfl)
theorem dX9_fallen_50 : decode cX9_fallen 50 = .ok (.iadd, 1) := dk_96 (dk_at dksX9_fallen_2 2 rfl rfl)
theorem dX9_fallen_51 : decode cX9_fallen 51 = .ok (.iaload, 1) := dk_46 (dk_at dksX9_fallen_2 3 rfl rfl)
theorem dX9_fallen_52 : decode cX9_fallen 52 = .ok (.ireturn, 1) := dk_172 (dk_at dksX9_fallen_2 4 rfl rfl)
theorem dX9_fallen_53 : decode cX9_fallen 53 = .ok (.iconst 0, 1) := dk_3 (dk_at dksX9_fallen_2 5 rfl rfl)
theorem dX9_fallen_54 : decode cX9_fallen 54 = .ok (.istore_n 3, 1) := dk_62 (dk_at dksX9_fallen_2 6 rfl rfl)
theorem dX9_fallen_55 : decode cX9_fallen 55 = .ok (.iconst 0, 1) := dk_3 (dk_at dksX9_fallen_2 7 rfl rfl)
theorem dX9_fallen_56 : decode cX9_fallen 56 = .ok (.istore 4, 2) := dk_54 4 (dk_at dksX9_fallen_2 8 rfl rfl)
theorem dX9_fallen_58 : decode cX9_fallen 58 = .ok (.iload_n 1, 1) := dk_27 (dk_at dksX9_fallen_2 10 rfl rfl)
theorem dX9_fallen_59 : decode cX9_fallen 59 = .ok (.iconst 1, 1) := dk_4 (dk_at dksX9_fallen_2 11 rfl rfl)
theorem dX9_fallen_60 : decode cX9_fallen 60 = .ok (.isub, 1) := dk_100 (dk_at dksX9_fallen_2 12 rfl rfl)
theorem dX9_fallen_61 : decode cX9_fallen 61 = .ok (.istore 5, 2) := dk_54 5 (dk_at dksX9_fallen_2 13 rfl rfl)
theorem dX9_fallen_63 : decode cX9_fallen 63 = .ok (.iload 5, 2) := dk_21 5 (dk_at dksX9_fallen_2 15 rfl rfl)
theorem dX9_fallen_65 : decode cX9_fallen 65 = .ok (.iload_n 1, 1) := dk_27 (dk_at dksX9_fallen_2 17 rfl rfl)
theorem dX9_fallen_66 : decode cX9_fallen 66 = .ok (.iconst 1, 1) := dk_4 (dk_at dksX9_fallen_2 18 rfl rfl)
theorem dX9_fallen_67 : decode cX9_fallen 67 = .ok (.iadd, 1) := dk_96 (dk_at dksX9_fallen_2 19 rfl rfl)
theorem dX9_fallen_68 : decode cX9_fallen 68 = .ok (.if_icmp .gt 69, 3) := dk_163 0 69 (dk_at dksX9_fallen_2 20 rfl rfl)
theorem dX9_fallen_71 : decode cX9_fallen 71 = .ok (.aload_n 0, 1) := dk_42 (dk_at dksX9_fallen_2 23 rfl rfl)
theorem dX9_fallen_72 : decode cX9_fallen 72 = .ok (.iload 5, 2) := dk_21 5 (dk_at dksX9_fallen_3 0 rfl rfl)
theorem dX9_fallen_74 : decode cX9_fallen 74 = .ok (.invokevirtual 91, 3) := dk_182 0 91 (dk_at dksX9_fallen_3 2 rfl rfl)
theorem dX9_fallen_77 : decode cX9_fallen 77 = .ok (.ifCond .eq 54, 3) := dk_153 0 54 (dk_at dksX9_fallen_3 5 rfl rfl)
theorem dX9_fallen_80 : decode cX9_fallen 80 = .ok (.iload_n 2, 1) := dk_28 (dk_at dksX9_fallen_3 8 rfl rfl)
theorem dX9_fallen_81 : decode cX9_fallen 81 = .ok (.aload_n 0, 1) := dk_42 (dk_at dksX9_fallen_3 9 rfl rfl)
theorem dX9_fallen_82 : decode cX9_fallen 82 = .ok (.getfield 26, 3) := dk_180 0 26 (dk_at dksX9_fallen_3 10 rfl rfl)
theorem dX9_fallen_85 : decode cX9_fallen 85 = .ok (.iload 5, 2) := dk_21 5 (dk_at dksX9_fallen_3 13 rfl rfl)
theorem dX9_fallen_87 : decode cX9_fallen 87 = .ok (.iaload, 1) := dk_46 (dk_at dksX9_fallen_3 15 rfl rfl)
theorem dX9_fallen_88 : decode cX9_fallen 88 = .ok (.if_icmp .ge 43, 3) := dk_162 0 43 (dk_at dksX9_fallen_3 16 rfl rfl)
theorem dX9_fallen_91 : decode cX9_fallen 91 = .ok (.aload_n 0, 1) := dk_42 (dk_at dksX9_fallen_3 19 rfl rfl)
theorem dX9_fallen_92 : decode cX9_fallen 92 = .ok (.getfield 23, 3) := dk_180 0 23 (dk_at dksX9_fallen_3 20 rfl rfl)
theorem dX9_fallen_95 : decode cX9_fallen 95 = .ok (.sipush 1000, 3) := dk_17 3 232 (dk_at dksX9_fallen_4 0 rfl rfl)
theorem dX9_fallen_98 : decode cX9_fallen 98 = .ok (.iload 5, 2) := dk_21 5 (dk_at dksX9_fallen_4 3 rfl rfl)
theorem dX9_fallen_100 : decode cX9_fallen 100 = .ok (.imul, 1) := dk_104 (dk_at dksX9_fallen_4 5 rfl rfl)
theorem dX9_fallen_101 : decode cX9_fallen 101 = .ok (.iload_n 2, 1) := dk_28 (dk_at dksX9_fallen_4 6 rfl rfl)
theorem dX9_fallen_102 : decode cX9_fallen 102 = .ok (.iadd, 1) := dk_96 (dk_at dksX9_fallen_4 7 rfl rfl)
theorem dX9_fallen_103 : decode cX9_fallen 103 = .ok (.iaload, 1) := dk_46 (dk_at dksX9_fallen_4 8 rfl rfl)
theorem dX9_fallen_104 : decode cX9_fallen 104 = .ok (.ifCond .ge 6, 3) := dk_156 0 6 (dk_at dksX9_fallen_4 9 rfl rfl)
theorem dX9_fallen_107 : decode cX9_fallen 107 = .ok (.goto 24, 3) := dk_167 0 24 (dk_at dksX9_fallen_4 12 rfl rfl)
theorem dX9_fallen_110 : decode cX9_fallen 110 = .ok (.iload 4, 2) := dk_21 4 (dk_at dksX9_fallen_4 15 rfl rfl)
theorem dX9_fallen_112 : decode cX9_fallen 112 = .ok (.aload_n 0, 1) := dk_42 (dk_at dksX9_fallen_4 17 rfl rfl)
theorem dX9_fallen_113 : decode cX9_fallen 113 = .ok (.getfield 23, 3) := dk_180 0 23 (dk_at dksX9_fallen_4 18 rfl rfl)
theorem dX9_fallen_116 : decode cX9_fallen 116 = .ok (.sipush 1000, 3) := dk_17 3 232 (dk_at dksX9_fallen_4 21 rfl rfl)
theorem dX9_fallen_119 : decode cX9_fallen 119 = .ok (.iload 5, 2) := dk_21 5 (dk_at dksX9_fallen_5 0 rfl rfl)
theorem dX9_fallen_121 : decode cX9_fallen 121 = .ok (.imul, 1) := dk_104 (dk_at dksX9_fallen_5 2 rfl rfl)
theorem dX9_fallen_122 : decode cX9_fallen 122 = .ok (.iload_n 2, 1) := dk_28 (dk_at dksX9_fallen_5 3 rfl rfl)
theorem dX9_fallen_123 : decode cX9_fallen 123 = .ok (.iadd, 1) := dk_96 (dk_at dksX9_fallen_5 4 rfl rfl)
theorem dX9_fallen_124 : decode cX9_fallen 124 = .ok (.iaload, 1) := dk_46 (dk_at dksX9_fallen_5 5 rfl rfl)
theorem dX9_fallen_125 : decode cX9_fallen 125 = .ok (.iadd, 1) := dk_96 (dk_at dksX9_fallen_5 6 rfl rfl)
theorem dX9_fallen_126 : decode cX9_fallen 126 = .ok (.istore 4, 2) := dk_54 4 (dk_at dksX9_fallen_5 7 rfl rfl)
theorem dX9_fallen_128 : decode cX9_fallen 128 = .ok (.iinc 3 1, 3) := dk_132 3 1 (dk_at dksX9_fallen_5 9 rfl rfl)
theorem dX9_fallen_131 : decode cX9_fallen 131 = .ok (.iinc 5 2, 3) := dk_132 5 2 (dk_at dksX9_fallen_5 12 rfl rfl)
theorem dX9_fallen_134 : decode cX9_fallen 134 = .ok (.goto (-71), 3) := dk_167 255 185 (dk_at dksX9_fallen_5 15 rfl rfl)
theorem dX9_fallen_137 : decode cX9_fallen 137 = .ok (.iload_n 3, 1) := dk_29 (dk_at dksX9_fallen_5 18 rfl rfl)
theorem dX9_fallen_138 : decode cX9_fallen 138 = .ok (.ifCond .ne 7, 3) := dk_154 0 7 (dk_at dksX9_fallen_5 19 rfl rfl)
theorem dX9_fallen_141 : decode cX9_fallen 141 = .ok (.iconst 0, 1) := dk_3 (dk_at dksX9_fallen_5 22 rfl rfl)
theorem dX9_fallen_142 : decode cX9_fallen 142 = .ok (.goto 7, 3) := dk_167 0 7 (dk_at dksX9_fallen_6 0 rfl rfl)
theorem dX9_fallen_145 : decode cX9_fallen 145 = .ok (.iload 4, 2) := dk_21 4 (dk_at dksX9_fallen_6 3 rfl rfl)
theorem dX9_fallen_147 : decode cX9_fallen 147 = .ok (.iload_n 3, 1) := dk_29 (dk_at dksX9_fallen_6 5 rfl rfl)
theorem dX9_fallen_148 : decode cX9_fallen 148 = .ok (.idiv, 1) := dk_108 (dk_at dksX9_fallen_6 6 rfl rfl)
theorem dX9_fallen_149 : decode cX9_fallen 149 = .ok (.ireturn, 1) := dk_172 (dk_at dksX9_fallen_6 7 rfl rfl)
def dkwX9_seen_1 : List UInt8 := [153, 0, 7, 3, 167, 0, 13, 42, 180, 0, 9, 17, 8, 60, 27, 96, 46, 172]
abbrev dktX9_seen_1 : List UInt8 := dkwX9_seen_1 ++ []
def dkwX9_seen_0 : List UInt8 := [42, 3, 181, 0, 73, 42, 42, 27, 182, 0, 91, 154, 0, 7, 4, 167, 0, 4, 3, 4, 182, 0, 84]
abbrev dktX9_seen_0 : List UInt8 := dkwX9_seen_0 ++ dktX9_seen_1
theorem dksX9_seen_0 : cX9_seen.data.toList.drop 0 = dktX9_seen_0 := by decide +kernel
theorem dksX9_seen_1 : cX9_seen.data.toList.drop 23 = dktX9_seen_1 := dk_seg dksX9_seen_0 23 rfl rfl
theorem dX9_seen_0 : decode cX9_seen 0 = .ok (.aload_n 0, 1) := dk_42 (dk_at dksX9_seen_0 0 rfl rfl)
theorem dX9_seen_1 : decode cX9_seen 1 = .ok (.iconst 0, 1) := dk_3 (dk_at dksX9_seen_0 1 rfl rfl)
theorem dX9_seen_2 : decode cX9_seen 2 = .ok (.putfield 73, 3) := dk_181 0 73 (dk_at dksX9_seen_0 2 rfl rfl)
theorem dX9_seen_5 : decode cX9_seen 5 = .ok (.aload_n 0, 1) := dk_42 (dk_at dksX9_seen_0 5 rfl rfl)
theorem dX9_seen_6 : decode cX9_seen 6 = .ok (.aload_n 0, 1) := dk_42 (dk_at dksX9_seen_0 6 rfl rfl)
theorem dX9_seen_7 : decode cX9_seen 7 = .ok (.iload_n 1, 1) := dk_27 (dk_at dksX9_seen_0 7 rfl rfl)
theorem dX9_seen_8 : decode cX9_seen 8 = .ok (.invokevirtual 91, 3) := dk_182 0 91 (dk_at dksX9_seen_0 8 rfl rfl)
theorem dX9_seen_11 : decode cX9_seen 11 = .ok (.ifCond .ne 7, 3) := dk_154 0 7 (dk_at dksX9_seen_0 11 rfl rfl)
theorem dX9_seen_14 : decode cX9_seen 14 = .ok (.iconst 1, 1) := dk_4 (dk_at dksX9_seen_0 14 rfl rfl)
theorem dX9_seen_15 : decode cX9_seen 15 = .ok (.goto 4, 3) := dk_167 0 4 (dk_at dksX9_seen_0 15 rfl rfl)
theorem dX9_seen_18 : decode cX9_seen 18 = .ok (.iconst 0, 1) := dk_3 (dk_at dksX9_seen_0 18 rfl rfl)
theorem dX9_seen_19 : decode cX9_seen 19 = .ok (.iconst 1, 1) := dk_4 (dk_at dksX9_seen_0 19 rfl rfl)
theorem dX9_seen_20 : decode cX9_seen 20 = .ok (.invokevirtual 84, 3) := dk_182 0 84 (dk_at dksX9_seen_0 20 rfl rfl)
theorem dX9_seen_23 : decode cX9_seen 23 = .ok (.ifCond .eq 7, 3) := dk_153 0 7 (dk_at dksX9_seen_1 0 rfl rfl)
theorem dX9_seen_26 : decode cX9_seen 26 = .ok (.iconst 0, 1) := dk_3 (dk_at dksX9_seen_1 3 rfl rfl)
theorem dX9_seen_27 : decode cX9_seen 27 = .ok (.goto 13, 3) := dk_167 0 13 (dk_at dksX9_seen_1 4 rfl rfl)
theorem dX9_seen_30 : decode cX9_seen 30 = .ok (.aload_n 0, 1) := dk_42 (dk_at dksX9_seen_1 7 rfl rfl)
theorem dX9_seen_31 : decode cX9_seen 31 = .ok (.getfield 9, 3) := dk_180 0 9 (dk_at dksX9_seen_1 8 rfl rfl)
theorem dX9_seen_34 : decode cX9_seen 34 = .ok (.sipush 2108, 3) := dk_17 8 60 (dk_at dksX9_seen_1 11 rfl rfl)
theorem dX9_seen_37 : decode cX9_seen 37 = .ok (.iload_n 1, 1) := dk_27 (dk_at dksX9_seen_1 14 rfl rfl)
theorem dX9_seen_38 : decode cX9_seen 38 = .ok (.iadd, 1) := dk_96 (dk_at dksX9_seen_1 15 rfl rfl)
theorem dX9_seen_39 : decode cX9_seen 39 = .ok (.iaload, 1) := dk_46 (dk_at dksX9_seen_1 16 rfl rfl)
theorem dX9_seen_40 : decode cX9_seen 40 = .ok (.ireturn, 1) := dk_172 (dk_at dksX9_seen_1 17 rfl rfl)
def dkwX9_promise_1 : List UInt8 := [153, 0, 7, 3, 167, 0, 8, 42, 27, 182, 0, 101, 172]
abbrev dktX9_promise_1 : List UInt8 := dkwX9_promise_1 ++ []
def dkwX9_promise_0 : List UInt8 := [42, 3, 181, 0, 73, 42, 42, 27, 182, 0, 80, 154, 0, 7, 4, 167, 0, 4, 3, 4, 182, 0, 84]
abbrev dktX9_promise_0 : List UInt8 := dkwX9_promise_0 ++ dktX9_promise_1
theorem dksX9_promise_0 : cX9_promise.data.toList.drop 0 = dktX9_promise_0 := by decide +kernel
theorem dksX9_promise_1 : cX9_promise.data.toList.drop 23 = dktX9_promise_1 := dk_seg dksX9_promise_0 23 rfl rfl
theorem dX9_promise_0 : decode cX9_promise 0 = .ok (.aload_n 0, 1) := dk_42 (dk_at dksX9_promise_0 0 rfl rfl)
theorem dX9_promise_1 : decode cX9_promise 1 = .ok (.iconst 0, 1) := dk_3 (dk_at dksX9_promise_0 1 rfl rfl)
theorem dX9_promise_2 : decode cX9_promise 2 = .ok (.putfield 73, 3) := dk_181 0 73 (dk_at dksX9_promise_0 2 rfl rfl)
theorem dX9_promise_5 : decode cX9_promise 5 = .ok (.aload_n 0, 1) := dk_42 (dk_at dksX9_promise_0 5 rfl rfl)
theorem dX9_promise_6 : decode cX9_promise 6 = .ok (.aload_n 0, 1) := dk_42 (dk_at dksX9_promise_0 6 rfl rfl)
theorem dX9_promise_7 : decode cX9_promise 7 = .ok (.iload_n 1, 1) := dk_27 (dk_at dksX9_promise_0 7 rfl rfl)
theorem dX9_promise_8 : decode cX9_promise 8 = .ok (.invokevirtual 80, 3) := dk_182 0 80 (dk_at dksX9_promise_0 8 rfl rfl)
theorem dX9_promise_11 : decode cX9_promise 11 = .ok (.ifCond .ne 7, 3) := dk_154 0 7 (dk_at dksX9_promise_0 11 rfl rfl)
theorem dX9_promise_14 : decode cX9_promise 14 = .ok (.iconst 1, 1) := dk_4 (dk_at dksX9_promise_0 14 rfl rfl)
theorem dX9_promise_15 : decode cX9_promise 15 = .ok (.goto 4, 3) := dk_167 0 4 (dk_at dksX9_promise_0 15 rfl rfl)
theorem dX9_promise_18 : decode cX9_promise 18 = .ok (.iconst 0, 1) := dk_3 (dk_at dksX9_promise_0 18 rfl rfl)
theorem dX9_promise_19 : decode cX9_promise 19 = .ok (.iconst 1, 1) := dk_4 (dk_at dksX9_promise_0 19 rfl rfl)
theorem dX9_promise_20 : decode cX9_promise 20 = .ok (.invokevirtual 84, 3) := dk_182 0 84 (dk_at dksX9_promise_0 20 rfl rfl)
theorem dX9_promise_23 : decode cX9_promise 23 = .ok (.ifCond .eq 7, 3) := dk_153 0 7 (dk_at dksX9_promise_1 0 rfl rfl)
theorem dX9_promise_26 : decode cX9_promise 26 = .ok (.iconst 0, 1) := dk_3 (dk_at dksX9_promise_1 3 rfl rfl)
theorem dX9_promise_27 : decode cX9_promise 27 = .ok (.goto 8, 3) := dk_167 0 8 (dk_at dksX9_promise_1 4 rfl rfl)
theorem dX9_promise_30 : decode cX9_promise 30 = .ok (.aload_n 0, 1) := dk_42 (dk_at dksX9_promise_1 7 rfl rfl)
theorem dX9_promise_31 : decode cX9_promise 31 = .ok (.iload_n 1, 1) := dk_27 (dk_at dksX9_promise_1 8 rfl rfl)
theorem dX9_promise_32 : decode cX9_promise 32 = .ok (.invokevirtual 101, 3) := dk_182 0 101 (dk_at dksX9_promise_1 9 rfl rfl)
theorem dX9_promise_35 : decode cX9_promise 35 = .ok (.ireturn, 1) := dk_172 (dk_at dksX9_promise_1 12 rfl rfl)
def dkwX9_promiseOf_2 : List UInt8 := [28, 96, 46, 108, 16, 10, 108, 96, 172]
abbrev dktX9_promiseOf_2 : List UInt8 := dkwX9_promiseOf_2 ++ []
def dkwX9_promiseOf_1 : List UInt8 := [154, 0, 7, 3, 167, 0, 27, 42, 180, 0, 9, 17, 8, 64, 28, 96, 46, 42, 180, 0, 9, 17, 8, 60]
abbrev dktX9_promiseOf_1 : List UInt8 := dkwX9_promiseOf_1 ++ dktX9_promiseOf_2
def dkwX9_promiseOf_0 : List UInt8 := [27, 184, 0, 97, 61, 16, 10, 42, 180, 0, 16, 27, 46, 104, 42, 180, 0, 9, 17, 8, 60, 28, 96, 46]
abbrev dktX9_promiseOf_0 : List UInt8 := dkwX9_promiseOf_0 ++ dktX9_promiseOf_1
theorem dksX9_promiseOf_0 : cX9_promiseOf.data.toList.drop 0 = dktX9_promiseOf_0 := by decide +kernel
theorem dksX9_promiseOf_1 : cX9_promiseOf.data.toList.drop 24 = dktX9_promiseOf_1 := dk_seg dksX9_promiseOf_0 24 rfl rfl
theorem dksX9_promiseOf_2 : cX9_promiseOf.data.toList.drop 48 = dktX9_promiseOf_2 := dk_seg dksX9_promiseOf_1 24 rfl rfl
theorem dX9_promiseOf_0 : decode cX9_promiseOf 0 = .ok (.iload_n 1, 1) := dk_27 (dk_at dksX9_promiseOf_0 0 rfl rfl)
theorem dX9_promiseOf_1 : decode cX9_promiseOf 1 = .ok (.invokestatic 97, 3) := dk_184 0 97 (dk_at dksX9_promiseOf_0 1 rfl rfl)
theorem dX9_promiseOf_4 : decode cX9_promiseOf 4 = .ok (.istore_n 2, 1) := dk_61 (dk_at dksX9_promiseOf_0 4 rfl rfl)
theorem dX9_promiseOf_5 : decode cX9_promiseOf 5 = .ok (.bipush 10, 2) := dk_16 10 (dk_at dksX9_promiseOf_0 5 rfl rfl)
theorem dX9_promiseOf_7 : decode cX9_promiseOf 7 = .ok (.aload_n 0, 1) := dk_42 (dk_at dksX9_promiseOf_0 7 rfl rfl)
theorem dX9_promiseOf_8 : decode cX9_promiseOf 8 = .ok (.getfield 16, 3) := dk_180 0 16 (dk_at dksX9_promiseOf_0 8 rfl rfl)
theorem dX9_promiseOf_11 : decode cX9_promiseOf 11 = .ok (.iload_n 1, 1) := dk_27 (dk_at dksX9_promiseOf_0 11 rfl rfl)
theorem dX9_promiseOf_12 : decode cX9_promiseOf 12 = .ok (.iaload, 1) := dk_46 (dk_at dksX9_promiseOf_0 12 rfl rfl)
theorem dX9_promiseOf_13 : decode cX9_promiseOf 13 = .ok (.imul, 1) := dk_104 (dk_at dksX9_promiseOf_0 13 rfl rfl)
theorem dX9_promiseOf_14 : decode cX9_promiseOf 14 = .ok (.aload_n 0, 1) := dk_42 (dk_at dksX9_promiseOf_0 14 rfl rfl)
theorem dX9_promiseOf_15 : decode cX9_promiseOf 15 = .ok (.getfield 9, 3) := dk_180 0 9 (dk_at dksX9_promiseOf_0 15 rfl rfl)
theorem dX9_promiseOf_18 : decode cX9_promiseOf 18 = .ok (.sipush 2108, 3) := dk_17 8 60 (dk_at dksX9_promiseOf_0 18 rfl rfl)
theorem dX9_promiseOf_21 : decode cX9_promiseOf 21 = .ok (.iload_n 2, 1) := dk_28 (dk_at dksX9_promiseOf_0 21 rfl rfl)
theorem dX9_promiseOf_22 : decode cX9_promiseOf 22 = .ok (.iadd, 1) := dk_96 (dk_at dksX9_promiseOf_0 22 rfl rfl)
theorem dX9_promiseOf_23 : decode cX9_promiseOf 23 = .ok (.iaload, 1) := dk_46 (dk_at dksX9_promiseOf_0 23 rfl rfl)
theorem dX9_promiseOf_24 : decode cX9_promiseOf 24 = .ok (.ifCond .ne 7, 3) := dk_154 0 7 (dk_at dksX9_promiseOf_1 0 rfl rfl)
theorem dX9_promiseOf_27 : decode cX9_promiseOf 27 = .ok (.iconst 0, 1) := dk_3 (dk_at dksX9_promiseOf_1 3 rfl rfl)
theorem dX9_promiseOf_28 : decode cX9_promiseOf 28 = .ok (.goto 27, 3) := dk_167 0 27 (dk_at dksX9_promiseOf_1 4 rfl rfl)
theorem dX9_promiseOf_31 : decode cX9_promiseOf 31 = .ok (.aload_n 0, 1) := dk_42 (dk_at dksX9_promiseOf_1 7 rfl rfl)
theorem dX9_promiseOf_32 : decode cX9_promiseOf 32 = .ok (.getfield 9, 3) := dk_180 0 9 (dk_at dksX9_promiseOf_1 8 rfl rfl)
theorem dX9_promiseOf_35 : decode cX9_promiseOf 35 = .ok (.sipush 2112, 3) := dk_17 8 64 (dk_at dksX9_promiseOf_1 11 rfl rfl)
theorem dX9_promiseOf_38 : decode cX9_promiseOf 38 = .ok (.iload_n 2, 1) := dk_28 (dk_at dksX9_promiseOf_1 14 rfl rfl)
theorem dX9_promiseOf_39 : decode cX9_promiseOf 39 = .ok (.iadd, 1) := dk_96 (dk_at dksX9_promiseOf_1 15 rfl rfl)
theorem dX9_promiseOf_40 : decode cX9_promiseOf 40 = .ok (.iaload, 1) := dk_46 (dk_at dksX9_promiseOf_1 16 rfl rfl)
theorem dX9_promiseOf_41 : decode cX9_promiseOf 41 = .ok (.aload_n 0, 1) := dk_42 (dk_at dksX9_promiseOf_1 17 rfl rfl)
theorem dX9_promiseOf_42 : decode cX9_promiseOf 42 = .ok (.getfield 9, 3) := dk_180 0 9 (dk_at dksX9_promiseOf_1 18 rfl rfl)
theorem dX9_promiseOf_45 : decode cX9_promiseOf 45 = .ok (.sipush 2108, 3) := dk_17 8 60 (dk_at dksX9_promiseOf_1 21 rfl rfl)
theorem dX9_promiseOf_48 : decode cX9_promiseOf 48 = .ok (.iload_n 2, 1) := dk_28 (dk_at dksX9_promiseOf_2 0 rfl rfl)
theorem dX9_promiseOf_49 : decode cX9_promiseOf 49 = .ok (.iadd, 1) := dk_96 (dk_at dksX9_promiseOf_2 1 rfl rfl)
theorem dX9_promiseOf_50 : decode cX9_promiseOf 50 = .ok (.iaload, 1) := dk_46 (dk_at dksX9_promiseOf_2 2 rfl rfl)
theorem dX9_promiseOf_51 : decode cX9_promiseOf 51 = .ok (.idiv, 1) := dk_108 (dk_at dksX9_promiseOf_2 3 rfl rfl)
theorem dX9_promiseOf_52 : decode cX9_promiseOf 52 = .ok (.bipush 10, 2) := dk_16 10 (dk_at dksX9_promiseOf_2 4 rfl rfl)
theorem dX9_promiseOf_54 : decode cX9_promiseOf 54 = .ok (.idiv, 1) := dk_108 (dk_at dksX9_promiseOf_2 6 rfl rfl)
theorem dX9_promiseOf_55 : decode cX9_promiseOf 55 = .ok (.iadd, 1) := dk_96 (dk_at dksX9_promiseOf_2 7 rfl rfl)
theorem dX9_promiseOf_56 : decode cX9_promiseOf 56 = .ok (.ireturn, 1) := dk_172 (dk_at dksX9_promiseOf_2 8 rfl rfl)
def dkwX9_zoneOf_0 : List UInt8 := [26, 16, 12, 112, 6, 108, 172]
abbrev dktX9_zoneOf_0 : List UInt8 := dkwX9_zoneOf_0 ++ []
theorem dksX9_zoneOf_0 : cX9_zoneOf.data.toList.drop 0 = dktX9_zoneOf_0 := by decide +kernel
theorem dX9_zoneOf_0 : decode cX9_zoneOf 0 = .ok (.iload_n 0, 1) := dk_26 (dk_at dksX9_zoneOf_0 0 rfl rfl)
theorem dX9_zoneOf_1 : decode cX9_zoneOf 1 = .ok (.bipush 12, 2) := dk_16 12 (dk_at dksX9_zoneOf_0 1 rfl rfl)
theorem dX9_zoneOf_3 : decode cX9_zoneOf 3 = .ok (.irem, 1) := dk_112 (dk_at dksX9_zoneOf_0 3 rfl rfl)
theorem dX9_zoneOf_4 : decode cX9_zoneOf 4 = .ok (.iconst 3, 1) := dk_6 (dk_at dksX9_zoneOf_0 4 rfl rfl)
theorem dX9_zoneOf_5 : decode cX9_zoneOf 5 = .ok (.idiv, 1) := dk_108 (dk_at dksX9_zoneOf_0 5 rfl rfl)
theorem dX9_zoneOf_6 : decode cX9_zoneOf 6 = .ok (.ireturn, 1) := dk_172 (dk_at dksX9_zoneOf_0 6 rfl rfl)
def dkwX9_section_8 : List UInt8 := [182, 0, 110, 42, 27, 16, 7, 182, 0, 88, 100, 167, 0, 4, 3, 172]
abbrev dktX9_section_8 : List UInt8 := dkwX9_section_8 ++ []
def dkwX9_section_7 : List UInt8 := [184, 0, 107, 153, 0, 12, 42, 27, 8, 182, 0, 88, 167, 0, 4, 2, 172, 29, 154, 0, 19, 42, 27]
abbrev dktX9_section_7 : List UInt8 := dkwX9_section_7 ++ dktX9_section_8
def dkwX9_section_6 : List UInt8 := [167, 0, 4, 2, 172, 29, 184, 0, 104, 153, 0, 12, 42, 27, 7, 182, 0, 88, 167, 0, 4, 2, 172, 29]
abbrev dktX9_section_6 : List UInt8 := dkwX9_section_6 ++ dktX9_section_7
def dkwX9_section_5 : List UInt8 := [27, 5, 182, 0, 88, 167, 0, 4, 2, 172, 29, 184, 0, 104, 153, 0, 12, 42, 27, 6, 182, 0, 88]
abbrev dktX9_section_5 : List UInt8 := dkwX9_section_5 ++ dktX9_section_6
def dkwX9_section_4 : List UInt8 := [29, 172, 29, 4, 164, 0, 12, 42, 27, 4, 182, 0, 88, 167, 0, 4, 2, 172, 29, 7, 160, 0, 12, 42]
abbrev dktX9_section_4 : List UInt8 := dkwX9_section_4 ++ dktX9_section_5
def dkwX9_section_3 : List UInt8 := [170, 0, 0, 0, 125, 0, 0, 0, 0, 0, 0, 0, 5, 0, 0, 0, 37, 0, 0, 0, 39, 0, 0, 0, 55, 0, 0, 0, 71, 0, 0, 0, 89, 0, 0, 0, 107]
abbrev dktX9_section_3 : List UInt8 := dkwX9_section_3 ++ dktX9_section_4
def dkwX9_section_2 : List UInt8 := [153, 0, 5, 3, 172, 42, 27, 3, 182, 0, 88, 62, 28]
abbrev dktX9_section_2 : List UInt8 := dkwX9_section_2 ++ dktX9_section_3
def dkwX9_section_1 : List UInt8 := [154, 0, 26, 42, 28, 155, 0, 9, 28, 16, 6, 164, 0, 7, 4, 167, 0, 4, 3, 5, 182, 0, 84]
abbrev dktX9_section_1 : List UInt8 := dkwX9_section_1 ++ dktX9_section_2
def dkwX9_section_0 : List UInt8 := [42, 3, 181, 0, 73, 42, 42, 27, 182, 0, 80, 154, 0, 7, 4, 167, 0, 4, 3, 4, 182, 0, 84]
abbrev dktX9_section_0 : List UInt8 := dkwX9_section_0 ++ dktX9_section_1
theorem dksX9_section_0 : cX9_section.data.toList.drop 0 = dktX9_section_0 := by decide +kernel
theorem dksX9_section_1 : cX9_section.data.toList.drop 23 = dktX9_section_1 := dk_seg dksX9_section_0 23 rfl rfl
theorem dksX9_section_2 : cX9_section.data.toList.drop 46 = dktX9_section_2 := dk_seg dksX9_section_1 23 rfl rfl
theorem dksX9_section_3 : cX9_section.data.toList.drop 59 = dktX9_section_3 := dk_seg dksX9_section_2 13 rfl rfl
theorem dksX9_section_4 : cX9_section.data.toList.drop 96 = dktX9_section_4 := dk_seg dksX9_section_3 37 rfl rfl
theorem dksX9_section_5 : cX9_section.data.toList.drop 120 = dktX9_section_5 := dk_seg dksX9_section_4 24 rfl rfl
theorem dksX9_section_6 : cX9_section.data.toList.drop 143 = dktX9_section_6 := dk_seg dksX9_section_5 23 rfl rfl
theorem dksX9_section_7 : cX9_section.data.toList.drop 167 = dktX9_section_7 := dk_seg dksX9_section_6 24 rfl rfl
theorem dksX9_section_8 : cX9_section.data.toList.drop 190 = dktX9_section_8 := dk_seg dksX9_section_7 23 rfl rfl
theorem dX9_section_0 : decode cX9_section 0 = .ok (.aload_n 0, 1) := dk_42 (dk_at dksX9_section_0 0 rfl rfl)
theorem dX9_section_1 : decode cX9_section 1 = .ok (.iconst 0, 1) := dk_3 (dk_at dksX9_section_0 1 rfl rfl)
theorem dX9_section_2 : decode cX9_section 2 = .ok (.putfield 73, 3) := dk_181 0 73 (dk_at dksX9_section_0 2 rfl rfl)
theorem dX9_section_5 : decode cX9_section 5 = .ok (.aload_n 0, 1) := dk_42 (dk_at dksX9_section_0 5 rfl rfl)
theorem dX9_section_6 : decode cX9_section 6 = .ok (.aload_n 0, 1) := dk_42 (dk_at dksX9_section_0 6 rfl rfl)
theorem dX9_section_7 : decode cX9_section 7 = .ok (.iload_n 1, 1) := dk_27 (dk_at dksX9_section_0 7 rfl rfl)
theorem dX9_section_8 : decode cX9_section 8 = .ok (.invokevirtual 80, 3) := dk_182 0 80 (dk_at dksX9_section_0 8 rfl rfl)
theorem dX9_section_11 : decode cX9_section 11 = .ok (.ifCond .ne 7, 3) := dk_154 0 7 (dk_at dksX9_section_0 11 rfl rfl)
theorem dX9_section_14 : decode cX9_section 14 = .ok (.iconst 1, 1) := dk_4 (dk_at dksX9_section_0 14 rfl rfl)
theorem dX9_section_15 : decode cX9_section 15 = .ok (.goto 4, 3) := dk_167 0 4 (dk_at dksX9_section_0 15 rfl rfl)
theorem dX9_section_18 : decode cX9_section 18 = .ok (.iconst 0, 1) := dk_3 (dk_at dksX9_section_0 18 rfl rfl)
theorem dX9_section_19 : decode cX9_section 19 = .ok (.iconst 1, 1) := dk_4 (dk_at dksX9_section_0 19 rfl rfl)
theorem dX9_section_20 : decode cX9_section 20 = .ok (.invokevirtual 84, 3) := dk_182 0 84 (dk_at dksX9_section_0 20 rfl rfl)
theorem dX9_section_23 : decode cX9_section 23 = .ok (.ifCond .ne 26, 3) := dk_154 0 26 (dk_at dksX9_section_1 0 rfl rfl)
theorem dX9_section_26 : decode cX9_section 26 = .ok (.aload_n 0, 1) := dk_42 (dk_at dksX9_section_1 3 rfl rfl)
theorem dX9_section_27 : decode cX9_section 27 = .ok (.iload_n 2, 1) := dk_28 (dk_at dksX9_section_1 4 rfl rfl)
theorem dX9_section_28 : decode cX9_section 28 = .ok (.ifCond .lt 9, 3) := dk_155 0 9 (dk_at dksX9_section_1 5 rfl rfl)
theorem dX9_section_31 : decode cX9_section 31 = .ok (.iload_n 2, 1) := dk_28 (dk_at dksX9_section_1 8 rfl rfl)
theorem dX9_section_32 : decode cX9_section 32 = .ok (.bipush 6, 2) := dk_16 6 (dk_at dksX9_section_1 9 rfl rfl)
theorem dX9_section_34 : decode cX9_section 34 = .ok (.if_icmp .le 7, 3) := dk_164 0 7 (dk_at dksX9_section_1 11 rfl rfl)
theorem dX9_section_37 : decode cX9_section 37 = .ok (.iconst 1, 1) := dk_4 (dk_at dksX9_section_1 14 rfl rfl)
theorem dX9_section_38 : decode cX9_section 38 = .ok (.goto 4, 3) := dk_167 0 4 (dk_at dksX9_section_1 15 rfl rfl)
theorem dX9_section_41 : decode cX9_section 41 = .ok (.iconst 0, 1) := dk_3 (dk_at dksX9_section_1 18 rfl rfl)
theorem dX9_section_42 : decode cX9_section 42 = .ok (.iconst 2, 1) := dk_5 (dk_at dksX9_section_1 19 rfl rfl)
theorem dX9_section_43 : decode cX9_section 43 = .ok (.invokevirtual 84, 3) := dk_182 0 84 (dk_at dksX9_section_1 20 rfl rfl)
theorem dX9_section_46 : decode cX9_section 46 = .ok (.ifCond .eq 5, 3) := dk_153 0 5 (dk_at dksX9_section_2 0 rfl rfl)
theorem dX9_section_49 : decode cX9_section 49 = .ok (.iconst 0, 1) := dk_3 (dk_at dksX9_section_2 3 rfl rfl)
theorem dX9_section_50 : decode cX9_section 50 = .ok (.ireturn, 1) := dk_172 (dk_at dksX9_section_2 4 rfl rfl)
theorem dX9_section_51 : decode cX9_section 51 = .ok (.aload_n 0, 1) := dk_42 (dk_at dksX9_section_2 5 rfl rfl)
theorem dX9_section_52 : decode cX9_section 52 = .ok (.iload_n 1, 1) := dk_27 (dk_at dksX9_section_2 6 rfl rfl)
theorem dX9_section_53 : decode cX9_section 53 = .ok (.iconst 0, 1) := dk_3 (dk_at dksX9_section_2 7 rfl rfl)
theorem dX9_section_54 : decode cX9_section 54 = .ok (.invokevirtual 88, 3) := dk_182 0 88 (dk_at dksX9_section_2 8 rfl rfl)
theorem dX9_section_57 : decode cX9_section 57 = .ok (.istore_n 3, 1) := dk_62 (dk_at dksX9_section_2 11 rfl rfl)
theorem dX9_section_58 : decode cX9_section 58 = .ok (.iload_n 2, 1) := dk_28 (dk_at dksX9_section_2 12 rfl rfl)
theorem dX9_section_59 : decode cX9_section 59 = .ok (.tableswitch 125 0 5 #[37, 39, 55, 71, 89, 107], 37) := by decide +kernel
theorem dX9_section_96 : decode cX9_section 96 = .ok (.iload_n 3, 1) := dk_29 (dk_at dksX9_section_4 0 rfl rfl)
theorem dX9_section_97 : decode cX9_section 97 = .ok (.ireturn, 1) := dk_172 (dk_at dksX9_section_4 1 rfl rfl)
theorem dX9_section_98 : decode cX9_section 98 = .ok (.iload_n 3, 1) := dk_29 (dk_at dksX9_section_4 2 rfl rfl)
theorem dX9_section_99 : decode cX9_section 99 = .ok (.iconst 1, 1) := dk_4 (dk_at dksX9_section_4 3 rfl rfl)
theorem dX9_section_100 : decode cX9_section 100 = .ok (.if_icmp .le 12, 3) := dk_164 0 12 (dk_at dksX9_section_4 4 rfl rfl)
theorem dX9_section_103 : decode cX9_section 103 = .ok (.aload_n 0, 1) := dk_42 (dk_at dksX9_section_4 7 rfl rfl)
theorem dX9_section_104 : decode cX9_section 104 = .ok (.iload_n 1, 1) := dk_27 (dk_at dksX9_section_4 8 rfl rfl)
theorem dX9_section_105 : decode cX9_section 105 = .ok (.iconst 1, 1) := dk_4 (dk_at dksX9_section_4 9 rfl rfl)
theorem dX9_section_106 : decode cX9_section 106 = .ok (.invokevirtual 88, 3) := dk_182 0 88 (dk_at dksX9_section_4 10 rfl rfl)
theorem dX9_section_109 : decode cX9_section 109 = .ok (.goto 4, 3) := dk_167 0 4 (dk_at dksX9_section_4 13 rfl rfl)
theorem dX9_section_112 : decode cX9_section 112 = .ok (.iconst (-1), 1) := dk_2 (dk_at dksX9_section_4 16 rfl rfl)
theorem dX9_section_113 : decode cX9_section 113 = .ok (.ireturn, 1) := dk_172 (dk_at dksX9_section_4 17 rfl rfl)
theorem dX9_section_114 : decode cX9_section 114 = .ok (.iload_n 3, 1) := dk_29 (dk_at dksX9_section_4 18 rfl rfl)
theorem dX9_section_115 : decode cX9_section 115 = .ok (.iconst 4, 1) := dk_7 (dk_at dksX9_section_4 19 rfl rfl)
theorem dX9_section_116 : decode cX9_section 116 = .ok (.if_icmp .ne 12, 3) := dk_160 0 12 (dk_at dksX9_section_4 20 rfl rfl)
theorem dX9_section_119 : decode cX9_section 119 = .ok (.aload_n 0, 1) := dk_42 (dk_at dksX9_section_4 23 rfl rfl)
theorem dX9_section_120 : decode cX9_section 120 = .ok (.iload_n 1, 1) := dk_27 (dk_at dksX9_section_5 0 rfl rfl)
theorem dX9_section_121 : decode cX9_section 121 = .ok (.iconst 2, 1) := dk_5 (dk_at dksX9_section_5 1 rfl rfl)
theorem dX9_section_122 : decode cX9_section 122 = .ok (.invokevirtual 88, 3) := dk_182 0 88 (dk_at dksX9_section_5 2 rfl rfl)
theorem dX9_section_125 : decode cX9_section 125 = .ok (.goto 4, 3) := dk_167 0 4 (dk_at dksX9_section_5 5 rfl rfl)
theorem dX9_section_128 : decode cX9_section 128 = .ok (.iconst (-1), 1) := dk_2 (dk_at dksX9_section_5 8 rfl rfl)
theorem dX9_section_129 : decode cX9_section 129 = .ok (.ireturn, 1) := dk_172 (dk_at dksX9_section_5 9 rfl rfl)
theorem dX9_section_130 : decode cX9_section 130 = .ok (.iload_n 3, 1) := dk_29 (dk_at dksX9_section_5 10 rfl rfl)
theorem dX9_section_131 : decode cX9_section 131 = .ok (.invokestatic 104, 3) := dk_184 0 104 (dk_at dksX9_section_5 11 rfl rfl)
theorem dX9_section_134 : decode cX9_section 134 = .ok (.ifCond .eq 12, 3) := dk_153 0 12 (dk_at dksX9_section_5 14 rfl rfl)
theorem dX9_section_137 : decode cX9_section 137 = .ok (.aload_n 0, 1) := dk_42 (dk_at dksX9_section_5 17 rfl rfl)
theorem dX9_section_138 : decode cX9_section 138 = .ok (.iload_n 1, 1) := dk_27 (dk_at dksX9_section_5 18 rfl rfl)
theorem dX9_section_139 : decode cX9_section 139 = .ok (.iconst 3, 1) := dk_6 (dk_at dksX9_section_5 19 rfl rfl)
theorem dX9_section_140 : decode cX9_section 140 = .ok (.invokevirtual 88, 3) := dk_182 0 88 (dk_at dksX9_section_5 20 rfl rfl)
theorem dX9_section_143 : decode cX9_section 143 = .ok (.goto 4, 3) := dk_167 0 4 (dk_at dksX9_section_6 0 rfl rfl)
theorem dX9_section_146 : decode cX9_section 146 = .ok (.iconst (-1), 1) := dk_2 (dk_at dksX9_section_6 3 rfl rfl)
theorem dX9_section_147 : decode cX9_section 147 = .ok (.ireturn, 1) := dk_172 (dk_at dksX9_section_6 4 rfl rfl)
theorem dX9_section_148 : decode cX9_section 148 = .ok (.iload_n 3, 1) := dk_29 (dk_at dksX9_section_6 5 rfl rfl)
theorem dX9_section_149 : decode cX9_section 149 = .ok (.invokestatic 104, 3) := dk_184 0 104 (dk_at dksX9_section_6 6 rfl rfl)
theorem dX9_section_152 : decode cX9_section 152 = .ok (.ifCond .eq 12, 3) := dk_153 0 12 (dk_at dksX9_section_6 9 rfl rfl)
theorem dX9_section_155 : decode cX9_section 155 = .ok (.aload_n 0, 1) := dk_42 (dk_at dksX9_section_6 12 rfl rfl)
theorem dX9_section_156 : decode cX9_section 156 = .ok (.iload_n 1, 1) := dk_27 (dk_at dksX9_section_6 13 rfl rfl)
theorem dX9_section_157 : decode cX9_section 157 = .ok (.iconst 4, 1) := dk_7 (dk_at dksX9_section_6 14 rfl rfl)
theorem dX9_section_158 : decode cX9_section 158 = .ok (.invokevirtual 88, 3) := dk_182 0 88 (dk_at dksX9_section_6 15 rfl rfl)
theorem dX9_section_161 : decode cX9_section 161 = .ok (.goto 4, 3) := dk_167 0 4 (dk_at dksX9_section_6 18 rfl rfl)
theorem dX9_section_164 : decode cX9_section 164 = .ok (.iconst (-1), 1) := dk_2 (dk_at dksX9_section_6 21 rfl rfl)
theorem dX9_section_165 : decode cX9_section 165 = .ok (.ireturn, 1) := dk_172 (dk_at dksX9_section_6 22 rfl rfl)
theorem dX9_section_166 : decode cX9_section 166 = .ok (.iload_n 3, 1) := dk_29 (dk_at dksX9_section_6 23 rfl rfl)
theorem dX9_section_167 : decode cX9_section 167 = .ok (.invokestatic 107, 3) := dk_184 0 107 (dk_at dksX9_section_7 0 rfl rfl)
theorem dX9_section_170 : decode cX9_section 170 = .ok (.ifCond .eq 12, 3) := dk_153 0 12 (dk_at dksX9_section_7 3 rfl rfl)
theorem dX9_section_173 : decode cX9_section 173 = .ok (.aload_n 0, 1) := dk_42 (dk_at dksX9_section_7 6 rfl rfl)
theorem dX9_section_174 : decode cX9_section 174 = .ok (.iload_n 1, 1) := dk_27 (dk_at dksX9_section_7 7 rfl rfl)
theorem dX9_section_175 : decode cX9_section 175 = .ok (.iconst 5, 1) := dk_8 (dk_at dksX9_section_7 8 rfl rfl)
theorem dX9_section_176 : decode cX9_section 176 = .ok (.invokevirtual 88, 3) := dk_182 0 88 (dk_at dksX9_section_7 9 rfl rfl)
theorem dX9_section_179 : decode cX9_section 179 = .ok (.goto 4, 3) := dk_167 0 4 (dk_at dksX9_section_7 12 rfl rfl)
theorem dX9_section_182 : decode cX9_section 182 = .ok (.iconst (-1), 1) := dk_2 (dk_at dksX9_section_7 15 rfl rfl)
theorem dX9_section_183 : decode cX9_section 183 = .ok (.ireturn, 1) := dk_172 (dk_at dksX9_section_7 16 rfl rfl)
theorem dX9_section_184 : decode cX9_section 184 = .ok (.iload_n 3, 1) := dk_29 (dk_at dksX9_section_7 17 rfl rfl)
theorem dX9_section_185 : decode cX9_section 185 = .ok (.ifCond .ne 19, 3) := dk_154 0 19 (dk_at dksX9_section_7 18 rfl rfl)
theorem dX9_section_188 : decode cX9_section 188 = .ok (.aload_n 0, 1) := dk_42 (dk_at dksX9_section_7 21 rfl rfl)
theorem dX9_section_189 : decode cX9_section 189 = .ok (.iload_n 1, 1) := dk_27 (dk_at dksX9_section_7 22 rfl rfl)
theorem dX9_section_190 : decode cX9_section 190 = .ok (.invokevirtual 110, 3) := dk_182 0 110 (dk_at dksX9_section_8 0 rfl rfl)
theorem dX9_section_193 : decode cX9_section 193 = .ok (.aload_n 0, 1) := dk_42 (dk_at dksX9_section_8 3 rfl rfl)
theorem dX9_section_194 : decode cX9_section 194 = .ok (.iload_n 1, 1) := dk_27 (dk_at dksX9_section_8 4 rfl rfl)
theorem dX9_section_195 : decode cX9_section 195 = .ok (.bipush 7, 2) := dk_16 7 (dk_at dksX9_section_8 5 rfl rfl)
theorem dX9_section_197 : decode cX9_section 197 = .ok (.invokevirtual 88, 3) := dk_182 0 88 (dk_at dksX9_section_8 7 rfl rfl)
theorem dX9_section_200 : decode cX9_section 200 = .ok (.isub, 1) := dk_100 (dk_at dksX9_section_8 10 rfl rfl)
theorem dX9_section_201 : decode cX9_section 201 = .ok (.goto 4, 3) := dk_167 0 4 (dk_at dksX9_section_8 11 rfl rfl)
theorem dX9_section_204 : decode cX9_section 204 = .ok (.iconst 0, 1) := dk_3 (dk_at dksX9_section_8 14 rfl rfl)
theorem dX9_section_205 : decode cX9_section 205 = .ok (.ireturn, 1) := dk_172 (dk_at dksX9_section_8 15 rfl rfl)
def dkwX9_isPasture_0 : List UInt8 := [26, 7, 159, 0, 9, 26, 16, 6, 160, 0, 7, 4, 167, 0, 4, 3, 172]
abbrev dktX9_isPasture_0 : List UInt8 := dkwX9_isPasture_0 ++ []
theorem dksX9_isPasture_0 : cX9_isPasture.data.toList.drop 0 = dktX9_isPasture_0 := by decide +kernel
theorem dX9_isPasture_0 : decode cX9_isPasture 0 = .ok (.iload_n 0, 1) := dk_26 (dk_at dksX9_isPasture_0 0 rfl rfl)
theorem dX9_isPasture_1 : decode cX9_isPasture 1 = .ok (.iconst 4, 1) := dk_7 (dk_at dksX9_isPasture_0 1 rfl rfl)
theorem dX9_isPasture_2 : decode cX9_isPasture 2 = .ok (.if_icmp .eq 9, 3) := dk_159 0 9 (dk_at dksX9_isPasture_0 2 rfl rfl)
theorem dX9_isPasture_5 : decode cX9_isPasture 5 = .ok (.iload_n 0, 1) := dk_26 (dk_at dksX9_isPasture_0 5 rfl rfl)
theorem dX9_isPasture_6 : decode cX9_isPasture 6 = .ok (.bipush 6, 2) := dk_16 6 (dk_at dksX9_isPasture_0 6 rfl rfl)
theorem dX9_isPasture_8 : decode cX9_isPasture 8 = .ok (.if_icmp .ne 7, 3) := dk_160 0 7 (dk_at dksX9_isPasture_0 8 rfl rfl)
theorem dX9_isPasture_11 : decode cX9_isPasture 11 = .ok (.iconst 1, 1) := dk_4 (dk_at dksX9_isPasture_0 11 rfl rfl)
theorem dX9_isPasture_12 : decode cX9_isPasture 12 = .ok (.goto 4, 3) := dk_167 0 4 (dk_at dksX9_isPasture_0 12 rfl rfl)
theorem dX9_isPasture_15 : decode cX9_isPasture 15 = .ok (.iconst 0, 1) := dk_3 (dk_at dksX9_isPasture_0 15 rfl rfl)
theorem dX9_isPasture_16 : decode cX9_isPasture 16 = .ok (.ireturn, 1) := dk_172 (dk_at dksX9_isPasture_0 16 rfl rfl)
def dkwX9_isFarm_0 : List UInt8 := [26, 6, 159, 0, 8, 26, 8, 160, 0, 7, 4, 167, 0, 4, 3, 172]
abbrev dktX9_isFarm_0 : List UInt8 := dkwX9_isFarm_0 ++ []
theorem dksX9_isFarm_0 : cX9_isFarm.data.toList.drop 0 = dktX9_isFarm_0 := by decide +kernel
theorem dX9_isFarm_0 : decode cX9_isFarm 0 = .ok (.iload_n 0, 1) := dk_26 (dk_at dksX9_isFarm_0 0 rfl rfl)
theorem dX9_isFarm_1 : decode cX9_isFarm 1 = .ok (.iconst 3, 1) := dk_6 (dk_at dksX9_isFarm_0 1 rfl rfl)
theorem dX9_isFarm_2 : decode cX9_isFarm 2 = .ok (.if_icmp .eq 8, 3) := dk_159 0 8 (dk_at dksX9_isFarm_0 2 rfl rfl)
theorem dX9_isFarm_5 : decode cX9_isFarm 5 = .ok (.iload_n 0, 1) := dk_26 (dk_at dksX9_isFarm_0 5 rfl rfl)
theorem dX9_isFarm_6 : decode cX9_isFarm 6 = .ok (.iconst 5, 1) := dk_8 (dk_at dksX9_isFarm_0 6 rfl rfl)
theorem dX9_isFarm_7 : decode cX9_isFarm 7 = .ok (.if_icmp .ne 7, 3) := dk_160 0 7 (dk_at dksX9_isFarm_0 7 rfl rfl)
theorem dX9_isFarm_10 : decode cX9_isFarm 10 = .ok (.iconst 1, 1) := dk_4 (dk_at dksX9_isFarm_0 10 rfl rfl)
theorem dX9_isFarm_11 : decode cX9_isFarm 11 = .ok (.goto 4, 3) := dk_167 0 4 (dk_at dksX9_isFarm_0 11 rfl rfl)
theorem dX9_isFarm_14 : decode cX9_isFarm 14 = .ok (.iconst 0, 1) := dk_3 (dk_at dksX9_isFarm_0 14 rfl rfl)
theorem dX9_isFarm_15 : decode cX9_isFarm 15 = .ok (.ireturn, 1) := dk_172 (dk_at dksX9_isFarm_0 15 rfl rfl)
def dkwX9_miles_1 : List UInt8 := [46, 100, 6, 108, 96, 172]
abbrev dktX9_miles_1 : List UInt8 := dkwX9_miles_1 ++ []
def dkwX9_miles_0 : List UInt8 := [16, 6, 42, 180, 0, 19, 27, 51, 153, 0, 7, 6, 167, 0, 4, 3, 96, 16, 9, 42, 180, 0, 16, 27]
abbrev dktX9_miles_0 : List UInt8 := dkwX9_miles_0 ++ dktX9_miles_1
theorem dksX9_miles_0 : cX9_miles.data.toList.drop 0 = dktX9_miles_0 := by decide +kernel
theorem dksX9_miles_1 : cX9_miles.data.toList.drop 24 = dktX9_miles_1 := dk_seg dksX9_miles_0 24 rfl rfl
theorem dX9_miles_0 : decode cX9_miles 0 = .ok (.bipush 6, 2) := dk_16 6 (dk_at dksX9_miles_0 0 rfl rfl)
theorem dX9_miles_2 : decode cX9_miles 2 = .ok (.aload_n 0, 1) := dk_42 (dk_at dksX9_miles_0 2 rfl rfl)
theorem dX9_miles_3 : decode cX9_miles 3 = .ok (.getfield 19, 3) := dk_180 0 19 (dk_at dksX9_miles_0 3 rfl rfl)
theorem dX9_miles_6 : decode cX9_miles 6 = .ok (.iload_n 1, 1) := dk_27 (dk_at dksX9_miles_0 6 rfl rfl)
theorem dX9_miles_7 : decode cX9_miles 7 = .ok (.baload, 1) := dk_51 (dk_at dksX9_miles_0 7 rfl rfl)
theorem dX9_miles_8 : decode cX9_miles 8 = .ok (.ifCond .eq 7, 3) := dk_153 0 7 (dk_at dksX9_miles_0 8 rfl rfl)
theorem dX9_miles_11 : decode cX9_miles 11 = .ok (.iconst 3, 1) := dk_6 (dk_at dksX9_miles_0 11 rfl rfl)
theorem dX9_miles_12 : decode cX9_miles 12 = .ok (.goto 4, 3) := dk_167 0 4 (dk_at dksX9_miles_0 12 rfl rfl)
theorem dX9_miles_15 : decode cX9_miles 15 = .ok (.iconst 0, 1) := dk_3 (dk_at dksX9_miles_0 15 rfl rfl)
theorem dX9_miles_16 : decode cX9_miles 16 = .ok (.iadd, 1) := dk_96 (dk_at dksX9_miles_0 16 rfl rfl)
theorem dX9_miles_17 : decode cX9_miles 17 = .ok (.bipush 9, 2) := dk_16 9 (dk_at dksX9_miles_0 17 rfl rfl)
theorem dX9_miles_19 : decode cX9_miles 19 = .ok (.aload_n 0, 1) := dk_42 (dk_at dksX9_miles_0 19 rfl rfl)
theorem dX9_miles_20 : decode cX9_miles 20 = .ok (.getfield 16, 3) := dk_180 0 16 (dk_at dksX9_miles_0 20 rfl rfl)
theorem dX9_miles_23 : decode cX9_miles 23 = .ok (.iload_n 1, 1) := dk_27 (dk_at dksX9_miles_0 23 rfl rfl)
theorem dX9_miles_24 : decode cX9_miles 24 = .ok (.iaload, 1) := dk_46 (dk_at dksX9_miles_1 0 rfl rfl)
theorem dX9_miles_25 : decode cX9_miles 25 = .ok (.isub, 1) := dk_100 (dk_at dksX9_miles_1 1 rfl rfl)
theorem dX9_miles_26 : decode cX9_miles 26 = .ok (.iconst 3, 1) := dk_6 (dk_at dksX9_miles_1 2 rfl rfl)
theorem dX9_miles_27 : decode cX9_miles 27 = .ok (.idiv, 1) := dk_108 (dk_at dksX9_miles_1 3 rfl rfl)
theorem dX9_miles_28 : decode cX9_miles 28 = .ok (.iadd, 1) := dk_96 (dk_at dksX9_miles_1 4 rfl rfl)
theorem dX9_miles_29 : decode cX9_miles 29 = .ok (.ireturn, 1) := dk_172 (dk_at dksX9_miles_1 5 rfl rfl)
def dkwX9_is_4 : List UInt8 := [184, 0, 104, 167, 0, 13, 29, 4, 164, 0, 7, 4, 167, 0, 4, 3, 172]
abbrev dktX9_is_4 : List UInt8 := dkwX9_is_4 ++ []
def dkwX9_is_3 : List UInt8 := [3, 167, 0, 37, 28, 4, 160, 0, 10, 29, 184, 0, 107, 167, 0, 25, 28, 5, 160, 0, 10, 29]
abbrev dktX9_is_3 : List UInt8 := dkwX9_is_3 ++ dktX9_is_4
def dkwX9_is_2 : List UInt8 := [153, 0, 5, 3, 172, 42, 27, 3, 182, 0, 88, 62, 28, 154, 0, 15, 29, 153, 0, 7, 4, 167, 0, 41]
abbrev dktX9_is_2 : List UInt8 := dkwX9_is_2 ++ dktX9_is_3
def dkwX9_is_1 : List UInt8 := [154, 0, 25, 42, 28, 155, 0, 8, 28, 6, 164, 0, 7, 4, 167, 0, 4, 3, 5, 182, 0, 84]
abbrev dktX9_is_1 : List UInt8 := dkwX9_is_1 ++ dktX9_is_2
def dkwX9_is_0 : List UInt8 := [42, 3, 181, 0, 73, 42, 42, 27, 182, 0, 80, 154, 0, 7, 4, 167, 0, 4, 3, 4, 182, 0, 84]
abbrev dktX9_is_0 : List UInt8 := dkwX9_is_0 ++ dktX9_is_1
theorem dksX9_is_0 : cX9_is.data.toList.drop 0 = dktX9_is_0 := by decide +kernel
theorem dksX9_is_1 : cX9_is.data.toList.drop 23 = dktX9_is_1 := dk_seg dksX9_is_0 23 rfl rfl
theorem dksX9_is_2 : cX9_is.data.toList.drop 45 = dktX9_is_2 := dk_seg dksX9_is_1 22 rfl rfl
theorem dksX9_is_3 : cX9_is.data.toList.drop 69 = dktX9_is_3 := dk_seg dksX9_is_2 24 rfl rfl
theorem dksX9_is_4 : cX9_is.data.toList.drop 91 = dktX9_is_4 := dk_seg dksX9_is_3 22 rfl rfl
theorem dX9_is_0 : decode cX9_is 0 = .ok (.aload_n 0, 1) := dk_42 (dk_at dksX9_is_0 0 rfl rfl)
theorem dX9_is_1 : decode cX9_is 1 = .ok (.iconst 0, 1) := dk_3 (dk_at dksX9_is_0 1 rfl rfl)
theorem dX9_is_2 : decode cX9_is 2 = .ok (.putfield 73, 3) := dk_181 0 73 (dk_at dksX9_is_0 2 rfl rfl)
theorem dX9_is_5 : decode cX9_is 5 = .ok (.aload_n 0, 1) := dk_42 (dk_at dksX9_is_0 5 rfl rfl)
theorem dX9_is_6 : decode cX9_is 6 = .ok (.aload_n 0, 1) := dk_42 (dk_at dksX9_is_0 6 rfl rfl)
theorem dX9_is_7 : decode cX9_is 7 = .ok (.iload_n 1, 1) := dk_27 (dk_at dksX9_is_0 7 rfl rfl)
theorem dX9_is_8 : decode cX9_is 8 = .ok (.invokevirtual 80, 3) := dk_182 0 80 (dk_at dksX9_is_0 8 rfl rfl)
theorem dX9_is_11 : decode cX9_is 11 = .ok (.ifCond .ne 7, 3) := dk_154 0 7 (dk_at dksX9_is_0 11 rfl rfl)
theorem dX9_is_14 : decode cX9_is 14 = .ok (.iconst 1, 1) := dk_4 (dk_at dksX9_is_0 14 rfl rfl)
theorem dX9_is_15 : decode cX9_is 15 = .ok (.goto 4, 3) := dk_167 0 4 (dk_at dksX9_is_0 15 rfl rfl)
theorem dX9_is_18 : decode cX9_is 18 = .ok (.iconst 0, 1) := dk_3 (dk_at dksX9_is_0 18 rfl rfl)
theorem dX9_is_19 : decode cX9_is 19 = .ok (.iconst 1, 1) := dk_4 (dk_at dksX9_is_0 19 rfl rfl)
theorem dX9_is_20 : decode cX9_is 20 = .ok (.invokevirtual 84, 3) := dk_182 0 84 (dk_at dksX9_is_0 20 rfl rfl)
theorem dX9_is_23 : decode cX9_is 23 = .ok (.ifCond .ne 25, 3) := dk_154 0 25 (dk_at dksX9_is_1 0 rfl rfl)
theorem dX9_is_26 : decode cX9_is 26 = .ok (.aload_n 0, 1) := dk_42 (dk_at dksX9_is_1 3 rfl rfl)
theorem dX9_is_27 : decode cX9_is 27 = .ok (.iload_n 2, 1) := dk_28 (dk_at dksX9_is_1 4 rfl rfl)
theorem dX9_is_28 : decode cX9_is 28 = .ok (.ifCond .lt 8, 3) := dk_155 0 8 (dk_at dksX9_is_1 5 rfl rfl)
theorem dX9_is_31 : decode cX9_is 31 = .ok (.iload_n 2, 1) := dk_28 (dk_at dksX9_is_1 8 rfl rfl)
theorem dX9_is_32 : decode cX9_is 32 = .ok (.iconst 3, 1) := dk_6 (dk_at dksX9_is_1 9 rfl rfl)
theorem dX9_is_33 : decode cX9_is 33 = .ok (.if_icmp .le 7, 3) := dk_164 0 7 (dk_at dksX9_is_1 10 rfl rfl)
theorem dX9_is_36 : decode cX9_is 36 = .ok (.iconst 1, 1) := dk_4 (dk_at dksX9_is_1 13 rfl rfl)
theorem dX9_is_37 : decode cX9_is 37 = .ok (.goto 4, 3) := dk_167 0 4 (dk_at dksX9_is_1 14 rfl rfl)
theorem dX9_is_40 : decode cX9_is 40 = .ok (.iconst 0, 1) := dk_3 (dk_at dksX9_is_1 17 rfl rfl)
theorem dX9_is_41 : decode cX9_is 41 = .ok (.iconst 2, 1) := dk_5 (dk_at dksX9_is_1 18 rfl rfl)
theorem dX9_is_42 : decode cX9_is 42 = .ok (.invokevirtual 84, 3) := dk_182 0 84 (dk_at dksX9_is_1 19 rfl rfl)
theorem dX9_is_45 : decode cX9_is 45 = .ok (.ifCond .eq 5, 3) := dk_153 0 5 (dk_at dksX9_is_2 0 rfl rfl)
theorem dX9_is_48 : decode cX9_is 48 = .ok (.iconst 0, 1) := dk_3 (dk_at dksX9_is_2 3 rfl rfl)
theorem dX9_is_49 : decode cX9_is 49 = .ok (.ireturn, 1) := dk_172 (dk_at dksX9_is_2 4 rfl rfl)
theorem dX9_is_50 : decode cX9_is 50 = .ok (.aload_n 0, 1) := dk_42 (dk_at dksX9_is_2 5 rfl rfl)
theorem dX9_is_51 : decode cX9_is 51 = .ok (.iload_n 1, 1) := dk_27 (dk_at dksX9_is_2 6 rfl rfl)
theorem dX9_is_52 : decode cX9_is 52 = .ok (.iconst 0, 1) := dk_3 (dk_at dksX9_is_2 7 rfl rfl)
theorem dX9_is_53 : decode cX9_is 53 = .ok (.invokevirtual 88, 3) := dk_182 0 88 (dk_at dksX9_is_2 8 rfl rfl)
theorem dX9_is_56 : decode cX9_is 56 = .ok (.istore_n 3, 1) := dk_62 (dk_at dksX9_is_2 11 rfl rfl)
theorem dX9_is_57 : decode cX9_is 57 = .ok (.iload_n 2, 1) := dk_28 (dk_at dksX9_is_2 12 rfl rfl)
theorem dX9_is_58 : decode cX9_is 58 = .ok (.ifCond .ne 15, 3) := dk_154 0 15 (dk_at dksX9_is_2 13 rfl rfl)
theorem dX9_is_61 : decode cX9_is 61 = .ok (.iload_n 3, 1) := dk_29 (dk_at dksX9_is_2 16 rfl rfl)
theorem dX9_is_62 : decode cX9_is 62 = .ok (.ifCond .eq 7, 3) := dk_153 0 7 (dk_at dksX9_is_2 17 rfl rfl)
theorem dX9_is_65 : decode cX9_is 65 = .ok (.iconst 1, 1) := dk_4 (dk_at dksX9_is_2 20 rfl rfl)
theorem dX9_is_66 : decode cX9_is 66 = .ok (.goto 41, 3) := dk_167 0 41 (dk_at dksX9_is_2 21 rfl rfl)
theorem dX9_is_69 : decode cX9_is 69 = .ok (.iconst 0, 1) := dk_3 (dk_at dksX9_is_3 0 rfl rfl)
theorem dX9_is_70 : decode cX9_is 70 = .ok (.goto 37, 3) := dk_167 0 37 (dk_at dksX9_is_3 1 rfl rfl)
theorem dX9_is_73 : decode cX9_is 73 = .ok (.iload_n 2, 1) := dk_28 (dk_at dksX9_is_3 4 rfl rfl)
theorem dX9_is_74 : decode cX9_is 74 = .ok (.iconst 1, 1) := dk_4 (dk_at dksX9_is_3 5 rfl rfl)
theorem dX9_is_75 : decode cX9_is 75 = .ok (.if_icmp .ne 10, 3) := dk_160 0 10 (dk_at dksX9_is_3 6 rfl rfl)
theorem dX9_is_78 : decode cX9_is 78 = .ok (.iload_n 3, 1) := dk_29 (dk_at dksX9_is_3 9 rfl rfl)
theorem dX9_is_79 : decode cX9_is 79 = .ok (.invokestatic 107, 3) := dk_184 0 107 (dk_at dksX9_is_3 10 rfl rfl)
theorem dX9_is_82 : decode cX9_is 82 = .ok (.goto 25, 3) := dk_167 0 25 (dk_at dksX9_is_3 13 rfl rfl)
theorem dX9_is_85 : decode cX9_is 85 = .ok (.iload_n 2, 1) := dk_28 (dk_at dksX9_is_3 16 rfl rfl)
theorem dX9_is_86 : decode cX9_is 86 = .ok (.iconst 2, 1) := dk_5 (dk_at dksX9_is_3 17 rfl rfl)
theorem dX9_is_87 : decode cX9_is 87 = .ok (.if_icmp .ne 10, 3) := dk_160 0 10 (dk_at dksX9_is_3 18 rfl rfl)
theorem dX9_is_90 : decode cX9_is 90 = .ok (.iload_n 3, 1) := dk_29 (dk_at dksX9_is_3 21 rfl rfl)
theorem dX9_is_91 : decode cX9_is 91 = .ok (.invokestatic 104, 3) := dk_184 0 104 (dk_at dksX9_is_4 0 rfl rfl)
theorem dX9_is_94 : decode cX9_is 94 = .ok (.goto 13, 3) := dk_167 0 13 (dk_at dksX9_is_4 3 rfl rfl)
theorem dX9_is_97 : decode cX9_is 97 = .ok (.iload_n 3, 1) := dk_29 (dk_at dksX9_is_4 6 rfl rfl)
theorem dX9_is_98 : decode cX9_is 98 = .ok (.iconst 1, 1) := dk_4 (dk_at dksX9_is_4 7 rfl rfl)
theorem dX9_is_99 : decode cX9_is 99 = .ok (.if_icmp .le 7, 3) := dk_164 0 7 (dk_at dksX9_is_4 8 rfl rfl)
theorem dX9_is_102 : decode cX9_is 102 = .ok (.iconst 1, 1) := dk_4 (dk_at dksX9_is_4 11 rfl rfl)
theorem dX9_is_103 : decode cX9_is 103 = .ok (.goto 4, 3) := dk_167 0 4 (dk_at dksX9_is_4 12 rfl rfl)
theorem dX9_is_106 : decode cX9_is 106 = .ok (.iconst 0, 1) := dk_3 (dk_at dksX9_is_4 15 rfl rfl)
theorem dX9_is_107 : decode cX9_is 107 = .ok (.ireturn, 1) := dk_172 (dk_at dksX9_is_4 16 rfl rfl)
def dkwX9_people_4 : List UInt8 := [167, 255, 239, 21, 4, 172]
abbrev dktX9_people_4 : List UInt8 := dkwX9_people_4 ++ []
def dkwX9_people_3 : List UInt8 := [46, 54, 4, 3, 54, 5, 21, 5, 27, 162, 0, 17, 42, 28, 29, 3, 2, 182, 0, 118, 132, 5, 1]
abbrev dktX9_people_3 : List UInt8 := dkwX9_people_3 ++ dktX9_people_4
def dkwX9_people_2 : List UInt8 := [17, 8, 76, 46, 100, 164, 0, 5, 2, 172, 27, 156, 0, 6, 16, 254, 172, 42, 180, 0, 9, 17, 8, 76]
abbrev dktX9_people_2 : List UInt8 := dkwX9_people_2 ++ dktX9_people_3
def dkwX9_people_1 : List UInt8 := [164, 0, 7, 4, 167, 0, 4, 3, 4, 182, 0, 84, 153, 0, 5, 3, 172, 27, 16, 100, 42, 180, 0, 9]
abbrev dktX9_people_1 : List UInt8 := dkwX9_people_1 ++ dktX9_people_2
def dkwX9_people_0 : List UInt8 := [42, 3, 181, 0, 73, 42, 28, 155, 0, 18, 28, 6, 163, 0, 13, 29, 155, 0, 9, 29, 18, 117]
abbrev dktX9_people_0 : List UInt8 := dkwX9_people_0 ++ dktX9_people_1
theorem dksX9_people_0 : cX9_people.data.toList.drop 0 = dktX9_people_0 := by decide +kernel
theorem dksX9_people_1 : cX9_people.data.toList.drop 22 = dktX9_people_1 := dk_seg dksX9_people_0 22 rfl rfl
theorem dksX9_people_2 : cX9_people.data.toList.drop 46 = dktX9_people_2 := dk_seg dksX9_people_1 24 rfl rfl
theorem dksX9_people_3 : cX9_people.data.toList.drop 70 = dktX9_people_3 := dk_seg dksX9_people_2 24 rfl rfl
theorem dksX9_people_4 : cX9_people.data.toList.drop 93 = dktX9_people_4 := dk_seg dksX9_people_3 23 rfl rfl
theorem dX9_people_0 : decode cX9_people 0 = .ok (.aload_n 0, 1) := dk_42 (dk_at dksX9_people_0 0 rfl rfl)
theorem dX9_people_1 : decode cX9_people 1 = .ok (.iconst 0, 1) := dk_3 (dk_at dksX9_people_0 1 rfl rfl)
theorem dX9_people_2 : decode cX9_people 2 = .ok (.putfield 73, 3) := dk_181 0 73 (dk_at dksX9_people_0 2 rfl rfl)
theorem dX9_people_5 : decode cX9_people 5 = .ok (.aload_n 0, 1) := dk_42 (dk_at dksX9_people_0 5 rfl rfl)
theorem dX9_people_6 : decode cX9_people 6 = .ok (.iload_n 2, 1) := dk_28 (dk_at dksX9_people_0 6 rfl rfl)
theorem dX9_people_7 : decode cX9_people 7 = .ok (.ifCond .lt 18, 3) := dk_155 0 18 (dk_at dksX9_people_0 7 rfl rfl)
theorem dX9_people_10 : decode cX9_people 10 = .ok (.iload_n 2, 1) := dk_28 (dk_at dksX9_people_0 10 rfl rfl)
theorem dX9_people_11 : decode cX9_people 11 = .ok (.iconst 3, 1) := dk_6 (dk_at dksX9_people_0 11 rfl rfl)
theorem dX9_people_12 : decode cX9_people 12 = .ok (.if_icmp .gt 13, 3) := dk_163 0 13 (dk_at dksX9_people_0 12 rfl rfl)
theorem dX9_people_15 : decode cX9_people 15 = .ok (.iload_n 3, 1) := dk_29 (dk_at dksX9_people_0 15 rfl rfl)
theorem dX9_people_16 : decode cX9_people 16 = .ok (.ifCond .lt 9, 3) := dk_155 0 9 (dk_at dksX9_people_0 16 rfl rfl)
theorem dX9_people_19 : decode cX9_people 19 = .ok (.iload_n 3, 1) := dk_29 (dk_at dksX9_people_0 19 rfl rfl)
theorem dX9_people_20 : decode cX9_people 20 = .ok (.ldc 117, 2) := dk_18 117 (dk_at dksX9_people_0 20 rfl rfl)
theorem dX9_people_22 : decode cX9_people 22 = .ok (.if_icmp .le 7, 3) := dk_164 0 7 (dk_at dksX9_people_1 0 rfl rfl)
theorem dX9_people_25 : decode cX9_people 25 = .ok (.iconst 1, 1) := dk_4 (dk_at dksX9_people_1 3 rfl rfl)
theorem dX9_people_26 : decode cX9_people 26 = .ok (.goto 4, 3) := dk_167 0 4 (dk_at dksX9_people_1 4 rfl rfl)
theorem dX9_people_29 : decode cX9_people 29 = .ok (.iconst 0, 1) := dk_3 (dk_at dksX9_people_1 7 rfl rfl)
theorem dX9_people_30 : decode cX9_people 30 = .ok (.iconst 1, 1) := dk_4 (dk_at dksX9_people_1 8 rfl rfl)
theorem dX9_people_31 : decode cX9_people 31 = .ok (.invokevirtual 84, 3) := dk_182 0 84 (dk_at dksX9_people_1 9 rfl rfl)
theorem dX9_people_34 : decode cX9_people 34 = .ok (.ifCond .eq 5, 3) := dk_153 0 5 (dk_at dksX9_people_1 12 rfl rfl)
theorem dX9_people_37 : decode cX9_people 37 = .ok (.iconst 0, 1) := dk_3 (dk_at dksX9_people_1 15 rfl rfl)
theorem dX9_people_38 : decode cX9_people 38 = .ok (.ireturn, 1) := dk_172 (dk_at dksX9_people_1 16 rfl rfl)
theorem dX9_people_39 : decode cX9_people 39 = .ok (.iload_n 1, 1) := dk_27 (dk_at dksX9_people_1 17 rfl rfl)
theorem dX9_people_40 : decode cX9_people 40 = .ok (.bipush 100, 2) := dk_16 100 (dk_at dksX9_people_1 18 rfl rfl)
theorem dX9_people_42 : decode cX9_people 42 = .ok (.aload_n 0, 1) := dk_42 (dk_at dksX9_people_1 20 rfl rfl)
theorem dX9_people_43 : decode cX9_people 43 = .ok (.getfield 9, 3) := dk_180 0 9 (dk_at dksX9_people_1 21 rfl rfl)
theorem dX9_people_46 : decode cX9_people 46 = .ok (.sipush 2124, 3) := dk_17 8 76 (dk_at dksX9_people_2 0 rfl rfl)
theorem dX9_people_49 : decode cX9_people 49 = .ok (.iaload, 1) := dk_46 (dk_at dksX9_people_2 3 rfl rfl)
theorem dX9_people_50 : decode cX9_people 50 = .ok (.isub, 1) := dk_100 (dk_at dksX9_people_2 4 rfl rfl)
theorem dX9_people_51 : decode cX9_people 51 = .ok (.if_icmp .le 5, 3) := dk_164 0 5 (dk_at dksX9_people_2 5 rfl rfl)
theorem dX9_people_54 : decode cX9_people 54 = .ok (.iconst (-1), 1) := dk_2 (dk_at dksX9_people_2 8 rfl rfl)
theorem dX9_people_55 : decode cX9_people 55 = .ok (.ireturn, 1) := dk_172 (dk_at dksX9_people_2 9 rfl rfl)
theorem dX9_people_56 : decode cX9_people 56 = .ok (.iload_n 1, 1) := dk_27 (dk_at dksX9_people_2 10 rfl rfl)
theorem dX9_people_57 : decode cX9_people 57 = .ok (.ifCond .ge 6, 3) := dk_156 0 6 (dk_at dksX9_people_2 11 rfl rfl)
theorem dX9_people_60 : decode cX9_people 60 = .ok (.bipush (-2), 2) := dk_16 254 (dk_at dksX9_people_2 14 rfl rfl)
theorem dX9_people_62 : decode cX9_people 62 = .ok (.ireturn, 1) := dk_172 (dk_at dksX9_people_2 16 rfl rfl)
theorem dX9_people_63 : decode cX9_people 63 = .ok (.aload_n 0, 1) := dk_42 (dk_at dksX9_people_2 17 rfl rfl)
theorem dX9_people_64 : decode cX9_people 64 = .ok (.getfield 9, 3) := dk_180 0 9 (dk_at dksX9_people_2 18 rfl rfl)
theorem dX9_people_67 : decode cX9_people 67 = .ok (.sipush 2124, 3) := dk_17 8 76 (dk_at dksX9_people_2 21 rfl rfl)
theorem dX9_people_70 : decode cX9_people 70 = .ok (.iaload, 1) := dk_46 (dk_at dksX9_people_3 0 rfl rfl)
theorem dX9_people_71 : decode cX9_people 71 = .ok (.istore 4, 2) := dk_54 4 (dk_at dksX9_people_3 1 rfl rfl)
theorem dX9_people_73 : decode cX9_people 73 = .ok (.iconst 0, 1) := dk_3 (dk_at dksX9_people_3 3 rfl rfl)
theorem dX9_people_74 : decode cX9_people 74 = .ok (.istore 5, 2) := dk_54 5 (dk_at dksX9_people_3 4 rfl rfl)
theorem dX9_people_76 : decode cX9_people 76 = .ok (.iload 5, 2) := dk_21 5 (dk_at dksX9_people_3 6 rfl rfl)
theorem dX9_people_78 : decode cX9_people 78 = .ok (.iload_n 1, 1) := dk_27 (dk_at dksX9_people_3 8 rfl rfl)
theorem dX9_people_79 : decode cX9_people 79 = .ok (.if_icmp .ge 17, 3) := dk_162 0 17 (dk_at dksX9_people_3 9 rfl rfl)
theorem dX9_people_82 : decode cX9_people 82 = .ok (.aload_n 0, 1) := dk_42 (dk_at dksX9_people_3 12 rfl rfl)
theorem dX9_people_83 : decode cX9_people 83 = .ok (.iload_n 2, 1) := dk_28 (dk_at dksX9_people_3 13 rfl rfl)
theorem dX9_people_84 : decode cX9_people 84 = .ok (.iload_n 3, 1) := dk_29 (dk_at dksX9_people_3 14 rfl rfl)
theorem dX9_people_85 : decode cX9_people 85 = .ok (.iconst 0, 1) := dk_3 (dk_at dksX9_people_3 15 rfl rfl)
theorem dX9_people_86 : decode cX9_people 86 = .ok (.iconst (-1), 1) := dk_2 (dk_at dksX9_people_3 16 rfl rfl)
theorem dX9_people_87 : decode cX9_people 87 = .ok (.invokevirtual 118, 3) := dk_182 0 118 (dk_at dksX9_people_3 17 rfl rfl)
theorem dX9_people_90 : decode cX9_people 90 = .ok (.iinc 5 1, 3) := dk_132 5 1 (dk_at dksX9_people_3 20 rfl rfl)
theorem dX9_people_93 : decode cX9_people 93 = .ok (.goto (-17), 3) := dk_167 255 239 (dk_at dksX9_people_4 0 rfl rfl)
theorem dX9_people_96 : decode cX9_people 96 = .ok (.iload 4, 2) := dk_21 4 (dk_at dksX9_people_4 3 rfl rfl)
theorem dX9_people_98 : decode cX9_people 98 = .ok (.ireturn, 1) := dk_172 (dk_at dksX9_people_4 5 rfl rfl)
def dkwX9_adds_3 : List UInt8 := [180, 0, 9, 17, 8, 76, 92, 46, 4, 96, 79, 177]
abbrev dktX9_adds_3 : List UInt8 := dkwX9_adds_3 ++ []
def dkwX9_adds_2 : List UInt8 := [182, 0, 113, 42, 21, 5, 8, 21, 4, 182, 0, 113, 42, 21, 5, 16, 6, 2, 182, 0, 113, 42]
abbrev dktX9_adds_2 : List UInt8 := dkwX9_adds_2 ++ dktX9_adds_3
def dkwX9_adds_1 : List UInt8 := [182, 0, 113, 42, 21, 5, 5, 29, 182, 0, 113, 42, 21, 5, 6, 2, 182, 0, 113, 42, 21, 5, 7, 3]
abbrev dktX9_adds_1 : List UInt8 := dkwX9_adds_1 ++ dktX9_adds_2
def dkwX9_adds_0 : List UInt8 := [42, 180, 0, 9, 17, 8, 76, 46, 54, 5, 42, 21, 5, 3, 27, 182, 0, 113, 42, 21, 5, 4, 28]
abbrev dktX9_adds_0 : List UInt8 := dkwX9_adds_0 ++ dktX9_adds_1
theorem dksX9_adds_0 : cX9_adds.data.toList.drop 0 = dktX9_adds_0 := by decide +kernel
theorem dksX9_adds_1 : cX9_adds.data.toList.drop 23 = dktX9_adds_1 := dk_seg dksX9_adds_0 23 rfl rfl
theorem dksX9_adds_2 : cX9_adds.data.toList.drop 47 = dktX9_adds_2 := dk_seg dksX9_adds_1 24 rfl rfl
theorem dksX9_adds_3 : cX9_adds.data.toList.drop 69 = dktX9_adds_3 := dk_seg dksX9_adds_2 22 rfl rfl
theorem dX9_adds_0 : decode cX9_adds 0 = .ok (.aload_n 0, 1) := dk_42 (dk_at dksX9_adds_0 0 rfl rfl)
theorem dX9_adds_1 : decode cX9_adds 1 = .ok (.getfield 9, 3) := dk_180 0 9 (dk_at dksX9_adds_0 1 rfl rfl)
theorem dX9_adds_4 : decode cX9_adds 4 = .ok (.sipush 2124, 3) := dk_17 8 76 (dk_at dksX9_adds_0 4 rfl rfl)
theorem dX9_adds_7 : decode cX9_adds 7 = .ok (.iaload, 1) := dk_46 (dk_at dksX9_adds_0 7 rfl rfl)
theorem dX9_adds_8 : decode cX9_adds 8 = .ok (.istore 5, 2) := dk_54 5 (dk_at dksX9_adds_0 8 rfl rfl)
theorem dX9_adds_10 : decode cX9_adds 10 = .ok (.aload_n 0, 1) := dk_42 (dk_at dksX9_adds_0 10 rfl rfl)
theorem dX9_adds_11 : decode cX9_adds 11 = .ok (.iload 5, 2) := dk_21 5 (dk_at dksX9_adds_0 11 rfl rfl)
theorem dX9_adds_13 : decode cX9_adds 13 = .ok (.iconst 0, 1) := dk_3 (dk_at dksX9_adds_0 13 rfl rfl)
theorem dX9_adds_14 : decode cX9_adds 14 = .ok (.iload_n 1, 1) := dk_27 (dk_at dksX9_adds_0 14 rfl rfl)
theorem dX9_adds_15 : decode cX9_adds 15 = .ok (.invokevirtual 113, 3) := dk_182 0 113 (dk_at dksX9_adds_0 15 rfl rfl)
theorem dX9_adds_18 : decode cX9_adds 18 = .ok (.aload_n 0, 1) := dk_42 (dk_at dksX9_adds_0 18 rfl rfl)
theorem dX9_adds_19 : decode cX9_adds 19 = .ok (.iload 5, 2) := dk_21 5 (dk_at dksX9_adds_0 19 rfl rfl)
theorem dX9_adds_21 : decode cX9_adds 21 = .ok (.iconst 1, 1) := dk_4 (dk_at dksX9_adds_0 21 rfl rfl)
theorem dX9_adds_22 : decode cX9_adds 22 = .ok (.iload_n 2, 1) := dk_28 (dk_at dksX9_adds_0 22 rfl rfl)
theorem dX9_adds_23 : decode cX9_adds 23 = .ok (.invokevirtual 113, 3) := dk_182 0 113 (dk_at dksX9_adds_1 0 rfl rfl)
theorem dX9_adds_26 : decode cX9_adds 26 = .ok (.aload_n 0, 1) := dk_42 (dk_at dksX9_adds_1 3 rfl rfl)
theorem dX9_adds_27 : decode cX9_adds 27 = .ok (.iload 5, 2) := dk_21 5 (dk_at dksX9_adds_1 4 rfl rfl)
theorem dX9_adds_29 : decode cX9_adds 29 = .ok (.iconst 2, 1) := dk_5 (dk_at dksX9_adds_1 6 rfl rfl)
theorem dX9_adds_30 : decode cX9_adds 30 = .ok (.iload_n 3, 1) := dk_29 (dk_at dksX9_adds_1 7 rfl rfl)
theorem dX9_adds_31 : decode cX9_adds 31 = .ok (.invokevirtual 113, 3) := dk_182 0 113 (dk_at dksX9_adds_1 8 rfl rfl)
theorem dX9_adds_34 : decode cX9_adds 34 = .ok (.aload_n 0, 1) := dk_42 (dk_at dksX9_adds_1 11 rfl rfl)
theorem dX9_adds_35 : decode cX9_adds 35 = .ok (.iload 5, 2) := dk_21 5 (dk_at dksX9_adds_1 12 rfl rfl)
theorem dX9_adds_37 : decode cX9_adds 37 = .ok (.iconst 3, 1) := dk_6 (dk_at dksX9_adds_1 14 rfl rfl)
theorem dX9_adds_38 : decode cX9_adds 38 = .ok (.iconst (-1), 1) := dk_2 (dk_at dksX9_adds_1 15 rfl rfl)
theorem dX9_adds_39 : decode cX9_adds 39 = .ok (.invokevirtual 113, 3) := dk_182 0 113 (dk_at dksX9_adds_1 16 rfl rfl)
theorem dX9_adds_42 : decode cX9_adds 42 = .ok (.aload_n 0, 1) := dk_42 (dk_at dksX9_adds_1 19 rfl rfl)
theorem dX9_adds_43 : decode cX9_adds 43 = .ok (.iload 5, 2) := dk_21 5 (dk_at dksX9_adds_1 20 rfl rfl)
theorem dX9_adds_45 : decode cX9_adds 45 = .ok (.iconst 4, 1) := dk_7 (dk_at dksX9_adds_1 22 rfl rfl)
theorem dX9_adds_46 : decode cX9_adds 46 = .ok (.iconst 0, 1) := dk_3 (dk_at dksX9_adds_1 23 rfl rfl)
theorem dX9_adds_47 : decode cX9_adds 47 = .ok (.invokevirtual 113, 3) := dk_182 0 113 (dk_at dksX9_adds_2 0 rfl rfl)
theorem dX9_adds_50 : decode cX9_adds 50 = .ok (.aload_n 0, 1) := dk_42 (dk_at dksX9_adds_2 3 rfl rfl)
theorem dX9_adds_51 : decode cX9_adds 51 = .ok (.iload 5, 2) := dk_21 5 (dk_at dksX9_adds_2 4 rfl rfl)
theorem dX9_adds_53 : decode cX9_adds 53 = .ok (.iconst 5, 1) := dk_8 (dk_at dksX9_adds_2 6 rfl rfl)
theorem dX9_adds_54 : decode cX9_adds 54 = .ok (.iload 4, 2) := dk_21 4 (dk_at dksX9_adds_2 7 rfl rfl)
theorem dX9_adds_56 : decode cX9_adds 56 = .ok (.invokevirtual 113, 3) := dk_182 0 113 (dk_at dksX9_adds_2 9 rfl rfl)
theorem dX9_adds_59 : decode cX9_adds 59 = .ok (.aload_n 0, 1) := dk_42 (dk_at dksX9_adds_2 12 rfl rfl)
theorem dX9_adds_60 : decode cX9_adds 60 = .ok (.iload 5, 2) := dk_21 5 (dk_at dksX9_adds_2 13 rfl rfl)
theorem dX9_adds_62 : decode cX9_adds 62 = .ok (.bipush 6, 2) := dk_16 6 (dk_at dksX9_adds_2 15 rfl rfl)
theorem dX9_adds_64 : decode cX9_adds 64 = .ok (.iconst (-1), 1) := dk_2 (dk_at dksX9_adds_2 17 rfl rfl)
theorem dX9_adds_65 : decode cX9_adds 65 = .ok (.invokevirtual 113, 3) := dk_182 0 113 (dk_at dksX9_adds_2 18 rfl rfl)
theorem dX9_adds_68 : decode cX9_adds 68 = .ok (.aload_n 0, 1) := dk_42 (dk_at dksX9_adds_2 21 rfl rfl)
theorem dX9_adds_69 : decode cX9_adds 69 = .ok (.getfield 9, 3) := dk_180 0 9 (dk_at dksX9_adds_3 0 rfl rfl)
theorem dX9_adds_72 : decode cX9_adds 72 = .ok (.sipush 2124, 3) := dk_17 8 76 (dk_at dksX9_adds_3 3 rfl rfl)
theorem dX9_adds_75 : decode cX9_adds 75 = .ok (.dup2, 1) := dk_92 (dk_at dksX9_adds_3 6 rfl rfl)
theorem dX9_adds_76 : decode cX9_adds 76 = .ok (.iaload, 1) := dk_46 (dk_at dksX9_adds_3 7 rfl rfl)
theorem dX9_adds_77 : decode cX9_adds 77 = .ok (.iconst 1, 1) := dk_4 (dk_at dksX9_adds_3 8 rfl rfl)
theorem dX9_adds_78 : decode cX9_adds 78 = .ok (.iadd, 1) := dk_96 (dk_at dksX9_adds_3 9 rfl rfl)
theorem dX9_adds_79 : decode cX9_adds 79 = .ok (.iastore, 1) := dk_79 (dk_at dksX9_adds_3 10 rfl rfl)
theorem dX9_adds_80 : decode cX9_adds 80 = .ok (.return_, 1) := dk_177 (dk_at dksX9_adds_3 11 rfl rfl)
def dkwX9_setPer_0 : List UInt8 := [42, 180, 0, 9, 17, 3, 0, 16, 8, 27, 104, 96, 28, 96, 29, 79, 177]
abbrev dktX9_setPer_0 : List UInt8 := dkwX9_setPer_0 ++ []
theorem dksX9_setPer_0 : cX9_setPer.data.toList.drop 0 = dktX9_setPer_0 := by decide +kernel
theorem dX9_setPer_0 : decode cX9_setPer 0 = .ok (.aload_n 0, 1) := dk_42 (dk_at dksX9_setPer_0 0 rfl rfl)
theorem dX9_setPer_1 : decode cX9_setPer 1 = .ok (.getfield 9, 3) := dk_180 0 9 (dk_at dksX9_setPer_0 1 rfl rfl)
theorem dX9_setPer_4 : decode cX9_setPer 4 = .ok (.sipush 768, 3) := dk_17 3 0 (dk_at dksX9_setPer_0 4 rfl rfl)
theorem dX9_setPer_7 : decode cX9_setPer 7 = .ok (.bipush 8, 2) := dk_16 8 (dk_at dksX9_setPer_0 7 rfl rfl)
theorem dX9_setPer_9 : decode cX9_setPer 9 = .ok (.iload_n 1, 1) := dk_27 (dk_at dksX9_setPer_0 9 rfl rfl)
theorem dX9_setPer_10 : decode cX9_setPer 10 = .ok (.imul, 1) := dk_104 (dk_at dksX9_setPer_0 10 rfl rfl)
theorem dX9_setPer_11 : decode cX9_setPer 11 = .ok (.iadd, 1) := dk_96 (dk_at dksX9_setPer_0 11 rfl rfl)
theorem dX9_setPer_12 : decode cX9_setPer 12 = .ok (.iload_n 2, 1) := dk_28 (dk_at dksX9_setPer_0 12 rfl rfl)
theorem dX9_setPer_13 : decode cX9_setPer 13 = .ok (.iadd, 1) := dk_96 (dk_at dksX9_setPer_0 13 rfl rfl)
theorem dX9_setPer_14 : decode cX9_setPer 14 = .ok (.iload_n 3, 1) := dk_29 (dk_at dksX9_setPer_0 14 rfl rfl)
theorem dX9_setPer_15 : decode cX9_setPer 15 = .ok (.iastore, 1) := dk_79 (dk_at dksX9_setPer_0 15 rfl rfl)
theorem dX9_setPer_16 : decode cX9_setPer 16 = .ok (.return_, 1) := dk_177 (dk_at dksX9_setPer_0 16 rfl rfl)
def dkwX9_person_7 : List UInt8 := [182, 0, 76, 172]
abbrev dktX9_person_7 : List UInt8 := dkwX9_person_7 ++ []
def dkwX9_person_6 : List UInt8 := [42, 27, 182, 0, 131, 172, 42, 27, 16, 6, 182, 0, 76, 172, 42, 27, 7, 182, 0, 76, 172, 42, 27, 8]
abbrev dktX9_person_6 : List UInt8 := dkwX9_person_6 ++ dktX9_person_7
def dkwX9_person_5 : List UInt8 := [182, 0, 76, 6, 160, 0, 12, 42, 27, 6, 182, 0, 76, 167, 0, 4, 2, 172, 42, 27, 182, 0, 128, 172]
abbrev dktX9_person_5 : List UInt8 := dkwX9_person_5 ++ dktX9_person_6
def dkwX9_person_4 : List UInt8 := [42, 27, 3, 182, 0, 76, 172, 42, 27, 4, 182, 0, 76, 172, 42, 27, 5, 182, 0, 76, 172, 42, 27, 5]
abbrev dktX9_person_4 : List UInt8 := dkwX9_person_4 ++ dktX9_person_5
def dkwX9_person_3 : List UInt8 := [170, 0, 0, 0, 0, 0, 0, 117, 0, 0, 0, 0, 0, 0, 0, 7, 0, 0, 0, 48, 0, 0, 0, 55, 0, 0, 0, 62, 0, 0, 0, 69, 0, 0, 0, 90, 0, 0, 0, 96, 0, 0, 0, 102, 0, 0, 0, 110]
abbrev dktX9_person_3 : List UInt8 := dkwX9_person_3 ++ dktX9_person_4
def dkwX9_person_2 : List UInt8 := [153, 0, 5, 3, 172, 28]
abbrev dktX9_person_2 : List UInt8 := dkwX9_person_2 ++ dktX9_person_3
def dkwX9_person_1 : List UInt8 := [154, 0, 26, 42, 28, 155, 0, 9, 28, 16, 8, 164, 0, 7, 4, 167, 0, 4, 3, 5, 182, 0, 84]
abbrev dktX9_person_1 : List UInt8 := dkwX9_person_1 ++ dktX9_person_2
def dkwX9_person_0 : List UInt8 := [42, 3, 181, 0, 73, 42, 42, 27, 182, 0, 125, 154, 0, 7, 4, 167, 0, 4, 3, 4, 182, 0, 84]
abbrev dktX9_person_0 : List UInt8 := dkwX9_person_0 ++ dktX9_person_1
theorem dksX9_person_0 : cX9_person.data.toList.drop 0 = dktX9_person_0 := by decide +kernel
theorem dksX9_person_1 : cX9_person.data.toList.drop 23 = dktX9_person_1 := dk_seg dksX9_person_0 23 rfl rfl
theorem dksX9_person_2 : cX9_person.data.toList.drop 46 = dktX9_person_2 := dk_seg dksX9_person_1 23 rfl rfl
theorem dksX9_person_3 : cX9_person.data.toList.drop 52 = dktX9_person_3 := dk_seg dksX9_person_2 6 rfl rfl
theorem dksX9_person_4 : cX9_person.data.toList.drop 100 = dktX9_person_4 := dk_seg dksX9_person_3 48 rfl rfl
theorem dksX9_person_5 : cX9_person.data.toList.drop 124 = dktX9_person_5 := dk_seg dksX9_person_4 24 rfl rfl
theorem dksX9_person_6 : cX9_person.data.toList.drop 148 = dktX9_person_6 := dk_seg dksX9_person_5 24 rfl rfl
theorem dksX9_person_7 : cX9_person.data.toList.drop 172 = dktX9_person_7 := dk_seg dksX9_person_6 24 rfl rfl
theorem dX9_person_0 : decode cX9_person 0 = .ok (.aload_n 0, 1) := dk_42 (dk_at dksX9_person_0 0 rfl rfl)
theorem dX9_person_1 : decode cX9_person 1 = .ok (.iconst 0, 1) := dk_3 (dk_at dksX9_person_0 1 rfl rfl)
theorem dX9_person_2 : decode cX9_person 2 = .ok (.putfield 73, 3) := dk_181 0 73 (dk_at dksX9_person_0 2 rfl rfl)
theorem dX9_person_5 : decode cX9_person 5 = .ok (.aload_n 0, 1) := dk_42 (dk_at dksX9_person_0 5 rfl rfl)
theorem dX9_person_6 : decode cX9_person 6 = .ok (.aload_n 0, 1) := dk_42 (dk_at dksX9_person_0 6 rfl rfl)
theorem dX9_person_7 : decode cX9_person 7 = .ok (.iload_n 1, 1) := dk_27 (dk_at dksX9_person_0 7 rfl rfl)
theorem dX9_person_8 : decode cX9_person 8 = .ok (.invokevirtual 125, 3) := dk_182 0 125 (dk_at dksX9_person_0 8 rfl rfl)
theorem dX9_person_11 : decode cX9_person 11 = .ok (.ifCond .ne 7, 3) := dk_154 0 7 (dk_at dksX9_person_0 11 rfl rfl)
theorem dX9_person_14 : decode cX9_person 14 = .ok (.iconst 1, 1) := dk_4 (dk_at dksX9_person_0 14 rfl rfl)
theorem dX9_person_15 : decode cX9_person 15 = .ok (.goto 4, 3) := dk_167 0 4 (dk_at dksX9_person_0 15 rfl rfl)
theorem dX9_person_18 : decode cX9_person 18 = .ok (.iconst 0, 1) := dk_3 (dk_at dksX9_person_0 18 rfl rfl)
theorem dX9_person_19 : decode cX9_person 19 = .ok (.iconst 1, 1) := dk_4 (dk_at dksX9_person_0 19 rfl rfl)
theorem dX9_person_20 : decode cX9_person 20 = .ok (.invokevirtual 84, 3) := dk_182 0 84 (dk_at dksX9_person_0 20 rfl rfl)
theorem dX9_person_23 : decode cX9_person 23 = .ok (.ifCond .ne 26, 3) := dk_154 0 26 (dk_at dksX9_person_1 0 rfl rfl)
theorem dX9_person_26 : decode cX9_person 26 = .ok (.aload_n 0, 1) := dk_42 (dk_at dksX9_person_1 3 rfl rfl)
theorem dX9_person_27 : decode cX9_person 27 = .ok (.iload_n 2, 1) := dk_28 (dk_at dksX9_person_1 4 rfl rfl)
theorem dX9_person_28 : decode cX9_person 28 = .ok (.ifCond .lt 9, 3) := dk_155 0 9 (dk_at dksX9_person_1 5 rfl rfl)
theorem dX9_person_31 : decode cX9_person 31 = .ok (.iload_n 2, 1) := dk_28 (dk_at dksX9_person_1 8 rfl rfl)
theorem dX9_person_32 : decode cX9_person 32 = .ok (.bipush 8, 2) := dk_16 8 (dk_at dksX9_person_1 9 rfl rfl)
theorem dX9_person_34 : decode cX9_person 34 = .ok (.if_icmp .le 7, 3) := dk_164 0 7 (dk_at dksX9_person_1 11 rfl rfl)
theorem dX9_person_37 : decode cX9_person 37 = .ok (.iconst 1, 1) := dk_4 (dk_at dksX9_person_1 14 rfl rfl)
theorem dX9_person_38 : decode cX9_person 38 = .ok (.goto 4, 3) := dk_167 0 4 (dk_at dksX9_person_1 15 rfl rfl)
theorem dX9_person_41 : decode cX9_person 41 = .ok (.iconst 0, 1) := dk_3 (dk_at dksX9_person_1 18 rfl rfl)
theorem dX9_person_42 : decode cX9_person 42 = .ok (.iconst 2, 1) := dk_5 (dk_at dksX9_person_1 19 rfl rfl)
theorem dX9_person_43 : decode cX9_person 43 = .ok (.invokevirtual 84, 3) := dk_182 0 84 (dk_at dksX9_person_1 20 rfl rfl)
theorem dX9_person_46 : decode cX9_person 46 = .ok (.ifCond .eq 5, 3) := dk_153 0 5 (dk_at dksX9_person_2 0 rfl rfl)
theorem dX9_person_49 : decode cX9_person 49 = .ok (.iconst 0, 1) := dk_3 (dk_at dksX9_person_2 3 rfl rfl)
theorem dX9_person_50 : decode cX9_person 50 = .ok (.ireturn, 1) := dk_172 (dk_at dksX9_person_2 4 rfl rfl)
theorem dX9_person_51 : decode cX9_person 51 = .ok (.iload_n 2, 1) := dk_28 (dk_at dksX9_person_2 5 rfl rfl)
theorem dX9_person_52 : decode cX9_person 52 = .ok (.tableswitch 117 0 7 #[48, 55, 62, 69, 90, 96, 102, 110], 48) := by decide +kernel
theorem dX9_person_100 : decode cX9_person 100 = .ok (.aload_n 0, 1) := dk_42 (dk_at dksX9_person_4 0 rfl rfl)
theorem dX9_person_101 : decode cX9_person 101 = .ok (.iload_n 1, 1) := dk_27 (dk_at dksX9_person_4 1 rfl rfl)
theorem dX9_person_102 : decode cX9_person 102 = .ok (.iconst 0, 1) := dk_3 (dk_at dksX9_person_4 2 rfl rfl)
theorem dX9_person_103 : decode cX9_person 103 = .ok (.invokevirtual 76, 3) := dk_182 0 76 (dk_at dksX9_person_4 3 rfl rfl)
theorem dX9_person_106 : decode cX9_person 106 = .ok (.ireturn, 1) := dk_172 (dk_at dksX9_person_4 6 rfl rfl)
theorem dX9_person_107 : decode cX9_person 107 = .ok (.aload_n 0, 1) := dk_42 (dk_at dksX9_person_4 7 rfl rfl)
theorem dX9_person_108 : decode cX9_person 108 = .ok (.iload_n 1, 1) := dk_27 (dk_at dksX9_person_4 8 rfl rfl)
theorem dX9_person_109 : decode cX9_person 109 = .ok (.iconst 1, 1) := dk_4 (dk_at dksX9_person_4 9 rfl rfl)
theorem dX9_person_110 : decode cX9_person 110 = .ok (.invokevirtual 76, 3) := dk_182 0 76 (dk_at dksX9_person_4 10 rfl rfl)
theorem dX9_person_113 : decode cX9_person 113 = .ok (.ireturn, 1) := dk_172 (dk_at dksX9_person_4 13 rfl rfl)
theorem dX9_person_114 : decode cX9_person 114 = .ok (.aload_n 0, 1) := dk_42 (dk_at dksX9_person_4 14 rfl rfl)
theorem dX9_person_115 : decode cX9_person 115 = .ok (.iload_n 1, 1) := dk_27 (dk_at dksX9_person_4 15 rfl rfl)
theorem dX9_person_116 : decode cX9_person 116 = .ok (.iconst 2, 1) := dk_5 (dk_at dksX9_person_4 16 rfl rfl)
theorem dX9_person_117 : decode cX9_person 117 = .ok (.invokevirtual 76, 3) := dk_182 0 76 (dk_at dksX9_person_4 17 rfl rfl)
theorem dX9_person_120 : decode cX9_person 120 = .ok (.ireturn, 1) := dk_172 (dk_at dksX9_person_4 20 rfl rfl)
theorem dX9_person_121 : decode cX9_person 121 = .ok (.aload_n 0, 1) := dk_42 (dk_at dksX9_person_4 21 rfl rfl)
theorem dX9_person_122 : decode cX9_person 122 = .ok (.iload_n 1, 1) := dk_27 (dk_at dksX9_person_4 22 rfl rfl)
theorem dX9_person_123 : decode cX9_person 123 = .ok (.iconst 2, 1) := dk_5 (dk_at dksX9_person_4 23 rfl rfl)
theorem dX9_person_124 : decode cX9_person 124 = .ok (.invokevirtual 76, 3) := dk_182 0 76 (dk_at dksX9_person_5 0 rfl rfl)
theorem dX9_person_127 : decode cX9_person 127 = .ok (.iconst 3, 1) := dk_6 (dk_at dksX9_person_5 3 rfl rfl)
theorem dX9_person_128 : decode cX9_person 128 = .ok (.if_icmp .ne 12, 3) := dk_160 0 12 (dk_at dksX9_person_5 4 rfl rfl)
theorem dX9_person_131 : decode cX9_person 131 = .ok (.aload_n 0, 1) := dk_42 (dk_at dksX9_person_5 7 rfl rfl)
theorem dX9_person_132 : decode cX9_person 132 = .ok (.iload_n 1, 1) := dk_27 (dk_at dksX9_person_5 8 rfl rfl)
theorem dX9_person_133 : decode cX9_person 133 = .ok (.iconst 3, 1) := dk_6 (dk_at dksX9_person_5 9 rfl rfl)
theorem dX9_person_134 : decode cX9_person 134 = .ok (.invokevirtual 76, 3) := dk_182 0 76 (dk_at dksX9_person_5 10 rfl rfl)
theorem dX9_person_137 : decode cX9_person 137 = .ok (.goto 4, 3) := dk_167 0 4 (dk_at dksX9_person_5 13 rfl rfl)
theorem dX9_person_140 : decode cX9_person 140 = .ok (.iconst (-1), 1) := dk_2 (dk_at dksX9_person_5 16 rfl rfl)
theorem dX9_person_141 : decode cX9_person 141 = .ok (.ireturn, 1) := dk_172 (dk_at dksX9_person_5 17 rfl rfl)
theorem dX9_person_142 : decode cX9_person 142 = .ok (.aload_n 0, 1) := dk_42 (dk_at dksX9_person_5 18 rfl rfl)
theorem dX9_person_143 : decode cX9_person 143 = .ok (.iload_n 1, 1) := dk_27 (dk_at dksX9_person_5 19 rfl rfl)
theorem dX9_person_144 : decode cX9_person 144 = .ok (.invokevirtual 128, 3) := dk_182 0 128 (dk_at dksX9_person_5 20 rfl rfl)
theorem dX9_person_147 : decode cX9_person 147 = .ok (.ireturn, 1) := dk_172 (dk_at dksX9_person_5 23 rfl rfl)
theorem dX9_person_148 : decode cX9_person 148 = .ok (.aload_n 0, 1) := dk_42 (dk_at dksX9_person_6 0 rfl rfl)
theorem dX9_person_149 : decode cX9_person 149 = .ok (.iload_n 1, 1) := dk_27 (dk_at dksX9_person_6 1 rfl rfl)
theorem dX9_person_150 : decode cX9_person 150 = .ok (.invokevirtual 131, 3) := dk_182 0 131 (dk_at dksX9_person_6 2 rfl rfl)
theorem dX9_person_153 : decode cX9_person 153 = .ok (.ireturn, 1) := dk_172 (dk_at dksX9_person_6 5 rfl rfl)
theorem dX9_person_154 : decode cX9_person 154 = .ok (.aload_n 0, 1) := dk_42 (dk_at dksX9_person_6 6 rfl rfl)
theorem dX9_person_155 : decode cX9_person 155 = .ok (.iload_n 1, 1) := dk_27 (dk_at dksX9_person_6 7 rfl rfl)
theorem dX9_person_156 : decode cX9_person 156 = .ok (.bipush 6, 2) := dk_16 6 (dk_at dksX9_person_6 8 rfl rfl)
theorem dX9_person_158 : decode cX9_person 158 = .ok (.invokevirtual 76, 3) := dk_182 0 76 (dk_at dksX9_person_6 10 rfl rfl)
theorem dX9_person_161 : decode cX9_person 161 = .ok (.ireturn, 1) := dk_172 (dk_at dksX9_person_6 13 rfl rfl)
theorem dX9_person_162 : decode cX9_person 162 = .ok (.aload_n 0, 1) := dk_42 (dk_at dksX9_person_6 14 rfl rfl)
theorem dX9_person_163 : decode cX9_person 163 = .ok (.iload_n 1, 1) := dk_27 (dk_at dksX9_person_6 15 rfl rfl)
theorem dX9_person_164 : decode cX9_person 164 = .ok (.iconst 4, 1) := dk_7 (dk_at dksX9_person_6 16 rfl rfl)
theorem dX9_person_165 : decode cX9_person 165 = .ok (.invokevirtual 76, 3) := dk_182 0 76 (dk_at dksX9_person_6 17 rfl rfl)
theorem dX9_person_168 : decode cX9_person 168 = .ok (.ireturn, 1) := dk_172 (dk_at dksX9_person_6 20 rfl rfl)
theorem dX9_person_169 : decode cX9_person 169 = .ok (.aload_n 0, 1) := dk_42 (dk_at dksX9_person_6 21 rfl rfl)
theorem dX9_person_170 : decode cX9_person 170 = .ok (.iload_n 1, 1) := dk_27 (dk_at dksX9_person_6 22 rfl rfl)
theorem dX9_person_171 : decode cX9_person 171 = .ok (.iconst 5, 1) := dk_8 (dk_at dksX9_person_6 23 rfl rfl)
theorem dX9_person_172 : decode cX9_person 172 = .ok (.invokevirtual 76, 3) := dk_182 0 76 (dk_at dksX9_person_7 0 rfl rfl)
theorem dX9_person_175 : decode cX9_person 175 = .ok (.ireturn, 1) := dk_172 (dk_at dksX9_person_7 3 rfl rfl)
def dkwX9_isPerson_0 : List UInt8 := [27, 155, 0, 19, 27, 42, 180, 0, 9, 17, 8, 76, 46, 162, 0, 7, 4, 167, 0, 4, 3, 172]
abbrev dktX9_isPerson_0 : List UInt8 := dkwX9_isPerson_0 ++ []
theorem dksX9_isPerson_0 : cX9_isPerson.data.toList.drop 0 = dktX9_isPerson_0 := by decide +kernel
theorem dX9_isPerson_0 : decode cX9_isPerson 0 = .ok (.iload_n 1, 1) := dk_27 (dk_at dksX9_isPerson_0 0 rfl rfl)
theorem dX9_isPerson_1 : decode cX9_isPerson 1 = .ok (.ifCond .lt 19, 3) := dk_155 0 19 (dk_at dksX9_isPerson_0 1 rfl rfl)
theorem dX9_isPerson_4 : decode cX9_isPerson 4 = .ok (.iload_n 1, 1) := dk_27 (dk_at dksX9_isPerson_0 4 rfl rfl)
theorem dX9_isPerson_5 : decode cX9_isPerson 5 = .ok (.aload_n 0, 1) := dk_42 (dk_at dksX9_isPerson_0 5 rfl rfl)
theorem dX9_isPerson_6 : decode cX9_isPerson 6 = .ok (.getfield 9, 3) := dk_180 0 9 (dk_at dksX9_isPerson_0 6 rfl rfl)
theorem dX9_isPerson_9 : decode cX9_isPerson 9 = .ok (.sipush 2124, 3) := dk_17 8 76 (dk_at dksX9_isPerson_0 9 rfl rfl)
theorem dX9_isPerson_12 : decode cX9_isPerson 12 = .ok (.iaload, 1) := dk_46 (dk_at dksX9_isPerson_0 12 rfl rfl)
theorem dX9_isPerson_13 : decode cX9_isPerson 13 = .ok (.if_icmp .ge 7, 3) := dk_162 0 7 (dk_at dksX9_isPerson_0 13 rfl rfl)
theorem dX9_isPerson_16 : decode cX9_isPerson 16 = .ok (.iconst 1, 1) := dk_4 (dk_at dksX9_isPerson_0 16 rfl rfl)
theorem dX9_isPerson_17 : decode cX9_isPerson 17 = .ok (.goto 4, 3) := dk_167 0 4 (dk_at dksX9_isPerson_0 17 rfl rfl)
theorem dX9_isPerson_20 : decode cX9_isPerson 20 = .ok (.iconst 0, 1) := dk_3 (dk_at dksX9_isPerson_0 20 rfl rfl)
theorem dX9_isPerson_21 : decode cX9_isPerson 21 = .ok (.ireturn, 1) := dk_172 (dk_at dksX9_isPerson_0 21 rfl rfl)
def dkwX9_per_0 : List UInt8 := [42, 180, 0, 9, 17, 3, 0, 16, 8, 27, 104, 96, 28, 96, 46, 172]
abbrev dktX9_per_0 : List UInt8 := dkwX9_per_0 ++ []
theorem dksX9_per_0 : cX9_per.data.toList.drop 0 = dktX9_per_0 := by decide +kernel
theorem dX9_per_0 : decode cX9_per 0 = .ok (.aload_n 0, 1) := dk_42 (dk_at dksX9_per_0 0 rfl rfl)
theorem dX9_per_1 : decode cX9_per 1 = .ok (.getfield 9, 3) := dk_180 0 9 (dk_at dksX9_per_0 1 rfl rfl)
theorem dX9_per_4 : decode cX9_per 4 = .ok (.sipush 768, 3) := dk_17 3 0 (dk_at dksX9_per_0 4 rfl rfl)
theorem dX9_per_7 : decode cX9_per 7 = .ok (.bipush 8, 2) := dk_16 8 (dk_at dksX9_per_0 7 rfl rfl)
theorem dX9_per_9 : decode cX9_per 9 = .ok (.iload_n 1, 1) := dk_27 (dk_at dksX9_per_0 9 rfl rfl)
theorem dX9_per_10 : decode cX9_per 10 = .ok (.imul, 1) := dk_104 (dk_at dksX9_per_0 10 rfl rfl)
theorem dX9_per_11 : decode cX9_per 11 = .ok (.iadd, 1) := dk_96 (dk_at dksX9_per_0 11 rfl rfl)
theorem dX9_per_12 : decode cX9_per 12 = .ok (.iload_n 2, 1) := dk_28 (dk_at dksX9_per_0 12 rfl rfl)
theorem dX9_per_13 : decode cX9_per 13 = .ok (.iadd, 1) := dk_96 (dk_at dksX9_per_0 13 rfl rfl)
theorem dX9_per_14 : decode cX9_per 14 = .ok (.iaload, 1) := dk_46 (dk_at dksX9_per_0 14 rfl rfl)
theorem dX9_per_15 : decode cX9_per 15 = .ok (.ireturn, 1) := dk_172 (dk_at dksX9_per_0 15 rfl rfl)
def dkwX9_hiredBy_2 : List UInt8 := [167, 255, 213, 28, 172]
abbrev dktX9_hiredBy_2 : List UInt8 := dkwX9_hiredBy_2 ++ []
def dkwX9_hiredBy_1 : List UInt8 := [160, 0, 17, 42, 29, 6, 182, 0, 76, 27, 160, 0, 7, 4, 167, 0, 4, 3, 96, 61, 132, 3, 1]
abbrev dktX9_hiredBy_1 : List UInt8 := dkwX9_hiredBy_1 ++ dktX9_hiredBy_2
def dkwX9_hiredBy_0 : List UInt8 := [3, 61, 3, 62, 29, 42, 180, 0, 9, 17, 8, 76, 46, 162, 0, 37, 28, 42, 29, 5, 182, 0, 76, 6]
abbrev dktX9_hiredBy_0 : List UInt8 := dkwX9_hiredBy_0 ++ dktX9_hiredBy_1
theorem dksX9_hiredBy_0 : cX9_hiredBy.data.toList.drop 0 = dktX9_hiredBy_0 := by decide +kernel
theorem dksX9_hiredBy_1 : cX9_hiredBy.data.toList.drop 24 = dktX9_hiredBy_1 := dk_seg dksX9_hiredBy_0 24 rfl rfl
theorem dksX9_hiredBy_2 : cX9_hiredBy.data.toList.drop 47 = dktX9_hiredBy_2 := dk_seg dksX9_hiredBy_1 23 rfl rfl
theorem dX9_hiredBy_0 : decode cX9_hiredBy 0 = .ok (.iconst 0, 1) := dk_3 (dk_at dksX9_hiredBy_0 0 rfl rfl)
theorem dX9_hiredBy_1 : decode cX9_hiredBy 1 = .ok (.istore_n 2, 1) := dk_61 (dk_at dksX9_hiredBy_0 1 rfl rfl)
theorem dX9_hiredBy_2 : decode cX9_hiredBy 2 = .ok (.iconst 0, 1) := dk_3 (dk_at dksX9_hiredBy_0 2 rfl rfl)
theorem dX9_hiredBy_3 : decode cX9_hiredBy 3 = .ok (.istore_n 3, 1) := dk_62 (dk_at dksX9_hiredBy_0 3 rfl rfl)
theorem dX9_hiredBy_4 : decode cX9_hiredBy 4 = .ok (.iload_n 3, 1) := dk_29 (dk_at dksX9_hiredBy_0 4 rfl rfl)
theorem dX9_hiredBy_5 : decode cX9_hiredBy 5 = .ok (.aload_n 0, 1) := dk_42 (dk_at dksX9_hiredBy_0 5 rfl rfl)
theorem dX9_hiredBy_6 : decode cX9_hiredBy 6 = .ok (.getfield 9, 3) := dk_180 0 9 (dk_at dksX9_hiredBy_0 6 rfl rfl)
theorem dX9_hiredBy_9 : decode cX9_hiredBy 9 = .ok (.sipush 2124, 3) := dk_17 8 76 (dk_at dksX9_hiredBy_0 9 rfl rfl)
theorem dX9_hiredBy_12 : decode cX9_hiredBy 12 = .ok (.iaload, 1) := dk_46 (dk_at dksX9_hiredBy_0 12 rfl rfl)
theorem dX9_hiredBy_13 : decode cX9_hiredBy 13 = .ok (.if_icmp .ge 37, 3) := dk_162 0 37 (dk_at dksX9_hiredBy_0 13 rfl rfl)
theorem dX9_hiredBy_16 : decode cX9_hiredBy 16 = .ok (.iload_n 2, 1) := dk_28 (dk_at dksX9_hiredBy_0 16 rfl rfl)
theorem dX9_hiredBy_17 : decode cX9_hiredBy 17 = .ok (.aload_n 0, 1) := dk_42 (dk_at dksX9_hiredBy_0 17 rfl rfl)
theorem dX9_hiredBy_18 : decode cX9_hiredBy 18 = .ok (.iload_n 3, 1) := dk_29 (dk_at dksX9_hiredBy_0 18 rfl rfl)
theorem dX9_hiredBy_19 : decode cX9_hiredBy 19 = .ok (.iconst 2, 1) := dk_5 (dk_at dksX9_hiredBy_0 19 rfl rfl)
theorem dX9_hiredBy_20 : decode cX9_hiredBy 20 = .ok (.invokevirtual 76, 3) := dk_182 0 76 (dk_at dksX9_hiredBy_0 20 rfl rfl)
theorem dX9_hiredBy_23 : decode cX9_hiredBy 23 = .ok (.iconst 3, 1) := dk_6 (dk_at dksX9_hiredBy_0 23 rfl rfl)
theorem dX9_hiredBy_24 : decode cX9_hiredBy 24 = .ok (.if_icmp .ne 17, 3) := dk_160 0 17 (dk_at dksX9_hiredBy_1 0 rfl rfl)
theorem dX9_hiredBy_27 : decode cX9_hiredBy 27 = .ok (.aload_n 0, 1) := dk_42 (dk_at dksX9_hiredBy_1 3 rfl rfl)
theorem dX9_hiredBy_28 : decode cX9_hiredBy 28 = .ok (.iload_n 3, 1) := dk_29 (dk_at dksX9_hiredBy_1 4 rfl rfl)
theorem dX9_hiredBy_29 : decode cX9_hiredBy 29 = .ok (.iconst 3, 1) := dk_6 (dk_at dksX9_hiredBy_1 5 rfl rfl)
theorem dX9_hiredBy_30 : decode cX9_hiredBy 30 = .ok (.invokevirtual 76, 3) := dk_182 0 76 (dk_at dksX9_hiredBy_1 6 rfl rfl)
theorem dX9_hiredBy_33 : decode cX9_hiredBy 33 = .ok (.iload_n 1, 1) := dk_27 (dk_at dksX9_hiredBy_1 9 rfl rfl)
theorem dX9_hiredBy_34 : decode cX9_hiredBy 34 = .ok (.if_icmp .ne 7, 3) := dk_160 0 7 (dk_at dksX9_hiredBy_1 10 rfl rfl)
theorem dX9_hiredBy_37 : decode cX9_hiredBy 37 = .ok (.iconst 1, 1) := dk_4 (dk_at dksX9_hiredBy_1 13 rfl rfl)
theorem dX9_hiredBy_38 : decode cX9_hiredBy 38 = .ok (.goto 4, 3) := dk_167 0 4 (dk_at dksX9_hiredBy_1 14 rfl rfl)
theorem dX9_hiredBy_41 : decode cX9_hiredBy 41 = .ok (.iconst 0, 1) := dk_3 (dk_at dksX9_hiredBy_1 17 rfl rfl)
theorem dX9_hiredBy_42 : decode cX9_hiredBy 42 = .ok (.iadd, 1) := dk_96 (dk_at dksX9_hiredBy_1 18 rfl rfl)
theorem dX9_hiredBy_43 : decode cX9_hiredBy 43 = .ok (.istore_n 2, 1) := dk_61 (dk_at dksX9_hiredBy_1 19 rfl rfl)
theorem dX9_hiredBy_44 : decode cX9_hiredBy 44 = .ok (.iinc 3 1, 3) := dk_132 3 1 (dk_at dksX9_hiredBy_1 20 rfl rfl)
theorem dX9_hiredBy_47 : decode cX9_hiredBy 47 = .ok (.goto (-43), 3) := dk_167 255 213 (dk_at dksX9_hiredBy_2 0 rfl rfl)
theorem dX9_hiredBy_50 : decode cX9_hiredBy 50 = .ok (.iload_n 2, 1) := dk_28 (dk_at dksX9_hiredBy_2 3 rfl rfl)
theorem dX9_hiredBy_51 : decode cX9_hiredBy 51 = .ok (.ireturn, 1) := dk_172 (dk_at dksX9_hiredBy_2 4 rfl rfl)
def dkwX9_farmsOf_1 : List UInt8 := [29, 4, 182, 0, 88, 27, 160, 0, 7, 4, 167, 0, 4, 3, 96, 61, 132, 3, 1, 167, 255, 217, 28, 172]
abbrev dktX9_farmsOf_1 : List UInt8 := dkwX9_farmsOf_1 ++ []
def dkwX9_farmsOf_0 : List UInt8 := [3, 61, 3, 62, 29, 16, 96, 162, 0, 39, 28, 42, 29, 3, 182, 0, 88, 184, 0, 107, 153, 0, 17, 42]
abbrev dktX9_farmsOf_0 : List UInt8 := dkwX9_farmsOf_0 ++ dktX9_farmsOf_1
theorem dksX9_farmsOf_0 : cX9_farmsOf.data.toList.drop 0 = dktX9_farmsOf_0 := by decide +kernel
theorem dksX9_farmsOf_1 : cX9_farmsOf.data.toList.drop 24 = dktX9_farmsOf_1 := dk_seg dksX9_farmsOf_0 24 rfl rfl
theorem dX9_farmsOf_0 : decode cX9_farmsOf 0 = .ok (.iconst 0, 1) := dk_3 (dk_at dksX9_farmsOf_0 0 rfl rfl)
theorem dX9_farmsOf_1 : decode cX9_farmsOf 1 = .ok (.istore_n 2, 1) := dk_61 (dk_at dksX9_farmsOf_0 1 rfl rfl)
theorem dX9_farmsOf_2 : decode cX9_farmsOf 2 = .ok (.iconst 0, 1) := dk_3 (dk_at dksX9_farmsOf_0 2 rfl rfl)
theorem dX9_farmsOf_3 : decode cX9_farmsOf 3 = .ok (.istore_n 3, 1) := dk_62 (dk_at dksX9_farmsOf_0 3 rfl rfl)
theorem dX9_farmsOf_4 : decode cX9_farmsOf 4 = .ok (.iload_n 3, 1) := dk_29 (dk_at dksX9_farmsOf_0 4 rfl rfl)
theorem dX9_farmsOf_5 : decode cX9_farmsOf 5 = .ok (.bipush 96, 2) := dk_16 96 (dk_at dksX9_farmsOf_0 5 rfl rfl)
theorem dX9_farmsOf_7 : decode cX9_farmsOf 7 = .ok (.if_icmp .ge 39, 3) := dk_162 0 39 (dk_at dksX9_farmsOf_0 7 rfl rfl)
theorem dX9_farmsOf_10 : decode cX9_farmsOf 10 = .ok (.iload_n 2, 1) := dk_28 (dk_at dksX9_farmsOf_0 10 rfl rfl)
theorem dX9_farmsOf_11 : decode cX9_farmsOf 11 = .ok (.aload_n 0, 1) := dk_42 (dk_at dksX9_farmsOf_0 11 rfl rfl)
theorem dX9_farmsOf_12 : decode cX9_farmsOf 12 = .ok (.iload_n 3, 1) := dk_29 (dk_at dksX9_farmsOf_0 12 rfl rfl)
theorem dX9_farmsOf_13 : decode cX9_farmsOf 13 = .ok (.iconst 0, 1) := dk_3 (dk_at dksX9_farmsOf_0 13 rfl rfl)
theorem dX9_farmsOf_14 : decode cX9_farmsOf 14 = .ok (.invokevirtual 88, 3) := dk_182 0 88 (dk_at dksX9_farmsOf_0 14 rfl rfl)
theorem dX9_farmsOf_17 : decode cX9_farmsOf 17 = .ok (.invokestatic 107, 3) := dk_184 0 107 (dk_at dksX9_farmsOf_0 17 rfl rfl)
theorem dX9_farmsOf_20 : decode cX9_farmsOf 20 = .ok (.ifCond .eq 17, 3) := dk_153 0 17 (dk_at dksX9_farmsOf_0 20 rfl rfl)
theorem dX9_farmsOf_23 : decode cX9_farmsOf 23 = .ok (.aload_n 0, 1) := dk_42 (dk_at dksX9_farmsOf_0 23 rfl rfl)
theorem dX9_farmsOf_24 : decode cX9_farmsOf 24 = .ok (.iload_n 3, 1) := dk_29 (dk_at dksX9_farmsOf_1 0 rfl rfl)
theorem dX9_farmsOf_25 : decode cX9_farmsOf 25 = .ok (.iconst 1, 1) := dk_4 (dk_at dksX9_farmsOf_1 1 rfl rfl)
theorem dX9_farmsOf_26 : decode cX9_farmsOf 26 = .ok (.invokevirtual 88, 3) := dk_182 0 88 (dk_at dksX9_farmsOf_1 2 rfl rfl)
theorem dX9_farmsOf_29 : decode cX9_farmsOf 29 = .ok (.iload_n 1, 1) := dk_27 (dk_at dksX9_farmsOf_1 5 rfl rfl)
theorem dX9_farmsOf_30 : decode cX9_farmsOf 30 = .ok (.if_icmp .ne 7, 3) := dk_160 0 7 (dk_at dksX9_farmsOf_1 6 rfl rfl)
theorem dX9_farmsOf_33 : decode cX9_farmsOf 33 = .ok (.iconst 1, 1) := dk_4 (dk_at dksX9_farmsOf_1 9 rfl rfl)
theorem dX9_farmsOf_34 : decode cX9_farmsOf 34 = .ok (.goto 4, 3) := dk_167 0 4 (dk_at dksX9_farmsOf_1 10 rfl rfl)
theorem dX9_farmsOf_37 : decode cX9_farmsOf 37 = .ok (.iconst 0, 1) := dk_3 (dk_at dksX9_farmsOf_1 13 rfl rfl)
theorem dX9_farmsOf_38 : decode cX9_farmsOf 38 = .ok (.iadd, 1) := dk_96 (dk_at dksX9_farmsOf_1 14 rfl rfl)
theorem dX9_farmsOf_39 : decode cX9_farmsOf 39 = .ok (.istore_n 2, 1) := dk_61 (dk_at dksX9_farmsOf_1 15 rfl rfl)
theorem dX9_farmsOf_40 : decode cX9_farmsOf 40 = .ok (.iinc 3 1, 3) := dk_132 3 1 (dk_at dksX9_farmsOf_1 16 rfl rfl)
theorem dX9_farmsOf_43 : decode cX9_farmsOf 43 = .ok (.goto (-39), 3) := dk_167 255 217 (dk_at dksX9_farmsOf_1 19 rfl rfl)
theorem dX9_farmsOf_46 : decode cX9_farmsOf 46 = .ok (.iload_n 2, 1) := dk_28 (dk_at dksX9_farmsOf_1 22 rfl rfl)
theorem dX9_farmsOf_47 : decode cX9_farmsOf 47 = .ok (.ireturn, 1) := dk_172 (dk_at dksX9_farmsOf_1 23 rfl rfl)
def dkwX9_party_3 : List UInt8 := [180, 0, 9, 17, 8, 79, 92, 46, 4, 96, 79, 42, 180, 0, 9, 17, 8, 79, 46, 4, 100, 172]
abbrev dktX9_party_3 : List UInt8 := dkwX9_party_3 ++ []
def dkwX9_party_2 : List UInt8 := [180, 0, 9, 17, 6, 184, 16, 15, 42, 180, 0, 9, 17, 8, 79, 46, 104, 96, 3, 96, 27, 79, 42]
abbrev dktX9_party_2 : List UInt8 := dkwX9_party_2 ++ dktX9_party_3
def dkwX9_party_1 : List UInt8 := [182, 0, 84, 153, 0, 5, 3, 172, 42, 180, 0, 9, 17, 8, 79, 46, 7, 160, 0, 5, 2, 172, 42]
abbrev dktX9_party_1 : List UInt8 := dkwX9_party_1 ++ dktX9_party_2
def dkwX9_party_0 : List UInt8 := [42, 3, 181, 0, 73, 42, 27, 4, 161, 0, 9, 27, 16, 9, 164, 0, 7, 4, 167, 0, 4, 3, 4]
abbrev dktX9_party_0 : List UInt8 := dkwX9_party_0 ++ dktX9_party_1
theorem dksX9_party_0 : cX9_party.data.toList.drop 0 = dktX9_party_0 := by decide +kernel
theorem dksX9_party_1 : cX9_party.data.toList.drop 23 = dktX9_party_1 := dk_seg dksX9_party_0 23 rfl rfl
theorem dksX9_party_2 : cX9_party.data.toList.drop 46 = dktX9_party_2 := dk_seg dksX9_party_1 23 rfl rfl
theorem dksX9_party_3 : cX9_party.data.toList.drop 69 = dktX9_party_3 := dk_seg dksX9_party_2 23 rfl rfl
theorem dX9_party_0 : decode cX9_party 0 = .ok (.aload_n 0, 1) := dk_42 (dk_at dksX9_party_0 0 rfl rfl)
theorem dX9_party_1 : decode cX9_party 1 = .ok (.iconst 0, 1) := dk_3 (dk_at dksX9_party_0 1 rfl rfl)
theorem dX9_party_2 : decode cX9_party 2 = .ok (.putfield 73, 3) := dk_181 0 73 (dk_at dksX9_party_0 2 rfl rfl)
theorem dX9_party_5 : decode cX9_party 5 = .ok (.aload_n 0, 1) := dk_42 (dk_at dksX9_party_0 5 rfl rfl)
theorem dX9_party_6 : decode cX9_party 6 = .ok (.iload_n 1, 1) := dk_27 (dk_at dksX9_party_0 6 rfl rfl)
theorem dX9_party_7 : decode cX9_party 7 = .ok (.iconst 1, 1) := dk_4 (dk_at dksX9_party_0 7 rfl rfl)
theorem dX9_party_8 : decode cX9_party 8 = .ok (.if_icmp .lt 9, 3) := dk_161 0 9 (dk_at dksX9_party_0 8 rfl rfl)
theorem dX9_party_11 : decode cX9_party 11 = .ok (.iload_n 1, 1) := dk_27 (dk_at dksX9_party_0 11 rfl rfl)
theorem dX9_party_12 : decode cX9_party 12 = .ok (.bipush 9, 2) := dk_16 9 (dk_at dksX9_party_0 12 rfl rfl)
theorem dX9_party_14 : decode cX9_party 14 = .ok (.if_icmp .le 7, 3) := dk_164 0 7 (dk_at dksX9_party_0 14 rfl rfl)
theorem dX9_party_17 : decode cX9_party 17 = .ok (.iconst 1, 1) := dk_4 (dk_at dksX9_party_0 17 rfl rfl)
theorem dX9_party_18 : decode cX9_party 18 = .ok (.goto 4, 3) := dk_167 0 4 (dk_at dksX9_party_0 18 rfl rfl)
theorem dX9_party_21 : decode cX9_party 21 = .ok (.iconst 0, 1) := dk_3 (dk_at dksX9_party_0 21 rfl rfl)
theorem dX9_party_22 : decode cX9_party 22 = .ok (.iconst 1, 1) := dk_4 (dk_at dksX9_party_0 22 rfl rfl)
theorem dX9_party_23 : decode cX9_party 23 = .ok (.invokevirtual 84, 3) := dk_182 0 84 (dk_at dksX9_party_1 0 rfl rfl)
theorem dX9_party_26 : decode cX9_party 26 = .ok (.ifCond .eq 5, 3) := dk_153 0 5 (dk_at dksX9_party_1 3 rfl rfl)
theorem dX9_party_29 : decode cX9_party 29 = .ok (.iconst 0, 1) := dk_3 (dk_at dksX9_party_1 6 rfl rfl)
theorem dX9_party_30 : decode cX9_party 30 = .ok (.ireturn, 1) := dk_172 (dk_at dksX9_party_1 7 rfl rfl)
theorem dX9_party_31 : decode cX9_party 31 = .ok (.aload_n 0, 1) := dk_42 (dk_at dksX9_party_1 8 rfl rfl)
theorem dX9_party_32 : decode cX9_party 32 = .ok (.getfield 9, 3) := dk_180 0 9 (dk_at dksX9_party_1 9 rfl rfl)
theorem dX9_party_35 : decode cX9_party 35 = .ok (.sipush 2127, 3) := dk_17 8 79 (dk_at dksX9_party_1 12 rfl rfl)
theorem dX9_party_38 : decode cX9_party 38 = .ok (.iaload, 1) := dk_46 (dk_at dksX9_party_1 15 rfl rfl)
theorem dX9_party_39 : decode cX9_party 39 = .ok (.iconst 4, 1) := dk_7 (dk_at dksX9_party_1 16 rfl rfl)
theorem dX9_party_40 : decode cX9_party 40 = .ok (.if_icmp .ne 5, 3) := dk_160 0 5 (dk_at dksX9_party_1 17 rfl rfl)
theorem dX9_party_43 : decode cX9_party 43 = .ok (.iconst (-1), 1) := dk_2 (dk_at dksX9_party_1 20 rfl rfl)
theorem dX9_party_44 : decode cX9_party 44 = .ok (.ireturn, 1) := dk_172 (dk_at dksX9_party_1 21 rfl rfl)
theorem dX9_party_45 : decode cX9_party 45 = .ok (.aload_n 0, 1) := dk_42 (dk_at dksX9_party_1 22 rfl rfl)
theorem dX9_party_46 : decode cX9_party 46 = .ok (.getfield 9, 3) := dk_180 0 9 (dk_at dksX9_party_2 0 rfl rfl)
theorem dX9_party_49 : decode cX9_party 49 = .ok (.sipush 1720, 3) := dk_17 6 184 (dk_at dksX9_party_2 3 rfl rfl)
theorem dX9_party_52 : decode cX9_party 52 = .ok (.bipush 15, 2) := dk_16 15 (dk_at dksX9_party_2 6 rfl rfl)
theorem dX9_party_54 : decode cX9_party 54 = .ok (.aload_n 0, 1) := dk_42 (dk_at dksX9_party_2 8 rfl rfl)
theorem dX9_party_55 : decode cX9_party 55 = .ok (.getfield 9, 3) := dk_180 0 9 (dk_at dksX9_party_2 9 rfl rfl)
theorem dX9_party_58 : decode cX9_party 58 = .ok (.sipush 2127, 3) := dk_17 8 79 (dk_at dksX9_party_2 12 rfl rfl)
theorem dX9_party_61 : decode cX9_party 61 = .ok (.iaload, 1) := dk_46 (dk_at dksX9_party_2 15 rfl rfl)
theorem dX9_party_62 : decode cX9_party 62 = .ok (.imul, 1) := dk_104 (dk_at dksX9_party_2 16 rfl rfl)
theorem dX9_party_63 : decode cX9_party 63 = .ok (.iadd, 1) := dk_96 (dk_at dksX9_party_2 17 rfl rfl)
theorem dX9_party_64 : decode cX9_party 64 = .ok (.iconst 0, 1) := dk_3 (dk_at dksX9_party_2 18 rfl rfl)
theorem dX9_party_65 : decode cX9_party 65 = .ok (.iadd, 1) := dk_96 (dk_at dksX9_party_2 19 rfl rfl)
theorem dX9_party_66 : decode cX9_party 66 = .ok (.iload_n 1, 1) := dk_27 (dk_at dksX9_party_2 20 rfl rfl)
theorem dX9_party_67 : decode cX9_party 67 = .ok (.iastore, 1) := dk_79 (dk_at dksX9_party_2 21 rfl rfl)
theorem dX9_party_68 : decode cX9_party 68 = .ok (.aload_n 0, 1) := dk_42 (dk_at dksX9_party_2 22 rfl rfl)
theorem dX9_party_69 : decode cX9_party 69 = .ok (.getfield 9, 3) := dk_180 0 9 (dk_at dksX9_party_3 0 rfl rfl)
theorem dX9_party_72 : decode cX9_party 72 = .ok (.sipush 2127, 3) := dk_17 8 79 (dk_at dksX9_party_3 3 rfl rfl)
theorem dX9_party_75 : decode cX9_party 75 = .ok (.dup2, 1) := dk_92 (dk_at dksX9_party_3 6 rfl rfl)
theorem dX9_party_76 : decode cX9_party 76 = .ok (.iaload, 1) := dk_46 (dk_at dksX9_party_3 7 rfl rfl)
theorem dX9_party_77 : decode cX9_party 77 = .ok (.iconst 1, 1) := dk_4 (dk_at dksX9_party_3 8 rfl rfl)
theorem dX9_party_78 : decode cX9_party 78 = .ok (.iadd, 1) := dk_96 (dk_at dksX9_party_3 9 rfl rfl)
theorem dX9_party_79 : decode cX9_party 79 = .ok (.iastore, 1) := dk_79 (dk_at dksX9_party_3 10 rfl rfl)
theorem dX9_party_80 : decode cX9_party 80 = .ok (.aload_n 0, 1) := dk_42 (dk_at dksX9_party_3 11 rfl rfl)
theorem dX9_party_81 : decode cX9_party 81 = .ok (.getfield 9, 3) := dk_180 0 9 (dk_at dksX9_party_3 12 rfl rfl)
theorem dX9_party_84 : decode cX9_party 84 = .ok (.sipush 2127, 3) := dk_17 8 79 (dk_at dksX9_party_3 15 rfl rfl)
theorem dX9_party_87 : decode cX9_party 87 = .ok (.iaload, 1) := dk_46 (dk_at dksX9_party_3 18 rfl rfl)
theorem dX9_party_88 : decode cX9_party 88 = .ok (.iconst 1, 1) := dk_4 (dk_at dksX9_party_3 19 rfl rfl)
theorem dX9_party_89 : decode cX9_party 89 = .ok (.isub, 1) := dk_100 (dk_at dksX9_party_3 20 rfl rfl)
theorem dX9_party_90 : decode cX9_party 90 = .ok (.ireturn, 1) := dk_172 (dk_at dksX9_party_3 21 rfl rfl)
def dkwX9_queue_4 : List UInt8 := [180, 0, 9, 29, 5, 96, 92, 46, 4, 96, 79, 42, 180, 0, 9, 29, 5, 96, 46, 172]
abbrev dktX9_queue_4 : List UInt8 := dkwX9_queue_4 ++ []
def dkwX9_queue_3 : List UInt8 := [16, 254, 172, 42, 180, 0, 9, 29, 6, 96, 42, 180, 0, 9, 29, 5, 96, 46, 96, 28, 79, 42]
abbrev dktX9_queue_3 : List UInt8 := dkwX9_queue_3 ++ dktX9_queue_4
def dkwX9_queue_2 : List UInt8 := [180, 0, 9, 29, 5, 96, 46, 16, 12, 160, 0, 5, 2, 172, 42, 28, 3, 182, 0, 88, 153, 0, 6]
abbrev dktX9_queue_2 : List UInt8 := dkwX9_queue_2 ++ dktX9_queue_3
def dkwX9_queue_1 : List UInt8 := [167, 0, 4, 3, 4, 182, 0, 84, 153, 0, 5, 3, 172, 17, 6, 184, 16, 15, 27, 104, 96, 62, 42]
abbrev dktX9_queue_1 : List UInt8 := dkwX9_queue_1 ++ dktX9_queue_2
def dkwX9_queue_0 : List UInt8 := [42, 3, 181, 0, 73, 42, 42, 27, 182, 0, 134, 153, 0, 11, 42, 28, 182, 0, 80, 154, 0, 7, 4]
abbrev dktX9_queue_0 : List UInt8 := dkwX9_queue_0 ++ dktX9_queue_1
theorem dksX9_queue_0 : cX9_queue.data.toList.drop 0 = dktX9_queue_0 := by decide +kernel
theorem dksX9_queue_1 : cX9_queue.data.toList.drop 23 = dktX9_queue_1 := dk_seg dksX9_queue_0 23 rfl rfl
theorem dksX9_queue_2 : cX9_queue.data.toList.drop 46 = dktX9_queue_2 := dk_seg dksX9_queue_1 23 rfl rfl
theorem dksX9_queue_3 : cX9_queue.data.toList.drop 69 = dktX9_queue_3 := dk_seg dksX9_queue_2 23 rfl rfl
theorem dksX9_queue_4 : cX9_queue.data.toList.drop 91 = dktX9_queue_4 := dk_seg dksX9_queue_3 22 rfl rfl
theorem dX9_queue_0 : decode cX9_queue 0 = .ok (.aload_n 0, 1) := dk_42 (dk_at dksX9_queue_0 0 rfl rfl)
theorem dX9_queue_1 : decode cX9_queue 1 = .ok (.iconst 0, 1) := dk_3 (dk_at dksX9_queue_0 1 rfl rfl)
theorem dX9_queue_2 : decode cX9_queue 2 = .ok (.putfield 73, 3) := dk_181 0 73 (dk_at dksX9_queue_0 2 rfl rfl)
theorem dX9_queue_5 : decode cX9_queue 5 = .ok (.aload_n 0, 1) := dk_42 (dk_at dksX9_queue_0 5 rfl rfl)
theorem dX9_queue_6 : decode cX9_queue 6 = .ok (.aload_n 0, 1) := dk_42 (dk_at dksX9_queue_0 6 rfl rfl)
theorem dX9_queue_7 : decode cX9_queue 7 = .ok (.iload_n 1, 1) := dk_27 (dk_at dksX9_queue_0 7 rfl rfl)
theorem dX9_queue_8 : decode cX9_queue 8 = .ok (.invokevirtual 134, 3) := dk_182 0 134 (dk_at dksX9_queue_0 8 rfl rfl)
theorem dX9_queue_11 : decode cX9_queue 11 = .ok (.ifCond .eq 11, 3) := dk_153 0 11 (dk_at dksX9_queue_0 11 rfl rfl)
theorem dX9_queue_14 : decode cX9_queue 14 = .ok (.aload_n 0, 1) := dk_42 (dk_at dksX9_queue_0 14 rfl rfl)
theorem dX9_queue_15 : decode cX9_queue 15 = .ok (.iload_n 2, 1) := dk_28 (dk_at dksX9_queue_0 15 rfl rfl)
theorem dX9_queue_16 : decode cX9_queue 16 = .ok (.invokevirtual 80, 3) := dk_182 0 80 (dk_at dksX9_queue_0 16 rfl rfl)
theorem dX9_queue_19 : decode cX9_queue 19 = .ok (.ifCond .ne 7, 3) := dk_154 0 7 (dk_at dksX9_queue_0 19 rfl rfl)
theorem dX9_queue_22 : decode cX9_queue 22 = .ok (.iconst 1, 1) := dk_4 (dk_at dksX9_queue_0 22 rfl rfl)
theorem dX9_queue_23 : decode cX9_queue 23 = .ok (.goto 4, 3) := dk_167 0 4 (dk_at dksX9_queue_1 0 rfl rfl)
theorem dX9_queue_26 : decode cX9_queue 26 = .ok (.iconst 0, 1) := dk_3 (dk_at dksX9_queue_1 3 rfl rfl)
theorem dX9_queue_27 : decode cX9_queue 27 = .ok (.iconst 1, 1) := dk_4 (dk_at dksX9_queue_1 4 rfl rfl)
theorem dX9_queue_28 : decode cX9_queue 28 = .ok (.invokevirtual 84, 3) := dk_182 0 84 (dk_at dksX9_queue_1 5 rfl rfl)
theorem dX9_queue_31 : decode cX9_queue 31 = .ok (.ifCond .eq 5, 3) := dk_153 0 5 (dk_at dksX9_queue_1 8 rfl rfl)
theorem dX9_queue_34 : decode cX9_queue 34 = .ok (.iconst 0, 1) := dk_3 (dk_at dksX9_queue_1 11 rfl rfl)
theorem dX9_queue_35 : decode cX9_queue 35 = .ok (.ireturn, 1) := dk_172 (dk_at dksX9_queue_1 12 rfl rfl)
theorem dX9_queue_36 : decode cX9_queue 36 = .ok (.sipush 1720, 3) := dk_17 6 184 (dk_at dksX9_queue_1 13 rfl rfl)
theorem dX9_queue_39 : decode cX9_queue 39 = .ok (.bipush 15, 2) := dk_16 15 (dk_at dksX9_queue_1 16 rfl rfl)
theorem dX9_queue_41 : decode cX9_queue 41 = .ok (.iload_n 1, 1) := dk_27 (dk_at dksX9_queue_1 18 rfl rfl)
theorem dX9_queue_42 : decode cX9_queue 42 = .ok (.imul, 1) := dk_104 (dk_at dksX9_queue_1 19 rfl rfl)
theorem dX9_queue_43 : decode cX9_queue 43 = .ok (.iadd, 1) := dk_96 (dk_at dksX9_queue_1 20 rfl rfl)
theorem dX9_queue_44 : decode cX9_queue 44 = .ok (.istore_n 3, 1) := dk_62 (dk_at dksX9_queue_1 21 rfl rfl)
theorem dX9_queue_45 : decode cX9_queue 45 = .ok (.aload_n 0, 1) := dk_42 (dk_at dksX9_queue_1 22 rfl rfl)
theorem dX9_queue_46 : decode cX9_queue 46 = .ok (.getfield 9, 3) := dk_180 0 9 (dk_at dksX9_queue_2 0 rfl rfl)
theorem dX9_queue_49 : decode cX9_queue 49 = .ok (.iload_n 3, 1) := dk_29 (dk_at dksX9_queue_2 3 rfl rfl)
theorem dX9_queue_50 : decode cX9_queue 50 = .ok (.iconst 2, 1) := dk_5 (dk_at dksX9_queue_2 4 rfl rfl)
theorem dX9_queue_51 : decode cX9_queue 51 = .ok (.iadd, 1) := dk_96 (dk_at dksX9_queue_2 5 rfl rfl)
theorem dX9_queue_52 : decode cX9_queue 52 = .ok (.iaload, 1) := dk_46 (dk_at dksX9_queue_2 6 rfl rfl)
theorem dX9_queue_53 : decode cX9_queue 53 = .ok (.bipush 12, 2) := dk_16 12 (dk_at dksX9_queue_2 7 rfl rfl)
theorem dX9_queue_55 : decode cX9_queue 55 = .ok (.if_icmp .ne 5, 3) := dk_160 0 5 (dk_at dksX9_queue_2 9 rfl rfl)
theorem dX9_queue_58 : decode cX9_queue 58 = .ok (.iconst (-1), 1) := dk_2 (dk_at dksX9_queue_2 12 rfl rfl)
theorem dX9_queue_59 : decode cX9_queue 59 = .ok (.ireturn, 1) := dk_172 (dk_at dksX9_queue_2 13 rfl rfl)
theorem dX9_queue_60 : decode cX9_queue 60 = .ok (.aload_n 0, 1) := dk_42 (dk_at dksX9_queue_2 14 rfl rfl)
theorem dX9_queue_61 : decode cX9_queue 61 = .ok (.iload_n 2, 1) := dk_28 (dk_at dksX9_queue_2 15 rfl rfl)
theorem dX9_queue_62 : decode cX9_queue 62 = .ok (.iconst 0, 1) := dk_3 (dk_at dksX9_queue_2 16 rfl rfl)
theorem dX9_queue_63 : decode cX9_queue 63 = .ok (.invokevirtual 88, 3) := dk_182 0 88 (dk_at dksX9_queue_2 17 rfl rfl)
theorem dX9_queue_66 : decode cX9_queue 66 = .ok (.ifCond .eq 6, 3) := dk_153 0 6 (dk_at dksX9_queue_2 20 rfl rfl)
theorem dX9_queue_69 : decode cX9_queue 69 = .ok (.bipush (-2), 2) := dk_16 254 (dk_at dksX9_queue_3 0 rfl rfl)
theorem dX9_queue_71 : decode cX9_queue 71 = .ok (.ireturn, 1) := dk_172 (dk_at dksX9_queue_3 2 rfl rfl)
theorem dX9_queue_72 : decode cX9_queue 72 = .ok (.aload_n 0, 1) := dk_42 (dk_at dksX9_queue_3 3 rfl rfl)
theorem dX9_queue_73 : decode cX9_queue 73 = .ok (.getfield 9, 3) := dk_180 0 9 (dk_at dksX9_queue_3 4 rfl rfl)
theorem dX9_queue_76 : decode cX9_queue 76 = .ok (.iload_n 3, 1) := dk_29 (dk_at dksX9_queue_3 7 rfl rfl)
theorem dX9_queue_77 : decode cX9_queue 77 = .ok (.iconst 3, 1) := dk_6 (dk_at dksX9_queue_3 8 rfl rfl)
theorem dX9_queue_78 : decode cX9_queue 78 = .ok (.iadd, 1) := dk_96 (dk_at dksX9_queue_3 9 rfl rfl)
theorem dX9_queue_79 : decode cX9_queue 79 = .ok (.aload_n 0, 1) := dk_42 (dk_at dksX9_queue_3 10 rfl rfl)
theorem dX9_queue_80 : decode cX9_queue 80 = .ok (.getfield 9, 3) := dk_180 0 9 (dk_at dksX9_queue_3 11 rfl rfl)
theorem dX9_queue_83 : decode cX9_queue 83 = .ok (.iload_n 3, 1) := dk_29 (dk_at dksX9_queue_3 14 rfl rfl)
theorem dX9_queue_84 : decode cX9_queue 84 = .ok (.iconst 2, 1) := dk_5 (dk_at dksX9_queue_3 15 rfl rfl)
theorem dX9_queue_85 : decode cX9_queue 85 = .ok (.iadd, 1) := dk_96 (dk_at dksX9_queue_3 16 rfl rfl)
theorem dX9_queue_86 : decode cX9_queue 86 = .ok (.iaload, 1) := dk_46 (dk_at dksX9_queue_3 17 rfl rfl)
theorem dX9_queue_87 : decode cX9_queue 87 = .ok (.iadd, 1) := dk_96 (dk_at dksX9_queue_3 18 rfl rfl)
theorem dX9_queue_88 : decode cX9_queue 88 = .ok (.iload_n 2, 1) := dk_28 (dk_at dksX9_queue_3 19 rfl rfl)
theorem dX9_queue_89 : decode cX9_queue 89 = .ok (.iastore, 1) := dk_79 (dk_at dksX9_queue_3 20 rfl rfl)
theorem dX9_queue_90 : decode cX9_queue 90 = .ok (.aload_n 0, 1) := dk_42 (dk_at dksX9_queue_3 21 rfl rfl)
theorem dX9_queue_91 : decode cX9_queue 91 = .ok (.getfield 9, 3) := dk_180 0 9 (dk_at dksX9_queue_4 0 rfl rfl)
theorem dX9_queue_94 : decode cX9_queue 94 = .ok (.iload_n 3, 1) := dk_29 (dk_at dksX9_queue_4 3 rfl rfl)
theorem dX9_queue_95 : decode cX9_queue 95 = .ok (.iconst 2, 1) := dk_5 (dk_at dksX9_queue_4 4 rfl rfl)
theorem dX9_queue_96 : decode cX9_queue 96 = .ok (.iadd, 1) := dk_96 (dk_at dksX9_queue_4 5 rfl rfl)
theorem dX9_queue_97 : decode cX9_queue 97 = .ok (.dup2, 1) := dk_92 (dk_at dksX9_queue_4 6 rfl rfl)
theorem dX9_queue_98 : decode cX9_queue 98 = .ok (.iaload, 1) := dk_46 (dk_at dksX9_queue_4 7 rfl rfl)
theorem dX9_queue_99 : decode cX9_queue 99 = .ok (.iconst 1, 1) := dk_4 (dk_at dksX9_queue_4 8 rfl rfl)
theorem dX9_queue_100 : decode cX9_queue 100 = .ok (.iadd, 1) := dk_96 (dk_at dksX9_queue_4 9 rfl rfl)
theorem dX9_queue_101 : decode cX9_queue 101 = .ok (.iastore, 1) := dk_79 (dk_at dksX9_queue_4 10 rfl rfl)
theorem dX9_queue_102 : decode cX9_queue 102 = .ok (.aload_n 0, 1) := dk_42 (dk_at dksX9_queue_4 11 rfl rfl)
theorem dX9_queue_103 : decode cX9_queue 103 = .ok (.getfield 9, 3) := dk_180 0 9 (dk_at dksX9_queue_4 12 rfl rfl)
theorem dX9_queue_106 : decode cX9_queue 106 = .ok (.iload_n 3, 1) := dk_29 (dk_at dksX9_queue_4 15 rfl rfl)
theorem dX9_queue_107 : decode cX9_queue 107 = .ok (.iconst 2, 1) := dk_5 (dk_at dksX9_queue_4 16 rfl rfl)
theorem dX9_queue_108 : decode cX9_queue 108 = .ok (.iadd, 1) := dk_96 (dk_at dksX9_queue_4 17 rfl rfl)
theorem dX9_queue_109 : decode cX9_queue 109 = .ok (.iaload, 1) := dk_46 (dk_at dksX9_queue_4 18 rfl rfl)
theorem dX9_queue_110 : decode cX9_queue 110 = .ok (.ireturn, 1) := dk_172 (dk_at dksX9_queue_4 19 rfl rfl)
def dkwX9_isParty_0 : List UInt8 := [27, 155, 0, 19, 27, 42, 180, 0, 9, 17, 8, 79, 46, 162, 0, 7, 4, 167, 0, 4, 3, 172]
abbrev dktX9_isParty_0 : List UInt8 := dkwX9_isParty_0 ++ []
theorem dksX9_isParty_0 : cX9_isParty.data.toList.drop 0 = dktX9_isParty_0 := by decide +kernel
theorem dX9_isParty_0 : decode cX9_isParty 0 = .ok (.iload_n 1, 1) := dk_27 (dk_at dksX9_isParty_0 0 rfl rfl)
theorem dX9_isParty_1 : decode cX9_isParty 1 = .ok (.ifCond .lt 19, 3) := dk_155 0 19 (dk_at dksX9_isParty_0 1 rfl rfl)
theorem dX9_isParty_4 : decode cX9_isParty 4 = .ok (.iload_n 1, 1) := dk_27 (dk_at dksX9_isParty_0 4 rfl rfl)
theorem dX9_isParty_5 : decode cX9_isParty 5 = .ok (.aload_n 0, 1) := dk_42 (dk_at dksX9_isParty_0 5 rfl rfl)
theorem dX9_isParty_6 : decode cX9_isParty 6 = .ok (.getfield 9, 3) := dk_180 0 9 (dk_at dksX9_isParty_0 6 rfl rfl)
theorem dX9_isParty_9 : decode cX9_isParty 9 = .ok (.sipush 2127, 3) := dk_17 8 79 (dk_at dksX9_isParty_0 9 rfl rfl)
theorem dX9_isParty_12 : decode cX9_isParty 12 = .ok (.iaload, 1) := dk_46 (dk_at dksX9_isParty_0 12 rfl rfl)
theorem dX9_isParty_13 : decode cX9_isParty 13 = .ok (.if_icmp .ge 7, 3) := dk_162 0 7 (dk_at dksX9_isParty_0 13 rfl rfl)
theorem dX9_isParty_16 : decode cX9_isParty 16 = .ok (.iconst 1, 1) := dk_4 (dk_at dksX9_isParty_0 16 rfl rfl)
theorem dX9_isParty_17 : decode cX9_isParty 17 = .ok (.goto 4, 3) := dk_167 0 4 (dk_at dksX9_isParty_0 17 rfl rfl)
theorem dX9_isParty_20 : decode cX9_isParty 20 = .ok (.iconst 0, 1) := dk_3 (dk_at dksX9_isParty_0 20 rfl rfl)
theorem dX9_isParty_21 : decode cX9_isParty 21 = .ok (.ireturn, 1) := dk_172 (dk_at dksX9_isParty_0 21 rfl rfl)
def dkwX9_where_4 : List UInt8 := [180, 0, 9, 29, 5, 96, 46, 154, 0, 7, 2, 167, 0, 11, 42, 180, 0, 9, 29, 6, 96, 46, 172]
abbrev dktX9_where_4 : List UInt8 := dkwX9_where_4 ++ []
def dkwX9_where_3 : List UInt8 := [96, 46, 167, 0, 42, 28, 4, 160, 0, 14, 42, 180, 0, 9, 29, 5, 96, 46, 167, 0, 26, 42]
abbrev dktX9_where_3 : List UInt8 := dkwX9_where_3 ++ dktX9_where_4
def dkwX9_where_2 : List UInt8 := [153, 0, 5, 3, 172, 17, 6, 184, 16, 15, 27, 104, 96, 62, 28, 154, 0, 14, 42, 180, 0, 9, 29, 4]
abbrev dktX9_where_2 : List UInt8 := dkwX9_where_2 ++ dktX9_where_3
def dkwX9_where_1 : List UInt8 := [154, 0, 25, 42, 28, 155, 0, 8, 28, 5, 164, 0, 7, 4, 167, 0, 4, 3, 5, 182, 0, 84]
abbrev dktX9_where_1 : List UInt8 := dkwX9_where_1 ++ dktX9_where_2
def dkwX9_where_0 : List UInt8 := [42, 3, 181, 0, 73, 42, 42, 27, 182, 0, 134, 154, 0, 7, 4, 167, 0, 4, 3, 4, 182, 0, 84]
abbrev dktX9_where_0 : List UInt8 := dkwX9_where_0 ++ dktX9_where_1
theorem dksX9_where_0 : cX9_where.data.toList.drop 0 = dktX9_where_0 := by decide +kernel
theorem dksX9_where_1 : cX9_where.data.toList.drop 23 = dktX9_where_1 := dk_seg dksX9_where_0 23 rfl rfl
theorem dksX9_where_2 : cX9_where.data.toList.drop 45 = dktX9_where_2 := dk_seg dksX9_where_1 22 rfl rfl
theorem dksX9_where_3 : cX9_where.data.toList.drop 69 = dktX9_where_3 := dk_seg dksX9_where_2 24 rfl rfl
theorem dksX9_where_4 : cX9_where.data.toList.drop 91 = dktX9_where_4 := dk_seg dksX9_where_3 22 rfl rfl
theorem dX9_where_0 : decode cX9_where 0 = .ok (.aload_n 0, 1) := dk_42 (dk_at dksX9_where_0 0 rfl rfl)
theorem dX9_where_1 : decode cX9_where 1 = .ok (.iconst 0, 1) := dk_3 (dk_at dksX9_where_0 1 rfl rfl)
theorem dX9_where_2 : decode cX9_where 2 = .ok (.putfield 73, 3) := dk_181 0 73 (dk_at dksX9_where_0 2 rfl rfl)
theorem dX9_where_5 : decode cX9_where 5 = .ok (.aload_n 0, 1) := dk_42 (dk_at dksX9_where_0 5 rfl rfl)
theorem dX9_where_6 : decode cX9_where 6 = .ok (.aload_n 0, 1) := dk_42 (dk_at dksX9_where_0 6 rfl rfl)
theorem dX9_where_7 : decode cX9_where 7 = .ok (.iload_n 1, 1) := dk_27 (dk_at dksX9_where_0 7 rfl rfl)
theorem dX9_where_8 : decode cX9_where 8 = .ok (.invokevirtual 134, 3) := dk_182 0 134 (dk_at dksX9_where_0 8 rfl rfl)
theorem dX9_where_11 : decode cX9_where 11 = .ok (.ifCond .ne 7, 3) := dk_154 0 7 (dk_at dksX9_where_0 11 rfl rfl)
theorem dX9_where_14 : decode cX9_where 14 = .ok (.iconst 1, 1) := dk_4 (dk_at dksX9_where_0 14 rfl rfl)
theorem dX9_where_15 : decode cX9_where 15 = .ok (.goto 4, 3) := dk_167 0 4 (dk_at dksX9_where_0 15 rfl rfl)
theorem dX9_where_18 : decode cX9_where 18 = .ok (.iconst 0, 1) := dk_3 (dk_at dksX9_where_0 18 rfl rfl)
theorem dX9_where_19 : decode cX9_where 19 = .ok (.iconst 1, 1) := dk_4 (dk_at dksX9_where_0 19 rfl rfl)
theorem dX9_where_20 : decode cX9_where 20 = .ok (.invokevirtual 84, 3) := dk_182 0 84 (dk_at dksX9_where_0 20 rfl rfl)
theorem dX9_where_23 : decode cX9_where 23 = .ok (.ifCond .ne 25, 3) := dk_154 0 25 (dk_at dksX9_where_1 0 rfl rfl)
theorem dX9_where_26 : decode cX9_where 26 = .ok (.aload_n 0, 1) := dk_42 (dk_at dksX9_where_1 3 rfl rfl)
theorem dX9_where_27 : decode cX9_where 27 = .ok (.iload_n 2, 1) := dk_28 (dk_at dksX9_where_1 4 rfl rfl)
theorem dX9_where_28 : decode cX9_where 28 = .ok (.ifCond .lt 8, 3) := dk_155 0 8 (dk_at dksX9_where_1 5 rfl rfl)
theorem dX9_where_31 : decode cX9_where 31 = .ok (.iload_n 2, 1) := dk_28 (dk_at dksX9_where_1 8 rfl rfl)
theorem dX9_where_32 : decode cX9_where 32 = .ok (.iconst 2, 1) := dk_5 (dk_at dksX9_where_1 9 rfl rfl)
theorem dX9_where_33 : decode cX9_where 33 = .ok (.if_icmp .le 7, 3) := dk_164 0 7 (dk_at dksX9_where_1 10 rfl rfl)
theorem dX9_where_36 : decode cX9_where 36 = .ok (.iconst 1, 1) := dk_4 (dk_at dksX9_where_1 13 rfl rfl)
theorem dX9_where_37 : decode cX9_where 37 = .ok (.goto 4, 3) := dk_167 0 4 (dk_at dksX9_where_1 14 rfl rfl)
theorem dX9_where_40 : decode cX9_where 40 = .ok (.iconst 0, 1) := dk_3 (dk_at dksX9_where_1 17 rfl rfl)
theorem dX9_where_41 : decode cX9_where 41 = .ok (.iconst 2, 1) := dk_5 (dk_at dksX9_where_1 18 rfl rfl)
theorem dX9_where_42 : decode cX9_where 42 = .ok (.invokevirtual 84, 3) := dk_182 0 84 (dk_at dksX9_where_1 19 rfl rfl)
theorem dX9_where_45 : decode cX9_where 45 = .ok (.ifCond .eq 5, 3) := dk_153 0 5 (dk_at dksX9_where_2 0 rfl rfl)
theorem dX9_where_48 : decode cX9_where 48 = .ok (.iconst 0, 1) := dk_3 (dk_at dksX9_where_2 3 rfl rfl)
theorem dX9_where_49 : decode cX9_where 49 = .ok (.ireturn, 1) := dk_172 (dk_at dksX9_where_2 4 rfl rfl)
theorem dX9_where_50 : decode cX9_where 50 = .ok (.sipush 1720, 3) := dk_17 6 184 (dk_at dksX9_where_2 5 rfl rfl)
theorem dX9_where_53 : decode cX9_where 53 = .ok (.bipush 15, 2) := dk_16 15 (dk_at dksX9_where_2 8 rfl rfl)
theorem dX9_where_55 : decode cX9_where 55 = .ok (.iload_n 1, 1) := dk_27 (dk_at dksX9_where_2 10 rfl rfl)
theorem dX9_where_56 : decode cX9_where 56 = .ok (.imul, 1) := dk_104 (dk_at dksX9_where_2 11 rfl rfl)
theorem dX9_where_57 : decode cX9_where 57 = .ok (.iadd, 1) := dk_96 (dk_at dksX9_where_2 12 rfl rfl)
theorem dX9_where_58 : decode cX9_where 58 = .ok (.istore_n 3, 1) := dk_62 (dk_at dksX9_where_2 13 rfl rfl)
theorem dX9_where_59 : decode cX9_where 59 = .ok (.iload_n 2, 1) := dk_28 (dk_at dksX9_where_2 14 rfl rfl)
theorem dX9_where_60 : decode cX9_where 60 = .ok (.ifCond .ne 14, 3) := dk_154 0 14 (dk_at dksX9_where_2 15 rfl rfl)
theorem dX9_where_63 : decode cX9_where 63 = .ok (.aload_n 0, 1) := dk_42 (dk_at dksX9_where_2 18 rfl rfl)
theorem dX9_where_64 : decode cX9_where 64 = .ok (.getfield 9, 3) := dk_180 0 9 (dk_at dksX9_where_2 19 rfl rfl)
theorem dX9_where_67 : decode cX9_where 67 = .ok (.iload_n 3, 1) := dk_29 (dk_at dksX9_where_2 22 rfl rfl)
theorem dX9_where_68 : decode cX9_where 68 = .ok (.iconst 1, 1) := dk_4 (dk_at dksX9_where_2 23 rfl rfl)
theorem dX9_where_69 : decode cX9_where 69 = .ok (.iadd, 1) := dk_96 (dk_at dksX9_where_3 0 rfl rfl)
theorem dX9_where_70 : decode cX9_where 70 = .ok (.iaload, 1) := dk_46 (dk_at dksX9_where_3 1 rfl rfl)
theorem dX9_where_71 : decode cX9_where 71 = .ok (.goto 42, 3) := dk_167 0 42 (dk_at dksX9_where_3 2 rfl rfl)
theorem dX9_where_74 : decode cX9_where 74 = .ok (.iload_n 2, 1) := dk_28 (dk_at dksX9_where_3 5 rfl rfl)
theorem dX9_where_75 : decode cX9_where 75 = .ok (.iconst 1, 1) := dk_4 (dk_at dksX9_where_3 6 rfl rfl)
theorem dX9_where_76 : decode cX9_where 76 = .ok (.if_icmp .ne 14, 3) := dk_160 0 14 (dk_at dksX9_where_3 7 rfl rfl)
theorem dX9_where_79 : decode cX9_where 79 = .ok (.aload_n 0, 1) := dk_42 (dk_at dksX9_where_3 10 rfl rfl)
theorem dX9_where_80 : decode cX9_where 80 = .ok (.getfield 9, 3) := dk_180 0 9 (dk_at dksX9_where_3 11 rfl rfl)
theorem dX9_where_83 : decode cX9_where 83 = .ok (.iload_n 3, 1) := dk_29 (dk_at dksX9_where_3 14 rfl rfl)
theorem dX9_where_84 : decode cX9_where 84 = .ok (.iconst 2, 1) := dk_5 (dk_at dksX9_where_3 15 rfl rfl)
theorem dX9_where_85 : decode cX9_where 85 = .ok (.iadd, 1) := dk_96 (dk_at dksX9_where_3 16 rfl rfl)
theorem dX9_where_86 : decode cX9_where 86 = .ok (.iaload, 1) := dk_46 (dk_at dksX9_where_3 17 rfl rfl)
theorem dX9_where_87 : decode cX9_where 87 = .ok (.goto 26, 3) := dk_167 0 26 (dk_at dksX9_where_3 18 rfl rfl)
theorem dX9_where_90 : decode cX9_where 90 = .ok (.aload_n 0, 1) := dk_42 (dk_at dksX9_where_3 21 rfl rfl)
theorem dX9_where_91 : decode cX9_where 91 = .ok (.getfield 9, 3) := dk_180 0 9 (dk_at dksX9_where_4 0 rfl rfl)
theorem dX9_where_94 : decode cX9_where 94 = .ok (.iload_n 3, 1) := dk_29 (dk_at dksX9_where_4 3 rfl rfl)
theorem dX9_where_95 : decode cX9_where 95 = .ok (.iconst 2, 1) := dk_5 (dk_at dksX9_where_4 4 rfl rfl)
theorem dX9_where_96 : decode cX9_where 96 = .ok (.iadd, 1) := dk_96 (dk_at dksX9_where_4 5 rfl rfl)
theorem dX9_where_97 : decode cX9_where 97 = .ok (.iaload, 1) := dk_46 (dk_at dksX9_where_4 6 rfl rfl)
theorem dX9_where_98 : decode cX9_where 98 = .ok (.ifCond .ne 7, 3) := dk_154 0 7 (dk_at dksX9_where_4 7 rfl rfl)
theorem dX9_where_101 : decode cX9_where 101 = .ok (.iconst (-1), 1) := dk_2 (dk_at dksX9_where_4 10 rfl rfl)
theorem dX9_where_102 : decode cX9_where 102 = .ok (.goto 11, 3) := dk_167 0 11 (dk_at dksX9_where_4 11 rfl rfl)
theorem dX9_where_105 : decode cX9_where 105 = .ok (.aload_n 0, 1) := dk_42 (dk_at dksX9_where_4 14 rfl rfl)
theorem dX9_where_106 : decode cX9_where 106 = .ok (.getfield 9, 3) := dk_180 0 9 (dk_at dksX9_where_4 15 rfl rfl)
theorem dX9_where_109 : decode cX9_where 109 = .ok (.iload_n 3, 1) := dk_29 (dk_at dksX9_where_4 18 rfl rfl)
theorem dX9_where_110 : decode cX9_where 110 = .ok (.iconst 3, 1) := dk_6 (dk_at dksX9_where_4 19 rfl rfl)
theorem dX9_where_111 : decode cX9_where 111 = .ok (.iadd, 1) := dk_96 (dk_at dksX9_where_4 20 rfl rfl)
theorem dX9_where_112 : decode cX9_where 112 = .ok (.iaload, 1) := dk_46 (dk_at dksX9_where_4 21 rfl rfl)
theorem dX9_where_113 : decode cX9_where 113 = .ok (.ireturn, 1) := dk_172 (dk_at dksX9_where_4 22 rfl rfl)
def dkwX9_lot_4 : List UInt8 := [167, 0, 4, 2, 172]
abbrev dktX9_lot_4 : List UInt8 := dkwX9_lot_4 ++ []
def dkwX9_lot_3 : List UInt8 := [42, 27, 3, 182, 0, 88, 153, 0, 7, 4, 167, 0, 4, 3, 62, 42, 182, 0, 163, 29, 153, 0, 7, 28]
abbrev dktX9_lot_3 : List UInt8 := dkwX9_lot_3 ++ dktX9_lot_4
def dkwX9_lot_2 : List UInt8 := [3, 182, 0, 88, 154, 0, 20, 42, 182, 0, 156, 153, 0, 13, 42, 182, 0, 160, 132, 2, 1, 167, 255, 233]
abbrev dktX9_lot_2 : List UInt8 := dkwX9_lot_2 ++ dktX9_lot_3
def dkwX9_lot_1 : List UInt8 := [153, 0, 5, 3, 172, 42, 27, 3, 182, 0, 88, 153, 0, 5, 3, 172, 42, 182, 0, 153, 3, 61, 42, 27]
abbrev dktX9_lot_1 : List UInt8 := dkwX9_lot_1 ++ dktX9_lot_2
def dkwX9_lot_0 : List UInt8 := [42, 3, 181, 0, 73, 42, 42, 27, 182, 0, 80, 154, 0, 7, 4, 167, 0, 4, 3, 4, 182, 0, 84]
abbrev dktX9_lot_0 : List UInt8 := dkwX9_lot_0 ++ dktX9_lot_1
theorem dksX9_lot_0 : cX9_lot.data.toList.drop 0 = dktX9_lot_0 := by decide +kernel
theorem dksX9_lot_1 : cX9_lot.data.toList.drop 23 = dktX9_lot_1 := dk_seg dksX9_lot_0 23 rfl rfl
theorem dksX9_lot_2 : cX9_lot.data.toList.drop 47 = dktX9_lot_2 := dk_seg dksX9_lot_1 24 rfl rfl
theorem dksX9_lot_3 : cX9_lot.data.toList.drop 71 = dktX9_lot_3 := dk_seg dksX9_lot_2 24 rfl rfl
theorem dksX9_lot_4 : cX9_lot.data.toList.drop 95 = dktX9_lot_4 := dk_seg dksX9_lot_3 24 rfl rfl
theorem dX9_lot_0 : decode cX9_lot 0 = .ok (.aload_n 0, 1) := dk_42 (dk_at dksX9_lot_0 0 rfl rfl)
theorem dX9_lot_1 : decode cX9_lot 1 = .ok (.iconst 0, 1) := dk_3 (dk_at dksX9_lot_0 1 rfl rfl)
theorem dX9_lot_2 : decode cX9_lot 2 = .ok (.putfield 73, 3) := dk_181 0 73 (dk_at dksX9_lot_0 2 rfl rfl)
theorem dX9_lot_5 : decode cX9_lot 5 = .ok (.aload_n 0, 1) := dk_42 (dk_at dksX9_lot_0 5 rfl rfl)
theorem dX9_lot_6 : decode cX9_lot 6 = .ok (.aload_n 0, 1) := dk_42 (dk_at dksX9_lot_0 6 rfl rfl)
theorem dX9_lot_7 : decode cX9_lot 7 = .ok (.iload_n 1, 1) := dk_27 (dk_at dksX9_lot_0 7 rfl rfl)
theorem dX9_lot_8 : decode cX9_lot 8 = .ok (.invokevirtual 80, 3) := dk_182 0 80 (dk_at dksX9_lot_0 8 rfl rfl)
theorem dX9_lot_11 : decode cX9_lot 11 = .ok (.ifCond .ne 7, 3) := dk_154 0 7 (dk_at dksX9_lot_0 11 rfl rfl)
theorem dX9_lot_14 : decode cX9_lot 14 = .ok (.iconst 1, 1) := dk_4 (dk_at dksX9_lot_0 14 rfl rfl)
theorem dX9_lot_15 : decode cX9_lot 15 = .ok (.goto 4, 3) := dk_167 0 4 (dk_at dksX9_lot_0 15 rfl rfl)
theorem dX9_lot_18 : decode cX9_lot 18 = .ok (.iconst 0, 1) := dk_3 (dk_at dksX9_lot_0 18 rfl rfl)
theorem dX9_lot_19 : decode cX9_lot 19 = .ok (.iconst 1, 1) := dk_4 (dk_at dksX9_lot_0 19 rfl rfl)
theorem dX9_lot_20 : decode cX9_lot 20 = .ok (.invokevirtual 84, 3) := dk_182 0 84 (dk_at dksX9_lot_0 20 rfl rfl)
theorem dX9_lot_23 : decode cX9_lot 23 = .ok (.ifCond .eq 5, 3) := dk_153 0 5 (dk_at dksX9_lot_1 0 rfl rfl)
theorem dX9_lot_26 : decode cX9_lot 26 = .ok (.iconst 0, 1) := dk_3 (dk_at dksX9_lot_1 3 rfl rfl)
theorem dX9_lot_27 : decode cX9_lot 27 = .ok (.ireturn, 1) := dk_172 (dk_at dksX9_lot_1 4 rfl rfl)
theorem dX9_lot_28 : decode cX9_lot 28 = .ok (.aload_n 0, 1) := dk_42 (dk_at dksX9_lot_1 5 rfl rfl)
theorem dX9_lot_29 : decode cX9_lot 29 = .ok (.iload_n 1, 1) := dk_27 (dk_at dksX9_lot_1 6 rfl rfl)
theorem dX9_lot_30 : decode cX9_lot 30 = .ok (.iconst 0, 1) := dk_3 (dk_at dksX9_lot_1 7 rfl rfl)
theorem dX9_lot_31 : decode cX9_lot 31 = .ok (.invokevirtual 88, 3) := dk_182 0 88 (dk_at dksX9_lot_1 8 rfl rfl)
theorem dX9_lot_34 : decode cX9_lot 34 = .ok (.ifCond .eq 5, 3) := dk_153 0 5 (dk_at dksX9_lot_1 11 rfl rfl)
theorem dX9_lot_37 : decode cX9_lot 37 = .ok (.iconst 0, 1) := dk_3 (dk_at dksX9_lot_1 14 rfl rfl)
theorem dX9_lot_38 : decode cX9_lot 38 = .ok (.ireturn, 1) := dk_172 (dk_at dksX9_lot_1 15 rfl rfl)
theorem dX9_lot_39 : decode cX9_lot 39 = .ok (.aload_n 0, 1) := dk_42 (dk_at dksX9_lot_1 16 rfl rfl)
theorem dX9_lot_40 : decode cX9_lot 40 = .ok (.invokevirtual 153, 3) := dk_182 0 153 (dk_at dksX9_lot_1 17 rfl rfl)
theorem dX9_lot_43 : decode cX9_lot 43 = .ok (.iconst 0, 1) := dk_3 (dk_at dksX9_lot_1 20 rfl rfl)
theorem dX9_lot_44 : decode cX9_lot 44 = .ok (.istore_n 2, 1) := dk_61 (dk_at dksX9_lot_1 21 rfl rfl)
theorem dX9_lot_45 : decode cX9_lot 45 = .ok (.aload_n 0, 1) := dk_42 (dk_at dksX9_lot_1 22 rfl rfl)
theorem dX9_lot_46 : decode cX9_lot 46 = .ok (.iload_n 1, 1) := dk_27 (dk_at dksX9_lot_1 23 rfl rfl)
theorem dX9_lot_47 : decode cX9_lot 47 = .ok (.iconst 0, 1) := dk_3 (dk_at dksX9_lot_2 0 rfl rfl)
theorem dX9_lot_48 : decode cX9_lot 48 = .ok (.invokevirtual 88, 3) := dk_182 0 88 (dk_at dksX9_lot_2 1 rfl rfl)
theorem dX9_lot_51 : decode cX9_lot 51 = .ok (.ifCond .ne 20, 3) := dk_154 0 20 (dk_at dksX9_lot_2 4 rfl rfl)
theorem dX9_lot_54 : decode cX9_lot 54 = .ok (.aload_n 0, 1) := dk_42 (dk_at dksX9_lot_2 7 rfl rfl)
theorem dX9_lot_55 : decode cX9_lot 55 = .ok (.invokevirtual 156, 3) := dk_182 0 156 (dk_at dksX9_lot_2 8 rfl rfl)
theorem dX9_lot_58 : decode cX9_lot 58 = .ok (.ifCond .eq 13, 3) := dk_153 0 13 (dk_at dksX9_lot_2 11 rfl rfl)
theorem dX9_lot_61 : decode cX9_lot 61 = .ok (.aload_n 0, 1) := dk_42 (dk_at dksX9_lot_2 14 rfl rfl)
theorem dX9_lot_62 : decode cX9_lot 62 = .ok (.invokevirtual 160, 3) := dk_182 0 160 (dk_at dksX9_lot_2 15 rfl rfl)
theorem dX9_lot_65 : decode cX9_lot 65 = .ok (.iinc 2 1, 3) := dk_132 2 1 (dk_at dksX9_lot_2 18 rfl rfl)
theorem dX9_lot_68 : decode cX9_lot 68 = .ok (.goto (-23), 3) := dk_167 255 233 (dk_at dksX9_lot_2 21 rfl rfl)
theorem dX9_lot_71 : decode cX9_lot 71 = .ok (.aload_n 0, 1) := dk_42 (dk_at dksX9_lot_3 0 rfl rfl)
theorem dX9_lot_72 : decode cX9_lot 72 = .ok (.iload_n 1, 1) := dk_27 (dk_at dksX9_lot_3 1 rfl rfl)
theorem dX9_lot_73 : decode cX9_lot 73 = .ok (.iconst 0, 1) := dk_3 (dk_at dksX9_lot_3 2 rfl rfl)
theorem dX9_lot_74 : decode cX9_lot 74 = .ok (.invokevirtual 88, 3) := dk_182 0 88 (dk_at dksX9_lot_3 3 rfl rfl)
theorem dX9_lot_77 : decode cX9_lot 77 = .ok (.ifCond .eq 7, 3) := dk_153 0 7 (dk_at dksX9_lot_3 6 rfl rfl)
theorem dX9_lot_80 : decode cX9_lot 80 = .ok (.iconst 1, 1) := dk_4 (dk_at dksX9_lot_3 9 rfl rfl)
theorem dX9_lot_81 : decode cX9_lot 81 = .ok (.goto 4, 3) := dk_167 0 4 (dk_at dksX9_lot_3 10 rfl rfl)
theorem dX9_lot_84 : decode cX9_lot 84 = .ok (.iconst 0, 1) := dk_3 (dk_at dksX9_lot_3 13 rfl rfl)
theorem dX9_lot_85 : decode cX9_lot 85 = .ok (.istore_n 3, 1) := dk_62 (dk_at dksX9_lot_3 14 rfl rfl)
theorem dX9_lot_86 : decode cX9_lot 86 = .ok (.aload_n 0, 1) := dk_42 (dk_at dksX9_lot_3 15 rfl rfl)
theorem dX9_lot_87 : decode cX9_lot 87 = .ok (.invokevirtual 163, 3) := dk_182 0 163 (dk_at dksX9_lot_3 16 rfl rfl)
theorem dX9_lot_90 : decode cX9_lot 90 = .ok (.iload_n 3, 1) := dk_29 (dk_at dksX9_lot_3 19 rfl rfl)
theorem dX9_lot_91 : decode cX9_lot 91 = .ok (.ifCond .eq 7, 3) := dk_153 0 7 (dk_at dksX9_lot_3 20 rfl rfl)
theorem dX9_lot_94 : decode cX9_lot 94 = .ok (.iload_n 2, 1) := dk_28 (dk_at dksX9_lot_3 23 rfl rfl)
theorem dX9_lot_95 : decode cX9_lot 95 = .ok (.goto 4, 3) := dk_167 0 4 (dk_at dksX9_lot_4 0 rfl rfl)
theorem dX9_lot_98 : decode cX9_lot 98 = .ok (.iconst (-1), 1) := dk_2 (dk_at dksX9_lot_4 3 rfl rfl)
theorem dX9_lot_99 : decode cX9_lot 99 = .ok (.ireturn, 1) := dk_172 (dk_at dksX9_lot_4 4 rfl rfl)
def dkwX9_saves_1 : List UInt8 := [167, 255, 234, 177]
abbrev dktX9_saves_1 : List UInt8 := dkwX9_saves_1 ++ []
def dkwX9_saves_0 : List UInt8 := [3, 60, 27, 17, 8, 84, 162, 0, 21, 42, 180, 0, 13, 27, 42, 180, 0, 9, 27, 46, 79, 132, 1, 1]
abbrev dktX9_saves_0 : List UInt8 := dkwX9_saves_0 ++ dktX9_saves_1
theorem dksX9_saves_0 : cX9_saves.data.toList.drop 0 = dktX9_saves_0 := by decide +kernel
theorem dksX9_saves_1 : cX9_saves.data.toList.drop 24 = dktX9_saves_1 := dk_seg dksX9_saves_0 24 rfl rfl
theorem dX9_saves_0 : decode cX9_saves 0 = .ok (.iconst 0, 1) := dk_3 (dk_at dksX9_saves_0 0 rfl rfl)
theorem dX9_saves_1 : decode cX9_saves 1 = .ok (.istore_n 1, 1) := dk_60 (dk_at dksX9_saves_0 1 rfl rfl)
theorem dX9_saves_2 : decode cX9_saves 2 = .ok (.iload_n 1, 1) := dk_27 (dk_at dksX9_saves_0 2 rfl rfl)
theorem dX9_saves_3 : decode cX9_saves 3 = .ok (.sipush 2132, 3) := dk_17 8 84 (dk_at dksX9_saves_0 3 rfl rfl)
theorem dX9_saves_6 : decode cX9_saves 6 = .ok (.if_icmp .ge 21, 3) := dk_162 0 21 (dk_at dksX9_saves_0 6 rfl rfl)
theorem dX9_saves_9 : decode cX9_saves 9 = .ok (.aload_n 0, 1) := dk_42 (dk_at dksX9_saves_0 9 rfl rfl)
theorem dX9_saves_10 : decode cX9_saves 10 = .ok (.getfield 13, 3) := dk_180 0 13 (dk_at dksX9_saves_0 10 rfl rfl)
theorem dX9_saves_13 : decode cX9_saves 13 = .ok (.iload_n 1, 1) := dk_27 (dk_at dksX9_saves_0 13 rfl rfl)
theorem dX9_saves_14 : decode cX9_saves 14 = .ok (.aload_n 0, 1) := dk_42 (dk_at dksX9_saves_0 14 rfl rfl)
theorem dX9_saves_15 : decode cX9_saves 15 = .ok (.getfield 9, 3) := dk_180 0 9 (dk_at dksX9_saves_0 15 rfl rfl)
theorem dX9_saves_18 : decode cX9_saves 18 = .ok (.iload_n 1, 1) := dk_27 (dk_at dksX9_saves_0 18 rfl rfl)
theorem dX9_saves_19 : decode cX9_saves 19 = .ok (.iaload, 1) := dk_46 (dk_at dksX9_saves_0 19 rfl rfl)
theorem dX9_saves_20 : decode cX9_saves 20 = .ok (.iastore, 1) := dk_79 (dk_at dksX9_saves_0 20 rfl rfl)
theorem dX9_saves_21 : decode cX9_saves 21 = .ok (.iinc 1 1, 3) := dk_132 1 1 (dk_at dksX9_saves_0 21 rfl rfl)
theorem dX9_saves_24 : decode cX9_saves 24 = .ok (.goto (-22), 3) := dk_167 255 234 (dk_at dksX9_saves_1 0 rfl rfl)
theorem dX9_saves_27 : decode cX9_saves 27 = .ok (.return_, 1) := dk_177 (dk_at dksX9_saves_1 3 rfl rfl)
def dkwX9_isQueued_1 : List UInt8 := [104, 96, 5, 96, 46, 158, 0, 5, 4, 172, 132, 1, 1, 167, 255, 221, 3, 172]
abbrev dktX9_isQueued_1 : List UInt8 := dkwX9_isQueued_1 ++ []
def dkwX9_isQueued_0 : List UInt8 := [3, 60, 27, 42, 180, 0, 9, 17, 8, 79, 46, 162, 0, 29, 42, 180, 0, 9, 17, 6, 184, 16, 15, 27]
abbrev dktX9_isQueued_0 : List UInt8 := dkwX9_isQueued_0 ++ dktX9_isQueued_1
theorem dksX9_isQueued_0 : cX9_isQueued.data.toList.drop 0 = dktX9_isQueued_0 := by decide +kernel
theorem dksX9_isQueued_1 : cX9_isQueued.data.toList.drop 24 = dktX9_isQueued_1 := dk_seg dksX9_isQueued_0 24 rfl rfl
theorem dX9_isQueued_0 : decode cX9_isQueued 0 = .ok (.iconst 0, 1) := dk_3 (dk_at dksX9_isQueued_0 0 rfl rfl)
theorem dX9_isQueued_1 : decode cX9_isQueued 1 = .ok (.istore_n 1, 1) := dk_60 (dk_at dksX9_isQueued_0 1 rfl rfl)
theorem dX9_isQueued_2 : decode cX9_isQueued 2 = .ok (.iload_n 1, 1) := dk_27 (dk_at dksX9_isQueued_0 2 rfl rfl)
theorem dX9_isQueued_3 : decode cX9_isQueued 3 = .ok (.aload_n 0, 1) := dk_42 (dk_at dksX9_isQueued_0 3 rfl rfl)
theorem dX9_isQueued_4 : decode cX9_isQueued 4 = .ok (.getfield 9, 3) := dk_180 0 9 (dk_at dksX9_isQueued_0 4 rfl rfl)
theorem dX9_isQueued_7 : decode cX9_isQueued 7 = .ok (.sipush 2127, 3) := dk_17 8 79 (dk_at dksX9_isQueued_0 7 rfl rfl)
theorem dX9_isQueued_10 : decode cX9_isQueued 10 = .ok (.iaload, 1) := dk_46 (dk_at dksX9_isQueued_0 10 rfl rfl)
theorem dX9_isQueued_11 : decode cX9_isQueued 11 = .ok (.if_icmp .ge 29, 3) := dk_162 0 29 (dk_at dksX9_isQueued_0 11 rfl rfl)
theorem dX9_isQueued_14 : decode cX9_isQueued 14 = .ok (.aload_n 0, 1) := dk_42 (dk_at dksX9_isQueued_0 14 rfl rfl)
theorem dX9_isQueued_15 : decode cX9_isQueued 15 = .ok (.getfield 9, 3) := dk_180 0 9 (dk_at dksX9_isQueued_0 15 rfl rfl)
theorem dX9_isQueued_18 : decode cX9_isQueued 18 = .ok (.sipush 1720, 3) := dk_17 6 184 (dk_at dksX9_isQueued_0 18 rfl rfl)
theorem dX9_isQueued_21 : decode cX9_isQueued 21 = .ok (.bipush 15, 2) := dk_16 15 (dk_at dksX9_isQueued_0 21 rfl rfl)
theorem dX9_isQueued_23 : decode cX9_isQueued 23 = .ok (.iload_n 1, 1) := dk_27 (dk_at dksX9_isQueued_0 23 rfl rfl)
theorem dX9_isQueued_24 : decode cX9_isQueued 24 = .ok (.imul, 1) := dk_104 (dk_at dksX9_isQueued_1 0 rfl rfl)
theorem dX9_isQueued_25 : decode cX9_isQueued 25 = .ok (.iadd, 1) := dk_96 (dk_at dksX9_isQueued_1 1 rfl rfl)
theorem dX9_isQueued_26 : decode cX9_isQueued 26 = .ok (.iconst 2, 1) := dk_5 (dk_at dksX9_isQueued_1 2 rfl rfl)
theorem dX9_isQueued_27 : decode cX9_isQueued 27 = .ok (.iadd, 1) := dk_96 (dk_at dksX9_isQueued_1 3 rfl rfl)
theorem dX9_isQueued_28 : decode cX9_isQueued 28 = .ok (.iaload, 1) := dk_46 (dk_at dksX9_isQueued_1 4 rfl rfl)
theorem dX9_isQueued_29 : decode cX9_isQueued 29 = .ok (.ifCond .le 5, 3) := dk_158 0 5 (dk_at dksX9_isQueued_1 5 rfl rfl)
theorem dX9_isQueued_32 : decode cX9_isQueued 32 = .ok (.iconst 1, 1) := dk_4 (dk_at dksX9_isQueued_1 8 rfl rfl)
theorem dX9_isQueued_33 : decode cX9_isQueued 33 = .ok (.ireturn, 1) := dk_172 (dk_at dksX9_isQueued_1 9 rfl rfl)
theorem dX9_isQueued_34 : decode cX9_isQueued 34 = .ok (.iinc 1 1, 3) := dk_132 1 1 (dk_at dksX9_isQueued_1 10 rfl rfl)
theorem dX9_isQueued_37 : decode cX9_isQueued 37 = .ok (.goto (-35), 3) := dk_167 255 221 (dk_at dksX9_isQueued_1 13 rfl rfl)
theorem dX9_isQueued_40 : decode cX9_isQueued 40 = .ok (.iconst 0, 1) := dk_3 (dk_at dksX9_isQueued_1 16 rfl rfl)
theorem dX9_isQueued_41 : decode cX9_isQueued 41 = .ok (.ireturn, 1) := dk_172 (dk_at dksX9_isQueued_1 17 rfl rfl)
def dkwX9_surveysAll_1 : List UInt8 := [167, 255, 236, 177]
abbrev dktX9_surveysAll_1 : List UInt8 := dkwX9_surveysAll_1 ++ []
def dkwX9_surveysAll_0 : List UInt8 := [3, 60, 27, 42, 180, 0, 9, 17, 8, 79, 46, 162, 0, 14, 42, 27, 182, 0, 150, 132, 1, 1]
abbrev dktX9_surveysAll_0 : List UInt8 := dkwX9_surveysAll_0 ++ dktX9_surveysAll_1
theorem dksX9_surveysAll_0 : cX9_surveysAll.data.toList.drop 0 = dktX9_surveysAll_0 := by decide +kernel
theorem dksX9_surveysAll_1 : cX9_surveysAll.data.toList.drop 22 = dktX9_surveysAll_1 := dk_seg dksX9_surveysAll_0 22 rfl rfl
theorem dX9_surveysAll_0 : decode cX9_surveysAll 0 = .ok (.iconst 0, 1) := dk_3 (dk_at dksX9_surveysAll_0 0 rfl rfl)
theorem dX9_surveysAll_1 : decode cX9_surveysAll 1 = .ok (.istore_n 1, 1) := dk_60 (dk_at dksX9_surveysAll_0 1 rfl rfl)
theorem dX9_surveysAll_2 : decode cX9_surveysAll 2 = .ok (.iload_n 1, 1) := dk_27 (dk_at dksX9_surveysAll_0 2 rfl rfl)
theorem dX9_surveysAll_3 : decode cX9_surveysAll 3 = .ok (.aload_n 0, 1) := dk_42 (dk_at dksX9_surveysAll_0 3 rfl rfl)
theorem dX9_surveysAll_4 : decode cX9_surveysAll 4 = .ok (.getfield 9, 3) := dk_180 0 9 (dk_at dksX9_surveysAll_0 4 rfl rfl)
theorem dX9_surveysAll_7 : decode cX9_surveysAll 7 = .ok (.sipush 2127, 3) := dk_17 8 79 (dk_at dksX9_surveysAll_0 7 rfl rfl)
theorem dX9_surveysAll_10 : decode cX9_surveysAll 10 = .ok (.iaload, 1) := dk_46 (dk_at dksX9_surveysAll_0 10 rfl rfl)
theorem dX9_surveysAll_11 : decode cX9_surveysAll 11 = .ok (.if_icmp .ge 14, 3) := dk_162 0 14 (dk_at dksX9_surveysAll_0 11 rfl rfl)
theorem dX9_surveysAll_14 : decode cX9_surveysAll 14 = .ok (.aload_n 0, 1) := dk_42 (dk_at dksX9_surveysAll_0 14 rfl rfl)
theorem dX9_surveysAll_15 : decode cX9_surveysAll 15 = .ok (.iload_n 1, 1) := dk_27 (dk_at dksX9_surveysAll_0 15 rfl rfl)
theorem dX9_surveysAll_16 : decode cX9_surveysAll 16 = .ok (.invokevirtual 150, 3) := dk_182 0 150 (dk_at dksX9_surveysAll_0 16 rfl rfl)
theorem dX9_surveysAll_19 : decode cX9_surveysAll 19 = .ok (.iinc 1 1, 3) := dk_132 1 1 (dk_at dksX9_surveysAll_0 19 rfl rfl)
theorem dX9_surveysAll_22 : decode cX9_surveysAll 22 = .ok (.goto (-20), 3) := dk_167 255 236 (dk_at dksX9_surveysAll_1 0 rfl rfl)
theorem dX9_surveysAll_25 : decode cX9_surveysAll 25 = .ok (.return_, 1) := dk_177 (dk_at dksX9_surveysAll_1 3 rfl rfl)
def dkwX9_surveys_5 : List UInt8 := [21, 4, 4, 2, 182, 0, 147, 42, 28, 182, 0, 141, 132, 3, 255, 167, 255, 144, 177]
abbrev dktX9_surveys_5 : List UInt8 := dkwX9_surveys_5 ++ []
def dkwX9_surveys_4 : List UInt8 := [96, 92, 46, 4, 96, 79, 42, 21, 4, 16, 7, 182, 0, 88, 42, 21, 4, 182, 0, 110, 160, 0, 11, 42]
abbrev dktX9_surveys_4 : List UInt8 := dkwX9_surveys_4 ++ dktX9_surveys_5
def dkwX9_surveys_3 : List UInt8 := [28, 4, 96, 46, 21, 4, 184, 0, 144, 79, 167, 0, 45, 42, 180, 0, 9, 16, 8, 21, 4, 104, 16, 7]
abbrev dktX9_surveys_3 : List UInt8 := dkwX9_surveys_3 ++ dktX9_surveys_4
def dkwX9_surveys_2 : List UInt8 := [42, 180, 0, 9, 28, 4, 96, 46, 21, 4, 159, 0, 27, 42, 180, 0, 9, 28, 4, 96, 42, 180, 0, 9]
abbrev dktX9_surveys_2 : List UInt8 := dkwX9_surveys_2 ++ dktX9_surveys_3
def dkwX9_surveys_1 : List UInt8 := [158, 0, 114, 42, 180, 0, 9, 28, 5, 96, 46, 158, 0, 103, 42, 180, 0, 9, 28, 6, 96, 46, 54, 4]
abbrev dktX9_surveys_1 : List UInt8 := dkwX9_surveys_1 ++ dktX9_surveys_2
def dkwX9_surveys_0 : List UInt8 := [17, 6, 184, 16, 15, 27, 104, 96, 61, 42, 28, 182, 0, 141, 42, 180, 0, 9, 28, 3, 96, 46, 62, 29]
abbrev dktX9_surveys_0 : List UInt8 := dkwX9_surveys_0 ++ dktX9_surveys_1
theorem dksX9_surveys_0 : cX9_surveys.data.toList.drop 0 = dktX9_surveys_0 := by decide +kernel
theorem dksX9_surveys_1 : cX9_surveys.data.toList.drop 24 = dktX9_surveys_1 := dk_seg dksX9_surveys_0 24 rfl rfl
theorem dksX9_surveys_2 : cX9_surveys.data.toList.drop 48 = dktX9_surveys_2 := dk_seg dksX9_surveys_1 24 rfl rfl
theorem dksX9_surveys_3 : cX9_surveys.data.toList.drop 72 = dktX9_surveys_3 := dk_seg dksX9_surveys_2 24 rfl rfl
theorem dksX9_surveys_4 : cX9_surveys.data.toList.drop 96 = dktX9_surveys_4 := dk_seg dksX9_surveys_3 24 rfl rfl
theorem dksX9_surveys_5 : cX9_surveys.data.toList.drop 120 = dktX9_surveys_5 := dk_seg dksX9_surveys_4 24 rfl rfl
theorem dX9_surveys_0 : decode cX9_surveys 0 = .ok (.sipush 1720, 3) := dk_17 6 184 (dk_at dksX9_surveys_0 0 rfl rfl)
theorem dX9_surveys_3 : decode cX9_surveys 3 = .ok (.bipush 15, 2) := dk_16 15 (dk_at dksX9_surveys_0 3 rfl rfl)
theorem dX9_surveys_5 : decode cX9_surveys 5 = .ok (.iload_n 1, 1) := dk_27 (dk_at dksX9_surveys_0 5 rfl rfl)
theorem dX9_surveys_6 : decode cX9_surveys 6 = .ok (.imul, 1) := dk_104 (dk_at dksX9_surveys_0 6 rfl rfl)
theorem dX9_surveys_7 : decode cX9_surveys 7 = .ok (.iadd, 1) := dk_96 (dk_at dksX9_surveys_0 7 rfl rfl)
theorem dX9_surveys_8 : decode cX9_surveys 8 = .ok (.istore_n 2, 1) := dk_61 (dk_at dksX9_surveys_0 8 rfl rfl)
theorem dX9_surveys_9 : decode cX9_surveys 9 = .ok (.aload_n 0, 1) := dk_42 (dk_at dksX9_surveys_0 9 rfl rfl)
theorem dX9_surveys_10 : decode cX9_surveys 10 = .ok (.iload_n 2, 1) := dk_28 (dk_at dksX9_surveys_0 10 rfl rfl)
theorem dX9_surveys_11 : decode cX9_surveys 11 = .ok (.invokevirtual 141, 3) := dk_182 0 141 (dk_at dksX9_surveys_0 11 rfl rfl)
theorem dX9_surveys_14 : decode cX9_surveys 14 = .ok (.aload_n 0, 1) := dk_42 (dk_at dksX9_surveys_0 14 rfl rfl)
theorem dX9_surveys_15 : decode cX9_surveys 15 = .ok (.getfield 9, 3) := dk_180 0 9 (dk_at dksX9_surveys_0 15 rfl rfl)
theorem dX9_surveys_18 : decode cX9_surveys 18 = .ok (.iload_n 2, 1) := dk_28 (dk_at dksX9_surveys_0 18 rfl rfl)
theorem dX9_surveys_19 : decode cX9_surveys 19 = .ok (.iconst 0, 1) := dk_3 (dk_at dksX9_surveys_0 19 rfl rfl)
theorem dX9_surveys_20 : decode cX9_surveys 20 = .ok (.iadd, 1) := dk_96 (dk_at dksX9_surveys_0 20 rfl rfl)
theorem dX9_surveys_21 : decode cX9_surveys 21 = .ok (.iaload, 1) := dk_46 (dk_at dksX9_surveys_0 21 rfl rfl)
theorem dX9_surveys_22 : decode cX9_surveys 22 = .ok (.istore_n 3, 1) := dk_62 (dk_at dksX9_surveys_0 22 rfl rfl)
theorem dX9_surveys_23 : decode cX9_surveys 23 = .ok (.iload_n 3, 1) := dk_29 (dk_at dksX9_surveys_0 23 rfl rfl)
theorem dX9_surveys_24 : decode cX9_surveys 24 = .ok (.ifCond .le 114, 3) := dk_158 0 114 (dk_at dksX9_surveys_1 0 rfl rfl)
theorem dX9_surveys_27 : decode cX9_surveys 27 = .ok (.aload_n 0, 1) := dk_42 (dk_at dksX9_surveys_1 3 rfl rfl)
theorem dX9_surveys_28 : decode cX9_surveys 28 = .ok (.getfield 9, 3) := dk_180 0 9 (dk_at dksX9_surveys_1 4 rfl rfl)
theorem dX9_surveys_31 : decode cX9_surveys 31 = .ok (.iload_n 2, 1) := dk_28 (dk_at dksX9_surveys_1 7 rfl rfl)
theorem dX9_surveys_32 : decode cX9_surveys 32 = .ok (.iconst 2, 1) := dk_5 (dk_at dksX9_surveys_1 8 rfl rfl)
theorem dX9_surveys_33 : decode cX9_surveys 33 = .ok (.iadd, 1) := dk_96 (dk_at dksX9_surveys_1 9 rfl rfl)
theorem dX9_surveys_34 : decode cX9_surveys 34 = .ok (.iaload, 1) := dk_46 (dk_at dksX9_surveys_1 10 rfl rfl)
theorem dX9_surveys_35 : decode cX9_surveys 35 = .ok (.ifCond .le 103, 3) := dk_158 0 103 (dk_at dksX9_surveys_1 11 rfl rfl)
theorem dX9_surveys_38 : decode cX9_surveys 38 = .ok (.aload_n 0, 1) := dk_42 (dk_at dksX9_surveys_1 14 rfl rfl)
theorem dX9_surveys_39 : decode cX9_surveys 39 = .ok (.getfield 9, 3) := dk_180 0 9 (dk_at dksX9_surveys_1 15 rfl rfl)
theorem dX9_surveys_42 : decode cX9_surveys 42 = .ok (.iload_n 2, 1) := dk_28 (dk_at dksX9_surveys_1 18 rfl rfl)
theorem dX9_surveys_43 : decode cX9_surveys 43 = .ok (.iconst 3, 1) := dk_6 (dk_at dksX9_surveys_1 19 rfl rfl)
theorem dX9_surveys_44 : decode cX9_surveys 44 = .ok (.iadd, 1) := dk_96 (dk_at dksX9_surveys_1 20 rfl rfl)
theorem dX9_surveys_45 : decode cX9_surveys 45 = .ok (.iaload, 1) := dk_46 (dk_at dksX9_surveys_1 21 rfl rfl)
theorem dX9_surveys_46 : decode cX9_surveys 46 = .ok (.istore 4, 2) := dk_54 4 (dk_at dksX9_surveys_1 22 rfl rfl)
theorem dX9_surveys_48 : decode cX9_surveys 48 = .ok (.aload_n 0, 1) := dk_42 (dk_at dksX9_surveys_2 0 rfl rfl)
theorem dX9_surveys_49 : decode cX9_surveys 49 = .ok (.getfield 9, 3) := dk_180 0 9 (dk_at dksX9_surveys_2 1 rfl rfl)
theorem dX9_surveys_52 : decode cX9_surveys 52 = .ok (.iload_n 2, 1) := dk_28 (dk_at dksX9_surveys_2 4 rfl rfl)
theorem dX9_surveys_53 : decode cX9_surveys 53 = .ok (.iconst 1, 1) := dk_4 (dk_at dksX9_surveys_2 5 rfl rfl)
theorem dX9_surveys_54 : decode cX9_surveys 54 = .ok (.iadd, 1) := dk_96 (dk_at dksX9_surveys_2 6 rfl rfl)
theorem dX9_surveys_55 : decode cX9_surveys 55 = .ok (.iaload, 1) := dk_46 (dk_at dksX9_surveys_2 7 rfl rfl)
theorem dX9_surveys_56 : decode cX9_surveys 56 = .ok (.iload 4, 2) := dk_21 4 (dk_at dksX9_surveys_2 8 rfl rfl)
theorem dX9_surveys_58 : decode cX9_surveys 58 = .ok (.if_icmp .eq 27, 3) := dk_159 0 27 (dk_at dksX9_surveys_2 10 rfl rfl)
theorem dX9_surveys_61 : decode cX9_surveys 61 = .ok (.aload_n 0, 1) := dk_42 (dk_at dksX9_surveys_2 13 rfl rfl)
theorem dX9_surveys_62 : decode cX9_surveys 62 = .ok (.getfield 9, 3) := dk_180 0 9 (dk_at dksX9_surveys_2 14 rfl rfl)
theorem dX9_surveys_65 : decode cX9_surveys 65 = .ok (.iload_n 2, 1) := dk_28 (dk_at dksX9_surveys_2 17 rfl rfl)
theorem dX9_surveys_66 : decode cX9_surveys 66 = .ok (.iconst 1, 1) := dk_4 (dk_at dksX9_surveys_2 18 rfl rfl)
theorem dX9_surveys_67 : decode cX9_surveys 67 = .ok (.iadd, 1) := dk_96 (dk_at dksX9_surveys_2 19 rfl rfl)
theorem dX9_surveys_68 : decode cX9_surveys 68 = .ok (.aload_n 0, 1) := dk_42 (dk_at dksX9_surveys_2 20 rfl rfl)
theorem dX9_surveys_69 : decode cX9_surveys 69 = .ok (.getfield 9, 3) := dk_180 0 9 (dk_at dksX9_surveys_2 21 rfl rfl)
theorem dX9_surveys_72 : decode cX9_surveys 72 = .ok (.iload_n 2, 1) := dk_28 (dk_at dksX9_surveys_3 0 rfl rfl)
theorem dX9_surveys_73 : decode cX9_surveys 73 = .ok (.iconst 1, 1) := dk_4 (dk_at dksX9_surveys_3 1 rfl rfl)
theorem dX9_surveys_74 : decode cX9_surveys 74 = .ok (.iadd, 1) := dk_96 (dk_at dksX9_surveys_3 2 rfl rfl)
theorem dX9_surveys_75 : decode cX9_surveys 75 = .ok (.iaload, 1) := dk_46 (dk_at dksX9_surveys_3 3 rfl rfl)
theorem dX9_surveys_76 : decode cX9_surveys 76 = .ok (.iload 4, 2) := dk_21 4 (dk_at dksX9_surveys_3 4 rfl rfl)
theorem dX9_surveys_78 : decode cX9_surveys 78 = .ok (.invokestatic 144, 3) := dk_184 0 144 (dk_at dksX9_surveys_3 6 rfl rfl)
theorem dX9_surveys_81 : decode cX9_surveys 81 = .ok (.iastore, 1) := dk_79 (dk_at dksX9_surveys_3 9 rfl rfl)
theorem dX9_surveys_82 : decode cX9_surveys 82 = .ok (.goto 45, 3) := dk_167 0 45 (dk_at dksX9_surveys_3 10 rfl rfl)
theorem dX9_surveys_85 : decode cX9_surveys 85 = .ok (.aload_n 0, 1) := dk_42 (dk_at dksX9_surveys_3 13 rfl rfl)
theorem dX9_surveys_86 : decode cX9_surveys 86 = .ok (.getfield 9, 3) := dk_180 0 9 (dk_at dksX9_surveys_3 14 rfl rfl)
theorem dX9_surveys_89 : decode cX9_surveys 89 = .ok (.bipush 8, 2) := dk_16 8 (dk_at dksX9_surveys_3 17 rfl rfl)
theorem dX9_surveys_91 : decode cX9_surveys 91 = .ok (.iload 4, 2) := dk_21 4 (dk_at dksX9_surveys_3 19 rfl rfl)
theorem dX9_surveys_93 : decode cX9_surveys 93 = .ok (.imul, 1) := dk_104 (dk_at dksX9_surveys_3 21 rfl rfl)
theorem dX9_surveys_94 : decode cX9_surveys 94 = .ok (.bipush 7, 2) := dk_16 7 (dk_at dksX9_surveys_3 22 rfl rfl)
theorem dX9_surveys_96 : decode cX9_surveys 96 = .ok (.iadd, 1) := dk_96 (dk_at dksX9_surveys_4 0 rfl rfl)
theorem dX9_surveys_97 : decode cX9_surveys 97 = .ok (.dup2, 1) := dk_92 (dk_at dksX9_surveys_4 1 rfl rfl)
theorem dX9_surveys_98 : decode cX9_surveys 98 = .ok (.iaload, 1) := dk_46 (dk_at dksX9_surveys_4 2 rfl rfl)
theorem dX9_surveys_99 : decode cX9_surveys 99 = .ok (.iconst 1, 1) := dk_4 (dk_at dksX9_surveys_4 3 rfl rfl)
theorem dX9_surveys_100 : decode cX9_surveys 100 = .ok (.iadd, 1) := dk_96 (dk_at dksX9_surveys_4 4 rfl rfl)
theorem dX9_surveys_101 : decode cX9_surveys 101 = .ok (.iastore, 1) := dk_79 (dk_at dksX9_surveys_4 5 rfl rfl)
theorem dX9_surveys_102 : decode cX9_surveys 102 = .ok (.aload_n 0, 1) := dk_42 (dk_at dksX9_surveys_4 6 rfl rfl)
theorem dX9_surveys_103 : decode cX9_surveys 103 = .ok (.iload 4, 2) := dk_21 4 (dk_at dksX9_surveys_4 7 rfl rfl)
theorem dX9_surveys_105 : decode cX9_surveys 105 = .ok (.bipush 7, 2) := dk_16 7 (dk_at dksX9_surveys_4 9 rfl rfl)
theorem dX9_surveys_107 : decode cX9_surveys 107 = .ok (.invokevirtual 88, 3) := dk_182 0 88 (dk_at dksX9_surveys_4 11 rfl rfl)
theorem dX9_surveys_110 : decode cX9_surveys 110 = .ok (.aload_n 0, 1) := dk_42 (dk_at dksX9_surveys_4 14 rfl rfl)
theorem dX9_surveys_111 : decode cX9_surveys 111 = .ok (.iload 4, 2) := dk_21 4 (dk_at dksX9_surveys_4 15 rfl rfl)
theorem dX9_surveys_113 : decode cX9_surveys 113 = .ok (.invokevirtual 110, 3) := dk_182 0 110 (dk_at dksX9_surveys_4 17 rfl rfl)
theorem dX9_surveys_116 : decode cX9_surveys 116 = .ok (.if_icmp .ne 11, 3) := dk_160 0 11 (dk_at dksX9_surveys_4 20 rfl rfl)
theorem dX9_surveys_119 : decode cX9_surveys 119 = .ok (.aload_n 0, 1) := dk_42 (dk_at dksX9_surveys_4 23 rfl rfl)
theorem dX9_surveys_120 : decode cX9_surveys 120 = .ok (.iload 4, 2) := dk_21 4 (dk_at dksX9_surveys_5 0 rfl rfl)
theorem dX9_surveys_122 : decode cX9_surveys 122 = .ok (.iconst 1, 1) := dk_4 (dk_at dksX9_surveys_5 2 rfl rfl)
theorem dX9_surveys_123 : decode cX9_surveys 123 = .ok (.iconst (-1), 1) := dk_2 (dk_at dksX9_surveys_5 3 rfl rfl)
theorem dX9_surveys_124 : decode cX9_surveys 124 = .ok (.invokevirtual 147, 3) := dk_182 0 147 (dk_at dksX9_surveys_5 4 rfl rfl)
theorem dX9_surveys_127 : decode cX9_surveys 127 = .ok (.aload_n 0, 1) := dk_42 (dk_at dksX9_surveys_5 7 rfl rfl)
theorem dX9_surveys_128 : decode cX9_surveys 128 = .ok (.iload_n 2, 1) := dk_28 (dk_at dksX9_surveys_5 8 rfl rfl)
theorem dX9_surveys_129 : decode cX9_surveys 129 = .ok (.invokevirtual 141, 3) := dk_182 0 141 (dk_at dksX9_surveys_5 9 rfl rfl)
theorem dX9_surveys_132 : decode cX9_surveys 132 = .ok (.iinc 3 (-1), 3) := dk_132 3 255 (dk_at dksX9_surveys_5 12 rfl rfl)
theorem dX9_surveys_135 : decode cX9_surveys 135 = .ok (.goto (-112), 3) := dk_167 255 144 (dk_at dksX9_surveys_5 15 rfl rfl)
theorem dX9_surveys_138 : decode cX9_surveys 138 = .ok (.return_, 1) := dk_177 (dk_at dksX9_surveys_5 18 rfl rfl)
def dkwX9_passes_1 : List UInt8 := [153, 0, 11, 42, 27, 182, 0, 137, 167, 255, 224, 177]
abbrev dktX9_passes_1 : List UInt8 := dkwX9_passes_1 ++ []
def dkwX9_passes_0 : List UInt8 := [42, 180, 0, 9, 27, 5, 96, 46, 158, 0, 27, 42, 42, 180, 0, 9, 27, 6, 96, 46, 3, 182, 0, 88]
abbrev dktX9_passes_0 : List UInt8 := dkwX9_passes_0 ++ dktX9_passes_1
theorem dksX9_passes_0 : cX9_passes.data.toList.drop 0 = dktX9_passes_0 := by decide +kernel
theorem dksX9_passes_1 : cX9_passes.data.toList.drop 24 = dktX9_passes_1 := dk_seg dksX9_passes_0 24 rfl rfl
theorem dX9_passes_0 : decode cX9_passes 0 = .ok (.aload_n 0, 1) := dk_42 (dk_at dksX9_passes_0 0 rfl rfl)
theorem dX9_passes_1 : decode cX9_passes 1 = .ok (.getfield 9, 3) := dk_180 0 9 (dk_at dksX9_passes_0 1 rfl rfl)
theorem dX9_passes_4 : decode cX9_passes 4 = .ok (.iload_n 1, 1) := dk_27 (dk_at dksX9_passes_0 4 rfl rfl)
theorem dX9_passes_5 : decode cX9_passes 5 = .ok (.iconst 2, 1) := dk_5 (dk_at dksX9_passes_0 5 rfl rfl)
theorem dX9_passes_6 : decode cX9_passes 6 = .ok (.iadd, 1) := dk_96 (dk_at dksX9_passes_0 6 rfl rfl)
theorem dX9_passes_7 : decode cX9_passes 7 = .ok (.iaload, 1) := dk_46 (dk_at dksX9_passes_0 7 rfl rfl)
theorem dX9_passes_8 : decode cX9_passes 8 = .ok (.ifCond .le 27, 3) := dk_158 0 27 (dk_at dksX9_passes_0 8 rfl rfl)
theorem dX9_passes_11 : decode cX9_passes 11 = .ok (.aload_n 0, 1) := dk_42 (dk_at dksX9_passes_0 11 rfl rfl)
theorem dX9_passes_12 : decode cX9_passes 12 = .ok (.aload_n 0, 1) := dk_42 (dk_at dksX9_passes_0 12 rfl rfl)
theorem dX9_passes_13 : decode cX9_passes 13 = .ok (.getfield 9, 3) := dk_180 0 9 (dk_at dksX9_passes_0 13 rfl rfl)
theorem dX9_passes_16 : decode cX9_passes 16 = .ok (.iload_n 1, 1) := dk_27 (dk_at dksX9_passes_0 16 rfl rfl)
theorem dX9_passes_17 : decode cX9_passes 17 = .ok (.iconst 3, 1) := dk_6 (dk_at dksX9_passes_0 17 rfl rfl)
theorem dX9_passes_18 : decode cX9_passes 18 = .ok (.iadd, 1) := dk_96 (dk_at dksX9_passes_0 18 rfl rfl)
theorem dX9_passes_19 : decode cX9_passes 19 = .ok (.iaload, 1) := dk_46 (dk_at dksX9_passes_0 19 rfl rfl)
theorem dX9_passes_20 : decode cX9_passes 20 = .ok (.iconst 0, 1) := dk_3 (dk_at dksX9_passes_0 20 rfl rfl)
theorem dX9_passes_21 : decode cX9_passes 21 = .ok (.invokevirtual 88, 3) := dk_182 0 88 (dk_at dksX9_passes_0 21 rfl rfl)
theorem dX9_passes_24 : decode cX9_passes 24 = .ok (.ifCond .eq 11, 3) := dk_153 0 11 (dk_at dksX9_passes_1 0 rfl rfl)
theorem dX9_passes_27 : decode cX9_passes 27 = .ok (.aload_n 0, 1) := dk_42 (dk_at dksX9_passes_1 3 rfl rfl)
theorem dX9_passes_28 : decode cX9_passes 28 = .ok (.iload_n 1, 1) := dk_27 (dk_at dksX9_passes_1 4 rfl rfl)
theorem dX9_passes_29 : decode cX9_passes 29 = .ok (.invokevirtual 137, 3) := dk_182 0 137 (dk_at dksX9_passes_1 5 rfl rfl)
theorem dX9_passes_32 : decode cX9_passes 32 = .ok (.goto (-32), 3) := dk_167 255 224 (dk_at dksX9_passes_1 8 rfl rfl)
theorem dX9_passes_35 : decode cX9_passes 35 = .ok (.return_, 1) := dk_177 (dk_at dksX9_passes_1 11 rfl rfl)
def dkwX9_dequeues_2 : List UInt8 := [79, 132, 2, 1, 167, 255, 219, 177]
abbrev dktX9_dequeues_2 : List UInt8 := dkwX9_dequeues_2 ++ []
def dkwX9_dequeues_1 : List UInt8 := [162, 0, 31, 42, 180, 0, 9, 27, 6, 96, 28, 96, 42, 180, 0, 9, 27, 6, 96, 28, 96, 4, 96, 46]
abbrev dktX9_dequeues_1 : List UInt8 := dkwX9_dequeues_1 ++ dktX9_dequeues_2
def dkwX9_dequeues_0 : List UInt8 := [42, 180, 0, 9, 27, 5, 96, 92, 46, 4, 100, 79, 3, 61, 28, 42, 180, 0, 9, 27, 5, 96, 46]
abbrev dktX9_dequeues_0 : List UInt8 := dkwX9_dequeues_0 ++ dktX9_dequeues_1
theorem dksX9_dequeues_0 : cX9_dequeues.data.toList.drop 0 = dktX9_dequeues_0 := by decide +kernel
theorem dksX9_dequeues_1 : cX9_dequeues.data.toList.drop 23 = dktX9_dequeues_1 := dk_seg dksX9_dequeues_0 23 rfl rfl
theorem dksX9_dequeues_2 : cX9_dequeues.data.toList.drop 47 = dktX9_dequeues_2 := dk_seg dksX9_dequeues_1 24 rfl rfl
theorem dX9_dequeues_0 : decode cX9_dequeues 0 = .ok (.aload_n 0, 1) := dk_42 (dk_at dksX9_dequeues_0 0 rfl rfl)
theorem dX9_dequeues_1 : decode cX9_dequeues 1 = .ok (.getfield 9, 3) := dk_180 0 9 (dk_at dksX9_dequeues_0 1 rfl rfl)
theorem dX9_dequeues_4 : decode cX9_dequeues 4 = .ok (.iload_n 1, 1) := dk_27 (dk_at dksX9_dequeues_0 4 rfl rfl)
theorem dX9_dequeues_5 : decode cX9_dequeues 5 = .ok (.iconst 2, 1) := dk_5 (dk_at dksX9_dequeues_0 5 rfl rfl)
theorem dX9_dequeues_6 : decode cX9_dequeues 6 = .ok (.iadd, 1) := dk_96 (dk_at dksX9_dequeues_0 6 rfl rfl)
theorem dX9_dequeues_7 : decode cX9_dequeues 7 = .ok (.dup2, 1) := dk_92 (dk_at dksX9_dequeues_0 7 rfl rfl)
theorem dX9_dequeues_8 : decode cX9_dequeues 8 = .ok (.iaload, 1) := dk_46 (dk_at dksX9_dequeues_0 8 rfl rfl)
theorem dX9_dequeues_9 : decode cX9_dequeues 9 = .ok (.iconst 1, 1) := dk_4 (dk_at dksX9_dequeues_0 9 rfl rfl)
theorem dX9_dequeues_10 : decode cX9_dequeues 10 = .ok (.isub, 1) := dk_100 (dk_at dksX9_dequeues_0 10 rfl rfl)
theorem dX9_dequeues_11 : decode cX9_dequeues 11 = .ok (.iastore, 1) := dk_79 (dk_at dksX9_dequeues_0 11 rfl rfl)
theorem dX9_dequeues_12 : decode cX9_dequeues 12 = .ok (.iconst 0, 1) := dk_3 (dk_at dksX9_dequeues_0 12 rfl rfl)
theorem dX9_dequeues_13 : decode cX9_dequeues 13 = .ok (.istore_n 2, 1) := dk_61 (dk_at dksX9_dequeues_0 13 rfl rfl)
theorem dX9_dequeues_14 : decode cX9_dequeues 14 = .ok (.iload_n 2, 1) := dk_28 (dk_at dksX9_dequeues_0 14 rfl rfl)
theorem dX9_dequeues_15 : decode cX9_dequeues 15 = .ok (.aload_n 0, 1) := dk_42 (dk_at dksX9_dequeues_0 15 rfl rfl)
theorem dX9_dequeues_16 : decode cX9_dequeues 16 = .ok (.getfield 9, 3) := dk_180 0 9 (dk_at dksX9_dequeues_0 16 rfl rfl)
theorem dX9_dequeues_19 : decode cX9_dequeues 19 = .ok (.iload_n 1, 1) := dk_27 (dk_at dksX9_dequeues_0 19 rfl rfl)
theorem dX9_dequeues_20 : decode cX9_dequeues 20 = .ok (.iconst 2, 1) := dk_5 (dk_at dksX9_dequeues_0 20 rfl rfl)
theorem dX9_dequeues_21 : decode cX9_dequeues 21 = .ok (.iadd, 1) := dk_96 (dk_at dksX9_dequeues_0 21 rfl rfl)
theorem dX9_dequeues_22 : decode cX9_dequeues 22 = .ok (.iaload, 1) := dk_46 (dk_at dksX9_dequeues_0 22 rfl rfl)
theorem dX9_dequeues_23 : decode cX9_dequeues 23 = .ok (.if_icmp .ge 31, 3) := dk_162 0 31 (dk_at dksX9_dequeues_1 0 rfl rfl)
theorem dX9_dequeues_26 : decode cX9_dequeues 26 = .ok (.aload_n 0, 1) := dk_42 (dk_at dksX9_dequeues_1 3 rfl rfl)
theorem dX9_dequeues_27 : decode cX9_dequeues 27 = .ok (.getfield 9, 3) := dk_180 0 9 (dk_at dksX9_dequeues_1 4 rfl rfl)
theorem dX9_dequeues_30 : decode cX9_dequeues 30 = .ok (.iload_n 1, 1) := dk_27 (dk_at dksX9_dequeues_1 7 rfl rfl)
theorem dX9_dequeues_31 : decode cX9_dequeues 31 = .ok (.iconst 3, 1) := dk_6 (dk_at dksX9_dequeues_1 8 rfl rfl)
theorem dX9_dequeues_32 : decode cX9_dequeues 32 = .ok (.iadd, 1) := dk_96 (dk_at dksX9_dequeues_1 9 rfl rfl)
theorem dX9_dequeues_33 : decode cX9_dequeues 33 = .ok (.iload_n 2, 1) := dk_28 (dk_at dksX9_dequeues_1 10 rfl rfl)
theorem dX9_dequeues_34 : decode cX9_dequeues 34 = .ok (.iadd, 1) := dk_96 (dk_at dksX9_dequeues_1 11 rfl rfl)
theorem dX9_dequeues_35 : decode cX9_dequeues 35 = .ok (.aload_n 0, 1) := dk_42 (dk_at dksX9_dequeues_1 12 rfl rfl)
theorem dX9_dequeues_36 : decode cX9_dequeues 36 = .ok (.getfield 9, 3) := dk_180 0 9 (dk_at dksX9_dequeues_1 13 rfl rfl)
theorem dX9_dequeues_39 : decode cX9_dequeues 39 = .ok (.iload_n 1, 1) := dk_27 (dk_at dksX9_dequeues_1 16 rfl rfl)
theorem dX9_dequeues_40 : decode cX9_dequeues 40 = .ok (.iconst 3, 1) := dk_6 (dk_at dksX9_dequeues_1 17 rfl rfl)
theorem dX9_dequeues_41 : decode cX9_dequeues 41 = .ok (.iadd, 1) := dk_96 (dk_at dksX9_dequeues_1 18 rfl rfl)
theorem dX9_dequeues_42 : decode cX9_dequeues 42 = .ok (.iload_n 2, 1) := dk_28 (dk_at dksX9_dequeues_1 19 rfl rfl)
theorem dX9_dequeues_43 : decode cX9_dequeues 43 = .ok (.iadd, 1) := dk_96 (dk_at dksX9_dequeues_1 20 rfl rfl)
theorem dX9_dequeues_44 : decode cX9_dequeues 44 = .ok (.iconst 1, 1) := dk_4 (dk_at dksX9_dequeues_1 21 rfl rfl)
theorem dX9_dequeues_45 : decode cX9_dequeues 45 = .ok (.iadd, 1) := dk_96 (dk_at dksX9_dequeues_1 22 rfl rfl)
theorem dX9_dequeues_46 : decode cX9_dequeues 46 = .ok (.iaload, 1) := dk_46 (dk_at dksX9_dequeues_1 23 rfl rfl)
theorem dX9_dequeues_47 : decode cX9_dequeues 47 = .ok (.iastore, 1) := dk_79 (dk_at dksX9_dequeues_2 0 rfl rfl)
theorem dX9_dequeues_48 : decode cX9_dequeues 48 = .ok (.iinc 2 1, 3) := dk_132 2 1 (dk_at dksX9_dequeues_2 1 rfl rfl)
theorem dX9_dequeues_51 : decode cX9_dequeues 51 = .ok (.goto (-37), 3) := dk_167 255 219 (dk_at dksX9_dequeues_2 4 rfl rfl)
theorem dX9_dequeues_54 : decode cX9_dequeues 54 = .ok (.return_, 1) := dk_177 (dk_at dksX9_dequeues_2 7 rfl rfl)
def dkwX9_nearer_2 : List UInt8 := [100, 172]
abbrev dktX9_nearer_2 : List UInt8 := dkwX9_nearer_2 ++ []
def dkwX9_nearer_1 : List UInt8 := [164, 0, 9, 26, 4, 100, 167, 0, 19, 26, 27, 162, 0, 10, 26, 16, 12, 96, 167, 0, 7, 26, 16, 12]
abbrev dktX9_nearer_1 : List UInt8 := dkwX9_nearer_1 ++ dktX9_nearer_2
def dkwX9_nearer_0 : List UInt8 := [26, 16, 12, 112, 61, 27, 16, 12, 112, 62, 28, 29, 162, 0, 9, 26, 4, 96, 167, 0, 30, 28, 29]
abbrev dktX9_nearer_0 : List UInt8 := dkwX9_nearer_0 ++ dktX9_nearer_1
theorem dksX9_nearer_0 : cX9_nearer.data.toList.drop 0 = dktX9_nearer_0 := by decide +kernel
theorem dksX9_nearer_1 : cX9_nearer.data.toList.drop 23 = dktX9_nearer_1 := dk_seg dksX9_nearer_0 23 rfl rfl
theorem dksX9_nearer_2 : cX9_nearer.data.toList.drop 47 = dktX9_nearer_2 := dk_seg dksX9_nearer_1 24 rfl rfl
theorem dX9_nearer_0 : decode cX9_nearer 0 = .ok (.iload_n 0, 1) := dk_26 (dk_at dksX9_nearer_0 0 rfl rfl)
theorem dX9_nearer_1 : decode cX9_nearer 1 = .ok (.bipush 12, 2) := dk_16 12 (dk_at dksX9_nearer_0 1 rfl rfl)
theorem dX9_nearer_3 : decode cX9_nearer 3 = .ok (.irem, 1) := dk_112 (dk_at dksX9_nearer_0 3 rfl rfl)
theorem dX9_nearer_4 : decode cX9_nearer 4 = .ok (.istore_n 2, 1) := dk_61 (dk_at dksX9_nearer_0 4 rfl rfl)
theorem dX9_nearer_5 : decode cX9_nearer 5 = .ok (.iload_n 1, 1) := dk_27 (dk_at dksX9_nearer_0 5 rfl rfl)
theorem dX9_nearer_6 : decode cX9_nearer 6 = .ok (.bipush 12, 2) := dk_16 12 (dk_at dksX9_nearer_0 6 rfl rfl)
theorem dX9_nearer_8 : decode cX9_nearer 8 = .ok (.irem, 1) := dk_112 (dk_at dksX9_nearer_0 8 rfl rfl)
theorem dX9_nearer_9 : decode cX9_nearer 9 = .ok (.istore_n 3, 1) := dk_62 (dk_at dksX9_nearer_0 9 rfl rfl)
theorem dX9_nearer_10 : decode cX9_nearer 10 = .ok (.iload_n 2, 1) := dk_28 (dk_at dksX9_nearer_0 10 rfl rfl)
theorem dX9_nearer_11 : decode cX9_nearer 11 = .ok (.iload_n 3, 1) := dk_29 (dk_at dksX9_nearer_0 11 rfl rfl)
theorem dX9_nearer_12 : decode cX9_nearer 12 = .ok (.if_icmp .ge 9, 3) := dk_162 0 9 (dk_at dksX9_nearer_0 12 rfl rfl)
theorem dX9_nearer_15 : decode cX9_nearer 15 = .ok (.iload_n 0, 1) := dk_26 (dk_at dksX9_nearer_0 15 rfl rfl)
theorem dX9_nearer_16 : decode cX9_nearer 16 = .ok (.iconst 1, 1) := dk_4 (dk_at dksX9_nearer_0 16 rfl rfl)
theorem dX9_nearer_17 : decode cX9_nearer 17 = .ok (.iadd, 1) := dk_96 (dk_at dksX9_nearer_0 17 rfl rfl)
theorem dX9_nearer_18 : decode cX9_nearer 18 = .ok (.goto 30, 3) := dk_167 0 30 (dk_at dksX9_nearer_0 18 rfl rfl)
theorem dX9_nearer_21 : decode cX9_nearer 21 = .ok (.iload_n 2, 1) := dk_28 (dk_at dksX9_nearer_0 21 rfl rfl)
theorem dX9_nearer_22 : decode cX9_nearer 22 = .ok (.iload_n 3, 1) := dk_29 (dk_at dksX9_nearer_0 22 rfl rfl)
theorem dX9_nearer_23 : decode cX9_nearer 23 = .ok (.if_icmp .le 9, 3) := dk_164 0 9 (dk_at dksX9_nearer_1 0 rfl rfl)
theorem dX9_nearer_26 : decode cX9_nearer 26 = .ok (.iload_n 0, 1) := dk_26 (dk_at dksX9_nearer_1 3 rfl rfl)
theorem dX9_nearer_27 : decode cX9_nearer 27 = .ok (.iconst 1, 1) := dk_4 (dk_at dksX9_nearer_1 4 rfl rfl)
theorem dX9_nearer_28 : decode cX9_nearer 28 = .ok (.isub, 1) := dk_100 (dk_at dksX9_nearer_1 5 rfl rfl)
theorem dX9_nearer_29 : decode cX9_nearer 29 = .ok (.goto 19, 3) := dk_167 0 19 (dk_at dksX9_nearer_1 6 rfl rfl)
theorem dX9_nearer_32 : decode cX9_nearer 32 = .ok (.iload_n 0, 1) := dk_26 (dk_at dksX9_nearer_1 9 rfl rfl)
theorem dX9_nearer_33 : decode cX9_nearer 33 = .ok (.iload_n 1, 1) := dk_27 (dk_at dksX9_nearer_1 10 rfl rfl)
theorem dX9_nearer_34 : decode cX9_nearer 34 = .ok (.if_icmp .ge 10, 3) := dk_162 0 10 (dk_at dksX9_nearer_1 11 rfl rfl)
theorem dX9_nearer_37 : decode cX9_nearer 37 = .ok (.iload_n 0, 1) := dk_26 (dk_at dksX9_nearer_1 14 rfl rfl)
theorem dX9_nearer_38 : decode cX9_nearer 38 = .ok (.bipush 12, 2) := dk_16 12 (dk_at dksX9_nearer_1 15 rfl rfl)
theorem dX9_nearer_40 : decode cX9_nearer 40 = .ok (.iadd, 1) := dk_96 (dk_at dksX9_nearer_1 17 rfl rfl)
theorem dX9_nearer_41 : decode cX9_nearer 41 = .ok (.goto 7, 3) := dk_167 0 7 (dk_at dksX9_nearer_1 18 rfl rfl)
theorem dX9_nearer_44 : decode cX9_nearer 44 = .ok (.iload_n 0, 1) := dk_26 (dk_at dksX9_nearer_1 21 rfl rfl)
theorem dX9_nearer_45 : decode cX9_nearer 45 = .ok (.bipush 12, 2) := dk_16 12 (dk_at dksX9_nearer_1 22 rfl rfl)
theorem dX9_nearer_47 : decode cX9_nearer 47 = .ok (.isub, 1) := dk_100 (dk_at dksX9_nearer_2 0 rfl rfl)
theorem dX9_nearer_48 : decode cX9_nearer 48 = .ok (.ireturn, 1) := dk_172 (dk_at dksX9_nearer_2 1 rfl rfl)
def dkwX9_holds_3 : List UInt8 := [42, 180, 0, 9, 16, 8, 27, 104, 16, 6, 96, 2, 79, 177]
abbrev dktX9_holds_3 : List UInt8 := dkwX9_holds_3 ++ []
def dkwX9_holds_2 : List UInt8 := [42, 180, 0, 9, 16, 8, 27, 104, 7, 96, 3, 79, 42, 180, 0, 9, 16, 8, 27, 104, 8, 96, 2, 79]
abbrev dktX9_holds_2 : List UInt8 := dkwX9_holds_2 ++ dktX9_holds_3
def dkwX9_holds_1 : List UInt8 := [42, 180, 0, 9, 16, 8, 27, 104, 5, 96, 3, 79, 42, 180, 0, 9, 16, 8, 27, 104, 6, 96, 3, 79]
abbrev dktX9_holds_1 : List UInt8 := dkwX9_holds_1 ++ dktX9_holds_2
def dkwX9_holds_0 : List UInt8 := [42, 180, 0, 9, 16, 8, 27, 104, 3, 96, 28, 79, 42, 180, 0, 9, 16, 8, 27, 104, 4, 96, 29, 79]
abbrev dktX9_holds_0 : List UInt8 := dkwX9_holds_0 ++ dktX9_holds_1
theorem dksX9_holds_0 : cX9_holds.data.toList.drop 0 = dktX9_holds_0 := by decide +kernel
theorem dksX9_holds_1 : cX9_holds.data.toList.drop 24 = dktX9_holds_1 := dk_seg dksX9_holds_0 24 rfl rfl
theorem dksX9_holds_2 : cX9_holds.data.toList.drop 48 = dktX9_holds_2 := dk_seg dksX9_holds_1 24 rfl rfl
theorem dksX9_holds_3 : cX9_holds.data.toList.drop 72 = dktX9_holds_3 := dk_seg dksX9_holds_2 24 rfl rfl
theorem dX9_holds_0 : decode cX9_holds 0 = .ok (.aload_n 0, 1) := dk_42 (dk_at dksX9_holds_0 0 rfl rfl)
theorem dX9_holds_1 : decode cX9_holds 1 = .ok (.getfield 9, 3) := dk_180 0 9 (dk_at dksX9_holds_0 1 rfl rfl)
theorem dX9_holds_4 : decode cX9_holds 4 = .ok (.bipush 8, 2) := dk_16 8 (dk_at dksX9_holds_0 4 rfl rfl)
theorem dX9_holds_6 : decode cX9_holds 6 = .ok (.iload_n 1, 1) := dk_27 (dk_at dksX9_holds_0 6 rfl rfl)
theorem dX9_holds_7 : decode cX9_holds 7 = .ok (.imul, 1) := dk_104 (dk_at dksX9_holds_0 7 rfl rfl)
theorem dX9_holds_8 : decode cX9_holds 8 = .ok (.iconst 0, 1) := dk_3 (dk_at dksX9_holds_0 8 rfl rfl)
theorem dX9_holds_9 : decode cX9_holds 9 = .ok (.iadd, 1) := dk_96 (dk_at dksX9_holds_0 9 rfl rfl)
theorem dX9_holds_10 : decode cX9_holds 10 = .ok (.iload_n 2, 1) := dk_28 (dk_at dksX9_holds_0 10 rfl rfl)
theorem dX9_holds_11 : decode cX9_holds 11 = .ok (.iastore, 1) := dk_79 (dk_at dksX9_holds_0 11 rfl rfl)
theorem dX9_holds_12 : decode cX9_holds 12 = .ok (.aload_n 0, 1) := dk_42 (dk_at dksX9_holds_0 12 rfl rfl)
theorem dX9_holds_13 : decode cX9_holds 13 = .ok (.getfield 9, 3) := dk_180 0 9 (dk_at dksX9_holds_0 13 rfl rfl)
theorem dX9_holds_16 : decode cX9_holds 16 = .ok (.bipush 8, 2) := dk_16 8 (dk_at dksX9_holds_0 16 rfl rfl)
theorem dX9_holds_18 : decode cX9_holds 18 = .ok (.iload_n 1, 1) := dk_27 (dk_at dksX9_holds_0 18 rfl rfl)
theorem dX9_holds_19 : decode cX9_holds 19 = .ok (.imul, 1) := dk_104 (dk_at dksX9_holds_0 19 rfl rfl)
theorem dX9_holds_20 : decode cX9_holds 20 = .ok (.iconst 1, 1) := dk_4 (dk_at dksX9_holds_0 20 rfl rfl)
theorem dX9_holds_21 : decode cX9_holds 21 = .ok (.iadd, 1) := dk_96 (dk_at dksX9_holds_0 21 rfl rfl)
theorem dX9_holds_22 : decode cX9_holds 22 = .ok (.iload_n 3, 1) := dk_29 (dk_at dksX9_holds_0 22 rfl rfl)
theorem dX9_holds_23 : decode cX9_holds 23 = .ok (.iastore, 1) := dk_79 (dk_at dksX9_holds_0 23 rfl rfl)
theorem dX9_holds_24 : decode cX9_holds 24 = .ok (.aload_n 0, 1) := dk_42 (dk_at dksX9_holds_1 0 rfl rfl)
theorem dX9_holds_25 : decode cX9_holds 25 = .ok (.getfield 9, 3) := dk_180 0 9 (dk_at dksX9_holds_1 1 rfl rfl)
theorem dX9_holds_28 : decode cX9_holds 28 = .ok (.bipush 8, 2) := dk_16 8 (dk_at dksX9_holds_1 4 rfl rfl)
theorem dX9_holds_30 : decode cX9_holds 30 = .ok (.iload_n 1, 1) := dk_27 (dk_at dksX9_holds_1 6 rfl rfl)
theorem dX9_holds_31 : decode cX9_holds 31 = .ok (.imul, 1) := dk_104 (dk_at dksX9_holds_1 7 rfl rfl)
theorem dX9_holds_32 : decode cX9_holds 32 = .ok (.iconst 2, 1) := dk_5 (dk_at dksX9_holds_1 8 rfl rfl)
theorem dX9_holds_33 : decode cX9_holds 33 = .ok (.iadd, 1) := dk_96 (dk_at dksX9_holds_1 9 rfl rfl)
theorem dX9_holds_34 : decode cX9_holds 34 = .ok (.iconst 0, 1) := dk_3 (dk_at dksX9_holds_1 10 rfl rfl)
theorem dX9_holds_35 : decode cX9_holds 35 = .ok (.iastore, 1) := dk_79 (dk_at dksX9_holds_1 11 rfl rfl)
theorem dX9_holds_36 : decode cX9_holds 36 = .ok (.aload_n 0, 1) := dk_42 (dk_at dksX9_holds_1 12 rfl rfl)
theorem dX9_holds_37 : decode cX9_holds 37 = .ok (.getfield 9, 3) := dk_180 0 9 (dk_at dksX9_holds_1 13 rfl rfl)
theorem dX9_holds_40 : decode cX9_holds 40 = .ok (.bipush 8, 2) := dk_16 8 (dk_at dksX9_holds_1 16 rfl rfl)
theorem dX9_holds_42 : decode cX9_holds 42 = .ok (.iload_n 1, 1) := dk_27 (dk_at dksX9_holds_1 18 rfl rfl)
theorem dX9_holds_43 : decode cX9_holds 43 = .ok (.imul, 1) := dk_104 (dk_at dksX9_holds_1 19 rfl rfl)
theorem dX9_holds_44 : decode cX9_holds 44 = .ok (.iconst 3, 1) := dk_6 (dk_at dksX9_holds_1 20 rfl rfl)
theorem dX9_holds_45 : decode cX9_holds 45 = .ok (.iadd, 1) := dk_96 (dk_at dksX9_holds_1 21 rfl rfl)
theorem dX9_holds_46 : decode cX9_holds 46 = .ok (.iconst 0, 1) := dk_3 (dk_at dksX9_holds_1 22 rfl rfl)
theorem dX9_holds_47 : decode cX9_holds 47 = .ok (.iastore, 1) := dk_79 (dk_at dksX9_holds_1 23 rfl rfl)
theorem dX9_holds_48 : decode cX9_holds 48 = .ok (.aload_n 0, 1) := dk_42 (dk_at dksX9_holds_2 0 rfl rfl)
theorem dX9_holds_49 : decode cX9_holds 49 = .ok (.getfield 9, 3) := dk_180 0 9 (dk_at dksX9_holds_2 1 rfl rfl)
theorem dX9_holds_52 : decode cX9_holds 52 = .ok (.bipush 8, 2) := dk_16 8 (dk_at dksX9_holds_2 4 rfl rfl)
theorem dX9_holds_54 : decode cX9_holds 54 = .ok (.iload_n 1, 1) := dk_27 (dk_at dksX9_holds_2 6 rfl rfl)
theorem dX9_holds_55 : decode cX9_holds 55 = .ok (.imul, 1) := dk_104 (dk_at dksX9_holds_2 7 rfl rfl)
theorem dX9_holds_56 : decode cX9_holds 56 = .ok (.iconst 4, 1) := dk_7 (dk_at dksX9_holds_2 8 rfl rfl)
theorem dX9_holds_57 : decode cX9_holds 57 = .ok (.iadd, 1) := dk_96 (dk_at dksX9_holds_2 9 rfl rfl)
theorem dX9_holds_58 : decode cX9_holds 58 = .ok (.iconst 0, 1) := dk_3 (dk_at dksX9_holds_2 10 rfl rfl)
theorem dX9_holds_59 : decode cX9_holds 59 = .ok (.iastore, 1) := dk_79 (dk_at dksX9_holds_2 11 rfl rfl)
theorem dX9_holds_60 : decode cX9_holds 60 = .ok (.aload_n 0, 1) := dk_42 (dk_at dksX9_holds_2 12 rfl rfl)
theorem dX9_holds_61 : decode cX9_holds 61 = .ok (.getfield 9, 3) := dk_180 0 9 (dk_at dksX9_holds_2 13 rfl rfl)
theorem dX9_holds_64 : decode cX9_holds 64 = .ok (.bipush 8, 2) := dk_16 8 (dk_at dksX9_holds_2 16 rfl rfl)
theorem dX9_holds_66 : decode cX9_holds 66 = .ok (.iload_n 1, 1) := dk_27 (dk_at dksX9_holds_2 18 rfl rfl)
theorem dX9_holds_67 : decode cX9_holds 67 = .ok (.imul, 1) := dk_104 (dk_at dksX9_holds_2 19 rfl rfl)
theorem dX9_holds_68 : decode cX9_holds 68 = .ok (.iconst 5, 1) := dk_8 (dk_at dksX9_holds_2 20 rfl rfl)
theorem dX9_holds_69 : decode cX9_holds 69 = .ok (.iadd, 1) := dk_96 (dk_at dksX9_holds_2 21 rfl rfl)
theorem dX9_holds_70 : decode cX9_holds 70 = .ok (.iconst (-1), 1) := dk_2 (dk_at dksX9_holds_2 22 rfl rfl)
theorem dX9_holds_71 : decode cX9_holds 71 = .ok (.iastore, 1) := dk_79 (dk_at dksX9_holds_2 23 rfl rfl)
theorem dX9_holds_72 : decode cX9_holds 72 = .ok (.aload_n 0, 1) := dk_42 (dk_at dksX9_holds_3 0 rfl rfl)
theorem dX9_holds_73 : decode cX9_holds 73 = .ok (.getfield 9, 3) := dk_180 0 9 (dk_at dksX9_holds_3 1 rfl rfl)
theorem dX9_holds_76 : decode cX9_holds 76 = .ok (.bipush 8, 2) := dk_16 8 (dk_at dksX9_holds_3 4 rfl rfl)
theorem dX9_holds_78 : decode cX9_holds 78 = .ok (.iload_n 1, 1) := dk_27 (dk_at dksX9_holds_3 6 rfl rfl)
theorem dX9_holds_79 : decode cX9_holds 79 = .ok (.imul, 1) := dk_104 (dk_at dksX9_holds_3 7 rfl rfl)
theorem dX9_holds_80 : decode cX9_holds 80 = .ok (.bipush 6, 2) := dk_16 6 (dk_at dksX9_holds_3 8 rfl rfl)
theorem dX9_holds_82 : decode cX9_holds 82 = .ok (.iadd, 1) := dk_96 (dk_at dksX9_holds_3 10 rfl rfl)
theorem dX9_holds_83 : decode cX9_holds 83 = .ok (.iconst (-1), 1) := dk_2 (dk_at dksX9_holds_3 11 rfl rfl)
theorem dX9_holds_84 : decode cX9_holds 84 = .ok (.iastore, 1) := dk_79 (dk_at dksX9_holds_3 12 rfl rfl)
theorem dX9_holds_85 : decode cX9_holds 85 = .ok (.return_, 1) := dk_177 (dk_at dksX9_holds_3 13 rfl rfl)
def dkwX9_back_1 : List UInt8 := [167, 255, 234, 177]
abbrev dktX9_back_1 : List UInt8 := dkwX9_back_1 ++ []
def dkwX9_back_0 : List UInt8 := [3, 60, 27, 17, 8, 84, 162, 0, 21, 42, 180, 0, 9, 27, 42, 180, 0, 13, 27, 46, 79, 132, 1, 1]
abbrev dktX9_back_0 : List UInt8 := dkwX9_back_0 ++ dktX9_back_1
theorem dksX9_back_0 : cX9_back.data.toList.drop 0 = dktX9_back_0 := by decide +kernel
theorem dksX9_back_1 : cX9_back.data.toList.drop 24 = dktX9_back_1 := dk_seg dksX9_back_0 24 rfl rfl
theorem dX9_back_0 : decode cX9_back 0 = .ok (.iconst 0, 1) := dk_3 (dk_at dksX9_back_0 0 rfl rfl)
theorem dX9_back_1 : decode cX9_back 1 = .ok (.istore_n 1, 1) := dk_60 (dk_at dksX9_back_0 1 rfl rfl)
theorem dX9_back_2 : decode cX9_back 2 = .ok (.iload_n 1, 1) := dk_27 (dk_at dksX9_back_0 2 rfl rfl)
theorem dX9_back_3 : decode cX9_back 3 = .ok (.sipush 2132, 3) := dk_17 8 84 (dk_at dksX9_back_0 3 rfl rfl)
theorem dX9_back_6 : decode cX9_back 6 = .ok (.if_icmp .ge 21, 3) := dk_162 0 21 (dk_at dksX9_back_0 6 rfl rfl)
theorem dX9_back_9 : decode cX9_back 9 = .ok (.aload_n 0, 1) := dk_42 (dk_at dksX9_back_0 9 rfl rfl)
theorem dX9_back_10 : decode cX9_back 10 = .ok (.getfield 9, 3) := dk_180 0 9 (dk_at dksX9_back_0 10 rfl rfl)
theorem dX9_back_13 : decode cX9_back 13 = .ok (.iload_n 1, 1) := dk_27 (dk_at dksX9_back_0 13 rfl rfl)
theorem dX9_back_14 : decode cX9_back 14 = .ok (.aload_n 0, 1) := dk_42 (dk_at dksX9_back_0 14 rfl rfl)
theorem dX9_back_15 : decode cX9_back 15 = .ok (.getfield 13, 3) := dk_180 0 13 (dk_at dksX9_back_0 15 rfl rfl)
theorem dX9_back_18 : decode cX9_back 18 = .ok (.iload_n 1, 1) := dk_27 (dk_at dksX9_back_0 18 rfl rfl)
theorem dX9_back_19 : decode cX9_back 19 = .ok (.iaload, 1) := dk_46 (dk_at dksX9_back_0 19 rfl rfl)
theorem dX9_back_20 : decode cX9_back 20 = .ok (.iastore, 1) := dk_79 (dk_at dksX9_back_0 20 rfl rfl)
theorem dX9_back_21 : decode cX9_back 21 = .ok (.iinc 1 1, 3) := dk_132 1 1 (dk_at dksX9_back_0 21 rfl rfl)
theorem dX9_back_24 : decode cX9_back 24 = .ok (.goto (-22), 3) := dk_167 255 234 (dk_at dksX9_back_1 0 rfl rfl)
theorem dX9_back_27 : decode cX9_back 27 = .ok (.return_, 1) := dk_177 (dk_at dksX9_back_1 3 rfl rfl)
def dkwX9_ask_7 : List UInt8 := [92, 46, 4, 96, 79, 42, 180, 0, 9, 17, 8, 82, 46, 172]
abbrev dktX9_ask_7 : List UInt8 := dkwX9_ask_7 ++ []
def dkwX9_ask_6 : List UInt8 := [180, 0, 9, 17, 8, 44, 42, 180, 0, 9, 17, 8, 82, 46, 96, 27, 79, 42, 180, 0, 9, 17, 8, 82]
abbrev dktX9_ask_6 : List UInt8 := dkwX9_ask_6 ++ dktX9_ask_7
def dkwX9_ask_5 : List UInt8 := [17, 8, 82, 46, 42, 180, 0, 9, 17, 8, 83, 46, 96, 16, 12, 160, 0, 6, 16, 253, 172, 42]
abbrev dktX9_ask_5 : List UInt8 := dkwX9_ask_5 ++ dktX9_ask_6
def dkwX9_ask_4 : List UInt8 := [17, 8, 32, 28, 96, 46, 27, 160, 0, 6, 16, 254, 172, 132, 2, 1, 167, 255, 224, 42, 180, 0, 9]
abbrev dktX9_ask_4 : List UInt8 := dkwX9_ask_4 ++ dktX9_ask_5
def dkwX9_ask_3 : List UInt8 := [132, 2, 1, 167, 255, 224, 3, 61, 28, 42, 180, 0, 9, 17, 8, 83, 46, 162, 0, 26, 42, 180, 0, 9]
abbrev dktX9_ask_3 : List UInt8 := dkwX9_ask_3 ++ dktX9_ask_4
def dkwX9_ask_2 : List UInt8 := [17, 8, 82, 46, 162, 0, 26, 42, 180, 0, 9, 17, 8, 44, 28, 96, 46, 27, 160, 0, 6, 16, 254, 172]
abbrev dktX9_ask_2 : List UInt8 := dkwX9_ask_2 ++ dktX9_ask_3
def dkwX9_ask_1 : List UInt8 := [153, 0, 5, 3, 172, 42, 27, 182, 0, 122, 154, 0, 5, 2, 172, 3, 61, 28, 42, 180, 0, 9]
abbrev dktX9_ask_1 : List UInt8 := dkwX9_ask_1 ++ dktX9_ask_2
def dkwX9_ask_0 : List UInt8 := [42, 3, 181, 0, 73, 42, 42, 27, 182, 0, 125, 154, 0, 7, 4, 167, 0, 4, 3, 4, 182, 0, 84]
abbrev dktX9_ask_0 : List UInt8 := dkwX9_ask_0 ++ dktX9_ask_1
theorem dksX9_ask_0 : cX9_ask.data.toList.drop 0 = dktX9_ask_0 := by decide +kernel
theorem dksX9_ask_1 : cX9_ask.data.toList.drop 23 = dktX9_ask_1 := dk_seg dksX9_ask_0 23 rfl rfl
theorem dksX9_ask_2 : cX9_ask.data.toList.drop 45 = dktX9_ask_2 := dk_seg dksX9_ask_1 22 rfl rfl
theorem dksX9_ask_3 : cX9_ask.data.toList.drop 69 = dktX9_ask_3 := dk_seg dksX9_ask_2 24 rfl rfl
theorem dksX9_ask_4 : cX9_ask.data.toList.drop 93 = dktX9_ask_4 := dk_seg dksX9_ask_3 24 rfl rfl
theorem dksX9_ask_5 : cX9_ask.data.toList.drop 116 = dktX9_ask_5 := dk_seg dksX9_ask_4 23 rfl rfl
theorem dksX9_ask_6 : cX9_ask.data.toList.drop 138 = dktX9_ask_6 := dk_seg dksX9_ask_5 22 rfl rfl
theorem dksX9_ask_7 : cX9_ask.data.toList.drop 162 = dktX9_ask_7 := dk_seg dksX9_ask_6 24 rfl rfl
theorem dX9_ask_0 : decode cX9_ask 0 = .ok (.aload_n 0, 1) := dk_42 (dk_at dksX9_ask_0 0 rfl rfl)
theorem dX9_ask_1 : decode cX9_ask 1 = .ok (.iconst 0, 1) := dk_3 (dk_at dksX9_ask_0 1 rfl rfl)
theorem dX9_ask_2 : decode cX9_ask 2 = .ok (.putfield 73, 3) := dk_181 0 73 (dk_at dksX9_ask_0 2 rfl rfl)
theorem dX9_ask_5 : decode cX9_ask 5 = .ok (.aload_n 0, 1) := dk_42 (dk_at dksX9_ask_0 5 rfl rfl)
theorem dX9_ask_6 : decode cX9_ask 6 = .ok (.aload_n 0, 1) := dk_42 (dk_at dksX9_ask_0 6 rfl rfl)
theorem dX9_ask_7 : decode cX9_ask 7 = .ok (.iload_n 1, 1) := dk_27 (dk_at dksX9_ask_0 7 rfl rfl)
theorem dX9_ask_8 : decode cX9_ask 8 = .ok (.invokevirtual 125, 3) := dk_182 0 125 (dk_at dksX9_ask_0 8 rfl rfl)
theorem dX9_ask_11 : decode cX9_ask 11 = .ok (.ifCond .ne 7, 3) := dk_154 0 7 (dk_at dksX9_ask_0 11 rfl rfl)
theorem dX9_ask_14 : decode cX9_ask 14 = .ok (.iconst 1, 1) := dk_4 (dk_at dksX9_ask_0 14 rfl rfl)
theorem dX9_ask_15 : decode cX9_ask 15 = .ok (.goto 4, 3) := dk_167 0 4 (dk_at dksX9_ask_0 15 rfl rfl)
theorem dX9_ask_18 : decode cX9_ask 18 = .ok (.iconst 0, 1) := dk_3 (dk_at dksX9_ask_0 18 rfl rfl)
theorem dX9_ask_19 : decode cX9_ask 19 = .ok (.iconst 1, 1) := dk_4 (dk_at dksX9_ask_0 19 rfl rfl)
theorem dX9_ask_20 : decode cX9_ask 20 = .ok (.invokevirtual 84, 3) := dk_182 0 84 (dk_at dksX9_ask_0 20 rfl rfl)
theorem dX9_ask_23 : decode cX9_ask 23 = .ok (.ifCond .eq 5, 3) := dk_153 0 5 (dk_at dksX9_ask_1 0 rfl rfl)
theorem dX9_ask_26 : decode cX9_ask 26 = .ok (.iconst 0, 1) := dk_3 (dk_at dksX9_ask_1 3 rfl rfl)
theorem dX9_ask_27 : decode cX9_ask 27 = .ok (.ireturn, 1) := dk_172 (dk_at dksX9_ask_1 4 rfl rfl)
theorem dX9_ask_28 : decode cX9_ask 28 = .ok (.aload_n 0, 1) := dk_42 (dk_at dksX9_ask_1 5 rfl rfl)
theorem dX9_ask_29 : decode cX9_ask 29 = .ok (.iload_n 1, 1) := dk_27 (dk_at dksX9_ask_1 6 rfl rfl)
theorem dX9_ask_30 : decode cX9_ask 30 = .ok (.invokevirtual 122, 3) := dk_182 0 122 (dk_at dksX9_ask_1 7 rfl rfl)
theorem dX9_ask_33 : decode cX9_ask 33 = .ok (.ifCond .ne 5, 3) := dk_154 0 5 (dk_at dksX9_ask_1 10 rfl rfl)
theorem dX9_ask_36 : decode cX9_ask 36 = .ok (.iconst (-1), 1) := dk_2 (dk_at dksX9_ask_1 13 rfl rfl)
theorem dX9_ask_37 : decode cX9_ask 37 = .ok (.ireturn, 1) := dk_172 (dk_at dksX9_ask_1 14 rfl rfl)
theorem dX9_ask_38 : decode cX9_ask 38 = .ok (.iconst 0, 1) := dk_3 (dk_at dksX9_ask_1 15 rfl rfl)
theorem dX9_ask_39 : decode cX9_ask 39 = .ok (.istore_n 2, 1) := dk_61 (dk_at dksX9_ask_1 16 rfl rfl)
theorem dX9_ask_40 : decode cX9_ask 40 = .ok (.iload_n 2, 1) := dk_28 (dk_at dksX9_ask_1 17 rfl rfl)
theorem dX9_ask_41 : decode cX9_ask 41 = .ok (.aload_n 0, 1) := dk_42 (dk_at dksX9_ask_1 18 rfl rfl)
theorem dX9_ask_42 : decode cX9_ask 42 = .ok (.getfield 9, 3) := dk_180 0 9 (dk_at dksX9_ask_1 19 rfl rfl)
theorem dX9_ask_45 : decode cX9_ask 45 = .ok (.sipush 2130, 3) := dk_17 8 82 (dk_at dksX9_ask_2 0 rfl rfl)
theorem dX9_ask_48 : decode cX9_ask 48 = .ok (.iaload, 1) := dk_46 (dk_at dksX9_ask_2 3 rfl rfl)
theorem dX9_ask_49 : decode cX9_ask 49 = .ok (.if_icmp .ge 26, 3) := dk_162 0 26 (dk_at dksX9_ask_2 4 rfl rfl)
theorem dX9_ask_52 : decode cX9_ask 52 = .ok (.aload_n 0, 1) := dk_42 (dk_at dksX9_ask_2 7 rfl rfl)
theorem dX9_ask_53 : decode cX9_ask 53 = .ok (.getfield 9, 3) := dk_180 0 9 (dk_at dksX9_ask_2 8 rfl rfl)
theorem dX9_ask_56 : decode cX9_ask 56 = .ok (.sipush 2092, 3) := dk_17 8 44 (dk_at dksX9_ask_2 11 rfl rfl)
theorem dX9_ask_59 : decode cX9_ask 59 = .ok (.iload_n 2, 1) := dk_28 (dk_at dksX9_ask_2 14 rfl rfl)
theorem dX9_ask_60 : decode cX9_ask 60 = .ok (.iadd, 1) := dk_96 (dk_at dksX9_ask_2 15 rfl rfl)
theorem dX9_ask_61 : decode cX9_ask 61 = .ok (.iaload, 1) := dk_46 (dk_at dksX9_ask_2 16 rfl rfl)
theorem dX9_ask_62 : decode cX9_ask 62 = .ok (.iload_n 1, 1) := dk_27 (dk_at dksX9_ask_2 17 rfl rfl)
theorem dX9_ask_63 : decode cX9_ask 63 = .ok (.if_icmp .ne 6, 3) := dk_160 0 6 (dk_at dksX9_ask_2 18 rfl rfl)
theorem dX9_ask_66 : decode cX9_ask 66 = .ok (.bipush (-2), 2) := dk_16 254 (dk_at dksX9_ask_2 21 rfl rfl)
theorem dX9_ask_68 : decode cX9_ask 68 = .ok (.ireturn, 1) := dk_172 (dk_at dksX9_ask_2 23 rfl rfl)
theorem dX9_ask_69 : decode cX9_ask 69 = .ok (.iinc 2 1, 3) := dk_132 2 1 (dk_at dksX9_ask_3 0 rfl rfl)
theorem dX9_ask_72 : decode cX9_ask 72 = .ok (.goto (-32), 3) := dk_167 255 224 (dk_at dksX9_ask_3 3 rfl rfl)
theorem dX9_ask_75 : decode cX9_ask 75 = .ok (.iconst 0, 1) := dk_3 (dk_at dksX9_ask_3 6 rfl rfl)
theorem dX9_ask_76 : decode cX9_ask 76 = .ok (.istore_n 2, 1) := dk_61 (dk_at dksX9_ask_3 7 rfl rfl)
theorem dX9_ask_77 : decode cX9_ask 77 = .ok (.iload_n 2, 1) := dk_28 (dk_at dksX9_ask_3 8 rfl rfl)
theorem dX9_ask_78 : decode cX9_ask 78 = .ok (.aload_n 0, 1) := dk_42 (dk_at dksX9_ask_3 9 rfl rfl)
theorem dX9_ask_79 : decode cX9_ask 79 = .ok (.getfield 9, 3) := dk_180 0 9 (dk_at dksX9_ask_3 10 rfl rfl)
theorem dX9_ask_82 : decode cX9_ask 82 = .ok (.sipush 2131, 3) := dk_17 8 83 (dk_at dksX9_ask_3 13 rfl rfl)
theorem dX9_ask_85 : decode cX9_ask 85 = .ok (.iaload, 1) := dk_46 (dk_at dksX9_ask_3 16 rfl rfl)
theorem dX9_ask_86 : decode cX9_ask 86 = .ok (.if_icmp .ge 26, 3) := dk_162 0 26 (dk_at dksX9_ask_3 17 rfl rfl)
theorem dX9_ask_89 : decode cX9_ask 89 = .ok (.aload_n 0, 1) := dk_42 (dk_at dksX9_ask_3 20 rfl rfl)
theorem dX9_ask_90 : decode cX9_ask 90 = .ok (.getfield 9, 3) := dk_180 0 9 (dk_at dksX9_ask_3 21 rfl rfl)
theorem dX9_ask_93 : decode cX9_ask 93 = .ok (.sipush 2080, 3) := dk_17 8 32 (dk_at dksX9_ask_4 0 rfl rfl)
theorem dX9_ask_96 : decode cX9_ask 96 = .ok (.iload_n 2, 1) := dk_28 (dk_at dksX9_ask_4 3 rfl rfl)
theorem dX9_ask_97 : decode cX9_ask 97 = .ok (.iadd, 1) := dk_96 (dk_at dksX9_ask_4 4 rfl rfl)
theorem dX9_ask_98 : decode cX9_ask 98 = .ok (.iaload, 1) := dk_46 (dk_at dksX9_ask_4 5 rfl rfl)
theorem dX9_ask_99 : decode cX9_ask 99 = .ok (.iload_n 1, 1) := dk_27 (dk_at dksX9_ask_4 6 rfl rfl)
theorem dX9_ask_100 : decode cX9_ask 100 = .ok (.if_icmp .ne 6, 3) := dk_160 0 6 (dk_at dksX9_ask_4 7 rfl rfl)
theorem dX9_ask_103 : decode cX9_ask 103 = .ok (.bipush (-2), 2) := dk_16 254 (dk_at dksX9_ask_4 10 rfl rfl)
theorem dX9_ask_105 : decode cX9_ask 105 = .ok (.ireturn, 1) := dk_172 (dk_at dksX9_ask_4 12 rfl rfl)
theorem dX9_ask_106 : decode cX9_ask 106 = .ok (.iinc 2 1, 3) := dk_132 2 1 (dk_at dksX9_ask_4 13 rfl rfl)
theorem dX9_ask_109 : decode cX9_ask 109 = .ok (.goto (-32), 3) := dk_167 255 224 (dk_at dksX9_ask_4 16 rfl rfl)
theorem dX9_ask_112 : decode cX9_ask 112 = .ok (.aload_n 0, 1) := dk_42 (dk_at dksX9_ask_4 19 rfl rfl)
theorem dX9_ask_113 : decode cX9_ask 113 = .ok (.getfield 9, 3) := dk_180 0 9 (dk_at dksX9_ask_4 20 rfl rfl)
theorem dX9_ask_116 : decode cX9_ask 116 = .ok (.sipush 2130, 3) := dk_17 8 82 (dk_at dksX9_ask_5 0 rfl rfl)
theorem dX9_ask_119 : decode cX9_ask 119 = .ok (.iaload, 1) := dk_46 (dk_at dksX9_ask_5 3 rfl rfl)
theorem dX9_ask_120 : decode cX9_ask 120 = .ok (.aload_n 0, 1) := dk_42 (dk_at dksX9_ask_5 4 rfl rfl)
theorem dX9_ask_121 : decode cX9_ask 121 = .ok (.getfield 9, 3) := dk_180 0 9 (dk_at dksX9_ask_5 5 rfl rfl)
theorem dX9_ask_124 : decode cX9_ask 124 = .ok (.sipush 2131, 3) := dk_17 8 83 (dk_at dksX9_ask_5 8 rfl rfl)
theorem dX9_ask_127 : decode cX9_ask 127 = .ok (.iaload, 1) := dk_46 (dk_at dksX9_ask_5 11 rfl rfl)
theorem dX9_ask_128 : decode cX9_ask 128 = .ok (.iadd, 1) := dk_96 (dk_at dksX9_ask_5 12 rfl rfl)
theorem dX9_ask_129 : decode cX9_ask 129 = .ok (.bipush 12, 2) := dk_16 12 (dk_at dksX9_ask_5 13 rfl rfl)
theorem dX9_ask_131 : decode cX9_ask 131 = .ok (.if_icmp .ne 6, 3) := dk_160 0 6 (dk_at dksX9_ask_5 15 rfl rfl)
theorem dX9_ask_134 : decode cX9_ask 134 = .ok (.bipush (-3), 2) := dk_16 253 (dk_at dksX9_ask_5 18 rfl rfl)
theorem dX9_ask_136 : decode cX9_ask 136 = .ok (.ireturn, 1) := dk_172 (dk_at dksX9_ask_5 20 rfl rfl)
theorem dX9_ask_137 : decode cX9_ask 137 = .ok (.aload_n 0, 1) := dk_42 (dk_at dksX9_ask_5 21 rfl rfl)
theorem dX9_ask_138 : decode cX9_ask 138 = .ok (.getfield 9, 3) := dk_180 0 9 (dk_at dksX9_ask_6 0 rfl rfl)
theorem dX9_ask_141 : decode cX9_ask 141 = .ok (.sipush 2092, 3) := dk_17 8 44 (dk_at dksX9_ask_6 3 rfl rfl)
theorem dX9_ask_144 : decode cX9_ask 144 = .ok (.aload_n 0, 1) := dk_42 (dk_at dksX9_ask_6 6 rfl rfl)
theorem dX9_ask_145 : decode cX9_ask 145 = .ok (.getfield 9, 3) := dk_180 0 9 (dk_at dksX9_ask_6 7 rfl rfl)
theorem dX9_ask_148 : decode cX9_ask 148 = .ok (.sipush 2130, 3) := dk_17 8 82 (dk_at dksX9_ask_6 10 rfl rfl)
theorem dX9_ask_151 : decode cX9_ask 151 = .ok (.iaload, 1) := dk_46 (dk_at dksX9_ask_6 13 rfl rfl)
theorem dX9_ask_152 : decode cX9_ask 152 = .ok (.iadd, 1) := dk_96 (dk_at dksX9_ask_6 14 rfl rfl)
theorem dX9_ask_153 : decode cX9_ask 153 = .ok (.iload_n 1, 1) := dk_27 (dk_at dksX9_ask_6 15 rfl rfl)
theorem dX9_ask_154 : decode cX9_ask 154 = .ok (.iastore, 1) := dk_79 (dk_at dksX9_ask_6 16 rfl rfl)
theorem dX9_ask_155 : decode cX9_ask 155 = .ok (.aload_n 0, 1) := dk_42 (dk_at dksX9_ask_6 17 rfl rfl)
theorem dX9_ask_156 : decode cX9_ask 156 = .ok (.getfield 9, 3) := dk_180 0 9 (dk_at dksX9_ask_6 18 rfl rfl)
theorem dX9_ask_159 : decode cX9_ask 159 = .ok (.sipush 2130, 3) := dk_17 8 82 (dk_at dksX9_ask_6 21 rfl rfl)
theorem dX9_ask_162 : decode cX9_ask 162 = .ok (.dup2, 1) := dk_92 (dk_at dksX9_ask_7 0 rfl rfl)
theorem dX9_ask_163 : decode cX9_ask 163 = .ok (.iaload, 1) := dk_46 (dk_at dksX9_ask_7 1 rfl rfl)
theorem dX9_ask_164 : decode cX9_ask 164 = .ok (.iconst 1, 1) := dk_4 (dk_at dksX9_ask_7 2 rfl rfl)
theorem dX9_ask_165 : decode cX9_ask 165 = .ok (.iadd, 1) := dk_96 (dk_at dksX9_ask_7 3 rfl rfl)
theorem dX9_ask_166 : decode cX9_ask 166 = .ok (.iastore, 1) := dk_79 (dk_at dksX9_ask_7 4 rfl rfl)
theorem dX9_ask_167 : decode cX9_ask 167 = .ok (.aload_n 0, 1) := dk_42 (dk_at dksX9_ask_7 5 rfl rfl)
theorem dX9_ask_168 : decode cX9_ask 168 = .ok (.getfield 9, 3) := dk_180 0 9 (dk_at dksX9_ask_7 6 rfl rfl)
theorem dX9_ask_171 : decode cX9_ask 171 = .ok (.sipush 2130, 3) := dk_17 8 82 (dk_at dksX9_ask_7 9 rfl rfl)
theorem dX9_ask_174 : decode cX9_ask 174 = .ok (.iaload, 1) := dk_46 (dk_at dksX9_ask_7 12 rfl rfl)
theorem dX9_ask_175 : decode cX9_ask 175 = .ok (.ireturn, 1) := dk_172 (dk_at dksX9_ask_7 13 rfl rfl)
def dkwX9_isHere_0 : List UInt8 := [42, 27, 5, 182, 0, 76, 5, 161, 0, 7, 4, 167, 0, 4, 3, 172]
abbrev dktX9_isHere_0 : List UInt8 := dkwX9_isHere_0 ++ []
theorem dksX9_isHere_0 : cX9_isHere.data.toList.drop 0 = dktX9_isHere_0 := by decide +kernel
theorem dX9_isHere_0 : decode cX9_isHere 0 = .ok (.aload_n 0, 1) := dk_42 (dk_at dksX9_isHere_0 0 rfl rfl)
theorem dX9_isHere_1 : decode cX9_isHere 1 = .ok (.iload_n 1, 1) := dk_27 (dk_at dksX9_isHere_0 1 rfl rfl)
theorem dX9_isHere_2 : decode cX9_isHere 2 = .ok (.iconst 2, 1) := dk_5 (dk_at dksX9_isHere_0 2 rfl rfl)
theorem dX9_isHere_3 : decode cX9_isHere 3 = .ok (.invokevirtual 76, 3) := dk_182 0 76 (dk_at dksX9_isHere_0 3 rfl rfl)
theorem dX9_isHere_6 : decode cX9_isHere 6 = .ok (.iconst 2, 1) := dk_5 (dk_at dksX9_isHere_0 6 rfl rfl)
theorem dX9_isHere_7 : decode cX9_isHere 7 = .ok (.if_icmp .lt 7, 3) := dk_161 0 7 (dk_at dksX9_isHere_0 7 rfl rfl)
theorem dX9_isHere_10 : decode cX9_isHere 10 = .ok (.iconst 1, 1) := dk_4 (dk_at dksX9_isHere_0 10 rfl rfl)
theorem dX9_isHere_11 : decode cX9_isHere 11 = .ok (.goto 4, 3) := dk_167 0 4 (dk_at dksX9_isHere_0 11 rfl rfl)
theorem dX9_isHere_14 : decode cX9_isHere 14 = .ok (.iconst 0, 1) := dk_3 (dk_at dksX9_isHere_0 14 rfl rfl)
theorem dX9_isHere_15 : decode cX9_isHere 15 = .ok (.ireturn, 1) := dk_172 (dk_at dksX9_isHere_0 15 rfl rfl)
def dkwX9_draw_8 : List UInt8 := [28, 172]
abbrev dktX9_draw_8 : List UInt8 := dkwX9_draw_8 ++ []
def dkwX9_draw_7 : List UInt8 := [96, 46, 79, 132, 7, 1, 167, 255, 220, 132, 5, 255, 167, 255, 148, 42, 180, 0, 9, 17, 8, 82, 3, 79]
abbrev dktX9_draw_7 : List UInt8 := dkwX9_draw_7 ++ dktX9_draw_8
def dkwX9_draw_6 : List UInt8 := [162, 0, 33, 42, 180, 0, 9, 17, 8, 44, 21, 7, 96, 42, 180, 0, 9, 17, 8, 44, 21, 7, 96, 4]
abbrev dktX9_draw_6 : List UInt8 := dkwX9_draw_6 ++ dktX9_draw_7
def dkwX9_draw_5 : List UInt8 := [42, 180, 0, 9, 17, 8, 83, 92, 46, 4, 96, 79, 21, 6, 54, 7, 21, 7, 21, 5, 4, 100]
abbrev dktX9_draw_5 : List UInt8 := dkwX9_draw_5 ++ dktX9_draw_6
def dkwX9_draw_4 : List UInt8 := [17, 8, 32, 42, 180, 0, 9, 17, 8, 83, 46, 96, 42, 180, 0, 9, 17, 8, 44, 21, 6, 96, 46, 79]
abbrev dktX9_draw_4 : List UInt8 := dkwX9_draw_4 ++ dktX9_draw_5
def dkwX9_draw_3 : List UInt8 := [158, 0, 109, 29, 21, 5, 108, 62, 21, 4, 29, 108, 54, 6, 21, 4, 29, 112, 54, 4, 42, 180, 0, 9]
abbrev dktX9_draw_3 : List UInt8 := dkwX9_draw_3 ++ dktX9_draw_4
def dkwX9_draw_2 : List UInt8 := [4, 167, 0, 4, 3, 4, 182, 0, 84, 153, 0, 5, 3, 172, 27, 54, 4, 28, 54, 5, 21, 5]
abbrev dktX9_draw_2 : List UInt8 := dkwX9_draw_2 ++ dktX9_draw_3
def dkwX9_draw_1 : List UInt8 := [163, 0, 14, 29, 21, 4, 104, 62, 132, 4, 1, 167, 255, 242, 42, 27, 155, 0, 8, 27, 29, 161, 0, 7]
abbrev dktX9_draw_1 : List UInt8 := dkwX9_draw_1 ++ dktX9_draw_2
def dkwX9_draw_0 : List UInt8 := [42, 3, 181, 0, 73, 42, 180, 0, 9, 17, 8, 82, 46, 61, 4, 62, 5, 54, 4, 21, 4, 28]
abbrev dktX9_draw_0 : List UInt8 := dkwX9_draw_0 ++ dktX9_draw_1
theorem dksX9_draw_0 : cX9_draw.data.toList.drop 0 = dktX9_draw_0 := by decide +kernel
theorem dksX9_draw_1 : cX9_draw.data.toList.drop 22 = dktX9_draw_1 := dk_seg dksX9_draw_0 22 rfl rfl
theorem dksX9_draw_2 : cX9_draw.data.toList.drop 46 = dktX9_draw_2 := dk_seg dksX9_draw_1 24 rfl rfl
theorem dksX9_draw_3 : cX9_draw.data.toList.drop 68 = dktX9_draw_3 := dk_seg dksX9_draw_2 22 rfl rfl
theorem dksX9_draw_4 : cX9_draw.data.toList.drop 92 = dktX9_draw_4 := dk_seg dksX9_draw_3 24 rfl rfl
theorem dksX9_draw_5 : cX9_draw.data.toList.drop 116 = dktX9_draw_5 := dk_seg dksX9_draw_4 24 rfl rfl
theorem dksX9_draw_6 : cX9_draw.data.toList.drop 138 = dktX9_draw_6 := dk_seg dksX9_draw_5 22 rfl rfl
theorem dksX9_draw_7 : cX9_draw.data.toList.drop 162 = dktX9_draw_7 := dk_seg dksX9_draw_6 24 rfl rfl
theorem dksX9_draw_8 : cX9_draw.data.toList.drop 186 = dktX9_draw_8 := dk_seg dksX9_draw_7 24 rfl rfl
theorem dX9_draw_0 : decode cX9_draw 0 = .ok (.aload_n 0, 1) := dk_42 (dk_at dksX9_draw_0 0 rfl rfl)
theorem dX9_draw_1 : decode cX9_draw 1 = .ok (.iconst 0, 1) := dk_3 (dk_at dksX9_draw_0 1 rfl rfl)
theorem dX9_draw_2 : decode cX9_draw 2 = .ok (.putfield 73, 3) := dk_181 0 73 (dk_at dksX9_draw_0 2 rfl rfl)
theorem dX9_draw_5 : decode cX9_draw 5 = .ok (.aload_n 0, 1) := dk_42 (dk_at dksX9_draw_0 5 rfl rfl)
theorem dX9_draw_6 : decode cX9_draw 6 = .ok (.getfield 9, 3) := dk_180 0 9 (dk_at dksX9_draw_0 6 rfl rfl)
theorem dX9_draw_9 : decode cX9_draw 9 = .ok (.sipush 2130, 3) := dk_17 8 82 (dk_at dksX9_draw_0 9 rfl rfl)
theorem dX9_draw_12 : decode cX9_draw 12 = .ok (.iaload, 1) := dk_46 (dk_at dksX9_draw_0 12 rfl rfl)
theorem dX9_draw_13 : decode cX9_draw 13 = .ok (.istore_n 2, 1) := dk_61 (dk_at dksX9_draw_0 13 rfl rfl)
theorem dX9_draw_14 : decode cX9_draw 14 = .ok (.iconst 1, 1) := dk_4 (dk_at dksX9_draw_0 14 rfl rfl)
theorem dX9_draw_15 : decode cX9_draw 15 = .ok (.istore_n 3, 1) := dk_62 (dk_at dksX9_draw_0 15 rfl rfl)
theorem dX9_draw_16 : decode cX9_draw 16 = .ok (.iconst 2, 1) := dk_5 (dk_at dksX9_draw_0 16 rfl rfl)
theorem dX9_draw_17 : decode cX9_draw 17 = .ok (.istore 4, 2) := dk_54 4 (dk_at dksX9_draw_0 17 rfl rfl)
theorem dX9_draw_19 : decode cX9_draw 19 = .ok (.iload 4, 2) := dk_21 4 (dk_at dksX9_draw_0 19 rfl rfl)
theorem dX9_draw_21 : decode cX9_draw 21 = .ok (.iload_n 2, 1) := dk_28 (dk_at dksX9_draw_0 21 rfl rfl)
theorem dX9_draw_22 : decode cX9_draw 22 = .ok (.if_icmp .gt 14, 3) := dk_163 0 14 (dk_at dksX9_draw_1 0 rfl rfl)
theorem dX9_draw_25 : decode cX9_draw 25 = .ok (.iload_n 3, 1) := dk_29 (dk_at dksX9_draw_1 3 rfl rfl)
theorem dX9_draw_26 : decode cX9_draw 26 = .ok (.iload 4, 2) := dk_21 4 (dk_at dksX9_draw_1 4 rfl rfl)
theorem dX9_draw_28 : decode cX9_draw 28 = .ok (.imul, 1) := dk_104 (dk_at dksX9_draw_1 6 rfl rfl)
theorem dX9_draw_29 : decode cX9_draw 29 = .ok (.istore_n 3, 1) := dk_62 (dk_at dksX9_draw_1 7 rfl rfl)
theorem dX9_draw_30 : decode cX9_draw 30 = .ok (.iinc 4 1, 3) := dk_132 4 1 (dk_at dksX9_draw_1 8 rfl rfl)
theorem dX9_draw_33 : decode cX9_draw 33 = .ok (.goto (-14), 3) := dk_167 255 242 (dk_at dksX9_draw_1 11 rfl rfl)
theorem dX9_draw_36 : decode cX9_draw 36 = .ok (.aload_n 0, 1) := dk_42 (dk_at dksX9_draw_1 14 rfl rfl)
theorem dX9_draw_37 : decode cX9_draw 37 = .ok (.iload_n 1, 1) := dk_27 (dk_at dksX9_draw_1 15 rfl rfl)
theorem dX9_draw_38 : decode cX9_draw 38 = .ok (.ifCond .lt 8, 3) := dk_155 0 8 (dk_at dksX9_draw_1 16 rfl rfl)
theorem dX9_draw_41 : decode cX9_draw 41 = .ok (.iload_n 1, 1) := dk_27 (dk_at dksX9_draw_1 19 rfl rfl)
theorem dX9_draw_42 : decode cX9_draw 42 = .ok (.iload_n 3, 1) := dk_29 (dk_at dksX9_draw_1 20 rfl rfl)
theorem dX9_draw_43 : decode cX9_draw 43 = .ok (.if_icmp .lt 7, 3) := dk_161 0 7 (dk_at dksX9_draw_1 21 rfl rfl)
theorem dX9_draw_46 : decode cX9_draw 46 = .ok (.iconst 1, 1) := dk_4 (dk_at dksX9_draw_2 0 rfl rfl)
theorem dX9_draw_47 : decode cX9_draw 47 = .ok (.goto 4, 3) := dk_167 0 4 (dk_at dksX9_draw_2 1 rfl rfl)
theorem dX9_draw_50 : decode cX9_draw 50 = .ok (.iconst 0, 1) := dk_3 (dk_at dksX9_draw_2 4 rfl rfl)
theorem dX9_draw_51 : decode cX9_draw 51 = .ok (.iconst 1, 1) := dk_4 (dk_at dksX9_draw_2 5 rfl rfl)
theorem dX9_draw_52 : decode cX9_draw 52 = .ok (.invokevirtual 84, 3) := dk_182 0 84 (dk_at dksX9_draw_2 6 rfl rfl)
theorem dX9_draw_55 : decode cX9_draw 55 = .ok (.ifCond .eq 5, 3) := dk_153 0 5 (dk_at dksX9_draw_2 9 rfl rfl)
theorem dX9_draw_58 : decode cX9_draw 58 = .ok (.iconst 0, 1) := dk_3 (dk_at dksX9_draw_2 12 rfl rfl)
theorem dX9_draw_59 : decode cX9_draw 59 = .ok (.ireturn, 1) := dk_172 (dk_at dksX9_draw_2 13 rfl rfl)
theorem dX9_draw_60 : decode cX9_draw 60 = .ok (.iload_n 1, 1) := dk_27 (dk_at dksX9_draw_2 14 rfl rfl)
theorem dX9_draw_61 : decode cX9_draw 61 = .ok (.istore 4, 2) := dk_54 4 (dk_at dksX9_draw_2 15 rfl rfl)
theorem dX9_draw_63 : decode cX9_draw 63 = .ok (.iload_n 2, 1) := dk_28 (dk_at dksX9_draw_2 17 rfl rfl)
theorem dX9_draw_64 : decode cX9_draw 64 = .ok (.istore 5, 2) := dk_54 5 (dk_at dksX9_draw_2 18 rfl rfl)
theorem dX9_draw_66 : decode cX9_draw 66 = .ok (.iload 5, 2) := dk_21 5 (dk_at dksX9_draw_2 20 rfl rfl)
theorem dX9_draw_68 : decode cX9_draw 68 = .ok (.ifCond .le 109, 3) := dk_158 0 109 (dk_at dksX9_draw_3 0 rfl rfl)
theorem dX9_draw_71 : decode cX9_draw 71 = .ok (.iload_n 3, 1) := dk_29 (dk_at dksX9_draw_3 3 rfl rfl)
theorem dX9_draw_72 : decode cX9_draw 72 = .ok (.iload 5, 2) := dk_21 5 (dk_at dksX9_draw_3 4 rfl rfl)
theorem dX9_draw_74 : decode cX9_draw 74 = .ok (.idiv, 1) := dk_108 (dk_at dksX9_draw_3 6 rfl rfl)
theorem dX9_draw_75 : decode cX9_draw 75 = .ok (.istore_n 3, 1) := dk_62 (dk_at dksX9_draw_3 7 rfl rfl)
theorem dX9_draw_76 : decode cX9_draw 76 = .ok (.iload 4, 2) := dk_21 4 (dk_at dksX9_draw_3 8 rfl rfl)
theorem dX9_draw_78 : decode cX9_draw 78 = .ok (.iload_n 3, 1) := dk_29 (dk_at dksX9_draw_3 10 rfl rfl)
theorem dX9_draw_79 : decode cX9_draw 79 = .ok (.idiv, 1) := dk_108 (dk_at dksX9_draw_3 11 rfl rfl)
theorem dX9_draw_80 : decode cX9_draw 80 = .ok (.istore 6, 2) := dk_54 6 (dk_at dksX9_draw_3 12 rfl rfl)
theorem dX9_draw_82 : decode cX9_draw 82 = .ok (.iload 4, 2) := dk_21 4 (dk_at dksX9_draw_3 14 rfl rfl)
theorem dX9_draw_84 : decode cX9_draw 84 = .ok (.iload_n 3, 1) := dk_29 (dk_at dksX9_draw_3 16 rfl rfl)
theorem dX9_draw_85 : decode cX9_draw 85 = .ok (.irem, 1) := dk_112 (dk_at dksX9_draw_3 17 rfl rfl)
theorem dX9_draw_86 : decode cX9_draw 86 = .ok (.istore 4, 2) := dk_54 4 (dk_at dksX9_draw_3 18 rfl rfl)
theorem dX9_draw_88 : decode cX9_draw 88 = .ok (.aload_n 0, 1) := dk_42 (dk_at dksX9_draw_3 20 rfl rfl)
theorem dX9_draw_89 : decode cX9_draw 89 = .ok (.getfield 9, 3) := dk_180 0 9 (dk_at dksX9_draw_3 21 rfl rfl)
theorem dX9_draw_92 : decode cX9_draw 92 = .ok (.sipush 2080, 3) := dk_17 8 32 (dk_at dksX9_draw_4 0 rfl rfl)
theorem dX9_draw_95 : decode cX9_draw 95 = .ok (.aload_n 0, 1) := dk_42 (dk_at dksX9_draw_4 3 rfl rfl)
theorem dX9_draw_96 : decode cX9_draw 96 = .ok (.getfield 9, 3) := dk_180 0 9 (dk_at dksX9_draw_4 4 rfl rfl)
theorem dX9_draw_99 : decode cX9_draw 99 = .ok (.sipush 2131, 3) := dk_17 8 83 (dk_at dksX9_draw_4 7 rfl rfl)
theorem dX9_draw_102 : decode cX9_draw 102 = .ok (.iaload, 1) := dk_46 (dk_at dksX9_draw_4 10 rfl rfl)
theorem dX9_draw_103 : decode cX9_draw 103 = .ok (.iadd, 1) := dk_96 (dk_at dksX9_draw_4 11 rfl rfl)
theorem dX9_draw_104 : decode cX9_draw 104 = .ok (.aload_n 0, 1) := dk_42 (dk_at dksX9_draw_4 12 rfl rfl)
theorem dX9_draw_105 : decode cX9_draw 105 = .ok (.getfield 9, 3) := dk_180 0 9 (dk_at dksX9_draw_4 13 rfl rfl)
theorem dX9_draw_108 : decode cX9_draw 108 = .ok (.sipush 2092, 3) := dk_17 8 44 (dk_at dksX9_draw_4 16 rfl rfl)
theorem dX9_draw_111 : decode cX9_draw 111 = .ok (.iload 6, 2) := dk_21 6 (dk_at dksX9_draw_4 19 rfl rfl)
theorem dX9_draw_113 : decode cX9_draw 113 = .ok (.iadd, 1) := dk_96 (dk_at dksX9_draw_4 21 rfl rfl)
theorem dX9_draw_114 : decode cX9_draw 114 = .ok (.iaload, 1) := dk_46 (dk_at dksX9_draw_4 22 rfl rfl)
theorem dX9_draw_115 : decode cX9_draw 115 = .ok (.iastore, 1) := dk_79 (dk_at dksX9_draw_4 23 rfl rfl)
theorem dX9_draw_116 : decode cX9_draw 116 = .ok (.aload_n 0, 1) := dk_42 (dk_at dksX9_draw_5 0 rfl rfl)
theorem dX9_draw_117 : decode cX9_draw 117 = .ok (.getfield 9, 3) := dk_180 0 9 (dk_at dksX9_draw_5 1 rfl rfl)
theorem dX9_draw_120 : decode cX9_draw 120 = .ok (.sipush 2131, 3) := dk_17 8 83 (dk_at dksX9_draw_5 4 rfl rfl)
theorem dX9_draw_123 : decode cX9_draw 123 = .ok (.dup2, 1) := dk_92 (dk_at dksX9_draw_5 7 rfl rfl)
theorem dX9_draw_124 : decode cX9_draw 124 = .ok (.iaload, 1) := dk_46 (dk_at dksX9_draw_5 8 rfl rfl)
theorem dX9_draw_125 : decode cX9_draw 125 = .ok (.iconst 1, 1) := dk_4 (dk_at dksX9_draw_5 9 rfl rfl)
theorem dX9_draw_126 : decode cX9_draw 126 = .ok (.iadd, 1) := dk_96 (dk_at dksX9_draw_5 10 rfl rfl)
theorem dX9_draw_127 : decode cX9_draw 127 = .ok (.iastore, 1) := dk_79 (dk_at dksX9_draw_5 11 rfl rfl)
theorem dX9_draw_128 : decode cX9_draw 128 = .ok (.iload 6, 2) := dk_21 6 (dk_at dksX9_draw_5 12 rfl rfl)
theorem dX9_draw_130 : decode cX9_draw 130 = .ok (.istore 7, 2) := dk_54 7 (dk_at dksX9_draw_5 14 rfl rfl)
theorem dX9_draw_132 : decode cX9_draw 132 = .ok (.iload 7, 2) := dk_21 7 (dk_at dksX9_draw_5 16 rfl rfl)
theorem dX9_draw_134 : decode cX9_draw 134 = .ok (.iload 5, 2) := dk_21 5 (dk_at dksX9_draw_5 18 rfl rfl)
theorem dX9_draw_136 : decode cX9_draw 136 = .ok (.iconst 1, 1) := dk_4 (dk_at dksX9_draw_5 20 rfl rfl)
theorem dX9_draw_137 : decode cX9_draw 137 = .ok (.isub, 1) := dk_100 (dk_at dksX9_draw_5 21 rfl rfl)
theorem dX9_draw_138 : decode cX9_draw 138 = .ok (.if_icmp .ge 33, 3) := dk_162 0 33 (dk_at dksX9_draw_6 0 rfl rfl)
theorem dX9_draw_141 : decode cX9_draw 141 = .ok (.aload_n 0, 1) := dk_42 (dk_at dksX9_draw_6 3 rfl rfl)
theorem dX9_draw_142 : decode cX9_draw 142 = .ok (.getfield 9, 3) := dk_180 0 9 (dk_at dksX9_draw_6 4 rfl rfl)
theorem dX9_draw_145 : decode cX9_draw 145 = .ok (.sipush 2092, 3) := dk_17 8 44 (dk_at dksX9_draw_6 7 rfl rfl)
theorem dX9_draw_148 : decode cX9_draw 148 = .ok (.iload 7, 2) := dk_21 7 (dk_at dksX9_draw_6 10 rfl rfl)
theorem dX9_draw_150 : decode cX9_draw 150 = .ok (.iadd, 1) := dk_96 (dk_at dksX9_draw_6 12 rfl rfl)
theorem dX9_draw_151 : decode cX9_draw 151 = .ok (.aload_n 0, 1) := dk_42 (dk_at dksX9_draw_6 13 rfl rfl)
theorem dX9_draw_152 : decode cX9_draw 152 = .ok (.getfield 9, 3) := dk_180 0 9 (dk_at dksX9_draw_6 14 rfl rfl)
theorem dX9_draw_155 : decode cX9_draw 155 = .ok (.sipush 2092, 3) := dk_17 8 44 (dk_at dksX9_draw_6 17 rfl rfl)
theorem dX9_draw_158 : decode cX9_draw 158 = .ok (.iload 7, 2) := dk_21 7 (dk_at dksX9_draw_6 20 rfl rfl)
theorem dX9_draw_160 : decode cX9_draw 160 = .ok (.iadd, 1) := dk_96 (dk_at dksX9_draw_6 22 rfl rfl)
theorem dX9_draw_161 : decode cX9_draw 161 = .ok (.iconst 1, 1) := dk_4 (dk_at dksX9_draw_6 23 rfl rfl)
theorem dX9_draw_162 : decode cX9_draw 162 = .ok (.iadd, 1) := dk_96 (dk_at dksX9_draw_7 0 rfl rfl)
theorem dX9_draw_163 : decode cX9_draw 163 = .ok (.iaload, 1) := dk_46 (dk_at dksX9_draw_7 1 rfl rfl)
theorem dX9_draw_164 : decode cX9_draw 164 = .ok (.iastore, 1) := dk_79 (dk_at dksX9_draw_7 2 rfl rfl)
theorem dX9_draw_165 : decode cX9_draw 165 = .ok (.iinc 7 1, 3) := dk_132 7 1 (dk_at dksX9_draw_7 3 rfl rfl)
theorem dX9_draw_168 : decode cX9_draw 168 = .ok (.goto (-36), 3) := dk_167 255 220 (dk_at dksX9_draw_7 6 rfl rfl)
theorem dX9_draw_171 : decode cX9_draw 171 = .ok (.iinc 5 (-1), 3) := dk_132 5 255 (dk_at dksX9_draw_7 9 rfl rfl)
theorem dX9_draw_174 : decode cX9_draw 174 = .ok (.goto (-108), 3) := dk_167 255 148 (dk_at dksX9_draw_7 12 rfl rfl)
theorem dX9_draw_177 : decode cX9_draw 177 = .ok (.aload_n 0, 1) := dk_42 (dk_at dksX9_draw_7 15 rfl rfl)
theorem dX9_draw_178 : decode cX9_draw 178 = .ok (.getfield 9, 3) := dk_180 0 9 (dk_at dksX9_draw_7 16 rfl rfl)
theorem dX9_draw_181 : decode cX9_draw 181 = .ok (.sipush 2130, 3) := dk_17 8 82 (dk_at dksX9_draw_7 19 rfl rfl)
theorem dX9_draw_184 : decode cX9_draw 184 = .ok (.iconst 0, 1) := dk_3 (dk_at dksX9_draw_7 22 rfl rfl)
theorem dX9_draw_185 : decode cX9_draw 185 = .ok (.iastore, 1) := dk_79 (dk_at dksX9_draw_7 23 rfl rfl)
theorem dX9_draw_186 : decode cX9_draw 186 = .ok (.iload_n 2, 1) := dk_28 (dk_at dksX9_draw_8 0 rfl rfl)
theorem dX9_draw_187 : decode cX9_draw 187 = .ok (.ireturn, 1) := dk_172 (dk_at dksX9_draw_8 1 rfl rfl)
def dkwX9_acre_1 : List UInt8 := [182, 0, 84, 153, 0, 7, 3, 167, 0, 13, 42, 180, 0, 9, 17, 8, 32, 27, 96, 46, 172]
abbrev dktX9_acre_1 : List UInt8 := dkwX9_acre_1 ++ []
def dkwX9_acre_0 : List UInt8 := [42, 3, 181, 0, 73, 42, 27, 155, 0, 9, 27, 16, 12, 161, 0, 7, 4, 167, 0, 4, 3, 4]
abbrev dktX9_acre_0 : List UInt8 := dkwX9_acre_0 ++ dktX9_acre_1
theorem dksX9_acre_0 : cX9_acre.data.toList.drop 0 = dktX9_acre_0 := by decide +kernel
theorem dksX9_acre_1 : cX9_acre.data.toList.drop 22 = dktX9_acre_1 := dk_seg dksX9_acre_0 22 rfl rfl
theorem dX9_acre_0 : decode cX9_acre 0 = .ok (.aload_n 0, 1) := dk_42 (dk_at dksX9_acre_0 0 rfl rfl)
theorem dX9_acre_1 : decode cX9_acre 1 = .ok (.iconst 0, 1) := dk_3 (dk_at dksX9_acre_0 1 rfl rfl)
theorem dX9_acre_2 : decode cX9_acre 2 = .ok (.putfield 73, 3) := dk_181 0 73 (dk_at dksX9_acre_0 2 rfl rfl)
theorem dX9_acre_5 : decode cX9_acre 5 = .ok (.aload_n 0, 1) := dk_42 (dk_at dksX9_acre_0 5 rfl rfl)
theorem dX9_acre_6 : decode cX9_acre 6 = .ok (.iload_n 1, 1) := dk_27 (dk_at dksX9_acre_0 6 rfl rfl)
theorem dX9_acre_7 : decode cX9_acre 7 = .ok (.ifCond .lt 9, 3) := dk_155 0 9 (dk_at dksX9_acre_0 7 rfl rfl)
theorem dX9_acre_10 : decode cX9_acre 10 = .ok (.iload_n 1, 1) := dk_27 (dk_at dksX9_acre_0 10 rfl rfl)
theorem dX9_acre_11 : decode cX9_acre 11 = .ok (.bipush 12, 2) := dk_16 12 (dk_at dksX9_acre_0 11 rfl rfl)
theorem dX9_acre_13 : decode cX9_acre 13 = .ok (.if_icmp .lt 7, 3) := dk_161 0 7 (dk_at dksX9_acre_0 13 rfl rfl)
theorem dX9_acre_16 : decode cX9_acre 16 = .ok (.iconst 1, 1) := dk_4 (dk_at dksX9_acre_0 16 rfl rfl)
theorem dX9_acre_17 : decode cX9_acre 17 = .ok (.goto 4, 3) := dk_167 0 4 (dk_at dksX9_acre_0 17 rfl rfl)
theorem dX9_acre_20 : decode cX9_acre 20 = .ok (.iconst 0, 1) := dk_3 (dk_at dksX9_acre_0 20 rfl rfl)
theorem dX9_acre_21 : decode cX9_acre 21 = .ok (.iconst 1, 1) := dk_4 (dk_at dksX9_acre_0 21 rfl rfl)
theorem dX9_acre_22 : decode cX9_acre 22 = .ok (.invokevirtual 84, 3) := dk_182 0 84 (dk_at dksX9_acre_1 0 rfl rfl)
theorem dX9_acre_25 : decode cX9_acre 25 = .ok (.ifCond .eq 7, 3) := dk_153 0 7 (dk_at dksX9_acre_1 3 rfl rfl)
theorem dX9_acre_28 : decode cX9_acre 28 = .ok (.iconst 0, 1) := dk_3 (dk_at dksX9_acre_1 6 rfl rfl)
theorem dX9_acre_29 : decode cX9_acre 29 = .ok (.goto 13, 3) := dk_167 0 13 (dk_at dksX9_acre_1 7 rfl rfl)
theorem dX9_acre_32 : decode cX9_acre 32 = .ok (.aload_n 0, 1) := dk_42 (dk_at dksX9_acre_1 10 rfl rfl)
theorem dX9_acre_33 : decode cX9_acre 33 = .ok (.getfield 9, 3) := dk_180 0 9 (dk_at dksX9_acre_1 11 rfl rfl)
theorem dX9_acre_36 : decode cX9_acre 36 = .ok (.sipush 2080, 3) := dk_17 8 32 (dk_at dksX9_acre_1 14 rfl rfl)
theorem dX9_acre_39 : decode cX9_acre 39 = .ok (.iload_n 1, 1) := dk_27 (dk_at dksX9_acre_1 17 rfl rfl)
theorem dX9_acre_40 : decode cX9_acre 40 = .ok (.iadd, 1) := dk_96 (dk_at dksX9_acre_1 18 rfl rfl)
theorem dX9_acre_41 : decode cX9_acre 41 = .ok (.iaload, 1) := dk_46 (dk_at dksX9_acre_1 19 rfl rfl)
theorem dX9_acre_42 : decode cX9_acre 42 = .ok (.ireturn, 1) := dk_172 (dk_at dksX9_acre_1 20 rfl rfl)
def dkwX9_feed_5 : List UInt8 := [167, 255, 163, 42, 180, 0, 166, 172]
abbrev dktX9_feed_5 : List UInt8 := dkwX9_feed_5 ++ []
def dkwX9_feed_4 : List UInt8 := [21, 8, 122, 145, 84, 42, 89, 180, 0, 166, 4, 96, 181, 0, 166, 132, 8, 248, 167, 255, 223, 132, 6, 1]
abbrev dktX9_feed_4 : List UInt8 := dkwX9_feed_4 ++ dktX9_feed_5
def dkwX9_feed_3 : List UInt8 := [21, 5, 54, 7, 16, 24, 54, 8, 21, 8, 155, 0, 34, 42, 180, 0, 33, 42, 180, 0, 166, 21, 7]
abbrev dktX9_feed_3 : List UInt8 := dkwX9_feed_3 ++ dktX9_feed_4
def dkwX9_feed_2 : List UInt8 := [167, 0, 26, 21, 6, 5, 160, 0, 7, 29, 167, 0, 16, 21, 6, 6, 160, 0, 8, 21, 4, 167, 0, 5]
abbrev dktX9_feed_2 : List UInt8 := dkwX9_feed_2 ++ dktX9_feed_3
def dkwX9_feed_1 : List UInt8 := [21, 6, 8, 162, 0, 93, 21, 6, 154, 0, 7, 27, 167, 0, 36, 21, 6, 4, 160, 0, 7, 28]
abbrev dktX9_feed_1 : List UInt8 := dkwX9_feed_1 ++ dktX9_feed_2
def dkwX9_feed_0 : List UInt8 := [42, 3, 181, 0, 73, 42, 180, 0, 166, 16, 20, 96, 17, 1, 44, 164, 0, 5, 2, 172, 3, 54, 6]
abbrev dktX9_feed_0 : List UInt8 := dkwX9_feed_0 ++ dktX9_feed_1
theorem dksX9_feed_0 : cX9_feed.data.toList.drop 0 = dktX9_feed_0 := by decide +kernel
theorem dksX9_feed_1 : cX9_feed.data.toList.drop 23 = dktX9_feed_1 := dk_seg dksX9_feed_0 23 rfl rfl
theorem dksX9_feed_2 : cX9_feed.data.toList.drop 45 = dktX9_feed_2 := dk_seg dksX9_feed_1 22 rfl rfl
theorem dksX9_feed_3 : cX9_feed.data.toList.drop 69 = dktX9_feed_3 := dk_seg dksX9_feed_2 24 rfl rfl
theorem dksX9_feed_4 : cX9_feed.data.toList.drop 92 = dktX9_feed_4 := dk_seg dksX9_feed_3 23 rfl rfl
theorem dksX9_feed_5 : cX9_feed.data.toList.drop 116 = dktX9_feed_5 := dk_seg dksX9_feed_4 24 rfl rfl
theorem dX9_feed_0 : decode cX9_feed 0 = .ok (.aload_n 0, 1) := dk_42 (dk_at dksX9_feed_0 0 rfl rfl)
theorem dX9_feed_1 : decode cX9_feed 1 = .ok (.iconst 0, 1) := dk_3 (dk_at dksX9_feed_0 1 rfl rfl)
theorem dX9_feed_2 : decode cX9_feed 2 = .ok (.putfield 73, 3) := dk_181 0 73 (dk_at dksX9_feed_0 2 rfl rfl)
theorem dX9_feed_5 : decode cX9_feed 5 = .ok (.aload_n 0, 1) := dk_42 (dk_at dksX9_feed_0 5 rfl rfl)
theorem dX9_feed_6 : decode cX9_feed 6 = .ok (.getfield 166, 3) := dk_180 0 166 (dk_at dksX9_feed_0 6 rfl rfl)
theorem dX9_feed_9 : decode cX9_feed 9 = .ok (.bipush 20, 2) := dk_16 20 (dk_at dksX9_feed_0 9 rfl rfl)
theorem dX9_feed_11 : decode cX9_feed 11 = .ok (.iadd, 1) := dk_96 (dk_at dksX9_feed_0 11 rfl rfl)
theorem dX9_feed_12 : decode cX9_feed 12 = .ok (.sipush 300, 3) := dk_17 1 44 (dk_at dksX9_feed_0 12 rfl rfl)
theorem dX9_feed_15 : decode cX9_feed 15 = .ok (.if_icmp .le 5, 3) := dk_164 0 5 (dk_at dksX9_feed_0 15 rfl rfl)
theorem dX9_feed_18 : decode cX9_feed 18 = .ok (.iconst (-1), 1) := dk_2 (dk_at dksX9_feed_0 18 rfl rfl)
theorem dX9_feed_19 : decode cX9_feed 19 = .ok (.ireturn, 1) := dk_172 (dk_at dksX9_feed_0 19 rfl rfl)
theorem dX9_feed_20 : decode cX9_feed 20 = .ok (.iconst 0, 1) := dk_3 (dk_at dksX9_feed_0 20 rfl rfl)
theorem dX9_feed_21 : decode cX9_feed 21 = .ok (.istore 6, 2) := dk_54 6 (dk_at dksX9_feed_0 21 rfl rfl)
theorem dX9_feed_23 : decode cX9_feed 23 = .ok (.iload 6, 2) := dk_21 6 (dk_at dksX9_feed_1 0 rfl rfl)
theorem dX9_feed_25 : decode cX9_feed 25 = .ok (.iconst 5, 1) := dk_8 (dk_at dksX9_feed_1 2 rfl rfl)
theorem dX9_feed_26 : decode cX9_feed 26 = .ok (.if_icmp .ge 93, 3) := dk_162 0 93 (dk_at dksX9_feed_1 3 rfl rfl)
theorem dX9_feed_29 : decode cX9_feed 29 = .ok (.iload 6, 2) := dk_21 6 (dk_at dksX9_feed_1 6 rfl rfl)
theorem dX9_feed_31 : decode cX9_feed 31 = .ok (.ifCond .ne 7, 3) := dk_154 0 7 (dk_at dksX9_feed_1 8 rfl rfl)
theorem dX9_feed_34 : decode cX9_feed 34 = .ok (.iload_n 1, 1) := dk_27 (dk_at dksX9_feed_1 11 rfl rfl)
theorem dX9_feed_35 : decode cX9_feed 35 = .ok (.goto 36, 3) := dk_167 0 36 (dk_at dksX9_feed_1 12 rfl rfl)
theorem dX9_feed_38 : decode cX9_feed 38 = .ok (.iload 6, 2) := dk_21 6 (dk_at dksX9_feed_1 15 rfl rfl)
theorem dX9_feed_40 : decode cX9_feed 40 = .ok (.iconst 1, 1) := dk_4 (dk_at dksX9_feed_1 17 rfl rfl)
theorem dX9_feed_41 : decode cX9_feed 41 = .ok (.if_icmp .ne 7, 3) := dk_160 0 7 (dk_at dksX9_feed_1 18 rfl rfl)
theorem dX9_feed_44 : decode cX9_feed 44 = .ok (.iload_n 2, 1) := dk_28 (dk_at dksX9_feed_1 21 rfl rfl)
theorem dX9_feed_45 : decode cX9_feed 45 = .ok (.goto 26, 3) := dk_167 0 26 (dk_at dksX9_feed_2 0 rfl rfl)
theorem dX9_feed_48 : decode cX9_feed 48 = .ok (.iload 6, 2) := dk_21 6 (dk_at dksX9_feed_2 3 rfl rfl)
theorem dX9_feed_50 : decode cX9_feed 50 = .ok (.iconst 2, 1) := dk_5 (dk_at dksX9_feed_2 5 rfl rfl)
theorem dX9_feed_51 : decode cX9_feed 51 = .ok (.if_icmp .ne 7, 3) := dk_160 0 7 (dk_at dksX9_feed_2 6 rfl rfl)
theorem dX9_feed_54 : decode cX9_feed 54 = .ok (.iload_n 3, 1) := dk_29 (dk_at dksX9_feed_2 9 rfl rfl)
theorem dX9_feed_55 : decode cX9_feed 55 = .ok (.goto 16, 3) := dk_167 0 16 (dk_at dksX9_feed_2 10 rfl rfl)
theorem dX9_feed_58 : decode cX9_feed 58 = .ok (.iload 6, 2) := dk_21 6 (dk_at dksX9_feed_2 13 rfl rfl)
theorem dX9_feed_60 : decode cX9_feed 60 = .ok (.iconst 3, 1) := dk_6 (dk_at dksX9_feed_2 15 rfl rfl)
theorem dX9_feed_61 : decode cX9_feed 61 = .ok (.if_icmp .ne 8, 3) := dk_160 0 8 (dk_at dksX9_feed_2 16 rfl rfl)
theorem dX9_feed_64 : decode cX9_feed 64 = .ok (.iload 4, 2) := dk_21 4 (dk_at dksX9_feed_2 19 rfl rfl)
theorem dX9_feed_66 : decode cX9_feed 66 = .ok (.goto 5, 3) := dk_167 0 5 (dk_at dksX9_feed_2 21 rfl rfl)
theorem dX9_feed_69 : decode cX9_feed 69 = .ok (.iload 5, 2) := dk_21 5 (dk_at dksX9_feed_3 0 rfl rfl)
theorem dX9_feed_71 : decode cX9_feed 71 = .ok (.istore 7, 2) := dk_54 7 (dk_at dksX9_feed_3 2 rfl rfl)
theorem dX9_feed_73 : decode cX9_feed 73 = .ok (.bipush 24, 2) := dk_16 24 (dk_at dksX9_feed_3 4 rfl rfl)
theorem dX9_feed_75 : decode cX9_feed 75 = .ok (.istore 8, 2) := dk_54 8 (dk_at dksX9_feed_3 6 rfl rfl)
theorem dX9_feed_77 : decode cX9_feed 77 = .ok (.iload 8, 2) := dk_21 8 (dk_at dksX9_feed_3 8 rfl rfl)
theorem dX9_feed_79 : decode cX9_feed 79 = .ok (.ifCond .lt 34, 3) := dk_155 0 34 (dk_at dksX9_feed_3 10 rfl rfl)
theorem dX9_feed_82 : decode cX9_feed 82 = .ok (.aload_n 0, 1) := dk_42 (dk_at dksX9_feed_3 13 rfl rfl)
theorem dX9_feed_83 : decode cX9_feed 83 = .ok (.getfield 33, 3) := dk_180 0 33 (dk_at dksX9_feed_3 14 rfl rfl)
theorem dX9_feed_86 : decode cX9_feed 86 = .ok (.aload_n 0, 1) := dk_42 (dk_at dksX9_feed_3 17 rfl rfl)
theorem dX9_feed_87 : decode cX9_feed 87 = .ok (.getfield 166, 3) := dk_180 0 166 (dk_at dksX9_feed_3 18 rfl rfl)
theorem dX9_feed_90 : decode cX9_feed 90 = .ok (.iload 7, 2) := dk_21 7 (dk_at dksX9_feed_3 21 rfl rfl)
theorem dX9_feed_92 : decode cX9_feed 92 = .ok (.iload 8, 2) := dk_21 8 (dk_at dksX9_feed_4 0 rfl rfl)
theorem dX9_feed_94 : decode cX9_feed 94 = .ok (.ishr, 1) := dk_122 (dk_at dksX9_feed_4 2 rfl rfl)
theorem dX9_feed_95 : decode cX9_feed 95 = .ok (.i2b, 1) := dk_145 (dk_at dksX9_feed_4 3 rfl rfl)
theorem dX9_feed_96 : decode cX9_feed 96 = .ok (.bastore, 1) := dk_84 (dk_at dksX9_feed_4 4 rfl rfl)
theorem dX9_feed_97 : decode cX9_feed 97 = .ok (.aload_n 0, 1) := dk_42 (dk_at dksX9_feed_4 5 rfl rfl)
theorem dX9_feed_98 : decode cX9_feed 98 = .ok (.dup, 1) := dk_89 (dk_at dksX9_feed_4 6 rfl rfl)
theorem dX9_feed_99 : decode cX9_feed 99 = .ok (.getfield 166, 3) := dk_180 0 166 (dk_at dksX9_feed_4 7 rfl rfl)
theorem dX9_feed_102 : decode cX9_feed 102 = .ok (.iconst 1, 1) := dk_4 (dk_at dksX9_feed_4 10 rfl rfl)
theorem dX9_feed_103 : decode cX9_feed 103 = .ok (.iadd, 1) := dk_96 (dk_at dksX9_feed_4 11 rfl rfl)
theorem dX9_feed_104 : decode cX9_feed 104 = .ok (.putfield 166, 3) := dk_181 0 166 (dk_at dksX9_feed_4 12 rfl rfl)
theorem dX9_feed_107 : decode cX9_feed 107 = .ok (.iinc 8 (-8), 3) := dk_132 8 248 (dk_at dksX9_feed_4 15 rfl rfl)
theorem dX9_feed_110 : decode cX9_feed 110 = .ok (.goto (-33), 3) := dk_167 255 223 (dk_at dksX9_feed_4 18 rfl rfl)
theorem dX9_feed_113 : decode cX9_feed 113 = .ok (.iinc 6 1, 3) := dk_132 6 1 (dk_at dksX9_feed_4 21 rfl rfl)
theorem dX9_feed_116 : decode cX9_feed 116 = .ok (.goto (-93), 3) := dk_167 255 163 (dk_at dksX9_feed_5 0 rfl rfl)
theorem dX9_feed_119 : decode cX9_feed 119 = .ok (.aload_n 0, 1) := dk_42 (dk_at dksX9_feed_5 3 rfl rfl)
theorem dX9_feed_120 : decode cX9_feed 120 = .ok (.getfield 166, 3) := dk_180 0 166 (dk_at dksX9_feed_5 4 rfl rfl)
theorem dX9_feed_123 : decode cX9_feed 123 = .ok (.ireturn, 1) := dk_172 (dk_at dksX9_feed_5 7 rfl rfl)
def dkwX9_law_10 : List UInt8 := [172]
abbrev dktX9_law_10 : List UInt8 := dkwX9_law_10 ++ []
def dkwX9_law_9 : List UInt8 := [42, 180, 0, 178, 16, 10, 100, 172, 42, 180, 0, 9, 17, 8, 77, 92, 46, 4, 96, 79, 42, 180, 0, 231]
abbrev dktX9_law_9 : List UInt8 := dkwX9_law_9 ++ dktX9_law_10
def dkwX9_law_8 : List UInt8 := [167, 255, 212, 42, 182, 1, 54, 132, 2, 1, 42, 182, 0, 181, 167, 255, 198, 42, 180, 0, 178, 158, 0, 11]
abbrev dktX9_law_8 : List UInt8 := dkwX9_law_8 ++ dktX9_law_9
def dkwX9_law_7 : List UInt8 := [160, 0, 26, 42, 42, 182, 1, 51, 153, 0, 7, 6, 167, 0, 4, 4, 42, 180, 0, 172, 182, 0, 227]
abbrev dktX9_law_7 : List UInt8 := dkwX9_law_7 ++ dktX9_law_8
def dkwX9_law_6 : List UInt8 := [182, 0, 181, 42, 180, 0, 178, 154, 0, 57, 42, 180, 0, 172, 42, 180, 0, 169, 162, 0, 46, 28, 16, 10]
abbrev dktX9_law_6 : List UInt8 := dkwX9_law_6 ++ dktX9_law_7
def dkwX9_law_5 : List UInt8 := [180, 0, 46, 16, 8, 42, 180, 0, 231, 104, 28, 96, 2, 79, 132, 2, 1, 167, 255, 232, 3, 61, 42]
abbrev dktX9_law_5 : List UInt8 := dkwX9_law_5 ++ dktX9_law_6
def dkwX9_law_4 : List UInt8 := [181, 0, 231, 42, 180, 0, 49, 42, 180, 0, 231, 3, 84, 3, 61, 28, 16, 8, 162, 0, 24, 42]
abbrev dktX9_law_4 : List UInt8 := dkwX9_law_4 ++ dktX9_law_5
def dkwX9_law_3 : List UInt8 := [181, 0, 37, 42, 3, 181, 0, 237, 42, 3, 181, 0, 234, 42, 42, 180, 0, 9, 17, 8, 77, 46]
abbrev dktX9_law_3 : List UInt8 := dkwX9_law_3 ++ dktX9_law_4
def dkwX9_law_2 : List UInt8 := [17, 8, 77, 46, 16, 12, 160, 0, 5, 2, 172, 42, 3, 181, 0, 172, 42, 3, 181, 0, 178, 42, 2]
abbrev dktX9_law_2 : List UInt8 := dkwX9_law_2 ++ dktX9_law_3
def dkwX9_law_1 : List UInt8 := [182, 0, 84, 153, 0, 5, 3, 172, 42, 27, 181, 0, 169, 42, 3, 181, 0, 166, 42, 180, 0, 9]
abbrev dktX9_law_1 : List UInt8 := dkwX9_law_1 ++ dktX9_law_2
def dkwX9_law_0 : List UInt8 := [42, 3, 181, 0, 73, 42, 27, 155, 0, 11, 27, 42, 180, 0, 166, 164, 0, 7, 4, 167, 0, 4, 3, 4]
abbrev dktX9_law_0 : List UInt8 := dkwX9_law_0 ++ dktX9_law_1
theorem dksX9_law_0 : cX9_law.data.toList.drop 0 = dktX9_law_0 := by decide +kernel
theorem dksX9_law_1 : cX9_law.data.toList.drop 24 = dktX9_law_1 := dk_seg dksX9_law_0 24 rfl rfl
theorem dksX9_law_2 : cX9_law.data.toList.drop 46 = dktX9_law_2 := dk_seg dksX9_law_1 22 rfl rfl
theorem dksX9_law_3 : cX9_law.data.toList.drop 69 = dktX9_law_3 := dk_seg dksX9_law_2 23 rfl rfl
theorem dksX9_law_4 : cX9_law.data.toList.drop 91 = dktX9_law_4 := dk_seg dksX9_law_3 22 rfl rfl
theorem dksX9_law_5 : cX9_law.data.toList.drop 113 = dktX9_law_5 := dk_seg dksX9_law_4 22 rfl rfl
theorem dksX9_law_6 : cX9_law.data.toList.drop 136 = dktX9_law_6 := dk_seg dksX9_law_5 23 rfl rfl
theorem dksX9_law_7 : cX9_law.data.toList.drop 160 = dktX9_law_7 := dk_seg dksX9_law_6 24 rfl rfl
theorem dksX9_law_8 : cX9_law.data.toList.drop 183 = dktX9_law_8 := dk_seg dksX9_law_7 23 rfl rfl
theorem dksX9_law_9 : cX9_law.data.toList.drop 207 = dktX9_law_9 := dk_seg dksX9_law_8 24 rfl rfl
theorem dksX9_law_10 : cX9_law.data.toList.drop 231 = dktX9_law_10 := dk_seg dksX9_law_9 24 rfl rfl
theorem dX9_law_0 : decode cX9_law 0 = .ok (.aload_n 0, 1) := dk_42 (dk_at dksX9_law_0 0 rfl rfl)
theorem dX9_law_1 : decode cX9_law 1 = .ok (.iconst 0, 1) := dk_3 (dk_at dksX9_law_0 1 rfl rfl)
theorem dX9_law_2 : decode cX9_law 2 = .ok (.putfield 73, 3) := dk_181 0 73 (dk_at dksX9_law_0 2 rfl rfl)
theorem dX9_law_5 : decode cX9_law 5 = .ok (.aload_n 0, 1) := dk_42 (dk_at dksX9_law_0 5 rfl rfl)
theorem dX9_law_6 : decode cX9_law 6 = .ok (.iload_n 1, 1) := dk_27 (dk_at dksX9_law_0 6 rfl rfl)
theorem dX9_law_7 : decode cX9_law 7 = .ok (.ifCond .lt 11, 3) := dk_155 0 11 (dk_at dksX9_law_0 7 rfl rfl)
theorem dX9_law_10 : decode cX9_law 10 = .ok (.iload_n 1, 1) := dk_27 (dk_at dksX9_law_0 10 rfl rfl)
theorem dX9_law_11 : decode cX9_law 11 = .ok (.aload_n 0, 1) := dk_42 (dk_at dksX9_law_0 11 rfl rfl)
theorem dX9_law_12 : decode cX9_law 12 = .ok (.getfield 166, 3) := dk_180 0 166 (dk_at dksX9_law_0 12 rfl rfl)
theorem dX9_law_15 : decode cX9_law 15 = .ok (.if_icmp .le 7, 3) := dk_164 0 7 (dk_at dksX9_law_0 15 rfl rfl)
theorem dX9_law_18 : decode cX9_law 18 = .ok (.iconst 1, 1) := dk_4 (dk_at dksX9_law_0 18 rfl rfl)
theorem dX9_law_19 : decode cX9_law 19 = .ok (.goto 4, 3) := dk_167 0 4 (dk_at dksX9_law_0 19 rfl rfl)
theorem dX9_law_22 : decode cX9_law 22 = .ok (.iconst 0, 1) := dk_3 (dk_at dksX9_law_0 22 rfl rfl)
theorem dX9_law_23 : decode cX9_law 23 = .ok (.iconst 1, 1) := dk_4 (dk_at dksX9_law_0 23 rfl rfl)
theorem dX9_law_24 : decode cX9_law 24 = .ok (.invokevirtual 84, 3) := dk_182 0 84 (dk_at dksX9_law_1 0 rfl rfl)
theorem dX9_law_27 : decode cX9_law 27 = .ok (.ifCond .eq 5, 3) := dk_153 0 5 (dk_at dksX9_law_1 3 rfl rfl)
theorem dX9_law_30 : decode cX9_law 30 = .ok (.iconst 0, 1) := dk_3 (dk_at dksX9_law_1 6 rfl rfl)
theorem dX9_law_31 : decode cX9_law 31 = .ok (.ireturn, 1) := dk_172 (dk_at dksX9_law_1 7 rfl rfl)
theorem dX9_law_32 : decode cX9_law 32 = .ok (.aload_n 0, 1) := dk_42 (dk_at dksX9_law_1 8 rfl rfl)
theorem dX9_law_33 : decode cX9_law 33 = .ok (.iload_n 1, 1) := dk_27 (dk_at dksX9_law_1 9 rfl rfl)
theorem dX9_law_34 : decode cX9_law 34 = .ok (.putfield 169, 3) := dk_181 0 169 (dk_at dksX9_law_1 10 rfl rfl)
theorem dX9_law_37 : decode cX9_law 37 = .ok (.aload_n 0, 1) := dk_42 (dk_at dksX9_law_1 13 rfl rfl)
theorem dX9_law_38 : decode cX9_law 38 = .ok (.iconst 0, 1) := dk_3 (dk_at dksX9_law_1 14 rfl rfl)
theorem dX9_law_39 : decode cX9_law 39 = .ok (.putfield 166, 3) := dk_181 0 166 (dk_at dksX9_law_1 15 rfl rfl)
theorem dX9_law_42 : decode cX9_law 42 = .ok (.aload_n 0, 1) := dk_42 (dk_at dksX9_law_1 18 rfl rfl)
theorem dX9_law_43 : decode cX9_law 43 = .ok (.getfield 9, 3) := dk_180 0 9 (dk_at dksX9_law_1 19 rfl rfl)
theorem dX9_law_46 : decode cX9_law 46 = .ok (.sipush 2125, 3) := dk_17 8 77 (dk_at dksX9_law_2 0 rfl rfl)
theorem dX9_law_49 : decode cX9_law 49 = .ok (.iaload, 1) := dk_46 (dk_at dksX9_law_2 3 rfl rfl)
theorem dX9_law_50 : decode cX9_law 50 = .ok (.bipush 12, 2) := dk_16 12 (dk_at dksX9_law_2 4 rfl rfl)
theorem dX9_law_52 : decode cX9_law 52 = .ok (.if_icmp .ne 5, 3) := dk_160 0 5 (dk_at dksX9_law_2 6 rfl rfl)
theorem dX9_law_55 : decode cX9_law 55 = .ok (.iconst (-1), 1) := dk_2 (dk_at dksX9_law_2 9 rfl rfl)
theorem dX9_law_56 : decode cX9_law 56 = .ok (.ireturn, 1) := dk_172 (dk_at dksX9_law_2 10 rfl rfl)
theorem dX9_law_57 : decode cX9_law 57 = .ok (.aload_n 0, 1) := dk_42 (dk_at dksX9_law_2 11 rfl rfl)
theorem dX9_law_58 : decode cX9_law 58 = .ok (.iconst 0, 1) := dk_3 (dk_at dksX9_law_2 12 rfl rfl)
theorem dX9_law_59 : decode cX9_law 59 = .ok (.putfield 172, 3) := dk_181 0 172 (dk_at dksX9_law_2 13 rfl rfl)
theorem dX9_law_62 : decode cX9_law 62 = .ok (.aload_n 0, 1) := dk_42 (dk_at dksX9_law_2 16 rfl rfl)
theorem dX9_law_63 : decode cX9_law 63 = .ok (.iconst 0, 1) := dk_3 (dk_at dksX9_law_2 17 rfl rfl)
theorem dX9_law_64 : decode cX9_law 64 = .ok (.putfield 178, 3) := dk_181 0 178 (dk_at dksX9_law_2 18 rfl rfl)
theorem dX9_law_67 : decode cX9_law 67 = .ok (.aload_n 0, 1) := dk_42 (dk_at dksX9_law_2 21 rfl rfl)
theorem dX9_law_68 : decode cX9_law 68 = .ok (.iconst (-1), 1) := dk_2 (dk_at dksX9_law_2 22 rfl rfl)
theorem dX9_law_69 : decode cX9_law 69 = .ok (.putfield 37, 3) := dk_181 0 37 (dk_at dksX9_law_3 0 rfl rfl)
theorem dX9_law_72 : decode cX9_law 72 = .ok (.aload_n 0, 1) := dk_42 (dk_at dksX9_law_3 3 rfl rfl)
theorem dX9_law_73 : decode cX9_law 73 = .ok (.iconst 0, 1) := dk_3 (dk_at dksX9_law_3 4 rfl rfl)
theorem dX9_law_74 : decode cX9_law 74 = .ok (.putfield 237, 3) := dk_181 0 237 (dk_at dksX9_law_3 5 rfl rfl)
theorem dX9_law_77 : decode cX9_law 77 = .ok (.aload_n 0, 1) := dk_42 (dk_at dksX9_law_3 8 rfl rfl)
theorem dX9_law_78 : decode cX9_law 78 = .ok (.iconst 0, 1) := dk_3 (dk_at dksX9_law_3 9 rfl rfl)
theorem dX9_law_79 : decode cX9_law 79 = .ok (.putfield 234, 3) := dk_181 0 234 (dk_at dksX9_law_3 10 rfl rfl)
theorem dX9_law_82 : decode cX9_law 82 = .ok (.aload_n 0, 1) := dk_42 (dk_at dksX9_law_3 13 rfl rfl)
theorem dX9_law_83 : decode cX9_law 83 = .ok (.aload_n 0, 1) := dk_42 (dk_at dksX9_law_3 14 rfl rfl)
theorem dX9_law_84 : decode cX9_law 84 = .ok (.getfield 9, 3) := dk_180 0 9 (dk_at dksX9_law_3 15 rfl rfl)
theorem dX9_law_87 : decode cX9_law 87 = .ok (.sipush 2125, 3) := dk_17 8 77 (dk_at dksX9_law_3 18 rfl rfl)
theorem dX9_law_90 : decode cX9_law 90 = .ok (.iaload, 1) := dk_46 (dk_at dksX9_law_3 21 rfl rfl)
theorem dX9_law_91 : decode cX9_law 91 = .ok (.putfield 231, 3) := dk_181 0 231 (dk_at dksX9_law_4 0 rfl rfl)
theorem dX9_law_94 : decode cX9_law 94 = .ok (.aload_n 0, 1) := dk_42 (dk_at dksX9_law_4 3 rfl rfl)
theorem dX9_law_95 : decode cX9_law 95 = .ok (.getfield 49, 3) := dk_180 0 49 (dk_at dksX9_law_4 4 rfl rfl)
theorem dX9_law_98 : decode cX9_law 98 = .ok (.aload_n 0, 1) := dk_42 (dk_at dksX9_law_4 7 rfl rfl)
theorem dX9_law_99 : decode cX9_law 99 = .ok (.getfield 231, 3) := dk_180 0 231 (dk_at dksX9_law_4 8 rfl rfl)
theorem dX9_law_102 : decode cX9_law 102 = .ok (.iconst 0, 1) := dk_3 (dk_at dksX9_law_4 11 rfl rfl)
theorem dX9_law_103 : decode cX9_law 103 = .ok (.bastore, 1) := dk_84 (dk_at dksX9_law_4 12 rfl rfl)
theorem dX9_law_104 : decode cX9_law 104 = .ok (.iconst 0, 1) := dk_3 (dk_at dksX9_law_4 13 rfl rfl)
theorem dX9_law_105 : decode cX9_law 105 = .ok (.istore_n 2, 1) := dk_61 (dk_at dksX9_law_4 14 rfl rfl)
theorem dX9_law_106 : decode cX9_law 106 = .ok (.iload_n 2, 1) := dk_28 (dk_at dksX9_law_4 15 rfl rfl)
theorem dX9_law_107 : decode cX9_law 107 = .ok (.bipush 8, 2) := dk_16 8 (dk_at dksX9_law_4 16 rfl rfl)
theorem dX9_law_109 : decode cX9_law 109 = .ok (.if_icmp .ge 24, 3) := dk_162 0 24 (dk_at dksX9_law_4 18 rfl rfl)
theorem dX9_law_112 : decode cX9_law 112 = .ok (.aload_n 0, 1) := dk_42 (dk_at dksX9_law_4 21 rfl rfl)
theorem dX9_law_113 : decode cX9_law 113 = .ok (.getfield 46, 3) := dk_180 0 46 (dk_at dksX9_law_5 0 rfl rfl)
theorem dX9_law_116 : decode cX9_law 116 = .ok (.bipush 8, 2) := dk_16 8 (dk_at dksX9_law_5 3 rfl rfl)
theorem dX9_law_118 : decode cX9_law 118 = .ok (.aload_n 0, 1) := dk_42 (dk_at dksX9_law_5 5 rfl rfl)
theorem dX9_law_119 : decode cX9_law 119 = .ok (.getfield 231, 3) := dk_180 0 231 (dk_at dksX9_law_5 6 rfl rfl)
theorem dX9_law_122 : decode cX9_law 122 = .ok (.imul, 1) := dk_104 (dk_at dksX9_law_5 9 rfl rfl)
theorem dX9_law_123 : decode cX9_law 123 = .ok (.iload_n 2, 1) := dk_28 (dk_at dksX9_law_5 10 rfl rfl)
theorem dX9_law_124 : decode cX9_law 124 = .ok (.iadd, 1) := dk_96 (dk_at dksX9_law_5 11 rfl rfl)
theorem dX9_law_125 : decode cX9_law 125 = .ok (.iconst (-1), 1) := dk_2 (dk_at dksX9_law_5 12 rfl rfl)
theorem dX9_law_126 : decode cX9_law 126 = .ok (.iastore, 1) := dk_79 (dk_at dksX9_law_5 13 rfl rfl)
theorem dX9_law_127 : decode cX9_law 127 = .ok (.iinc 2 1, 3) := dk_132 2 1 (dk_at dksX9_law_5 14 rfl rfl)
theorem dX9_law_130 : decode cX9_law 130 = .ok (.goto (-24), 3) := dk_167 255 232 (dk_at dksX9_law_5 17 rfl rfl)
theorem dX9_law_133 : decode cX9_law 133 = .ok (.iconst 0, 1) := dk_3 (dk_at dksX9_law_5 20 rfl rfl)
theorem dX9_law_134 : decode cX9_law 134 = .ok (.istore_n 2, 1) := dk_61 (dk_at dksX9_law_5 21 rfl rfl)
theorem dX9_law_135 : decode cX9_law 135 = .ok (.aload_n 0, 1) := dk_42 (dk_at dksX9_law_5 22 rfl rfl)
theorem dX9_law_136 : decode cX9_law 136 = .ok (.invokevirtual 181, 3) := dk_182 0 181 (dk_at dksX9_law_6 0 rfl rfl)
theorem dX9_law_139 : decode cX9_law 139 = .ok (.aload_n 0, 1) := dk_42 (dk_at dksX9_law_6 3 rfl rfl)
theorem dX9_law_140 : decode cX9_law 140 = .ok (.getfield 178, 3) := dk_180 0 178 (dk_at dksX9_law_6 4 rfl rfl)
theorem dX9_law_143 : decode cX9_law 143 = .ok (.ifCond .ne 57, 3) := dk_154 0 57 (dk_at dksX9_law_6 7 rfl rfl)
theorem dX9_law_146 : decode cX9_law 146 = .ok (.aload_n 0, 1) := dk_42 (dk_at dksX9_law_6 10 rfl rfl)
theorem dX9_law_147 : decode cX9_law 147 = .ok (.getfield 172, 3) := dk_180 0 172 (dk_at dksX9_law_6 11 rfl rfl)
theorem dX9_law_150 : decode cX9_law 150 = .ok (.aload_n 0, 1) := dk_42 (dk_at dksX9_law_6 14 rfl rfl)
theorem dX9_law_151 : decode cX9_law 151 = .ok (.getfield 169, 3) := dk_180 0 169 (dk_at dksX9_law_6 15 rfl rfl)
theorem dX9_law_154 : decode cX9_law 154 = .ok (.if_icmp .ge 46, 3) := dk_162 0 46 (dk_at dksX9_law_6 18 rfl rfl)
theorem dX9_law_157 : decode cX9_law 157 = .ok (.iload_n 2, 1) := dk_28 (dk_at dksX9_law_6 21 rfl rfl)
theorem dX9_law_158 : decode cX9_law 158 = .ok (.bipush 10, 2) := dk_16 10 (dk_at dksX9_law_6 22 rfl rfl)
theorem dX9_law_160 : decode cX9_law 160 = .ok (.if_icmp .ne 26, 3) := dk_160 0 26 (dk_at dksX9_law_7 0 rfl rfl)
theorem dX9_law_163 : decode cX9_law 163 = .ok (.aload_n 0, 1) := dk_42 (dk_at dksX9_law_7 3 rfl rfl)
theorem dX9_law_164 : decode cX9_law 164 = .ok (.aload_n 0, 1) := dk_42 (dk_at dksX9_law_7 4 rfl rfl)
theorem dX9_law_165 : decode cX9_law 165 = .ok (.invokevirtual 307, 3) := dk_182 1 51 (dk_at dksX9_law_7 5 rfl rfl)
theorem dX9_law_168 : decode cX9_law 168 = .ok (.ifCond .eq 7, 3) := dk_153 0 7 (dk_at dksX9_law_7 8 rfl rfl)
theorem dX9_law_171 : decode cX9_law 171 = .ok (.iconst 3, 1) := dk_6 (dk_at dksX9_law_7 11 rfl rfl)
theorem dX9_law_172 : decode cX9_law 172 = .ok (.goto 4, 3) := dk_167 0 4 (dk_at dksX9_law_7 12 rfl rfl)
theorem dX9_law_175 : decode cX9_law 175 = .ok (.iconst 1, 1) := dk_4 (dk_at dksX9_law_7 15 rfl rfl)
theorem dX9_law_176 : decode cX9_law 176 = .ok (.aload_n 0, 1) := dk_42 (dk_at dksX9_law_7 16 rfl rfl)
theorem dX9_law_177 : decode cX9_law 177 = .ok (.getfield 172, 3) := dk_180 0 172 (dk_at dksX9_law_7 17 rfl rfl)
theorem dX9_law_180 : decode cX9_law 180 = .ok (.invokevirtual 227, 3) := dk_182 0 227 (dk_at dksX9_law_7 20 rfl rfl)
theorem dX9_law_183 : decode cX9_law 183 = .ok (.goto (-44), 3) := dk_167 255 212 (dk_at dksX9_law_8 0 rfl rfl)
theorem dX9_law_186 : decode cX9_law 186 = .ok (.aload_n 0, 1) := dk_42 (dk_at dksX9_law_8 3 rfl rfl)
theorem dX9_law_187 : decode cX9_law 187 = .ok (.invokevirtual 310, 3) := dk_182 1 54 (dk_at dksX9_law_8 4 rfl rfl)
theorem dX9_law_190 : decode cX9_law 190 = .ok (.iinc 2 1, 3) := dk_132 2 1 (dk_at dksX9_law_8 7 rfl rfl)
theorem dX9_law_193 : decode cX9_law 193 = .ok (.aload_n 0, 1) := dk_42 (dk_at dksX9_law_8 10 rfl rfl)
theorem dX9_law_194 : decode cX9_law 194 = .ok (.invokevirtual 181, 3) := dk_182 0 181 (dk_at dksX9_law_8 11 rfl rfl)
theorem dX9_law_197 : decode cX9_law 197 = .ok (.goto (-58), 3) := dk_167 255 198 (dk_at dksX9_law_8 14 rfl rfl)
theorem dX9_law_200 : decode cX9_law 200 = .ok (.aload_n 0, 1) := dk_42 (dk_at dksX9_law_8 17 rfl rfl)
theorem dX9_law_201 : decode cX9_law 201 = .ok (.getfield 178, 3) := dk_180 0 178 (dk_at dksX9_law_8 18 rfl rfl)
theorem dX9_law_204 : decode cX9_law 204 = .ok (.ifCond .le 11, 3) := dk_158 0 11 (dk_at dksX9_law_8 21 rfl rfl)
theorem dX9_law_207 : decode cX9_law 207 = .ok (.aload_n 0, 1) := dk_42 (dk_at dksX9_law_9 0 rfl rfl)
theorem dX9_law_208 : decode cX9_law 208 = .ok (.getfield 178, 3) := dk_180 0 178 (dk_at dksX9_law_9 1 rfl rfl)
theorem dX9_law_211 : decode cX9_law 211 = .ok (.bipush 10, 2) := dk_16 10 (dk_at dksX9_law_9 4 rfl rfl)
theorem dX9_law_213 : decode cX9_law 213 = .ok (.isub, 1) := dk_100 (dk_at dksX9_law_9 6 rfl rfl)
theorem dX9_law_214 : decode cX9_law 214 = .ok (.ireturn, 1) := dk_172 (dk_at dksX9_law_9 7 rfl rfl)
theorem dX9_law_215 : decode cX9_law 215 = .ok (.aload_n 0, 1) := dk_42 (dk_at dksX9_law_9 8 rfl rfl)
theorem dX9_law_216 : decode cX9_law 216 = .ok (.getfield 9, 3) := dk_180 0 9 (dk_at dksX9_law_9 9 rfl rfl)
theorem dX9_law_219 : decode cX9_law 219 = .ok (.sipush 2125, 3) := dk_17 8 77 (dk_at dksX9_law_9 12 rfl rfl)
theorem dX9_law_222 : decode cX9_law 222 = .ok (.dup2, 1) := dk_92 (dk_at dksX9_law_9 15 rfl rfl)
theorem dX9_law_223 : decode cX9_law 223 = .ok (.iaload, 1) := dk_46 (dk_at dksX9_law_9 16 rfl rfl)
theorem dX9_law_224 : decode cX9_law 224 = .ok (.iconst 1, 1) := dk_4 (dk_at dksX9_law_9 17 rfl rfl)
theorem dX9_law_225 : decode cX9_law 225 = .ok (.iadd, 1) := dk_96 (dk_at dksX9_law_9 18 rfl rfl)
theorem dX9_law_226 : decode cX9_law 226 = .ok (.iastore, 1) := dk_79 (dk_at dksX9_law_9 19 rfl rfl)
theorem dX9_law_227 : decode cX9_law 227 = .ok (.aload_n 0, 1) := dk_42 (dk_at dksX9_law_9 20 rfl rfl)
theorem dX9_law_228 : decode cX9_law 228 = .ok (.getfield 231, 3) := dk_180 0 231 (dk_at dksX9_law_9 21 rfl rfl)
theorem dX9_law_231 : decode cX9_law 231 = .ok (.ireturn, 1) := dk_172 (dk_at dksX9_law_10 0 rfl rfl)
def dkwX9_blanks_1 : List UInt8 := [42, 89, 180, 0, 172, 4, 96, 181, 0, 172, 167, 255, 222, 177]
abbrev dktX9_blanks_1 : List UInt8 := dkwX9_blanks_1 ++ []
def dkwX9_blanks_0 : List UInt8 := [42, 180, 0, 172, 42, 180, 0, 169, 162, 0, 29, 42, 42, 180, 0, 172, 182, 0, 175, 16, 32, 160, 0, 16]
abbrev dktX9_blanks_0 : List UInt8 := dkwX9_blanks_0 ++ dktX9_blanks_1
theorem dksX9_blanks_0 : cX9_blanks.data.toList.drop 0 = dktX9_blanks_0 := by decide +kernel
theorem dksX9_blanks_1 : cX9_blanks.data.toList.drop 24 = dktX9_blanks_1 := dk_seg dksX9_blanks_0 24 rfl rfl
theorem dX9_blanks_0 : decode cX9_blanks 0 = .ok (.aload_n 0, 1) := dk_42 (dk_at dksX9_blanks_0 0 rfl rfl)
theorem dX9_blanks_1 : decode cX9_blanks 1 = .ok (.getfield 172, 3) := dk_180 0 172 (dk_at dksX9_blanks_0 1 rfl rfl)
theorem dX9_blanks_4 : decode cX9_blanks 4 = .ok (.aload_n 0, 1) := dk_42 (dk_at dksX9_blanks_0 4 rfl rfl)
theorem dX9_blanks_5 : decode cX9_blanks 5 = .ok (.getfield 169, 3) := dk_180 0 169 (dk_at dksX9_blanks_0 5 rfl rfl)
theorem dX9_blanks_8 : decode cX9_blanks 8 = .ok (.if_icmp .ge 29, 3) := dk_162 0 29 (dk_at dksX9_blanks_0 8 rfl rfl)
theorem dX9_blanks_11 : decode cX9_blanks 11 = .ok (.aload_n 0, 1) := dk_42 (dk_at dksX9_blanks_0 11 rfl rfl)
theorem dX9_blanks_12 : decode cX9_blanks 12 = .ok (.aload_n 0, 1) := dk_42 (dk_at dksX9_blanks_0 12 rfl rfl)
theorem dX9_blanks_13 : decode cX9_blanks 13 = .ok (.getfield 172, 3) := dk_180 0 172 (dk_at dksX9_blanks_0 13 rfl rfl)
theorem dX9_blanks_16 : decode cX9_blanks 16 = .ok (.invokevirtual 175, 3) := dk_182 0 175 (dk_at dksX9_blanks_0 16 rfl rfl)
theorem dX9_blanks_19 : decode cX9_blanks 19 = .ok (.bipush 32, 2) := dk_16 32 (dk_at dksX9_blanks_0 19 rfl rfl)
theorem dX9_blanks_21 : decode cX9_blanks 21 = .ok (.if_icmp .ne 16, 3) := dk_160 0 16 (dk_at dksX9_blanks_0 21 rfl rfl)
theorem dX9_blanks_24 : decode cX9_blanks 24 = .ok (.aload_n 0, 1) := dk_42 (dk_at dksX9_blanks_1 0 rfl rfl)
theorem dX9_blanks_25 : decode cX9_blanks 25 = .ok (.dup, 1) := dk_89 (dk_at dksX9_blanks_1 1 rfl rfl)
theorem dX9_blanks_26 : decode cX9_blanks 26 = .ok (.getfield 172, 3) := dk_180 0 172 (dk_at dksX9_blanks_1 2 rfl rfl)
theorem dX9_blanks_29 : decode cX9_blanks 29 = .ok (.iconst 1, 1) := dk_4 (dk_at dksX9_blanks_1 5 rfl rfl)
theorem dX9_blanks_30 : decode cX9_blanks 30 = .ok (.iadd, 1) := dk_96 (dk_at dksX9_blanks_1 6 rfl rfl)
theorem dX9_blanks_31 : decode cX9_blanks 31 = .ok (.putfield 172, 3) := dk_181 0 172 (dk_at dksX9_blanks_1 7 rfl rfl)
theorem dX9_blanks_34 : decode cX9_blanks 34 = .ok (.goto (-34), 3) := dk_167 255 222 (dk_at dksX9_blanks_1 10 rfl rfl)
theorem dX9_blanks_37 : decode cX9_blanks 37 = .ok (.return_, 1) := dk_177 (dk_at dksX9_blanks_1 13 rfl rfl)
def dkwX9_byteAt_0 : List UInt8 := [27, 42, 180, 0, 169, 162, 0, 16, 42, 180, 0, 33, 27, 51, 17, 0, 255, 126, 167, 0, 4, 3, 172]
abbrev dktX9_byteAt_0 : List UInt8 := dkwX9_byteAt_0 ++ []
theorem dksX9_byteAt_0 : cX9_byteAt.data.toList.drop 0 = dktX9_byteAt_0 := by decide +kernel
theorem dX9_byteAt_0 : decode cX9_byteAt 0 = .ok (.iload_n 1, 1) := dk_27 (dk_at dksX9_byteAt_0 0 rfl rfl)
theorem dX9_byteAt_1 : decode cX9_byteAt 1 = .ok (.aload_n 0, 1) := dk_42 (dk_at dksX9_byteAt_0 1 rfl rfl)
theorem dX9_byteAt_2 : decode cX9_byteAt 2 = .ok (.getfield 169, 3) := dk_180 0 169 (dk_at dksX9_byteAt_0 2 rfl rfl)
theorem dX9_byteAt_5 : decode cX9_byteAt 5 = .ok (.if_icmp .ge 16, 3) := dk_162 0 16 (dk_at dksX9_byteAt_0 5 rfl rfl)
theorem dX9_byteAt_8 : decode cX9_byteAt 8 = .ok (.aload_n 0, 1) := dk_42 (dk_at dksX9_byteAt_0 8 rfl rfl)
theorem dX9_byteAt_9 : decode cX9_byteAt 9 = .ok (.getfield 33, 3) := dk_180 0 33 (dk_at dksX9_byteAt_0 9 rfl rfl)
theorem dX9_byteAt_12 : decode cX9_byteAt 12 = .ok (.iload_n 1, 1) := dk_27 (dk_at dksX9_byteAt_0 12 rfl rfl)
theorem dX9_byteAt_13 : decode cX9_byteAt 13 = .ok (.baload, 1) := dk_51 (dk_at dksX9_byteAt_0 13 rfl rfl)
theorem dX9_byteAt_14 : decode cX9_byteAt 14 = .ok (.sipush 255, 3) := dk_17 0 255 (dk_at dksX9_byteAt_0 14 rfl rfl)
theorem dX9_byteAt_17 : decode cX9_byteAt 17 = .ok (.iand, 1) := dk_126 (dk_at dksX9_byteAt_0 17 rfl rfl)
theorem dX9_byteAt_18 : decode cX9_byteAt 18 = .ok (.goto 4, 3) := dk_167 0 4 (dk_at dksX9_byteAt_0 18 rfl rfl)
theorem dX9_byteAt_21 : decode cX9_byteAt 21 = .ok (.iconst 0, 1) := dk_3 (dk_at dksX9_byteAt_0 21 rfl rfl)
theorem dX9_byteAt_22 : decode cX9_byteAt 22 = .ok (.ireturn, 1) := dk_172 (dk_at dksX9_byteAt_0 22 rfl rfl)
def dkwX9_isClause_0 : List UInt8 := [42, 182, 1, 42, 156, 0, 13, 42, 19, 1, 45, 182, 0, 194, 153, 0, 7, 4, 167, 0, 4, 3, 172]
abbrev dktX9_isClause_0 : List UInt8 := dkwX9_isClause_0 ++ []
theorem dksX9_isClause_0 : cX9_isClause.data.toList.drop 0 = dktX9_isClause_0 := by decide +kernel
theorem dX9_isClause_0 : decode cX9_isClause 0 = .ok (.aload_n 0, 1) := dk_42 (dk_at dksX9_isClause_0 0 rfl rfl)
theorem dX9_isClause_1 : decode cX9_isClause 1 = .ok (.invokevirtual 298, 3) := dk_182 1 42 (dk_at dksX9_isClause_0 1 rfl rfl)
theorem dX9_isClause_4 : decode cX9_isClause 4 = .ok (.ifCond .ge 13, 3) := dk_156 0 13 (dk_at dksX9_isClause_0 4 rfl rfl)
theorem dX9_isClause_7 : decode cX9_isClause 7 = .ok (.aload_n 0, 1) := dk_42 (dk_at dksX9_isClause_0 7 rfl rfl)
theorem dX9_isClause_8 : decode cX9_isClause 8 = .ok (.ldc_w 301, 3) := dk_19 1 45 (dk_at dksX9_isClause_0 8 rfl rfl)
theorem dX9_isClause_11 : decode cX9_isClause 11 = .ok (.invokevirtual 194, 3) := dk_182 0 194 (dk_at dksX9_isClause_0 11 rfl rfl)
theorem dX9_isClause_14 : decode cX9_isClause 14 = .ok (.ifCond .eq 7, 3) := dk_153 0 7 (dk_at dksX9_isClause_0 14 rfl rfl)
theorem dX9_isClause_17 : decode cX9_isClause 17 = .ok (.iconst 1, 1) := dk_4 (dk_at dksX9_isClause_0 17 rfl rfl)
theorem dX9_isClause_18 : decode cX9_isClause 18 = .ok (.goto 4, 3) := dk_167 0 4 (dk_at dksX9_isClause_0 18 rfl rfl)
theorem dX9_isClause_21 : decode cX9_isClause 21 = .ok (.iconst 0, 1) := dk_3 (dk_at dksX9_isClause_0 21 rfl rfl)
theorem dX9_isClause_22 : decode cX9_isClause 22 = .ok (.ireturn, 1) := dk_172 (dk_at dksX9_isClause_0 22 rfl rfl)
def dkwX9_nameHere_1 : List UInt8 := [167, 255, 234, 2, 172]
abbrev dktX9_nameHere_1 : List UInt8 := dkwX9_nameHere_1 ++ []
def dkwX9_nameHere_0 : List UInt8 := [3, 60, 27, 16, 8, 162, 0, 22, 42, 27, 184, 0, 223, 182, 0, 194, 153, 0, 5, 27, 172, 132, 1, 1]
abbrev dktX9_nameHere_0 : List UInt8 := dkwX9_nameHere_0 ++ dktX9_nameHere_1
theorem dksX9_nameHere_0 : cX9_nameHere.data.toList.drop 0 = dktX9_nameHere_0 := by decide +kernel
theorem dksX9_nameHere_1 : cX9_nameHere.data.toList.drop 24 = dktX9_nameHere_1 := dk_seg dksX9_nameHere_0 24 rfl rfl
theorem dX9_nameHere_0 : decode cX9_nameHere 0 = .ok (.iconst 0, 1) := dk_3 (dk_at dksX9_nameHere_0 0 rfl rfl)
theorem dX9_nameHere_1 : decode cX9_nameHere 1 = .ok (.istore_n 1, 1) := dk_60 (dk_at dksX9_nameHere_0 1 rfl rfl)
theorem dX9_nameHere_2 : decode cX9_nameHere 2 = .ok (.iload_n 1, 1) := dk_27 (dk_at dksX9_nameHere_0 2 rfl rfl)
theorem dX9_nameHere_3 : decode cX9_nameHere 3 = .ok (.bipush 8, 2) := dk_16 8 (dk_at dksX9_nameHere_0 3 rfl rfl)
theorem dX9_nameHere_5 : decode cX9_nameHere 5 = .ok (.if_icmp .ge 22, 3) := dk_162 0 22 (dk_at dksX9_nameHere_0 5 rfl rfl)
theorem dX9_nameHere_8 : decode cX9_nameHere 8 = .ok (.aload_n 0, 1) := dk_42 (dk_at dksX9_nameHere_0 8 rfl rfl)
theorem dX9_nameHere_9 : decode cX9_nameHere 9 = .ok (.iload_n 1, 1) := dk_27 (dk_at dksX9_nameHere_0 9 rfl rfl)
theorem dX9_nameHere_10 : decode cX9_nameHere 10 = .ok (.invokestatic 223, 3) := dk_184 0 223 (dk_at dksX9_nameHere_0 10 rfl rfl)
theorem dX9_nameHere_13 : decode cX9_nameHere 13 = .ok (.invokevirtual 194, 3) := dk_182 0 194 (dk_at dksX9_nameHere_0 13 rfl rfl)
theorem dX9_nameHere_16 : decode cX9_nameHere 16 = .ok (.ifCond .eq 5, 3) := dk_153 0 5 (dk_at dksX9_nameHere_0 16 rfl rfl)
theorem dX9_nameHere_19 : decode cX9_nameHere 19 = .ok (.iload_n 1, 1) := dk_27 (dk_at dksX9_nameHere_0 19 rfl rfl)
theorem dX9_nameHere_20 : decode cX9_nameHere 20 = .ok (.ireturn, 1) := dk_172 (dk_at dksX9_nameHere_0 20 rfl rfl)
theorem dX9_nameHere_21 : decode cX9_nameHere 21 = .ok (.iinc 1 1, 3) := dk_132 1 1 (dk_at dksX9_nameHere_0 21 rfl rfl)
theorem dX9_nameHere_24 : decode cX9_nameHere 24 = .ok (.goto (-22), 3) := dk_167 255 234 (dk_at dksX9_nameHere_1 0 rfl rfl)
theorem dX9_nameHere_27 : decode cX9_nameHere 27 = .ok (.iconst (-1), 1) := dk_2 (dk_at dksX9_nameHere_1 3 rfl rfl)
theorem dX9_nameHere_28 : decode cX9_nameHere 28 = .ok (.ireturn, 1) := dk_172 (dk_at dksX9_nameHere_1 4 rfl rfl)
def dkwX9_nameOf_2 : List UInt8 := [18, 198, 176, 18, 200, 176, 18, 202, 176, 18, 204, 176, 18, 206, 176, 18, 208, 176, 18, 210, 176, 18, 212, 176]
abbrev dktX9_nameOf_2 : List UInt8 := dkwX9_nameOf_2 ++ []
def dkwX9_nameOf_1 : List UInt8 := [170, 0, 0, 0, 0, 0, 64, 0, 0, 0, 0, 0, 0, 0, 6, 0, 0, 0, 43, 0, 0, 0, 46, 0, 0, 0, 49, 0, 0, 0, 52, 0, 0, 0, 55, 0, 0, 0, 58, 0, 0, 0, 61]
abbrev dktX9_nameOf_1 : List UInt8 := dkwX9_nameOf_1 ++ dktX9_nameOf_2
def dkwX9_nameOf_0 : List UInt8 := [26]
abbrev dktX9_nameOf_0 : List UInt8 := dkwX9_nameOf_0 ++ dktX9_nameOf_1
theorem dksX9_nameOf_0 : cX9_nameOf.data.toList.drop 0 = dktX9_nameOf_0 := by decide +kernel
theorem dksX9_nameOf_1 : cX9_nameOf.data.toList.drop 1 = dktX9_nameOf_1 := dk_seg dksX9_nameOf_0 1 rfl rfl
theorem dksX9_nameOf_2 : cX9_nameOf.data.toList.drop 44 = dktX9_nameOf_2 := dk_seg dksX9_nameOf_1 43 rfl rfl
theorem dX9_nameOf_0 : decode cX9_nameOf 0 = .ok (.iload_n 0, 1) := dk_26 (dk_at dksX9_nameOf_0 0 rfl rfl)
theorem dX9_nameOf_1 : decode cX9_nameOf 1 = .ok (.tableswitch 64 0 6 #[43, 46, 49, 52, 55, 58, 61], 43) := by decide +kernel
theorem dX9_nameOf_44 : decode cX9_nameOf 44 = .ok (.ldc 198, 2) := dk_18 198 (dk_at dksX9_nameOf_2 0 rfl rfl)
theorem dX9_nameOf_46 : decode cX9_nameOf 46 = .ok (.areturn, 1) := dk_176 (dk_at dksX9_nameOf_2 2 rfl rfl)
theorem dX9_nameOf_47 : decode cX9_nameOf 47 = .ok (.ldc 200, 2) := dk_18 200 (dk_at dksX9_nameOf_2 3 rfl rfl)
theorem dX9_nameOf_49 : decode cX9_nameOf 49 = .ok (.areturn, 1) := dk_176 (dk_at dksX9_nameOf_2 5 rfl rfl)
theorem dX9_nameOf_50 : decode cX9_nameOf 50 = .ok (.ldc 202, 2) := dk_18 202 (dk_at dksX9_nameOf_2 6 rfl rfl)
theorem dX9_nameOf_52 : decode cX9_nameOf 52 = .ok (.areturn, 1) := dk_176 (dk_at dksX9_nameOf_2 8 rfl rfl)
theorem dX9_nameOf_53 : decode cX9_nameOf 53 = .ok (.ldc 204, 2) := dk_18 204 (dk_at dksX9_nameOf_2 9 rfl rfl)
theorem dX9_nameOf_55 : decode cX9_nameOf 55 = .ok (.areturn, 1) := dk_176 (dk_at dksX9_nameOf_2 11 rfl rfl)
theorem dX9_nameOf_56 : decode cX9_nameOf 56 = .ok (.ldc 206, 2) := dk_18 206 (dk_at dksX9_nameOf_2 12 rfl rfl)
theorem dX9_nameOf_58 : decode cX9_nameOf 58 = .ok (.areturn, 1) := dk_176 (dk_at dksX9_nameOf_2 14 rfl rfl)
theorem dX9_nameOf_59 : decode cX9_nameOf 59 = .ok (.ldc 208, 2) := dk_18 208 (dk_at dksX9_nameOf_2 15 rfl rfl)
theorem dX9_nameOf_61 : decode cX9_nameOf 61 = .ok (.areturn, 1) := dk_176 (dk_at dksX9_nameOf_2 17 rfl rfl)
theorem dX9_nameOf_62 : decode cX9_nameOf 62 = .ok (.ldc 210, 2) := dk_18 210 (dk_at dksX9_nameOf_2 18 rfl rfl)
theorem dX9_nameOf_64 : decode cX9_nameOf 64 = .ok (.areturn, 1) := dk_176 (dk_at dksX9_nameOf_2 20 rfl rfl)
theorem dX9_nameOf_65 : decode cX9_nameOf 65 = .ok (.ldc 212, 2) := dk_18 212 (dk_at dksX9_nameOf_2 21 rfl rfl)
theorem dX9_nameOf_67 : decode cX9_nameOf 67 = .ok (.areturn, 1) := dk_176 (dk_at dksX9_nameOf_2 23 rfl rfl)
def dkwX9_isWord_3 : List UInt8 := [3, 172]
abbrev dktX9_isWord_3 : List UInt8 := dkwX9_isWord_3 ++ []
def dkwX9_isWord_2 : List UInt8 := [182, 0, 184, 96, 182, 0, 175, 61, 28, 16, 97, 161, 0, 9, 28, 16, 122, 164, 0, 7, 4, 167, 0, 4]
abbrev dktX9_isWord_2 : List UInt8 := dkwX9_isWord_2 ++ dktX9_isWord_3
def dkwX9_isWord_1 : List UInt8 := [43, 28, 182, 0, 190, 159, 0, 5, 3, 172, 132, 2, 1, 167, 255, 225, 42, 42, 180, 0, 172, 43]
abbrev dktX9_isWord_1 : List UInt8 := dkwX9_isWord_1 ++ dktX9_isWord_2
def dkwX9_isWord_0 : List UInt8 := [42, 182, 0, 181, 3, 61, 28, 43, 182, 0, 184, 162, 0, 29, 42, 42, 180, 0, 172, 28, 96, 182, 0, 175]
abbrev dktX9_isWord_0 : List UInt8 := dkwX9_isWord_0 ++ dktX9_isWord_1
theorem dksX9_isWord_0 : cX9_isWord.data.toList.drop 0 = dktX9_isWord_0 := by decide +kernel
theorem dksX9_isWord_1 : cX9_isWord.data.toList.drop 24 = dktX9_isWord_1 := dk_seg dksX9_isWord_0 24 rfl rfl
theorem dksX9_isWord_2 : cX9_isWord.data.toList.drop 46 = dktX9_isWord_2 := dk_seg dksX9_isWord_1 22 rfl rfl
theorem dksX9_isWord_3 : cX9_isWord.data.toList.drop 70 = dktX9_isWord_3 := dk_seg dksX9_isWord_2 24 rfl rfl
theorem dX9_isWord_0 : decode cX9_isWord 0 = .ok (.aload_n 0, 1) := dk_42 (dk_at dksX9_isWord_0 0 rfl rfl)
theorem dX9_isWord_1 : decode cX9_isWord 1 = .ok (.invokevirtual 181, 3) := dk_182 0 181 (dk_at dksX9_isWord_0 1 rfl rfl)
theorem dX9_isWord_4 : decode cX9_isWord 4 = .ok (.iconst 0, 1) := dk_3 (dk_at dksX9_isWord_0 4 rfl rfl)
theorem dX9_isWord_5 : decode cX9_isWord 5 = .ok (.istore_n 2, 1) := dk_61 (dk_at dksX9_isWord_0 5 rfl rfl)
theorem dX9_isWord_6 : decode cX9_isWord 6 = .ok (.iload_n 2, 1) := dk_28 (dk_at dksX9_isWord_0 6 rfl rfl)
theorem dX9_isWord_7 : decode cX9_isWord 7 = .ok (.aload_n 1, 1) := dk_43 (dk_at dksX9_isWord_0 7 rfl rfl)
theorem dX9_isWord_8 : decode cX9_isWord 8 = .ok (.invokevirtual 184, 3) := dk_182 0 184 (dk_at dksX9_isWord_0 8 rfl rfl)
theorem dX9_isWord_11 : decode cX9_isWord 11 = .ok (.if_icmp .ge 29, 3) := dk_162 0 29 (dk_at dksX9_isWord_0 11 rfl rfl)
theorem dX9_isWord_14 : decode cX9_isWord 14 = .ok (.aload_n 0, 1) := dk_42 (dk_at dksX9_isWord_0 14 rfl rfl)
theorem dX9_isWord_15 : decode cX9_isWord 15 = .ok (.aload_n 0, 1) := dk_42 (dk_at dksX9_isWord_0 15 rfl rfl)
theorem dX9_isWord_16 : decode cX9_isWord 16 = .ok (.getfield 172, 3) := dk_180 0 172 (dk_at dksX9_isWord_0 16 rfl rfl)
theorem dX9_isWord_19 : decode cX9_isWord 19 = .ok (.iload_n 2, 1) := dk_28 (dk_at dksX9_isWord_0 19 rfl rfl)
theorem dX9_isWord_20 : decode cX9_isWord 20 = .ok (.iadd, 1) := dk_96 (dk_at dksX9_isWord_0 20 rfl rfl)
theorem dX9_isWord_21 : decode cX9_isWord 21 = .ok (.invokevirtual 175, 3) := dk_182 0 175 (dk_at dksX9_isWord_0 21 rfl rfl)
theorem dX9_isWord_24 : decode cX9_isWord 24 = .ok (.aload_n 1, 1) := dk_43 (dk_at dksX9_isWord_1 0 rfl rfl)
theorem dX9_isWord_25 : decode cX9_isWord 25 = .ok (.iload_n 2, 1) := dk_28 (dk_at dksX9_isWord_1 1 rfl rfl)
theorem dX9_isWord_26 : decode cX9_isWord 26 = .ok (.invokevirtual 190, 3) := dk_182 0 190 (dk_at dksX9_isWord_1 2 rfl rfl)
theorem dX9_isWord_29 : decode cX9_isWord 29 = .ok (.if_icmp .eq 5, 3) := dk_159 0 5 (dk_at dksX9_isWord_1 5 rfl rfl)
theorem dX9_isWord_32 : decode cX9_isWord 32 = .ok (.iconst 0, 1) := dk_3 (dk_at dksX9_isWord_1 8 rfl rfl)
theorem dX9_isWord_33 : decode cX9_isWord 33 = .ok (.ireturn, 1) := dk_172 (dk_at dksX9_isWord_1 9 rfl rfl)
theorem dX9_isWord_34 : decode cX9_isWord 34 = .ok (.iinc 2 1, 3) := dk_132 2 1 (dk_at dksX9_isWord_1 10 rfl rfl)
theorem dX9_isWord_37 : decode cX9_isWord 37 = .ok (.goto (-31), 3) := dk_167 255 225 (dk_at dksX9_isWord_1 13 rfl rfl)
theorem dX9_isWord_40 : decode cX9_isWord 40 = .ok (.aload_n 0, 1) := dk_42 (dk_at dksX9_isWord_1 16 rfl rfl)
theorem dX9_isWord_41 : decode cX9_isWord 41 = .ok (.aload_n 0, 1) := dk_42 (dk_at dksX9_isWord_1 17 rfl rfl)
theorem dX9_isWord_42 : decode cX9_isWord 42 = .ok (.getfield 172, 3) := dk_180 0 172 (dk_at dksX9_isWord_1 18 rfl rfl)
theorem dX9_isWord_45 : decode cX9_isWord 45 = .ok (.aload_n 1, 1) := dk_43 (dk_at dksX9_isWord_1 21 rfl rfl)
theorem dX9_isWord_46 : decode cX9_isWord 46 = .ok (.invokevirtual 184, 3) := dk_182 0 184 (dk_at dksX9_isWord_2 0 rfl rfl)
theorem dX9_isWord_49 : decode cX9_isWord 49 = .ok (.iadd, 1) := dk_96 (dk_at dksX9_isWord_2 3 rfl rfl)
theorem dX9_isWord_50 : decode cX9_isWord 50 = .ok (.invokevirtual 175, 3) := dk_182 0 175 (dk_at dksX9_isWord_2 4 rfl rfl)
theorem dX9_isWord_53 : decode cX9_isWord 53 = .ok (.istore_n 2, 1) := dk_61 (dk_at dksX9_isWord_2 7 rfl rfl)
theorem dX9_isWord_54 : decode cX9_isWord 54 = .ok (.iload_n 2, 1) := dk_28 (dk_at dksX9_isWord_2 8 rfl rfl)
theorem dX9_isWord_55 : decode cX9_isWord 55 = .ok (.bipush 97, 2) := dk_16 97 (dk_at dksX9_isWord_2 9 rfl rfl)
theorem dX9_isWord_57 : decode cX9_isWord 57 = .ok (.if_icmp .lt 9, 3) := dk_161 0 9 (dk_at dksX9_isWord_2 11 rfl rfl)
theorem dX9_isWord_60 : decode cX9_isWord 60 = .ok (.iload_n 2, 1) := dk_28 (dk_at dksX9_isWord_2 14 rfl rfl)
theorem dX9_isWord_61 : decode cX9_isWord 61 = .ok (.bipush 122, 2) := dk_16 122 (dk_at dksX9_isWord_2 15 rfl rfl)
theorem dX9_isWord_63 : decode cX9_isWord 63 = .ok (.if_icmp .le 7, 3) := dk_164 0 7 (dk_at dksX9_isWord_2 17 rfl rfl)
theorem dX9_isWord_66 : decode cX9_isWord 66 = .ok (.iconst 1, 1) := dk_4 (dk_at dksX9_isWord_2 20 rfl rfl)
theorem dX9_isWord_67 : decode cX9_isWord 67 = .ok (.goto 4, 3) := dk_167 0 4 (dk_at dksX9_isWord_2 21 rfl rfl)
theorem dX9_isWord_70 : decode cX9_isWord 70 = .ok (.iconst 0, 1) := dk_3 (dk_at dksX9_isWord_3 0 rfl rfl)
theorem dX9_isWord_71 : decode cX9_isWord 71 = .ok (.ireturn, 1) := dk_172 (dk_at dksX9_isWord_3 1 rfl rfl)
def dkwX9_wrong_0 : List UInt8 := [42, 180, 0, 178, 158, 0, 4, 177, 42, 27, 181, 0, 178, 42, 28, 181, 0, 37, 177]
abbrev dktX9_wrong_0 : List UInt8 := dkwX9_wrong_0 ++ []
theorem dksX9_wrong_0 : cX9_wrong.data.toList.drop 0 = dktX9_wrong_0 := by decide +kernel
theorem dX9_wrong_0 : decode cX9_wrong 0 = .ok (.aload_n 0, 1) := dk_42 (dk_at dksX9_wrong_0 0 rfl rfl)
theorem dX9_wrong_1 : decode cX9_wrong 1 = .ok (.getfield 178, 3) := dk_180 0 178 (dk_at dksX9_wrong_0 1 rfl rfl)
theorem dX9_wrong_4 : decode cX9_wrong 4 = .ok (.ifCond .le 4, 3) := dk_158 0 4 (dk_at dksX9_wrong_0 4 rfl rfl)
theorem dX9_wrong_7 : decode cX9_wrong 7 = .ok (.return_, 1) := dk_177 (dk_at dksX9_wrong_0 7 rfl rfl)
theorem dX9_wrong_8 : decode cX9_wrong 8 = .ok (.aload_n 0, 1) := dk_42 (dk_at dksX9_wrong_0 8 rfl rfl)
theorem dX9_wrong_9 : decode cX9_wrong 9 = .ok (.iload_n 1, 1) := dk_27 (dk_at dksX9_wrong_0 9 rfl rfl)
theorem dX9_wrong_10 : decode cX9_wrong 10 = .ok (.putfield 178, 3) := dk_181 0 178 (dk_at dksX9_wrong_0 10 rfl rfl)
theorem dX9_wrong_13 : decode cX9_wrong 13 = .ok (.aload_n 0, 1) := dk_42 (dk_at dksX9_wrong_0 13 rfl rfl)
theorem dX9_wrong_14 : decode cX9_wrong 14 = .ok (.iload_n 2, 1) := dk_28 (dk_at dksX9_wrong_0 14 rfl rfl)
theorem dX9_wrong_15 : decode cX9_wrong 15 = .ok (.putfield 37, 3) := dk_181 0 37 (dk_at dksX9_wrong_0 15 rfl rfl)
theorem dX9_wrong_18 : decode cX9_wrong 18 = .ok (.return_, 1) := dk_177 (dk_at dksX9_wrong_0 18 rfl rfl)
def dkwX9_clause_6 : List UInt8 := [177]
abbrev dktX9_clause_6 : List UInt8 := dkwX9_clause_6 ++ []
def dkwX9_clause_5 : List UInt8 := [180, 0, 172, 182, 0, 227, 167, 0, 12, 42, 4, 42, 180, 0, 172, 182, 0, 227, 42, 16, 59, 182, 0, 243]
abbrev dktX9_clause_5 : List UInt8 := dkwX9_clause_5 ++ dktX9_clause_6
def dkwX9_clause_4 : List UInt8 := [180, 0, 49, 42, 180, 0, 231, 51, 154, 0, 34, 42, 19, 1, 49, 182, 1, 8, 154, 0, 24, 42, 4, 42]
abbrev dktX9_clause_4 : List UInt8 := dkwX9_clause_4 ++ dktX9_clause_5
def dkwX9_clause_3 : List UInt8 := [182, 1, 8, 153, 0, 53, 42, 180, 0, 49, 42, 180, 0, 231, 42, 19, 1, 47, 182, 1, 8, 84, 42]
abbrev dktX9_clause_3 : List UInt8 := dkwX9_clause_3 ++ dktX9_clause_4
def dkwX9_clause_2 : List UInt8 := [180, 0, 234, 79, 42, 182, 1, 11, 42, 16, 16, 3, 182, 0, 249, 167, 0, 72, 42, 19, 1, 45]
abbrev dktX9_clause_2 : List UInt8 := dkwX9_clause_2 ++ dktX9_clause_3
def dkwX9_clause_1 : List UInt8 := [181, 0, 172, 42, 16, 61, 182, 0, 243, 42, 180, 0, 46, 16, 8, 42, 180, 0, 231, 104, 27, 96, 42]
abbrev dktX9_clause_1 : List UInt8 := dkwX9_clause_1 ++ dktX9_clause_2
def dkwX9_clause_0 : List UInt8 := [42, 182, 1, 42, 60, 27, 155, 0, 57, 42, 89, 180, 0, 172, 27, 184, 0, 223, 182, 0, 184, 96]
abbrev dktX9_clause_0 : List UInt8 := dkwX9_clause_0 ++ dktX9_clause_1
theorem dksX9_clause_0 : cX9_clause.data.toList.drop 0 = dktX9_clause_0 := by decide +kernel
theorem dksX9_clause_1 : cX9_clause.data.toList.drop 22 = dktX9_clause_1 := dk_seg dksX9_clause_0 22 rfl rfl
theorem dksX9_clause_2 : cX9_clause.data.toList.drop 45 = dktX9_clause_2 := dk_seg dksX9_clause_1 23 rfl rfl
theorem dksX9_clause_3 : cX9_clause.data.toList.drop 67 = dktX9_clause_3 := dk_seg dksX9_clause_2 22 rfl rfl
theorem dksX9_clause_4 : cX9_clause.data.toList.drop 90 = dktX9_clause_4 := dk_seg dksX9_clause_3 23 rfl rfl
theorem dksX9_clause_5 : cX9_clause.data.toList.drop 114 = dktX9_clause_5 := dk_seg dksX9_clause_4 24 rfl rfl
theorem dksX9_clause_6 : cX9_clause.data.toList.drop 138 = dktX9_clause_6 := dk_seg dksX9_clause_5 24 rfl rfl
theorem dX9_clause_0 : decode cX9_clause 0 = .ok (.aload_n 0, 1) := dk_42 (dk_at dksX9_clause_0 0 rfl rfl)
theorem dX9_clause_1 : decode cX9_clause 1 = .ok (.invokevirtual 298, 3) := dk_182 1 42 (dk_at dksX9_clause_0 1 rfl rfl)
theorem dX9_clause_4 : decode cX9_clause 4 = .ok (.istore_n 1, 1) := dk_60 (dk_at dksX9_clause_0 4 rfl rfl)
theorem dX9_clause_5 : decode cX9_clause 5 = .ok (.iload_n 1, 1) := dk_27 (dk_at dksX9_clause_0 5 rfl rfl)
theorem dX9_clause_6 : decode cX9_clause 6 = .ok (.ifCond .lt 57, 3) := dk_155 0 57 (dk_at dksX9_clause_0 6 rfl rfl)
theorem dX9_clause_9 : decode cX9_clause 9 = .ok (.aload_n 0, 1) := dk_42 (dk_at dksX9_clause_0 9 rfl rfl)
theorem dX9_clause_10 : decode cX9_clause 10 = .ok (.dup, 1) := dk_89 (dk_at dksX9_clause_0 10 rfl rfl)
theorem dX9_clause_11 : decode cX9_clause 11 = .ok (.getfield 172, 3) := dk_180 0 172 (dk_at dksX9_clause_0 11 rfl rfl)
theorem dX9_clause_14 : decode cX9_clause 14 = .ok (.iload_n 1, 1) := dk_27 (dk_at dksX9_clause_0 14 rfl rfl)
theorem dX9_clause_15 : decode cX9_clause 15 = .ok (.invokestatic 223, 3) := dk_184 0 223 (dk_at dksX9_clause_0 15 rfl rfl)
theorem dX9_clause_18 : decode cX9_clause 18 = .ok (.invokevirtual 184, 3) := dk_182 0 184 (dk_at dksX9_clause_0 18 rfl rfl)
theorem dX9_clause_21 : decode cX9_clause 21 = .ok (.iadd, 1) := dk_96 (dk_at dksX9_clause_0 21 rfl rfl)
theorem dX9_clause_22 : decode cX9_clause 22 = .ok (.putfield 172, 3) := dk_181 0 172 (dk_at dksX9_clause_1 0 rfl rfl)
theorem dX9_clause_25 : decode cX9_clause 25 = .ok (.aload_n 0, 1) := dk_42 (dk_at dksX9_clause_1 3 rfl rfl)
theorem dX9_clause_26 : decode cX9_clause 26 = .ok (.bipush 61, 2) := dk_16 61 (dk_at dksX9_clause_1 4 rfl rfl)
theorem dX9_clause_28 : decode cX9_clause 28 = .ok (.invokevirtual 243, 3) := dk_182 0 243 (dk_at dksX9_clause_1 6 rfl rfl)
theorem dX9_clause_31 : decode cX9_clause 31 = .ok (.aload_n 0, 1) := dk_42 (dk_at dksX9_clause_1 9 rfl rfl)
theorem dX9_clause_32 : decode cX9_clause 32 = .ok (.getfield 46, 3) := dk_180 0 46 (dk_at dksX9_clause_1 10 rfl rfl)
theorem dX9_clause_35 : decode cX9_clause 35 = .ok (.bipush 8, 2) := dk_16 8 (dk_at dksX9_clause_1 13 rfl rfl)
theorem dX9_clause_37 : decode cX9_clause 37 = .ok (.aload_n 0, 1) := dk_42 (dk_at dksX9_clause_1 15 rfl rfl)
theorem dX9_clause_38 : decode cX9_clause 38 = .ok (.getfield 231, 3) := dk_180 0 231 (dk_at dksX9_clause_1 16 rfl rfl)
theorem dX9_clause_41 : decode cX9_clause 41 = .ok (.imul, 1) := dk_104 (dk_at dksX9_clause_1 19 rfl rfl)
theorem dX9_clause_42 : decode cX9_clause 42 = .ok (.iload_n 1, 1) := dk_27 (dk_at dksX9_clause_1 20 rfl rfl)
theorem dX9_clause_43 : decode cX9_clause 43 = .ok (.iadd, 1) := dk_96 (dk_at dksX9_clause_1 21 rfl rfl)
theorem dX9_clause_44 : decode cX9_clause 44 = .ok (.aload_n 0, 1) := dk_42 (dk_at dksX9_clause_1 22 rfl rfl)
theorem dX9_clause_45 : decode cX9_clause 45 = .ok (.getfield 234, 3) := dk_180 0 234 (dk_at dksX9_clause_2 0 rfl rfl)
theorem dX9_clause_48 : decode cX9_clause 48 = .ok (.iastore, 1) := dk_79 (dk_at dksX9_clause_2 3 rfl rfl)
theorem dX9_clause_49 : decode cX9_clause 49 = .ok (.aload_n 0, 1) := dk_42 (dk_at dksX9_clause_2 4 rfl rfl)
theorem dX9_clause_50 : decode cX9_clause 50 = .ok (.invokevirtual 267, 3) := dk_182 1 11 (dk_at dksX9_clause_2 5 rfl rfl)
theorem dX9_clause_53 : decode cX9_clause 53 = .ok (.aload_n 0, 1) := dk_42 (dk_at dksX9_clause_2 8 rfl rfl)
theorem dX9_clause_54 : decode cX9_clause 54 = .ok (.bipush 16, 2) := dk_16 16 (dk_at dksX9_clause_2 9 rfl rfl)
theorem dX9_clause_56 : decode cX9_clause 56 = .ok (.iconst 0, 1) := dk_3 (dk_at dksX9_clause_2 11 rfl rfl)
theorem dX9_clause_57 : decode cX9_clause 57 = .ok (.invokevirtual 249, 3) := dk_182 0 249 (dk_at dksX9_clause_2 12 rfl rfl)
theorem dX9_clause_60 : decode cX9_clause 60 = .ok (.goto 72, 3) := dk_167 0 72 (dk_at dksX9_clause_2 15 rfl rfl)
theorem dX9_clause_63 : decode cX9_clause 63 = .ok (.aload_n 0, 1) := dk_42 (dk_at dksX9_clause_2 18 rfl rfl)
theorem dX9_clause_64 : decode cX9_clause 64 = .ok (.ldc_w 301, 3) := dk_19 1 45 (dk_at dksX9_clause_2 19 rfl rfl)
theorem dX9_clause_67 : decode cX9_clause 67 = .ok (.invokevirtual 264, 3) := dk_182 1 8 (dk_at dksX9_clause_3 0 rfl rfl)
theorem dX9_clause_70 : decode cX9_clause 70 = .ok (.ifCond .eq 53, 3) := dk_153 0 53 (dk_at dksX9_clause_3 3 rfl rfl)
theorem dX9_clause_73 : decode cX9_clause 73 = .ok (.aload_n 0, 1) := dk_42 (dk_at dksX9_clause_3 6 rfl rfl)
theorem dX9_clause_74 : decode cX9_clause 74 = .ok (.getfield 49, 3) := dk_180 0 49 (dk_at dksX9_clause_3 7 rfl rfl)
theorem dX9_clause_77 : decode cX9_clause 77 = .ok (.aload_n 0, 1) := dk_42 (dk_at dksX9_clause_3 10 rfl rfl)
theorem dX9_clause_78 : decode cX9_clause 78 = .ok (.getfield 231, 3) := dk_180 0 231 (dk_at dksX9_clause_3 11 rfl rfl)
theorem dX9_clause_81 : decode cX9_clause 81 = .ok (.aload_n 0, 1) := dk_42 (dk_at dksX9_clause_3 14 rfl rfl)
theorem dX9_clause_82 : decode cX9_clause 82 = .ok (.ldc_w 303, 3) := dk_19 1 47 (dk_at dksX9_clause_3 15 rfl rfl)
theorem dX9_clause_85 : decode cX9_clause 85 = .ok (.invokevirtual 264, 3) := dk_182 1 8 (dk_at dksX9_clause_3 18 rfl rfl)
theorem dX9_clause_88 : decode cX9_clause 88 = .ok (.bastore, 1) := dk_84 (dk_at dksX9_clause_3 21 rfl rfl)
theorem dX9_clause_89 : decode cX9_clause 89 = .ok (.aload_n 0, 1) := dk_42 (dk_at dksX9_clause_3 22 rfl rfl)
theorem dX9_clause_90 : decode cX9_clause 90 = .ok (.getfield 49, 3) := dk_180 0 49 (dk_at dksX9_clause_4 0 rfl rfl)
theorem dX9_clause_93 : decode cX9_clause 93 = .ok (.aload_n 0, 1) := dk_42 (dk_at dksX9_clause_4 3 rfl rfl)
theorem dX9_clause_94 : decode cX9_clause 94 = .ok (.getfield 231, 3) := dk_180 0 231 (dk_at dksX9_clause_4 4 rfl rfl)
theorem dX9_clause_97 : decode cX9_clause 97 = .ok (.baload, 1) := dk_51 (dk_at dksX9_clause_4 7 rfl rfl)
theorem dX9_clause_98 : decode cX9_clause 98 = .ok (.ifCond .ne 34, 3) := dk_154 0 34 (dk_at dksX9_clause_4 8 rfl rfl)
theorem dX9_clause_101 : decode cX9_clause 101 = .ok (.aload_n 0, 1) := dk_42 (dk_at dksX9_clause_4 11 rfl rfl)
theorem dX9_clause_102 : decode cX9_clause 102 = .ok (.ldc_w 305, 3) := dk_19 1 49 (dk_at dksX9_clause_4 12 rfl rfl)
theorem dX9_clause_105 : decode cX9_clause 105 = .ok (.invokevirtual 264, 3) := dk_182 1 8 (dk_at dksX9_clause_4 15 rfl rfl)
theorem dX9_clause_108 : decode cX9_clause 108 = .ok (.ifCond .ne 24, 3) := dk_154 0 24 (dk_at dksX9_clause_4 18 rfl rfl)
theorem dX9_clause_111 : decode cX9_clause 111 = .ok (.aload_n 0, 1) := dk_42 (dk_at dksX9_clause_4 21 rfl rfl)
theorem dX9_clause_112 : decode cX9_clause 112 = .ok (.iconst 1, 1) := dk_4 (dk_at dksX9_clause_4 22 rfl rfl)
theorem dX9_clause_113 : decode cX9_clause 113 = .ok (.aload_n 0, 1) := dk_42 (dk_at dksX9_clause_4 23 rfl rfl)
theorem dX9_clause_114 : decode cX9_clause 114 = .ok (.getfield 172, 3) := dk_180 0 172 (dk_at dksX9_clause_5 0 rfl rfl)
theorem dX9_clause_117 : decode cX9_clause 117 = .ok (.invokevirtual 227, 3) := dk_182 0 227 (dk_at dksX9_clause_5 3 rfl rfl)
theorem dX9_clause_120 : decode cX9_clause 120 = .ok (.goto 12, 3) := dk_167 0 12 (dk_at dksX9_clause_5 6 rfl rfl)
theorem dX9_clause_123 : decode cX9_clause 123 = .ok (.aload_n 0, 1) := dk_42 (dk_at dksX9_clause_5 9 rfl rfl)
theorem dX9_clause_124 : decode cX9_clause 124 = .ok (.iconst 1, 1) := dk_4 (dk_at dksX9_clause_5 10 rfl rfl)
theorem dX9_clause_125 : decode cX9_clause 125 = .ok (.aload_n 0, 1) := dk_42 (dk_at dksX9_clause_5 11 rfl rfl)
theorem dX9_clause_126 : decode cX9_clause 126 = .ok (.getfield 172, 3) := dk_180 0 172 (dk_at dksX9_clause_5 12 rfl rfl)
theorem dX9_clause_129 : decode cX9_clause 129 = .ok (.invokevirtual 227, 3) := dk_182 0 227 (dk_at dksX9_clause_5 15 rfl rfl)
theorem dX9_clause_132 : decode cX9_clause 132 = .ok (.aload_n 0, 1) := dk_42 (dk_at dksX9_clause_5 18 rfl rfl)
theorem dX9_clause_133 : decode cX9_clause 133 = .ok (.bipush 59, 2) := dk_16 59 (dk_at dksX9_clause_5 19 rfl rfl)
theorem dX9_clause_135 : decode cX9_clause 135 = .ok (.invokevirtual 243, 3) := dk_182 0 243 (dk_at dksX9_clause_5 21 rfl rfl)
theorem dX9_clause_138 : decode cX9_clause 138 = .ok (.return_, 1) := dk_177 (dk_at dksX9_clause_6 0 rfl rfl)
def dkwX9_sign_2 : List UInt8 := [42, 4, 42, 180, 0, 172, 182, 0, 227, 177]
abbrev dktX9_sign_2 : List UInt8 := dkwX9_sign_2 ++ []
def dkwX9_sign_1 : List UInt8 := [42, 180, 0, 172, 182, 0, 175, 27, 160, 0, 16, 42, 89, 180, 0, 172, 4, 96, 181, 0, 172, 167, 0, 12]
abbrev dktX9_sign_1 : List UInt8 := dkwX9_sign_1 ++ dktX9_sign_2
def dkwX9_sign_0 : List UInt8 := [42, 180, 0, 178, 158, 0, 4, 177, 42, 182, 0, 181, 42, 180, 0, 172, 42, 180, 0, 169, 162, 0, 28, 42]
abbrev dktX9_sign_0 : List UInt8 := dkwX9_sign_0 ++ dktX9_sign_1
theorem dksX9_sign_0 : cX9_sign.data.toList.drop 0 = dktX9_sign_0 := by decide +kernel
theorem dksX9_sign_1 : cX9_sign.data.toList.drop 24 = dktX9_sign_1 := dk_seg dksX9_sign_0 24 rfl rfl
theorem dksX9_sign_2 : cX9_sign.data.toList.drop 48 = dktX9_sign_2 := dk_seg dksX9_sign_1 24 rfl rfl
theorem dX9_sign_0 : decode cX9_sign 0 = .ok (.aload_n 0, 1) := dk_42 (dk_at dksX9_sign_0 0 rfl rfl)
theorem dX9_sign_1 : decode cX9_sign 1 = .ok (.getfield 178, 3) := dk_180 0 178 (dk_at dksX9_sign_0 1 rfl rfl)
theorem dX9_sign_4 : decode cX9_sign 4 = .ok (.ifCond .le 4, 3) := dk_158 0 4 (dk_at dksX9_sign_0 4 rfl rfl)
theorem dX9_sign_7 : decode cX9_sign 7 = .ok (.return_, 1) := dk_177 (dk_at dksX9_sign_0 7 rfl rfl)
theorem dX9_sign_8 : decode cX9_sign 8 = .ok (.aload_n 0, 1) := dk_42 (dk_at dksX9_sign_0 8 rfl rfl)
theorem dX9_sign_9 : decode cX9_sign 9 = .ok (.invokevirtual 181, 3) := dk_182 0 181 (dk_at dksX9_sign_0 9 rfl rfl)
theorem dX9_sign_12 : decode cX9_sign 12 = .ok (.aload_n 0, 1) := dk_42 (dk_at dksX9_sign_0 12 rfl rfl)
theorem dX9_sign_13 : decode cX9_sign 13 = .ok (.getfield 172, 3) := dk_180 0 172 (dk_at dksX9_sign_0 13 rfl rfl)
theorem dX9_sign_16 : decode cX9_sign 16 = .ok (.aload_n 0, 1) := dk_42 (dk_at dksX9_sign_0 16 rfl rfl)
theorem dX9_sign_17 : decode cX9_sign 17 = .ok (.getfield 169, 3) := dk_180 0 169 (dk_at dksX9_sign_0 17 rfl rfl)
theorem dX9_sign_20 : decode cX9_sign 20 = .ok (.if_icmp .ge 28, 3) := dk_162 0 28 (dk_at dksX9_sign_0 20 rfl rfl)
theorem dX9_sign_23 : decode cX9_sign 23 = .ok (.aload_n 0, 1) := dk_42 (dk_at dksX9_sign_0 23 rfl rfl)
theorem dX9_sign_24 : decode cX9_sign 24 = .ok (.aload_n 0, 1) := dk_42 (dk_at dksX9_sign_1 0 rfl rfl)
theorem dX9_sign_25 : decode cX9_sign 25 = .ok (.getfield 172, 3) := dk_180 0 172 (dk_at dksX9_sign_1 1 rfl rfl)
theorem dX9_sign_28 : decode cX9_sign 28 = .ok (.invokevirtual 175, 3) := dk_182 0 175 (dk_at dksX9_sign_1 4 rfl rfl)
theorem dX9_sign_31 : decode cX9_sign 31 = .ok (.iload_n 1, 1) := dk_27 (dk_at dksX9_sign_1 7 rfl rfl)
theorem dX9_sign_32 : decode cX9_sign 32 = .ok (.if_icmp .ne 16, 3) := dk_160 0 16 (dk_at dksX9_sign_1 8 rfl rfl)
theorem dX9_sign_35 : decode cX9_sign 35 = .ok (.aload_n 0, 1) := dk_42 (dk_at dksX9_sign_1 11 rfl rfl)
theorem dX9_sign_36 : decode cX9_sign 36 = .ok (.dup, 1) := dk_89 (dk_at dksX9_sign_1 12 rfl rfl)
theorem dX9_sign_37 : decode cX9_sign 37 = .ok (.getfield 172, 3) := dk_180 0 172 (dk_at dksX9_sign_1 13 rfl rfl)
theorem dX9_sign_40 : decode cX9_sign 40 = .ok (.iconst 1, 1) := dk_4 (dk_at dksX9_sign_1 16 rfl rfl)
theorem dX9_sign_41 : decode cX9_sign 41 = .ok (.iadd, 1) := dk_96 (dk_at dksX9_sign_1 17 rfl rfl)
theorem dX9_sign_42 : decode cX9_sign 42 = .ok (.putfield 172, 3) := dk_181 0 172 (dk_at dksX9_sign_1 18 rfl rfl)
theorem dX9_sign_45 : decode cX9_sign 45 = .ok (.goto 12, 3) := dk_167 0 12 (dk_at dksX9_sign_1 21 rfl rfl)
theorem dX9_sign_48 : decode cX9_sign 48 = .ok (.aload_n 0, 1) := dk_42 (dk_at dksX9_sign_2 0 rfl rfl)
theorem dX9_sign_49 : decode cX9_sign 49 = .ok (.iconst 1, 1) := dk_4 (dk_at dksX9_sign_2 1 rfl rfl)
theorem dX9_sign_50 : decode cX9_sign 50 = .ok (.aload_n 0, 1) := dk_42 (dk_at dksX9_sign_2 2 rfl rfl)
theorem dX9_sign_51 : decode cX9_sign 51 = .ok (.getfield 172, 3) := dk_180 0 172 (dk_at dksX9_sign_2 3 rfl rfl)
theorem dX9_sign_54 : decode cX9_sign 54 = .ok (.invokevirtual 227, 3) := dk_182 0 227 (dk_at dksX9_sign_2 6 rfl rfl)
theorem dX9_sign_57 : decode cX9_sign 57 = .ok (.return_, 1) := dk_177 (dk_at dksX9_sign_2 9 rfl rfl)
def dkwX9_sum_3 : List UInt8 := [160, 0, 7, 4, 167, 0, 4, 5, 3, 182, 0, 249, 42, 182, 0, 181, 167, 255, 180, 177]
abbrev dktX9_sum_3 : List UInt8 := dkwX9_sum_3 ++ []
def dkwX9_sum_2 : List UInt8 := [182, 0, 175, 60, 42, 89, 180, 0, 172, 4, 96, 181, 0, 172, 42, 182, 0, 246, 42, 27, 16, 43]
abbrev dktX9_sum_2 : List UInt8 := dkwX9_sum_2 ++ dktX9_sum_3
def dkwX9_sum_1 : List UInt8 := [16, 43, 159, 0, 16, 42, 42, 180, 0, 172, 182, 0, 175, 16, 45, 160, 0, 49, 42, 42, 180, 0, 172]
abbrev dktX9_sum_1 : List UInt8 := dkwX9_sum_1 ++ dktX9_sum_2
def dkwX9_sum_0 : List UInt8 := [42, 182, 0, 246, 42, 182, 0, 181, 42, 180, 0, 178, 154, 0, 75, 42, 42, 180, 0, 172, 182, 0, 175]
abbrev dktX9_sum_0 : List UInt8 := dkwX9_sum_0 ++ dktX9_sum_1
theorem dksX9_sum_0 : cX9_sum.data.toList.drop 0 = dktX9_sum_0 := by decide +kernel
theorem dksX9_sum_1 : cX9_sum.data.toList.drop 23 = dktX9_sum_1 := dk_seg dksX9_sum_0 23 rfl rfl
theorem dksX9_sum_2 : cX9_sum.data.toList.drop 46 = dktX9_sum_2 := dk_seg dksX9_sum_1 23 rfl rfl
theorem dksX9_sum_3 : cX9_sum.data.toList.drop 68 = dktX9_sum_3 := dk_seg dksX9_sum_2 22 rfl rfl
theorem dX9_sum_0 : decode cX9_sum 0 = .ok (.aload_n 0, 1) := dk_42 (dk_at dksX9_sum_0 0 rfl rfl)
theorem dX9_sum_1 : decode cX9_sum 1 = .ok (.invokevirtual 246, 3) := dk_182 0 246 (dk_at dksX9_sum_0 1 rfl rfl)
theorem dX9_sum_4 : decode cX9_sum 4 = .ok (.aload_n 0, 1) := dk_42 (dk_at dksX9_sum_0 4 rfl rfl)
theorem dX9_sum_5 : decode cX9_sum 5 = .ok (.invokevirtual 181, 3) := dk_182 0 181 (dk_at dksX9_sum_0 5 rfl rfl)
theorem dX9_sum_8 : decode cX9_sum 8 = .ok (.aload_n 0, 1) := dk_42 (dk_at dksX9_sum_0 8 rfl rfl)
theorem dX9_sum_9 : decode cX9_sum 9 = .ok (.getfield 178, 3) := dk_180 0 178 (dk_at dksX9_sum_0 9 rfl rfl)
theorem dX9_sum_12 : decode cX9_sum 12 = .ok (.ifCond .ne 75, 3) := dk_154 0 75 (dk_at dksX9_sum_0 12 rfl rfl)
theorem dX9_sum_15 : decode cX9_sum 15 = .ok (.aload_n 0, 1) := dk_42 (dk_at dksX9_sum_0 15 rfl rfl)
theorem dX9_sum_16 : decode cX9_sum 16 = .ok (.aload_n 0, 1) := dk_42 (dk_at dksX9_sum_0 16 rfl rfl)
theorem dX9_sum_17 : decode cX9_sum 17 = .ok (.getfield 172, 3) := dk_180 0 172 (dk_at dksX9_sum_0 17 rfl rfl)
theorem dX9_sum_20 : decode cX9_sum 20 = .ok (.invokevirtual 175, 3) := dk_182 0 175 (dk_at dksX9_sum_0 20 rfl rfl)
theorem dX9_sum_23 : decode cX9_sum 23 = .ok (.bipush 43, 2) := dk_16 43 (dk_at dksX9_sum_1 0 rfl rfl)
theorem dX9_sum_25 : decode cX9_sum 25 = .ok (.if_icmp .eq 16, 3) := dk_159 0 16 (dk_at dksX9_sum_1 2 rfl rfl)
theorem dX9_sum_28 : decode cX9_sum 28 = .ok (.aload_n 0, 1) := dk_42 (dk_at dksX9_sum_1 5 rfl rfl)
theorem dX9_sum_29 : decode cX9_sum 29 = .ok (.aload_n 0, 1) := dk_42 (dk_at dksX9_sum_1 6 rfl rfl)
theorem dX9_sum_30 : decode cX9_sum 30 = .ok (.getfield 172, 3) := dk_180 0 172 (dk_at dksX9_sum_1 7 rfl rfl)
theorem dX9_sum_33 : decode cX9_sum 33 = .ok (.invokevirtual 175, 3) := dk_182 0 175 (dk_at dksX9_sum_1 10 rfl rfl)
theorem dX9_sum_36 : decode cX9_sum 36 = .ok (.bipush 45, 2) := dk_16 45 (dk_at dksX9_sum_1 13 rfl rfl)
theorem dX9_sum_38 : decode cX9_sum 38 = .ok (.if_icmp .ne 49, 3) := dk_160 0 49 (dk_at dksX9_sum_1 15 rfl rfl)
theorem dX9_sum_41 : decode cX9_sum 41 = .ok (.aload_n 0, 1) := dk_42 (dk_at dksX9_sum_1 18 rfl rfl)
theorem dX9_sum_42 : decode cX9_sum 42 = .ok (.aload_n 0, 1) := dk_42 (dk_at dksX9_sum_1 19 rfl rfl)
theorem dX9_sum_43 : decode cX9_sum 43 = .ok (.getfield 172, 3) := dk_180 0 172 (dk_at dksX9_sum_1 20 rfl rfl)
theorem dX9_sum_46 : decode cX9_sum 46 = .ok (.invokevirtual 175, 3) := dk_182 0 175 (dk_at dksX9_sum_2 0 rfl rfl)
theorem dX9_sum_49 : decode cX9_sum 49 = .ok (.istore_n 1, 1) := dk_60 (dk_at dksX9_sum_2 3 rfl rfl)
theorem dX9_sum_50 : decode cX9_sum 50 = .ok (.aload_n 0, 1) := dk_42 (dk_at dksX9_sum_2 4 rfl rfl)
theorem dX9_sum_51 : decode cX9_sum 51 = .ok (.dup, 1) := dk_89 (dk_at dksX9_sum_2 5 rfl rfl)
theorem dX9_sum_52 : decode cX9_sum 52 = .ok (.getfield 172, 3) := dk_180 0 172 (dk_at dksX9_sum_2 6 rfl rfl)
theorem dX9_sum_55 : decode cX9_sum 55 = .ok (.iconst 1, 1) := dk_4 (dk_at dksX9_sum_2 9 rfl rfl)
theorem dX9_sum_56 : decode cX9_sum 56 = .ok (.iadd, 1) := dk_96 (dk_at dksX9_sum_2 10 rfl rfl)
theorem dX9_sum_57 : decode cX9_sum 57 = .ok (.putfield 172, 3) := dk_181 0 172 (dk_at dksX9_sum_2 11 rfl rfl)
theorem dX9_sum_60 : decode cX9_sum 60 = .ok (.aload_n 0, 1) := dk_42 (dk_at dksX9_sum_2 14 rfl rfl)
theorem dX9_sum_61 : decode cX9_sum 61 = .ok (.invokevirtual 246, 3) := dk_182 0 246 (dk_at dksX9_sum_2 15 rfl rfl)
theorem dX9_sum_64 : decode cX9_sum 64 = .ok (.aload_n 0, 1) := dk_42 (dk_at dksX9_sum_2 18 rfl rfl)
theorem dX9_sum_65 : decode cX9_sum 65 = .ok (.iload_n 1, 1) := dk_27 (dk_at dksX9_sum_2 19 rfl rfl)
theorem dX9_sum_66 : decode cX9_sum 66 = .ok (.bipush 43, 2) := dk_16 43 (dk_at dksX9_sum_2 20 rfl rfl)
theorem dX9_sum_68 : decode cX9_sum 68 = .ok (.if_icmp .ne 7, 3) := dk_160 0 7 (dk_at dksX9_sum_3 0 rfl rfl)
theorem dX9_sum_71 : decode cX9_sum 71 = .ok (.iconst 1, 1) := dk_4 (dk_at dksX9_sum_3 3 rfl rfl)
theorem dX9_sum_72 : decode cX9_sum 72 = .ok (.goto 4, 3) := dk_167 0 4 (dk_at dksX9_sum_3 4 rfl rfl)
theorem dX9_sum_75 : decode cX9_sum 75 = .ok (.iconst 2, 1) := dk_5 (dk_at dksX9_sum_3 7 rfl rfl)
theorem dX9_sum_76 : decode cX9_sum 76 = .ok (.iconst 0, 1) := dk_3 (dk_at dksX9_sum_3 8 rfl rfl)
theorem dX9_sum_77 : decode cX9_sum 77 = .ok (.invokevirtual 249, 3) := dk_182 0 249 (dk_at dksX9_sum_3 9 rfl rfl)
theorem dX9_sum_80 : decode cX9_sum 80 = .ok (.aload_n 0, 1) := dk_42 (dk_at dksX9_sum_3 12 rfl rfl)
theorem dX9_sum_81 : decode cX9_sum 81 = .ok (.invokevirtual 181, 3) := dk_182 0 181 (dk_at dksX9_sum_3 13 rfl rfl)
theorem dX9_sum_84 : decode cX9_sum 84 = .ok (.goto (-76), 3) := dk_167 255 180 (dk_at dksX9_sum_3 16 rfl rfl)
theorem dX9_sum_87 : decode cX9_sum 87 = .ok (.return_, 1) := dk_177 (dk_at dksX9_sum_3 19 rfl rfl)
def dkwX9_product_4 : List UInt8 := [7, 167, 0, 4, 8, 3, 182, 0, 249, 42, 182, 0, 181, 167, 255, 157, 177]
abbrev dktX9_product_4 : List UInt8 := dkwX9_product_4 ++ []
def dkwX9_product_3 : List UInt8 := [181, 0, 172, 42, 182, 0, 252, 42, 27, 16, 42, 160, 0, 7, 6, 167, 0, 14, 27, 16, 47, 160, 0, 7]
abbrev dktX9_product_3 : List UInt8 := dkwX9_product_3 ++ dktX9_product_4
def dkwX9_product_2 : List UInt8 := [182, 0, 175, 16, 37, 160, 0, 59, 42, 42, 180, 0, 172, 182, 0, 175, 60, 42, 89, 180, 0, 172, 4, 96]
abbrev dktX9_product_2 : List UInt8 := dkwX9_product_2 ++ dktX9_product_3
def dkwX9_product_1 : List UInt8 := [16, 42, 159, 0, 29, 42, 42, 180, 0, 172, 182, 0, 175, 16, 47, 159, 0, 16, 42, 42, 180, 0, 172]
abbrev dktX9_product_1 : List UInt8 := dkwX9_product_1 ++ dktX9_product_2
def dkwX9_product_0 : List UInt8 := [42, 182, 0, 252, 42, 182, 0, 181, 42, 180, 0, 178, 154, 0, 98, 42, 42, 180, 0, 172, 182, 0, 175]
abbrev dktX9_product_0 : List UInt8 := dkwX9_product_0 ++ dktX9_product_1
theorem dksX9_product_0 : cX9_product.data.toList.drop 0 = dktX9_product_0 := by decide +kernel
theorem dksX9_product_1 : cX9_product.data.toList.drop 23 = dktX9_product_1 := dk_seg dksX9_product_0 23 rfl rfl
theorem dksX9_product_2 : cX9_product.data.toList.drop 46 = dktX9_product_2 := dk_seg dksX9_product_1 23 rfl rfl
theorem dksX9_product_3 : cX9_product.data.toList.drop 70 = dktX9_product_3 := dk_seg dksX9_product_2 24 rfl rfl
theorem dksX9_product_4 : cX9_product.data.toList.drop 94 = dktX9_product_4 := dk_seg dksX9_product_3 24 rfl rfl
theorem dX9_product_0 : decode cX9_product 0 = .ok (.aload_n 0, 1) := dk_42 (dk_at dksX9_product_0 0 rfl rfl)
theorem dX9_product_1 : decode cX9_product 1 = .ok (.invokevirtual 252, 3) := dk_182 0 252 (dk_at dksX9_product_0 1 rfl rfl)
theorem dX9_product_4 : decode cX9_product 4 = .ok (.aload_n 0, 1) := dk_42 (dk_at dksX9_product_0 4 rfl rfl)
theorem dX9_product_5 : decode cX9_product 5 = .ok (.invokevirtual 181, 3) := dk_182 0 181 (dk_at dksX9_product_0 5 rfl rfl)
theorem dX9_product_8 : decode cX9_product 8 = .ok (.aload_n 0, 1) := dk_42 (dk_at dksX9_product_0 8 rfl rfl)
theorem dX9_product_9 : decode cX9_product 9 = .ok (.getfield 178, 3) := dk_180 0 178 (dk_at dksX9_product_0 9 rfl rfl)
theorem dX9_product_12 : decode cX9_product 12 = .ok (.ifCond .ne 98, 3) := dk_154 0 98 (dk_at dksX9_product_0 12 rfl rfl)
theorem dX9_product_15 : decode cX9_product 15 = .ok (.aload_n 0, 1) := dk_42 (dk_at dksX9_product_0 15 rfl rfl)
theorem dX9_product_16 : decode cX9_product 16 = .ok (.aload_n 0, 1) := dk_42 (dk_at dksX9_product_0 16 rfl rfl)
theorem dX9_product_17 : decode cX9_product 17 = .ok (.getfield 172, 3) := dk_180 0 172 (dk_at dksX9_product_0 17 rfl rfl)
theorem dX9_product_20 : decode cX9_product 20 = .ok (.invokevirtual 175, 3) := dk_182 0 175 (dk_at dksX9_product_0 20 rfl rfl)
theorem dX9_product_23 : decode cX9_product 23 = .ok (.bipush 42, 2) := dk_16 42 (dk_at dksX9_product_1 0 rfl rfl)
theorem dX9_product_25 : decode cX9_product 25 = .ok (.if_icmp .eq 29, 3) := dk_159 0 29 (dk_at dksX9_product_1 2 rfl rfl)
theorem dX9_product_28 : decode cX9_product 28 = .ok (.aload_n 0, 1) := dk_42 (dk_at dksX9_product_1 5 rfl rfl)
theorem dX9_product_29 : decode cX9_product 29 = .ok (.aload_n 0, 1) := dk_42 (dk_at dksX9_product_1 6 rfl rfl)
theorem dX9_product_30 : decode cX9_product 30 = .ok (.getfield 172, 3) := dk_180 0 172 (dk_at dksX9_product_1 7 rfl rfl)
theorem dX9_product_33 : decode cX9_product 33 = .ok (.invokevirtual 175, 3) := dk_182 0 175 (dk_at dksX9_product_1 10 rfl rfl)
theorem dX9_product_36 : decode cX9_product 36 = .ok (.bipush 47, 2) := dk_16 47 (dk_at dksX9_product_1 13 rfl rfl)
theorem dX9_product_38 : decode cX9_product 38 = .ok (.if_icmp .eq 16, 3) := dk_159 0 16 (dk_at dksX9_product_1 15 rfl rfl)
theorem dX9_product_41 : decode cX9_product 41 = .ok (.aload_n 0, 1) := dk_42 (dk_at dksX9_product_1 18 rfl rfl)
theorem dX9_product_42 : decode cX9_product 42 = .ok (.aload_n 0, 1) := dk_42 (dk_at dksX9_product_1 19 rfl rfl)
theorem dX9_product_43 : decode cX9_product 43 = .ok (.getfield 172, 3) := dk_180 0 172 (dk_at dksX9_product_1 20 rfl rfl)
theorem dX9_product_46 : decode cX9_product 46 = .ok (.invokevirtual 175, 3) := dk_182 0 175 (dk_at dksX9_product_2 0 rfl rfl)
theorem dX9_product_49 : decode cX9_product 49 = .ok (.bipush 37, 2) := dk_16 37 (dk_at dksX9_product_2 3 rfl rfl)
theorem dX9_product_51 : decode cX9_product 51 = .ok (.if_icmp .ne 59, 3) := dk_160 0 59 (dk_at dksX9_product_2 5 rfl rfl)
theorem dX9_product_54 : decode cX9_product 54 = .ok (.aload_n 0, 1) := dk_42 (dk_at dksX9_product_2 8 rfl rfl)
theorem dX9_product_55 : decode cX9_product 55 = .ok (.aload_n 0, 1) := dk_42 (dk_at dksX9_product_2 9 rfl rfl)
theorem dX9_product_56 : decode cX9_product 56 = .ok (.getfield 172, 3) := dk_180 0 172 (dk_at dksX9_product_2 10 rfl rfl)
theorem dX9_product_59 : decode cX9_product 59 = .ok (.invokevirtual 175, 3) := dk_182 0 175 (dk_at dksX9_product_2 13 rfl rfl)
theorem dX9_product_62 : decode cX9_product 62 = .ok (.istore_n 1, 1) := dk_60 (dk_at dksX9_product_2 16 rfl rfl)
theorem dX9_product_63 : decode cX9_product 63 = .ok (.aload_n 0, 1) := dk_42 (dk_at dksX9_product_2 17 rfl rfl)
theorem dX9_product_64 : decode cX9_product 64 = .ok (.dup, 1) := dk_89 (dk_at dksX9_product_2 18 rfl rfl)
theorem dX9_product_65 : decode cX9_product 65 = .ok (.getfield 172, 3) := dk_180 0 172 (dk_at dksX9_product_2 19 rfl rfl)
theorem dX9_product_68 : decode cX9_product 68 = .ok (.iconst 1, 1) := dk_4 (dk_at dksX9_product_2 22 rfl rfl)
theorem dX9_product_69 : decode cX9_product 69 = .ok (.iadd, 1) := dk_96 (dk_at dksX9_product_2 23 rfl rfl)
theorem dX9_product_70 : decode cX9_product 70 = .ok (.putfield 172, 3) := dk_181 0 172 (dk_at dksX9_product_3 0 rfl rfl)
theorem dX9_product_73 : decode cX9_product 73 = .ok (.aload_n 0, 1) := dk_42 (dk_at dksX9_product_3 3 rfl rfl)
theorem dX9_product_74 : decode cX9_product 74 = .ok (.invokevirtual 252, 3) := dk_182 0 252 (dk_at dksX9_product_3 4 rfl rfl)
theorem dX9_product_77 : decode cX9_product 77 = .ok (.aload_n 0, 1) := dk_42 (dk_at dksX9_product_3 7 rfl rfl)
theorem dX9_product_78 : decode cX9_product 78 = .ok (.iload_n 1, 1) := dk_27 (dk_at dksX9_product_3 8 rfl rfl)
theorem dX9_product_79 : decode cX9_product 79 = .ok (.bipush 42, 2) := dk_16 42 (dk_at dksX9_product_3 9 rfl rfl)
theorem dX9_product_81 : decode cX9_product 81 = .ok (.if_icmp .ne 7, 3) := dk_160 0 7 (dk_at dksX9_product_3 11 rfl rfl)
theorem dX9_product_84 : decode cX9_product 84 = .ok (.iconst 3, 1) := dk_6 (dk_at dksX9_product_3 14 rfl rfl)
theorem dX9_product_85 : decode cX9_product 85 = .ok (.goto 14, 3) := dk_167 0 14 (dk_at dksX9_product_3 15 rfl rfl)
theorem dX9_product_88 : decode cX9_product 88 = .ok (.iload_n 1, 1) := dk_27 (dk_at dksX9_product_3 18 rfl rfl)
theorem dX9_product_89 : decode cX9_product 89 = .ok (.bipush 47, 2) := dk_16 47 (dk_at dksX9_product_3 19 rfl rfl)
theorem dX9_product_91 : decode cX9_product 91 = .ok (.if_icmp .ne 7, 3) := dk_160 0 7 (dk_at dksX9_product_3 21 rfl rfl)
theorem dX9_product_94 : decode cX9_product 94 = .ok (.iconst 4, 1) := dk_7 (dk_at dksX9_product_4 0 rfl rfl)
theorem dX9_product_95 : decode cX9_product 95 = .ok (.goto 4, 3) := dk_167 0 4 (dk_at dksX9_product_4 1 rfl rfl)
theorem dX9_product_98 : decode cX9_product 98 = .ok (.iconst 5, 1) := dk_8 (dk_at dksX9_product_4 4 rfl rfl)
theorem dX9_product_99 : decode cX9_product 99 = .ok (.iconst 0, 1) := dk_3 (dk_at dksX9_product_4 5 rfl rfl)
theorem dX9_product_100 : decode cX9_product 100 = .ok (.invokevirtual 249, 3) := dk_182 0 249 (dk_at dksX9_product_4 6 rfl rfl)
theorem dX9_product_103 : decode cX9_product 103 = .ok (.aload_n 0, 1) := dk_42 (dk_at dksX9_product_4 9 rfl rfl)
theorem dX9_product_104 : decode cX9_product 104 = .ok (.invokevirtual 181, 3) := dk_182 0 181 (dk_at dksX9_product_4 10 rfl rfl)
theorem dX9_product_107 : decode cX9_product 107 = .ok (.goto (-99), 3) := dk_167 255 157 (dk_at dksX9_product_4 13 rfl rfl)
theorem dX9_product_110 : decode cX9_product 110 = .ok (.return_, 1) := dk_177 (dk_at dksX9_product_4 16 rfl rfl)
def dkwX9_one_10 : List UInt8 := [16, 8, 3, 182, 0, 249, 177]
abbrev dktX9_one_10 : List UInt8 := dkwX9_one_10 ++ []
def dkwX9_one_9 : List UInt8 := [182, 0, 243, 42, 182, 1, 11, 42, 16, 44, 182, 0, 243, 42, 182, 1, 11, 42, 16, 41, 182, 1, 14, 42]
abbrev dktX9_one_9 : List UInt8 := dkwX9_one_9 ++ dktX9_one_10
def dkwX9_one_8 : List UInt8 := [154, 0, 13, 42, 4, 42, 180, 0, 172, 182, 0, 227, 177, 42, 182, 1, 21, 42, 182, 1, 26, 42, 16, 44]
abbrev dktX9_one_8 : List UInt8 := dkwX9_one_8 ++ dktX9_one_9
def dkwX9_one_7 : List UInt8 := [27, 153, 0, 8, 16, 6, 167, 0, 5, 16, 7, 3, 182, 0, 249, 177, 42, 19, 1, 24, 182, 1, 8]
abbrev dktX9_one_7 : List UInt8 := dkwX9_one_7 ++ dktX9_one_8
def dkwX9_one_6 : List UInt8 := [182, 1, 21, 42, 182, 1, 11, 42, 16, 44, 182, 0, 243, 42, 182, 1, 11, 42, 16, 41, 182, 1, 14, 42]
abbrev dktX9_one_6 : List UInt8 := dkwX9_one_6 ++ dktX9_one_7
def dkwX9_one_5 : List UInt8 := [153, 0, 62, 42, 89, 180, 0, 172, 27, 153, 0, 7, 8, 167, 0, 4, 7, 96, 181, 0, 172, 42]
abbrev dktX9_one_5 : List UInt8 := dkwX9_one_5 ++ dktX9_one_6
def dkwX9_one_4 : List UInt8 := [182, 1, 14, 177, 42, 19, 1, 17, 182, 0, 194, 60, 27, 154, 0, 13, 42, 19, 1, 19, 182, 0, 194]
abbrev dktX9_one_4 : List UInt8 := dkwX9_one_4 ++ dktX9_one_5
def dkwX9_one_3 : List UInt8 := [180, 0, 172, 182, 0, 175, 16, 40, 160, 0, 19, 42, 4, 182, 0, 240, 42, 182, 1, 11, 42, 16, 41]
abbrev dktX9_one_3 : List UInt8 := dkwX9_one_3 ++ dktX9_one_4
def dkwX9_one_2 : List UInt8 := [154, 0, 6, 167, 0, 11, 42, 16, 15, 27, 182, 0, 249, 177, 132, 1, 1, 167, 255, 226, 42, 42]
abbrev dktX9_one_2 : List UInt8 := dkwX9_one_2 ++ dktX9_one_3
def dkwX9_one_1 : List UInt8 := [153, 0, 8, 42, 182, 1, 2, 177, 3, 60, 27, 8, 162, 0, 31, 42, 27, 184, 1, 5, 182, 1, 8]
abbrev dktX9_one_1 : List UInt8 := dkwX9_one_1 ++ dktX9_one_2
def dkwX9_one_0 : List UInt8 := [42, 180, 0, 178, 158, 0, 4, 177, 42, 182, 0, 181, 42, 42, 180, 0, 172, 182, 0, 175, 184, 0, 255]
abbrev dktX9_one_0 : List UInt8 := dkwX9_one_0 ++ dktX9_one_1
theorem dksX9_one_0 : cX9_one.data.toList.drop 0 = dktX9_one_0 := by decide +kernel
theorem dksX9_one_1 : cX9_one.data.toList.drop 23 = dktX9_one_1 := dk_seg dksX9_one_0 23 rfl rfl
theorem dksX9_one_2 : cX9_one.data.toList.drop 46 = dktX9_one_2 := dk_seg dksX9_one_1 23 rfl rfl
theorem dksX9_one_3 : cX9_one.data.toList.drop 68 = dktX9_one_3 := dk_seg dksX9_one_2 22 rfl rfl
theorem dksX9_one_4 : cX9_one.data.toList.drop 91 = dktX9_one_4 := dk_seg dksX9_one_3 23 rfl rfl
theorem dksX9_one_5 : cX9_one.data.toList.drop 114 = dktX9_one_5 := dk_seg dksX9_one_4 23 rfl rfl
theorem dksX9_one_6 : cX9_one.data.toList.drop 136 = dktX9_one_6 := dk_seg dksX9_one_5 22 rfl rfl
theorem dksX9_one_7 : cX9_one.data.toList.drop 160 = dktX9_one_7 := dk_seg dksX9_one_6 24 rfl rfl
theorem dksX9_one_8 : cX9_one.data.toList.drop 183 = dktX9_one_8 := dk_seg dksX9_one_7 23 rfl rfl
theorem dksX9_one_9 : cX9_one.data.toList.drop 207 = dktX9_one_9 := dk_seg dksX9_one_8 24 rfl rfl
theorem dksX9_one_10 : cX9_one.data.toList.drop 231 = dktX9_one_10 := dk_seg dksX9_one_9 24 rfl rfl
theorem dX9_one_0 : decode cX9_one 0 = .ok (.aload_n 0, 1) := dk_42 (dk_at dksX9_one_0 0 rfl rfl)
theorem dX9_one_1 : decode cX9_one 1 = .ok (.getfield 178, 3) := dk_180 0 178 (dk_at dksX9_one_0 1 rfl rfl)
theorem dX9_one_4 : decode cX9_one 4 = .ok (.ifCond .le 4, 3) := dk_158 0 4 (dk_at dksX9_one_0 4 rfl rfl)
theorem dX9_one_7 : decode cX9_one 7 = .ok (.return_, 1) := dk_177 (dk_at dksX9_one_0 7 rfl rfl)
theorem dX9_one_8 : decode cX9_one 8 = .ok (.aload_n 0, 1) := dk_42 (dk_at dksX9_one_0 8 rfl rfl)
theorem dX9_one_9 : decode cX9_one 9 = .ok (.invokevirtual 181, 3) := dk_182 0 181 (dk_at dksX9_one_0 9 rfl rfl)
theorem dX9_one_12 : decode cX9_one 12 = .ok (.aload_n 0, 1) := dk_42 (dk_at dksX9_one_0 12 rfl rfl)
theorem dX9_one_13 : decode cX9_one 13 = .ok (.aload_n 0, 1) := dk_42 (dk_at dksX9_one_0 13 rfl rfl)
theorem dX9_one_14 : decode cX9_one 14 = .ok (.getfield 172, 3) := dk_180 0 172 (dk_at dksX9_one_0 14 rfl rfl)
theorem dX9_one_17 : decode cX9_one 17 = .ok (.invokevirtual 175, 3) := dk_182 0 175 (dk_at dksX9_one_0 17 rfl rfl)
theorem dX9_one_20 : decode cX9_one 20 = .ok (.invokestatic 255, 3) := dk_184 0 255 (dk_at dksX9_one_0 20 rfl rfl)
theorem dX9_one_23 : decode cX9_one 23 = .ok (.ifCond .eq 8, 3) := dk_153 0 8 (dk_at dksX9_one_1 0 rfl rfl)
theorem dX9_one_26 : decode cX9_one 26 = .ok (.aload_n 0, 1) := dk_42 (dk_at dksX9_one_1 3 rfl rfl)
theorem dX9_one_27 : decode cX9_one 27 = .ok (.invokevirtual 258, 3) := dk_182 1 2 (dk_at dksX9_one_1 4 rfl rfl)
theorem dX9_one_30 : decode cX9_one 30 = .ok (.return_, 1) := dk_177 (dk_at dksX9_one_1 7 rfl rfl)
theorem dX9_one_31 : decode cX9_one 31 = .ok (.iconst 0, 1) := dk_3 (dk_at dksX9_one_1 8 rfl rfl)
theorem dX9_one_32 : decode cX9_one 32 = .ok (.istore_n 1, 1) := dk_60 (dk_at dksX9_one_1 9 rfl rfl)
theorem dX9_one_33 : decode cX9_one 33 = .ok (.iload_n 1, 1) := dk_27 (dk_at dksX9_one_1 10 rfl rfl)
theorem dX9_one_34 : decode cX9_one 34 = .ok (.iconst 5, 1) := dk_8 (dk_at dksX9_one_1 11 rfl rfl)
theorem dX9_one_35 : decode cX9_one 35 = .ok (.if_icmp .ge 31, 3) := dk_162 0 31 (dk_at dksX9_one_1 12 rfl rfl)
theorem dX9_one_38 : decode cX9_one 38 = .ok (.aload_n 0, 1) := dk_42 (dk_at dksX9_one_1 15 rfl rfl)
theorem dX9_one_39 : decode cX9_one 39 = .ok (.iload_n 1, 1) := dk_27 (dk_at dksX9_one_1 16 rfl rfl)
theorem dX9_one_40 : decode cX9_one 40 = .ok (.invokestatic 261, 3) := dk_184 1 5 (dk_at dksX9_one_1 17 rfl rfl)
theorem dX9_one_43 : decode cX9_one 43 = .ok (.invokevirtual 264, 3) := dk_182 1 8 (dk_at dksX9_one_1 20 rfl rfl)
theorem dX9_one_46 : decode cX9_one 46 = .ok (.ifCond .ne 6, 3) := dk_154 0 6 (dk_at dksX9_one_2 0 rfl rfl)
theorem dX9_one_49 : decode cX9_one 49 = .ok (.goto 11, 3) := dk_167 0 11 (dk_at dksX9_one_2 3 rfl rfl)
theorem dX9_one_52 : decode cX9_one 52 = .ok (.aload_n 0, 1) := dk_42 (dk_at dksX9_one_2 6 rfl rfl)
theorem dX9_one_53 : decode cX9_one 53 = .ok (.bipush 15, 2) := dk_16 15 (dk_at dksX9_one_2 7 rfl rfl)
theorem dX9_one_55 : decode cX9_one 55 = .ok (.iload_n 1, 1) := dk_27 (dk_at dksX9_one_2 9 rfl rfl)
theorem dX9_one_56 : decode cX9_one 56 = .ok (.invokevirtual 249, 3) := dk_182 0 249 (dk_at dksX9_one_2 10 rfl rfl)
theorem dX9_one_59 : decode cX9_one 59 = .ok (.return_, 1) := dk_177 (dk_at dksX9_one_2 13 rfl rfl)
theorem dX9_one_60 : decode cX9_one 60 = .ok (.iinc 1 1, 3) := dk_132 1 1 (dk_at dksX9_one_2 14 rfl rfl)
theorem dX9_one_63 : decode cX9_one 63 = .ok (.goto (-30), 3) := dk_167 255 226 (dk_at dksX9_one_2 17 rfl rfl)
theorem dX9_one_66 : decode cX9_one 66 = .ok (.aload_n 0, 1) := dk_42 (dk_at dksX9_one_2 20 rfl rfl)
theorem dX9_one_67 : decode cX9_one 67 = .ok (.aload_n 0, 1) := dk_42 (dk_at dksX9_one_2 21 rfl rfl)
theorem dX9_one_68 : decode cX9_one 68 = .ok (.getfield 172, 3) := dk_180 0 172 (dk_at dksX9_one_3 0 rfl rfl)
theorem dX9_one_71 : decode cX9_one 71 = .ok (.invokevirtual 175, 3) := dk_182 0 175 (dk_at dksX9_one_3 3 rfl rfl)
theorem dX9_one_74 : decode cX9_one 74 = .ok (.bipush 40, 2) := dk_16 40 (dk_at dksX9_one_3 6 rfl rfl)
theorem dX9_one_76 : decode cX9_one 76 = .ok (.if_icmp .ne 19, 3) := dk_160 0 19 (dk_at dksX9_one_3 8 rfl rfl)
theorem dX9_one_79 : decode cX9_one 79 = .ok (.aload_n 0, 1) := dk_42 (dk_at dksX9_one_3 11 rfl rfl)
theorem dX9_one_80 : decode cX9_one 80 = .ok (.iconst 1, 1) := dk_4 (dk_at dksX9_one_3 12 rfl rfl)
theorem dX9_one_81 : decode cX9_one 81 = .ok (.invokevirtual 240, 3) := dk_182 0 240 (dk_at dksX9_one_3 13 rfl rfl)
theorem dX9_one_84 : decode cX9_one 84 = .ok (.aload_n 0, 1) := dk_42 (dk_at dksX9_one_3 16 rfl rfl)
theorem dX9_one_85 : decode cX9_one 85 = .ok (.invokevirtual 267, 3) := dk_182 1 11 (dk_at dksX9_one_3 17 rfl rfl)
theorem dX9_one_88 : decode cX9_one 88 = .ok (.aload_n 0, 1) := dk_42 (dk_at dksX9_one_3 20 rfl rfl)
theorem dX9_one_89 : decode cX9_one 89 = .ok (.bipush 41, 2) := dk_16 41 (dk_at dksX9_one_3 21 rfl rfl)
theorem dX9_one_91 : decode cX9_one 91 = .ok (.invokevirtual 270, 3) := dk_182 1 14 (dk_at dksX9_one_4 0 rfl rfl)
theorem dX9_one_94 : decode cX9_one 94 = .ok (.return_, 1) := dk_177 (dk_at dksX9_one_4 3 rfl rfl)
theorem dX9_one_95 : decode cX9_one 95 = .ok (.aload_n 0, 1) := dk_42 (dk_at dksX9_one_4 4 rfl rfl)
theorem dX9_one_96 : decode cX9_one 96 = .ok (.ldc_w 273, 3) := dk_19 1 17 (dk_at dksX9_one_4 5 rfl rfl)
theorem dX9_one_99 : decode cX9_one 99 = .ok (.invokevirtual 194, 3) := dk_182 0 194 (dk_at dksX9_one_4 8 rfl rfl)
theorem dX9_one_102 : decode cX9_one 102 = .ok (.istore_n 1, 1) := dk_60 (dk_at dksX9_one_4 11 rfl rfl)
theorem dX9_one_103 : decode cX9_one 103 = .ok (.iload_n 1, 1) := dk_27 (dk_at dksX9_one_4 12 rfl rfl)
theorem dX9_one_104 : decode cX9_one 104 = .ok (.ifCond .ne 13, 3) := dk_154 0 13 (dk_at dksX9_one_4 13 rfl rfl)
theorem dX9_one_107 : decode cX9_one 107 = .ok (.aload_n 0, 1) := dk_42 (dk_at dksX9_one_4 16 rfl rfl)
theorem dX9_one_108 : decode cX9_one 108 = .ok (.ldc_w 275, 3) := dk_19 1 19 (dk_at dksX9_one_4 17 rfl rfl)
theorem dX9_one_111 : decode cX9_one 111 = .ok (.invokevirtual 194, 3) := dk_182 0 194 (dk_at dksX9_one_4 20 rfl rfl)
theorem dX9_one_114 : decode cX9_one 114 = .ok (.ifCond .eq 62, 3) := dk_153 0 62 (dk_at dksX9_one_5 0 rfl rfl)
theorem dX9_one_117 : decode cX9_one 117 = .ok (.aload_n 0, 1) := dk_42 (dk_at dksX9_one_5 3 rfl rfl)
theorem dX9_one_118 : decode cX9_one 118 = .ok (.dup, 1) := dk_89 (dk_at dksX9_one_5 4 rfl rfl)
theorem dX9_one_119 : decode cX9_one 119 = .ok (.getfield 172, 3) := dk_180 0 172 (dk_at dksX9_one_5 5 rfl rfl)
theorem dX9_one_122 : decode cX9_one 122 = .ok (.iload_n 1, 1) := dk_27 (dk_at dksX9_one_5 8 rfl rfl)
theorem dX9_one_123 : decode cX9_one 123 = .ok (.ifCond .eq 7, 3) := dk_153 0 7 (dk_at dksX9_one_5 9 rfl rfl)
theorem dX9_one_126 : decode cX9_one 126 = .ok (.iconst 5, 1) := dk_8 (dk_at dksX9_one_5 12 rfl rfl)
theorem dX9_one_127 : decode cX9_one 127 = .ok (.goto 4, 3) := dk_167 0 4 (dk_at dksX9_one_5 13 rfl rfl)
theorem dX9_one_130 : decode cX9_one 130 = .ok (.iconst 4, 1) := dk_7 (dk_at dksX9_one_5 16 rfl rfl)
theorem dX9_one_131 : decode cX9_one 131 = .ok (.iadd, 1) := dk_96 (dk_at dksX9_one_5 17 rfl rfl)
theorem dX9_one_132 : decode cX9_one 132 = .ok (.putfield 172, 3) := dk_181 0 172 (dk_at dksX9_one_5 18 rfl rfl)
theorem dX9_one_135 : decode cX9_one 135 = .ok (.aload_n 0, 1) := dk_42 (dk_at dksX9_one_5 21 rfl rfl)
theorem dX9_one_136 : decode cX9_one 136 = .ok (.invokevirtual 277, 3) := dk_182 1 21 (dk_at dksX9_one_6 0 rfl rfl)
theorem dX9_one_139 : decode cX9_one 139 = .ok (.aload_n 0, 1) := dk_42 (dk_at dksX9_one_6 3 rfl rfl)
theorem dX9_one_140 : decode cX9_one 140 = .ok (.invokevirtual 267, 3) := dk_182 1 11 (dk_at dksX9_one_6 4 rfl rfl)
theorem dX9_one_143 : decode cX9_one 143 = .ok (.aload_n 0, 1) := dk_42 (dk_at dksX9_one_6 7 rfl rfl)
theorem dX9_one_144 : decode cX9_one 144 = .ok (.bipush 44, 2) := dk_16 44 (dk_at dksX9_one_6 8 rfl rfl)
theorem dX9_one_146 : decode cX9_one 146 = .ok (.invokevirtual 243, 3) := dk_182 0 243 (dk_at dksX9_one_6 10 rfl rfl)
theorem dX9_one_149 : decode cX9_one 149 = .ok (.aload_n 0, 1) := dk_42 (dk_at dksX9_one_6 13 rfl rfl)
theorem dX9_one_150 : decode cX9_one 150 = .ok (.invokevirtual 267, 3) := dk_182 1 11 (dk_at dksX9_one_6 14 rfl rfl)
theorem dX9_one_153 : decode cX9_one 153 = .ok (.aload_n 0, 1) := dk_42 (dk_at dksX9_one_6 17 rfl rfl)
theorem dX9_one_154 : decode cX9_one 154 = .ok (.bipush 41, 2) := dk_16 41 (dk_at dksX9_one_6 18 rfl rfl)
theorem dX9_one_156 : decode cX9_one 156 = .ok (.invokevirtual 270, 3) := dk_182 1 14 (dk_at dksX9_one_6 20 rfl rfl)
theorem dX9_one_159 : decode cX9_one 159 = .ok (.aload_n 0, 1) := dk_42 (dk_at dksX9_one_6 23 rfl rfl)
theorem dX9_one_160 : decode cX9_one 160 = .ok (.iload_n 1, 1) := dk_27 (dk_at dksX9_one_7 0 rfl rfl)
theorem dX9_one_161 : decode cX9_one 161 = .ok (.ifCond .eq 8, 3) := dk_153 0 8 (dk_at dksX9_one_7 1 rfl rfl)
theorem dX9_one_164 : decode cX9_one 164 = .ok (.bipush 6, 2) := dk_16 6 (dk_at dksX9_one_7 4 rfl rfl)
theorem dX9_one_166 : decode cX9_one 166 = .ok (.goto 5, 3) := dk_167 0 5 (dk_at dksX9_one_7 6 rfl rfl)
theorem dX9_one_169 : decode cX9_one 169 = .ok (.bipush 7, 2) := dk_16 7 (dk_at dksX9_one_7 9 rfl rfl)
theorem dX9_one_171 : decode cX9_one 171 = .ok (.iconst 0, 1) := dk_3 (dk_at dksX9_one_7 11 rfl rfl)
theorem dX9_one_172 : decode cX9_one 172 = .ok (.invokevirtual 249, 3) := dk_182 0 249 (dk_at dksX9_one_7 12 rfl rfl)
theorem dX9_one_175 : decode cX9_one 175 = .ok (.return_, 1) := dk_177 (dk_at dksX9_one_7 15 rfl rfl)
theorem dX9_one_176 : decode cX9_one 176 = .ok (.aload_n 0, 1) := dk_42 (dk_at dksX9_one_7 16 rfl rfl)
theorem dX9_one_177 : decode cX9_one 177 = .ok (.ldc_w 280, 3) := dk_19 1 24 (dk_at dksX9_one_7 17 rfl rfl)
theorem dX9_one_180 : decode cX9_one 180 = .ok (.invokevirtual 264, 3) := dk_182 1 8 (dk_at dksX9_one_7 20 rfl rfl)
theorem dX9_one_183 : decode cX9_one 183 = .ok (.ifCond .ne 13, 3) := dk_154 0 13 (dk_at dksX9_one_8 0 rfl rfl)
theorem dX9_one_186 : decode cX9_one 186 = .ok (.aload_n 0, 1) := dk_42 (dk_at dksX9_one_8 3 rfl rfl)
theorem dX9_one_187 : decode cX9_one 187 = .ok (.iconst 1, 1) := dk_4 (dk_at dksX9_one_8 4 rfl rfl)
theorem dX9_one_188 : decode cX9_one 188 = .ok (.aload_n 0, 1) := dk_42 (dk_at dksX9_one_8 5 rfl rfl)
theorem dX9_one_189 : decode cX9_one 189 = .ok (.getfield 172, 3) := dk_180 0 172 (dk_at dksX9_one_8 6 rfl rfl)
theorem dX9_one_192 : decode cX9_one 192 = .ok (.invokevirtual 227, 3) := dk_182 0 227 (dk_at dksX9_one_8 9 rfl rfl)
theorem dX9_one_195 : decode cX9_one 195 = .ok (.return_, 1) := dk_177 (dk_at dksX9_one_8 12 rfl rfl)
theorem dX9_one_196 : decode cX9_one 196 = .ok (.aload_n 0, 1) := dk_42 (dk_at dksX9_one_8 13 rfl rfl)
theorem dX9_one_197 : decode cX9_one 197 = .ok (.invokevirtual 277, 3) := dk_182 1 21 (dk_at dksX9_one_8 14 rfl rfl)
theorem dX9_one_200 : decode cX9_one 200 = .ok (.aload_n 0, 1) := dk_42 (dk_at dksX9_one_8 17 rfl rfl)
theorem dX9_one_201 : decode cX9_one 201 = .ok (.invokevirtual 282, 3) := dk_182 1 26 (dk_at dksX9_one_8 18 rfl rfl)
theorem dX9_one_204 : decode cX9_one 204 = .ok (.aload_n 0, 1) := dk_42 (dk_at dksX9_one_8 21 rfl rfl)
theorem dX9_one_205 : decode cX9_one 205 = .ok (.bipush 44, 2) := dk_16 44 (dk_at dksX9_one_8 22 rfl rfl)
theorem dX9_one_207 : decode cX9_one 207 = .ok (.invokevirtual 243, 3) := dk_182 0 243 (dk_at dksX9_one_9 0 rfl rfl)
theorem dX9_one_210 : decode cX9_one 210 = .ok (.aload_n 0, 1) := dk_42 (dk_at dksX9_one_9 3 rfl rfl)
theorem dX9_one_211 : decode cX9_one 211 = .ok (.invokevirtual 267, 3) := dk_182 1 11 (dk_at dksX9_one_9 4 rfl rfl)
theorem dX9_one_214 : decode cX9_one 214 = .ok (.aload_n 0, 1) := dk_42 (dk_at dksX9_one_9 7 rfl rfl)
theorem dX9_one_215 : decode cX9_one 215 = .ok (.bipush 44, 2) := dk_16 44 (dk_at dksX9_one_9 8 rfl rfl)
theorem dX9_one_217 : decode cX9_one 217 = .ok (.invokevirtual 243, 3) := dk_182 0 243 (dk_at dksX9_one_9 10 rfl rfl)
theorem dX9_one_220 : decode cX9_one 220 = .ok (.aload_n 0, 1) := dk_42 (dk_at dksX9_one_9 13 rfl rfl)
theorem dX9_one_221 : decode cX9_one 221 = .ok (.invokevirtual 267, 3) := dk_182 1 11 (dk_at dksX9_one_9 14 rfl rfl)
theorem dX9_one_224 : decode cX9_one 224 = .ok (.aload_n 0, 1) := dk_42 (dk_at dksX9_one_9 17 rfl rfl)
theorem dX9_one_225 : decode cX9_one 225 = .ok (.bipush 41, 2) := dk_16 41 (dk_at dksX9_one_9 18 rfl rfl)
theorem dX9_one_227 : decode cX9_one 227 = .ok (.invokevirtual 270, 3) := dk_182 1 14 (dk_at dksX9_one_9 20 rfl rfl)
theorem dX9_one_230 : decode cX9_one 230 = .ok (.aload_n 0, 1) := dk_42 (dk_at dksX9_one_9 23 rfl rfl)
theorem dX9_one_231 : decode cX9_one 231 = .ok (.bipush 8, 2) := dk_16 8 (dk_at dksX9_one_10 0 rfl rfl)
theorem dX9_one_233 : decode cX9_one 233 = .ok (.iconst 0, 1) := dk_3 (dk_at dksX9_one_10 2 rfl rfl)
theorem dX9_one_234 : decode cX9_one 234 = .ok (.invokevirtual 249, 3) := dk_182 0 249 (dk_at dksX9_one_10 3 rfl rfl)
theorem dX9_one_237 : decode cX9_one 237 = .ok (.return_, 1) := dk_177 (dk_at dksX9_one_10 6 rfl rfl)
def dkwX9_isDigit_0 : List UInt8 := [26, 16, 48, 161, 0, 13, 26, 16, 57, 163, 0, 7, 4, 167, 0, 4, 3, 172]
abbrev dktX9_isDigit_0 : List UInt8 := dkwX9_isDigit_0 ++ []
theorem dksX9_isDigit_0 : cX9_isDigit.data.toList.drop 0 = dktX9_isDigit_0 := by decide +kernel
theorem dX9_isDigit_0 : decode cX9_isDigit 0 = .ok (.iload_n 0, 1) := dk_26 (dk_at dksX9_isDigit_0 0 rfl rfl)
theorem dX9_isDigit_1 : decode cX9_isDigit 1 = .ok (.bipush 48, 2) := dk_16 48 (dk_at dksX9_isDigit_0 1 rfl rfl)
theorem dX9_isDigit_3 : decode cX9_isDigit 3 = .ok (.if_icmp .lt 13, 3) := dk_161 0 13 (dk_at dksX9_isDigit_0 3 rfl rfl)
theorem dX9_isDigit_6 : decode cX9_isDigit 6 = .ok (.iload_n 0, 1) := dk_26 (dk_at dksX9_isDigit_0 6 rfl rfl)
theorem dX9_isDigit_7 : decode cX9_isDigit 7 = .ok (.bipush 57, 2) := dk_16 57 (dk_at dksX9_isDigit_0 7 rfl rfl)
theorem dX9_isDigit_9 : decode cX9_isDigit 9 = .ok (.if_icmp .gt 7, 3) := dk_163 0 7 (dk_at dksX9_isDigit_0 9 rfl rfl)
theorem dX9_isDigit_12 : decode cX9_isDigit 12 = .ok (.iconst 1, 1) := dk_4 (dk_at dksX9_isDigit_0 12 rfl rfl)
theorem dX9_isDigit_13 : decode cX9_isDigit 13 = .ok (.goto 4, 3) := dk_167 0 4 (dk_at dksX9_isDigit_0 13 rfl rfl)
theorem dX9_isDigit_16 : decode cX9_isDigit 16 = .ok (.iconst 0, 1) := dk_3 (dk_at dksX9_isDigit_0 16 rfl rfl)
theorem dX9_isDigit_17 : decode cX9_isDigit 17 = .ok (.ireturn, 1) := dk_172 (dk_at dksX9_isDigit_0 17 rfl rfl)
def dkwX9_figures_3 : List UInt8 := [42, 5, 27, 182, 0, 227, 42, 3, 28, 182, 0, 249, 177]
abbrev dktX9_figures_3 : List UInt8 := dkwX9_figures_3 ++ []
def dkwX9_figures_2 : List UInt8 := [16, 48, 100, 61, 42, 89, 180, 0, 172, 4, 96, 181, 0, 172, 167, 255, 204, 28, 17, 39, 15, 164, 0, 9]
abbrev dktX9_figures_2 : List UInt8 := dkwX9_figures_2 ++ dktX9_figures_3
def dkwX9_figures_1 : List UInt8 := [19, 1, 29, 164, 0, 7, 28, 167, 0, 19, 16, 10, 28, 104, 42, 42, 180, 0, 172, 182, 0, 175, 96]
abbrev dktX9_figures_1 : List UInt8 := dkwX9_figures_1 ++ dktX9_figures_2
def dkwX9_figures_0 : List UInt8 := [42, 180, 0, 172, 60, 3, 61, 42, 42, 180, 0, 172, 182, 0, 175, 184, 0, 255, 153, 0, 44, 28]
abbrev dktX9_figures_0 : List UInt8 := dkwX9_figures_0 ++ dktX9_figures_1
theorem dksX9_figures_0 : cX9_figures.data.toList.drop 0 = dktX9_figures_0 := by decide +kernel
theorem dksX9_figures_1 : cX9_figures.data.toList.drop 22 = dktX9_figures_1 := dk_seg dksX9_figures_0 22 rfl rfl
theorem dksX9_figures_2 : cX9_figures.data.toList.drop 45 = dktX9_figures_2 := dk_seg dksX9_figures_1 23 rfl rfl
theorem dksX9_figures_3 : cX9_figures.data.toList.drop 69 = dktX9_figures_3 := dk_seg dksX9_figures_2 24 rfl rfl
theorem dX9_figures_0 : decode cX9_figures 0 = .ok (.aload_n 0, 1) := dk_42 (dk_at dksX9_figures_0 0 rfl rfl)
theorem dX9_figures_1 : decode cX9_figures 1 = .ok (.getfield 172, 3) := dk_180 0 172 (dk_at dksX9_figures_0 1 rfl rfl)
theorem dX9_figures_4 : decode cX9_figures 4 = .ok (.istore_n 1, 1) := dk_60 (dk_at dksX9_figures_0 4 rfl rfl)
theorem dX9_figures_5 : decode cX9_figures 5 = .ok (.iconst 0, 1) := dk_3 (dk_at dksX9_figures_0 5 rfl rfl)
theorem dX9_figures_6 : decode cX9_figures 6 = .ok (.istore_n 2, 1) := dk_61 (dk_at dksX9_figures_0 6 rfl rfl)
theorem dX9_figures_7 : decode cX9_figures 7 = .ok (.aload_n 0, 1) := dk_42 (dk_at dksX9_figures_0 7 rfl rfl)
theorem dX9_figures_8 : decode cX9_figures 8 = .ok (.aload_n 0, 1) := dk_42 (dk_at dksX9_figures_0 8 rfl rfl)
theorem dX9_figures_9 : decode cX9_figures 9 = .ok (.getfield 172, 3) := dk_180 0 172 (dk_at dksX9_figures_0 9 rfl rfl)
theorem dX9_figures_12 : decode cX9_figures 12 = .ok (.invokevirtual 175, 3) := dk_182 0 175 (dk_at dksX9_figures_0 12 rfl rfl)
theorem dX9_figures_15 : decode cX9_figures 15 = .ok (.invokestatic 255, 3) := dk_184 0 255 (dk_at dksX9_figures_0 15 rfl rfl)
theorem dX9_figures_18 : decode cX9_figures 18 = .ok (.ifCond .eq 44, 3) := dk_153 0 44 (dk_at dksX9_figures_0 18 rfl rfl)
theorem dX9_figures_21 : decode cX9_figures 21 = .ok (.iload_n 2, 1) := dk_28 (dk_at dksX9_figures_0 21 rfl rfl)
theorem dX9_figures_22 : decode cX9_figures 22 = .ok (.ldc_w 285, 3) := dk_19 1 29 (dk_at dksX9_figures_1 0 rfl rfl)
theorem dX9_figures_25 : decode cX9_figures 25 = .ok (.if_icmp .le 7, 3) := dk_164 0 7 (dk_at dksX9_figures_1 3 rfl rfl)
theorem dX9_figures_28 : decode cX9_figures 28 = .ok (.iload_n 2, 1) := dk_28 (dk_at dksX9_figures_1 6 rfl rfl)
theorem dX9_figures_29 : decode cX9_figures 29 = .ok (.goto 19, 3) := dk_167 0 19 (dk_at dksX9_figures_1 7 rfl rfl)
theorem dX9_figures_32 : decode cX9_figures 32 = .ok (.bipush 10, 2) := dk_16 10 (dk_at dksX9_figures_1 10 rfl rfl)
theorem dX9_figures_34 : decode cX9_figures 34 = .ok (.iload_n 2, 1) := dk_28 (dk_at dksX9_figures_1 12 rfl rfl)
theorem dX9_figures_35 : decode cX9_figures 35 = .ok (.imul, 1) := dk_104 (dk_at dksX9_figures_1 13 rfl rfl)
theorem dX9_figures_36 : decode cX9_figures 36 = .ok (.aload_n 0, 1) := dk_42 (dk_at dksX9_figures_1 14 rfl rfl)
theorem dX9_figures_37 : decode cX9_figures 37 = .ok (.aload_n 0, 1) := dk_42 (dk_at dksX9_figures_1 15 rfl rfl)
theorem dX9_figures_38 : decode cX9_figures 38 = .ok (.getfield 172, 3) := dk_180 0 172 (dk_at dksX9_figures_1 16 rfl rfl)
theorem dX9_figures_41 : decode cX9_figures 41 = .ok (.invokevirtual 175, 3) := dk_182 0 175 (dk_at dksX9_figures_1 19 rfl rfl)
theorem dX9_figures_44 : decode cX9_figures 44 = .ok (.iadd, 1) := dk_96 (dk_at dksX9_figures_1 22 rfl rfl)
theorem dX9_figures_45 : decode cX9_figures 45 = .ok (.bipush 48, 2) := dk_16 48 (dk_at dksX9_figures_2 0 rfl rfl)
theorem dX9_figures_47 : decode cX9_figures 47 = .ok (.isub, 1) := dk_100 (dk_at dksX9_figures_2 2 rfl rfl)
theorem dX9_figures_48 : decode cX9_figures 48 = .ok (.istore_n 2, 1) := dk_61 (dk_at dksX9_figures_2 3 rfl rfl)
theorem dX9_figures_49 : decode cX9_figures 49 = .ok (.aload_n 0, 1) := dk_42 (dk_at dksX9_figures_2 4 rfl rfl)
theorem dX9_figures_50 : decode cX9_figures 50 = .ok (.dup, 1) := dk_89 (dk_at dksX9_figures_2 5 rfl rfl)
theorem dX9_figures_51 : decode cX9_figures 51 = .ok (.getfield 172, 3) := dk_180 0 172 (dk_at dksX9_figures_2 6 rfl rfl)
theorem dX9_figures_54 : decode cX9_figures 54 = .ok (.iconst 1, 1) := dk_4 (dk_at dksX9_figures_2 9 rfl rfl)
theorem dX9_figures_55 : decode cX9_figures 55 = .ok (.iadd, 1) := dk_96 (dk_at dksX9_figures_2 10 rfl rfl)
theorem dX9_figures_56 : decode cX9_figures 56 = .ok (.putfield 172, 3) := dk_181 0 172 (dk_at dksX9_figures_2 11 rfl rfl)
theorem dX9_figures_59 : decode cX9_figures 59 = .ok (.goto (-52), 3) := dk_167 255 204 (dk_at dksX9_figures_2 14 rfl rfl)
theorem dX9_figures_62 : decode cX9_figures 62 = .ok (.iload_n 2, 1) := dk_28 (dk_at dksX9_figures_2 17 rfl rfl)
theorem dX9_figures_63 : decode cX9_figures 63 = .ok (.sipush 9999, 3) := dk_17 39 15 (dk_at dksX9_figures_2 18 rfl rfl)
theorem dX9_figures_66 : decode cX9_figures 66 = .ok (.if_icmp .le 9, 3) := dk_164 0 9 (dk_at dksX9_figures_2 21 rfl rfl)
theorem dX9_figures_69 : decode cX9_figures 69 = .ok (.aload_n 0, 1) := dk_42 (dk_at dksX9_figures_3 0 rfl rfl)
theorem dX9_figures_70 : decode cX9_figures 70 = .ok (.iconst 2, 1) := dk_5 (dk_at dksX9_figures_3 1 rfl rfl)
theorem dX9_figures_71 : decode cX9_figures 71 = .ok (.iload_n 1, 1) := dk_27 (dk_at dksX9_figures_3 2 rfl rfl)
theorem dX9_figures_72 : decode cX9_figures 72 = .ok (.invokevirtual 227, 3) := dk_182 0 227 (dk_at dksX9_figures_3 3 rfl rfl)
theorem dX9_figures_75 : decode cX9_figures 75 = .ok (.aload_n 0, 1) := dk_42 (dk_at dksX9_figures_3 6 rfl rfl)
theorem dX9_figures_76 : decode cX9_figures 76 = .ok (.iconst 0, 1) := dk_3 (dk_at dksX9_figures_3 7 rfl rfl)
theorem dX9_figures_77 : decode cX9_figures 77 = .ok (.iload_n 2, 1) := dk_28 (dk_at dksX9_figures_3 8 rfl rfl)
theorem dX9_figures_78 : decode cX9_figures 78 = .ok (.invokevirtual 249, 3) := dk_182 0 249 (dk_at dksX9_figures_3 9 rfl rfl)
theorem dX9_figures_81 : decode cX9_figures 81 = .ok (.return_, 1) := dk_177 (dk_at dksX9_figures_3 12 rfl rfl)
def dkwX9_emits_2 : List UInt8 := [180, 0, 234, 4, 96, 181, 0, 234, 177]
abbrev dktX9_emits_2 : List UInt8 := dkwX9_emits_2 ++ []
def dkwX9_emits_1 : List UInt8 := [96, 27, 79, 42, 180, 0, 43, 17, 1, 144, 42, 180, 0, 231, 104, 42, 180, 0, 234, 96, 28, 79, 42, 89]
abbrev dktX9_emits_1 : List UInt8 := dkwX9_emits_1 ++ dktX9_emits_2
def dkwX9_emits_0 : List UInt8 := [42, 180, 0, 178, 158, 0, 4, 177, 42, 180, 0, 40, 17, 1, 144, 42, 180, 0, 231, 104, 42, 180, 0, 234]
abbrev dktX9_emits_0 : List UInt8 := dkwX9_emits_0 ++ dktX9_emits_1
theorem dksX9_emits_0 : cX9_emits.data.toList.drop 0 = dktX9_emits_0 := by decide +kernel
theorem dksX9_emits_1 : cX9_emits.data.toList.drop 24 = dktX9_emits_1 := dk_seg dksX9_emits_0 24 rfl rfl
theorem dksX9_emits_2 : cX9_emits.data.toList.drop 48 = dktX9_emits_2 := dk_seg dksX9_emits_1 24 rfl rfl
theorem dX9_emits_0 : decode cX9_emits 0 = .ok (.aload_n 0, 1) := dk_42 (dk_at dksX9_emits_0 0 rfl rfl)
theorem dX9_emits_1 : decode cX9_emits 1 = .ok (.getfield 178, 3) := dk_180 0 178 (dk_at dksX9_emits_0 1 rfl rfl)
theorem dX9_emits_4 : decode cX9_emits 4 = .ok (.ifCond .le 4, 3) := dk_158 0 4 (dk_at dksX9_emits_0 4 rfl rfl)
theorem dX9_emits_7 : decode cX9_emits 7 = .ok (.return_, 1) := dk_177 (dk_at dksX9_emits_0 7 rfl rfl)
theorem dX9_emits_8 : decode cX9_emits 8 = .ok (.aload_n 0, 1) := dk_42 (dk_at dksX9_emits_0 8 rfl rfl)
theorem dX9_emits_9 : decode cX9_emits 9 = .ok (.getfield 40, 3) := dk_180 0 40 (dk_at dksX9_emits_0 9 rfl rfl)
theorem dX9_emits_12 : decode cX9_emits 12 = .ok (.sipush 400, 3) := dk_17 1 144 (dk_at dksX9_emits_0 12 rfl rfl)
theorem dX9_emits_15 : decode cX9_emits 15 = .ok (.aload_n 0, 1) := dk_42 (dk_at dksX9_emits_0 15 rfl rfl)
theorem dX9_emits_16 : decode cX9_emits 16 = .ok (.getfield 231, 3) := dk_180 0 231 (dk_at dksX9_emits_0 16 rfl rfl)
theorem dX9_emits_19 : decode cX9_emits 19 = .ok (.imul, 1) := dk_104 (dk_at dksX9_emits_0 19 rfl rfl)
theorem dX9_emits_20 : decode cX9_emits 20 = .ok (.aload_n 0, 1) := dk_42 (dk_at dksX9_emits_0 20 rfl rfl)
theorem dX9_emits_21 : decode cX9_emits 21 = .ok (.getfield 234, 3) := dk_180 0 234 (dk_at dksX9_emits_0 21 rfl rfl)
theorem dX9_emits_24 : decode cX9_emits 24 = .ok (.iadd, 1) := dk_96 (dk_at dksX9_emits_1 0 rfl rfl)
theorem dX9_emits_25 : decode cX9_emits 25 = .ok (.iload_n 1, 1) := dk_27 (dk_at dksX9_emits_1 1 rfl rfl)
theorem dX9_emits_26 : decode cX9_emits 26 = .ok (.iastore, 1) := dk_79 (dk_at dksX9_emits_1 2 rfl rfl)
theorem dX9_emits_27 : decode cX9_emits 27 = .ok (.aload_n 0, 1) := dk_42 (dk_at dksX9_emits_1 3 rfl rfl)
theorem dX9_emits_28 : decode cX9_emits 28 = .ok (.getfield 43, 3) := dk_180 0 43 (dk_at dksX9_emits_1 4 rfl rfl)
theorem dX9_emits_31 : decode cX9_emits 31 = .ok (.sipush 400, 3) := dk_17 1 144 (dk_at dksX9_emits_1 7 rfl rfl)
theorem dX9_emits_34 : decode cX9_emits 34 = .ok (.aload_n 0, 1) := dk_42 (dk_at dksX9_emits_1 10 rfl rfl)
theorem dX9_emits_35 : decode cX9_emits 35 = .ok (.getfield 231, 3) := dk_180 0 231 (dk_at dksX9_emits_1 11 rfl rfl)
theorem dX9_emits_38 : decode cX9_emits 38 = .ok (.imul, 1) := dk_104 (dk_at dksX9_emits_1 14 rfl rfl)
theorem dX9_emits_39 : decode cX9_emits 39 = .ok (.aload_n 0, 1) := dk_42 (dk_at dksX9_emits_1 15 rfl rfl)
theorem dX9_emits_40 : decode cX9_emits 40 = .ok (.getfield 234, 3) := dk_180 0 234 (dk_at dksX9_emits_1 16 rfl rfl)
theorem dX9_emits_43 : decode cX9_emits 43 = .ok (.iadd, 1) := dk_96 (dk_at dksX9_emits_1 19 rfl rfl)
theorem dX9_emits_44 : decode cX9_emits 44 = .ok (.iload_n 2, 1) := dk_28 (dk_at dksX9_emits_1 20 rfl rfl)
theorem dX9_emits_45 : decode cX9_emits 45 = .ok (.iastore, 1) := dk_79 (dk_at dksX9_emits_1 21 rfl rfl)
theorem dX9_emits_46 : decode cX9_emits 46 = .ok (.aload_n 0, 1) := dk_42 (dk_at dksX9_emits_1 22 rfl rfl)
theorem dX9_emits_47 : decode cX9_emits 47 = .ok (.dup, 1) := dk_89 (dk_at dksX9_emits_1 23 rfl rfl)
theorem dX9_emits_48 : decode cX9_emits 48 = .ok (.getfield 234, 3) := dk_180 0 234 (dk_at dksX9_emits_2 0 rfl rfl)
theorem dX9_emits_51 : decode cX9_emits 51 = .ok (.iconst 1, 1) := dk_4 (dk_at dksX9_emits_2 3 rfl rfl)
theorem dX9_emits_52 : decode cX9_emits 52 = .ok (.iadd, 1) := dk_96 (dk_at dksX9_emits_2 4 rfl rfl)
theorem dX9_emits_53 : decode cX9_emits 53 = .ok (.putfield 234, 3) := dk_181 0 234 (dk_at dksX9_emits_2 5 rfl rfl)
theorem dX9_emits_56 : decode cX9_emits 56 = .ok (.return_, 1) := dk_177 (dk_at dksX9_emits_2 8 rfl rfl)
def dkwX9_toldOf_2 : List UInt8 := [18, 214, 176, 18, 216, 176, 18, 218, 176, 18, 220, 176, 18, 222, 176]
abbrev dktX9_toldOf_2 : List UInt8 := dkwX9_toldOf_2 ++ []
def dkwX9_toldOf_1 : List UInt8 := [170, 0, 0, 0, 0, 0, 43, 0, 0, 0, 0, 0, 0, 0, 3, 0, 0, 0, 31, 0, 0, 0, 34, 0, 0, 0, 37, 0, 0, 0, 40]
abbrev dktX9_toldOf_1 : List UInt8 := dkwX9_toldOf_1 ++ dktX9_toldOf_2
def dkwX9_toldOf_0 : List UInt8 := [26]
abbrev dktX9_toldOf_0 : List UInt8 := dkwX9_toldOf_0 ++ dktX9_toldOf_1
theorem dksX9_toldOf_0 : cX9_toldOf.data.toList.drop 0 = dktX9_toldOf_0 := by decide +kernel
theorem dksX9_toldOf_1 : cX9_toldOf.data.toList.drop 1 = dktX9_toldOf_1 := dk_seg dksX9_toldOf_0 1 rfl rfl
theorem dksX9_toldOf_2 : cX9_toldOf.data.toList.drop 32 = dktX9_toldOf_2 := dk_seg dksX9_toldOf_1 31 rfl rfl
theorem dX9_toldOf_0 : decode cX9_toldOf 0 = .ok (.iload_n 0, 1) := dk_26 (dk_at dksX9_toldOf_0 0 rfl rfl)
theorem dX9_toldOf_1 : decode cX9_toldOf 1 = .ok (.tableswitch 43 0 3 #[31, 34, 37, 40], 31) := by decide +kernel
theorem dX9_toldOf_32 : decode cX9_toldOf 32 = .ok (.ldc 214, 2) := dk_18 214 (dk_at dksX9_toldOf_2 0 rfl rfl)
theorem dX9_toldOf_34 : decode cX9_toldOf 34 = .ok (.areturn, 1) := dk_176 (dk_at dksX9_toldOf_2 2 rfl rfl)
theorem dX9_toldOf_35 : decode cX9_toldOf 35 = .ok (.ldc 216, 2) := dk_18 216 (dk_at dksX9_toldOf_2 3 rfl rfl)
theorem dX9_toldOf_37 : decode cX9_toldOf 37 = .ok (.areturn, 1) := dk_176 (dk_at dksX9_toldOf_2 5 rfl rfl)
theorem dX9_toldOf_38 : decode cX9_toldOf 38 = .ok (.ldc 218, 2) := dk_18 218 (dk_at dksX9_toldOf_2 6 rfl rfl)
theorem dX9_toldOf_40 : decode cX9_toldOf 40 = .ok (.areturn, 1) := dk_176 (dk_at dksX9_toldOf_2 8 rfl rfl)
theorem dX9_toldOf_41 : decode cX9_toldOf 41 = .ok (.ldc 220, 2) := dk_18 220 (dk_at dksX9_toldOf_2 9 rfl rfl)
theorem dX9_toldOf_43 : decode cX9_toldOf 43 = .ok (.areturn, 1) := dk_176 (dk_at dksX9_toldOf_2 11 rfl rfl)
theorem dX9_toldOf_44 : decode cX9_toldOf 44 = .ok (.ldc 222, 2) := dk_18 222 (dk_at dksX9_toldOf_2 12 rfl rfl)
theorem dX9_toldOf_46 : decode cX9_toldOf 46 = .ok (.areturn, 1) := dk_176 (dk_at dksX9_toldOf_2 14 rfl rfl)
def dkwX9_eat_1 : List UInt8 := [153, 0, 16, 42, 89, 180, 0, 172, 43, 182, 0, 184, 96, 181, 0, 172, 28, 172]
abbrev dktX9_eat_1 : List UInt8 := dkwX9_eat_1 ++ []
def dkwX9_eat_0 : List UInt8 := [42, 180, 0, 178, 154, 0, 15, 42, 43, 182, 0, 194, 153, 0, 7, 4, 167, 0, 4, 3, 61, 28]
abbrev dktX9_eat_0 : List UInt8 := dkwX9_eat_0 ++ dktX9_eat_1
theorem dksX9_eat_0 : cX9_eat.data.toList.drop 0 = dktX9_eat_0 := by decide +kernel
theorem dksX9_eat_1 : cX9_eat.data.toList.drop 22 = dktX9_eat_1 := dk_seg dksX9_eat_0 22 rfl rfl
theorem dX9_eat_0 : decode cX9_eat 0 = .ok (.aload_n 0, 1) := dk_42 (dk_at dksX9_eat_0 0 rfl rfl)
theorem dX9_eat_1 : decode cX9_eat 1 = .ok (.getfield 178, 3) := dk_180 0 178 (dk_at dksX9_eat_0 1 rfl rfl)
theorem dX9_eat_4 : decode cX9_eat 4 = .ok (.ifCond .ne 15, 3) := dk_154 0 15 (dk_at dksX9_eat_0 4 rfl rfl)
theorem dX9_eat_7 : decode cX9_eat 7 = .ok (.aload_n 0, 1) := dk_42 (dk_at dksX9_eat_0 7 rfl rfl)
theorem dX9_eat_8 : decode cX9_eat 8 = .ok (.aload_n 1, 1) := dk_43 (dk_at dksX9_eat_0 8 rfl rfl)
theorem dX9_eat_9 : decode cX9_eat 9 = .ok (.invokevirtual 194, 3) := dk_182 0 194 (dk_at dksX9_eat_0 9 rfl rfl)
theorem dX9_eat_12 : decode cX9_eat 12 = .ok (.ifCond .eq 7, 3) := dk_153 0 7 (dk_at dksX9_eat_0 12 rfl rfl)
theorem dX9_eat_15 : decode cX9_eat 15 = .ok (.iconst 1, 1) := dk_4 (dk_at dksX9_eat_0 15 rfl rfl)
theorem dX9_eat_16 : decode cX9_eat 16 = .ok (.goto 4, 3) := dk_167 0 4 (dk_at dksX9_eat_0 16 rfl rfl)
theorem dX9_eat_19 : decode cX9_eat 19 = .ok (.iconst 0, 1) := dk_3 (dk_at dksX9_eat_0 19 rfl rfl)
theorem dX9_eat_20 : decode cX9_eat 20 = .ok (.istore_n 2, 1) := dk_61 (dk_at dksX9_eat_0 20 rfl rfl)
theorem dX9_eat_21 : decode cX9_eat 21 = .ok (.iload_n 2, 1) := dk_28 (dk_at dksX9_eat_0 21 rfl rfl)
theorem dX9_eat_22 : decode cX9_eat 22 = .ok (.ifCond .eq 16, 3) := dk_153 0 16 (dk_at dksX9_eat_1 0 rfl rfl)
theorem dX9_eat_25 : decode cX9_eat 25 = .ok (.aload_n 0, 1) := dk_42 (dk_at dksX9_eat_1 3 rfl rfl)
theorem dX9_eat_26 : decode cX9_eat 26 = .ok (.dup, 1) := dk_89 (dk_at dksX9_eat_1 4 rfl rfl)
theorem dX9_eat_27 : decode cX9_eat 27 = .ok (.getfield 172, 3) := dk_180 0 172 (dk_at dksX9_eat_1 5 rfl rfl)
theorem dX9_eat_30 : decode cX9_eat 30 = .ok (.aload_n 1, 1) := dk_43 (dk_at dksX9_eat_1 8 rfl rfl)
theorem dX9_eat_31 : decode cX9_eat 31 = .ok (.invokevirtual 184, 3) := dk_182 0 184 (dk_at dksX9_eat_1 9 rfl rfl)
theorem dX9_eat_34 : decode cX9_eat 34 = .ok (.iadd, 1) := dk_96 (dk_at dksX9_eat_1 12 rfl rfl)
theorem dX9_eat_35 : decode cX9_eat 35 = .ok (.putfield 172, 3) := dk_181 0 172 (dk_at dksX9_eat_1 13 rfl rfl)
theorem dX9_eat_38 : decode cX9_eat 38 = .ok (.iload_n 2, 1) := dk_28 (dk_at dksX9_eat_1 16 rfl rfl)
theorem dX9_eat_39 : decode cX9_eat 39 = .ok (.ireturn, 1) := dk_172 (dk_at dksX9_eat_1 17 rfl rfl)
def dkwX9_opens_1 : List UInt8 := [96, 181, 0, 237, 42, 89, 180, 0, 172, 27, 96, 181, 0, 172, 177]
abbrev dktX9_opens_1 : List UInt8 := dkwX9_opens_1 ++ []
def dkwX9_opens_0 : List UInt8 := [42, 180, 0, 237, 16, 8, 160, 0, 12, 42, 6, 42, 180, 0, 172, 182, 0, 227, 42, 89, 180, 0, 237, 4]
abbrev dktX9_opens_0 : List UInt8 := dkwX9_opens_0 ++ dktX9_opens_1
theorem dksX9_opens_0 : cX9_opens.data.toList.drop 0 = dktX9_opens_0 := by decide +kernel
theorem dksX9_opens_1 : cX9_opens.data.toList.drop 24 = dktX9_opens_1 := dk_seg dksX9_opens_0 24 rfl rfl
theorem dX9_opens_0 : decode cX9_opens 0 = .ok (.aload_n 0, 1) := dk_42 (dk_at dksX9_opens_0 0 rfl rfl)
theorem dX9_opens_1 : decode cX9_opens 1 = .ok (.getfield 237, 3) := dk_180 0 237 (dk_at dksX9_opens_0 1 rfl rfl)
theorem dX9_opens_4 : decode cX9_opens 4 = .ok (.bipush 8, 2) := dk_16 8 (dk_at dksX9_opens_0 4 rfl rfl)
theorem dX9_opens_6 : decode cX9_opens 6 = .ok (.if_icmp .ne 12, 3) := dk_160 0 12 (dk_at dksX9_opens_0 6 rfl rfl)
theorem dX9_opens_9 : decode cX9_opens 9 = .ok (.aload_n 0, 1) := dk_42 (dk_at dksX9_opens_0 9 rfl rfl)
theorem dX9_opens_10 : decode cX9_opens 10 = .ok (.iconst 3, 1) := dk_6 (dk_at dksX9_opens_0 10 rfl rfl)
theorem dX9_opens_11 : decode cX9_opens 11 = .ok (.aload_n 0, 1) := dk_42 (dk_at dksX9_opens_0 11 rfl rfl)
theorem dX9_opens_12 : decode cX9_opens 12 = .ok (.getfield 172, 3) := dk_180 0 172 (dk_at dksX9_opens_0 12 rfl rfl)
theorem dX9_opens_15 : decode cX9_opens 15 = .ok (.invokevirtual 227, 3) := dk_182 0 227 (dk_at dksX9_opens_0 15 rfl rfl)
theorem dX9_opens_18 : decode cX9_opens 18 = .ok (.aload_n 0, 1) := dk_42 (dk_at dksX9_opens_0 18 rfl rfl)
theorem dX9_opens_19 : decode cX9_opens 19 = .ok (.dup, 1) := dk_89 (dk_at dksX9_opens_0 19 rfl rfl)
theorem dX9_opens_20 : decode cX9_opens 20 = .ok (.getfield 237, 3) := dk_180 0 237 (dk_at dksX9_opens_0 20 rfl rfl)
theorem dX9_opens_23 : decode cX9_opens 23 = .ok (.iconst 1, 1) := dk_4 (dk_at dksX9_opens_0 23 rfl rfl)
theorem dX9_opens_24 : decode cX9_opens 24 = .ok (.iadd, 1) := dk_96 (dk_at dksX9_opens_1 0 rfl rfl)
theorem dX9_opens_25 : decode cX9_opens 25 = .ok (.putfield 237, 3) := dk_181 0 237 (dk_at dksX9_opens_1 1 rfl rfl)
theorem dX9_opens_28 : decode cX9_opens 28 = .ok (.aload_n 0, 1) := dk_42 (dk_at dksX9_opens_1 4 rfl rfl)
theorem dX9_opens_29 : decode cX9_opens 29 = .ok (.dup, 1) := dk_89 (dk_at dksX9_opens_1 5 rfl rfl)
theorem dX9_opens_30 : decode cX9_opens 30 = .ok (.getfield 172, 3) := dk_180 0 172 (dk_at dksX9_opens_1 6 rfl rfl)
theorem dX9_opens_33 : decode cX9_opens 33 = .ok (.iload_n 1, 1) := dk_27 (dk_at dksX9_opens_1 9 rfl rfl)
theorem dX9_opens_34 : decode cX9_opens 34 = .ok (.iadd, 1) := dk_96 (dk_at dksX9_opens_1 10 rfl rfl)
theorem dX9_opens_35 : decode cX9_opens 35 = .ok (.putfield 172, 3) := dk_181 0 172 (dk_at dksX9_opens_1 11 rfl rfl)
theorem dX9_opens_38 : decode cX9_opens 38 = .ok (.return_, 1) := dk_177 (dk_at dksX9_opens_1 14 rfl rfl)
def dkwX9_closes_0 : List UInt8 := [42, 27, 182, 0, 243, 42, 89, 180, 0, 237, 4, 100, 181, 0, 237, 177]
abbrev dktX9_closes_0 : List UInt8 := dkwX9_closes_0 ++ []
theorem dksX9_closes_0 : cX9_closes.data.toList.drop 0 = dktX9_closes_0 := by decide +kernel
theorem dX9_closes_0 : decode cX9_closes 0 = .ok (.aload_n 0, 1) := dk_42 (dk_at dksX9_closes_0 0 rfl rfl)
theorem dX9_closes_1 : decode cX9_closes 1 = .ok (.iload_n 1, 1) := dk_27 (dk_at dksX9_closes_0 1 rfl rfl)
theorem dX9_closes_2 : decode cX9_closes 2 = .ok (.invokevirtual 243, 3) := dk_182 0 243 (dk_at dksX9_closes_0 2 rfl rfl)
theorem dX9_closes_5 : decode cX9_closes 5 = .ok (.aload_n 0, 1) := dk_42 (dk_at dksX9_closes_0 5 rfl rfl)
theorem dX9_closes_6 : decode cX9_closes 6 = .ok (.dup, 1) := dk_89 (dk_at dksX9_closes_0 6 rfl rfl)
theorem dX9_closes_7 : decode cX9_closes 7 = .ok (.getfield 237, 3) := dk_180 0 237 (dk_at dksX9_closes_0 7 rfl rfl)
theorem dX9_closes_10 : decode cX9_closes 10 = .ok (.iconst 1, 1) := dk_4 (dk_at dksX9_closes_0 10 rfl rfl)
theorem dX9_closes_11 : decode cX9_closes 11 = .ok (.isub, 1) := dk_100 (dk_at dksX9_closes_0 11 rfl rfl)
theorem dX9_closes_12 : decode cX9_closes 12 = .ok (.putfield 237, 3) := dk_181 0 237 (dk_at dksX9_closes_0 12 rfl rfl)
theorem dX9_closes_15 : decode cX9_closes 15 = .ok (.return_, 1) := dk_177 (dk_at dksX9_closes_0 15 rfl rfl)
def dkwX9_bracket_1 : List UInt8 := [160, 0, 11, 42, 4, 182, 0, 240, 167, 0, 12, 42, 4, 42, 180, 0, 172, 182, 0, 227, 177]
abbrev dktX9_bracket_1 : List UInt8 := dkwX9_bracket_1 ++ []
def dkwX9_bracket_0 : List UInt8 := [42, 180, 0, 178, 158, 0, 4, 177, 42, 182, 0, 181, 42, 42, 180, 0, 172, 182, 0, 175, 16, 40]
abbrev dktX9_bracket_0 : List UInt8 := dkwX9_bracket_0 ++ dktX9_bracket_1
theorem dksX9_bracket_0 : cX9_bracket.data.toList.drop 0 = dktX9_bracket_0 := by decide +kernel
theorem dksX9_bracket_1 : cX9_bracket.data.toList.drop 22 = dktX9_bracket_1 := dk_seg dksX9_bracket_0 22 rfl rfl
theorem dX9_bracket_0 : decode cX9_bracket 0 = .ok (.aload_n 0, 1) := dk_42 (dk_at dksX9_bracket_0 0 rfl rfl)
theorem dX9_bracket_1 : decode cX9_bracket 1 = .ok (.getfield 178, 3) := dk_180 0 178 (dk_at dksX9_bracket_0 1 rfl rfl)
theorem dX9_bracket_4 : decode cX9_bracket 4 = .ok (.ifCond .le 4, 3) := dk_158 0 4 (dk_at dksX9_bracket_0 4 rfl rfl)
theorem dX9_bracket_7 : decode cX9_bracket 7 = .ok (.return_, 1) := dk_177 (dk_at dksX9_bracket_0 7 rfl rfl)
theorem dX9_bracket_8 : decode cX9_bracket 8 = .ok (.aload_n 0, 1) := dk_42 (dk_at dksX9_bracket_0 8 rfl rfl)
theorem dX9_bracket_9 : decode cX9_bracket 9 = .ok (.invokevirtual 181, 3) := dk_182 0 181 (dk_at dksX9_bracket_0 9 rfl rfl)
theorem dX9_bracket_12 : decode cX9_bracket 12 = .ok (.aload_n 0, 1) := dk_42 (dk_at dksX9_bracket_0 12 rfl rfl)
theorem dX9_bracket_13 : decode cX9_bracket 13 = .ok (.aload_n 0, 1) := dk_42 (dk_at dksX9_bracket_0 13 rfl rfl)
theorem dX9_bracket_14 : decode cX9_bracket 14 = .ok (.getfield 172, 3) := dk_180 0 172 (dk_at dksX9_bracket_0 14 rfl rfl)
theorem dX9_bracket_17 : decode cX9_bracket 17 = .ok (.invokevirtual 175, 3) := dk_182 0 175 (dk_at dksX9_bracket_0 17 rfl rfl)
theorem dX9_bracket_20 : decode cX9_bracket 20 = .ok (.bipush 40, 2) := dk_16 40 (dk_at dksX9_bracket_0 20 rfl rfl)
theorem dX9_bracket_22 : decode cX9_bracket 22 = .ok (.if_icmp .ne 11, 3) := dk_160 0 11 (dk_at dksX9_bracket_1 0 rfl rfl)
theorem dX9_bracket_25 : decode cX9_bracket 25 = .ok (.aload_n 0, 1) := dk_42 (dk_at dksX9_bracket_1 3 rfl rfl)
theorem dX9_bracket_26 : decode cX9_bracket 26 = .ok (.iconst 1, 1) := dk_4 (dk_at dksX9_bracket_1 4 rfl rfl)
theorem dX9_bracket_27 : decode cX9_bracket 27 = .ok (.invokevirtual 240, 3) := dk_182 0 240 (dk_at dksX9_bracket_1 5 rfl rfl)
theorem dX9_bracket_30 : decode cX9_bracket 30 = .ok (.goto 12, 3) := dk_167 0 12 (dk_at dksX9_bracket_1 8 rfl rfl)
theorem dX9_bracket_33 : decode cX9_bracket 33 = .ok (.aload_n 0, 1) := dk_42 (dk_at dksX9_bracket_1 11 rfl rfl)
theorem dX9_bracket_34 : decode cX9_bracket 34 = .ok (.iconst 1, 1) := dk_4 (dk_at dksX9_bracket_1 12 rfl rfl)
theorem dX9_bracket_35 : decode cX9_bracket 35 = .ok (.aload_n 0, 1) := dk_42 (dk_at dksX9_bracket_1 13 rfl rfl)
theorem dX9_bracket_36 : decode cX9_bracket 36 = .ok (.getfield 172, 3) := dk_180 0 172 (dk_at dksX9_bracket_1 14 rfl rfl)
theorem dX9_bracket_39 : decode cX9_bracket 39 = .ok (.invokevirtual 227, 3) := dk_182 0 227 (dk_at dksX9_bracket_1 17 rfl rfl)
theorem dX9_bracket_42 : decode cX9_bracket 42 = .ok (.return_, 1) := dk_177 (dk_at dksX9_bracket_1 20 rfl rfl)
def dkwX9_ors_1 : List UInt8 := [182, 0, 249, 167, 255, 235, 177]
abbrev dktX9_ors_1 : List UInt8 := dkwX9_ors_1 ++ []
def dkwX9_ors_0 : List UInt8 := [42, 182, 1, 30, 42, 19, 1, 33, 182, 1, 8, 153, 0, 17, 42, 182, 1, 30, 42, 16, 10, 3]
abbrev dktX9_ors_0 : List UInt8 := dkwX9_ors_0 ++ dktX9_ors_1
theorem dksX9_ors_0 : cX9_ors.data.toList.drop 0 = dktX9_ors_0 := by decide +kernel
theorem dksX9_ors_1 : cX9_ors.data.toList.drop 22 = dktX9_ors_1 := dk_seg dksX9_ors_0 22 rfl rfl
theorem dX9_ors_0 : decode cX9_ors 0 = .ok (.aload_n 0, 1) := dk_42 (dk_at dksX9_ors_0 0 rfl rfl)
theorem dX9_ors_1 : decode cX9_ors 1 = .ok (.invokevirtual 286, 3) := dk_182 1 30 (dk_at dksX9_ors_0 1 rfl rfl)
theorem dX9_ors_4 : decode cX9_ors 4 = .ok (.aload_n 0, 1) := dk_42 (dk_at dksX9_ors_0 4 rfl rfl)
theorem dX9_ors_5 : decode cX9_ors 5 = .ok (.ldc_w 289, 3) := dk_19 1 33 (dk_at dksX9_ors_0 5 rfl rfl)
theorem dX9_ors_8 : decode cX9_ors 8 = .ok (.invokevirtual 264, 3) := dk_182 1 8 (dk_at dksX9_ors_0 8 rfl rfl)
theorem dX9_ors_11 : decode cX9_ors 11 = .ok (.ifCond .eq 17, 3) := dk_153 0 17 (dk_at dksX9_ors_0 11 rfl rfl)
theorem dX9_ors_14 : decode cX9_ors 14 = .ok (.aload_n 0, 1) := dk_42 (dk_at dksX9_ors_0 14 rfl rfl)
theorem dX9_ors_15 : decode cX9_ors 15 = .ok (.invokevirtual 286, 3) := dk_182 1 30 (dk_at dksX9_ors_0 15 rfl rfl)
theorem dX9_ors_18 : decode cX9_ors 18 = .ok (.aload_n 0, 1) := dk_42 (dk_at dksX9_ors_0 18 rfl rfl)
theorem dX9_ors_19 : decode cX9_ors 19 = .ok (.bipush 10, 2) := dk_16 10 (dk_at dksX9_ors_0 19 rfl rfl)
theorem dX9_ors_21 : decode cX9_ors 21 = .ok (.iconst 0, 1) := dk_3 (dk_at dksX9_ors_0 21 rfl rfl)
theorem dX9_ors_22 : decode cX9_ors 22 = .ok (.invokevirtual 249, 3) := dk_182 0 249 (dk_at dksX9_ors_1 0 rfl rfl)
theorem dX9_ors_25 : decode cX9_ors 25 = .ok (.goto (-21), 3) := dk_167 255 235 (dk_at dksX9_ors_1 3 rfl rfl)
theorem dX9_ors_28 : decode cX9_ors 28 = .ok (.return_, 1) := dk_177 (dk_at dksX9_ors_1 6 rfl rfl)
def dkwX9_ands_1 : List UInt8 := [182, 0, 249, 167, 255, 235, 177]
abbrev dktX9_ands_1 : List UInt8 := dkwX9_ands_1 ++ []
def dkwX9_ands_0 : List UInt8 := [42, 182, 1, 35, 42, 19, 1, 38, 182, 1, 8, 153, 0, 17, 42, 182, 1, 35, 42, 16, 9, 3]
abbrev dktX9_ands_0 : List UInt8 := dkwX9_ands_0 ++ dktX9_ands_1
theorem dksX9_ands_0 : cX9_ands.data.toList.drop 0 = dktX9_ands_0 := by decide +kernel
theorem dksX9_ands_1 : cX9_ands.data.toList.drop 22 = dktX9_ands_1 := dk_seg dksX9_ands_0 22 rfl rfl
theorem dX9_ands_0 : decode cX9_ands 0 = .ok (.aload_n 0, 1) := dk_42 (dk_at dksX9_ands_0 0 rfl rfl)
theorem dX9_ands_1 : decode cX9_ands 1 = .ok (.invokevirtual 291, 3) := dk_182 1 35 (dk_at dksX9_ands_0 1 rfl rfl)
theorem dX9_ands_4 : decode cX9_ands 4 = .ok (.aload_n 0, 1) := dk_42 (dk_at dksX9_ands_0 4 rfl rfl)
theorem dX9_ands_5 : decode cX9_ands 5 = .ok (.ldc_w 294, 3) := dk_19 1 38 (dk_at dksX9_ands_0 5 rfl rfl)
theorem dX9_ands_8 : decode cX9_ands 8 = .ok (.invokevirtual 264, 3) := dk_182 1 8 (dk_at dksX9_ands_0 8 rfl rfl)
theorem dX9_ands_11 : decode cX9_ands 11 = .ok (.ifCond .eq 17, 3) := dk_153 0 17 (dk_at dksX9_ands_0 11 rfl rfl)
theorem dX9_ands_14 : decode cX9_ands 14 = .ok (.aload_n 0, 1) := dk_42 (dk_at dksX9_ands_0 14 rfl rfl)
theorem dX9_ands_15 : decode cX9_ands 15 = .ok (.invokevirtual 291, 3) := dk_182 1 35 (dk_at dksX9_ands_0 15 rfl rfl)
theorem dX9_ands_18 : decode cX9_ands 18 = .ok (.aload_n 0, 1) := dk_42 (dk_at dksX9_ands_0 18 rfl rfl)
theorem dX9_ands_19 : decode cX9_ands 19 = .ok (.bipush 9, 2) := dk_16 9 (dk_at dksX9_ands_0 19 rfl rfl)
theorem dX9_ands_21 : decode cX9_ands 21 = .ok (.iconst 0, 1) := dk_3 (dk_at dksX9_ands_0 21 rfl rfl)
theorem dX9_ands_22 : decode cX9_ands 22 = .ok (.invokevirtual 249, 3) := dk_182 0 249 (dk_at dksX9_ands_1 0 rfl rfl)
theorem dX9_ands_25 : decode cX9_ands 25 = .ok (.goto (-21), 3) := dk_167 255 235 (dk_at dksX9_ands_1 3 rfl rfl)
theorem dX9_ands_28 : decode cX9_ands 28 = .ok (.return_, 1) := dk_177 (dk_at dksX9_ands_1 6 rfl rfl)
def dkwX9_test_7 : List UInt8 := [167, 0, 5, 16, 14, 3, 182, 0, 249, 177]
abbrev dktX9_test_7 : List UInt8 := dkwX9_test_7 ++ []
def dkwX9_test_6 : List UInt8 := [182, 1, 11, 42, 27, 16, 60, 160, 0, 8, 16, 12, 167, 0, 16, 27, 16, 62, 160, 0, 8, 16, 13]
abbrev dktX9_test_6 : List UInt8 := dkwX9_test_6 ++ dktX9_test_7
def dkwX9_test_5 : List UInt8 := [159, 0, 13, 42, 4, 42, 180, 0, 172, 182, 0, 227, 177, 42, 89, 180, 0, 172, 4, 96, 181, 0, 172, 42]
abbrev dktX9_test_5 : List UInt8 := dkwX9_test_5 ++ dktX9_test_6
def dkwX9_test_4 : List UInt8 := [180, 0, 172, 182, 0, 175, 60, 27, 16, 60, 159, 0, 25, 27, 16, 62, 159, 0, 19, 27, 16, 61]
abbrev dktX9_test_4 : List UInt8 := dkwX9_test_4 ++ dktX9_test_5
def dkwX9_test_3 : List UInt8 := [16, 93, 182, 1, 14, 177, 42, 182, 1, 11, 42, 180, 0, 178, 158, 0, 4, 177, 42, 182, 0, 181, 42, 42]
abbrev dktX9_test_3 : List UInt8 := dkwX9_test_3 ++ dktX9_test_4
def dkwX9_test_2 : List UInt8 := [177, 42, 42, 180, 0, 172, 182, 0, 175, 16, 91, 160, 0, 19, 42, 4, 182, 0, 240, 42, 182, 1, 26, 42]
abbrev dktX9_test_2 : List UInt8 := dkwX9_test_2 ++ dktX9_test_3
def dkwX9_test_1 : List UInt8 := [182, 0, 240, 42, 182, 1, 35, 42, 89, 180, 0, 237, 4, 100, 181, 0, 237, 42, 16, 11, 3, 182, 0, 249]
abbrev dktX9_test_1 : List UInt8 := dkwX9_test_1 ++ dktX9_test_2
def dkwX9_test_0 : List UInt8 := [42, 180, 0, 178, 158, 0, 4, 177, 42, 182, 0, 181, 42, 19, 1, 40, 182, 0, 194, 153, 0, 30, 42, 6]
abbrev dktX9_test_0 : List UInt8 := dkwX9_test_0 ++ dktX9_test_1
theorem dksX9_test_0 : cX9_test.data.toList.drop 0 = dktX9_test_0 := by decide +kernel
theorem dksX9_test_1 : cX9_test.data.toList.drop 24 = dktX9_test_1 := dk_seg dksX9_test_0 24 rfl rfl
theorem dksX9_test_2 : cX9_test.data.toList.drop 48 = dktX9_test_2 := dk_seg dksX9_test_1 24 rfl rfl
theorem dksX9_test_3 : cX9_test.data.toList.drop 72 = dktX9_test_3 := dk_seg dksX9_test_2 24 rfl rfl
theorem dksX9_test_4 : cX9_test.data.toList.drop 96 = dktX9_test_4 := dk_seg dksX9_test_3 24 rfl rfl
theorem dksX9_test_5 : cX9_test.data.toList.drop 118 = dktX9_test_5 := dk_seg dksX9_test_4 22 rfl rfl
theorem dksX9_test_6 : cX9_test.data.toList.drop 142 = dktX9_test_6 := dk_seg dksX9_test_5 24 rfl rfl
theorem dksX9_test_7 : cX9_test.data.toList.drop 165 = dktX9_test_7 := dk_seg dksX9_test_6 23 rfl rfl
theorem dX9_test_0 : decode cX9_test 0 = .ok (.aload_n 0, 1) := dk_42 (dk_at dksX9_test_0 0 rfl rfl)
theorem dX9_test_1 : decode cX9_test 1 = .ok (.getfield 178, 3) := dk_180 0 178 (dk_at dksX9_test_0 1 rfl rfl)
theorem dX9_test_4 : decode cX9_test 4 = .ok (.ifCond .le 4, 3) := dk_158 0 4 (dk_at dksX9_test_0 4 rfl rfl)
theorem dX9_test_7 : decode cX9_test 7 = .ok (.return_, 1) := dk_177 (dk_at dksX9_test_0 7 rfl rfl)
theorem dX9_test_8 : decode cX9_test 8 = .ok (.aload_n 0, 1) := dk_42 (dk_at dksX9_test_0 8 rfl rfl)
theorem dX9_test_9 : decode cX9_test 9 = .ok (.invokevirtual 181, 3) := dk_182 0 181 (dk_at dksX9_test_0 9 rfl rfl)
theorem dX9_test_12 : decode cX9_test 12 = .ok (.aload_n 0, 1) := dk_42 (dk_at dksX9_test_0 12 rfl rfl)
theorem dX9_test_13 : decode cX9_test 13 = .ok (.ldc_w 296, 3) := dk_19 1 40 (dk_at dksX9_test_0 13 rfl rfl)
theorem dX9_test_16 : decode cX9_test 16 = .ok (.invokevirtual 194, 3) := dk_182 0 194 (dk_at dksX9_test_0 16 rfl rfl)
theorem dX9_test_19 : decode cX9_test 19 = .ok (.ifCond .eq 30, 3) := dk_153 0 30 (dk_at dksX9_test_0 19 rfl rfl)
theorem dX9_test_22 : decode cX9_test 22 = .ok (.aload_n 0, 1) := dk_42 (dk_at dksX9_test_0 22 rfl rfl)
theorem dX9_test_23 : decode cX9_test 23 = .ok (.iconst 3, 1) := dk_6 (dk_at dksX9_test_0 23 rfl rfl)
theorem dX9_test_24 : decode cX9_test 24 = .ok (.invokevirtual 240, 3) := dk_182 0 240 (dk_at dksX9_test_1 0 rfl rfl)
theorem dX9_test_27 : decode cX9_test 27 = .ok (.aload_n 0, 1) := dk_42 (dk_at dksX9_test_1 3 rfl rfl)
theorem dX9_test_28 : decode cX9_test 28 = .ok (.invokevirtual 291, 3) := dk_182 1 35 (dk_at dksX9_test_1 4 rfl rfl)
theorem dX9_test_31 : decode cX9_test 31 = .ok (.aload_n 0, 1) := dk_42 (dk_at dksX9_test_1 7 rfl rfl)
theorem dX9_test_32 : decode cX9_test 32 = .ok (.dup, 1) := dk_89 (dk_at dksX9_test_1 8 rfl rfl)
theorem dX9_test_33 : decode cX9_test 33 = .ok (.getfield 237, 3) := dk_180 0 237 (dk_at dksX9_test_1 9 rfl rfl)
theorem dX9_test_36 : decode cX9_test 36 = .ok (.iconst 1, 1) := dk_4 (dk_at dksX9_test_1 12 rfl rfl)
theorem dX9_test_37 : decode cX9_test 37 = .ok (.isub, 1) := dk_100 (dk_at dksX9_test_1 13 rfl rfl)
theorem dX9_test_38 : decode cX9_test 38 = .ok (.putfield 237, 3) := dk_181 0 237 (dk_at dksX9_test_1 14 rfl rfl)
theorem dX9_test_41 : decode cX9_test 41 = .ok (.aload_n 0, 1) := dk_42 (dk_at dksX9_test_1 17 rfl rfl)
theorem dX9_test_42 : decode cX9_test 42 = .ok (.bipush 11, 2) := dk_16 11 (dk_at dksX9_test_1 18 rfl rfl)
theorem dX9_test_44 : decode cX9_test 44 = .ok (.iconst 0, 1) := dk_3 (dk_at dksX9_test_1 20 rfl rfl)
theorem dX9_test_45 : decode cX9_test 45 = .ok (.invokevirtual 249, 3) := dk_182 0 249 (dk_at dksX9_test_1 21 rfl rfl)
theorem dX9_test_48 : decode cX9_test 48 = .ok (.return_, 1) := dk_177 (dk_at dksX9_test_2 0 rfl rfl)
theorem dX9_test_49 : decode cX9_test 49 = .ok (.aload_n 0, 1) := dk_42 (dk_at dksX9_test_2 1 rfl rfl)
theorem dX9_test_50 : decode cX9_test 50 = .ok (.aload_n 0, 1) := dk_42 (dk_at dksX9_test_2 2 rfl rfl)
theorem dX9_test_51 : decode cX9_test 51 = .ok (.getfield 172, 3) := dk_180 0 172 (dk_at dksX9_test_2 3 rfl rfl)
theorem dX9_test_54 : decode cX9_test 54 = .ok (.invokevirtual 175, 3) := dk_182 0 175 (dk_at dksX9_test_2 6 rfl rfl)
theorem dX9_test_57 : decode cX9_test 57 = .ok (.bipush 91, 2) := dk_16 91 (dk_at dksX9_test_2 9 rfl rfl)
theorem dX9_test_59 : decode cX9_test 59 = .ok (.if_icmp .ne 19, 3) := dk_160 0 19 (dk_at dksX9_test_2 11 rfl rfl)
theorem dX9_test_62 : decode cX9_test 62 = .ok (.aload_n 0, 1) := dk_42 (dk_at dksX9_test_2 14 rfl rfl)
theorem dX9_test_63 : decode cX9_test 63 = .ok (.iconst 1, 1) := dk_4 (dk_at dksX9_test_2 15 rfl rfl)
theorem dX9_test_64 : decode cX9_test 64 = .ok (.invokevirtual 240, 3) := dk_182 0 240 (dk_at dksX9_test_2 16 rfl rfl)
theorem dX9_test_67 : decode cX9_test 67 = .ok (.aload_n 0, 1) := dk_42 (dk_at dksX9_test_2 19 rfl rfl)
theorem dX9_test_68 : decode cX9_test 68 = .ok (.invokevirtual 282, 3) := dk_182 1 26 (dk_at dksX9_test_2 20 rfl rfl)
theorem dX9_test_71 : decode cX9_test 71 = .ok (.aload_n 0, 1) := dk_42 (dk_at dksX9_test_2 23 rfl rfl)
theorem dX9_test_72 : decode cX9_test 72 = .ok (.bipush 93, 2) := dk_16 93 (dk_at dksX9_test_3 0 rfl rfl)
theorem dX9_test_74 : decode cX9_test 74 = .ok (.invokevirtual 270, 3) := dk_182 1 14 (dk_at dksX9_test_3 2 rfl rfl)
theorem dX9_test_77 : decode cX9_test 77 = .ok (.return_, 1) := dk_177 (dk_at dksX9_test_3 5 rfl rfl)
theorem dX9_test_78 : decode cX9_test 78 = .ok (.aload_n 0, 1) := dk_42 (dk_at dksX9_test_3 6 rfl rfl)
theorem dX9_test_79 : decode cX9_test 79 = .ok (.invokevirtual 267, 3) := dk_182 1 11 (dk_at dksX9_test_3 7 rfl rfl)
theorem dX9_test_82 : decode cX9_test 82 = .ok (.aload_n 0, 1) := dk_42 (dk_at dksX9_test_3 10 rfl rfl)
theorem dX9_test_83 : decode cX9_test 83 = .ok (.getfield 178, 3) := dk_180 0 178 (dk_at dksX9_test_3 11 rfl rfl)
theorem dX9_test_86 : decode cX9_test 86 = .ok (.ifCond .le 4, 3) := dk_158 0 4 (dk_at dksX9_test_3 14 rfl rfl)
theorem dX9_test_89 : decode cX9_test 89 = .ok (.return_, 1) := dk_177 (dk_at dksX9_test_3 17 rfl rfl)
theorem dX9_test_90 : decode cX9_test 90 = .ok (.aload_n 0, 1) := dk_42 (dk_at dksX9_test_3 18 rfl rfl)
theorem dX9_test_91 : decode cX9_test 91 = .ok (.invokevirtual 181, 3) := dk_182 0 181 (dk_at dksX9_test_3 19 rfl rfl)
theorem dX9_test_94 : decode cX9_test 94 = .ok (.aload_n 0, 1) := dk_42 (dk_at dksX9_test_3 22 rfl rfl)
theorem dX9_test_95 : decode cX9_test 95 = .ok (.aload_n 0, 1) := dk_42 (dk_at dksX9_test_3 23 rfl rfl)
theorem dX9_test_96 : decode cX9_test 96 = .ok (.getfield 172, 3) := dk_180 0 172 (dk_at dksX9_test_4 0 rfl rfl)
theorem dX9_test_99 : decode cX9_test 99 = .ok (.invokevirtual 175, 3) := dk_182 0 175 (dk_at dksX9_test_4 3 rfl rfl)
theorem dX9_test_102 : decode cX9_test 102 = .ok (.istore_n 1, 1) := dk_60 (dk_at dksX9_test_4 6 rfl rfl)
theorem dX9_test_103 : decode cX9_test 103 = .ok (.iload_n 1, 1) := dk_27 (dk_at dksX9_test_4 7 rfl rfl)
theorem dX9_test_104 : decode cX9_test 104 = .ok (.bipush 60, 2) := dk_16 60 (dk_at dksX9_test_4 8 rfl rfl)
theorem dX9_test_106 : decode cX9_test 106 = .ok (.if_icmp .eq 25, 3) := dk_159 0 25 (dk_at dksX9_test_4 10 rfl rfl)
theorem dX9_test_109 : decode cX9_test 109 = .ok (.iload_n 1, 1) := dk_27 (dk_at dksX9_test_4 13 rfl rfl)
theorem dX9_test_110 : decode cX9_test 110 = .ok (.bipush 62, 2) := dk_16 62 (dk_at dksX9_test_4 14 rfl rfl)
theorem dX9_test_112 : decode cX9_test 112 = .ok (.if_icmp .eq 19, 3) := dk_159 0 19 (dk_at dksX9_test_4 16 rfl rfl)
theorem dX9_test_115 : decode cX9_test 115 = .ok (.iload_n 1, 1) := dk_27 (dk_at dksX9_test_4 19 rfl rfl)
theorem dX9_test_116 : decode cX9_test 116 = .ok (.bipush 61, 2) := dk_16 61 (dk_at dksX9_test_4 20 rfl rfl)
theorem dX9_test_118 : decode cX9_test 118 = .ok (.if_icmp .eq 13, 3) := dk_159 0 13 (dk_at dksX9_test_5 0 rfl rfl)
theorem dX9_test_121 : decode cX9_test 121 = .ok (.aload_n 0, 1) := dk_42 (dk_at dksX9_test_5 3 rfl rfl)
theorem dX9_test_122 : decode cX9_test 122 = .ok (.iconst 1, 1) := dk_4 (dk_at dksX9_test_5 4 rfl rfl)
theorem dX9_test_123 : decode cX9_test 123 = .ok (.aload_n 0, 1) := dk_42 (dk_at dksX9_test_5 5 rfl rfl)
theorem dX9_test_124 : decode cX9_test 124 = .ok (.getfield 172, 3) := dk_180 0 172 (dk_at dksX9_test_5 6 rfl rfl)
theorem dX9_test_127 : decode cX9_test 127 = .ok (.invokevirtual 227, 3) := dk_182 0 227 (dk_at dksX9_test_5 9 rfl rfl)
theorem dX9_test_130 : decode cX9_test 130 = .ok (.return_, 1) := dk_177 (dk_at dksX9_test_5 12 rfl rfl)
theorem dX9_test_131 : decode cX9_test 131 = .ok (.aload_n 0, 1) := dk_42 (dk_at dksX9_test_5 13 rfl rfl)
theorem dX9_test_132 : decode cX9_test 132 = .ok (.dup, 1) := dk_89 (dk_at dksX9_test_5 14 rfl rfl)
theorem dX9_test_133 : decode cX9_test 133 = .ok (.getfield 172, 3) := dk_180 0 172 (dk_at dksX9_test_5 15 rfl rfl)
theorem dX9_test_136 : decode cX9_test 136 = .ok (.iconst 1, 1) := dk_4 (dk_at dksX9_test_5 18 rfl rfl)
theorem dX9_test_137 : decode cX9_test 137 = .ok (.iadd, 1) := dk_96 (dk_at dksX9_test_5 19 rfl rfl)
theorem dX9_test_138 : decode cX9_test 138 = .ok (.putfield 172, 3) := dk_181 0 172 (dk_at dksX9_test_5 20 rfl rfl)
theorem dX9_test_141 : decode cX9_test 141 = .ok (.aload_n 0, 1) := dk_42 (dk_at dksX9_test_5 23 rfl rfl)
theorem dX9_test_142 : decode cX9_test 142 = .ok (.invokevirtual 267, 3) := dk_182 1 11 (dk_at dksX9_test_6 0 rfl rfl)
theorem dX9_test_145 : decode cX9_test 145 = .ok (.aload_n 0, 1) := dk_42 (dk_at dksX9_test_6 3 rfl rfl)
theorem dX9_test_146 : decode cX9_test 146 = .ok (.iload_n 1, 1) := dk_27 (dk_at dksX9_test_6 4 rfl rfl)
theorem dX9_test_147 : decode cX9_test 147 = .ok (.bipush 60, 2) := dk_16 60 (dk_at dksX9_test_6 5 rfl rfl)
theorem dX9_test_149 : decode cX9_test 149 = .ok (.if_icmp .ne 8, 3) := dk_160 0 8 (dk_at dksX9_test_6 7 rfl rfl)
theorem dX9_test_152 : decode cX9_test 152 = .ok (.bipush 12, 2) := dk_16 12 (dk_at dksX9_test_6 10 rfl rfl)
theorem dX9_test_154 : decode cX9_test 154 = .ok (.goto 16, 3) := dk_167 0 16 (dk_at dksX9_test_6 12 rfl rfl)
theorem dX9_test_157 : decode cX9_test 157 = .ok (.iload_n 1, 1) := dk_27 (dk_at dksX9_test_6 15 rfl rfl)
theorem dX9_test_158 : decode cX9_test 158 = .ok (.bipush 62, 2) := dk_16 62 (dk_at dksX9_test_6 16 rfl rfl)
theorem dX9_test_160 : decode cX9_test 160 = .ok (.if_icmp .ne 8, 3) := dk_160 0 8 (dk_at dksX9_test_6 18 rfl rfl)
theorem dX9_test_163 : decode cX9_test 163 = .ok (.bipush 13, 2) := dk_16 13 (dk_at dksX9_test_6 21 rfl rfl)
theorem dX9_test_165 : decode cX9_test 165 = .ok (.goto 5, 3) := dk_167 0 5 (dk_at dksX9_test_7 0 rfl rfl)
theorem dX9_test_168 : decode cX9_test 168 = .ok (.bipush 14, 2) := dk_16 14 (dk_at dksX9_test_7 3 rfl rfl)
theorem dX9_test_170 : decode cX9_test 170 = .ok (.iconst 0, 1) := dk_3 (dk_at dksX9_test_7 5 rfl rfl)
theorem dX9_test_171 : decode cX9_test 171 = .ok (.invokevirtual 249, 3) := dk_182 0 249 (dk_at dksX9_test_7 6 rfl rfl)
theorem dX9_test_174 : decode cX9_test 174 = .ok (.return_, 1) := dk_177 (dk_at dksX9_test_7 9 rfl rfl)
def dkwX9_fault_0 : List UInt8 := [42, 3, 181, 0, 73, 42, 180, 0, 37, 172]
abbrev dktX9_fault_0 : List UInt8 := dkwX9_fault_0 ++ []
theorem dksX9_fault_0 : cX9_fault.data.toList.drop 0 = dktX9_fault_0 := by decide +kernel
theorem dX9_fault_0 : decode cX9_fault 0 = .ok (.aload_n 0, 1) := dk_42 (dk_at dksX9_fault_0 0 rfl rfl)
theorem dX9_fault_1 : decode cX9_fault 1 = .ok (.iconst 0, 1) := dk_3 (dk_at dksX9_fault_0 1 rfl rfl)
theorem dX9_fault_2 : decode cX9_fault 2 = .ok (.putfield 73, 3) := dk_181 0 73 (dk_at dksX9_fault_0 2 rfl rfl)
theorem dX9_fault_5 : decode cX9_fault 5 = .ok (.aload_n 0, 1) := dk_42 (dk_at dksX9_fault_0 5 rfl rfl)
theorem dX9_fault_6 : decode cX9_fault 6 = .ok (.getfield 37, 3) := dk_180 0 37 (dk_at dksX9_fault_0 6 rfl rfl)
theorem dX9_fault_9 : decode cX9_fault 9 = .ok (.ireturn, 1) := dk_172 (dk_at dksX9_fault_0 9 rfl rfl)
def dkwX9_means_3 : List UInt8 := [182, 1, 92, 172]
abbrev dktX9_means_3 : List UInt8 := dkwX9_means_3 ++ []
def dkwX9_means_2 : List UInt8 := [182, 0, 84, 153, 0, 5, 3, 172, 42, 27, 28, 156, 0, 7, 3, 167, 0, 9, 42, 180, 0, 16, 28, 46]
abbrev dktX9_means_2 : List UInt8 := dkwX9_means_2 ++ dktX9_means_3
def dkwX9_means_1 : List UInt8 := [4, 182, 0, 84, 154, 0, 26, 42, 27, 155, 0, 9, 27, 16, 8, 161, 0, 7, 4, 167, 0, 4, 3, 5]
abbrev dktX9_means_1 : List UInt8 := dkwX9_means_1 ++ dktX9_means_2
def dkwX9_means_0 : List UInt8 := [42, 3, 181, 0, 73, 42, 28, 2, 159, 0, 15, 42, 28, 182, 0, 80, 154, 0, 7, 4, 167, 0, 4, 3]
abbrev dktX9_means_0 : List UInt8 := dkwX9_means_0 ++ dktX9_means_1
theorem dksX9_means_0 : cX9_means.data.toList.drop 0 = dktX9_means_0 := by decide +kernel
theorem dksX9_means_1 : cX9_means.data.toList.drop 24 = dktX9_means_1 := dk_seg dksX9_means_0 24 rfl rfl
theorem dksX9_means_2 : cX9_means.data.toList.drop 48 = dktX9_means_2 := dk_seg dksX9_means_1 24 rfl rfl
theorem dksX9_means_3 : cX9_means.data.toList.drop 72 = dktX9_means_3 := dk_seg dksX9_means_2 24 rfl rfl
theorem dX9_means_0 : decode cX9_means 0 = .ok (.aload_n 0, 1) := dk_42 (dk_at dksX9_means_0 0 rfl rfl)
theorem dX9_means_1 : decode cX9_means 1 = .ok (.iconst 0, 1) := dk_3 (dk_at dksX9_means_0 1 rfl rfl)
theorem dX9_means_2 : decode cX9_means 2 = .ok (.putfield 73, 3) := dk_181 0 73 (dk_at dksX9_means_0 2 rfl rfl)
theorem dX9_means_5 : decode cX9_means 5 = .ok (.aload_n 0, 1) := dk_42 (dk_at dksX9_means_0 5 rfl rfl)
theorem dX9_means_6 : decode cX9_means 6 = .ok (.iload_n 2, 1) := dk_28 (dk_at dksX9_means_0 6 rfl rfl)
theorem dX9_means_7 : decode cX9_means 7 = .ok (.iconst (-1), 1) := dk_2 (dk_at dksX9_means_0 7 rfl rfl)
theorem dX9_means_8 : decode cX9_means 8 = .ok (.if_icmp .eq 15, 3) := dk_159 0 15 (dk_at dksX9_means_0 8 rfl rfl)
theorem dX9_means_11 : decode cX9_means 11 = .ok (.aload_n 0, 1) := dk_42 (dk_at dksX9_means_0 11 rfl rfl)
theorem dX9_means_12 : decode cX9_means 12 = .ok (.iload_n 2, 1) := dk_28 (dk_at dksX9_means_0 12 rfl rfl)
theorem dX9_means_13 : decode cX9_means 13 = .ok (.invokevirtual 80, 3) := dk_182 0 80 (dk_at dksX9_means_0 13 rfl rfl)
theorem dX9_means_16 : decode cX9_means 16 = .ok (.ifCond .ne 7, 3) := dk_154 0 7 (dk_at dksX9_means_0 16 rfl rfl)
theorem dX9_means_19 : decode cX9_means 19 = .ok (.iconst 1, 1) := dk_4 (dk_at dksX9_means_0 19 rfl rfl)
theorem dX9_means_20 : decode cX9_means 20 = .ok (.goto 4, 3) := dk_167 0 4 (dk_at dksX9_means_0 20 rfl rfl)
theorem dX9_means_23 : decode cX9_means 23 = .ok (.iconst 0, 1) := dk_3 (dk_at dksX9_means_0 23 rfl rfl)
theorem dX9_means_24 : decode cX9_means 24 = .ok (.iconst 1, 1) := dk_4 (dk_at dksX9_means_1 0 rfl rfl)
theorem dX9_means_25 : decode cX9_means 25 = .ok (.invokevirtual 84, 3) := dk_182 0 84 (dk_at dksX9_means_1 1 rfl rfl)
theorem dX9_means_28 : decode cX9_means 28 = .ok (.ifCond .ne 26, 3) := dk_154 0 26 (dk_at dksX9_means_1 4 rfl rfl)
theorem dX9_means_31 : decode cX9_means 31 = .ok (.aload_n 0, 1) := dk_42 (dk_at dksX9_means_1 7 rfl rfl)
theorem dX9_means_32 : decode cX9_means 32 = .ok (.iload_n 1, 1) := dk_27 (dk_at dksX9_means_1 8 rfl rfl)
theorem dX9_means_33 : decode cX9_means 33 = .ok (.ifCond .lt 9, 3) := dk_155 0 9 (dk_at dksX9_means_1 9 rfl rfl)
theorem dX9_means_36 : decode cX9_means 36 = .ok (.iload_n 1, 1) := dk_27 (dk_at dksX9_means_1 12 rfl rfl)
theorem dX9_means_37 : decode cX9_means 37 = .ok (.bipush 8, 2) := dk_16 8 (dk_at dksX9_means_1 13 rfl rfl)
theorem dX9_means_39 : decode cX9_means 39 = .ok (.if_icmp .lt 7, 3) := dk_161 0 7 (dk_at dksX9_means_1 15 rfl rfl)
theorem dX9_means_42 : decode cX9_means 42 = .ok (.iconst 1, 1) := dk_4 (dk_at dksX9_means_1 18 rfl rfl)
theorem dX9_means_43 : decode cX9_means 43 = .ok (.goto 4, 3) := dk_167 0 4 (dk_at dksX9_means_1 19 rfl rfl)
theorem dX9_means_46 : decode cX9_means 46 = .ok (.iconst 0, 1) := dk_3 (dk_at dksX9_means_1 22 rfl rfl)
theorem dX9_means_47 : decode cX9_means 47 = .ok (.iconst 2, 1) := dk_5 (dk_at dksX9_means_1 23 rfl rfl)
theorem dX9_means_48 : decode cX9_means 48 = .ok (.invokevirtual 84, 3) := dk_182 0 84 (dk_at dksX9_means_2 0 rfl rfl)
theorem dX9_means_51 : decode cX9_means 51 = .ok (.ifCond .eq 5, 3) := dk_153 0 5 (dk_at dksX9_means_2 3 rfl rfl)
theorem dX9_means_54 : decode cX9_means 54 = .ok (.iconst 0, 1) := dk_3 (dk_at dksX9_means_2 6 rfl rfl)
theorem dX9_means_55 : decode cX9_means 55 = .ok (.ireturn, 1) := dk_172 (dk_at dksX9_means_2 7 rfl rfl)
theorem dX9_means_56 : decode cX9_means 56 = .ok (.aload_n 0, 1) := dk_42 (dk_at dksX9_means_2 8 rfl rfl)
theorem dX9_means_57 : decode cX9_means 57 = .ok (.iload_n 1, 1) := dk_27 (dk_at dksX9_means_2 9 rfl rfl)
theorem dX9_means_58 : decode cX9_means 58 = .ok (.iload_n 2, 1) := dk_28 (dk_at dksX9_means_2 10 rfl rfl)
theorem dX9_means_59 : decode cX9_means 59 = .ok (.ifCond .ge 7, 3) := dk_156 0 7 (dk_at dksX9_means_2 11 rfl rfl)
theorem dX9_means_62 : decode cX9_means 62 = .ok (.iconst 0, 1) := dk_3 (dk_at dksX9_means_2 14 rfl rfl)
theorem dX9_means_63 : decode cX9_means 63 = .ok (.goto 9, 3) := dk_167 0 9 (dk_at dksX9_means_2 15 rfl rfl)
theorem dX9_means_66 : decode cX9_means 66 = .ok (.aload_n 0, 1) := dk_42 (dk_at dksX9_means_2 18 rfl rfl)
theorem dX9_means_67 : decode cX9_means 67 = .ok (.getfield 16, 3) := dk_180 0 16 (dk_at dksX9_means_2 19 rfl rfl)
theorem dX9_means_70 : decode cX9_means 70 = .ok (.iload_n 2, 1) := dk_28 (dk_at dksX9_means_2 22 rfl rfl)
theorem dX9_means_71 : decode cX9_means 71 = .ok (.iaload, 1) := dk_46 (dk_at dksX9_means_2 23 rfl rfl)
theorem dX9_means_72 : decode cX9_means 72 = .ok (.invokevirtual 348, 3) := dk_182 1 92 (dk_at dksX9_means_3 0 rfl rfl)
theorem dX9_means_75 : decode cX9_means 75 = .ok (.ireturn, 1) := dk_172 (dk_at dksX9_means_3 3 rfl rfl)
def dkwX9_meaning_3 : List UInt8 := [182, 1, 79, 42, 182, 1, 82, 28, 182, 1, 85, 184, 1, 89, 172]
abbrev dktX9_meaning_3 : List UInt8 := dkwX9_meaning_3 ++ []
def dkwX9_meaning_2 : List UInt8 := [156, 0, 10, 27, 184, 1, 76, 167, 0, 30, 27, 42, 29, 27, 42, 180, 0, 9, 17, 8, 68, 46, 42]
abbrev dktX9_meaning_2 : List UInt8 := dkwX9_meaning_2 ++ dktX9_meaning_3
def dkwX9_meaning_1 : List UInt8 := [180, 0, 58, 155, 0, 8, 42, 180, 0, 58, 172, 42, 42, 182, 1, 70, 27, 182, 1, 73, 62, 29]
abbrev dktX9_meaning_1 : List UInt8 := dkwX9_meaning_1 ++ dktX9_meaning_2
def dkwX9_meaning_0 : List UInt8 := [27, 154, 0, 15, 42, 180, 1, 67, 158, 0, 8, 42, 180, 1, 67, 172, 27, 4, 160, 0, 15, 42]
abbrev dktX9_meaning_0 : List UInt8 := dkwX9_meaning_0 ++ dktX9_meaning_1
theorem dksX9_meaning_0 : cX9_meaning.data.toList.drop 0 = dktX9_meaning_0 := by decide +kernel
theorem dksX9_meaning_1 : cX9_meaning.data.toList.drop 22 = dktX9_meaning_1 := dk_seg dksX9_meaning_0 22 rfl rfl
theorem dksX9_meaning_2 : cX9_meaning.data.toList.drop 44 = dktX9_meaning_2 := dk_seg dksX9_meaning_1 22 rfl rfl
theorem dksX9_meaning_3 : cX9_meaning.data.toList.drop 67 = dktX9_meaning_3 := dk_seg dksX9_meaning_2 23 rfl rfl
theorem dX9_meaning_0 : decode cX9_meaning 0 = .ok (.iload_n 1, 1) := dk_27 (dk_at dksX9_meaning_0 0 rfl rfl)
theorem dX9_meaning_1 : decode cX9_meaning 1 = .ok (.ifCond .ne 15, 3) := dk_154 0 15 (dk_at dksX9_meaning_0 1 rfl rfl)
theorem dX9_meaning_4 : decode cX9_meaning 4 = .ok (.aload_n 0, 1) := dk_42 (dk_at dksX9_meaning_0 4 rfl rfl)
theorem dX9_meaning_5 : decode cX9_meaning 5 = .ok (.getfield 323, 3) := dk_180 1 67 (dk_at dksX9_meaning_0 5 rfl rfl)
theorem dX9_meaning_8 : decode cX9_meaning 8 = .ok (.ifCond .le 8, 3) := dk_158 0 8 (dk_at dksX9_meaning_0 8 rfl rfl)
theorem dX9_meaning_11 : decode cX9_meaning 11 = .ok (.aload_n 0, 1) := dk_42 (dk_at dksX9_meaning_0 11 rfl rfl)
theorem dX9_meaning_12 : decode cX9_meaning 12 = .ok (.getfield 323, 3) := dk_180 1 67 (dk_at dksX9_meaning_0 12 rfl rfl)
theorem dX9_meaning_15 : decode cX9_meaning 15 = .ok (.ireturn, 1) := dk_172 (dk_at dksX9_meaning_0 15 rfl rfl)
theorem dX9_meaning_16 : decode cX9_meaning 16 = .ok (.iload_n 1, 1) := dk_27 (dk_at dksX9_meaning_0 16 rfl rfl)
theorem dX9_meaning_17 : decode cX9_meaning 17 = .ok (.iconst 1, 1) := dk_4 (dk_at dksX9_meaning_0 17 rfl rfl)
theorem dX9_meaning_18 : decode cX9_meaning 18 = .ok (.if_icmp .ne 15, 3) := dk_160 0 15 (dk_at dksX9_meaning_0 18 rfl rfl)
theorem dX9_meaning_21 : decode cX9_meaning 21 = .ok (.aload_n 0, 1) := dk_42 (dk_at dksX9_meaning_0 21 rfl rfl)
theorem dX9_meaning_22 : decode cX9_meaning 22 = .ok (.getfield 58, 3) := dk_180 0 58 (dk_at dksX9_meaning_1 0 rfl rfl)
theorem dX9_meaning_25 : decode cX9_meaning 25 = .ok (.ifCond .lt 8, 3) := dk_155 0 8 (dk_at dksX9_meaning_1 3 rfl rfl)
theorem dX9_meaning_28 : decode cX9_meaning 28 = .ok (.aload_n 0, 1) := dk_42 (dk_at dksX9_meaning_1 6 rfl rfl)
theorem dX9_meaning_29 : decode cX9_meaning 29 = .ok (.getfield 58, 3) := dk_180 0 58 (dk_at dksX9_meaning_1 7 rfl rfl)
theorem dX9_meaning_32 : decode cX9_meaning 32 = .ok (.ireturn, 1) := dk_172 (dk_at dksX9_meaning_1 10 rfl rfl)
theorem dX9_meaning_33 : decode cX9_meaning 33 = .ok (.aload_n 0, 1) := dk_42 (dk_at dksX9_meaning_1 11 rfl rfl)
theorem dX9_meaning_34 : decode cX9_meaning 34 = .ok (.aload_n 0, 1) := dk_42 (dk_at dksX9_meaning_1 12 rfl rfl)
theorem dX9_meaning_35 : decode cX9_meaning 35 = .ok (.invokevirtual 326, 3) := dk_182 1 70 (dk_at dksX9_meaning_1 13 rfl rfl)
theorem dX9_meaning_38 : decode cX9_meaning 38 = .ok (.iload_n 1, 1) := dk_27 (dk_at dksX9_meaning_1 16 rfl rfl)
theorem dX9_meaning_39 : decode cX9_meaning 39 = .ok (.invokevirtual 329, 3) := dk_182 1 73 (dk_at dksX9_meaning_1 17 rfl rfl)
theorem dX9_meaning_42 : decode cX9_meaning 42 = .ok (.istore_n 3, 1) := dk_62 (dk_at dksX9_meaning_1 20 rfl rfl)
theorem dX9_meaning_43 : decode cX9_meaning 43 = .ok (.iload_n 3, 1) := dk_29 (dk_at dksX9_meaning_1 21 rfl rfl)
theorem dX9_meaning_44 : decode cX9_meaning 44 = .ok (.ifCond .ge 10, 3) := dk_156 0 10 (dk_at dksX9_meaning_2 0 rfl rfl)
theorem dX9_meaning_47 : decode cX9_meaning 47 = .ok (.iload_n 1, 1) := dk_27 (dk_at dksX9_meaning_2 3 rfl rfl)
theorem dX9_meaning_48 : decode cX9_meaning 48 = .ok (.invokestatic 332, 3) := dk_184 1 76 (dk_at dksX9_meaning_2 4 rfl rfl)
theorem dX9_meaning_51 : decode cX9_meaning 51 = .ok (.goto 30, 3) := dk_167 0 30 (dk_at dksX9_meaning_2 7 rfl rfl)
theorem dX9_meaning_54 : decode cX9_meaning 54 = .ok (.iload_n 1, 1) := dk_27 (dk_at dksX9_meaning_2 10 rfl rfl)
theorem dX9_meaning_55 : decode cX9_meaning 55 = .ok (.aload_n 0, 1) := dk_42 (dk_at dksX9_meaning_2 11 rfl rfl)
theorem dX9_meaning_56 : decode cX9_meaning 56 = .ok (.iload_n 3, 1) := dk_29 (dk_at dksX9_meaning_2 12 rfl rfl)
theorem dX9_meaning_57 : decode cX9_meaning 57 = .ok (.iload_n 1, 1) := dk_27 (dk_at dksX9_meaning_2 13 rfl rfl)
theorem dX9_meaning_58 : decode cX9_meaning 58 = .ok (.aload_n 0, 1) := dk_42 (dk_at dksX9_meaning_2 14 rfl rfl)
theorem dX9_meaning_59 : decode cX9_meaning 59 = .ok (.getfield 9, 3) := dk_180 0 9 (dk_at dksX9_meaning_2 15 rfl rfl)
theorem dX9_meaning_62 : decode cX9_meaning 62 = .ok (.sipush 2116, 3) := dk_17 8 68 (dk_at dksX9_meaning_2 18 rfl rfl)
theorem dX9_meaning_65 : decode cX9_meaning 65 = .ok (.iaload, 1) := dk_46 (dk_at dksX9_meaning_2 21 rfl rfl)
theorem dX9_meaning_66 : decode cX9_meaning 66 = .ok (.aload_n 0, 1) := dk_42 (dk_at dksX9_meaning_2 22 rfl rfl)
theorem dX9_meaning_67 : decode cX9_meaning 67 = .ok (.invokevirtual 335, 3) := dk_182 1 79 (dk_at dksX9_meaning_3 0 rfl rfl)
theorem dX9_meaning_70 : decode cX9_meaning 70 = .ok (.aload_n 0, 1) := dk_42 (dk_at dksX9_meaning_3 3 rfl rfl)
theorem dX9_meaning_71 : decode cX9_meaning 71 = .ok (.invokevirtual 338, 3) := dk_182 1 82 (dk_at dksX9_meaning_3 4 rfl rfl)
theorem dX9_meaning_74 : decode cX9_meaning 74 = .ok (.iload_n 2, 1) := dk_28 (dk_at dksX9_meaning_3 7 rfl rfl)
theorem dX9_meaning_75 : decode cX9_meaning 75 = .ok (.invokevirtual 341, 3) := dk_182 1 85 (dk_at dksX9_meaning_3 8 rfl rfl)
theorem dX9_meaning_78 : decode cX9_meaning 78 = .ok (.invokestatic 345, 3) := dk_184 1 89 (dk_at dksX9_meaning_3 11 rfl rfl)
theorem dX9_meaning_81 : decode cX9_meaning 81 = .ok (.ireturn, 1) := dk_172 (dk_at dksX9_meaning_3 14 rfl rfl)
def dkwX9_forces_1 : List UInt8 := [184, 1, 64, 153, 0, 9, 4, 28, 120, 167, 0, 4, 3, 128, 60, 132, 2, 1, 167, 255, 219, 27, 172]
abbrev dktX9_forces_1 : List UInt8 := dkwX9_forces_1 ++ []
def dkwX9_forces_0 : List UInt8 := [3, 60, 3, 61, 28, 42, 180, 0, 9, 17, 8, 77, 46, 162, 0, 31, 27, 42, 28, 3, 182, 1, 61]
abbrev dktX9_forces_0 : List UInt8 := dkwX9_forces_0 ++ dktX9_forces_1
theorem dksX9_forces_0 : cX9_forces.data.toList.drop 0 = dktX9_forces_0 := by decide +kernel
theorem dksX9_forces_1 : cX9_forces.data.toList.drop 23 = dktX9_forces_1 := dk_seg dksX9_forces_0 23 rfl rfl
theorem dX9_forces_0 : decode cX9_forces 0 = .ok (.iconst 0, 1) := dk_3 (dk_at dksX9_forces_0 0 rfl rfl)
theorem dX9_forces_1 : decode cX9_forces 1 = .ok (.istore_n 1, 1) := dk_60 (dk_at dksX9_forces_0 1 rfl rfl)
theorem dX9_forces_2 : decode cX9_forces 2 = .ok (.iconst 0, 1) := dk_3 (dk_at dksX9_forces_0 2 rfl rfl)
theorem dX9_forces_3 : decode cX9_forces 3 = .ok (.istore_n 2, 1) := dk_61 (dk_at dksX9_forces_0 3 rfl rfl)
theorem dX9_forces_4 : decode cX9_forces 4 = .ok (.iload_n 2, 1) := dk_28 (dk_at dksX9_forces_0 4 rfl rfl)
theorem dX9_forces_5 : decode cX9_forces 5 = .ok (.aload_n 0, 1) := dk_42 (dk_at dksX9_forces_0 5 rfl rfl)
theorem dX9_forces_6 : decode cX9_forces 6 = .ok (.getfield 9, 3) := dk_180 0 9 (dk_at dksX9_forces_0 6 rfl rfl)
theorem dX9_forces_9 : decode cX9_forces 9 = .ok (.sipush 2125, 3) := dk_17 8 77 (dk_at dksX9_forces_0 9 rfl rfl)
theorem dX9_forces_12 : decode cX9_forces 12 = .ok (.iaload, 1) := dk_46 (dk_at dksX9_forces_0 12 rfl rfl)
theorem dX9_forces_13 : decode cX9_forces 13 = .ok (.if_icmp .ge 31, 3) := dk_162 0 31 (dk_at dksX9_forces_0 13 rfl rfl)
theorem dX9_forces_16 : decode cX9_forces 16 = .ok (.iload_n 1, 1) := dk_27 (dk_at dksX9_forces_0 16 rfl rfl)
theorem dX9_forces_17 : decode cX9_forces 17 = .ok (.aload_n 0, 1) := dk_42 (dk_at dksX9_forces_0 17 rfl rfl)
theorem dX9_forces_18 : decode cX9_forces 18 = .ok (.iload_n 2, 1) := dk_28 (dk_at dksX9_forces_0 18 rfl rfl)
theorem dX9_forces_19 : decode cX9_forces 19 = .ok (.iconst 0, 1) := dk_3 (dk_at dksX9_forces_0 19 rfl rfl)
theorem dX9_forces_20 : decode cX9_forces 20 = .ok (.invokevirtual 317, 3) := dk_182 1 61 (dk_at dksX9_forces_0 20 rfl rfl)
theorem dX9_forces_23 : decode cX9_forces 23 = .ok (.invokestatic 320, 3) := dk_184 1 64 (dk_at dksX9_forces_1 0 rfl rfl)
theorem dX9_forces_26 : decode cX9_forces 26 = .ok (.ifCond .eq 9, 3) := dk_153 0 9 (dk_at dksX9_forces_1 3 rfl rfl)
theorem dX9_forces_29 : decode cX9_forces 29 = .ok (.iconst 1, 1) := dk_4 (dk_at dksX9_forces_1 6 rfl rfl)
theorem dX9_forces_30 : decode cX9_forces 30 = .ok (.iload_n 2, 1) := dk_28 (dk_at dksX9_forces_1 7 rfl rfl)
theorem dX9_forces_31 : decode cX9_forces 31 = .ok (.ishl, 1) := dk_120 (dk_at dksX9_forces_1 8 rfl rfl)
theorem dX9_forces_32 : decode cX9_forces 32 = .ok (.goto 4, 3) := dk_167 0 4 (dk_at dksX9_forces_1 9 rfl rfl)
theorem dX9_forces_35 : decode cX9_forces 35 = .ok (.iconst 0, 1) := dk_3 (dk_at dksX9_forces_1 12 rfl rfl)
theorem dX9_forces_36 : decode cX9_forces 36 = .ok (.ior, 1) := dk_128 (dk_at dksX9_forces_1 13 rfl rfl)
theorem dX9_forces_37 : decode cX9_forces 37 = .ok (.istore_n 1, 1) := dk_60 (dk_at dksX9_forces_1 14 rfl rfl)
theorem dX9_forces_38 : decode cX9_forces 38 = .ok (.iinc 2 1, 3) := dk_132 2 1 (dk_at dksX9_forces_1 15 rfl rfl)
theorem dX9_forces_41 : decode cX9_forces 41 = .ok (.goto (-37), 3) := dk_167 255 219 (dk_at dksX9_forces_1 18 rfl rfl)
theorem dX9_forces_44 : decode cX9_forces 44 = .ok (.iload_n 1, 1) := dk_27 (dk_at dksX9_forces_1 21 rfl rfl)
theorem dX9_forces_45 : decode cX9_forces 45 = .ok (.ireturn, 1) := dk_172 (dk_at dksX9_forces_1 22 rfl rfl)
def dkwX9_ofLaw_0 : List UInt8 := [42, 180, 0, 9, 17, 6, 32, 16, 6, 27, 104, 96, 28, 96, 46, 172]
abbrev dktX9_ofLaw_0 : List UInt8 := dkwX9_ofLaw_0 ++ []
theorem dksX9_ofLaw_0 : cX9_ofLaw.data.toList.drop 0 = dktX9_ofLaw_0 := by decide +kernel
theorem dX9_ofLaw_0 : decode cX9_ofLaw 0 = .ok (.aload_n 0, 1) := dk_42 (dk_at dksX9_ofLaw_0 0 rfl rfl)
theorem dX9_ofLaw_1 : decode cX9_ofLaw 1 = .ok (.getfield 9, 3) := dk_180 0 9 (dk_at dksX9_ofLaw_0 1 rfl rfl)
theorem dX9_ofLaw_4 : decode cX9_ofLaw 4 = .ok (.sipush 1568, 3) := dk_17 6 32 (dk_at dksX9_ofLaw_0 4 rfl rfl)
theorem dX9_ofLaw_7 : decode cX9_ofLaw 7 = .ok (.bipush 6, 2) := dk_16 6 (dk_at dksX9_ofLaw_0 7 rfl rfl)
theorem dX9_ofLaw_9 : decode cX9_ofLaw 9 = .ok (.iload_n 1, 1) := dk_27 (dk_at dksX9_ofLaw_0 9 rfl rfl)
theorem dX9_ofLaw_10 : decode cX9_ofLaw 10 = .ok (.imul, 1) := dk_104 (dk_at dksX9_ofLaw_0 10 rfl rfl)
theorem dX9_ofLaw_11 : decode cX9_ofLaw 11 = .ok (.iadd, 1) := dk_96 (dk_at dksX9_ofLaw_0 11 rfl rfl)
theorem dX9_ofLaw_12 : decode cX9_ofLaw 12 = .ok (.iload_n 2, 1) := dk_28 (dk_at dksX9_ofLaw_0 12 rfl rfl)
theorem dX9_ofLaw_13 : decode cX9_ofLaw 13 = .ok (.iadd, 1) := dk_96 (dk_at dksX9_ofLaw_0 13 rfl rfl)
theorem dX9_ofLaw_14 : decode cX9_ofLaw 14 = .ok (.iaload, 1) := dk_46 (dk_at dksX9_ofLaw_0 14 rfl rfl)
theorem dX9_ofLaw_15 : decode cX9_ofLaw 15 = .ok (.ireturn, 1) := dk_172 (dk_at dksX9_ofLaw_0 15 rfl rfl)
def dkwX9_isForce_0 : List UInt8 := [26, 5, 159, 0, 8, 26, 6, 160, 0, 7, 4, 167, 0, 4, 3, 172]
abbrev dktX9_isForce_0 : List UInt8 := dkwX9_isForce_0 ++ []
theorem dksX9_isForce_0 : cX9_isForce.data.toList.drop 0 = dktX9_isForce_0 := by decide +kernel
theorem dX9_isForce_0 : decode cX9_isForce 0 = .ok (.iload_n 0, 1) := dk_26 (dk_at dksX9_isForce_0 0 rfl rfl)
theorem dX9_isForce_1 : decode cX9_isForce 1 = .ok (.iconst 2, 1) := dk_5 (dk_at dksX9_isForce_0 1 rfl rfl)
theorem dX9_isForce_2 : decode cX9_isForce 2 = .ok (.if_icmp .eq 8, 3) := dk_159 0 8 (dk_at dksX9_isForce_0 2 rfl rfl)
theorem dX9_isForce_5 : decode cX9_isForce 5 = .ok (.iload_n 0, 1) := dk_26 (dk_at dksX9_isForce_0 5 rfl rfl)
theorem dX9_isForce_6 : decode cX9_isForce 6 = .ok (.iconst 3, 1) := dk_6 (dk_at dksX9_isForce_0 6 rfl rfl)
theorem dX9_isForce_7 : decode cX9_isForce 7 = .ok (.if_icmp .ne 7, 3) := dk_160 0 7 (dk_at dksX9_isForce_0 7 rfl rfl)
theorem dX9_isForce_10 : decode cX9_isForce 10 = .ok (.iconst 1, 1) := dk_4 (dk_at dksX9_isForce_0 10 rfl rfl)
theorem dX9_isForce_11 : decode cX9_isForce 11 = .ok (.goto 4, 3) := dk_167 0 4 (dk_at dksX9_isForce_0 11 rfl rfl)
theorem dX9_isForce_14 : decode cX9_isForce 14 = .ok (.iconst 0, 1) := dk_3 (dk_at dksX9_isForce_0 14 rfl rfl)
theorem dX9_isForce_15 : decode cX9_isForce 15 = .ok (.ireturn, 1) := dk_172 (dk_at dksX9_isForce_0 15 rfl rfl)
def dkwX9_teller_1 : List UInt8 := [28, 96, 46, 155, 0, 5, 29, 172, 132, 3, 255, 167, 255, 224, 2, 172]
abbrev dktX9_teller_1 : List UInt8 := dkwX9_teller_1 ++ []
def dkwX9_teller_0 : List UInt8 := [16, 11, 62, 29, 155, 0, 34, 27, 29, 122, 4, 126, 4, 160, 0, 19, 42, 180, 0, 46, 16, 8, 29, 104]
abbrev dktX9_teller_0 : List UInt8 := dkwX9_teller_0 ++ dktX9_teller_1
theorem dksX9_teller_0 : cX9_teller.data.toList.drop 0 = dktX9_teller_0 := by decide +kernel
theorem dksX9_teller_1 : cX9_teller.data.toList.drop 24 = dktX9_teller_1 := dk_seg dksX9_teller_0 24 rfl rfl
theorem dX9_teller_0 : decode cX9_teller 0 = .ok (.bipush 11, 2) := dk_16 11 (dk_at dksX9_teller_0 0 rfl rfl)
theorem dX9_teller_2 : decode cX9_teller 2 = .ok (.istore_n 3, 1) := dk_62 (dk_at dksX9_teller_0 2 rfl rfl)
theorem dX9_teller_3 : decode cX9_teller 3 = .ok (.iload_n 3, 1) := dk_29 (dk_at dksX9_teller_0 3 rfl rfl)
theorem dX9_teller_4 : decode cX9_teller 4 = .ok (.ifCond .lt 34, 3) := dk_155 0 34 (dk_at dksX9_teller_0 4 rfl rfl)
theorem dX9_teller_7 : decode cX9_teller 7 = .ok (.iload_n 1, 1) := dk_27 (dk_at dksX9_teller_0 7 rfl rfl)
theorem dX9_teller_8 : decode cX9_teller 8 = .ok (.iload_n 3, 1) := dk_29 (dk_at dksX9_teller_0 8 rfl rfl)
theorem dX9_teller_9 : decode cX9_teller 9 = .ok (.ishr, 1) := dk_122 (dk_at dksX9_teller_0 9 rfl rfl)
theorem dX9_teller_10 : decode cX9_teller 10 = .ok (.iconst 1, 1) := dk_4 (dk_at dksX9_teller_0 10 rfl rfl)
theorem dX9_teller_11 : decode cX9_teller 11 = .ok (.iand, 1) := dk_126 (dk_at dksX9_teller_0 11 rfl rfl)
theorem dX9_teller_12 : decode cX9_teller 12 = .ok (.iconst 1, 1) := dk_4 (dk_at dksX9_teller_0 12 rfl rfl)
theorem dX9_teller_13 : decode cX9_teller 13 = .ok (.if_icmp .ne 19, 3) := dk_160 0 19 (dk_at dksX9_teller_0 13 rfl rfl)
theorem dX9_teller_16 : decode cX9_teller 16 = .ok (.aload_n 0, 1) := dk_42 (dk_at dksX9_teller_0 16 rfl rfl)
theorem dX9_teller_17 : decode cX9_teller 17 = .ok (.getfield 46, 3) := dk_180 0 46 (dk_at dksX9_teller_0 17 rfl rfl)
theorem dX9_teller_20 : decode cX9_teller 20 = .ok (.bipush 8, 2) := dk_16 8 (dk_at dksX9_teller_0 20 rfl rfl)
theorem dX9_teller_22 : decode cX9_teller 22 = .ok (.iload_n 3, 1) := dk_29 (dk_at dksX9_teller_0 22 rfl rfl)
theorem dX9_teller_23 : decode cX9_teller 23 = .ok (.imul, 1) := dk_104 (dk_at dksX9_teller_0 23 rfl rfl)
theorem dX9_teller_24 : decode cX9_teller 24 = .ok (.iload_n 2, 1) := dk_28 (dk_at dksX9_teller_1 0 rfl rfl)
theorem dX9_teller_25 : decode cX9_teller 25 = .ok (.iadd, 1) := dk_96 (dk_at dksX9_teller_1 1 rfl rfl)
theorem dX9_teller_26 : decode cX9_teller 26 = .ok (.iaload, 1) := dk_46 (dk_at dksX9_teller_1 2 rfl rfl)
theorem dX9_teller_27 : decode cX9_teller 27 = .ok (.ifCond .lt 5, 3) := dk_155 0 5 (dk_at dksX9_teller_1 3 rfl rfl)
theorem dX9_teller_30 : decode cX9_teller 30 = .ok (.iload_n 3, 1) := dk_29 (dk_at dksX9_teller_1 6 rfl rfl)
theorem dX9_teller_31 : decode cX9_teller 31 = .ok (.ireturn, 1) := dk_172 (dk_at dksX9_teller_1 7 rfl rfl)
theorem dX9_teller_32 : decode cX9_teller 32 = .ok (.iinc 3 (-1), 3) := dk_132 3 255 (dk_at dksX9_teller_1 8 rfl rfl)
theorem dX9_teller_35 : decode cX9_teller 35 = .ok (.goto (-32), 3) := dk_167 255 224 (dk_at dksX9_teller_1 11 rfl rfl)
theorem dX9_teller_38 : decode cX9_teller 38 = .ok (.iconst (-1), 1) := dk_2 (dk_at dksX9_teller_1 14 rfl rfl)
theorem dX9_teller_39 : decode cX9_teller 39 = .ok (.ireturn, 1) := dk_172 (dk_at dksX9_teller_1 15 rfl rfl)
def dkwX9_without_2 : List UInt8 := [16, 20, 172, 16, 50, 172, 5, 172, 8, 172, 4, 172, 3, 172, 7, 172]
abbrev dktX9_without_2 : List UInt8 := dkwX9_without_2 ++ []
def dkwX9_without_1 : List UInt8 := [170, 0, 0, 0, 0, 0, 61, 0, 0, 0, 0, 0, 0, 0, 7, 0, 0, 0, 47, 0, 0, 0, 50, 0, 0, 0, 53, 0, 0, 0, 55, 0, 0, 0, 57, 0, 0, 0, 59, 0, 0, 0, 61, 0, 0, 0, 57]
abbrev dktX9_without_1 : List UInt8 := dkwX9_without_1 ++ dktX9_without_2
def dkwX9_without_0 : List UInt8 := [26]
abbrev dktX9_without_0 : List UInt8 := dkwX9_without_0 ++ dktX9_without_1
theorem dksX9_without_0 : cX9_without.data.toList.drop 0 = dktX9_without_0 := by decide +kernel
theorem dksX9_without_1 : cX9_without.data.toList.drop 1 = dktX9_without_1 := dk_seg dksX9_without_0 1 rfl rfl
theorem dksX9_without_2 : cX9_without.data.toList.drop 48 = dktX9_without_2 := dk_seg dksX9_without_1 47 rfl rfl
theorem dX9_without_0 : decode cX9_without 0 = .ok (.iload_n 0, 1) := dk_26 (dk_at dksX9_without_0 0 rfl rfl)
theorem dX9_without_1 : decode cX9_without 1 = .ok (.tableswitch 61 0 7 #[47, 50, 53, 55, 57, 59, 61, 57], 47) := by decide +kernel
theorem dX9_without_48 : decode cX9_without 48 = .ok (.bipush 20, 2) := dk_16 20 (dk_at dksX9_without_2 0 rfl rfl)
theorem dX9_without_50 : decode cX9_without 50 = .ok (.ireturn, 1) := dk_172 (dk_at dksX9_without_2 2 rfl rfl)
theorem dX9_without_51 : decode cX9_without 51 = .ok (.bipush 50, 2) := dk_16 50 (dk_at dksX9_without_2 3 rfl rfl)
theorem dX9_without_53 : decode cX9_without 53 = .ok (.ireturn, 1) := dk_172 (dk_at dksX9_without_2 5 rfl rfl)
theorem dX9_without_54 : decode cX9_without 54 = .ok (.iconst 2, 1) := dk_5 (dk_at dksX9_without_2 6 rfl rfl)
theorem dX9_without_55 : decode cX9_without 55 = .ok (.ireturn, 1) := dk_172 (dk_at dksX9_without_2 7 rfl rfl)
theorem dX9_without_56 : decode cX9_without 56 = .ok (.iconst 5, 1) := dk_8 (dk_at dksX9_without_2 8 rfl rfl)
theorem dX9_without_57 : decode cX9_without 57 = .ok (.ireturn, 1) := dk_172 (dk_at dksX9_without_2 9 rfl rfl)
theorem dX9_without_58 : decode cX9_without 58 = .ok (.iconst 1, 1) := dk_4 (dk_at dksX9_without_2 10 rfl rfl)
theorem dX9_without_59 : decode cX9_without 59 = .ok (.ireturn, 1) := dk_172 (dk_at dksX9_without_2 11 rfl rfl)
theorem dX9_without_60 : decode cX9_without 60 = .ok (.iconst 0, 1) := dk_3 (dk_at dksX9_without_2 12 rfl rfl)
theorem dX9_without_61 : decode cX9_without 61 = .ok (.ireturn, 1) := dk_172 (dk_at dksX9_without_2 13 rfl rfl)
theorem dX9_without_62 : decode cX9_without 62 = .ok (.iconst 4, 1) := dk_7 (dk_at dksX9_without_2 14 rfl rfl)
theorem dX9_without_63 : decode cX9_without 63 = .ok (.ireturn, 1) := dk_172 (dk_at dksX9_without_2 15 rfl rfl)
def dkwX9_farms_1 : List UInt8 := [167, 0, 4, 3, 96, 60, 132, 2, 1, 167, 255, 227, 27, 172]
abbrev dktX9_farms_1 : List UInt8 := dkwX9_farms_1 ++ []
def dkwX9_farms_0 : List UInt8 := [3, 60, 3, 61, 28, 16, 96, 162, 0, 29, 27, 42, 28, 3, 182, 0, 88, 184, 0, 107, 153, 0, 7, 4]
abbrev dktX9_farms_0 : List UInt8 := dkwX9_farms_0 ++ dktX9_farms_1
theorem dksX9_farms_0 : cX9_farms.data.toList.drop 0 = dktX9_farms_0 := by decide +kernel
theorem dksX9_farms_1 : cX9_farms.data.toList.drop 24 = dktX9_farms_1 := dk_seg dksX9_farms_0 24 rfl rfl
theorem dX9_farms_0 : decode cX9_farms 0 = .ok (.iconst 0, 1) := dk_3 (dk_at dksX9_farms_0 0 rfl rfl)
theorem dX9_farms_1 : decode cX9_farms 1 = .ok (.istore_n 1, 1) := dk_60 (dk_at dksX9_farms_0 1 rfl rfl)
theorem dX9_farms_2 : decode cX9_farms 2 = .ok (.iconst 0, 1) := dk_3 (dk_at dksX9_farms_0 2 rfl rfl)
theorem dX9_farms_3 : decode cX9_farms 3 = .ok (.istore_n 2, 1) := dk_61 (dk_at dksX9_farms_0 3 rfl rfl)
theorem dX9_farms_4 : decode cX9_farms 4 = .ok (.iload_n 2, 1) := dk_28 (dk_at dksX9_farms_0 4 rfl rfl)
theorem dX9_farms_5 : decode cX9_farms 5 = .ok (.bipush 96, 2) := dk_16 96 (dk_at dksX9_farms_0 5 rfl rfl)
theorem dX9_farms_7 : decode cX9_farms 7 = .ok (.if_icmp .ge 29, 3) := dk_162 0 29 (dk_at dksX9_farms_0 7 rfl rfl)
theorem dX9_farms_10 : decode cX9_farms 10 = .ok (.iload_n 1, 1) := dk_27 (dk_at dksX9_farms_0 10 rfl rfl)
theorem dX9_farms_11 : decode cX9_farms 11 = .ok (.aload_n 0, 1) := dk_42 (dk_at dksX9_farms_0 11 rfl rfl)
theorem dX9_farms_12 : decode cX9_farms 12 = .ok (.iload_n 2, 1) := dk_28 (dk_at dksX9_farms_0 12 rfl rfl)
theorem dX9_farms_13 : decode cX9_farms 13 = .ok (.iconst 0, 1) := dk_3 (dk_at dksX9_farms_0 13 rfl rfl)
theorem dX9_farms_14 : decode cX9_farms 14 = .ok (.invokevirtual 88, 3) := dk_182 0 88 (dk_at dksX9_farms_0 14 rfl rfl)
theorem dX9_farms_17 : decode cX9_farms 17 = .ok (.invokestatic 107, 3) := dk_184 0 107 (dk_at dksX9_farms_0 17 rfl rfl)
theorem dX9_farms_20 : decode cX9_farms 20 = .ok (.ifCond .eq 7, 3) := dk_153 0 7 (dk_at dksX9_farms_0 20 rfl rfl)
theorem dX9_farms_23 : decode cX9_farms 23 = .ok (.iconst 1, 1) := dk_4 (dk_at dksX9_farms_0 23 rfl rfl)
theorem dX9_farms_24 : decode cX9_farms 24 = .ok (.goto 4, 3) := dk_167 0 4 (dk_at dksX9_farms_1 0 rfl rfl)
theorem dX9_farms_27 : decode cX9_farms 27 = .ok (.iconst 0, 1) := dk_3 (dk_at dksX9_farms_1 3 rfl rfl)
theorem dX9_farms_28 : decode cX9_farms 28 = .ok (.iadd, 1) := dk_96 (dk_at dksX9_farms_1 4 rfl rfl)
theorem dX9_farms_29 : decode cX9_farms 29 = .ok (.istore_n 1, 1) := dk_60 (dk_at dksX9_farms_1 5 rfl rfl)
theorem dX9_farms_30 : decode cX9_farms 30 = .ok (.iinc 2 1, 3) := dk_132 2 1 (dk_at dksX9_farms_1 6 rfl rfl)
theorem dX9_farms_33 : decode cX9_farms 33 = .ok (.goto (-29), 3) := dk_167 255 227 (dk_at dksX9_farms_1 9 rfl rfl)
theorem dX9_farms_36 : decode cX9_farms 36 = .ok (.iload_n 1, 1) := dk_27 (dk_at dksX9_farms_1 12 rfl rfl)
theorem dX9_farms_37 : decode cX9_farms 37 = .ok (.ireturn, 1) := dk_172 (dk_at dksX9_farms_1 13 rfl rfl)
def dkwX9_here_1 : List UInt8 := [153, 0, 7, 4, 167, 0, 4, 3, 96, 60, 132, 2, 1, 167, 255, 225, 27, 172]
abbrev dktX9_here_1 : List UInt8 := dkwX9_here_1 ++ []
def dkwX9_here_0 : List UInt8 := [3, 60, 3, 61, 28, 42, 180, 0, 9, 17, 8, 76, 46, 162, 0, 25, 27, 42, 28, 182, 0, 122]
abbrev dktX9_here_0 : List UInt8 := dkwX9_here_0 ++ dktX9_here_1
theorem dksX9_here_0 : cX9_here.data.toList.drop 0 = dktX9_here_0 := by decide +kernel
theorem dksX9_here_1 : cX9_here.data.toList.drop 22 = dktX9_here_1 := dk_seg dksX9_here_0 22 rfl rfl
theorem dX9_here_0 : decode cX9_here 0 = .ok (.iconst 0, 1) := dk_3 (dk_at dksX9_here_0 0 rfl rfl)
theorem dX9_here_1 : decode cX9_here 1 = .ok (.istore_n 1, 1) := dk_60 (dk_at dksX9_here_0 1 rfl rfl)
theorem dX9_here_2 : decode cX9_here 2 = .ok (.iconst 0, 1) := dk_3 (dk_at dksX9_here_0 2 rfl rfl)
theorem dX9_here_3 : decode cX9_here 3 = .ok (.istore_n 2, 1) := dk_61 (dk_at dksX9_here_0 3 rfl rfl)
theorem dX9_here_4 : decode cX9_here 4 = .ok (.iload_n 2, 1) := dk_28 (dk_at dksX9_here_0 4 rfl rfl)
theorem dX9_here_5 : decode cX9_here 5 = .ok (.aload_n 0, 1) := dk_42 (dk_at dksX9_here_0 5 rfl rfl)
theorem dX9_here_6 : decode cX9_here 6 = .ok (.getfield 9, 3) := dk_180 0 9 (dk_at dksX9_here_0 6 rfl rfl)
theorem dX9_here_9 : decode cX9_here 9 = .ok (.sipush 2124, 3) := dk_17 8 76 (dk_at dksX9_here_0 9 rfl rfl)
theorem dX9_here_12 : decode cX9_here 12 = .ok (.iaload, 1) := dk_46 (dk_at dksX9_here_0 12 rfl rfl)
theorem dX9_here_13 : decode cX9_here 13 = .ok (.if_icmp .ge 25, 3) := dk_162 0 25 (dk_at dksX9_here_0 13 rfl rfl)
theorem dX9_here_16 : decode cX9_here 16 = .ok (.iload_n 1, 1) := dk_27 (dk_at dksX9_here_0 16 rfl rfl)
theorem dX9_here_17 : decode cX9_here 17 = .ok (.aload_n 0, 1) := dk_42 (dk_at dksX9_here_0 17 rfl rfl)
theorem dX9_here_18 : decode cX9_here 18 = .ok (.iload_n 2, 1) := dk_28 (dk_at dksX9_here_0 18 rfl rfl)
theorem dX9_here_19 : decode cX9_here 19 = .ok (.invokevirtual 122, 3) := dk_182 0 122 (dk_at dksX9_here_0 19 rfl rfl)
theorem dX9_here_22 : decode cX9_here 22 = .ok (.ifCond .eq 7, 3) := dk_153 0 7 (dk_at dksX9_here_1 0 rfl rfl)
theorem dX9_here_25 : decode cX9_here 25 = .ok (.iconst 1, 1) := dk_4 (dk_at dksX9_here_1 3 rfl rfl)
theorem dX9_here_26 : decode cX9_here 26 = .ok (.goto 4, 3) := dk_167 0 4 (dk_at dksX9_here_1 4 rfl rfl)
theorem dX9_here_29 : decode cX9_here 29 = .ok (.iconst 0, 1) := dk_3 (dk_at dksX9_here_1 7 rfl rfl)
theorem dX9_here_30 : decode cX9_here 30 = .ok (.iadd, 1) := dk_96 (dk_at dksX9_here_1 8 rfl rfl)
theorem dX9_here_31 : decode cX9_here 31 = .ok (.istore_n 1, 1) := dk_60 (dk_at dksX9_here_1 9 rfl rfl)
theorem dX9_here_32 : decode cX9_here 32 = .ok (.iinc 2 1, 3) := dk_132 2 1 (dk_at dksX9_here_1 10 rfl rfl)
theorem dX9_here_35 : decode cX9_here 35 = .ok (.goto (-31), 3) := dk_167 255 225 (dk_at dksX9_here_1 13 rfl rfl)
theorem dX9_here_38 : decode cX9_here 38 = .ok (.iload_n 1, 1) := dk_27 (dk_at dksX9_here_1 16 rfl rfl)
theorem dX9_here_39 : decode cX9_here 39 = .ok (.ireturn, 1) := dk_172 (dk_at dksX9_here_1 17 rfl rfl)
def dkwX9_value_11 : List UInt8 := [180, 0, 55, 3, 46, 172]
abbrev dktX9_value_11 : List UInt8 := dkwX9_value_11 ++ []
def dkwX9_value_10 : List UInt8 := [21, 7, 4, 100, 46, 42, 180, 0, 55, 21, 7, 46, 184, 1, 57, 79, 132, 8, 1, 167, 255, 25, 42]
abbrev dktX9_value_10 : List UInt8 := dkwX9_value_10 ++ dktX9_value_11
def dkwX9_value_9 : List UInt8 := [96, 46, 79, 167, 0, 36, 132, 7, 255, 42, 180, 0, 55, 21, 7, 4, 100, 21, 9, 42, 180, 0, 55]
abbrev dktX9_value_9 : List UInt8 := dkwX9_value_9 ++ dktX9_value_10
def dkwX9_value_8 : List UInt8 := [4, 100, 46, 4, 160, 0, 13, 42, 180, 0, 55, 21, 7, 46, 167, 0, 12, 42, 180, 0, 55, 21, 7, 4]
abbrev dktX9_value_8 : List UInt8 := dkwX9_value_8 ++ dktX9_value_9
def dkwX9_value_7 : List UInt8 := [21, 9, 16, 8, 160, 0, 50, 132, 7, 254, 42, 180, 0, 55, 21, 7, 4, 100, 42, 180, 0, 55, 21, 7]
abbrev dktX9_value_7 : List UInt8 := dkwX9_value_7 ++ dktX9_value_8
def dkwX9_value_6 : List UInt8 := [42, 180, 0, 55, 21, 7, 4, 100, 4, 42, 180, 0, 55, 21, 7, 4, 100, 46, 100, 79, 167, 0, 90]
abbrev dktX9_value_6 : List UInt8 := dkwX9_value_6 ++ dktX9_value_7
def dkwX9_value_5 : List UInt8 := [160, 0, 8, 21, 5, 167, 0, 5, 21, 6, 79, 132, 7, 1, 167, 0, 120, 21, 9, 16, 11, 160, 0, 26]
abbrev dktX9_value_5 : List UInt8 := dkwX9_value_5 ++ dktX9_value_6
def dkwX9_value_4 : List UInt8 := [160, 0, 10, 29, 16, 52, 108, 167, 0, 27, 21, 10, 5, 160, 0, 8, 21, 4, 167, 0, 16, 21, 10, 6]
abbrev dktX9_value_4 : List UInt8 := dkwX9_value_4 ++ dktX9_value_5
def dkwX9_value_3 : List UInt8 := [21, 9, 154, 0, 8, 21, 10, 167, 0, 49, 21, 10, 154, 0, 7, 29, 167, 0, 40, 21, 10, 4]
abbrev dktX9_value_3 : List UInt8 := dkwX9_value_3 ++ dktX9_value_4
def dkwX9_value_2 : List UInt8 := [21, 8, 46, 54, 10, 21, 9, 153, 0, 10, 21, 9, 16, 15, 160, 0, 72, 42, 180, 0, 55, 21, 7]
abbrev dktX9_value_2 : List UInt8 := dkwX9_value_2 ++ dktX9_value_3
def dkwX9_value_1 : List UInt8 := [180, 0, 40, 21, 8, 46, 16, 16, 159, 0, 225, 42, 180, 0, 40, 21, 8, 46, 54, 9, 42, 180, 0, 43]
abbrev dktX9_value_1 : List UInt8 := dkwX9_value_1 ++ dktX9_value_2
def dkwX9_value_0 : List UInt8 := [3, 54, 7, 17, 1, 144, 27, 104, 42, 180, 0, 46, 16, 8, 27, 104, 28, 96, 46, 96, 54, 8, 42]
abbrev dktX9_value_0 : List UInt8 := dkwX9_value_0 ++ dktX9_value_1
theorem dksX9_value_0 : cX9_value.data.toList.drop 0 = dktX9_value_0 := by decide +kernel
theorem dksX9_value_1 : cX9_value.data.toList.drop 23 = dktX9_value_1 := dk_seg dksX9_value_0 23 rfl rfl
theorem dksX9_value_2 : cX9_value.data.toList.drop 47 = dktX9_value_2 := dk_seg dksX9_value_1 24 rfl rfl
theorem dksX9_value_3 : cX9_value.data.toList.drop 70 = dktX9_value_3 := dk_seg dksX9_value_2 23 rfl rfl
theorem dksX9_value_4 : cX9_value.data.toList.drop 92 = dktX9_value_4 := dk_seg dksX9_value_3 22 rfl rfl
theorem dksX9_value_5 : cX9_value.data.toList.drop 116 = dktX9_value_5 := dk_seg dksX9_value_4 24 rfl rfl
theorem dksX9_value_6 : cX9_value.data.toList.drop 140 = dktX9_value_6 := dk_seg dksX9_value_5 24 rfl rfl
theorem dksX9_value_7 : cX9_value.data.toList.drop 163 = dktX9_value_7 := dk_seg dksX9_value_6 23 rfl rfl
theorem dksX9_value_8 : cX9_value.data.toList.drop 187 = dktX9_value_8 := dk_seg dksX9_value_7 24 rfl rfl
theorem dksX9_value_9 : cX9_value.data.toList.drop 211 = dktX9_value_9 := dk_seg dksX9_value_8 24 rfl rfl
theorem dksX9_value_10 : cX9_value.data.toList.drop 234 = dktX9_value_10 := dk_seg dksX9_value_9 23 rfl rfl
theorem dksX9_value_11 : cX9_value.data.toList.drop 257 = dktX9_value_11 := dk_seg dksX9_value_10 23 rfl rfl
theorem dX9_value_0 : decode cX9_value 0 = .ok (.iconst 0, 1) := dk_3 (dk_at dksX9_value_0 0 rfl rfl)
theorem dX9_value_1 : decode cX9_value 1 = .ok (.istore 7, 2) := dk_54 7 (dk_at dksX9_value_0 1 rfl rfl)
theorem dX9_value_3 : decode cX9_value 3 = .ok (.sipush 400, 3) := dk_17 1 144 (dk_at dksX9_value_0 3 rfl rfl)
theorem dX9_value_6 : decode cX9_value 6 = .ok (.iload_n 1, 1) := dk_27 (dk_at dksX9_value_0 6 rfl rfl)
theorem dX9_value_7 : decode cX9_value 7 = .ok (.imul, 1) := dk_104 (dk_at dksX9_value_0 7 rfl rfl)
theorem dX9_value_8 : decode cX9_value 8 = .ok (.aload_n 0, 1) := dk_42 (dk_at dksX9_value_0 8 rfl rfl)
theorem dX9_value_9 : decode cX9_value 9 = .ok (.getfield 46, 3) := dk_180 0 46 (dk_at dksX9_value_0 9 rfl rfl)
theorem dX9_value_12 : decode cX9_value 12 = .ok (.bipush 8, 2) := dk_16 8 (dk_at dksX9_value_0 12 rfl rfl)
theorem dX9_value_14 : decode cX9_value 14 = .ok (.iload_n 1, 1) := dk_27 (dk_at dksX9_value_0 14 rfl rfl)
theorem dX9_value_15 : decode cX9_value 15 = .ok (.imul, 1) := dk_104 (dk_at dksX9_value_0 15 rfl rfl)
theorem dX9_value_16 : decode cX9_value 16 = .ok (.iload_n 2, 1) := dk_28 (dk_at dksX9_value_0 16 rfl rfl)
theorem dX9_value_17 : decode cX9_value 17 = .ok (.iadd, 1) := dk_96 (dk_at dksX9_value_0 17 rfl rfl)
theorem dX9_value_18 : decode cX9_value 18 = .ok (.iaload, 1) := dk_46 (dk_at dksX9_value_0 18 rfl rfl)
theorem dX9_value_19 : decode cX9_value 19 = .ok (.iadd, 1) := dk_96 (dk_at dksX9_value_0 19 rfl rfl)
theorem dX9_value_20 : decode cX9_value 20 = .ok (.istore 8, 2) := dk_54 8 (dk_at dksX9_value_0 20 rfl rfl)
theorem dX9_value_22 : decode cX9_value 22 = .ok (.aload_n 0, 1) := dk_42 (dk_at dksX9_value_0 22 rfl rfl)
theorem dX9_value_23 : decode cX9_value 23 = .ok (.getfield 40, 3) := dk_180 0 40 (dk_at dksX9_value_1 0 rfl rfl)
theorem dX9_value_26 : decode cX9_value 26 = .ok (.iload 8, 2) := dk_21 8 (dk_at dksX9_value_1 3 rfl rfl)
theorem dX9_value_28 : decode cX9_value 28 = .ok (.iaload, 1) := dk_46 (dk_at dksX9_value_1 5 rfl rfl)
theorem dX9_value_29 : decode cX9_value 29 = .ok (.bipush 16, 2) := dk_16 16 (dk_at dksX9_value_1 6 rfl rfl)
theorem dX9_value_31 : decode cX9_value 31 = .ok (.if_icmp .eq 225, 3) := dk_159 0 225 (dk_at dksX9_value_1 8 rfl rfl)
theorem dX9_value_34 : decode cX9_value 34 = .ok (.aload_n 0, 1) := dk_42 (dk_at dksX9_value_1 11 rfl rfl)
theorem dX9_value_35 : decode cX9_value 35 = .ok (.getfield 40, 3) := dk_180 0 40 (dk_at dksX9_value_1 12 rfl rfl)
theorem dX9_value_38 : decode cX9_value 38 = .ok (.iload 8, 2) := dk_21 8 (dk_at dksX9_value_1 15 rfl rfl)
theorem dX9_value_40 : decode cX9_value 40 = .ok (.iaload, 1) := dk_46 (dk_at dksX9_value_1 17 rfl rfl)
theorem dX9_value_41 : decode cX9_value 41 = .ok (.istore 9, 2) := dk_54 9 (dk_at dksX9_value_1 18 rfl rfl)
theorem dX9_value_43 : decode cX9_value 43 = .ok (.aload_n 0, 1) := dk_42 (dk_at dksX9_value_1 20 rfl rfl)
theorem dX9_value_44 : decode cX9_value 44 = .ok (.getfield 43, 3) := dk_180 0 43 (dk_at dksX9_value_1 21 rfl rfl)
theorem dX9_value_47 : decode cX9_value 47 = .ok (.iload 8, 2) := dk_21 8 (dk_at dksX9_value_2 0 rfl rfl)
theorem dX9_value_49 : decode cX9_value 49 = .ok (.iaload, 1) := dk_46 (dk_at dksX9_value_2 2 rfl rfl)
theorem dX9_value_50 : decode cX9_value 50 = .ok (.istore 10, 2) := dk_54 10 (dk_at dksX9_value_2 3 rfl rfl)
theorem dX9_value_52 : decode cX9_value 52 = .ok (.iload 9, 2) := dk_21 9 (dk_at dksX9_value_2 5 rfl rfl)
theorem dX9_value_54 : decode cX9_value 54 = .ok (.ifCond .eq 10, 3) := dk_153 0 10 (dk_at dksX9_value_2 7 rfl rfl)
theorem dX9_value_57 : decode cX9_value 57 = .ok (.iload 9, 2) := dk_21 9 (dk_at dksX9_value_2 10 rfl rfl)
theorem dX9_value_59 : decode cX9_value 59 = .ok (.bipush 15, 2) := dk_16 15 (dk_at dksX9_value_2 12 rfl rfl)
theorem dX9_value_61 : decode cX9_value 61 = .ok (.if_icmp .ne 72, 3) := dk_160 0 72 (dk_at dksX9_value_2 14 rfl rfl)
theorem dX9_value_64 : decode cX9_value 64 = .ok (.aload_n 0, 1) := dk_42 (dk_at dksX9_value_2 17 rfl rfl)
theorem dX9_value_65 : decode cX9_value 65 = .ok (.getfield 55, 3) := dk_180 0 55 (dk_at dksX9_value_2 18 rfl rfl)
theorem dX9_value_68 : decode cX9_value 68 = .ok (.iload 7, 2) := dk_21 7 (dk_at dksX9_value_2 21 rfl rfl)
theorem dX9_value_70 : decode cX9_value 70 = .ok (.iload 9, 2) := dk_21 9 (dk_at dksX9_value_3 0 rfl rfl)
theorem dX9_value_72 : decode cX9_value 72 = .ok (.ifCond .ne 8, 3) := dk_154 0 8 (dk_at dksX9_value_3 2 rfl rfl)
theorem dX9_value_75 : decode cX9_value 75 = .ok (.iload 10, 2) := dk_21 10 (dk_at dksX9_value_3 5 rfl rfl)
theorem dX9_value_77 : decode cX9_value 77 = .ok (.goto 49, 3) := dk_167 0 49 (dk_at dksX9_value_3 7 rfl rfl)
theorem dX9_value_80 : decode cX9_value 80 = .ok (.iload 10, 2) := dk_21 10 (dk_at dksX9_value_3 10 rfl rfl)
theorem dX9_value_82 : decode cX9_value 82 = .ok (.ifCond .ne 7, 3) := dk_154 0 7 (dk_at dksX9_value_3 12 rfl rfl)
theorem dX9_value_85 : decode cX9_value 85 = .ok (.iload_n 3, 1) := dk_29 (dk_at dksX9_value_3 15 rfl rfl)
theorem dX9_value_86 : decode cX9_value 86 = .ok (.goto 40, 3) := dk_167 0 40 (dk_at dksX9_value_3 16 rfl rfl)
theorem dX9_value_89 : decode cX9_value 89 = .ok (.iload 10, 2) := dk_21 10 (dk_at dksX9_value_3 19 rfl rfl)
theorem dX9_value_91 : decode cX9_value 91 = .ok (.iconst 1, 1) := dk_4 (dk_at dksX9_value_3 21 rfl rfl)
theorem dX9_value_92 : decode cX9_value 92 = .ok (.if_icmp .ne 10, 3) := dk_160 0 10 (dk_at dksX9_value_4 0 rfl rfl)
theorem dX9_value_95 : decode cX9_value 95 = .ok (.iload_n 3, 1) := dk_29 (dk_at dksX9_value_4 3 rfl rfl)
theorem dX9_value_96 : decode cX9_value 96 = .ok (.bipush 52, 2) := dk_16 52 (dk_at dksX9_value_4 4 rfl rfl)
theorem dX9_value_98 : decode cX9_value 98 = .ok (.idiv, 1) := dk_108 (dk_at dksX9_value_4 6 rfl rfl)
theorem dX9_value_99 : decode cX9_value 99 = .ok (.goto 27, 3) := dk_167 0 27 (dk_at dksX9_value_4 7 rfl rfl)
theorem dX9_value_102 : decode cX9_value 102 = .ok (.iload 10, 2) := dk_21 10 (dk_at dksX9_value_4 10 rfl rfl)
theorem dX9_value_104 : decode cX9_value 104 = .ok (.iconst 2, 1) := dk_5 (dk_at dksX9_value_4 12 rfl rfl)
theorem dX9_value_105 : decode cX9_value 105 = .ok (.if_icmp .ne 8, 3) := dk_160 0 8 (dk_at dksX9_value_4 13 rfl rfl)
theorem dX9_value_108 : decode cX9_value 108 = .ok (.iload 4, 2) := dk_21 4 (dk_at dksX9_value_4 16 rfl rfl)
theorem dX9_value_110 : decode cX9_value 110 = .ok (.goto 16, 3) := dk_167 0 16 (dk_at dksX9_value_4 18 rfl rfl)
theorem dX9_value_113 : decode cX9_value 113 = .ok (.iload 10, 2) := dk_21 10 (dk_at dksX9_value_4 21 rfl rfl)
theorem dX9_value_115 : decode cX9_value 115 = .ok (.iconst 3, 1) := dk_6 (dk_at dksX9_value_4 23 rfl rfl)
theorem dX9_value_116 : decode cX9_value 116 = .ok (.if_icmp .ne 8, 3) := dk_160 0 8 (dk_at dksX9_value_5 0 rfl rfl)
theorem dX9_value_119 : decode cX9_value 119 = .ok (.iload 5, 2) := dk_21 5 (dk_at dksX9_value_5 3 rfl rfl)
theorem dX9_value_121 : decode cX9_value 121 = .ok (.goto 5, 3) := dk_167 0 5 (dk_at dksX9_value_5 5 rfl rfl)
theorem dX9_value_124 : decode cX9_value 124 = .ok (.iload 6, 2) := dk_21 6 (dk_at dksX9_value_5 8 rfl rfl)
theorem dX9_value_126 : decode cX9_value 126 = .ok (.iastore, 1) := dk_79 (dk_at dksX9_value_5 10 rfl rfl)
theorem dX9_value_127 : decode cX9_value 127 = .ok (.iinc 7 1, 3) := dk_132 7 1 (dk_at dksX9_value_5 11 rfl rfl)
theorem dX9_value_130 : decode cX9_value 130 = .ok (.goto 120, 3) := dk_167 0 120 (dk_at dksX9_value_5 14 rfl rfl)
theorem dX9_value_133 : decode cX9_value 133 = .ok (.iload 9, 2) := dk_21 9 (dk_at dksX9_value_5 17 rfl rfl)
theorem dX9_value_135 : decode cX9_value 135 = .ok (.bipush 11, 2) := dk_16 11 (dk_at dksX9_value_5 19 rfl rfl)
theorem dX9_value_137 : decode cX9_value 137 = .ok (.if_icmp .ne 26, 3) := dk_160 0 26 (dk_at dksX9_value_5 21 rfl rfl)
theorem dX9_value_140 : decode cX9_value 140 = .ok (.aload_n 0, 1) := dk_42 (dk_at dksX9_value_6 0 rfl rfl)
theorem dX9_value_141 : decode cX9_value 141 = .ok (.getfield 55, 3) := dk_180 0 55 (dk_at dksX9_value_6 1 rfl rfl)
theorem dX9_value_144 : decode cX9_value 144 = .ok (.iload 7, 2) := dk_21 7 (dk_at dksX9_value_6 4 rfl rfl)
theorem dX9_value_146 : decode cX9_value 146 = .ok (.iconst 1, 1) := dk_4 (dk_at dksX9_value_6 6 rfl rfl)
theorem dX9_value_147 : decode cX9_value 147 = .ok (.isub, 1) := dk_100 (dk_at dksX9_value_6 7 rfl rfl)
theorem dX9_value_148 : decode cX9_value 148 = .ok (.iconst 1, 1) := dk_4 (dk_at dksX9_value_6 8 rfl rfl)
theorem dX9_value_149 : decode cX9_value 149 = .ok (.aload_n 0, 1) := dk_42 (dk_at dksX9_value_6 9 rfl rfl)
theorem dX9_value_150 : decode cX9_value 150 = .ok (.getfield 55, 3) := dk_180 0 55 (dk_at dksX9_value_6 10 rfl rfl)
theorem dX9_value_153 : decode cX9_value 153 = .ok (.iload 7, 2) := dk_21 7 (dk_at dksX9_value_6 13 rfl rfl)
theorem dX9_value_155 : decode cX9_value 155 = .ok (.iconst 1, 1) := dk_4 (dk_at dksX9_value_6 15 rfl rfl)
theorem dX9_value_156 : decode cX9_value 156 = .ok (.isub, 1) := dk_100 (dk_at dksX9_value_6 16 rfl rfl)
theorem dX9_value_157 : decode cX9_value 157 = .ok (.iaload, 1) := dk_46 (dk_at dksX9_value_6 17 rfl rfl)
theorem dX9_value_158 : decode cX9_value 158 = .ok (.isub, 1) := dk_100 (dk_at dksX9_value_6 18 rfl rfl)
theorem dX9_value_159 : decode cX9_value 159 = .ok (.iastore, 1) := dk_79 (dk_at dksX9_value_6 19 rfl rfl)
theorem dX9_value_160 : decode cX9_value 160 = .ok (.goto 90, 3) := dk_167 0 90 (dk_at dksX9_value_6 20 rfl rfl)
theorem dX9_value_163 : decode cX9_value 163 = .ok (.iload 9, 2) := dk_21 9 (dk_at dksX9_value_7 0 rfl rfl)
theorem dX9_value_165 : decode cX9_value 165 = .ok (.bipush 8, 2) := dk_16 8 (dk_at dksX9_value_7 2 rfl rfl)
theorem dX9_value_167 : decode cX9_value 167 = .ok (.if_icmp .ne 50, 3) := dk_160 0 50 (dk_at dksX9_value_7 4 rfl rfl)
theorem dX9_value_170 : decode cX9_value 170 = .ok (.iinc 7 (-2), 3) := dk_132 7 254 (dk_at dksX9_value_7 7 rfl rfl)
theorem dX9_value_173 : decode cX9_value 173 = .ok (.aload_n 0, 1) := dk_42 (dk_at dksX9_value_7 10 rfl rfl)
theorem dX9_value_174 : decode cX9_value 174 = .ok (.getfield 55, 3) := dk_180 0 55 (dk_at dksX9_value_7 11 rfl rfl)
theorem dX9_value_177 : decode cX9_value 177 = .ok (.iload 7, 2) := dk_21 7 (dk_at dksX9_value_7 14 rfl rfl)
theorem dX9_value_179 : decode cX9_value 179 = .ok (.iconst 1, 1) := dk_4 (dk_at dksX9_value_7 16 rfl rfl)
theorem dX9_value_180 : decode cX9_value 180 = .ok (.isub, 1) := dk_100 (dk_at dksX9_value_7 17 rfl rfl)
theorem dX9_value_181 : decode cX9_value 181 = .ok (.aload_n 0, 1) := dk_42 (dk_at dksX9_value_7 18 rfl rfl)
theorem dX9_value_182 : decode cX9_value 182 = .ok (.getfield 55, 3) := dk_180 0 55 (dk_at dksX9_value_7 19 rfl rfl)
theorem dX9_value_185 : decode cX9_value 185 = .ok (.iload 7, 2) := dk_21 7 (dk_at dksX9_value_7 22 rfl rfl)
theorem dX9_value_187 : decode cX9_value 187 = .ok (.iconst 1, 1) := dk_4 (dk_at dksX9_value_8 0 rfl rfl)
theorem dX9_value_188 : decode cX9_value 188 = .ok (.isub, 1) := dk_100 (dk_at dksX9_value_8 1 rfl rfl)
theorem dX9_value_189 : decode cX9_value 189 = .ok (.iaload, 1) := dk_46 (dk_at dksX9_value_8 2 rfl rfl)
theorem dX9_value_190 : decode cX9_value 190 = .ok (.iconst 1, 1) := dk_4 (dk_at dksX9_value_8 3 rfl rfl)
theorem dX9_value_191 : decode cX9_value 191 = .ok (.if_icmp .ne 13, 3) := dk_160 0 13 (dk_at dksX9_value_8 4 rfl rfl)
theorem dX9_value_194 : decode cX9_value 194 = .ok (.aload_n 0, 1) := dk_42 (dk_at dksX9_value_8 7 rfl rfl)
theorem dX9_value_195 : decode cX9_value 195 = .ok (.getfield 55, 3) := dk_180 0 55 (dk_at dksX9_value_8 8 rfl rfl)
theorem dX9_value_198 : decode cX9_value 198 = .ok (.iload 7, 2) := dk_21 7 (dk_at dksX9_value_8 11 rfl rfl)
theorem dX9_value_200 : decode cX9_value 200 = .ok (.iaload, 1) := dk_46 (dk_at dksX9_value_8 13 rfl rfl)
theorem dX9_value_201 : decode cX9_value 201 = .ok (.goto 12, 3) := dk_167 0 12 (dk_at dksX9_value_8 14 rfl rfl)
theorem dX9_value_204 : decode cX9_value 204 = .ok (.aload_n 0, 1) := dk_42 (dk_at dksX9_value_8 17 rfl rfl)
theorem dX9_value_205 : decode cX9_value 205 = .ok (.getfield 55, 3) := dk_180 0 55 (dk_at dksX9_value_8 18 rfl rfl)
theorem dX9_value_208 : decode cX9_value 208 = .ok (.iload 7, 2) := dk_21 7 (dk_at dksX9_value_8 21 rfl rfl)
theorem dX9_value_210 : decode cX9_value 210 = .ok (.iconst 1, 1) := dk_4 (dk_at dksX9_value_8 23 rfl rfl)
theorem dX9_value_211 : decode cX9_value 211 = .ok (.iadd, 1) := dk_96 (dk_at dksX9_value_9 0 rfl rfl)
theorem dX9_value_212 : decode cX9_value 212 = .ok (.iaload, 1) := dk_46 (dk_at dksX9_value_9 1 rfl rfl)
theorem dX9_value_213 : decode cX9_value 213 = .ok (.iastore, 1) := dk_79 (dk_at dksX9_value_9 2 rfl rfl)
theorem dX9_value_214 : decode cX9_value 214 = .ok (.goto 36, 3) := dk_167 0 36 (dk_at dksX9_value_9 3 rfl rfl)
theorem dX9_value_217 : decode cX9_value 217 = .ok (.iinc 7 (-1), 3) := dk_132 7 255 (dk_at dksX9_value_9 6 rfl rfl)
theorem dX9_value_220 : decode cX9_value 220 = .ok (.aload_n 0, 1) := dk_42 (dk_at dksX9_value_9 9 rfl rfl)
theorem dX9_value_221 : decode cX9_value 221 = .ok (.getfield 55, 3) := dk_180 0 55 (dk_at dksX9_value_9 10 rfl rfl)
theorem dX9_value_224 : decode cX9_value 224 = .ok (.iload 7, 2) := dk_21 7 (dk_at dksX9_value_9 13 rfl rfl)
theorem dX9_value_226 : decode cX9_value 226 = .ok (.iconst 1, 1) := dk_4 (dk_at dksX9_value_9 15 rfl rfl)
theorem dX9_value_227 : decode cX9_value 227 = .ok (.isub, 1) := dk_100 (dk_at dksX9_value_9 16 rfl rfl)
theorem dX9_value_228 : decode cX9_value 228 = .ok (.iload 9, 2) := dk_21 9 (dk_at dksX9_value_9 17 rfl rfl)
theorem dX9_value_230 : decode cX9_value 230 = .ok (.aload_n 0, 1) := dk_42 (dk_at dksX9_value_9 19 rfl rfl)
theorem dX9_value_231 : decode cX9_value 231 = .ok (.getfield 55, 3) := dk_180 0 55 (dk_at dksX9_value_9 20 rfl rfl)
theorem dX9_value_234 : decode cX9_value 234 = .ok (.iload 7, 2) := dk_21 7 (dk_at dksX9_value_10 0 rfl rfl)
theorem dX9_value_236 : decode cX9_value 236 = .ok (.iconst 1, 1) := dk_4 (dk_at dksX9_value_10 2 rfl rfl)
theorem dX9_value_237 : decode cX9_value 237 = .ok (.isub, 1) := dk_100 (dk_at dksX9_value_10 3 rfl rfl)
theorem dX9_value_238 : decode cX9_value 238 = .ok (.iaload, 1) := dk_46 (dk_at dksX9_value_10 4 rfl rfl)
theorem dX9_value_239 : decode cX9_value 239 = .ok (.aload_n 0, 1) := dk_42 (dk_at dksX9_value_10 5 rfl rfl)
theorem dX9_value_240 : decode cX9_value 240 = .ok (.getfield 55, 3) := dk_180 0 55 (dk_at dksX9_value_10 6 rfl rfl)
theorem dX9_value_243 : decode cX9_value 243 = .ok (.iload 7, 2) := dk_21 7 (dk_at dksX9_value_10 9 rfl rfl)
theorem dX9_value_245 : decode cX9_value 245 = .ok (.iaload, 1) := dk_46 (dk_at dksX9_value_10 11 rfl rfl)
theorem dX9_value_246 : decode cX9_value 246 = .ok (.invokestatic 313, 3) := dk_184 1 57 (dk_at dksX9_value_10 12 rfl rfl)
theorem dX9_value_249 : decode cX9_value 249 = .ok (.iastore, 1) := dk_79 (dk_at dksX9_value_10 15 rfl rfl)
theorem dX9_value_250 : decode cX9_value 250 = .ok (.iinc 8 1, 3) := dk_132 8 1 (dk_at dksX9_value_10 16 rfl rfl)
theorem dX9_value_253 : decode cX9_value 253 = .ok (.goto (-231), 3) := dk_167 255 25 (dk_at dksX9_value_10 19 rfl rfl)
theorem dX9_value_256 : decode cX9_value 256 = .ok (.aload_n 0, 1) := dk_42 (dk_at dksX9_value_10 22 rfl rfl)
theorem dX9_value_257 : decode cX9_value 257 = .ok (.getfield 55, 3) := dk_180 0 55 (dk_at dksX9_value_11 0 rfl rfl)
theorem dX9_value_260 : decode cX9_value 260 = .ok (.iconst 0, 1) := dk_3 (dk_at dksX9_value_11 3 rfl rfl)
theorem dX9_value_261 : decode cX9_value 261 = .ok (.iaload, 1) := dk_46 (dk_at dksX9_value_11 4 rfl rfl)
theorem dX9_value_262 : decode cX9_value 262 = .ok (.ireturn, 1) := dk_172 (dk_at dksX9_value_11 5 rfl rfl)
def dkwX9_worked_6 : List UInt8 := [167, 0, 4, 3, 172]
abbrev dktX9_worked_6 : List UInt8 := dkwX9_worked_6 ++ []
def dkwX9_worked_5 : List UInt8 := [167, 0, 4, 3, 172, 27, 28, 164, 0, 7, 4, 167, 0, 4, 3, 172, 27, 28, 160, 0, 7, 4]
abbrev dktX9_worked_5 : List UInt8 := dkwX9_worked_5 ++ dktX9_worked_6
def dkwX9_worked_4 : List UInt8 := [28, 164, 0, 7, 27, 167, 0, 4, 28, 172, 27, 28, 126, 172, 27, 28, 128, 172, 27, 28, 162, 0, 7, 4]
abbrev dktX9_worked_4 : List UInt8 := dkwX9_worked_4 ++ dktX9_worked_5
def dkwX9_worked_3 : List UInt8 := [28, 154, 0, 7, 3, 167, 0, 6, 27, 28, 112, 172, 27, 28, 162, 0, 7, 27, 167, 0, 4, 28, 172, 27]
abbrev dktX9_worked_3 : List UInt8 := dkwX9_worked_3 ++ dktX9_worked_4
def dkwX9_worked_2 : List UInt8 := [27, 28, 96, 172, 27, 28, 100, 172, 27, 28, 104, 172, 28, 154, 0, 7, 3, 167, 0, 6, 27, 28, 108, 172]
abbrev dktX9_worked_2 : List UInt8 := dkwX9_worked_2 ++ dktX9_worked_3
def dkwX9_worked_1 : List UInt8 := [170, 0, 0, 0, 0, 0, 155, 0, 0, 0, 1, 0, 0, 0, 13, 0, 0, 0, 67, 0, 0, 0, 71, 0, 0, 0, 75, 0, 0, 0, 79, 0, 0, 0, 91, 0, 0, 0, 103, 0, 0, 0, 114, 0, 0, 0, 155, 0, 0, 0, 125, 0, 0, 0, 129, 0, 0, 0, 155, 0, 0, 0, 133, 0, 0, 0, 144]
abbrev dktX9_worked_1 : List UInt8 := dkwX9_worked_1 ++ dktX9_worked_2
def dkwX9_worked_0 : List UInt8 := [26]
abbrev dktX9_worked_0 : List UInt8 := dkwX9_worked_0 ++ dktX9_worked_1
theorem dksX9_worked_0 : cX9_worked.data.toList.drop 0 = dktX9_worked_0 := by decide +kernel
theorem dksX9_worked_1 : cX9_worked.data.toList.drop 1 = dktX9_worked_1 := dk_seg dksX9_worked_0 1 rfl rfl
theorem dksX9_worked_2 : cX9_worked.data.toList.drop 68 = dktX9_worked_2 := dk_seg dksX9_worked_1 67 rfl rfl
theorem dksX9_worked_3 : cX9_worked.data.toList.drop 92 = dktX9_worked_3 := dk_seg dksX9_worked_2 24 rfl rfl
theorem dksX9_worked_4 : cX9_worked.data.toList.drop 116 = dktX9_worked_4 := dk_seg dksX9_worked_3 24 rfl rfl
theorem dksX9_worked_5 : cX9_worked.data.toList.drop 140 = dktX9_worked_5 := dk_seg dksX9_worked_4 24 rfl rfl
theorem dksX9_worked_6 : cX9_worked.data.toList.drop 162 = dktX9_worked_6 := dk_seg dksX9_worked_5 22 rfl rfl
theorem dX9_worked_0 : decode cX9_worked 0 = .ok (.iload_n 0, 1) := dk_26 (dk_at dksX9_worked_0 0 rfl rfl)
theorem dX9_worked_1 : decode cX9_worked 1 = .ok (.tableswitch 155 1 13 #[67, 71, 75, 79, 91, 103, 114, 155, 125, 129, 155, 133, 144], 67) := by decide +kernel
theorem dX9_worked_68 : decode cX9_worked 68 = .ok (.iload_n 1, 1) := dk_27 (dk_at dksX9_worked_2 0 rfl rfl)
theorem dX9_worked_69 : decode cX9_worked 69 = .ok (.iload_n 2, 1) := dk_28 (dk_at dksX9_worked_2 1 rfl rfl)
theorem dX9_worked_70 : decode cX9_worked 70 = .ok (.iadd, 1) := dk_96 (dk_at dksX9_worked_2 2 rfl rfl)
theorem dX9_worked_71 : decode cX9_worked 71 = .ok (.ireturn, 1) := dk_172 (dk_at dksX9_worked_2 3 rfl rfl)
theorem dX9_worked_72 : decode cX9_worked 72 = .ok (.iload_n 1, 1) := dk_27 (dk_at dksX9_worked_2 4 rfl rfl)
theorem dX9_worked_73 : decode cX9_worked 73 = .ok (.iload_n 2, 1) := dk_28 (dk_at dksX9_worked_2 5 rfl rfl)
theorem dX9_worked_74 : decode cX9_worked 74 = .ok (.isub, 1) := dk_100 (dk_at dksX9_worked_2 6 rfl rfl)
theorem dX9_worked_75 : decode cX9_worked 75 = .ok (.ireturn, 1) := dk_172 (dk_at dksX9_worked_2 7 rfl rfl)
theorem dX9_worked_76 : decode cX9_worked 76 = .ok (.iload_n 1, 1) := dk_27 (dk_at dksX9_worked_2 8 rfl rfl)
theorem dX9_worked_77 : decode cX9_worked 77 = .ok (.iload_n 2, 1) := dk_28 (dk_at dksX9_worked_2 9 rfl rfl)
theorem dX9_worked_78 : decode cX9_worked 78 = .ok (.imul, 1) := dk_104 (dk_at dksX9_worked_2 10 rfl rfl)
theorem dX9_worked_79 : decode cX9_worked 79 = .ok (.ireturn, 1) := dk_172 (dk_at dksX9_worked_2 11 rfl rfl)
theorem dX9_worked_80 : decode cX9_worked 80 = .ok (.iload_n 2, 1) := dk_28 (dk_at dksX9_worked_2 12 rfl rfl)
theorem dX9_worked_81 : decode cX9_worked 81 = .ok (.ifCond .ne 7, 3) := dk_154 0 7 (dk_at dksX9_worked_2 13 rfl rfl)
theorem dX9_worked_84 : decode cX9_worked 84 = .ok (.iconst 0, 1) := dk_3 (dk_at dksX9_worked_2 16 rfl rfl)
theorem dX9_worked_85 : decode cX9_worked 85 = .ok (.goto 6, 3) := dk_167 0 6 (dk_at dksX9_worked_2 17 rfl rfl)
theorem dX9_worked_88 : decode cX9_worked 88 = .ok (.iload_n 1, 1) := dk_27 (dk_at dksX9_worked_2 20 rfl rfl)
theorem dX9_worked_89 : decode cX9_worked 89 = .ok (.iload_n 2, 1) := dk_28 (dk_at dksX9_worked_2 21 rfl rfl)
theorem dX9_worked_90 : decode cX9_worked 90 = .ok (.idiv, 1) := dk_108 (dk_at dksX9_worked_2 22 rfl rfl)
theorem dX9_worked_91 : decode cX9_worked 91 = .ok (.ireturn, 1) := dk_172 (dk_at dksX9_worked_2 23 rfl rfl)
theorem dX9_worked_92 : decode cX9_worked 92 = .ok (.iload_n 2, 1) := dk_28 (dk_at dksX9_worked_3 0 rfl rfl)
theorem dX9_worked_93 : decode cX9_worked 93 = .ok (.ifCond .ne 7, 3) := dk_154 0 7 (dk_at dksX9_worked_3 1 rfl rfl)
theorem dX9_worked_96 : decode cX9_worked 96 = .ok (.iconst 0, 1) := dk_3 (dk_at dksX9_worked_3 4 rfl rfl)
theorem dX9_worked_97 : decode cX9_worked 97 = .ok (.goto 6, 3) := dk_167 0 6 (dk_at dksX9_worked_3 5 rfl rfl)
theorem dX9_worked_100 : decode cX9_worked 100 = .ok (.iload_n 1, 1) := dk_27 (dk_at dksX9_worked_3 8 rfl rfl)
theorem dX9_worked_101 : decode cX9_worked 101 = .ok (.iload_n 2, 1) := dk_28 (dk_at dksX9_worked_3 9 rfl rfl)
theorem dX9_worked_102 : decode cX9_worked 102 = .ok (.irem, 1) := dk_112 (dk_at dksX9_worked_3 10 rfl rfl)
theorem dX9_worked_103 : decode cX9_worked 103 = .ok (.ireturn, 1) := dk_172 (dk_at dksX9_worked_3 11 rfl rfl)
theorem dX9_worked_104 : decode cX9_worked 104 = .ok (.iload_n 1, 1) := dk_27 (dk_at dksX9_worked_3 12 rfl rfl)
theorem dX9_worked_105 : decode cX9_worked 105 = .ok (.iload_n 2, 1) := dk_28 (dk_at dksX9_worked_3 13 rfl rfl)
theorem dX9_worked_106 : decode cX9_worked 106 = .ok (.if_icmp .ge 7, 3) := dk_162 0 7 (dk_at dksX9_worked_3 14 rfl rfl)
theorem dX9_worked_109 : decode cX9_worked 109 = .ok (.iload_n 1, 1) := dk_27 (dk_at dksX9_worked_3 17 rfl rfl)
theorem dX9_worked_110 : decode cX9_worked 110 = .ok (.goto 4, 3) := dk_167 0 4 (dk_at dksX9_worked_3 18 rfl rfl)
theorem dX9_worked_113 : decode cX9_worked 113 = .ok (.iload_n 2, 1) := dk_28 (dk_at dksX9_worked_3 21 rfl rfl)
theorem dX9_worked_114 : decode cX9_worked 114 = .ok (.ireturn, 1) := dk_172 (dk_at dksX9_worked_3 22 rfl rfl)
theorem dX9_worked_115 : decode cX9_worked 115 = .ok (.iload_n 1, 1) := dk_27 (dk_at dksX9_worked_3 23 rfl rfl)
theorem dX9_worked_116 : decode cX9_worked 116 = .ok (.iload_n 2, 1) := dk_28 (dk_at dksX9_worked_4 0 rfl rfl)
theorem dX9_worked_117 : decode cX9_worked 117 = .ok (.if_icmp .le 7, 3) := dk_164 0 7 (dk_at dksX9_worked_4 1 rfl rfl)
theorem dX9_worked_120 : decode cX9_worked 120 = .ok (.iload_n 1, 1) := dk_27 (dk_at dksX9_worked_4 4 rfl rfl)
theorem dX9_worked_121 : decode cX9_worked 121 = .ok (.goto 4, 3) := dk_167 0 4 (dk_at dksX9_worked_4 5 rfl rfl)
theorem dX9_worked_124 : decode cX9_worked 124 = .ok (.iload_n 2, 1) := dk_28 (dk_at dksX9_worked_4 8 rfl rfl)
theorem dX9_worked_125 : decode cX9_worked 125 = .ok (.ireturn, 1) := dk_172 (dk_at dksX9_worked_4 9 rfl rfl)
theorem dX9_worked_126 : decode cX9_worked 126 = .ok (.iload_n 1, 1) := dk_27 (dk_at dksX9_worked_4 10 rfl rfl)
theorem dX9_worked_127 : decode cX9_worked 127 = .ok (.iload_n 2, 1) := dk_28 (dk_at dksX9_worked_4 11 rfl rfl)
theorem dX9_worked_128 : decode cX9_worked 128 = .ok (.iand, 1) := dk_126 (dk_at dksX9_worked_4 12 rfl rfl)
theorem dX9_worked_129 : decode cX9_worked 129 = .ok (.ireturn, 1) := dk_172 (dk_at dksX9_worked_4 13 rfl rfl)
theorem dX9_worked_130 : decode cX9_worked 130 = .ok (.iload_n 1, 1) := dk_27 (dk_at dksX9_worked_4 14 rfl rfl)
theorem dX9_worked_131 : decode cX9_worked 131 = .ok (.iload_n 2, 1) := dk_28 (dk_at dksX9_worked_4 15 rfl rfl)
theorem dX9_worked_132 : decode cX9_worked 132 = .ok (.ior, 1) := dk_128 (dk_at dksX9_worked_4 16 rfl rfl)
theorem dX9_worked_133 : decode cX9_worked 133 = .ok (.ireturn, 1) := dk_172 (dk_at dksX9_worked_4 17 rfl rfl)
theorem dX9_worked_134 : decode cX9_worked 134 = .ok (.iload_n 1, 1) := dk_27 (dk_at dksX9_worked_4 18 rfl rfl)
theorem dX9_worked_135 : decode cX9_worked 135 = .ok (.iload_n 2, 1) := dk_28 (dk_at dksX9_worked_4 19 rfl rfl)
theorem dX9_worked_136 : decode cX9_worked 136 = .ok (.if_icmp .ge 7, 3) := dk_162 0 7 (dk_at dksX9_worked_4 20 rfl rfl)
theorem dX9_worked_139 : decode cX9_worked 139 = .ok (.iconst 1, 1) := dk_4 (dk_at dksX9_worked_4 23 rfl rfl)
theorem dX9_worked_140 : decode cX9_worked 140 = .ok (.goto 4, 3) := dk_167 0 4 (dk_at dksX9_worked_5 0 rfl rfl)
theorem dX9_worked_143 : decode cX9_worked 143 = .ok (.iconst 0, 1) := dk_3 (dk_at dksX9_worked_5 3 rfl rfl)
theorem dX9_worked_144 : decode cX9_worked 144 = .ok (.ireturn, 1) := dk_172 (dk_at dksX9_worked_5 4 rfl rfl)
theorem dX9_worked_145 : decode cX9_worked 145 = .ok (.iload_n 1, 1) := dk_27 (dk_at dksX9_worked_5 5 rfl rfl)
theorem dX9_worked_146 : decode cX9_worked 146 = .ok (.iload_n 2, 1) := dk_28 (dk_at dksX9_worked_5 6 rfl rfl)
theorem dX9_worked_147 : decode cX9_worked 147 = .ok (.if_icmp .le 7, 3) := dk_164 0 7 (dk_at dksX9_worked_5 7 rfl rfl)
theorem dX9_worked_150 : decode cX9_worked 150 = .ok (.iconst 1, 1) := dk_4 (dk_at dksX9_worked_5 10 rfl rfl)
theorem dX9_worked_151 : decode cX9_worked 151 = .ok (.goto 4, 3) := dk_167 0 4 (dk_at dksX9_worked_5 11 rfl rfl)
theorem dX9_worked_154 : decode cX9_worked 154 = .ok (.iconst 0, 1) := dk_3 (dk_at dksX9_worked_5 14 rfl rfl)
theorem dX9_worked_155 : decode cX9_worked 155 = .ok (.ireturn, 1) := dk_172 (dk_at dksX9_worked_5 15 rfl rfl)
theorem dX9_worked_156 : decode cX9_worked 156 = .ok (.iload_n 1, 1) := dk_27 (dk_at dksX9_worked_5 16 rfl rfl)
theorem dX9_worked_157 : decode cX9_worked 157 = .ok (.iload_n 2, 1) := dk_28 (dk_at dksX9_worked_5 17 rfl rfl)
theorem dX9_worked_158 : decode cX9_worked 158 = .ok (.if_icmp .ne 7, 3) := dk_160 0 7 (dk_at dksX9_worked_5 18 rfl rfl)
theorem dX9_worked_161 : decode cX9_worked 161 = .ok (.iconst 1, 1) := dk_4 (dk_at dksX9_worked_5 21 rfl rfl)
theorem dX9_worked_162 : decode cX9_worked 162 = .ok (.goto 4, 3) := dk_167 0 4 (dk_at dksX9_worked_6 0 rfl rfl)
theorem dX9_worked_165 : decode cX9_worked 165 = .ok (.iconst 0, 1) := dk_3 (dk_at dksX9_worked_6 3 rfl rfl)
theorem dX9_worked_166 : decode cX9_worked 166 = .ok (.ireturn, 1) := dk_172 (dk_at dksX9_worked_6 4 rfl rfl)
def dkwX9_bounded_1 : List UInt8 := [27, 28, 162, 0, 7, 28, 167, 0, 13, 27, 29, 164, 0, 7, 29, 167, 0, 4, 27, 172]
abbrev dktX9_bounded_1 : List UInt8 := dkwX9_bounded_1 ++ []
def dkwX9_bounded_0 : List UInt8 := [26, 154, 0, 7, 4, 167, 0, 4, 3, 61, 26, 4, 160, 0, 8, 16, 100, 167, 0, 6, 17, 3, 232, 62]
abbrev dktX9_bounded_0 : List UInt8 := dkwX9_bounded_0 ++ dktX9_bounded_1
theorem dksX9_bounded_0 : cX9_bounded.data.toList.drop 0 = dktX9_bounded_0 := by decide +kernel
theorem dksX9_bounded_1 : cX9_bounded.data.toList.drop 24 = dktX9_bounded_1 := dk_seg dksX9_bounded_0 24 rfl rfl
theorem dX9_bounded_0 : decode cX9_bounded 0 = .ok (.iload_n 0, 1) := dk_26 (dk_at dksX9_bounded_0 0 rfl rfl)
theorem dX9_bounded_1 : decode cX9_bounded 1 = .ok (.ifCond .ne 7, 3) := dk_154 0 7 (dk_at dksX9_bounded_0 1 rfl rfl)
theorem dX9_bounded_4 : decode cX9_bounded 4 = .ok (.iconst 1, 1) := dk_4 (dk_at dksX9_bounded_0 4 rfl rfl)
theorem dX9_bounded_5 : decode cX9_bounded 5 = .ok (.goto 4, 3) := dk_167 0 4 (dk_at dksX9_bounded_0 5 rfl rfl)
theorem dX9_bounded_8 : decode cX9_bounded 8 = .ok (.iconst 0, 1) := dk_3 (dk_at dksX9_bounded_0 8 rfl rfl)
theorem dX9_bounded_9 : decode cX9_bounded 9 = .ok (.istore_n 2, 1) := dk_61 (dk_at dksX9_bounded_0 9 rfl rfl)
theorem dX9_bounded_10 : decode cX9_bounded 10 = .ok (.iload_n 0, 1) := dk_26 (dk_at dksX9_bounded_0 10 rfl rfl)
theorem dX9_bounded_11 : decode cX9_bounded 11 = .ok (.iconst 1, 1) := dk_4 (dk_at dksX9_bounded_0 11 rfl rfl)
theorem dX9_bounded_12 : decode cX9_bounded 12 = .ok (.if_icmp .ne 8, 3) := dk_160 0 8 (dk_at dksX9_bounded_0 12 rfl rfl)
theorem dX9_bounded_15 : decode cX9_bounded 15 = .ok (.bipush 100, 2) := dk_16 100 (dk_at dksX9_bounded_0 15 rfl rfl)
theorem dX9_bounded_17 : decode cX9_bounded 17 = .ok (.goto 6, 3) := dk_167 0 6 (dk_at dksX9_bounded_0 17 rfl rfl)
theorem dX9_bounded_20 : decode cX9_bounded 20 = .ok (.sipush 1000, 3) := dk_17 3 232 (dk_at dksX9_bounded_0 20 rfl rfl)
theorem dX9_bounded_23 : decode cX9_bounded 23 = .ok (.istore_n 3, 1) := dk_62 (dk_at dksX9_bounded_0 23 rfl rfl)
theorem dX9_bounded_24 : decode cX9_bounded 24 = .ok (.iload_n 1, 1) := dk_27 (dk_at dksX9_bounded_1 0 rfl rfl)
theorem dX9_bounded_25 : decode cX9_bounded 25 = .ok (.iload_n 2, 1) := dk_28 (dk_at dksX9_bounded_1 1 rfl rfl)
theorem dX9_bounded_26 : decode cX9_bounded 26 = .ok (.if_icmp .ge 7, 3) := dk_162 0 7 (dk_at dksX9_bounded_1 2 rfl rfl)
theorem dX9_bounded_29 : decode cX9_bounded 29 = .ok (.iload_n 2, 1) := dk_28 (dk_at dksX9_bounded_1 5 rfl rfl)
theorem dX9_bounded_30 : decode cX9_bounded 30 = .ok (.goto 13, 3) := dk_167 0 13 (dk_at dksX9_bounded_1 6 rfl rfl)
theorem dX9_bounded_33 : decode cX9_bounded 33 = .ok (.iload_n 1, 1) := dk_27 (dk_at dksX9_bounded_1 9 rfl rfl)
theorem dX9_bounded_34 : decode cX9_bounded 34 = .ok (.iload_n 3, 1) := dk_29 (dk_at dksX9_bounded_1 10 rfl rfl)
theorem dX9_bounded_35 : decode cX9_bounded 35 = .ok (.if_icmp .le 7, 3) := dk_164 0 7 (dk_at dksX9_bounded_1 11 rfl rfl)
theorem dX9_bounded_38 : decode cX9_bounded 38 = .ok (.iload_n 3, 1) := dk_29 (dk_at dksX9_bounded_1 14 rfl rfl)
theorem dX9_bounded_39 : decode cX9_bounded 39 = .ok (.goto 4, 3) := dk_167 0 4 (dk_at dksX9_bounded_1 15 rfl rfl)
theorem dX9_bounded_42 : decode cX9_bounded 42 = .ok (.iload_n 1, 1) := dk_27 (dk_at dksX9_bounded_1 18 rfl rfl)
theorem dX9_bounded_43 : decode cX9_bounded 43 = .ok (.ireturn, 1) := dk_172 (dk_at dksX9_bounded_1 19 rfl rfl)
def dkwX9_why_1 : List UInt8 := [182, 0, 84, 153, 0, 7, 3, 167, 0, 12, 42, 42, 182, 1, 70, 27, 182, 1, 73, 172]
abbrev dktX9_why_1 : List UInt8 := dkwX9_why_1 ++ []
def dkwX9_why_0 : List UInt8 := [42, 3, 181, 0, 73, 42, 27, 155, 0, 9, 27, 16, 8, 161, 0, 7, 4, 167, 0, 4, 3, 4]
abbrev dktX9_why_0 : List UInt8 := dkwX9_why_0 ++ dktX9_why_1
theorem dksX9_why_0 : cX9_why.data.toList.drop 0 = dktX9_why_0 := by decide +kernel
theorem dksX9_why_1 : cX9_why.data.toList.drop 22 = dktX9_why_1 := dk_seg dksX9_why_0 22 rfl rfl
theorem dX9_why_0 : decode cX9_why 0 = .ok (.aload_n 0, 1) := dk_42 (dk_at dksX9_why_0 0 rfl rfl)
theorem dX9_why_1 : decode cX9_why 1 = .ok (.iconst 0, 1) := dk_3 (dk_at dksX9_why_0 1 rfl rfl)
theorem dX9_why_2 : decode cX9_why 2 = .ok (.putfield 73, 3) := dk_181 0 73 (dk_at dksX9_why_0 2 rfl rfl)
theorem dX9_why_5 : decode cX9_why 5 = .ok (.aload_n 0, 1) := dk_42 (dk_at dksX9_why_0 5 rfl rfl)
theorem dX9_why_6 : decode cX9_why 6 = .ok (.iload_n 1, 1) := dk_27 (dk_at dksX9_why_0 6 rfl rfl)
theorem dX9_why_7 : decode cX9_why 7 = .ok (.ifCond .lt 9, 3) := dk_155 0 9 (dk_at dksX9_why_0 7 rfl rfl)
theorem dX9_why_10 : decode cX9_why 10 = .ok (.iload_n 1, 1) := dk_27 (dk_at dksX9_why_0 10 rfl rfl)
theorem dX9_why_11 : decode cX9_why 11 = .ok (.bipush 8, 2) := dk_16 8 (dk_at dksX9_why_0 11 rfl rfl)
theorem dX9_why_13 : decode cX9_why 13 = .ok (.if_icmp .lt 7, 3) := dk_161 0 7 (dk_at dksX9_why_0 13 rfl rfl)
theorem dX9_why_16 : decode cX9_why 16 = .ok (.iconst 1, 1) := dk_4 (dk_at dksX9_why_0 16 rfl rfl)
theorem dX9_why_17 : decode cX9_why 17 = .ok (.goto 4, 3) := dk_167 0 4 (dk_at dksX9_why_0 17 rfl rfl)
theorem dX9_why_20 : decode cX9_why 20 = .ok (.iconst 0, 1) := dk_3 (dk_at dksX9_why_0 20 rfl rfl)
theorem dX9_why_21 : decode cX9_why 21 = .ok (.iconst 1, 1) := dk_4 (dk_at dksX9_why_0 21 rfl rfl)
theorem dX9_why_22 : decode cX9_why 22 = .ok (.invokevirtual 84, 3) := dk_182 0 84 (dk_at dksX9_why_1 0 rfl rfl)
theorem dX9_why_25 : decode cX9_why 25 = .ok (.ifCond .eq 7, 3) := dk_153 0 7 (dk_at dksX9_why_1 3 rfl rfl)
theorem dX9_why_28 : decode cX9_why 28 = .ok (.iconst 0, 1) := dk_3 (dk_at dksX9_why_1 6 rfl rfl)
theorem dX9_why_29 : decode cX9_why 29 = .ok (.goto 12, 3) := dk_167 0 12 (dk_at dksX9_why_1 7 rfl rfl)
theorem dX9_why_32 : decode cX9_why 32 = .ok (.aload_n 0, 1) := dk_42 (dk_at dksX9_why_1 10 rfl rfl)
theorem dX9_why_33 : decode cX9_why 33 = .ok (.aload_n 0, 1) := dk_42 (dk_at dksX9_why_1 11 rfl rfl)
theorem dX9_why_34 : decode cX9_why 34 = .ok (.invokevirtual 326, 3) := dk_182 1 70 (dk_at dksX9_why_1 12 rfl rfl)
theorem dX9_why_37 : decode cX9_why 37 = .ok (.iload_n 1, 1) := dk_27 (dk_at dksX9_why_1 15 rfl rfl)
theorem dX9_why_38 : decode cX9_why 38 = .ok (.invokevirtual 329, 3) := dk_182 1 73 (dk_at dksX9_why_1 16 rfl rfl)
theorem dX9_why_41 : decode cX9_why 41 = .ok (.ireturn, 1) := dk_172 (dk_at dksX9_why_1 19 rfl rfl)
def dkwX9_vote_5 : List UInt8 := [5, 96, 54, 4, 42, 180, 0, 9, 21, 4, 92, 46, 4, 96, 79, 42, 180, 0, 9, 21, 4, 46, 172]
abbrev dktX9_vote_5 : List UInt8 := dkwX9_vote_5 ++ []
def dkwX9_vote_4 : List UInt8 := [16, 100, 27, 104, 28, 96, 4, 84, 17, 6, 32, 16, 6, 27, 104, 96, 29, 153, 0, 7, 4, 167, 0, 4]
abbrev dktX9_vote_4 : List UInt8 := dkwX9_vote_4 ++ dktX9_vote_5
def dkwX9_vote_3 : List UInt8 := [16, 254, 172, 42, 180, 0, 52, 16, 100, 27, 104, 28, 96, 51, 153, 0, 6, 16, 253, 172, 42, 180, 0, 52]
abbrev dktX9_vote_3 : List UInt8 := dkwX9_vote_3 ++ dktX9_vote_4
def dkwX9_vote_2 : List UInt8 := [42, 28, 182, 0, 122, 153, 0, 19, 42, 28, 182, 0, 131, 154, 0, 14, 42, 28, 182, 1, 98, 154, 0, 6]
abbrev dktX9_vote_2 : List UInt8 := dkwX9_vote_2 ++ dktX9_vote_3
def dkwX9_vote_1 : List UInt8 := [167, 0, 4, 3, 4, 182, 0, 84, 153, 0, 5, 3, 172, 42, 27, 3, 182, 1, 61, 153, 0, 5, 2, 172]
abbrev dktX9_vote_1 : List UInt8 := dkwX9_vote_1 ++ dktX9_vote_2
def dkwX9_vote_0 : List UInt8 := [42, 3, 181, 0, 73, 42, 42, 27, 182, 1, 95, 153, 0, 11, 42, 28, 182, 0, 125, 154, 0, 7, 4]
abbrev dktX9_vote_0 : List UInt8 := dkwX9_vote_0 ++ dktX9_vote_1
theorem dksX9_vote_0 : cX9_vote.data.toList.drop 0 = dktX9_vote_0 := by decide +kernel
theorem dksX9_vote_1 : cX9_vote.data.toList.drop 23 = dktX9_vote_1 := dk_seg dksX9_vote_0 23 rfl rfl
theorem dksX9_vote_2 : cX9_vote.data.toList.drop 47 = dktX9_vote_2 := dk_seg dksX9_vote_1 24 rfl rfl
theorem dksX9_vote_3 : cX9_vote.data.toList.drop 71 = dktX9_vote_3 := dk_seg dksX9_vote_2 24 rfl rfl
theorem dksX9_vote_4 : cX9_vote.data.toList.drop 95 = dktX9_vote_4 := dk_seg dksX9_vote_3 24 rfl rfl
theorem dksX9_vote_5 : cX9_vote.data.toList.drop 119 = dktX9_vote_5 := dk_seg dksX9_vote_4 24 rfl rfl
theorem dX9_vote_0 : decode cX9_vote 0 = .ok (.aload_n 0, 1) := dk_42 (dk_at dksX9_vote_0 0 rfl rfl)
theorem dX9_vote_1 : decode cX9_vote 1 = .ok (.iconst 0, 1) := dk_3 (dk_at dksX9_vote_0 1 rfl rfl)
theorem dX9_vote_2 : decode cX9_vote 2 = .ok (.putfield 73, 3) := dk_181 0 73 (dk_at dksX9_vote_0 2 rfl rfl)
theorem dX9_vote_5 : decode cX9_vote 5 = .ok (.aload_n 0, 1) := dk_42 (dk_at dksX9_vote_0 5 rfl rfl)
theorem dX9_vote_6 : decode cX9_vote 6 = .ok (.aload_n 0, 1) := dk_42 (dk_at dksX9_vote_0 6 rfl rfl)
theorem dX9_vote_7 : decode cX9_vote 7 = .ok (.iload_n 1, 1) := dk_27 (dk_at dksX9_vote_0 7 rfl rfl)
theorem dX9_vote_8 : decode cX9_vote 8 = .ok (.invokevirtual 351, 3) := dk_182 1 95 (dk_at dksX9_vote_0 8 rfl rfl)
theorem dX9_vote_11 : decode cX9_vote 11 = .ok (.ifCond .eq 11, 3) := dk_153 0 11 (dk_at dksX9_vote_0 11 rfl rfl)
theorem dX9_vote_14 : decode cX9_vote 14 = .ok (.aload_n 0, 1) := dk_42 (dk_at dksX9_vote_0 14 rfl rfl)
theorem dX9_vote_15 : decode cX9_vote 15 = .ok (.iload_n 2, 1) := dk_28 (dk_at dksX9_vote_0 15 rfl rfl)
theorem dX9_vote_16 : decode cX9_vote 16 = .ok (.invokevirtual 125, 3) := dk_182 0 125 (dk_at dksX9_vote_0 16 rfl rfl)
theorem dX9_vote_19 : decode cX9_vote 19 = .ok (.ifCond .ne 7, 3) := dk_154 0 7 (dk_at dksX9_vote_0 19 rfl rfl)
theorem dX9_vote_22 : decode cX9_vote 22 = .ok (.iconst 1, 1) := dk_4 (dk_at dksX9_vote_0 22 rfl rfl)
theorem dX9_vote_23 : decode cX9_vote 23 = .ok (.goto 4, 3) := dk_167 0 4 (dk_at dksX9_vote_1 0 rfl rfl)
theorem dX9_vote_26 : decode cX9_vote 26 = .ok (.iconst 0, 1) := dk_3 (dk_at dksX9_vote_1 3 rfl rfl)
theorem dX9_vote_27 : decode cX9_vote 27 = .ok (.iconst 1, 1) := dk_4 (dk_at dksX9_vote_1 4 rfl rfl)
theorem dX9_vote_28 : decode cX9_vote 28 = .ok (.invokevirtual 84, 3) := dk_182 0 84 (dk_at dksX9_vote_1 5 rfl rfl)
theorem dX9_vote_31 : decode cX9_vote 31 = .ok (.ifCond .eq 5, 3) := dk_153 0 5 (dk_at dksX9_vote_1 8 rfl rfl)
theorem dX9_vote_34 : decode cX9_vote 34 = .ok (.iconst 0, 1) := dk_3 (dk_at dksX9_vote_1 11 rfl rfl)
theorem dX9_vote_35 : decode cX9_vote 35 = .ok (.ireturn, 1) := dk_172 (dk_at dksX9_vote_1 12 rfl rfl)
theorem dX9_vote_36 : decode cX9_vote 36 = .ok (.aload_n 0, 1) := dk_42 (dk_at dksX9_vote_1 13 rfl rfl)
theorem dX9_vote_37 : decode cX9_vote 37 = .ok (.iload_n 1, 1) := dk_27 (dk_at dksX9_vote_1 14 rfl rfl)
theorem dX9_vote_38 : decode cX9_vote 38 = .ok (.iconst 0, 1) := dk_3 (dk_at dksX9_vote_1 15 rfl rfl)
theorem dX9_vote_39 : decode cX9_vote 39 = .ok (.invokevirtual 317, 3) := dk_182 1 61 (dk_at dksX9_vote_1 16 rfl rfl)
theorem dX9_vote_42 : decode cX9_vote 42 = .ok (.ifCond .eq 5, 3) := dk_153 0 5 (dk_at dksX9_vote_1 19 rfl rfl)
theorem dX9_vote_45 : decode cX9_vote 45 = .ok (.iconst (-1), 1) := dk_2 (dk_at dksX9_vote_1 22 rfl rfl)
theorem dX9_vote_46 : decode cX9_vote 46 = .ok (.ireturn, 1) := dk_172 (dk_at dksX9_vote_1 23 rfl rfl)
theorem dX9_vote_47 : decode cX9_vote 47 = .ok (.aload_n 0, 1) := dk_42 (dk_at dksX9_vote_2 0 rfl rfl)
theorem dX9_vote_48 : decode cX9_vote 48 = .ok (.iload_n 2, 1) := dk_28 (dk_at dksX9_vote_2 1 rfl rfl)
theorem dX9_vote_49 : decode cX9_vote 49 = .ok (.invokevirtual 122, 3) := dk_182 0 122 (dk_at dksX9_vote_2 2 rfl rfl)
theorem dX9_vote_52 : decode cX9_vote 52 = .ok (.ifCond .eq 19, 3) := dk_153 0 19 (dk_at dksX9_vote_2 5 rfl rfl)
theorem dX9_vote_55 : decode cX9_vote 55 = .ok (.aload_n 0, 1) := dk_42 (dk_at dksX9_vote_2 8 rfl rfl)
theorem dX9_vote_56 : decode cX9_vote 56 = .ok (.iload_n 2, 1) := dk_28 (dk_at dksX9_vote_2 9 rfl rfl)
theorem dX9_vote_57 : decode cX9_vote 57 = .ok (.invokevirtual 131, 3) := dk_182 0 131 (dk_at dksX9_vote_2 10 rfl rfl)
theorem dX9_vote_60 : decode cX9_vote 60 = .ok (.ifCond .ne 14, 3) := dk_154 0 14 (dk_at dksX9_vote_2 13 rfl rfl)
theorem dX9_vote_63 : decode cX9_vote 63 = .ok (.aload_n 0, 1) := dk_42 (dk_at dksX9_vote_2 16 rfl rfl)
theorem dX9_vote_64 : decode cX9_vote 64 = .ok (.iload_n 2, 1) := dk_28 (dk_at dksX9_vote_2 17 rfl rfl)
theorem dX9_vote_65 : decode cX9_vote 65 = .ok (.invokevirtual 354, 3) := dk_182 1 98 (dk_at dksX9_vote_2 18 rfl rfl)
theorem dX9_vote_68 : decode cX9_vote 68 = .ok (.ifCond .ne 6, 3) := dk_154 0 6 (dk_at dksX9_vote_2 21 rfl rfl)
theorem dX9_vote_71 : decode cX9_vote 71 = .ok (.bipush (-2), 2) := dk_16 254 (dk_at dksX9_vote_3 0 rfl rfl)
theorem dX9_vote_73 : decode cX9_vote 73 = .ok (.ireturn, 1) := dk_172 (dk_at dksX9_vote_3 2 rfl rfl)
theorem dX9_vote_74 : decode cX9_vote 74 = .ok (.aload_n 0, 1) := dk_42 (dk_at dksX9_vote_3 3 rfl rfl)
theorem dX9_vote_75 : decode cX9_vote 75 = .ok (.getfield 52, 3) := dk_180 0 52 (dk_at dksX9_vote_3 4 rfl rfl)
theorem dX9_vote_78 : decode cX9_vote 78 = .ok (.bipush 100, 2) := dk_16 100 (dk_at dksX9_vote_3 7 rfl rfl)
theorem dX9_vote_80 : decode cX9_vote 80 = .ok (.iload_n 1, 1) := dk_27 (dk_at dksX9_vote_3 9 rfl rfl)
theorem dX9_vote_81 : decode cX9_vote 81 = .ok (.imul, 1) := dk_104 (dk_at dksX9_vote_3 10 rfl rfl)
theorem dX9_vote_82 : decode cX9_vote 82 = .ok (.iload_n 2, 1) := dk_28 (dk_at dksX9_vote_3 11 rfl rfl)
theorem dX9_vote_83 : decode cX9_vote 83 = .ok (.iadd, 1) := dk_96 (dk_at dksX9_vote_3 12 rfl rfl)
theorem dX9_vote_84 : decode cX9_vote 84 = .ok (.baload, 1) := dk_51 (dk_at dksX9_vote_3 13 rfl rfl)
theorem dX9_vote_85 : decode cX9_vote 85 = .ok (.ifCond .eq 6, 3) := dk_153 0 6 (dk_at dksX9_vote_3 14 rfl rfl)
theorem dX9_vote_88 : decode cX9_vote 88 = .ok (.bipush (-3), 2) := dk_16 253 (dk_at dksX9_vote_3 17 rfl rfl)
theorem dX9_vote_90 : decode cX9_vote 90 = .ok (.ireturn, 1) := dk_172 (dk_at dksX9_vote_3 19 rfl rfl)
theorem dX9_vote_91 : decode cX9_vote 91 = .ok (.aload_n 0, 1) := dk_42 (dk_at dksX9_vote_3 20 rfl rfl)
theorem dX9_vote_92 : decode cX9_vote 92 = .ok (.getfield 52, 3) := dk_180 0 52 (dk_at dksX9_vote_3 21 rfl rfl)
theorem dX9_vote_95 : decode cX9_vote 95 = .ok (.bipush 100, 2) := dk_16 100 (dk_at dksX9_vote_4 0 rfl rfl)
theorem dX9_vote_97 : decode cX9_vote 97 = .ok (.iload_n 1, 1) := dk_27 (dk_at dksX9_vote_4 2 rfl rfl)
theorem dX9_vote_98 : decode cX9_vote 98 = .ok (.imul, 1) := dk_104 (dk_at dksX9_vote_4 3 rfl rfl)
theorem dX9_vote_99 : decode cX9_vote 99 = .ok (.iload_n 2, 1) := dk_28 (dk_at dksX9_vote_4 4 rfl rfl)
theorem dX9_vote_100 : decode cX9_vote 100 = .ok (.iadd, 1) := dk_96 (dk_at dksX9_vote_4 5 rfl rfl)
theorem dX9_vote_101 : decode cX9_vote 101 = .ok (.iconst 1, 1) := dk_4 (dk_at dksX9_vote_4 6 rfl rfl)
theorem dX9_vote_102 : decode cX9_vote 102 = .ok (.bastore, 1) := dk_84 (dk_at dksX9_vote_4 7 rfl rfl)
theorem dX9_vote_103 : decode cX9_vote 103 = .ok (.sipush 1568, 3) := dk_17 6 32 (dk_at dksX9_vote_4 8 rfl rfl)
theorem dX9_vote_106 : decode cX9_vote 106 = .ok (.bipush 6, 2) := dk_16 6 (dk_at dksX9_vote_4 11 rfl rfl)
theorem dX9_vote_108 : decode cX9_vote 108 = .ok (.iload_n 1, 1) := dk_27 (dk_at dksX9_vote_4 13 rfl rfl)
theorem dX9_vote_109 : decode cX9_vote 109 = .ok (.imul, 1) := dk_104 (dk_at dksX9_vote_4 14 rfl rfl)
theorem dX9_vote_110 : decode cX9_vote 110 = .ok (.iadd, 1) := dk_96 (dk_at dksX9_vote_4 15 rfl rfl)
theorem dX9_vote_111 : decode cX9_vote 111 = .ok (.iload_n 3, 1) := dk_29 (dk_at dksX9_vote_4 16 rfl rfl)
theorem dX9_vote_112 : decode cX9_vote 112 = .ok (.ifCond .eq 7, 3) := dk_153 0 7 (dk_at dksX9_vote_4 17 rfl rfl)
theorem dX9_vote_115 : decode cX9_vote 115 = .ok (.iconst 1, 1) := dk_4 (dk_at dksX9_vote_4 20 rfl rfl)
theorem dX9_vote_116 : decode cX9_vote 116 = .ok (.goto 4, 3) := dk_167 0 4 (dk_at dksX9_vote_4 21 rfl rfl)
theorem dX9_vote_119 : decode cX9_vote 119 = .ok (.iconst 2, 1) := dk_5 (dk_at dksX9_vote_5 0 rfl rfl)
theorem dX9_vote_120 : decode cX9_vote 120 = .ok (.iadd, 1) := dk_96 (dk_at dksX9_vote_5 1 rfl rfl)
theorem dX9_vote_121 : decode cX9_vote 121 = .ok (.istore 4, 2) := dk_54 4 (dk_at dksX9_vote_5 2 rfl rfl)
theorem dX9_vote_123 : decode cX9_vote 123 = .ok (.aload_n 0, 1) := dk_42 (dk_at dksX9_vote_5 4 rfl rfl)
theorem dX9_vote_124 : decode cX9_vote 124 = .ok (.getfield 9, 3) := dk_180 0 9 (dk_at dksX9_vote_5 5 rfl rfl)
theorem dX9_vote_127 : decode cX9_vote 127 = .ok (.iload 4, 2) := dk_21 4 (dk_at dksX9_vote_5 8 rfl rfl)
theorem dX9_vote_129 : decode cX9_vote 129 = .ok (.dup2, 1) := dk_92 (dk_at dksX9_vote_5 10 rfl rfl)
theorem dX9_vote_130 : decode cX9_vote 130 = .ok (.iaload, 1) := dk_46 (dk_at dksX9_vote_5 11 rfl rfl)
theorem dX9_vote_131 : decode cX9_vote 131 = .ok (.iconst 1, 1) := dk_4 (dk_at dksX9_vote_5 12 rfl rfl)
theorem dX9_vote_132 : decode cX9_vote 132 = .ok (.iadd, 1) := dk_96 (dk_at dksX9_vote_5 13 rfl rfl)
theorem dX9_vote_133 : decode cX9_vote 133 = .ok (.iastore, 1) := dk_79 (dk_at dksX9_vote_5 14 rfl rfl)
theorem dX9_vote_134 : decode cX9_vote 134 = .ok (.aload_n 0, 1) := dk_42 (dk_at dksX9_vote_5 15 rfl rfl)
theorem dX9_vote_135 : decode cX9_vote 135 = .ok (.getfield 9, 3) := dk_180 0 9 (dk_at dksX9_vote_5 16 rfl rfl)
theorem dX9_vote_138 : decode cX9_vote 138 = .ok (.iload 4, 2) := dk_21 4 (dk_at dksX9_vote_5 19 rfl rfl)
theorem dX9_vote_140 : decode cX9_vote 140 = .ok (.iaload, 1) := dk_46 (dk_at dksX9_vote_5 21 rfl rfl)
theorem dX9_vote_141 : decode cX9_vote 141 = .ok (.ireturn, 1) := dk_172 (dk_at dksX9_vote_5 22 rfl rfl)
def dkwX9_isLaw_0 : List UInt8 := [27, 155, 0, 19, 27, 42, 180, 0, 9, 17, 8, 77, 46, 162, 0, 7, 4, 167, 0, 4, 3, 172]
abbrev dktX9_isLaw_0 : List UInt8 := dkwX9_isLaw_0 ++ []
theorem dksX9_isLaw_0 : cX9_isLaw.data.toList.drop 0 = dktX9_isLaw_0 := by decide +kernel
theorem dX9_isLaw_0 : decode cX9_isLaw 0 = .ok (.iload_n 1, 1) := dk_27 (dk_at dksX9_isLaw_0 0 rfl rfl)
theorem dX9_isLaw_1 : decode cX9_isLaw 1 = .ok (.ifCond .lt 19, 3) := dk_155 0 19 (dk_at dksX9_isLaw_0 1 rfl rfl)
theorem dX9_isLaw_4 : decode cX9_isLaw 4 = .ok (.iload_n 1, 1) := dk_27 (dk_at dksX9_isLaw_0 4 rfl rfl)
theorem dX9_isLaw_5 : decode cX9_isLaw 5 = .ok (.aload_n 0, 1) := dk_42 (dk_at dksX9_isLaw_0 5 rfl rfl)
theorem dX9_isLaw_6 : decode cX9_isLaw 6 = .ok (.getfield 9, 3) := dk_180 0 9 (dk_at dksX9_isLaw_0 6 rfl rfl)
theorem dX9_isLaw_9 : decode cX9_isLaw 9 = .ok (.sipush 2125, 3) := dk_17 8 77 (dk_at dksX9_isLaw_0 9 rfl rfl)
theorem dX9_isLaw_12 : decode cX9_isLaw 12 = .ok (.iaload, 1) := dk_46 (dk_at dksX9_isLaw_0 12 rfl rfl)
theorem dX9_isLaw_13 : decode cX9_isLaw 13 = .ok (.if_icmp .ge 7, 3) := dk_162 0 7 (dk_at dksX9_isLaw_0 13 rfl rfl)
theorem dX9_isLaw_16 : decode cX9_isLaw 16 = .ok (.iconst 1, 1) := dk_4 (dk_at dksX9_isLaw_0 16 rfl rfl)
theorem dX9_isLaw_17 : decode cX9_isLaw 17 = .ok (.goto 4, 3) := dk_167 0 4 (dk_at dksX9_isLaw_0 17 rfl rfl)
theorem dX9_isLaw_20 : decode cX9_isLaw 20 = .ok (.iconst 0, 1) := dk_3 (dk_at dksX9_isLaw_0 20 rfl rfl)
theorem dX9_isLaw_21 : decode cX9_isLaw 21 = .ok (.ireturn, 1) := dk_172 (dk_at dksX9_isLaw_0 21 rfl rfl)
def dkwX9_hasAcre_1 : List UInt8 := [27, 160, 0, 5, 4, 172, 132, 2, 1, 167, 255, 225, 3, 172]
abbrev dktX9_hasAcre_1 : List UInt8 := dkwX9_hasAcre_1 ++ []
def dkwX9_hasAcre_0 : List UInt8 := [3, 61, 28, 42, 180, 0, 9, 17, 8, 83, 46, 162, 0, 25, 42, 180, 0, 9, 17, 8, 32, 28, 96, 46]
abbrev dktX9_hasAcre_0 : List UInt8 := dkwX9_hasAcre_0 ++ dktX9_hasAcre_1
theorem dksX9_hasAcre_0 : cX9_hasAcre.data.toList.drop 0 = dktX9_hasAcre_0 := by decide +kernel
theorem dksX9_hasAcre_1 : cX9_hasAcre.data.toList.drop 24 = dktX9_hasAcre_1 := dk_seg dksX9_hasAcre_0 24 rfl rfl
theorem dX9_hasAcre_0 : decode cX9_hasAcre 0 = .ok (.iconst 0, 1) := dk_3 (dk_at dksX9_hasAcre_0 0 rfl rfl)
theorem dX9_hasAcre_1 : decode cX9_hasAcre 1 = .ok (.istore_n 2, 1) := dk_61 (dk_at dksX9_hasAcre_0 1 rfl rfl)
theorem dX9_hasAcre_2 : decode cX9_hasAcre 2 = .ok (.iload_n 2, 1) := dk_28 (dk_at dksX9_hasAcre_0 2 rfl rfl)
theorem dX9_hasAcre_3 : decode cX9_hasAcre 3 = .ok (.aload_n 0, 1) := dk_42 (dk_at dksX9_hasAcre_0 3 rfl rfl)
theorem dX9_hasAcre_4 : decode cX9_hasAcre 4 = .ok (.getfield 9, 3) := dk_180 0 9 (dk_at dksX9_hasAcre_0 4 rfl rfl)
theorem dX9_hasAcre_7 : decode cX9_hasAcre 7 = .ok (.sipush 2131, 3) := dk_17 8 83 (dk_at dksX9_hasAcre_0 7 rfl rfl)
theorem dX9_hasAcre_10 : decode cX9_hasAcre 10 = .ok (.iaload, 1) := dk_46 (dk_at dksX9_hasAcre_0 10 rfl rfl)
theorem dX9_hasAcre_11 : decode cX9_hasAcre 11 = .ok (.if_icmp .ge 25, 3) := dk_162 0 25 (dk_at dksX9_hasAcre_0 11 rfl rfl)
theorem dX9_hasAcre_14 : decode cX9_hasAcre 14 = .ok (.aload_n 0, 1) := dk_42 (dk_at dksX9_hasAcre_0 14 rfl rfl)
theorem dX9_hasAcre_15 : decode cX9_hasAcre 15 = .ok (.getfield 9, 3) := dk_180 0 9 (dk_at dksX9_hasAcre_0 15 rfl rfl)
theorem dX9_hasAcre_18 : decode cX9_hasAcre 18 = .ok (.sipush 2080, 3) := dk_17 8 32 (dk_at dksX9_hasAcre_0 18 rfl rfl)
theorem dX9_hasAcre_21 : decode cX9_hasAcre 21 = .ok (.iload_n 2, 1) := dk_28 (dk_at dksX9_hasAcre_0 21 rfl rfl)
theorem dX9_hasAcre_22 : decode cX9_hasAcre 22 = .ok (.iadd, 1) := dk_96 (dk_at dksX9_hasAcre_0 22 rfl rfl)
theorem dX9_hasAcre_23 : decode cX9_hasAcre 23 = .ok (.iaload, 1) := dk_46 (dk_at dksX9_hasAcre_0 23 rfl rfl)
theorem dX9_hasAcre_24 : decode cX9_hasAcre 24 = .ok (.iload_n 1, 1) := dk_27 (dk_at dksX9_hasAcre_1 0 rfl rfl)
theorem dX9_hasAcre_25 : decode cX9_hasAcre 25 = .ok (.if_icmp .ne 5, 3) := dk_160 0 5 (dk_at dksX9_hasAcre_1 1 rfl rfl)
theorem dX9_hasAcre_28 : decode cX9_hasAcre 28 = .ok (.iconst 1, 1) := dk_4 (dk_at dksX9_hasAcre_1 4 rfl rfl)
theorem dX9_hasAcre_29 : decode cX9_hasAcre 29 = .ok (.ireturn, 1) := dk_172 (dk_at dksX9_hasAcre_1 5 rfl rfl)
theorem dX9_hasAcre_30 : decode cX9_hasAcre 30 = .ok (.iinc 2 1, 3) := dk_132 2 1 (dk_at dksX9_hasAcre_1 6 rfl rfl)
theorem dX9_hasAcre_33 : decode cX9_hasAcre 33 = .ok (.goto (-31), 3) := dk_167 255 225 (dk_at dksX9_hasAcre_1 9 rfl rfl)
theorem dX9_hasAcre_36 : decode cX9_hasAcre 36 = .ok (.iconst 0, 1) := dk_3 (dk_at dksX9_hasAcre_1 12 rfl rfl)
theorem dX9_hasAcre_37 : decode cX9_hasAcre 37 = .ok (.ireturn, 1) := dk_172 (dk_at dksX9_hasAcre_1 13 rfl rfl)
def dkwX9_close_5 : List UInt8 := [29, 153, 0, 7, 5, 167, 0, 4, 4, 172]
abbrev dktX9_close_5 : List UInt8 := dkwX9_close_5 ++ []
def dkwX9_close_4 : List UInt8 := [79, 42, 180, 0, 9, 17, 6, 32, 16, 6, 27, 104, 96, 6, 96, 42, 180, 0, 9, 17, 8, 68, 46, 79]
abbrev dktX9_close_4 : List UInt8 := dkwX9_close_4 ++ dktX9_close_5
def dkwX9_close_3 : List UInt8 := [62, 42, 180, 0, 9, 17, 6, 32, 16, 6, 27, 104, 96, 3, 96, 29, 153, 0, 7, 5, 167, 0, 4, 4]
abbrev dktX9_close_3 : List UInt8 := dkwX9_close_3 ++ dktX9_close_4
def dkwX9_close_2 : List UInt8 := [42, 27, 5, 182, 1, 61, 164, 0, 17, 28, 42, 8, 3, 182, 1, 92, 161, 0, 7, 4, 167, 0, 4, 3]
abbrev dktX9_close_2 : List UInt8 := dkwX9_close_2 ++ dktX9_close_3
def dkwX9_close_1 : List UInt8 := [153, 0, 5, 3, 172, 42, 27, 3, 182, 1, 61, 153, 0, 5, 2, 172, 42, 27, 4, 182, 1, 61, 61, 28]
abbrev dktX9_close_1 : List UInt8 := dkwX9_close_1 ++ dktX9_close_2
def dkwX9_close_0 : List UInt8 := [42, 3, 181, 0, 73, 42, 42, 27, 182, 1, 95, 154, 0, 7, 4, 167, 0, 4, 3, 4, 182, 0, 84]
abbrev dktX9_close_0 : List UInt8 := dkwX9_close_0 ++ dktX9_close_1
theorem dksX9_close_0 : cX9_close.data.toList.drop 0 = dktX9_close_0 := by decide +kernel
theorem dksX9_close_1 : cX9_close.data.toList.drop 23 = dktX9_close_1 := dk_seg dksX9_close_0 23 rfl rfl
theorem dksX9_close_2 : cX9_close.data.toList.drop 47 = dktX9_close_2 := dk_seg dksX9_close_1 24 rfl rfl
theorem dksX9_close_3 : cX9_close.data.toList.drop 71 = dktX9_close_3 := dk_seg dksX9_close_2 24 rfl rfl
theorem dksX9_close_4 : cX9_close.data.toList.drop 95 = dktX9_close_4 := dk_seg dksX9_close_3 24 rfl rfl
theorem dksX9_close_5 : cX9_close.data.toList.drop 119 = dktX9_close_5 := dk_seg dksX9_close_4 24 rfl rfl
theorem dX9_close_0 : decode cX9_close 0 = .ok (.aload_n 0, 1) := dk_42 (dk_at dksX9_close_0 0 rfl rfl)
theorem dX9_close_1 : decode cX9_close 1 = .ok (.iconst 0, 1) := dk_3 (dk_at dksX9_close_0 1 rfl rfl)
theorem dX9_close_2 : decode cX9_close 2 = .ok (.putfield 73, 3) := dk_181 0 73 (dk_at dksX9_close_0 2 rfl rfl)
theorem dX9_close_5 : decode cX9_close 5 = .ok (.aload_n 0, 1) := dk_42 (dk_at dksX9_close_0 5 rfl rfl)
theorem dX9_close_6 : decode cX9_close 6 = .ok (.aload_n 0, 1) := dk_42 (dk_at dksX9_close_0 6 rfl rfl)
theorem dX9_close_7 : decode cX9_close 7 = .ok (.iload_n 1, 1) := dk_27 (dk_at dksX9_close_0 7 rfl rfl)
theorem dX9_close_8 : decode cX9_close 8 = .ok (.invokevirtual 351, 3) := dk_182 1 95 (dk_at dksX9_close_0 8 rfl rfl)
theorem dX9_close_11 : decode cX9_close 11 = .ok (.ifCond .ne 7, 3) := dk_154 0 7 (dk_at dksX9_close_0 11 rfl rfl)
theorem dX9_close_14 : decode cX9_close 14 = .ok (.iconst 1, 1) := dk_4 (dk_at dksX9_close_0 14 rfl rfl)
theorem dX9_close_15 : decode cX9_close 15 = .ok (.goto 4, 3) := dk_167 0 4 (dk_at dksX9_close_0 15 rfl rfl)
theorem dX9_close_18 : decode cX9_close 18 = .ok (.iconst 0, 1) := dk_3 (dk_at dksX9_close_0 18 rfl rfl)
theorem dX9_close_19 : decode cX9_close 19 = .ok (.iconst 1, 1) := dk_4 (dk_at dksX9_close_0 19 rfl rfl)
theorem dX9_close_20 : decode cX9_close 20 = .ok (.invokevirtual 84, 3) := dk_182 0 84 (dk_at dksX9_close_0 20 rfl rfl)
theorem dX9_close_23 : decode cX9_close 23 = .ok (.ifCond .eq 5, 3) := dk_153 0 5 (dk_at dksX9_close_1 0 rfl rfl)
theorem dX9_close_26 : decode cX9_close 26 = .ok (.iconst 0, 1) := dk_3 (dk_at dksX9_close_1 3 rfl rfl)
theorem dX9_close_27 : decode cX9_close 27 = .ok (.ireturn, 1) := dk_172 (dk_at dksX9_close_1 4 rfl rfl)
theorem dX9_close_28 : decode cX9_close 28 = .ok (.aload_n 0, 1) := dk_42 (dk_at dksX9_close_1 5 rfl rfl)
theorem dX9_close_29 : decode cX9_close 29 = .ok (.iload_n 1, 1) := dk_27 (dk_at dksX9_close_1 6 rfl rfl)
theorem dX9_close_30 : decode cX9_close 30 = .ok (.iconst 0, 1) := dk_3 (dk_at dksX9_close_1 7 rfl rfl)
theorem dX9_close_31 : decode cX9_close 31 = .ok (.invokevirtual 317, 3) := dk_182 1 61 (dk_at dksX9_close_1 8 rfl rfl)
theorem dX9_close_34 : decode cX9_close 34 = .ok (.ifCond .eq 5, 3) := dk_153 0 5 (dk_at dksX9_close_1 11 rfl rfl)
theorem dX9_close_37 : decode cX9_close 37 = .ok (.iconst (-1), 1) := dk_2 (dk_at dksX9_close_1 14 rfl rfl)
theorem dX9_close_38 : decode cX9_close 38 = .ok (.ireturn, 1) := dk_172 (dk_at dksX9_close_1 15 rfl rfl)
theorem dX9_close_39 : decode cX9_close 39 = .ok (.aload_n 0, 1) := dk_42 (dk_at dksX9_close_1 16 rfl rfl)
theorem dX9_close_40 : decode cX9_close 40 = .ok (.iload_n 1, 1) := dk_27 (dk_at dksX9_close_1 17 rfl rfl)
theorem dX9_close_41 : decode cX9_close 41 = .ok (.iconst 1, 1) := dk_4 (dk_at dksX9_close_1 18 rfl rfl)
theorem dX9_close_42 : decode cX9_close 42 = .ok (.invokevirtual 317, 3) := dk_182 1 61 (dk_at dksX9_close_1 19 rfl rfl)
theorem dX9_close_45 : decode cX9_close 45 = .ok (.istore_n 2, 1) := dk_61 (dk_at dksX9_close_1 22 rfl rfl)
theorem dX9_close_46 : decode cX9_close 46 = .ok (.iload_n 2, 1) := dk_28 (dk_at dksX9_close_1 23 rfl rfl)
theorem dX9_close_47 : decode cX9_close 47 = .ok (.aload_n 0, 1) := dk_42 (dk_at dksX9_close_2 0 rfl rfl)
theorem dX9_close_48 : decode cX9_close 48 = .ok (.iload_n 1, 1) := dk_27 (dk_at dksX9_close_2 1 rfl rfl)
theorem dX9_close_49 : decode cX9_close 49 = .ok (.iconst 2, 1) := dk_5 (dk_at dksX9_close_2 2 rfl rfl)
theorem dX9_close_50 : decode cX9_close 50 = .ok (.invokevirtual 317, 3) := dk_182 1 61 (dk_at dksX9_close_2 3 rfl rfl)
theorem dX9_close_53 : decode cX9_close 53 = .ok (.if_icmp .le 17, 3) := dk_164 0 17 (dk_at dksX9_close_2 6 rfl rfl)
theorem dX9_close_56 : decode cX9_close 56 = .ok (.iload_n 2, 1) := dk_28 (dk_at dksX9_close_2 9 rfl rfl)
theorem dX9_close_57 : decode cX9_close 57 = .ok (.aload_n 0, 1) := dk_42 (dk_at dksX9_close_2 10 rfl rfl)
theorem dX9_close_58 : decode cX9_close 58 = .ok (.iconst 5, 1) := dk_8 (dk_at dksX9_close_2 11 rfl rfl)
theorem dX9_close_59 : decode cX9_close 59 = .ok (.iconst 0, 1) := dk_3 (dk_at dksX9_close_2 12 rfl rfl)
theorem dX9_close_60 : decode cX9_close 60 = .ok (.invokevirtual 348, 3) := dk_182 1 92 (dk_at dksX9_close_2 13 rfl rfl)
theorem dX9_close_63 : decode cX9_close 63 = .ok (.if_icmp .lt 7, 3) := dk_161 0 7 (dk_at dksX9_close_2 16 rfl rfl)
theorem dX9_close_66 : decode cX9_close 66 = .ok (.iconst 1, 1) := dk_4 (dk_at dksX9_close_2 19 rfl rfl)
theorem dX9_close_67 : decode cX9_close 67 = .ok (.goto 4, 3) := dk_167 0 4 (dk_at dksX9_close_2 20 rfl rfl)
theorem dX9_close_70 : decode cX9_close 70 = .ok (.iconst 0, 1) := dk_3 (dk_at dksX9_close_2 23 rfl rfl)
theorem dX9_close_71 : decode cX9_close 71 = .ok (.istore_n 3, 1) := dk_62 (dk_at dksX9_close_3 0 rfl rfl)
theorem dX9_close_72 : decode cX9_close 72 = .ok (.aload_n 0, 1) := dk_42 (dk_at dksX9_close_3 1 rfl rfl)
theorem dX9_close_73 : decode cX9_close 73 = .ok (.getfield 9, 3) := dk_180 0 9 (dk_at dksX9_close_3 2 rfl rfl)
theorem dX9_close_76 : decode cX9_close 76 = .ok (.sipush 1568, 3) := dk_17 6 32 (dk_at dksX9_close_3 5 rfl rfl)
theorem dX9_close_79 : decode cX9_close 79 = .ok (.bipush 6, 2) := dk_16 6 (dk_at dksX9_close_3 8 rfl rfl)
theorem dX9_close_81 : decode cX9_close 81 = .ok (.iload_n 1, 1) := dk_27 (dk_at dksX9_close_3 10 rfl rfl)
theorem dX9_close_82 : decode cX9_close 82 = .ok (.imul, 1) := dk_104 (dk_at dksX9_close_3 11 rfl rfl)
theorem dX9_close_83 : decode cX9_close 83 = .ok (.iadd, 1) := dk_96 (dk_at dksX9_close_3 12 rfl rfl)
theorem dX9_close_84 : decode cX9_close 84 = .ok (.iconst 0, 1) := dk_3 (dk_at dksX9_close_3 13 rfl rfl)
theorem dX9_close_85 : decode cX9_close 85 = .ok (.iadd, 1) := dk_96 (dk_at dksX9_close_3 14 rfl rfl)
theorem dX9_close_86 : decode cX9_close 86 = .ok (.iload_n 3, 1) := dk_29 (dk_at dksX9_close_3 15 rfl rfl)
theorem dX9_close_87 : decode cX9_close 87 = .ok (.ifCond .eq 7, 3) := dk_153 0 7 (dk_at dksX9_close_3 16 rfl rfl)
theorem dX9_close_90 : decode cX9_close 90 = .ok (.iconst 2, 1) := dk_5 (dk_at dksX9_close_3 19 rfl rfl)
theorem dX9_close_91 : decode cX9_close 91 = .ok (.goto 4, 3) := dk_167 0 4 (dk_at dksX9_close_3 20 rfl rfl)
theorem dX9_close_94 : decode cX9_close 94 = .ok (.iconst 1, 1) := dk_4 (dk_at dksX9_close_3 23 rfl rfl)
theorem dX9_close_95 : decode cX9_close 95 = .ok (.iastore, 1) := dk_79 (dk_at dksX9_close_4 0 rfl rfl)
theorem dX9_close_96 : decode cX9_close 96 = .ok (.aload_n 0, 1) := dk_42 (dk_at dksX9_close_4 1 rfl rfl)
theorem dX9_close_97 : decode cX9_close 97 = .ok (.getfield 9, 3) := dk_180 0 9 (dk_at dksX9_close_4 2 rfl rfl)
theorem dX9_close_100 : decode cX9_close 100 = .ok (.sipush 1568, 3) := dk_17 6 32 (dk_at dksX9_close_4 5 rfl rfl)
theorem dX9_close_103 : decode cX9_close 103 = .ok (.bipush 6, 2) := dk_16 6 (dk_at dksX9_close_4 8 rfl rfl)
theorem dX9_close_105 : decode cX9_close 105 = .ok (.iload_n 1, 1) := dk_27 (dk_at dksX9_close_4 10 rfl rfl)
theorem dX9_close_106 : decode cX9_close 106 = .ok (.imul, 1) := dk_104 (dk_at dksX9_close_4 11 rfl rfl)
theorem dX9_close_107 : decode cX9_close 107 = .ok (.iadd, 1) := dk_96 (dk_at dksX9_close_4 12 rfl rfl)
theorem dX9_close_108 : decode cX9_close 108 = .ok (.iconst 3, 1) := dk_6 (dk_at dksX9_close_4 13 rfl rfl)
theorem dX9_close_109 : decode cX9_close 109 = .ok (.iadd, 1) := dk_96 (dk_at dksX9_close_4 14 rfl rfl)
theorem dX9_close_110 : decode cX9_close 110 = .ok (.aload_n 0, 1) := dk_42 (dk_at dksX9_close_4 15 rfl rfl)
theorem dX9_close_111 : decode cX9_close 111 = .ok (.getfield 9, 3) := dk_180 0 9 (dk_at dksX9_close_4 16 rfl rfl)
theorem dX9_close_114 : decode cX9_close 114 = .ok (.sipush 2116, 3) := dk_17 8 68 (dk_at dksX9_close_4 19 rfl rfl)
theorem dX9_close_117 : decode cX9_close 117 = .ok (.iaload, 1) := dk_46 (dk_at dksX9_close_4 22 rfl rfl)
theorem dX9_close_118 : decode cX9_close 118 = .ok (.iastore, 1) := dk_79 (dk_at dksX9_close_4 23 rfl rfl)
theorem dX9_close_119 : decode cX9_close 119 = .ok (.iload_n 3, 1) := dk_29 (dk_at dksX9_close_5 0 rfl rfl)
theorem dX9_close_120 : decode cX9_close 120 = .ok (.ifCond .eq 7, 3) := dk_153 0 7 (dk_at dksX9_close_5 1 rfl rfl)
theorem dX9_close_123 : decode cX9_close 123 = .ok (.iconst 2, 1) := dk_5 (dk_at dksX9_close_5 4 rfl rfl)
theorem dX9_close_124 : decode cX9_close 124 = .ok (.goto 4, 3) := dk_167 0 4 (dk_at dksX9_close_5 5 rfl rfl)
theorem dX9_close_127 : decode cX9_close 127 = .ok (.iconst 1, 1) := dk_4 (dk_at dksX9_close_5 8 rfl rfl)
theorem dX9_close_128 : decode cX9_close 128 = .ok (.ireturn, 1) := dk_172 (dk_at dksX9_close_5 9 rfl rfl)
def dkwX9_assent_5 : List UInt8 := [17, 8, 68, 46, 16, 34, 96, 79, 42, 180, 0, 9, 17, 8, 68, 46, 16, 34, 96, 172]
abbrev dktX9_assent_5 : List UInt8 := dkwX9_assent_5 ++ []
def dkwX9_assent_4 : List UInt8 := [4, 167, 0, 4, 5, 79, 42, 180, 0, 9, 17, 6, 32, 16, 6, 27, 104, 96, 8, 96, 42, 180, 0, 9]
abbrev dktX9_assent_4 : List UInt8 := dkwX9_assent_4 ++ dktX9_assent_5
def dkwX9_assent_3 : List UInt8 := [158, 0, 6, 16, 253, 172, 42, 180, 0, 9, 17, 6, 32, 16, 6, 27, 104, 96, 7, 96, 28, 153, 0, 7]
abbrev dktX9_assent_3 : List UInt8 := dkwX9_assent_3 ++ dktX9_assent_4
def dkwX9_assent_2 : List UInt8 := [46, 42, 27, 6, 182, 1, 61, 16, 34, 96, 162, 0, 6, 16, 254, 172, 42, 27, 7, 182, 1, 61]
abbrev dktX9_assent_2 : List UInt8 := dkwX9_assent_2 ++ dktX9_assent_3
def dkwX9_assent_1 : List UInt8 := [153, 0, 5, 3, 172, 42, 27, 3, 182, 1, 61, 5, 159, 0, 5, 2, 172, 42, 180, 0, 9, 17, 8, 68]
abbrev dktX9_assent_1 : List UInt8 := dkwX9_assent_1 ++ dktX9_assent_2
def dkwX9_assent_0 : List UInt8 := [42, 3, 181, 0, 73, 42, 42, 27, 182, 1, 95, 154, 0, 7, 4, 167, 0, 4, 3, 4, 182, 0, 84]
abbrev dktX9_assent_0 : List UInt8 := dkwX9_assent_0 ++ dktX9_assent_1
theorem dksX9_assent_0 : cX9_assent.data.toList.drop 0 = dktX9_assent_0 := by decide +kernel
theorem dksX9_assent_1 : cX9_assent.data.toList.drop 23 = dktX9_assent_1 := dk_seg dksX9_assent_0 23 rfl rfl
theorem dksX9_assent_2 : cX9_assent.data.toList.drop 47 = dktX9_assent_2 := dk_seg dksX9_assent_1 24 rfl rfl
theorem dksX9_assent_3 : cX9_assent.data.toList.drop 69 = dktX9_assent_3 := dk_seg dksX9_assent_2 22 rfl rfl
theorem dksX9_assent_4 : cX9_assent.data.toList.drop 93 = dktX9_assent_4 := dk_seg dksX9_assent_3 24 rfl rfl
theorem dksX9_assent_5 : cX9_assent.data.toList.drop 117 = dktX9_assent_5 := dk_seg dksX9_assent_4 24 rfl rfl
theorem dX9_assent_0 : decode cX9_assent 0 = .ok (.aload_n 0, 1) := dk_42 (dk_at dksX9_assent_0 0 rfl rfl)
theorem dX9_assent_1 : decode cX9_assent 1 = .ok (.iconst 0, 1) := dk_3 (dk_at dksX9_assent_0 1 rfl rfl)
theorem dX9_assent_2 : decode cX9_assent 2 = .ok (.putfield 73, 3) := dk_181 0 73 (dk_at dksX9_assent_0 2 rfl rfl)
theorem dX9_assent_5 : decode cX9_assent 5 = .ok (.aload_n 0, 1) := dk_42 (dk_at dksX9_assent_0 5 rfl rfl)
theorem dX9_assent_6 : decode cX9_assent 6 = .ok (.aload_n 0, 1) := dk_42 (dk_at dksX9_assent_0 6 rfl rfl)
theorem dX9_assent_7 : decode cX9_assent 7 = .ok (.iload_n 1, 1) := dk_27 (dk_at dksX9_assent_0 7 rfl rfl)
theorem dX9_assent_8 : decode cX9_assent 8 = .ok (.invokevirtual 351, 3) := dk_182 1 95 (dk_at dksX9_assent_0 8 rfl rfl)
theorem dX9_assent_11 : decode cX9_assent 11 = .ok (.ifCond .ne 7, 3) := dk_154 0 7 (dk_at dksX9_assent_0 11 rfl rfl)
theorem dX9_assent_14 : decode cX9_assent 14 = .ok (.iconst 1, 1) := dk_4 (dk_at dksX9_assent_0 14 rfl rfl)
theorem dX9_assent_15 : decode cX9_assent 15 = .ok (.goto 4, 3) := dk_167 0 4 (dk_at dksX9_assent_0 15 rfl rfl)
theorem dX9_assent_18 : decode cX9_assent 18 = .ok (.iconst 0, 1) := dk_3 (dk_at dksX9_assent_0 18 rfl rfl)
theorem dX9_assent_19 : decode cX9_assent 19 = .ok (.iconst 1, 1) := dk_4 (dk_at dksX9_assent_0 19 rfl rfl)
theorem dX9_assent_20 : decode cX9_assent 20 = .ok (.invokevirtual 84, 3) := dk_182 0 84 (dk_at dksX9_assent_0 20 rfl rfl)
theorem dX9_assent_23 : decode cX9_assent 23 = .ok (.ifCond .eq 5, 3) := dk_153 0 5 (dk_at dksX9_assent_1 0 rfl rfl)
theorem dX9_assent_26 : decode cX9_assent 26 = .ok (.iconst 0, 1) := dk_3 (dk_at dksX9_assent_1 3 rfl rfl)
theorem dX9_assent_27 : decode cX9_assent 27 = .ok (.ireturn, 1) := dk_172 (dk_at dksX9_assent_1 4 rfl rfl)
theorem dX9_assent_28 : decode cX9_assent 28 = .ok (.aload_n 0, 1) := dk_42 (dk_at dksX9_assent_1 5 rfl rfl)
theorem dX9_assent_29 : decode cX9_assent 29 = .ok (.iload_n 1, 1) := dk_27 (dk_at dksX9_assent_1 6 rfl rfl)
theorem dX9_assent_30 : decode cX9_assent 30 = .ok (.iconst 0, 1) := dk_3 (dk_at dksX9_assent_1 7 rfl rfl)
theorem dX9_assent_31 : decode cX9_assent 31 = .ok (.invokevirtual 317, 3) := dk_182 1 61 (dk_at dksX9_assent_1 8 rfl rfl)
theorem dX9_assent_34 : decode cX9_assent 34 = .ok (.iconst 2, 1) := dk_5 (dk_at dksX9_assent_1 11 rfl rfl)
theorem dX9_assent_35 : decode cX9_assent 35 = .ok (.if_icmp .eq 5, 3) := dk_159 0 5 (dk_at dksX9_assent_1 12 rfl rfl)
theorem dX9_assent_38 : decode cX9_assent 38 = .ok (.iconst (-1), 1) := dk_2 (dk_at dksX9_assent_1 15 rfl rfl)
theorem dX9_assent_39 : decode cX9_assent 39 = .ok (.ireturn, 1) := dk_172 (dk_at dksX9_assent_1 16 rfl rfl)
theorem dX9_assent_40 : decode cX9_assent 40 = .ok (.aload_n 0, 1) := dk_42 (dk_at dksX9_assent_1 17 rfl rfl)
theorem dX9_assent_41 : decode cX9_assent 41 = .ok (.getfield 9, 3) := dk_180 0 9 (dk_at dksX9_assent_1 18 rfl rfl)
theorem dX9_assent_44 : decode cX9_assent 44 = .ok (.sipush 2116, 3) := dk_17 8 68 (dk_at dksX9_assent_1 21 rfl rfl)
theorem dX9_assent_47 : decode cX9_assent 47 = .ok (.iaload, 1) := dk_46 (dk_at dksX9_assent_2 0 rfl rfl)
theorem dX9_assent_48 : decode cX9_assent 48 = .ok (.aload_n 0, 1) := dk_42 (dk_at dksX9_assent_2 1 rfl rfl)
theorem dX9_assent_49 : decode cX9_assent 49 = .ok (.iload_n 1, 1) := dk_27 (dk_at dksX9_assent_2 2 rfl rfl)
theorem dX9_assent_50 : decode cX9_assent 50 = .ok (.iconst 3, 1) := dk_6 (dk_at dksX9_assent_2 3 rfl rfl)
theorem dX9_assent_51 : decode cX9_assent 51 = .ok (.invokevirtual 317, 3) := dk_182 1 61 (dk_at dksX9_assent_2 4 rfl rfl)
theorem dX9_assent_54 : decode cX9_assent 54 = .ok (.bipush 34, 2) := dk_16 34 (dk_at dksX9_assent_2 7 rfl rfl)
theorem dX9_assent_56 : decode cX9_assent 56 = .ok (.iadd, 1) := dk_96 (dk_at dksX9_assent_2 9 rfl rfl)
theorem dX9_assent_57 : decode cX9_assent 57 = .ok (.if_icmp .ge 6, 3) := dk_162 0 6 (dk_at dksX9_assent_2 10 rfl rfl)
theorem dX9_assent_60 : decode cX9_assent 60 = .ok (.bipush (-2), 2) := dk_16 254 (dk_at dksX9_assent_2 13 rfl rfl)
theorem dX9_assent_62 : decode cX9_assent 62 = .ok (.ireturn, 1) := dk_172 (dk_at dksX9_assent_2 15 rfl rfl)
theorem dX9_assent_63 : decode cX9_assent 63 = .ok (.aload_n 0, 1) := dk_42 (dk_at dksX9_assent_2 16 rfl rfl)
theorem dX9_assent_64 : decode cX9_assent 64 = .ok (.iload_n 1, 1) := dk_27 (dk_at dksX9_assent_2 17 rfl rfl)
theorem dX9_assent_65 : decode cX9_assent 65 = .ok (.iconst 4, 1) := dk_7 (dk_at dksX9_assent_2 18 rfl rfl)
theorem dX9_assent_66 : decode cX9_assent 66 = .ok (.invokevirtual 317, 3) := dk_182 1 61 (dk_at dksX9_assent_2 19 rfl rfl)
theorem dX9_assent_69 : decode cX9_assent 69 = .ok (.ifCond .le 6, 3) := dk_158 0 6 (dk_at dksX9_assent_3 0 rfl rfl)
theorem dX9_assent_72 : decode cX9_assent 72 = .ok (.bipush (-3), 2) := dk_16 253 (dk_at dksX9_assent_3 3 rfl rfl)
theorem dX9_assent_74 : decode cX9_assent 74 = .ok (.ireturn, 1) := dk_172 (dk_at dksX9_assent_3 5 rfl rfl)
theorem dX9_assent_75 : decode cX9_assent 75 = .ok (.aload_n 0, 1) := dk_42 (dk_at dksX9_assent_3 6 rfl rfl)
theorem dX9_assent_76 : decode cX9_assent 76 = .ok (.getfield 9, 3) := dk_180 0 9 (dk_at dksX9_assent_3 7 rfl rfl)
theorem dX9_assent_79 : decode cX9_assent 79 = .ok (.sipush 1568, 3) := dk_17 6 32 (dk_at dksX9_assent_3 10 rfl rfl)
theorem dX9_assent_82 : decode cX9_assent 82 = .ok (.bipush 6, 2) := dk_16 6 (dk_at dksX9_assent_3 13 rfl rfl)
theorem dX9_assent_84 : decode cX9_assent 84 = .ok (.iload_n 1, 1) := dk_27 (dk_at dksX9_assent_3 15 rfl rfl)
theorem dX9_assent_85 : decode cX9_assent 85 = .ok (.imul, 1) := dk_104 (dk_at dksX9_assent_3 16 rfl rfl)
theorem dX9_assent_86 : decode cX9_assent 86 = .ok (.iadd, 1) := dk_96 (dk_at dksX9_assent_3 17 rfl rfl)
theorem dX9_assent_87 : decode cX9_assent 87 = .ok (.iconst 4, 1) := dk_7 (dk_at dksX9_assent_3 18 rfl rfl)
theorem dX9_assent_88 : decode cX9_assent 88 = .ok (.iadd, 1) := dk_96 (dk_at dksX9_assent_3 19 rfl rfl)
theorem dX9_assent_89 : decode cX9_assent 89 = .ok (.iload_n 2, 1) := dk_28 (dk_at dksX9_assent_3 20 rfl rfl)
theorem dX9_assent_90 : decode cX9_assent 90 = .ok (.ifCond .eq 7, 3) := dk_153 0 7 (dk_at dksX9_assent_3 21 rfl rfl)
theorem dX9_assent_93 : decode cX9_assent 93 = .ok (.iconst 1, 1) := dk_4 (dk_at dksX9_assent_4 0 rfl rfl)
theorem dX9_assent_94 : decode cX9_assent 94 = .ok (.goto 4, 3) := dk_167 0 4 (dk_at dksX9_assent_4 1 rfl rfl)
theorem dX9_assent_97 : decode cX9_assent 97 = .ok (.iconst 2, 1) := dk_5 (dk_at dksX9_assent_4 4 rfl rfl)
theorem dX9_assent_98 : decode cX9_assent 98 = .ok (.iastore, 1) := dk_79 (dk_at dksX9_assent_4 5 rfl rfl)
theorem dX9_assent_99 : decode cX9_assent 99 = .ok (.aload_n 0, 1) := dk_42 (dk_at dksX9_assent_4 6 rfl rfl)
theorem dX9_assent_100 : decode cX9_assent 100 = .ok (.getfield 9, 3) := dk_180 0 9 (dk_at dksX9_assent_4 7 rfl rfl)
theorem dX9_assent_103 : decode cX9_assent 103 = .ok (.sipush 1568, 3) := dk_17 6 32 (dk_at dksX9_assent_4 10 rfl rfl)
theorem dX9_assent_106 : decode cX9_assent 106 = .ok (.bipush 6, 2) := dk_16 6 (dk_at dksX9_assent_4 13 rfl rfl)
theorem dX9_assent_108 : decode cX9_assent 108 = .ok (.iload_n 1, 1) := dk_27 (dk_at dksX9_assent_4 15 rfl rfl)
theorem dX9_assent_109 : decode cX9_assent 109 = .ok (.imul, 1) := dk_104 (dk_at dksX9_assent_4 16 rfl rfl)
theorem dX9_assent_110 : decode cX9_assent 110 = .ok (.iadd, 1) := dk_96 (dk_at dksX9_assent_4 17 rfl rfl)
theorem dX9_assent_111 : decode cX9_assent 111 = .ok (.iconst 5, 1) := dk_8 (dk_at dksX9_assent_4 18 rfl rfl)
theorem dX9_assent_112 : decode cX9_assent 112 = .ok (.iadd, 1) := dk_96 (dk_at dksX9_assent_4 19 rfl rfl)
theorem dX9_assent_113 : decode cX9_assent 113 = .ok (.aload_n 0, 1) := dk_42 (dk_at dksX9_assent_4 20 rfl rfl)
theorem dX9_assent_114 : decode cX9_assent 114 = .ok (.getfield 9, 3) := dk_180 0 9 (dk_at dksX9_assent_4 21 rfl rfl)
theorem dX9_assent_117 : decode cX9_assent 117 = .ok (.sipush 2116, 3) := dk_17 8 68 (dk_at dksX9_assent_5 0 rfl rfl)
theorem dX9_assent_120 : decode cX9_assent 120 = .ok (.iaload, 1) := dk_46 (dk_at dksX9_assent_5 3 rfl rfl)
theorem dX9_assent_121 : decode cX9_assent 121 = .ok (.bipush 34, 2) := dk_16 34 (dk_at dksX9_assent_5 4 rfl rfl)
theorem dX9_assent_123 : decode cX9_assent 123 = .ok (.iadd, 1) := dk_96 (dk_at dksX9_assent_5 6 rfl rfl)
theorem dX9_assent_124 : decode cX9_assent 124 = .ok (.iastore, 1) := dk_79 (dk_at dksX9_assent_5 7 rfl rfl)
theorem dX9_assent_125 : decode cX9_assent 125 = .ok (.aload_n 0, 1) := dk_42 (dk_at dksX9_assent_5 8 rfl rfl)
theorem dX9_assent_126 : decode cX9_assent 126 = .ok (.getfield 9, 3) := dk_180 0 9 (dk_at dksX9_assent_5 9 rfl rfl)
theorem dX9_assent_129 : decode cX9_assent 129 = .ok (.sipush 2116, 3) := dk_17 8 68 (dk_at dksX9_assent_5 12 rfl rfl)
theorem dX9_assent_132 : decode cX9_assent 132 = .ok (.iaload, 1) := dk_46 (dk_at dksX9_assent_5 15 rfl rfl)
theorem dX9_assent_133 : decode cX9_assent 133 = .ok (.bipush 34, 2) := dk_16 34 (dk_at dksX9_assent_5 16 rfl rfl)
theorem dX9_assent_135 : decode cX9_assent 135 = .ok (.iadd, 1) := dk_96 (dk_at dksX9_assent_5 18 rfl rfl)
theorem dX9_assent_136 : decode cX9_assent 136 = .ok (.ireturn, 1) := dk_172 (dk_at dksX9_assent_5 19 rfl rfl)
def dkwX9_force_1 : List UInt8 := [153, 0, 7, 3, 167, 0, 9, 42, 27, 3, 182, 1, 61, 172]
abbrev dktX9_force_1 : List UInt8 := dkwX9_force_1 ++ []
def dkwX9_force_0 : List UInt8 := [42, 3, 181, 0, 73, 42, 42, 27, 182, 1, 95, 154, 0, 7, 4, 167, 0, 4, 3, 4, 182, 0, 84]
abbrev dktX9_force_0 : List UInt8 := dkwX9_force_0 ++ dktX9_force_1
theorem dksX9_force_0 : cX9_force.data.toList.drop 0 = dktX9_force_0 := by decide +kernel
theorem dksX9_force_1 : cX9_force.data.toList.drop 23 = dktX9_force_1 := dk_seg dksX9_force_0 23 rfl rfl
theorem dX9_force_0 : decode cX9_force 0 = .ok (.aload_n 0, 1) := dk_42 (dk_at dksX9_force_0 0 rfl rfl)
theorem dX9_force_1 : decode cX9_force 1 = .ok (.iconst 0, 1) := dk_3 (dk_at dksX9_force_0 1 rfl rfl)
theorem dX9_force_2 : decode cX9_force 2 = .ok (.putfield 73, 3) := dk_181 0 73 (dk_at dksX9_force_0 2 rfl rfl)
theorem dX9_force_5 : decode cX9_force 5 = .ok (.aload_n 0, 1) := dk_42 (dk_at dksX9_force_0 5 rfl rfl)
theorem dX9_force_6 : decode cX9_force 6 = .ok (.aload_n 0, 1) := dk_42 (dk_at dksX9_force_0 6 rfl rfl)
theorem dX9_force_7 : decode cX9_force 7 = .ok (.iload_n 1, 1) := dk_27 (dk_at dksX9_force_0 7 rfl rfl)
theorem dX9_force_8 : decode cX9_force 8 = .ok (.invokevirtual 351, 3) := dk_182 1 95 (dk_at dksX9_force_0 8 rfl rfl)
theorem dX9_force_11 : decode cX9_force 11 = .ok (.ifCond .ne 7, 3) := dk_154 0 7 (dk_at dksX9_force_0 11 rfl rfl)
theorem dX9_force_14 : decode cX9_force 14 = .ok (.iconst 1, 1) := dk_4 (dk_at dksX9_force_0 14 rfl rfl)
theorem dX9_force_15 : decode cX9_force 15 = .ok (.goto 4, 3) := dk_167 0 4 (dk_at dksX9_force_0 15 rfl rfl)
theorem dX9_force_18 : decode cX9_force 18 = .ok (.iconst 0, 1) := dk_3 (dk_at dksX9_force_0 18 rfl rfl)
theorem dX9_force_19 : decode cX9_force 19 = .ok (.iconst 1, 1) := dk_4 (dk_at dksX9_force_0 19 rfl rfl)
theorem dX9_force_20 : decode cX9_force 20 = .ok (.invokevirtual 84, 3) := dk_182 0 84 (dk_at dksX9_force_0 20 rfl rfl)
theorem dX9_force_23 : decode cX9_force 23 = .ok (.ifCond .eq 7, 3) := dk_153 0 7 (dk_at dksX9_force_1 0 rfl rfl)
theorem dX9_force_26 : decode cX9_force 26 = .ok (.iconst 0, 1) := dk_3 (dk_at dksX9_force_1 3 rfl rfl)
theorem dX9_force_27 : decode cX9_force 27 = .ok (.goto 9, 3) := dk_167 0 9 (dk_at dksX9_force_1 4 rfl rfl)
theorem dX9_force_30 : decode cX9_force 30 = .ok (.aload_n 0, 1) := dk_42 (dk_at dksX9_force_1 7 rfl rfl)
theorem dX9_force_31 : decode cX9_force 31 = .ok (.iload_n 1, 1) := dk_27 (dk_at dksX9_force_1 8 rfl rfl)
theorem dX9_force_32 : decode cX9_force 32 = .ok (.iconst 0, 1) := dk_3 (dk_at dksX9_force_1 9 rfl rfl)
theorem dX9_force_33 : decode cX9_force 33 = .ok (.invokevirtual 317, 3) := dk_182 1 61 (dk_at dksX9_force_1 10 rfl rfl)
theorem dX9_force_36 : decode cX9_force 36 = .ok (.ireturn, 1) := dk_172 (dk_at dksX9_force_1 13 rfl rfl)
def dkwX9_buy_1 : List UInt8 := [182, 0, 88, 4, 159, 0, 8, 16, 254, 167, 0, 9, 42, 27, 28, 182, 1, 114, 172]
abbrev dktX9_buy_1 : List UInt8 := dkwX9_buy_1 ++ []
def dkwX9_buy_0 : List UInt8 := [42, 27, 28, 182, 1, 110, 154, 0, 5, 3, 172, 42, 27, 182, 0, 122, 154, 0, 5, 2, 172, 42, 28, 3]
abbrev dktX9_buy_0 : List UInt8 := dkwX9_buy_0 ++ dktX9_buy_1
theorem dksX9_buy_0 : cX9_buy.data.toList.drop 0 = dktX9_buy_0 := by decide +kernel
theorem dksX9_buy_1 : cX9_buy.data.toList.drop 24 = dktX9_buy_1 := dk_seg dksX9_buy_0 24 rfl rfl
theorem dX9_buy_0 : decode cX9_buy 0 = .ok (.aload_n 0, 1) := dk_42 (dk_at dksX9_buy_0 0 rfl rfl)
theorem dX9_buy_1 : decode cX9_buy 1 = .ok (.iload_n 1, 1) := dk_27 (dk_at dksX9_buy_0 1 rfl rfl)
theorem dX9_buy_2 : decode cX9_buy 2 = .ok (.iload_n 2, 1) := dk_28 (dk_at dksX9_buy_0 2 rfl rfl)
theorem dX9_buy_3 : decode cX9_buy 3 = .ok (.invokevirtual 366, 3) := dk_182 1 110 (dk_at dksX9_buy_0 3 rfl rfl)
theorem dX9_buy_6 : decode cX9_buy 6 = .ok (.ifCond .ne 5, 3) := dk_154 0 5 (dk_at dksX9_buy_0 6 rfl rfl)
theorem dX9_buy_9 : decode cX9_buy 9 = .ok (.iconst 0, 1) := dk_3 (dk_at dksX9_buy_0 9 rfl rfl)
theorem dX9_buy_10 : decode cX9_buy 10 = .ok (.ireturn, 1) := dk_172 (dk_at dksX9_buy_0 10 rfl rfl)
theorem dX9_buy_11 : decode cX9_buy 11 = .ok (.aload_n 0, 1) := dk_42 (dk_at dksX9_buy_0 11 rfl rfl)
theorem dX9_buy_12 : decode cX9_buy 12 = .ok (.iload_n 1, 1) := dk_27 (dk_at dksX9_buy_0 12 rfl rfl)
theorem dX9_buy_13 : decode cX9_buy 13 = .ok (.invokevirtual 122, 3) := dk_182 0 122 (dk_at dksX9_buy_0 13 rfl rfl)
theorem dX9_buy_16 : decode cX9_buy 16 = .ok (.ifCond .ne 5, 3) := dk_154 0 5 (dk_at dksX9_buy_0 16 rfl rfl)
theorem dX9_buy_19 : decode cX9_buy 19 = .ok (.iconst (-1), 1) := dk_2 (dk_at dksX9_buy_0 19 rfl rfl)
theorem dX9_buy_20 : decode cX9_buy 20 = .ok (.ireturn, 1) := dk_172 (dk_at dksX9_buy_0 20 rfl rfl)
theorem dX9_buy_21 : decode cX9_buy 21 = .ok (.aload_n 0, 1) := dk_42 (dk_at dksX9_buy_0 21 rfl rfl)
theorem dX9_buy_22 : decode cX9_buy 22 = .ok (.iload_n 2, 1) := dk_28 (dk_at dksX9_buy_0 22 rfl rfl)
theorem dX9_buy_23 : decode cX9_buy 23 = .ok (.iconst 0, 1) := dk_3 (dk_at dksX9_buy_0 23 rfl rfl)
theorem dX9_buy_24 : decode cX9_buy 24 = .ok (.invokevirtual 88, 3) := dk_182 0 88 (dk_at dksX9_buy_1 0 rfl rfl)
theorem dX9_buy_27 : decode cX9_buy 27 = .ok (.iconst 1, 1) := dk_4 (dk_at dksX9_buy_1 3 rfl rfl)
theorem dX9_buy_28 : decode cX9_buy 28 = .ok (.if_icmp .eq 8, 3) := dk_159 0 8 (dk_at dksX9_buy_1 4 rfl rfl)
theorem dX9_buy_31 : decode cX9_buy 31 = .ok (.bipush (-2), 2) := dk_16 254 (dk_at dksX9_buy_1 7 rfl rfl)
theorem dX9_buy_33 : decode cX9_buy 33 = .ok (.goto 9, 3) := dk_167 0 9 (dk_at dksX9_buy_1 9 rfl rfl)
theorem dX9_buy_36 : decode cX9_buy 36 = .ok (.aload_n 0, 1) := dk_42 (dk_at dksX9_buy_1 12 rfl rfl)
theorem dX9_buy_37 : decode cX9_buy 37 = .ok (.iload_n 1, 1) := dk_27 (dk_at dksX9_buy_1 13 rfl rfl)
theorem dX9_buy_38 : decode cX9_buy 38 = .ok (.iload_n 2, 1) := dk_28 (dk_at dksX9_buy_1 14 rfl rfl)
theorem dX9_buy_39 : decode cX9_buy 39 = .ok (.invokevirtual 370, 3) := dk_182 1 114 (dk_at dksX9_buy_1 15 rfl rfl)
theorem dX9_buy_42 : decode cX9_buy 42 = .ok (.ireturn, 1) := dk_172 (dk_at dksX9_buy_1 18 rfl rfl)
def dkwX9_isAsked_1 : List UInt8 := [167, 0, 4, 3, 4, 182, 0, 84, 154, 0, 7, 4, 167, 0, 4, 3, 172]
abbrev dktX9_isAsked_1 : List UInt8 := dkwX9_isAsked_1 ++ []
def dkwX9_isAsked_0 : List UInt8 := [42, 3, 181, 0, 73, 42, 42, 27, 182, 0, 125, 153, 0, 11, 42, 28, 182, 0, 80, 154, 0, 7, 4]
abbrev dktX9_isAsked_0 : List UInt8 := dkwX9_isAsked_0 ++ dktX9_isAsked_1
theorem dksX9_isAsked_0 : cX9_isAsked.data.toList.drop 0 = dktX9_isAsked_0 := by decide +kernel
theorem dksX9_isAsked_1 : cX9_isAsked.data.toList.drop 23 = dktX9_isAsked_1 := dk_seg dksX9_isAsked_0 23 rfl rfl
theorem dX9_isAsked_0 : decode cX9_isAsked 0 = .ok (.aload_n 0, 1) := dk_42 (dk_at dksX9_isAsked_0 0 rfl rfl)
theorem dX9_isAsked_1 : decode cX9_isAsked 1 = .ok (.iconst 0, 1) := dk_3 (dk_at dksX9_isAsked_0 1 rfl rfl)
theorem dX9_isAsked_2 : decode cX9_isAsked 2 = .ok (.putfield 73, 3) := dk_181 0 73 (dk_at dksX9_isAsked_0 2 rfl rfl)
theorem dX9_isAsked_5 : decode cX9_isAsked 5 = .ok (.aload_n 0, 1) := dk_42 (dk_at dksX9_isAsked_0 5 rfl rfl)
theorem dX9_isAsked_6 : decode cX9_isAsked 6 = .ok (.aload_n 0, 1) := dk_42 (dk_at dksX9_isAsked_0 6 rfl rfl)
theorem dX9_isAsked_7 : decode cX9_isAsked 7 = .ok (.iload_n 1, 1) := dk_27 (dk_at dksX9_isAsked_0 7 rfl rfl)
theorem dX9_isAsked_8 : decode cX9_isAsked 8 = .ok (.invokevirtual 125, 3) := dk_182 0 125 (dk_at dksX9_isAsked_0 8 rfl rfl)
theorem dX9_isAsked_11 : decode cX9_isAsked 11 = .ok (.ifCond .eq 11, 3) := dk_153 0 11 (dk_at dksX9_isAsked_0 11 rfl rfl)
theorem dX9_isAsked_14 : decode cX9_isAsked 14 = .ok (.aload_n 0, 1) := dk_42 (dk_at dksX9_isAsked_0 14 rfl rfl)
theorem dX9_isAsked_15 : decode cX9_isAsked 15 = .ok (.iload_n 2, 1) := dk_28 (dk_at dksX9_isAsked_0 15 rfl rfl)
theorem dX9_isAsked_16 : decode cX9_isAsked 16 = .ok (.invokevirtual 80, 3) := dk_182 0 80 (dk_at dksX9_isAsked_0 16 rfl rfl)
theorem dX9_isAsked_19 : decode cX9_isAsked 19 = .ok (.ifCond .ne 7, 3) := dk_154 0 7 (dk_at dksX9_isAsked_0 19 rfl rfl)
theorem dX9_isAsked_22 : decode cX9_isAsked 22 = .ok (.iconst 1, 1) := dk_4 (dk_at dksX9_isAsked_0 22 rfl rfl)
theorem dX9_isAsked_23 : decode cX9_isAsked 23 = .ok (.goto 4, 3) := dk_167 0 4 (dk_at dksX9_isAsked_1 0 rfl rfl)
theorem dX9_isAsked_26 : decode cX9_isAsked 26 = .ok (.iconst 0, 1) := dk_3 (dk_at dksX9_isAsked_1 3 rfl rfl)
theorem dX9_isAsked_27 : decode cX9_isAsked 27 = .ok (.iconst 1, 1) := dk_4 (dk_at dksX9_isAsked_1 4 rfl rfl)
theorem dX9_isAsked_28 : decode cX9_isAsked 28 = .ok (.invokevirtual 84, 3) := dk_182 0 84 (dk_at dksX9_isAsked_1 5 rfl rfl)
theorem dX9_isAsked_31 : decode cX9_isAsked 31 = .ok (.ifCond .ne 7, 3) := dk_154 0 7 (dk_at dksX9_isAsked_1 8 rfl rfl)
theorem dX9_isAsked_34 : decode cX9_isAsked 34 = .ok (.iconst 1, 1) := dk_4 (dk_at dksX9_isAsked_1 11 rfl rfl)
theorem dX9_isAsked_35 : decode cX9_isAsked 35 = .ok (.goto 4, 3) := dk_167 0 4 (dk_at dksX9_isAsked_1 12 rfl rfl)
theorem dX9_isAsked_38 : decode cX9_isAsked 38 = .ok (.iconst 0, 1) := dk_3 (dk_at dksX9_isAsked_1 15 rfl rfl)
theorem dX9_isAsked_39 : decode cX9_isAsked 39 = .ok (.ireturn, 1) := dk_172 (dk_at dksX9_isAsked_1 16 rfl rfl)
def dkwX9_sells_5 : List UInt8 := [16, 8, 28, 104, 16, 6, 96, 21, 4, 79, 42, 27, 182, 1, 107, 29, 172]
abbrev dktX9_sells_5 : List UInt8 := dkwX9_sells_5 ++ []
def dkwX9_sells_4 : List UInt8 := [42, 28, 6, 27, 182, 0, 147, 42, 180, 0, 9, 16, 8, 28, 104, 8, 96, 29, 79, 42, 180, 0, 9]
abbrev dktX9_sells_4 : List UInt8 := dkwX9_sells_4 ++ dktX9_sells_5
def dkwX9_sells_3 : List UInt8 := [17, 8, 71, 92, 46, 21, 5, 96, 79, 42, 180, 0, 9, 17, 8, 70, 92, 46, 29, 21, 5, 100, 96, 79]
abbrev dktX9_sells_3 : List UInt8 := dkwX9_sells_3 ++ dktX9_sells_4
def dkwX9_sells_2 : List UInt8 := [42, 4, 3, 182, 1, 92, 104, 16, 100, 108, 54, 5, 42, 27, 29, 116, 182, 1, 101, 42, 180, 0, 9]
abbrev dktX9_sells_2 : List UInt8 := dkwX9_sells_2 ++ dktX9_sells_3
def dkwX9_sells_1 : List UInt8 := [172, 42, 180, 1, 67, 158, 0, 7, 2, 167, 0, 12, 42, 42, 182, 1, 70, 3, 182, 1, 73, 54, 4, 29]
abbrev dktX9_sells_1 : List UInt8 := dkwX9_sells_1 ++ dktX9_sells_2
def dkwX9_sells_0 : List UInt8 := [42, 3, 42, 180, 0, 16, 28, 46, 182, 1, 92, 62, 42, 27, 4, 182, 0, 76, 29, 162, 0, 6, 16, 253]
abbrev dktX9_sells_0 : List UInt8 := dkwX9_sells_0 ++ dktX9_sells_1
theorem dksX9_sells_0 : cX9_sells.data.toList.drop 0 = dktX9_sells_0 := by decide +kernel
theorem dksX9_sells_1 : cX9_sells.data.toList.drop 24 = dktX9_sells_1 := dk_seg dksX9_sells_0 24 rfl rfl
theorem dksX9_sells_2 : cX9_sells.data.toList.drop 48 = dktX9_sells_2 := dk_seg dksX9_sells_1 24 rfl rfl
theorem dksX9_sells_3 : cX9_sells.data.toList.drop 71 = dktX9_sells_3 := dk_seg dksX9_sells_2 23 rfl rfl
theorem dksX9_sells_4 : cX9_sells.data.toList.drop 95 = dktX9_sells_4 := dk_seg dksX9_sells_3 24 rfl rfl
theorem dksX9_sells_5 : cX9_sells.data.toList.drop 118 = dktX9_sells_5 := dk_seg dksX9_sells_4 23 rfl rfl
theorem dX9_sells_0 : decode cX9_sells 0 = .ok (.aload_n 0, 1) := dk_42 (dk_at dksX9_sells_0 0 rfl rfl)
theorem dX9_sells_1 : decode cX9_sells 1 = .ok (.iconst 0, 1) := dk_3 (dk_at dksX9_sells_0 1 rfl rfl)
theorem dX9_sells_2 : decode cX9_sells 2 = .ok (.aload_n 0, 1) := dk_42 (dk_at dksX9_sells_0 2 rfl rfl)
theorem dX9_sells_3 : decode cX9_sells 3 = .ok (.getfield 16, 3) := dk_180 0 16 (dk_at dksX9_sells_0 3 rfl rfl)
theorem dX9_sells_6 : decode cX9_sells 6 = .ok (.iload_n 2, 1) := dk_28 (dk_at dksX9_sells_0 6 rfl rfl)
theorem dX9_sells_7 : decode cX9_sells 7 = .ok (.iaload, 1) := dk_46 (dk_at dksX9_sells_0 7 rfl rfl)
theorem dX9_sells_8 : decode cX9_sells 8 = .ok (.invokevirtual 348, 3) := dk_182 1 92 (dk_at dksX9_sells_0 8 rfl rfl)
theorem dX9_sells_11 : decode cX9_sells 11 = .ok (.istore_n 3, 1) := dk_62 (dk_at dksX9_sells_0 11 rfl rfl)
theorem dX9_sells_12 : decode cX9_sells 12 = .ok (.aload_n 0, 1) := dk_42 (dk_at dksX9_sells_0 12 rfl rfl)
theorem dX9_sells_13 : decode cX9_sells 13 = .ok (.iload_n 1, 1) := dk_27 (dk_at dksX9_sells_0 13 rfl rfl)
theorem dX9_sells_14 : decode cX9_sells 14 = .ok (.iconst 1, 1) := dk_4 (dk_at dksX9_sells_0 14 rfl rfl)
theorem dX9_sells_15 : decode cX9_sells 15 = .ok (.invokevirtual 76, 3) := dk_182 0 76 (dk_at dksX9_sells_0 15 rfl rfl)
theorem dX9_sells_18 : decode cX9_sells 18 = .ok (.iload_n 3, 1) := dk_29 (dk_at dksX9_sells_0 18 rfl rfl)
theorem dX9_sells_19 : decode cX9_sells 19 = .ok (.if_icmp .ge 6, 3) := dk_162 0 6 (dk_at dksX9_sells_0 19 rfl rfl)
theorem dX9_sells_22 : decode cX9_sells 22 = .ok (.bipush (-3), 2) := dk_16 253 (dk_at dksX9_sells_0 22 rfl rfl)
theorem dX9_sells_24 : decode cX9_sells 24 = .ok (.ireturn, 1) := dk_172 (dk_at dksX9_sells_1 0 rfl rfl)
theorem dX9_sells_25 : decode cX9_sells 25 = .ok (.aload_n 0, 1) := dk_42 (dk_at dksX9_sells_1 1 rfl rfl)
theorem dX9_sells_26 : decode cX9_sells 26 = .ok (.getfield 323, 3) := dk_180 1 67 (dk_at dksX9_sells_1 2 rfl rfl)
theorem dX9_sells_29 : decode cX9_sells 29 = .ok (.ifCond .le 7, 3) := dk_158 0 7 (dk_at dksX9_sells_1 5 rfl rfl)
theorem dX9_sells_32 : decode cX9_sells 32 = .ok (.iconst (-1), 1) := dk_2 (dk_at dksX9_sells_1 8 rfl rfl)
theorem dX9_sells_33 : decode cX9_sells 33 = .ok (.goto 12, 3) := dk_167 0 12 (dk_at dksX9_sells_1 9 rfl rfl)
theorem dX9_sells_36 : decode cX9_sells 36 = .ok (.aload_n 0, 1) := dk_42 (dk_at dksX9_sells_1 12 rfl rfl)
theorem dX9_sells_37 : decode cX9_sells 37 = .ok (.aload_n 0, 1) := dk_42 (dk_at dksX9_sells_1 13 rfl rfl)
theorem dX9_sells_38 : decode cX9_sells 38 = .ok (.invokevirtual 326, 3) := dk_182 1 70 (dk_at dksX9_sells_1 14 rfl rfl)
theorem dX9_sells_41 : decode cX9_sells 41 = .ok (.iconst 0, 1) := dk_3 (dk_at dksX9_sells_1 17 rfl rfl)
theorem dX9_sells_42 : decode cX9_sells 42 = .ok (.invokevirtual 329, 3) := dk_182 1 73 (dk_at dksX9_sells_1 18 rfl rfl)
theorem dX9_sells_45 : decode cX9_sells 45 = .ok (.istore 4, 2) := dk_54 4 (dk_at dksX9_sells_1 21 rfl rfl)
theorem dX9_sells_47 : decode cX9_sells 47 = .ok (.iload_n 3, 1) := dk_29 (dk_at dksX9_sells_1 23 rfl rfl)
theorem dX9_sells_48 : decode cX9_sells 48 = .ok (.aload_n 0, 1) := dk_42 (dk_at dksX9_sells_2 0 rfl rfl)
theorem dX9_sells_49 : decode cX9_sells 49 = .ok (.iconst 1, 1) := dk_4 (dk_at dksX9_sells_2 1 rfl rfl)
theorem dX9_sells_50 : decode cX9_sells 50 = .ok (.iconst 0, 1) := dk_3 (dk_at dksX9_sells_2 2 rfl rfl)
theorem dX9_sells_51 : decode cX9_sells 51 = .ok (.invokevirtual 348, 3) := dk_182 1 92 (dk_at dksX9_sells_2 3 rfl rfl)
theorem dX9_sells_54 : decode cX9_sells 54 = .ok (.imul, 1) := dk_104 (dk_at dksX9_sells_2 6 rfl rfl)
theorem dX9_sells_55 : decode cX9_sells 55 = .ok (.bipush 100, 2) := dk_16 100 (dk_at dksX9_sells_2 7 rfl rfl)
theorem dX9_sells_57 : decode cX9_sells 57 = .ok (.idiv, 1) := dk_108 (dk_at dksX9_sells_2 9 rfl rfl)
theorem dX9_sells_58 : decode cX9_sells 58 = .ok (.istore 5, 2) := dk_54 5 (dk_at dksX9_sells_2 10 rfl rfl)
theorem dX9_sells_60 : decode cX9_sells 60 = .ok (.aload_n 0, 1) := dk_42 (dk_at dksX9_sells_2 12 rfl rfl)
theorem dX9_sells_61 : decode cX9_sells 61 = .ok (.iload_n 1, 1) := dk_27 (dk_at dksX9_sells_2 13 rfl rfl)
theorem dX9_sells_62 : decode cX9_sells 62 = .ok (.iload_n 3, 1) := dk_29 (dk_at dksX9_sells_2 14 rfl rfl)
theorem dX9_sells_63 : decode cX9_sells 63 = .ok (.ineg, 1) := dk_116 (dk_at dksX9_sells_2 15 rfl rfl)
theorem dX9_sells_64 : decode cX9_sells 64 = .ok (.invokevirtual 357, 3) := dk_182 1 101 (dk_at dksX9_sells_2 16 rfl rfl)
theorem dX9_sells_67 : decode cX9_sells 67 = .ok (.aload_n 0, 1) := dk_42 (dk_at dksX9_sells_2 19 rfl rfl)
theorem dX9_sells_68 : decode cX9_sells 68 = .ok (.getfield 9, 3) := dk_180 0 9 (dk_at dksX9_sells_2 20 rfl rfl)
theorem dX9_sells_71 : decode cX9_sells 71 = .ok (.sipush 2119, 3) := dk_17 8 71 (dk_at dksX9_sells_3 0 rfl rfl)
theorem dX9_sells_74 : decode cX9_sells 74 = .ok (.dup2, 1) := dk_92 (dk_at dksX9_sells_3 3 rfl rfl)
theorem dX9_sells_75 : decode cX9_sells 75 = .ok (.iaload, 1) := dk_46 (dk_at dksX9_sells_3 4 rfl rfl)
theorem dX9_sells_76 : decode cX9_sells 76 = .ok (.iload 5, 2) := dk_21 5 (dk_at dksX9_sells_3 5 rfl rfl)
theorem dX9_sells_78 : decode cX9_sells 78 = .ok (.iadd, 1) := dk_96 (dk_at dksX9_sells_3 7 rfl rfl)
theorem dX9_sells_79 : decode cX9_sells 79 = .ok (.iastore, 1) := dk_79 (dk_at dksX9_sells_3 8 rfl rfl)
theorem dX9_sells_80 : decode cX9_sells 80 = .ok (.aload_n 0, 1) := dk_42 (dk_at dksX9_sells_3 9 rfl rfl)
theorem dX9_sells_81 : decode cX9_sells 81 = .ok (.getfield 9, 3) := dk_180 0 9 (dk_at dksX9_sells_3 10 rfl rfl)
theorem dX9_sells_84 : decode cX9_sells 84 = .ok (.sipush 2118, 3) := dk_17 8 70 (dk_at dksX9_sells_3 13 rfl rfl)
theorem dX9_sells_87 : decode cX9_sells 87 = .ok (.dup2, 1) := dk_92 (dk_at dksX9_sells_3 16 rfl rfl)
theorem dX9_sells_88 : decode cX9_sells 88 = .ok (.iaload, 1) := dk_46 (dk_at dksX9_sells_3 17 rfl rfl)
theorem dX9_sells_89 : decode cX9_sells 89 = .ok (.iload_n 3, 1) := dk_29 (dk_at dksX9_sells_3 18 rfl rfl)
theorem dX9_sells_90 : decode cX9_sells 90 = .ok (.iload 5, 2) := dk_21 5 (dk_at dksX9_sells_3 19 rfl rfl)
theorem dX9_sells_92 : decode cX9_sells 92 = .ok (.isub, 1) := dk_100 (dk_at dksX9_sells_3 21 rfl rfl)
theorem dX9_sells_93 : decode cX9_sells 93 = .ok (.iadd, 1) := dk_96 (dk_at dksX9_sells_3 22 rfl rfl)
theorem dX9_sells_94 : decode cX9_sells 94 = .ok (.iastore, 1) := dk_79 (dk_at dksX9_sells_3 23 rfl rfl)
theorem dX9_sells_95 : decode cX9_sells 95 = .ok (.aload_n 0, 1) := dk_42 (dk_at dksX9_sells_4 0 rfl rfl)
theorem dX9_sells_96 : decode cX9_sells 96 = .ok (.iload_n 2, 1) := dk_28 (dk_at dksX9_sells_4 1 rfl rfl)
theorem dX9_sells_97 : decode cX9_sells 97 = .ok (.iconst 3, 1) := dk_6 (dk_at dksX9_sells_4 2 rfl rfl)
theorem dX9_sells_98 : decode cX9_sells 98 = .ok (.iload_n 1, 1) := dk_27 (dk_at dksX9_sells_4 3 rfl rfl)
theorem dX9_sells_99 : decode cX9_sells 99 = .ok (.invokevirtual 147, 3) := dk_182 0 147 (dk_at dksX9_sells_4 4 rfl rfl)
theorem dX9_sells_102 : decode cX9_sells 102 = .ok (.aload_n 0, 1) := dk_42 (dk_at dksX9_sells_4 7 rfl rfl)
theorem dX9_sells_103 : decode cX9_sells 103 = .ok (.getfield 9, 3) := dk_180 0 9 (dk_at dksX9_sells_4 8 rfl rfl)
theorem dX9_sells_106 : decode cX9_sells 106 = .ok (.bipush 8, 2) := dk_16 8 (dk_at dksX9_sells_4 11 rfl rfl)
theorem dX9_sells_108 : decode cX9_sells 108 = .ok (.iload_n 2, 1) := dk_28 (dk_at dksX9_sells_4 13 rfl rfl)
theorem dX9_sells_109 : decode cX9_sells 109 = .ok (.imul, 1) := dk_104 (dk_at dksX9_sells_4 14 rfl rfl)
theorem dX9_sells_110 : decode cX9_sells 110 = .ok (.iconst 5, 1) := dk_8 (dk_at dksX9_sells_4 15 rfl rfl)
theorem dX9_sells_111 : decode cX9_sells 111 = .ok (.iadd, 1) := dk_96 (dk_at dksX9_sells_4 16 rfl rfl)
theorem dX9_sells_112 : decode cX9_sells 112 = .ok (.iload_n 3, 1) := dk_29 (dk_at dksX9_sells_4 17 rfl rfl)
theorem dX9_sells_113 : decode cX9_sells 113 = .ok (.iastore, 1) := dk_79 (dk_at dksX9_sells_4 18 rfl rfl)
theorem dX9_sells_114 : decode cX9_sells 114 = .ok (.aload_n 0, 1) := dk_42 (dk_at dksX9_sells_4 19 rfl rfl)
theorem dX9_sells_115 : decode cX9_sells 115 = .ok (.getfield 9, 3) := dk_180 0 9 (dk_at dksX9_sells_4 20 rfl rfl)
theorem dX9_sells_118 : decode cX9_sells 118 = .ok (.bipush 8, 2) := dk_16 8 (dk_at dksX9_sells_5 0 rfl rfl)
theorem dX9_sells_120 : decode cX9_sells 120 = .ok (.iload_n 2, 1) := dk_28 (dk_at dksX9_sells_5 2 rfl rfl)
theorem dX9_sells_121 : decode cX9_sells 121 = .ok (.imul, 1) := dk_104 (dk_at dksX9_sells_5 3 rfl rfl)
theorem dX9_sells_122 : decode cX9_sells 122 = .ok (.bipush 6, 2) := dk_16 6 (dk_at dksX9_sells_5 4 rfl rfl)
theorem dX9_sells_124 : decode cX9_sells 124 = .ok (.iadd, 1) := dk_96 (dk_at dksX9_sells_5 6 rfl rfl)
theorem dX9_sells_125 : decode cX9_sells 125 = .ok (.iload 4, 2) := dk_21 4 (dk_at dksX9_sells_5 7 rfl rfl)
theorem dX9_sells_127 : decode cX9_sells 127 = .ok (.iastore, 1) := dk_79 (dk_at dksX9_sells_5 9 rfl rfl)
theorem dX9_sells_128 : decode cX9_sells 128 = .ok (.aload_n 0, 1) := dk_42 (dk_at dksX9_sells_5 10 rfl rfl)
theorem dX9_sells_129 : decode cX9_sells 129 = .ok (.iload_n 1, 1) := dk_27 (dk_at dksX9_sells_5 11 rfl rfl)
theorem dX9_sells_130 : decode cX9_sells 130 = .ok (.invokevirtual 363, 3) := dk_182 1 107 (dk_at dksX9_sells_5 12 rfl rfl)
theorem dX9_sells_133 : decode cX9_sells 133 = .ok (.iload_n 3, 1) := dk_29 (dk_at dksX9_sells_5 15 rfl rfl)
theorem dX9_sells_134 : decode cX9_sells 134 = .ok (.ireturn, 1) := dk_172 (dk_at dksX9_sells_5 16 rfl rfl)
def dkwX9_pays_1 : List UInt8 := [182, 0, 113, 177]
abbrev dktX9_pays_1 : List UInt8 := dkwX9_pays_1 ++ []
def dkwX9_pays_0 : List UInt8 := [42, 27, 4, 182, 0, 76, 28, 96, 62, 42, 27, 4, 29, 18, 117, 164, 0, 8, 18, 117, 167, 0, 4, 29]
abbrev dktX9_pays_0 : List UInt8 := dkwX9_pays_0 ++ dktX9_pays_1
theorem dksX9_pays_0 : cX9_pays.data.toList.drop 0 = dktX9_pays_0 := by decide +kernel
theorem dksX9_pays_1 : cX9_pays.data.toList.drop 24 = dktX9_pays_1 := dk_seg dksX9_pays_0 24 rfl rfl
theorem dX9_pays_0 : decode cX9_pays 0 = .ok (.aload_n 0, 1) := dk_42 (dk_at dksX9_pays_0 0 rfl rfl)
theorem dX9_pays_1 : decode cX9_pays 1 = .ok (.iload_n 1, 1) := dk_27 (dk_at dksX9_pays_0 1 rfl rfl)
theorem dX9_pays_2 : decode cX9_pays 2 = .ok (.iconst 1, 1) := dk_4 (dk_at dksX9_pays_0 2 rfl rfl)
theorem dX9_pays_3 : decode cX9_pays 3 = .ok (.invokevirtual 76, 3) := dk_182 0 76 (dk_at dksX9_pays_0 3 rfl rfl)
theorem dX9_pays_6 : decode cX9_pays 6 = .ok (.iload_n 2, 1) := dk_28 (dk_at dksX9_pays_0 6 rfl rfl)
theorem dX9_pays_7 : decode cX9_pays 7 = .ok (.iadd, 1) := dk_96 (dk_at dksX9_pays_0 7 rfl rfl)
theorem dX9_pays_8 : decode cX9_pays 8 = .ok (.istore_n 3, 1) := dk_62 (dk_at dksX9_pays_0 8 rfl rfl)
theorem dX9_pays_9 : decode cX9_pays 9 = .ok (.aload_n 0, 1) := dk_42 (dk_at dksX9_pays_0 9 rfl rfl)
theorem dX9_pays_10 : decode cX9_pays 10 = .ok (.iload_n 1, 1) := dk_27 (dk_at dksX9_pays_0 10 rfl rfl)
theorem dX9_pays_11 : decode cX9_pays 11 = .ok (.iconst 1, 1) := dk_4 (dk_at dksX9_pays_0 11 rfl rfl)
theorem dX9_pays_12 : decode cX9_pays 12 = .ok (.iload_n 3, 1) := dk_29 (dk_at dksX9_pays_0 12 rfl rfl)
theorem dX9_pays_13 : decode cX9_pays 13 = .ok (.ldc 117, 2) := dk_18 117 (dk_at dksX9_pays_0 13 rfl rfl)
theorem dX9_pays_15 : decode cX9_pays 15 = .ok (.if_icmp .le 8, 3) := dk_164 0 8 (dk_at dksX9_pays_0 15 rfl rfl)
theorem dX9_pays_18 : decode cX9_pays 18 = .ok (.ldc 117, 2) := dk_18 117 (dk_at dksX9_pays_0 18 rfl rfl)
theorem dX9_pays_20 : decode cX9_pays 20 = .ok (.goto 4, 3) := dk_167 0 4 (dk_at dksX9_pays_0 20 rfl rfl)
theorem dX9_pays_23 : decode cX9_pays 23 = .ok (.iload_n 3, 1) := dk_29 (dk_at dksX9_pays_0 23 rfl rfl)
theorem dX9_pays_24 : decode cX9_pays 24 = .ok (.invokevirtual 113, 3) := dk_182 0 113 (dk_at dksX9_pays_1 0 rfl rfl)
theorem dX9_pays_27 : decode cX9_pays 27 = .ok (.return_, 1) := dk_177 (dk_at dksX9_pays_1 3 rfl rfl)
def dkwX9_owns_0 : List UInt8 := [42, 27, 5, 7, 182, 0, 113, 42, 27, 6, 2, 182, 0, 113, 177]
abbrev dktX9_owns_0 : List UInt8 := dkwX9_owns_0 ++ []
theorem dksX9_owns_0 : cX9_owns.data.toList.drop 0 = dktX9_owns_0 := by decide +kernel
theorem dX9_owns_0 : decode cX9_owns 0 = .ok (.aload_n 0, 1) := dk_42 (dk_at dksX9_owns_0 0 rfl rfl)
theorem dX9_owns_1 : decode cX9_owns 1 = .ok (.iload_n 1, 1) := dk_27 (dk_at dksX9_owns_0 1 rfl rfl)
theorem dX9_owns_2 : decode cX9_owns 2 = .ok (.iconst 2, 1) := dk_5 (dk_at dksX9_owns_0 2 rfl rfl)
theorem dX9_owns_3 : decode cX9_owns 3 = .ok (.iconst 4, 1) := dk_7 (dk_at dksX9_owns_0 3 rfl rfl)
theorem dX9_owns_4 : decode cX9_owns 4 = .ok (.invokevirtual 113, 3) := dk_182 0 113 (dk_at dksX9_owns_0 4 rfl rfl)
theorem dX9_owns_7 : decode cX9_owns 7 = .ok (.aload_n 0, 1) := dk_42 (dk_at dksX9_owns_0 7 rfl rfl)
theorem dX9_owns_8 : decode cX9_owns 8 = .ok (.iload_n 1, 1) := dk_27 (dk_at dksX9_owns_0 8 rfl rfl)
theorem dX9_owns_9 : decode cX9_owns 9 = .ok (.iconst 3, 1) := dk_6 (dk_at dksX9_owns_0 9 rfl rfl)
theorem dX9_owns_10 : decode cX9_owns 10 = .ok (.iconst (-1), 1) := dk_2 (dk_at dksX9_owns_0 10 rfl rfl)
theorem dX9_owns_11 : decode cX9_owns 11 = .ok (.invokevirtual 113, 3) := dk_182 0 113 (dk_at dksX9_owns_0 11 rfl rfl)
theorem dX9_owns_14 : decode cX9_owns 14 = .ok (.return_, 1) := dk_177 (dk_at dksX9_owns_0 14 rfl rfl)
def dkwX9_quoted_0 : List UInt8 := [42, 3, 181, 0, 73, 42, 182, 1, 120, 172]
abbrev dktX9_quoted_0 : List UInt8 := dkwX9_quoted_0 ++ []
theorem dksX9_quoted_0 : cX9_quoted.data.toList.drop 0 = dktX9_quoted_0 := by decide +kernel
theorem dX9_quoted_0 : decode cX9_quoted 0 = .ok (.aload_n 0, 1) := dk_42 (dk_at dksX9_quoted_0 0 rfl rfl)
theorem dX9_quoted_1 : decode cX9_quoted 1 = .ok (.iconst 0, 1) := dk_3 (dk_at dksX9_quoted_0 1 rfl rfl)
theorem dX9_quoted_2 : decode cX9_quoted 2 = .ok (.putfield 73, 3) := dk_181 0 73 (dk_at dksX9_quoted_0 2 rfl rfl)
theorem dX9_quoted_5 : decode cX9_quoted 5 = .ok (.aload_n 0, 1) := dk_42 (dk_at dksX9_quoted_0 5 rfl rfl)
theorem dX9_quoted_6 : decode cX9_quoted 6 = .ok (.invokevirtual 376, 3) := dk_182 1 120 (dk_at dksX9_quoted_0 6 rfl rfl)
theorem dX9_quoted_9 : decode cX9_quoted 9 = .ok (.ireturn, 1) := dk_172 (dk_at dksX9_quoted_0 9 rfl rfl)
def dkwX9_homePrice_2 : List UInt8 := [4, 182, 1, 117, 42, 27, 3, 182, 1, 117, 3, 182, 1, 85, 184, 1, 89, 172]
abbrev dktX9_homePrice_2 : List UInt8 := dkwX9_homePrice_2 ++ []
def dkwX9_homePrice_1 : List UInt8 := [182, 1, 117, 3, 182, 1, 73, 61, 28, 156, 0, 8, 16, 20, 167, 0, 27, 3, 42, 28, 3, 27, 42, 27]
abbrev dktX9_homePrice_1 : List UInt8 := dkwX9_homePrice_1 ++ dktX9_homePrice_2
def dkwX9_homePrice_0 : List UInt8 := [42, 180, 0, 9, 17, 8, 68, 46, 16, 34, 100, 60, 27, 156, 0, 6, 16, 20, 172, 42, 42, 27, 16, 6]
abbrev dktX9_homePrice_0 : List UInt8 := dkwX9_homePrice_0 ++ dktX9_homePrice_1
theorem dksX9_homePrice_0 : cX9_homePrice.data.toList.drop 0 = dktX9_homePrice_0 := by decide +kernel
theorem dksX9_homePrice_1 : cX9_homePrice.data.toList.drop 24 = dktX9_homePrice_1 := dk_seg dksX9_homePrice_0 24 rfl rfl
theorem dksX9_homePrice_2 : cX9_homePrice.data.toList.drop 48 = dktX9_homePrice_2 := dk_seg dksX9_homePrice_1 24 rfl rfl
theorem dX9_homePrice_0 : decode cX9_homePrice 0 = .ok (.aload_n 0, 1) := dk_42 (dk_at dksX9_homePrice_0 0 rfl rfl)
theorem dX9_homePrice_1 : decode cX9_homePrice 1 = .ok (.getfield 9, 3) := dk_180 0 9 (dk_at dksX9_homePrice_0 1 rfl rfl)
theorem dX9_homePrice_4 : decode cX9_homePrice 4 = .ok (.sipush 2116, 3) := dk_17 8 68 (dk_at dksX9_homePrice_0 4 rfl rfl)
theorem dX9_homePrice_7 : decode cX9_homePrice 7 = .ok (.iaload, 1) := dk_46 (dk_at dksX9_homePrice_0 7 rfl rfl)
theorem dX9_homePrice_8 : decode cX9_homePrice 8 = .ok (.bipush 34, 2) := dk_16 34 (dk_at dksX9_homePrice_0 8 rfl rfl)
theorem dX9_homePrice_10 : decode cX9_homePrice 10 = .ok (.isub, 1) := dk_100 (dk_at dksX9_homePrice_0 10 rfl rfl)
theorem dX9_homePrice_11 : decode cX9_homePrice 11 = .ok (.istore_n 1, 1) := dk_60 (dk_at dksX9_homePrice_0 11 rfl rfl)
theorem dX9_homePrice_12 : decode cX9_homePrice 12 = .ok (.iload_n 1, 1) := dk_27 (dk_at dksX9_homePrice_0 12 rfl rfl)
theorem dX9_homePrice_13 : decode cX9_homePrice 13 = .ok (.ifCond .ge 6, 3) := dk_156 0 6 (dk_at dksX9_homePrice_0 13 rfl rfl)
theorem dX9_homePrice_16 : decode cX9_homePrice 16 = .ok (.bipush 20, 2) := dk_16 20 (dk_at dksX9_homePrice_0 16 rfl rfl)
theorem dX9_homePrice_18 : decode cX9_homePrice 18 = .ok (.ireturn, 1) := dk_172 (dk_at dksX9_homePrice_0 18 rfl rfl)
theorem dX9_homePrice_19 : decode cX9_homePrice 19 = .ok (.aload_n 0, 1) := dk_42 (dk_at dksX9_homePrice_0 19 rfl rfl)
theorem dX9_homePrice_20 : decode cX9_homePrice 20 = .ok (.aload_n 0, 1) := dk_42 (dk_at dksX9_homePrice_0 20 rfl rfl)
theorem dX9_homePrice_21 : decode cX9_homePrice 21 = .ok (.iload_n 1, 1) := dk_27 (dk_at dksX9_homePrice_0 21 rfl rfl)
theorem dX9_homePrice_22 : decode cX9_homePrice 22 = .ok (.bipush 6, 2) := dk_16 6 (dk_at dksX9_homePrice_0 22 rfl rfl)
theorem dX9_homePrice_24 : decode cX9_homePrice 24 = .ok (.invokevirtual 373, 3) := dk_182 1 117 (dk_at dksX9_homePrice_1 0 rfl rfl)
theorem dX9_homePrice_27 : decode cX9_homePrice 27 = .ok (.iconst 0, 1) := dk_3 (dk_at dksX9_homePrice_1 3 rfl rfl)
theorem dX9_homePrice_28 : decode cX9_homePrice 28 = .ok (.invokevirtual 329, 3) := dk_182 1 73 (dk_at dksX9_homePrice_1 4 rfl rfl)
theorem dX9_homePrice_31 : decode cX9_homePrice 31 = .ok (.istore_n 2, 1) := dk_61 (dk_at dksX9_homePrice_1 7 rfl rfl)
theorem dX9_homePrice_32 : decode cX9_homePrice 32 = .ok (.iload_n 2, 1) := dk_28 (dk_at dksX9_homePrice_1 8 rfl rfl)
theorem dX9_homePrice_33 : decode cX9_homePrice 33 = .ok (.ifCond .ge 8, 3) := dk_156 0 8 (dk_at dksX9_homePrice_1 9 rfl rfl)
theorem dX9_homePrice_36 : decode cX9_homePrice 36 = .ok (.bipush 20, 2) := dk_16 20 (dk_at dksX9_homePrice_1 12 rfl rfl)
theorem dX9_homePrice_38 : decode cX9_homePrice 38 = .ok (.goto 27, 3) := dk_167 0 27 (dk_at dksX9_homePrice_1 14 rfl rfl)
theorem dX9_homePrice_41 : decode cX9_homePrice 41 = .ok (.iconst 0, 1) := dk_3 (dk_at dksX9_homePrice_1 17 rfl rfl)
theorem dX9_homePrice_42 : decode cX9_homePrice 42 = .ok (.aload_n 0, 1) := dk_42 (dk_at dksX9_homePrice_1 18 rfl rfl)
theorem dX9_homePrice_43 : decode cX9_homePrice 43 = .ok (.iload_n 2, 1) := dk_28 (dk_at dksX9_homePrice_1 19 rfl rfl)
theorem dX9_homePrice_44 : decode cX9_homePrice 44 = .ok (.iconst 0, 1) := dk_3 (dk_at dksX9_homePrice_1 20 rfl rfl)
theorem dX9_homePrice_45 : decode cX9_homePrice 45 = .ok (.iload_n 1, 1) := dk_27 (dk_at dksX9_homePrice_1 21 rfl rfl)
theorem dX9_homePrice_46 : decode cX9_homePrice 46 = .ok (.aload_n 0, 1) := dk_42 (dk_at dksX9_homePrice_1 22 rfl rfl)
theorem dX9_homePrice_47 : decode cX9_homePrice 47 = .ok (.iload_n 1, 1) := dk_27 (dk_at dksX9_homePrice_1 23 rfl rfl)
theorem dX9_homePrice_48 : decode cX9_homePrice 48 = .ok (.iconst 1, 1) := dk_4 (dk_at dksX9_homePrice_2 0 rfl rfl)
theorem dX9_homePrice_49 : decode cX9_homePrice 49 = .ok (.invokevirtual 373, 3) := dk_182 1 117 (dk_at dksX9_homePrice_2 1 rfl rfl)
theorem dX9_homePrice_52 : decode cX9_homePrice 52 = .ok (.aload_n 0, 1) := dk_42 (dk_at dksX9_homePrice_2 4 rfl rfl)
theorem dX9_homePrice_53 : decode cX9_homePrice 53 = .ok (.iload_n 1, 1) := dk_27 (dk_at dksX9_homePrice_2 5 rfl rfl)
theorem dX9_homePrice_54 : decode cX9_homePrice 54 = .ok (.iconst 0, 1) := dk_3 (dk_at dksX9_homePrice_2 6 rfl rfl)
theorem dX9_homePrice_55 : decode cX9_homePrice 55 = .ok (.invokevirtual 373, 3) := dk_182 1 117 (dk_at dksX9_homePrice_2 7 rfl rfl)
theorem dX9_homePrice_58 : decode cX9_homePrice 58 = .ok (.iconst 0, 1) := dk_3 (dk_at dksX9_homePrice_2 10 rfl rfl)
theorem dX9_homePrice_59 : decode cX9_homePrice 59 = .ok (.invokevirtual 341, 3) := dk_182 1 85 (dk_at dksX9_homePrice_2 11 rfl rfl)
theorem dX9_homePrice_62 : decode cX9_homePrice 62 = .ok (.invokestatic 345, 3) := dk_184 1 89 (dk_at dksX9_homePrice_2 14 rfl rfl)
theorem dX9_homePrice_65 : decode cX9_homePrice 65 = .ok (.ireturn, 1) := dk_172 (dk_at dksX9_homePrice_2 17 rfl rfl)
def dkwX9_row_0 : List UInt8 := [42, 180, 0, 61, 16, 7, 27, 104, 28, 96, 46, 172]
abbrev dktX9_row_0 : List UInt8 := dkwX9_row_0 ++ []
theorem dksX9_row_0 : cX9_row.data.toList.drop 0 = dktX9_row_0 := by decide +kernel
theorem dX9_row_0 : decode cX9_row 0 = .ok (.aload_n 0, 1) := dk_42 (dk_at dksX9_row_0 0 rfl rfl)
theorem dX9_row_1 : decode cX9_row 1 = .ok (.getfield 61, 3) := dk_180 0 61 (dk_at dksX9_row_0 1 rfl rfl)
theorem dX9_row_4 : decode cX9_row 4 = .ok (.bipush 7, 2) := dk_16 7 (dk_at dksX9_row_0 4 rfl rfl)
theorem dX9_row_6 : decode cX9_row 6 = .ok (.iload_n 1, 1) := dk_27 (dk_at dksX9_row_0 6 rfl rfl)
theorem dX9_row_7 : decode cX9_row 7 = .ok (.imul, 1) := dk_104 (dk_at dksX9_row_0 7 rfl rfl)
theorem dX9_row_8 : decode cX9_row 8 = .ok (.iload_n 2, 1) := dk_28 (dk_at dksX9_row_0 8 rfl rfl)
theorem dX9_row_9 : decode cX9_row 9 = .ok (.iadd, 1) := dk_96 (dk_at dksX9_row_0 9 rfl rfl)
theorem dX9_row_10 : decode cX9_row 10 = .ok (.iaload, 1) := dk_46 (dk_at dksX9_row_0 10 rfl rfl)
theorem dX9_row_11 : decode cX9_row 11 = .ok (.ireturn, 1) := dk_172 (dk_at dksX9_row_0 11 rfl rfl)
def dkwX9_order_6 : List UInt8 := [3, 79, 42, 27, 16, 6, 29, 182, 0, 113, 42, 180, 0, 9, 17, 8, 80, 92, 46, 4, 96, 79, 29, 172]
abbrev dktX9_order_6 : List UInt8 := dkwX9_order_6 ++ []
def dkwX9_order_5 : List UInt8 := [17, 6, 244, 6, 29, 104, 96, 4, 96, 28, 79, 42, 180, 0, 9, 17, 6, 244, 6, 29, 104, 96, 5, 96]
abbrev dktX9_order_5 : List UInt8 := dkwX9_order_5 ++ dktX9_order_6
def dkwX9_order_4 : List UInt8 := [92, 46, 28, 96, 79, 42, 180, 0, 9, 17, 6, 244, 6, 29, 104, 96, 3, 96, 27, 79, 42, 180, 0, 9]
abbrev dktX9_order_4 : List UInt8 := dkwX9_order_4 ++ dktX9_order_5
def dkwX9_order_3 : List UInt8 := [182, 0, 76, 28, 162, 0, 6, 16, 253, 172, 42, 27, 28, 116, 182, 1, 101, 42, 180, 0, 9, 17, 8, 72]
abbrev dktX9_order_3 : List UInt8 := dkwX9_order_3 ++ dktX9_order_4
def dkwX9_order_2 : List UInt8 := [155, 0, 6, 16, 254, 172, 42, 182, 1, 120, 61, 42, 180, 0, 9, 17, 8, 80, 46, 62, 42, 27, 4]
abbrev dktX9_order_2 : List UInt8 := dkwX9_order_2 ++ dktX9_order_3
def dkwX9_order_1 : List UInt8 := [153, 0, 5, 3, 172, 42, 27, 5, 182, 0, 76, 153, 0, 5, 2, 172, 42, 27, 16, 6, 182, 0, 76]
abbrev dktX9_order_1 : List UInt8 := dkwX9_order_1 ++ dktX9_order_2
def dkwX9_order_0 : List UInt8 := [42, 3, 181, 0, 73, 42, 42, 27, 182, 0, 125, 154, 0, 7, 4, 167, 0, 4, 3, 4, 182, 0, 84]
abbrev dktX9_order_0 : List UInt8 := dkwX9_order_0 ++ dktX9_order_1
theorem dksX9_order_0 : cX9_order.data.toList.drop 0 = dktX9_order_0 := by decide +kernel
theorem dksX9_order_1 : cX9_order.data.toList.drop 23 = dktX9_order_1 := dk_seg dksX9_order_0 23 rfl rfl
theorem dksX9_order_2 : cX9_order.data.toList.drop 46 = dktX9_order_2 := dk_seg dksX9_order_1 23 rfl rfl
theorem dksX9_order_3 : cX9_order.data.toList.drop 69 = dktX9_order_3 := dk_seg dksX9_order_2 23 rfl rfl
theorem dksX9_order_4 : cX9_order.data.toList.drop 93 = dktX9_order_4 := dk_seg dksX9_order_3 24 rfl rfl
theorem dksX9_order_5 : cX9_order.data.toList.drop 117 = dktX9_order_5 := dk_seg dksX9_order_4 24 rfl rfl
theorem dksX9_order_6 : cX9_order.data.toList.drop 141 = dktX9_order_6 := dk_seg dksX9_order_5 24 rfl rfl
theorem dX9_order_0 : decode cX9_order 0 = .ok (.aload_n 0, 1) := dk_42 (dk_at dksX9_order_0 0 rfl rfl)
theorem dX9_order_1 : decode cX9_order 1 = .ok (.iconst 0, 1) := dk_3 (dk_at dksX9_order_0 1 rfl rfl)
theorem dX9_order_2 : decode cX9_order 2 = .ok (.putfield 73, 3) := dk_181 0 73 (dk_at dksX9_order_0 2 rfl rfl)
theorem dX9_order_5 : decode cX9_order 5 = .ok (.aload_n 0, 1) := dk_42 (dk_at dksX9_order_0 5 rfl rfl)
theorem dX9_order_6 : decode cX9_order 6 = .ok (.aload_n 0, 1) := dk_42 (dk_at dksX9_order_0 6 rfl rfl)
theorem dX9_order_7 : decode cX9_order 7 = .ok (.iload_n 1, 1) := dk_27 (dk_at dksX9_order_0 7 rfl rfl)
theorem dX9_order_8 : decode cX9_order 8 = .ok (.invokevirtual 125, 3) := dk_182 0 125 (dk_at dksX9_order_0 8 rfl rfl)
theorem dX9_order_11 : decode cX9_order 11 = .ok (.ifCond .ne 7, 3) := dk_154 0 7 (dk_at dksX9_order_0 11 rfl rfl)
theorem dX9_order_14 : decode cX9_order 14 = .ok (.iconst 1, 1) := dk_4 (dk_at dksX9_order_0 14 rfl rfl)
theorem dX9_order_15 : decode cX9_order 15 = .ok (.goto 4, 3) := dk_167 0 4 (dk_at dksX9_order_0 15 rfl rfl)
theorem dX9_order_18 : decode cX9_order 18 = .ok (.iconst 0, 1) := dk_3 (dk_at dksX9_order_0 18 rfl rfl)
theorem dX9_order_19 : decode cX9_order 19 = .ok (.iconst 1, 1) := dk_4 (dk_at dksX9_order_0 19 rfl rfl)
theorem dX9_order_20 : decode cX9_order 20 = .ok (.invokevirtual 84, 3) := dk_182 0 84 (dk_at dksX9_order_0 20 rfl rfl)
theorem dX9_order_23 : decode cX9_order 23 = .ok (.ifCond .eq 5, 3) := dk_153 0 5 (dk_at dksX9_order_1 0 rfl rfl)
theorem dX9_order_26 : decode cX9_order 26 = .ok (.iconst 0, 1) := dk_3 (dk_at dksX9_order_1 3 rfl rfl)
theorem dX9_order_27 : decode cX9_order 27 = .ok (.ireturn, 1) := dk_172 (dk_at dksX9_order_1 4 rfl rfl)
theorem dX9_order_28 : decode cX9_order 28 = .ok (.aload_n 0, 1) := dk_42 (dk_at dksX9_order_1 5 rfl rfl)
theorem dX9_order_29 : decode cX9_order 29 = .ok (.iload_n 1, 1) := dk_27 (dk_at dksX9_order_1 6 rfl rfl)
theorem dX9_order_30 : decode cX9_order 30 = .ok (.iconst 2, 1) := dk_5 (dk_at dksX9_order_1 7 rfl rfl)
theorem dX9_order_31 : decode cX9_order 31 = .ok (.invokevirtual 76, 3) := dk_182 0 76 (dk_at dksX9_order_1 8 rfl rfl)
theorem dX9_order_34 : decode cX9_order 34 = .ok (.ifCond .eq 5, 3) := dk_153 0 5 (dk_at dksX9_order_1 11 rfl rfl)
theorem dX9_order_37 : decode cX9_order 37 = .ok (.iconst (-1), 1) := dk_2 (dk_at dksX9_order_1 14 rfl rfl)
theorem dX9_order_38 : decode cX9_order 38 = .ok (.ireturn, 1) := dk_172 (dk_at dksX9_order_1 15 rfl rfl)
theorem dX9_order_39 : decode cX9_order 39 = .ok (.aload_n 0, 1) := dk_42 (dk_at dksX9_order_1 16 rfl rfl)
theorem dX9_order_40 : decode cX9_order 40 = .ok (.iload_n 1, 1) := dk_27 (dk_at dksX9_order_1 17 rfl rfl)
theorem dX9_order_41 : decode cX9_order 41 = .ok (.bipush 6, 2) := dk_16 6 (dk_at dksX9_order_1 18 rfl rfl)
theorem dX9_order_43 : decode cX9_order 43 = .ok (.invokevirtual 76, 3) := dk_182 0 76 (dk_at dksX9_order_1 20 rfl rfl)
theorem dX9_order_46 : decode cX9_order 46 = .ok (.ifCond .lt 6, 3) := dk_155 0 6 (dk_at dksX9_order_2 0 rfl rfl)
theorem dX9_order_49 : decode cX9_order 49 = .ok (.bipush (-2), 2) := dk_16 254 (dk_at dksX9_order_2 3 rfl rfl)
theorem dX9_order_51 : decode cX9_order 51 = .ok (.ireturn, 1) := dk_172 (dk_at dksX9_order_2 5 rfl rfl)
theorem dX9_order_52 : decode cX9_order 52 = .ok (.aload_n 0, 1) := dk_42 (dk_at dksX9_order_2 6 rfl rfl)
theorem dX9_order_53 : decode cX9_order 53 = .ok (.invokevirtual 376, 3) := dk_182 1 120 (dk_at dksX9_order_2 7 rfl rfl)
theorem dX9_order_56 : decode cX9_order 56 = .ok (.istore_n 2, 1) := dk_61 (dk_at dksX9_order_2 10 rfl rfl)
theorem dX9_order_57 : decode cX9_order 57 = .ok (.aload_n 0, 1) := dk_42 (dk_at dksX9_order_2 11 rfl rfl)
theorem dX9_order_58 : decode cX9_order 58 = .ok (.getfield 9, 3) := dk_180 0 9 (dk_at dksX9_order_2 12 rfl rfl)
theorem dX9_order_61 : decode cX9_order 61 = .ok (.sipush 2128, 3) := dk_17 8 80 (dk_at dksX9_order_2 15 rfl rfl)
theorem dX9_order_64 : decode cX9_order 64 = .ok (.iaload, 1) := dk_46 (dk_at dksX9_order_2 18 rfl rfl)
theorem dX9_order_65 : decode cX9_order 65 = .ok (.istore_n 3, 1) := dk_62 (dk_at dksX9_order_2 19 rfl rfl)
theorem dX9_order_66 : decode cX9_order 66 = .ok (.aload_n 0, 1) := dk_42 (dk_at dksX9_order_2 20 rfl rfl)
theorem dX9_order_67 : decode cX9_order 67 = .ok (.iload_n 1, 1) := dk_27 (dk_at dksX9_order_2 21 rfl rfl)
theorem dX9_order_68 : decode cX9_order 68 = .ok (.iconst 1, 1) := dk_4 (dk_at dksX9_order_2 22 rfl rfl)
theorem dX9_order_69 : decode cX9_order 69 = .ok (.invokevirtual 76, 3) := dk_182 0 76 (dk_at dksX9_order_3 0 rfl rfl)
theorem dX9_order_72 : decode cX9_order 72 = .ok (.iload_n 2, 1) := dk_28 (dk_at dksX9_order_3 3 rfl rfl)
theorem dX9_order_73 : decode cX9_order 73 = .ok (.if_icmp .ge 6, 3) := dk_162 0 6 (dk_at dksX9_order_3 4 rfl rfl)
theorem dX9_order_76 : decode cX9_order 76 = .ok (.bipush (-3), 2) := dk_16 253 (dk_at dksX9_order_3 7 rfl rfl)
theorem dX9_order_78 : decode cX9_order 78 = .ok (.ireturn, 1) := dk_172 (dk_at dksX9_order_3 9 rfl rfl)
theorem dX9_order_79 : decode cX9_order 79 = .ok (.aload_n 0, 1) := dk_42 (dk_at dksX9_order_3 10 rfl rfl)
theorem dX9_order_80 : decode cX9_order 80 = .ok (.iload_n 1, 1) := dk_27 (dk_at dksX9_order_3 11 rfl rfl)
theorem dX9_order_81 : decode cX9_order 81 = .ok (.iload_n 2, 1) := dk_28 (dk_at dksX9_order_3 12 rfl rfl)
theorem dX9_order_82 : decode cX9_order 82 = .ok (.ineg, 1) := dk_116 (dk_at dksX9_order_3 13 rfl rfl)
theorem dX9_order_83 : decode cX9_order 83 = .ok (.invokevirtual 357, 3) := dk_182 1 101 (dk_at dksX9_order_3 14 rfl rfl)
theorem dX9_order_86 : decode cX9_order 86 = .ok (.aload_n 0, 1) := dk_42 (dk_at dksX9_order_3 17 rfl rfl)
theorem dX9_order_87 : decode cX9_order 87 = .ok (.getfield 9, 3) := dk_180 0 9 (dk_at dksX9_order_3 18 rfl rfl)
theorem dX9_order_90 : decode cX9_order 90 = .ok (.sipush 2120, 3) := dk_17 8 72 (dk_at dksX9_order_3 21 rfl rfl)
theorem dX9_order_93 : decode cX9_order 93 = .ok (.dup2, 1) := dk_92 (dk_at dksX9_order_4 0 rfl rfl)
theorem dX9_order_94 : decode cX9_order 94 = .ok (.iaload, 1) := dk_46 (dk_at dksX9_order_4 1 rfl rfl)
theorem dX9_order_95 : decode cX9_order 95 = .ok (.iload_n 2, 1) := dk_28 (dk_at dksX9_order_4 2 rfl rfl)
theorem dX9_order_96 : decode cX9_order 96 = .ok (.iadd, 1) := dk_96 (dk_at dksX9_order_4 3 rfl rfl)
theorem dX9_order_97 : decode cX9_order 97 = .ok (.iastore, 1) := dk_79 (dk_at dksX9_order_4 4 rfl rfl)
theorem dX9_order_98 : decode cX9_order 98 = .ok (.aload_n 0, 1) := dk_42 (dk_at dksX9_order_4 5 rfl rfl)
theorem dX9_order_99 : decode cX9_order 99 = .ok (.getfield 9, 3) := dk_180 0 9 (dk_at dksX9_order_4 6 rfl rfl)
theorem dX9_order_102 : decode cX9_order 102 = .ok (.sipush 1780, 3) := dk_17 6 244 (dk_at dksX9_order_4 9 rfl rfl)
theorem dX9_order_105 : decode cX9_order 105 = .ok (.iconst 3, 1) := dk_6 (dk_at dksX9_order_4 12 rfl rfl)
theorem dX9_order_106 : decode cX9_order 106 = .ok (.iload_n 3, 1) := dk_29 (dk_at dksX9_order_4 13 rfl rfl)
theorem dX9_order_107 : decode cX9_order 107 = .ok (.imul, 1) := dk_104 (dk_at dksX9_order_4 14 rfl rfl)
theorem dX9_order_108 : decode cX9_order 108 = .ok (.iadd, 1) := dk_96 (dk_at dksX9_order_4 15 rfl rfl)
theorem dX9_order_109 : decode cX9_order 109 = .ok (.iconst 0, 1) := dk_3 (dk_at dksX9_order_4 16 rfl rfl)
theorem dX9_order_110 : decode cX9_order 110 = .ok (.iadd, 1) := dk_96 (dk_at dksX9_order_4 17 rfl rfl)
theorem dX9_order_111 : decode cX9_order 111 = .ok (.iload_n 1, 1) := dk_27 (dk_at dksX9_order_4 18 rfl rfl)
theorem dX9_order_112 : decode cX9_order 112 = .ok (.iastore, 1) := dk_79 (dk_at dksX9_order_4 19 rfl rfl)
theorem dX9_order_113 : decode cX9_order 113 = .ok (.aload_n 0, 1) := dk_42 (dk_at dksX9_order_4 20 rfl rfl)
theorem dX9_order_114 : decode cX9_order 114 = .ok (.getfield 9, 3) := dk_180 0 9 (dk_at dksX9_order_4 21 rfl rfl)
theorem dX9_order_117 : decode cX9_order 117 = .ok (.sipush 1780, 3) := dk_17 6 244 (dk_at dksX9_order_5 0 rfl rfl)
theorem dX9_order_120 : decode cX9_order 120 = .ok (.iconst 3, 1) := dk_6 (dk_at dksX9_order_5 3 rfl rfl)
theorem dX9_order_121 : decode cX9_order 121 = .ok (.iload_n 3, 1) := dk_29 (dk_at dksX9_order_5 4 rfl rfl)
theorem dX9_order_122 : decode cX9_order 122 = .ok (.imul, 1) := dk_104 (dk_at dksX9_order_5 5 rfl rfl)
theorem dX9_order_123 : decode cX9_order 123 = .ok (.iadd, 1) := dk_96 (dk_at dksX9_order_5 6 rfl rfl)
theorem dX9_order_124 : decode cX9_order 124 = .ok (.iconst 1, 1) := dk_4 (dk_at dksX9_order_5 7 rfl rfl)
theorem dX9_order_125 : decode cX9_order 125 = .ok (.iadd, 1) := dk_96 (dk_at dksX9_order_5 8 rfl rfl)
theorem dX9_order_126 : decode cX9_order 126 = .ok (.iload_n 2, 1) := dk_28 (dk_at dksX9_order_5 9 rfl rfl)
theorem dX9_order_127 : decode cX9_order 127 = .ok (.iastore, 1) := dk_79 (dk_at dksX9_order_5 10 rfl rfl)
theorem dX9_order_128 : decode cX9_order 128 = .ok (.aload_n 0, 1) := dk_42 (dk_at dksX9_order_5 11 rfl rfl)
theorem dX9_order_129 : decode cX9_order 129 = .ok (.getfield 9, 3) := dk_180 0 9 (dk_at dksX9_order_5 12 rfl rfl)
theorem dX9_order_132 : decode cX9_order 132 = .ok (.sipush 1780, 3) := dk_17 6 244 (dk_at dksX9_order_5 15 rfl rfl)
theorem dX9_order_135 : decode cX9_order 135 = .ok (.iconst 3, 1) := dk_6 (dk_at dksX9_order_5 18 rfl rfl)
theorem dX9_order_136 : decode cX9_order 136 = .ok (.iload_n 3, 1) := dk_29 (dk_at dksX9_order_5 19 rfl rfl)
theorem dX9_order_137 : decode cX9_order 137 = .ok (.imul, 1) := dk_104 (dk_at dksX9_order_5 20 rfl rfl)
theorem dX9_order_138 : decode cX9_order 138 = .ok (.iadd, 1) := dk_96 (dk_at dksX9_order_5 21 rfl rfl)
theorem dX9_order_139 : decode cX9_order 139 = .ok (.iconst 2, 1) := dk_5 (dk_at dksX9_order_5 22 rfl rfl)
theorem dX9_order_140 : decode cX9_order 140 = .ok (.iadd, 1) := dk_96 (dk_at dksX9_order_5 23 rfl rfl)
theorem dX9_order_141 : decode cX9_order 141 = .ok (.iconst 0, 1) := dk_3 (dk_at dksX9_order_6 0 rfl rfl)
theorem dX9_order_142 : decode cX9_order 142 = .ok (.iastore, 1) := dk_79 (dk_at dksX9_order_6 1 rfl rfl)
theorem dX9_order_143 : decode cX9_order 143 = .ok (.aload_n 0, 1) := dk_42 (dk_at dksX9_order_6 2 rfl rfl)
theorem dX9_order_144 : decode cX9_order 144 = .ok (.iload_n 1, 1) := dk_27 (dk_at dksX9_order_6 3 rfl rfl)
theorem dX9_order_145 : decode cX9_order 145 = .ok (.bipush 6, 2) := dk_16 6 (dk_at dksX9_order_6 4 rfl rfl)
theorem dX9_order_147 : decode cX9_order 147 = .ok (.iload_n 3, 1) := dk_29 (dk_at dksX9_order_6 6 rfl rfl)
theorem dX9_order_148 : decode cX9_order 148 = .ok (.invokevirtual 113, 3) := dk_182 0 113 (dk_at dksX9_order_6 7 rfl rfl)
theorem dX9_order_151 : decode cX9_order 151 = .ok (.aload_n 0, 1) := dk_42 (dk_at dksX9_order_6 10 rfl rfl)
theorem dX9_order_152 : decode cX9_order 152 = .ok (.getfield 9, 3) := dk_180 0 9 (dk_at dksX9_order_6 11 rfl rfl)
theorem dX9_order_155 : decode cX9_order 155 = .ok (.sipush 2128, 3) := dk_17 8 80 (dk_at dksX9_order_6 14 rfl rfl)
theorem dX9_order_158 : decode cX9_order 158 = .ok (.dup2, 1) := dk_92 (dk_at dksX9_order_6 17 rfl rfl)
theorem dX9_order_159 : decode cX9_order 159 = .ok (.iaload, 1) := dk_46 (dk_at dksX9_order_6 18 rfl rfl)
theorem dX9_order_160 : decode cX9_order 160 = .ok (.iconst 1, 1) := dk_4 (dk_at dksX9_order_6 19 rfl rfl)
theorem dX9_order_161 : decode cX9_order 161 = .ok (.iadd, 1) := dk_96 (dk_at dksX9_order_6 20 rfl rfl)
theorem dX9_order_162 : decode cX9_order 162 = .ok (.iastore, 1) := dk_79 (dk_at dksX9_order_6 21 rfl rfl)
theorem dX9_order_163 : decode cX9_order 163 = .ok (.iload_n 3, 1) := dk_29 (dk_at dksX9_order_6 22 rfl rfl)
theorem dX9_order_164 : decode cX9_order 164 = .ok (.ireturn, 1) := dk_172 (dk_at dksX9_order_6 23 rfl rfl)
def dkwX9_choose_5 : List UInt8 := [96, 5, 96, 4, 79, 42, 27, 182, 1, 107, 4, 172]
abbrev dktX9_choose_5 : List UInt8 := dkwX9_choose_5 ++ []
def dkwX9_choose_4 : List UInt8 := [180, 0, 9, 17, 6, 244, 6, 29, 104, 96, 4, 96, 46, 79, 42, 180, 0, 9, 17, 6, 244, 6, 29, 104]
abbrev dktX9_choose_4 : List UInt8 := dkwX9_choose_4 ++ dktX9_choose_5
def dkwX9_choose_3 : List UInt8 := [154, 0, 6, 16, 252, 172, 42, 28, 8, 27, 182, 0, 147, 42, 180, 0, 9, 16, 8, 28, 104, 8, 96, 42]
abbrev dktX9_choose_3 : List UInt8 := dkwX9_choose_3 ++ dktX9_choose_4
def dkwX9_choose_2 : List UInt8 := [154, 0, 6, 16, 254, 172, 42, 28, 3, 182, 0, 88, 4, 159, 0, 6, 16, 253, 172, 42, 29, 182, 1, 123]
abbrev dktX9_choose_2 : List UInt8 := dkwX9_choose_2 ++ dktX9_choose_3
def dkwX9_choose_1 : List UInt8 := [180, 0, 9, 17, 6, 244, 6, 29, 104, 96, 5, 96, 46, 4, 160, 0, 5, 2, 172, 42, 27, 182, 0, 122]
abbrev dktX9_choose_1 : List UInt8 := dkwX9_choose_1 ++ dktX9_choose_2
def dkwX9_choose_0 : List UInt8 := [42, 27, 28, 182, 1, 110, 154, 0, 5, 3, 172, 42, 27, 16, 6, 182, 0, 76, 62, 29, 155, 0, 21, 42]
abbrev dktX9_choose_0 : List UInt8 := dkwX9_choose_0 ++ dktX9_choose_1
theorem dksX9_choose_0 : cX9_choose.data.toList.drop 0 = dktX9_choose_0 := by decide +kernel
theorem dksX9_choose_1 : cX9_choose.data.toList.drop 24 = dktX9_choose_1 := dk_seg dksX9_choose_0 24 rfl rfl
theorem dksX9_choose_2 : cX9_choose.data.toList.drop 48 = dktX9_choose_2 := dk_seg dksX9_choose_1 24 rfl rfl
theorem dksX9_choose_3 : cX9_choose.data.toList.drop 72 = dktX9_choose_3 := dk_seg dksX9_choose_2 24 rfl rfl
theorem dksX9_choose_4 : cX9_choose.data.toList.drop 96 = dktX9_choose_4 := dk_seg dksX9_choose_3 24 rfl rfl
theorem dksX9_choose_5 : cX9_choose.data.toList.drop 120 = dktX9_choose_5 := dk_seg dksX9_choose_4 24 rfl rfl
theorem dX9_choose_0 : decode cX9_choose 0 = .ok (.aload_n 0, 1) := dk_42 (dk_at dksX9_choose_0 0 rfl rfl)
theorem dX9_choose_1 : decode cX9_choose 1 = .ok (.iload_n 1, 1) := dk_27 (dk_at dksX9_choose_0 1 rfl rfl)
theorem dX9_choose_2 : decode cX9_choose 2 = .ok (.iload_n 2, 1) := dk_28 (dk_at dksX9_choose_0 2 rfl rfl)
theorem dX9_choose_3 : decode cX9_choose 3 = .ok (.invokevirtual 366, 3) := dk_182 1 110 (dk_at dksX9_choose_0 3 rfl rfl)
theorem dX9_choose_6 : decode cX9_choose 6 = .ok (.ifCond .ne 5, 3) := dk_154 0 5 (dk_at dksX9_choose_0 6 rfl rfl)
theorem dX9_choose_9 : decode cX9_choose 9 = .ok (.iconst 0, 1) := dk_3 (dk_at dksX9_choose_0 9 rfl rfl)
theorem dX9_choose_10 : decode cX9_choose 10 = .ok (.ireturn, 1) := dk_172 (dk_at dksX9_choose_0 10 rfl rfl)
theorem dX9_choose_11 : decode cX9_choose 11 = .ok (.aload_n 0, 1) := dk_42 (dk_at dksX9_choose_0 11 rfl rfl)
theorem dX9_choose_12 : decode cX9_choose 12 = .ok (.iload_n 1, 1) := dk_27 (dk_at dksX9_choose_0 12 rfl rfl)
theorem dX9_choose_13 : decode cX9_choose 13 = .ok (.bipush 6, 2) := dk_16 6 (dk_at dksX9_choose_0 13 rfl rfl)
theorem dX9_choose_15 : decode cX9_choose 15 = .ok (.invokevirtual 76, 3) := dk_182 0 76 (dk_at dksX9_choose_0 15 rfl rfl)
theorem dX9_choose_18 : decode cX9_choose 18 = .ok (.istore_n 3, 1) := dk_62 (dk_at dksX9_choose_0 18 rfl rfl)
theorem dX9_choose_19 : decode cX9_choose 19 = .ok (.iload_n 3, 1) := dk_29 (dk_at dksX9_choose_0 19 rfl rfl)
theorem dX9_choose_20 : decode cX9_choose 20 = .ok (.ifCond .lt 21, 3) := dk_155 0 21 (dk_at dksX9_choose_0 20 rfl rfl)
theorem dX9_choose_23 : decode cX9_choose 23 = .ok (.aload_n 0, 1) := dk_42 (dk_at dksX9_choose_0 23 rfl rfl)
theorem dX9_choose_24 : decode cX9_choose 24 = .ok (.getfield 9, 3) := dk_180 0 9 (dk_at dksX9_choose_1 0 rfl rfl)
theorem dX9_choose_27 : decode cX9_choose 27 = .ok (.sipush 1780, 3) := dk_17 6 244 (dk_at dksX9_choose_1 3 rfl rfl)
theorem dX9_choose_30 : decode cX9_choose 30 = .ok (.iconst 3, 1) := dk_6 (dk_at dksX9_choose_1 6 rfl rfl)
theorem dX9_choose_31 : decode cX9_choose 31 = .ok (.iload_n 3, 1) := dk_29 (dk_at dksX9_choose_1 7 rfl rfl)
theorem dX9_choose_32 : decode cX9_choose 32 = .ok (.imul, 1) := dk_104 (dk_at dksX9_choose_1 8 rfl rfl)
theorem dX9_choose_33 : decode cX9_choose 33 = .ok (.iadd, 1) := dk_96 (dk_at dksX9_choose_1 9 rfl rfl)
theorem dX9_choose_34 : decode cX9_choose 34 = .ok (.iconst 2, 1) := dk_5 (dk_at dksX9_choose_1 10 rfl rfl)
theorem dX9_choose_35 : decode cX9_choose 35 = .ok (.iadd, 1) := dk_96 (dk_at dksX9_choose_1 11 rfl rfl)
theorem dX9_choose_36 : decode cX9_choose 36 = .ok (.iaload, 1) := dk_46 (dk_at dksX9_choose_1 12 rfl rfl)
theorem dX9_choose_37 : decode cX9_choose 37 = .ok (.iconst 1, 1) := dk_4 (dk_at dksX9_choose_1 13 rfl rfl)
theorem dX9_choose_38 : decode cX9_choose 38 = .ok (.if_icmp .ne 5, 3) := dk_160 0 5 (dk_at dksX9_choose_1 14 rfl rfl)
theorem dX9_choose_41 : decode cX9_choose 41 = .ok (.iconst (-1), 1) := dk_2 (dk_at dksX9_choose_1 17 rfl rfl)
theorem dX9_choose_42 : decode cX9_choose 42 = .ok (.ireturn, 1) := dk_172 (dk_at dksX9_choose_1 18 rfl rfl)
theorem dX9_choose_43 : decode cX9_choose 43 = .ok (.aload_n 0, 1) := dk_42 (dk_at dksX9_choose_1 19 rfl rfl)
theorem dX9_choose_44 : decode cX9_choose 44 = .ok (.iload_n 1, 1) := dk_27 (dk_at dksX9_choose_1 20 rfl rfl)
theorem dX9_choose_45 : decode cX9_choose 45 = .ok (.invokevirtual 122, 3) := dk_182 0 122 (dk_at dksX9_choose_1 21 rfl rfl)
theorem dX9_choose_48 : decode cX9_choose 48 = .ok (.ifCond .ne 6, 3) := dk_154 0 6 (dk_at dksX9_choose_2 0 rfl rfl)
theorem dX9_choose_51 : decode cX9_choose 51 = .ok (.bipush (-2), 2) := dk_16 254 (dk_at dksX9_choose_2 3 rfl rfl)
theorem dX9_choose_53 : decode cX9_choose 53 = .ok (.ireturn, 1) := dk_172 (dk_at dksX9_choose_2 5 rfl rfl)
theorem dX9_choose_54 : decode cX9_choose 54 = .ok (.aload_n 0, 1) := dk_42 (dk_at dksX9_choose_2 6 rfl rfl)
theorem dX9_choose_55 : decode cX9_choose 55 = .ok (.iload_n 2, 1) := dk_28 (dk_at dksX9_choose_2 7 rfl rfl)
theorem dX9_choose_56 : decode cX9_choose 56 = .ok (.iconst 0, 1) := dk_3 (dk_at dksX9_choose_2 8 rfl rfl)
theorem dX9_choose_57 : decode cX9_choose 57 = .ok (.invokevirtual 88, 3) := dk_182 0 88 (dk_at dksX9_choose_2 9 rfl rfl)
theorem dX9_choose_60 : decode cX9_choose 60 = .ok (.iconst 1, 1) := dk_4 (dk_at dksX9_choose_2 12 rfl rfl)
theorem dX9_choose_61 : decode cX9_choose 61 = .ok (.if_icmp .eq 6, 3) := dk_159 0 6 (dk_at dksX9_choose_2 13 rfl rfl)
theorem dX9_choose_64 : decode cX9_choose 64 = .ok (.bipush (-3), 2) := dk_16 253 (dk_at dksX9_choose_2 16 rfl rfl)
theorem dX9_choose_66 : decode cX9_choose 66 = .ok (.ireturn, 1) := dk_172 (dk_at dksX9_choose_2 18 rfl rfl)
theorem dX9_choose_67 : decode cX9_choose 67 = .ok (.aload_n 0, 1) := dk_42 (dk_at dksX9_choose_2 19 rfl rfl)
theorem dX9_choose_68 : decode cX9_choose 68 = .ok (.iload_n 3, 1) := dk_29 (dk_at dksX9_choose_2 20 rfl rfl)
theorem dX9_choose_69 : decode cX9_choose 69 = .ok (.invokevirtual 379, 3) := dk_182 1 123 (dk_at dksX9_choose_2 21 rfl rfl)
theorem dX9_choose_72 : decode cX9_choose 72 = .ok (.ifCond .ne 6, 3) := dk_154 0 6 (dk_at dksX9_choose_3 0 rfl rfl)
theorem dX9_choose_75 : decode cX9_choose 75 = .ok (.bipush (-4), 2) := dk_16 252 (dk_at dksX9_choose_3 3 rfl rfl)
theorem dX9_choose_77 : decode cX9_choose 77 = .ok (.ireturn, 1) := dk_172 (dk_at dksX9_choose_3 5 rfl rfl)
theorem dX9_choose_78 : decode cX9_choose 78 = .ok (.aload_n 0, 1) := dk_42 (dk_at dksX9_choose_3 6 rfl rfl)
theorem dX9_choose_79 : decode cX9_choose 79 = .ok (.iload_n 2, 1) := dk_28 (dk_at dksX9_choose_3 7 rfl rfl)
theorem dX9_choose_80 : decode cX9_choose 80 = .ok (.iconst 5, 1) := dk_8 (dk_at dksX9_choose_3 8 rfl rfl)
theorem dX9_choose_81 : decode cX9_choose 81 = .ok (.iload_n 1, 1) := dk_27 (dk_at dksX9_choose_3 9 rfl rfl)
theorem dX9_choose_82 : decode cX9_choose 82 = .ok (.invokevirtual 147, 3) := dk_182 0 147 (dk_at dksX9_choose_3 10 rfl rfl)
theorem dX9_choose_85 : decode cX9_choose 85 = .ok (.aload_n 0, 1) := dk_42 (dk_at dksX9_choose_3 13 rfl rfl)
theorem dX9_choose_86 : decode cX9_choose 86 = .ok (.getfield 9, 3) := dk_180 0 9 (dk_at dksX9_choose_3 14 rfl rfl)
theorem dX9_choose_89 : decode cX9_choose 89 = .ok (.bipush 8, 2) := dk_16 8 (dk_at dksX9_choose_3 17 rfl rfl)
theorem dX9_choose_91 : decode cX9_choose 91 = .ok (.iload_n 2, 1) := dk_28 (dk_at dksX9_choose_3 19 rfl rfl)
theorem dX9_choose_92 : decode cX9_choose 92 = .ok (.imul, 1) := dk_104 (dk_at dksX9_choose_3 20 rfl rfl)
theorem dX9_choose_93 : decode cX9_choose 93 = .ok (.iconst 5, 1) := dk_8 (dk_at dksX9_choose_3 21 rfl rfl)
theorem dX9_choose_94 : decode cX9_choose 94 = .ok (.iadd, 1) := dk_96 (dk_at dksX9_choose_3 22 rfl rfl)
theorem dX9_choose_95 : decode cX9_choose 95 = .ok (.aload_n 0, 1) := dk_42 (dk_at dksX9_choose_3 23 rfl rfl)
theorem dX9_choose_96 : decode cX9_choose 96 = .ok (.getfield 9, 3) := dk_180 0 9 (dk_at dksX9_choose_4 0 rfl rfl)
theorem dX9_choose_99 : decode cX9_choose 99 = .ok (.sipush 1780, 3) := dk_17 6 244 (dk_at dksX9_choose_4 3 rfl rfl)
theorem dX9_choose_102 : decode cX9_choose 102 = .ok (.iconst 3, 1) := dk_6 (dk_at dksX9_choose_4 6 rfl rfl)
theorem dX9_choose_103 : decode cX9_choose 103 = .ok (.iload_n 3, 1) := dk_29 (dk_at dksX9_choose_4 7 rfl rfl)
theorem dX9_choose_104 : decode cX9_choose 104 = .ok (.imul, 1) := dk_104 (dk_at dksX9_choose_4 8 rfl rfl)
theorem dX9_choose_105 : decode cX9_choose 105 = .ok (.iadd, 1) := dk_96 (dk_at dksX9_choose_4 9 rfl rfl)
theorem dX9_choose_106 : decode cX9_choose 106 = .ok (.iconst 1, 1) := dk_4 (dk_at dksX9_choose_4 10 rfl rfl)
theorem dX9_choose_107 : decode cX9_choose 107 = .ok (.iadd, 1) := dk_96 (dk_at dksX9_choose_4 11 rfl rfl)
theorem dX9_choose_108 : decode cX9_choose 108 = .ok (.iaload, 1) := dk_46 (dk_at dksX9_choose_4 12 rfl rfl)
theorem dX9_choose_109 : decode cX9_choose 109 = .ok (.iastore, 1) := dk_79 (dk_at dksX9_choose_4 13 rfl rfl)
theorem dX9_choose_110 : decode cX9_choose 110 = .ok (.aload_n 0, 1) := dk_42 (dk_at dksX9_choose_4 14 rfl rfl)
theorem dX9_choose_111 : decode cX9_choose 111 = .ok (.getfield 9, 3) := dk_180 0 9 (dk_at dksX9_choose_4 15 rfl rfl)
theorem dX9_choose_114 : decode cX9_choose 114 = .ok (.sipush 1780, 3) := dk_17 6 244 (dk_at dksX9_choose_4 18 rfl rfl)
theorem dX9_choose_117 : decode cX9_choose 117 = .ok (.iconst 3, 1) := dk_6 (dk_at dksX9_choose_4 21 rfl rfl)
theorem dX9_choose_118 : decode cX9_choose 118 = .ok (.iload_n 3, 1) := dk_29 (dk_at dksX9_choose_4 22 rfl rfl)
theorem dX9_choose_119 : decode cX9_choose 119 = .ok (.imul, 1) := dk_104 (dk_at dksX9_choose_4 23 rfl rfl)
theorem dX9_choose_120 : decode cX9_choose 120 = .ok (.iadd, 1) := dk_96 (dk_at dksX9_choose_5 0 rfl rfl)
theorem dX9_choose_121 : decode cX9_choose 121 = .ok (.iconst 2, 1) := dk_5 (dk_at dksX9_choose_5 1 rfl rfl)
theorem dX9_choose_122 : decode cX9_choose 122 = .ok (.iadd, 1) := dk_96 (dk_at dksX9_choose_5 2 rfl rfl)
theorem dX9_choose_123 : decode cX9_choose 123 = .ok (.iconst 1, 1) := dk_4 (dk_at dksX9_choose_5 3 rfl rfl)
theorem dX9_choose_124 : decode cX9_choose 124 = .ok (.iastore, 1) := dk_79 (dk_at dksX9_choose_5 4 rfl rfl)
theorem dX9_choose_125 : decode cX9_choose 125 = .ok (.aload_n 0, 1) := dk_42 (dk_at dksX9_choose_5 5 rfl rfl)
theorem dX9_choose_126 : decode cX9_choose 126 = .ok (.iload_n 1, 1) := dk_27 (dk_at dksX9_choose_5 6 rfl rfl)
theorem dX9_choose_127 : decode cX9_choose 127 = .ok (.invokevirtual 363, 3) := dk_182 1 107 (dk_at dksX9_choose_5 7 rfl rfl)
theorem dX9_choose_130 : decode cX9_choose 130 = .ok (.iconst 1, 1) := dk_4 (dk_at dksX9_choose_5 10 rfl rfl)
theorem dX9_choose_131 : decode cX9_choose 131 = .ok (.ireturn, 1) := dk_172 (dk_at dksX9_choose_5 11 rfl rfl)
def dkwX9_isTurn_3 : List UInt8 := [100, 28, 162, 0, 5, 3, 172, 132, 3, 1, 167, 255, 184, 4, 172]
abbrev dktX9_isTurn_3 : List UInt8 := dkwX9_isTurn_3 ++ []
def dkwX9_isTurn_2 : List UInt8 := [42, 21, 4, 182, 0, 122, 153, 0, 25, 42, 180, 0, 9, 17, 8, 68, 46, 42, 21, 4, 8, 182, 0, 76]
abbrev dktX9_isTurn_2 : List UInt8 := dkwX9_isTurn_2 ++ dktX9_isTurn_3
def dkwX9_isTurn_1 : List UInt8 := [104, 96, 3, 96, 46, 54, 4, 42, 180, 0, 9, 17, 6, 244, 6, 29, 104, 96, 5, 96, 46, 154, 0, 34]
abbrev dktX9_isTurn_1 : List UInt8 := dkwX9_isTurn_1 ++ dktX9_isTurn_2
def dkwX9_isTurn_0 : List UInt8 := [42, 16, 6, 3, 182, 1, 92, 61, 3, 62, 29, 27, 162, 0, 73, 42, 180, 0, 9, 17, 6, 244, 6, 29]
abbrev dktX9_isTurn_0 : List UInt8 := dkwX9_isTurn_0 ++ dktX9_isTurn_1
theorem dksX9_isTurn_0 : cX9_isTurn.data.toList.drop 0 = dktX9_isTurn_0 := by decide +kernel
theorem dksX9_isTurn_1 : cX9_isTurn.data.toList.drop 24 = dktX9_isTurn_1 := dk_seg dksX9_isTurn_0 24 rfl rfl
theorem dksX9_isTurn_2 : cX9_isTurn.data.toList.drop 48 = dktX9_isTurn_2 := dk_seg dksX9_isTurn_1 24 rfl rfl
theorem dksX9_isTurn_3 : cX9_isTurn.data.toList.drop 72 = dktX9_isTurn_3 := dk_seg dksX9_isTurn_2 24 rfl rfl
theorem dX9_isTurn_0 : decode cX9_isTurn 0 = .ok (.aload_n 0, 1) := dk_42 (dk_at dksX9_isTurn_0 0 rfl rfl)
theorem dX9_isTurn_1 : decode cX9_isTurn 1 = .ok (.bipush 6, 2) := dk_16 6 (dk_at dksX9_isTurn_0 1 rfl rfl)
theorem dX9_isTurn_3 : decode cX9_isTurn 3 = .ok (.iconst 0, 1) := dk_3 (dk_at dksX9_isTurn_0 3 rfl rfl)
theorem dX9_isTurn_4 : decode cX9_isTurn 4 = .ok (.invokevirtual 348, 3) := dk_182 1 92 (dk_at dksX9_isTurn_0 4 rfl rfl)
theorem dX9_isTurn_7 : decode cX9_isTurn 7 = .ok (.istore_n 2, 1) := dk_61 (dk_at dksX9_isTurn_0 7 rfl rfl)
theorem dX9_isTurn_8 : decode cX9_isTurn 8 = .ok (.iconst 0, 1) := dk_3 (dk_at dksX9_isTurn_0 8 rfl rfl)
theorem dX9_isTurn_9 : decode cX9_isTurn 9 = .ok (.istore_n 3, 1) := dk_62 (dk_at dksX9_isTurn_0 9 rfl rfl)
theorem dX9_isTurn_10 : decode cX9_isTurn 10 = .ok (.iload_n 3, 1) := dk_29 (dk_at dksX9_isTurn_0 10 rfl rfl)
theorem dX9_isTurn_11 : decode cX9_isTurn 11 = .ok (.iload_n 1, 1) := dk_27 (dk_at dksX9_isTurn_0 11 rfl rfl)
theorem dX9_isTurn_12 : decode cX9_isTurn 12 = .ok (.if_icmp .ge 73, 3) := dk_162 0 73 (dk_at dksX9_isTurn_0 12 rfl rfl)
theorem dX9_isTurn_15 : decode cX9_isTurn 15 = .ok (.aload_n 0, 1) := dk_42 (dk_at dksX9_isTurn_0 15 rfl rfl)
theorem dX9_isTurn_16 : decode cX9_isTurn 16 = .ok (.getfield 9, 3) := dk_180 0 9 (dk_at dksX9_isTurn_0 16 rfl rfl)
theorem dX9_isTurn_19 : decode cX9_isTurn 19 = .ok (.sipush 1780, 3) := dk_17 6 244 (dk_at dksX9_isTurn_0 19 rfl rfl)
theorem dX9_isTurn_22 : decode cX9_isTurn 22 = .ok (.iconst 3, 1) := dk_6 (dk_at dksX9_isTurn_0 22 rfl rfl)
theorem dX9_isTurn_23 : decode cX9_isTurn 23 = .ok (.iload_n 3, 1) := dk_29 (dk_at dksX9_isTurn_0 23 rfl rfl)
theorem dX9_isTurn_24 : decode cX9_isTurn 24 = .ok (.imul, 1) := dk_104 (dk_at dksX9_isTurn_1 0 rfl rfl)
theorem dX9_isTurn_25 : decode cX9_isTurn 25 = .ok (.iadd, 1) := dk_96 (dk_at dksX9_isTurn_1 1 rfl rfl)
theorem dX9_isTurn_26 : decode cX9_isTurn 26 = .ok (.iconst 0, 1) := dk_3 (dk_at dksX9_isTurn_1 2 rfl rfl)
theorem dX9_isTurn_27 : decode cX9_isTurn 27 = .ok (.iadd, 1) := dk_96 (dk_at dksX9_isTurn_1 3 rfl rfl)
theorem dX9_isTurn_28 : decode cX9_isTurn 28 = .ok (.iaload, 1) := dk_46 (dk_at dksX9_isTurn_1 4 rfl rfl)
theorem dX9_isTurn_29 : decode cX9_isTurn 29 = .ok (.istore 4, 2) := dk_54 4 (dk_at dksX9_isTurn_1 5 rfl rfl)
theorem dX9_isTurn_31 : decode cX9_isTurn 31 = .ok (.aload_n 0, 1) := dk_42 (dk_at dksX9_isTurn_1 7 rfl rfl)
theorem dX9_isTurn_32 : decode cX9_isTurn 32 = .ok (.getfield 9, 3) := dk_180 0 9 (dk_at dksX9_isTurn_1 8 rfl rfl)
theorem dX9_isTurn_35 : decode cX9_isTurn 35 = .ok (.sipush 1780, 3) := dk_17 6 244 (dk_at dksX9_isTurn_1 11 rfl rfl)
theorem dX9_isTurn_38 : decode cX9_isTurn 38 = .ok (.iconst 3, 1) := dk_6 (dk_at dksX9_isTurn_1 14 rfl rfl)
theorem dX9_isTurn_39 : decode cX9_isTurn 39 = .ok (.iload_n 3, 1) := dk_29 (dk_at dksX9_isTurn_1 15 rfl rfl)
theorem dX9_isTurn_40 : decode cX9_isTurn 40 = .ok (.imul, 1) := dk_104 (dk_at dksX9_isTurn_1 16 rfl rfl)
theorem dX9_isTurn_41 : decode cX9_isTurn 41 = .ok (.iadd, 1) := dk_96 (dk_at dksX9_isTurn_1 17 rfl rfl)
theorem dX9_isTurn_42 : decode cX9_isTurn 42 = .ok (.iconst 2, 1) := dk_5 (dk_at dksX9_isTurn_1 18 rfl rfl)
theorem dX9_isTurn_43 : decode cX9_isTurn 43 = .ok (.iadd, 1) := dk_96 (dk_at dksX9_isTurn_1 19 rfl rfl)
theorem dX9_isTurn_44 : decode cX9_isTurn 44 = .ok (.iaload, 1) := dk_46 (dk_at dksX9_isTurn_1 20 rfl rfl)
theorem dX9_isTurn_45 : decode cX9_isTurn 45 = .ok (.ifCond .ne 34, 3) := dk_154 0 34 (dk_at dksX9_isTurn_1 21 rfl rfl)
theorem dX9_isTurn_48 : decode cX9_isTurn 48 = .ok (.aload_n 0, 1) := dk_42 (dk_at dksX9_isTurn_2 0 rfl rfl)
theorem dX9_isTurn_49 : decode cX9_isTurn 49 = .ok (.iload 4, 2) := dk_21 4 (dk_at dksX9_isTurn_2 1 rfl rfl)
theorem dX9_isTurn_51 : decode cX9_isTurn 51 = .ok (.invokevirtual 122, 3) := dk_182 0 122 (dk_at dksX9_isTurn_2 3 rfl rfl)
theorem dX9_isTurn_54 : decode cX9_isTurn 54 = .ok (.ifCond .eq 25, 3) := dk_153 0 25 (dk_at dksX9_isTurn_2 6 rfl rfl)
theorem dX9_isTurn_57 : decode cX9_isTurn 57 = .ok (.aload_n 0, 1) := dk_42 (dk_at dksX9_isTurn_2 9 rfl rfl)
theorem dX9_isTurn_58 : decode cX9_isTurn 58 = .ok (.getfield 9, 3) := dk_180 0 9 (dk_at dksX9_isTurn_2 10 rfl rfl)
theorem dX9_isTurn_61 : decode cX9_isTurn 61 = .ok (.sipush 2116, 3) := dk_17 8 68 (dk_at dksX9_isTurn_2 13 rfl rfl)
theorem dX9_isTurn_64 : decode cX9_isTurn 64 = .ok (.iaload, 1) := dk_46 (dk_at dksX9_isTurn_2 16 rfl rfl)
theorem dX9_isTurn_65 : decode cX9_isTurn 65 = .ok (.aload_n 0, 1) := dk_42 (dk_at dksX9_isTurn_2 17 rfl rfl)
theorem dX9_isTurn_66 : decode cX9_isTurn 66 = .ok (.iload 4, 2) := dk_21 4 (dk_at dksX9_isTurn_2 18 rfl rfl)
theorem dX9_isTurn_68 : decode cX9_isTurn 68 = .ok (.iconst 5, 1) := dk_8 (dk_at dksX9_isTurn_2 20 rfl rfl)
theorem dX9_isTurn_69 : decode cX9_isTurn 69 = .ok (.invokevirtual 76, 3) := dk_182 0 76 (dk_at dksX9_isTurn_2 21 rfl rfl)
theorem dX9_isTurn_72 : decode cX9_isTurn 72 = .ok (.isub, 1) := dk_100 (dk_at dksX9_isTurn_3 0 rfl rfl)
theorem dX9_isTurn_73 : decode cX9_isTurn 73 = .ok (.iload_n 2, 1) := dk_28 (dk_at dksX9_isTurn_3 1 rfl rfl)
theorem dX9_isTurn_74 : decode cX9_isTurn 74 = .ok (.if_icmp .ge 5, 3) := dk_162 0 5 (dk_at dksX9_isTurn_3 2 rfl rfl)
theorem dX9_isTurn_77 : decode cX9_isTurn 77 = .ok (.iconst 0, 1) := dk_3 (dk_at dksX9_isTurn_3 5 rfl rfl)
theorem dX9_isTurn_78 : decode cX9_isTurn 78 = .ok (.ireturn, 1) := dk_172 (dk_at dksX9_isTurn_3 6 rfl rfl)
theorem dX9_isTurn_79 : decode cX9_isTurn 79 = .ok (.iinc 3 1, 3) := dk_132 3 1 (dk_at dksX9_isTurn_3 7 rfl rfl)
theorem dX9_isTurn_82 : decode cX9_isTurn 82 = .ok (.goto (-72), 3) := dk_167 255 184 (dk_at dksX9_isTurn_3 10 rfl rfl)
theorem dX9_isTurn_85 : decode cX9_isTurn 85 = .ok (.iconst 1, 1) := dk_4 (dk_at dksX9_isTurn_3 13 rfl rfl)
theorem dX9_isTurn_86 : decode cX9_isTurn 86 = .ok (.ireturn, 1) := dk_172 (dk_at dksX9_isTurn_3 14 rfl rfl)
def dkwX9_run_6 : List UInt8 := [5, 96, 42, 180, 0, 9, 17, 8, 68, 46, 16, 52, 96, 79, 21, 4, 172]
abbrev dktX9_run_6 : List UInt8 := dkwX9_run_6 ++ []
def dkwX9_run_5 : List UInt8 := [27, 182, 0, 147, 42, 180, 0, 9, 16, 8, 28, 104, 3, 96, 7, 79, 42, 180, 0, 9, 16, 8, 28, 104]
abbrev dktX9_run_5 : List UInt8 := dkwX9_run_5 ++ dktX9_run_6
def dkwX9_run_4 : List UInt8 := [182, 1, 101, 42, 180, 0, 9, 17, 8, 70, 92, 46, 21, 4, 96, 79, 21, 5, 154, 0, 10, 42, 28, 7]
abbrev dktX9_run_4 : List UInt8 := dkwX9_run_4 ++ dktX9_run_5
def dkwX9_run_3 : List UInt8 := [16, 254, 172, 42, 27, 4, 182, 0, 76, 21, 4, 162, 0, 6, 16, 253, 172, 42, 27, 21, 4, 116]
abbrev dktX9_run_3 : List UInt8 := dkwX9_run_3 ++ dktX9_run_4
def dkwX9_run_2 : List UInt8 := [182, 0, 88, 27, 160, 0, 7, 4, 167, 0, 4, 3, 54, 5, 29, 4, 159, 0, 11, 21, 5, 154, 0, 6]
abbrev dktX9_run_2 : List UInt8 := dkwX9_run_2 ++ dktX9_run_3
def dkwX9_run_1 : List UInt8 := [182, 0, 88, 62, 42, 6, 3, 182, 1, 92, 54, 4, 29, 184, 0, 104, 153, 0, 17, 42, 28, 4]
abbrev dktX9_run_1 : List UInt8 := dkwX9_run_1 ++ dktX9_run_2
def dkwX9_run_0 : List UInt8 := [42, 27, 28, 182, 1, 110, 154, 0, 5, 3, 172, 42, 27, 182, 0, 122, 154, 0, 5, 2, 172, 42, 28, 3]
abbrev dktX9_run_0 : List UInt8 := dkwX9_run_0 ++ dktX9_run_1
theorem dksX9_run_0 : cX9_run.data.toList.drop 0 = dktX9_run_0 := by decide +kernel
theorem dksX9_run_1 : cX9_run.data.toList.drop 24 = dktX9_run_1 := dk_seg dksX9_run_0 24 rfl rfl
theorem dksX9_run_2 : cX9_run.data.toList.drop 46 = dktX9_run_2 := dk_seg dksX9_run_1 22 rfl rfl
theorem dksX9_run_3 : cX9_run.data.toList.drop 70 = dktX9_run_3 := dk_seg dksX9_run_2 24 rfl rfl
theorem dksX9_run_4 : cX9_run.data.toList.drop 92 = dktX9_run_4 := dk_seg dksX9_run_3 22 rfl rfl
theorem dksX9_run_5 : cX9_run.data.toList.drop 116 = dktX9_run_5 := dk_seg dksX9_run_4 24 rfl rfl
theorem dksX9_run_6 : cX9_run.data.toList.drop 140 = dktX9_run_6 := dk_seg dksX9_run_5 24 rfl rfl
theorem dX9_run_0 : decode cX9_run 0 = .ok (.aload_n 0, 1) := dk_42 (dk_at dksX9_run_0 0 rfl rfl)
theorem dX9_run_1 : decode cX9_run 1 = .ok (.iload_n 1, 1) := dk_27 (dk_at dksX9_run_0 1 rfl rfl)
theorem dX9_run_2 : decode cX9_run 2 = .ok (.iload_n 2, 1) := dk_28 (dk_at dksX9_run_0 2 rfl rfl)
theorem dX9_run_3 : decode cX9_run 3 = .ok (.invokevirtual 366, 3) := dk_182 1 110 (dk_at dksX9_run_0 3 rfl rfl)
theorem dX9_run_6 : decode cX9_run 6 = .ok (.ifCond .ne 5, 3) := dk_154 0 5 (dk_at dksX9_run_0 6 rfl rfl)
theorem dX9_run_9 : decode cX9_run 9 = .ok (.iconst 0, 1) := dk_3 (dk_at dksX9_run_0 9 rfl rfl)
theorem dX9_run_10 : decode cX9_run 10 = .ok (.ireturn, 1) := dk_172 (dk_at dksX9_run_0 10 rfl rfl)
theorem dX9_run_11 : decode cX9_run 11 = .ok (.aload_n 0, 1) := dk_42 (dk_at dksX9_run_0 11 rfl rfl)
theorem dX9_run_12 : decode cX9_run 12 = .ok (.iload_n 1, 1) := dk_27 (dk_at dksX9_run_0 12 rfl rfl)
theorem dX9_run_13 : decode cX9_run 13 = .ok (.invokevirtual 122, 3) := dk_182 0 122 (dk_at dksX9_run_0 13 rfl rfl)
theorem dX9_run_16 : decode cX9_run 16 = .ok (.ifCond .ne 5, 3) := dk_154 0 5 (dk_at dksX9_run_0 16 rfl rfl)
theorem dX9_run_19 : decode cX9_run 19 = .ok (.iconst (-1), 1) := dk_2 (dk_at dksX9_run_0 19 rfl rfl)
theorem dX9_run_20 : decode cX9_run 20 = .ok (.ireturn, 1) := dk_172 (dk_at dksX9_run_0 20 rfl rfl)
theorem dX9_run_21 : decode cX9_run 21 = .ok (.aload_n 0, 1) := dk_42 (dk_at dksX9_run_0 21 rfl rfl)
theorem dX9_run_22 : decode cX9_run 22 = .ok (.iload_n 2, 1) := dk_28 (dk_at dksX9_run_0 22 rfl rfl)
theorem dX9_run_23 : decode cX9_run 23 = .ok (.iconst 0, 1) := dk_3 (dk_at dksX9_run_0 23 rfl rfl)
theorem dX9_run_24 : decode cX9_run 24 = .ok (.invokevirtual 88, 3) := dk_182 0 88 (dk_at dksX9_run_1 0 rfl rfl)
theorem dX9_run_27 : decode cX9_run 27 = .ok (.istore_n 3, 1) := dk_62 (dk_at dksX9_run_1 3 rfl rfl)
theorem dX9_run_28 : decode cX9_run 28 = .ok (.aload_n 0, 1) := dk_42 (dk_at dksX9_run_1 4 rfl rfl)
theorem dX9_run_29 : decode cX9_run 29 = .ok (.iconst 3, 1) := dk_6 (dk_at dksX9_run_1 5 rfl rfl)
theorem dX9_run_30 : decode cX9_run 30 = .ok (.iconst 0, 1) := dk_3 (dk_at dksX9_run_1 6 rfl rfl)
theorem dX9_run_31 : decode cX9_run 31 = .ok (.invokevirtual 348, 3) := dk_182 1 92 (dk_at dksX9_run_1 7 rfl rfl)
theorem dX9_run_34 : decode cX9_run 34 = .ok (.istore 4, 2) := dk_54 4 (dk_at dksX9_run_1 10 rfl rfl)
theorem dX9_run_36 : decode cX9_run 36 = .ok (.iload_n 3, 1) := dk_29 (dk_at dksX9_run_1 12 rfl rfl)
theorem dX9_run_37 : decode cX9_run 37 = .ok (.invokestatic 104, 3) := dk_184 0 104 (dk_at dksX9_run_1 13 rfl rfl)
theorem dX9_run_40 : decode cX9_run 40 = .ok (.ifCond .eq 17, 3) := dk_153 0 17 (dk_at dksX9_run_1 16 rfl rfl)
theorem dX9_run_43 : decode cX9_run 43 = .ok (.aload_n 0, 1) := dk_42 (dk_at dksX9_run_1 19 rfl rfl)
theorem dX9_run_44 : decode cX9_run 44 = .ok (.iload_n 2, 1) := dk_28 (dk_at dksX9_run_1 20 rfl rfl)
theorem dX9_run_45 : decode cX9_run 45 = .ok (.iconst 1, 1) := dk_4 (dk_at dksX9_run_1 21 rfl rfl)
theorem dX9_run_46 : decode cX9_run 46 = .ok (.invokevirtual 88, 3) := dk_182 0 88 (dk_at dksX9_run_2 0 rfl rfl)
theorem dX9_run_49 : decode cX9_run 49 = .ok (.iload_n 1, 1) := dk_27 (dk_at dksX9_run_2 3 rfl rfl)
theorem dX9_run_50 : decode cX9_run 50 = .ok (.if_icmp .ne 7, 3) := dk_160 0 7 (dk_at dksX9_run_2 4 rfl rfl)
theorem dX9_run_53 : decode cX9_run 53 = .ok (.iconst 1, 1) := dk_4 (dk_at dksX9_run_2 7 rfl rfl)
theorem dX9_run_54 : decode cX9_run 54 = .ok (.goto 4, 3) := dk_167 0 4 (dk_at dksX9_run_2 8 rfl rfl)
theorem dX9_run_57 : decode cX9_run 57 = .ok (.iconst 0, 1) := dk_3 (dk_at dksX9_run_2 11 rfl rfl)
theorem dX9_run_58 : decode cX9_run 58 = .ok (.istore 5, 2) := dk_54 5 (dk_at dksX9_run_2 12 rfl rfl)
theorem dX9_run_60 : decode cX9_run 60 = .ok (.iload_n 3, 1) := dk_29 (dk_at dksX9_run_2 14 rfl rfl)
theorem dX9_run_61 : decode cX9_run 61 = .ok (.iconst 1, 1) := dk_4 (dk_at dksX9_run_2 15 rfl rfl)
theorem dX9_run_62 : decode cX9_run 62 = .ok (.if_icmp .eq 11, 3) := dk_159 0 11 (dk_at dksX9_run_2 16 rfl rfl)
theorem dX9_run_65 : decode cX9_run 65 = .ok (.iload 5, 2) := dk_21 5 (dk_at dksX9_run_2 19 rfl rfl)
theorem dX9_run_67 : decode cX9_run 67 = .ok (.ifCond .ne 6, 3) := dk_154 0 6 (dk_at dksX9_run_2 21 rfl rfl)
theorem dX9_run_70 : decode cX9_run 70 = .ok (.bipush (-2), 2) := dk_16 254 (dk_at dksX9_run_3 0 rfl rfl)
theorem dX9_run_72 : decode cX9_run 72 = .ok (.ireturn, 1) := dk_172 (dk_at dksX9_run_3 2 rfl rfl)
theorem dX9_run_73 : decode cX9_run 73 = .ok (.aload_n 0, 1) := dk_42 (dk_at dksX9_run_3 3 rfl rfl)
theorem dX9_run_74 : decode cX9_run 74 = .ok (.iload_n 1, 1) := dk_27 (dk_at dksX9_run_3 4 rfl rfl)
theorem dX9_run_75 : decode cX9_run 75 = .ok (.iconst 1, 1) := dk_4 (dk_at dksX9_run_3 5 rfl rfl)
theorem dX9_run_76 : decode cX9_run 76 = .ok (.invokevirtual 76, 3) := dk_182 0 76 (dk_at dksX9_run_3 6 rfl rfl)
theorem dX9_run_79 : decode cX9_run 79 = .ok (.iload 4, 2) := dk_21 4 (dk_at dksX9_run_3 9 rfl rfl)
theorem dX9_run_81 : decode cX9_run 81 = .ok (.if_icmp .ge 6, 3) := dk_162 0 6 (dk_at dksX9_run_3 11 rfl rfl)
theorem dX9_run_84 : decode cX9_run 84 = .ok (.bipush (-3), 2) := dk_16 253 (dk_at dksX9_run_3 14 rfl rfl)
theorem dX9_run_86 : decode cX9_run 86 = .ok (.ireturn, 1) := dk_172 (dk_at dksX9_run_3 16 rfl rfl)
theorem dX9_run_87 : decode cX9_run 87 = .ok (.aload_n 0, 1) := dk_42 (dk_at dksX9_run_3 17 rfl rfl)
theorem dX9_run_88 : decode cX9_run 88 = .ok (.iload_n 1, 1) := dk_27 (dk_at dksX9_run_3 18 rfl rfl)
theorem dX9_run_89 : decode cX9_run 89 = .ok (.iload 4, 2) := dk_21 4 (dk_at dksX9_run_3 19 rfl rfl)
theorem dX9_run_91 : decode cX9_run 91 = .ok (.ineg, 1) := dk_116 (dk_at dksX9_run_3 21 rfl rfl)
theorem dX9_run_92 : decode cX9_run 92 = .ok (.invokevirtual 357, 3) := dk_182 1 101 (dk_at dksX9_run_4 0 rfl rfl)
theorem dX9_run_95 : decode cX9_run 95 = .ok (.aload_n 0, 1) := dk_42 (dk_at dksX9_run_4 3 rfl rfl)
theorem dX9_run_96 : decode cX9_run 96 = .ok (.getfield 9, 3) := dk_180 0 9 (dk_at dksX9_run_4 4 rfl rfl)
theorem dX9_run_99 : decode cX9_run 99 = .ok (.sipush 2118, 3) := dk_17 8 70 (dk_at dksX9_run_4 7 rfl rfl)
theorem dX9_run_102 : decode cX9_run 102 = .ok (.dup2, 1) := dk_92 (dk_at dksX9_run_4 10 rfl rfl)
theorem dX9_run_103 : decode cX9_run 103 = .ok (.iaload, 1) := dk_46 (dk_at dksX9_run_4 11 rfl rfl)
theorem dX9_run_104 : decode cX9_run 104 = .ok (.iload 4, 2) := dk_21 4 (dk_at dksX9_run_4 12 rfl rfl)
theorem dX9_run_106 : decode cX9_run 106 = .ok (.iadd, 1) := dk_96 (dk_at dksX9_run_4 14 rfl rfl)
theorem dX9_run_107 : decode cX9_run 107 = .ok (.iastore, 1) := dk_79 (dk_at dksX9_run_4 15 rfl rfl)
theorem dX9_run_108 : decode cX9_run 108 = .ok (.iload 5, 2) := dk_21 5 (dk_at dksX9_run_4 16 rfl rfl)
theorem dX9_run_110 : decode cX9_run 110 = .ok (.ifCond .ne 10, 3) := dk_154 0 10 (dk_at dksX9_run_4 18 rfl rfl)
theorem dX9_run_113 : decode cX9_run 113 = .ok (.aload_n 0, 1) := dk_42 (dk_at dksX9_run_4 21 rfl rfl)
theorem dX9_run_114 : decode cX9_run 114 = .ok (.iload_n 2, 1) := dk_28 (dk_at dksX9_run_4 22 rfl rfl)
theorem dX9_run_115 : decode cX9_run 115 = .ok (.iconst 4, 1) := dk_7 (dk_at dksX9_run_4 23 rfl rfl)
theorem dX9_run_116 : decode cX9_run 116 = .ok (.iload_n 1, 1) := dk_27 (dk_at dksX9_run_5 0 rfl rfl)
theorem dX9_run_117 : decode cX9_run 117 = .ok (.invokevirtual 147, 3) := dk_182 0 147 (dk_at dksX9_run_5 1 rfl rfl)
theorem dX9_run_120 : decode cX9_run 120 = .ok (.aload_n 0, 1) := dk_42 (dk_at dksX9_run_5 4 rfl rfl)
theorem dX9_run_121 : decode cX9_run 121 = .ok (.getfield 9, 3) := dk_180 0 9 (dk_at dksX9_run_5 5 rfl rfl)
theorem dX9_run_124 : decode cX9_run 124 = .ok (.bipush 8, 2) := dk_16 8 (dk_at dksX9_run_5 8 rfl rfl)
theorem dX9_run_126 : decode cX9_run 126 = .ok (.iload_n 2, 1) := dk_28 (dk_at dksX9_run_5 10 rfl rfl)
theorem dX9_run_127 : decode cX9_run 127 = .ok (.imul, 1) := dk_104 (dk_at dksX9_run_5 11 rfl rfl)
theorem dX9_run_128 : decode cX9_run 128 = .ok (.iconst 0, 1) := dk_3 (dk_at dksX9_run_5 12 rfl rfl)
theorem dX9_run_129 : decode cX9_run 129 = .ok (.iadd, 1) := dk_96 (dk_at dksX9_run_5 13 rfl rfl)
theorem dX9_run_130 : decode cX9_run 130 = .ok (.iconst 4, 1) := dk_7 (dk_at dksX9_run_5 14 rfl rfl)
theorem dX9_run_131 : decode cX9_run 131 = .ok (.iastore, 1) := dk_79 (dk_at dksX9_run_5 15 rfl rfl)
theorem dX9_run_132 : decode cX9_run 132 = .ok (.aload_n 0, 1) := dk_42 (dk_at dksX9_run_5 16 rfl rfl)
theorem dX9_run_133 : decode cX9_run 133 = .ok (.getfield 9, 3) := dk_180 0 9 (dk_at dksX9_run_5 17 rfl rfl)
theorem dX9_run_136 : decode cX9_run 136 = .ok (.bipush 8, 2) := dk_16 8 (dk_at dksX9_run_5 20 rfl rfl)
theorem dX9_run_138 : decode cX9_run 138 = .ok (.iload_n 2, 1) := dk_28 (dk_at dksX9_run_5 22 rfl rfl)
theorem dX9_run_139 : decode cX9_run 139 = .ok (.imul, 1) := dk_104 (dk_at dksX9_run_5 23 rfl rfl)
theorem dX9_run_140 : decode cX9_run 140 = .ok (.iconst 2, 1) := dk_5 (dk_at dksX9_run_6 0 rfl rfl)
theorem dX9_run_141 : decode cX9_run 141 = .ok (.iadd, 1) := dk_96 (dk_at dksX9_run_6 1 rfl rfl)
theorem dX9_run_142 : decode cX9_run 142 = .ok (.aload_n 0, 1) := dk_42 (dk_at dksX9_run_6 2 rfl rfl)
theorem dX9_run_143 : decode cX9_run 143 = .ok (.getfield 9, 3) := dk_180 0 9 (dk_at dksX9_run_6 3 rfl rfl)
theorem dX9_run_146 : decode cX9_run 146 = .ok (.sipush 2116, 3) := dk_17 8 68 (dk_at dksX9_run_6 6 rfl rfl)
theorem dX9_run_149 : decode cX9_run 149 = .ok (.iaload, 1) := dk_46 (dk_at dksX9_run_6 9 rfl rfl)
theorem dX9_run_150 : decode cX9_run 150 = .ok (.bipush 52, 2) := dk_16 52 (dk_at dksX9_run_6 10 rfl rfl)
theorem dX9_run_152 : decode cX9_run 152 = .ok (.iadd, 1) := dk_96 (dk_at dksX9_run_6 12 rfl rfl)
theorem dX9_run_153 : decode cX9_run 153 = .ok (.iastore, 1) := dk_79 (dk_at dksX9_run_6 13 rfl rfl)
theorem dX9_run_154 : decode cX9_run 154 = .ok (.iload 4, 2) := dk_21 4 (dk_at dksX9_run_6 14 rfl rfl)
theorem dX9_run_156 : decode cX9_run 156 = .ok (.ireturn, 1) := dk_172 (dk_at dksX9_run_6 16 rfl rfl)
def dkwX9_squat_2 : List UInt8 := [28, 16, 6, 27, 182, 0, 147, 4, 172]
abbrev dktX9_squat_2 : List UInt8 := dkwX9_squat_2 ++ []
def dkwX9_squat_1 : List UInt8 := [182, 0, 88, 4, 159, 0, 6, 16, 254, 172, 42, 16, 7, 3, 182, 1, 92, 154, 0, 6, 16, 253, 172, 42]
abbrev dktX9_squat_1 : List UInt8 := dkwX9_squat_1 ++ dktX9_squat_2
def dkwX9_squat_0 : List UInt8 := [42, 27, 28, 182, 1, 110, 154, 0, 5, 3, 172, 42, 27, 182, 0, 122, 154, 0, 5, 2, 172, 42, 28, 3]
abbrev dktX9_squat_0 : List UInt8 := dkwX9_squat_0 ++ dktX9_squat_1
theorem dksX9_squat_0 : cX9_squat.data.toList.drop 0 = dktX9_squat_0 := by decide +kernel
theorem dksX9_squat_1 : cX9_squat.data.toList.drop 24 = dktX9_squat_1 := dk_seg dksX9_squat_0 24 rfl rfl
theorem dksX9_squat_2 : cX9_squat.data.toList.drop 48 = dktX9_squat_2 := dk_seg dksX9_squat_1 24 rfl rfl
theorem dX9_squat_0 : decode cX9_squat 0 = .ok (.aload_n 0, 1) := dk_42 (dk_at dksX9_squat_0 0 rfl rfl)
theorem dX9_squat_1 : decode cX9_squat 1 = .ok (.iload_n 1, 1) := dk_27 (dk_at dksX9_squat_0 1 rfl rfl)
theorem dX9_squat_2 : decode cX9_squat 2 = .ok (.iload_n 2, 1) := dk_28 (dk_at dksX9_squat_0 2 rfl rfl)
theorem dX9_squat_3 : decode cX9_squat 3 = .ok (.invokevirtual 366, 3) := dk_182 1 110 (dk_at dksX9_squat_0 3 rfl rfl)
theorem dX9_squat_6 : decode cX9_squat 6 = .ok (.ifCond .ne 5, 3) := dk_154 0 5 (dk_at dksX9_squat_0 6 rfl rfl)
theorem dX9_squat_9 : decode cX9_squat 9 = .ok (.iconst 0, 1) := dk_3 (dk_at dksX9_squat_0 9 rfl rfl)
theorem dX9_squat_10 : decode cX9_squat 10 = .ok (.ireturn, 1) := dk_172 (dk_at dksX9_squat_0 10 rfl rfl)
theorem dX9_squat_11 : decode cX9_squat 11 = .ok (.aload_n 0, 1) := dk_42 (dk_at dksX9_squat_0 11 rfl rfl)
theorem dX9_squat_12 : decode cX9_squat 12 = .ok (.iload_n 1, 1) := dk_27 (dk_at dksX9_squat_0 12 rfl rfl)
theorem dX9_squat_13 : decode cX9_squat 13 = .ok (.invokevirtual 122, 3) := dk_182 0 122 (dk_at dksX9_squat_0 13 rfl rfl)
theorem dX9_squat_16 : decode cX9_squat 16 = .ok (.ifCond .ne 5, 3) := dk_154 0 5 (dk_at dksX9_squat_0 16 rfl rfl)
theorem dX9_squat_19 : decode cX9_squat 19 = .ok (.iconst (-1), 1) := dk_2 (dk_at dksX9_squat_0 19 rfl rfl)
theorem dX9_squat_20 : decode cX9_squat 20 = .ok (.ireturn, 1) := dk_172 (dk_at dksX9_squat_0 20 rfl rfl)
theorem dX9_squat_21 : decode cX9_squat 21 = .ok (.aload_n 0, 1) := dk_42 (dk_at dksX9_squat_0 21 rfl rfl)
theorem dX9_squat_22 : decode cX9_squat 22 = .ok (.iload_n 2, 1) := dk_28 (dk_at dksX9_squat_0 22 rfl rfl)
theorem dX9_squat_23 : decode cX9_squat 23 = .ok (.iconst 0, 1) := dk_3 (dk_at dksX9_squat_0 23 rfl rfl)
theorem dX9_squat_24 : decode cX9_squat 24 = .ok (.invokevirtual 88, 3) := dk_182 0 88 (dk_at dksX9_squat_1 0 rfl rfl)
theorem dX9_squat_27 : decode cX9_squat 27 = .ok (.iconst 1, 1) := dk_4 (dk_at dksX9_squat_1 3 rfl rfl)
theorem dX9_squat_28 : decode cX9_squat 28 = .ok (.if_icmp .eq 6, 3) := dk_159 0 6 (dk_at dksX9_squat_1 4 rfl rfl)
theorem dX9_squat_31 : decode cX9_squat 31 = .ok (.bipush (-2), 2) := dk_16 254 (dk_at dksX9_squat_1 7 rfl rfl)
theorem dX9_squat_33 : decode cX9_squat 33 = .ok (.ireturn, 1) := dk_172 (dk_at dksX9_squat_1 9 rfl rfl)
theorem dX9_squat_34 : decode cX9_squat 34 = .ok (.aload_n 0, 1) := dk_42 (dk_at dksX9_squat_1 10 rfl rfl)
theorem dX9_squat_35 : decode cX9_squat 35 = .ok (.bipush 7, 2) := dk_16 7 (dk_at dksX9_squat_1 11 rfl rfl)
theorem dX9_squat_37 : decode cX9_squat 37 = .ok (.iconst 0, 1) := dk_3 (dk_at dksX9_squat_1 13 rfl rfl)
theorem dX9_squat_38 : decode cX9_squat 38 = .ok (.invokevirtual 348, 3) := dk_182 1 92 (dk_at dksX9_squat_1 14 rfl rfl)
theorem dX9_squat_41 : decode cX9_squat 41 = .ok (.ifCond .ne 6, 3) := dk_154 0 6 (dk_at dksX9_squat_1 17 rfl rfl)
theorem dX9_squat_44 : decode cX9_squat 44 = .ok (.bipush (-3), 2) := dk_16 253 (dk_at dksX9_squat_1 20 rfl rfl)
theorem dX9_squat_46 : decode cX9_squat 46 = .ok (.ireturn, 1) := dk_172 (dk_at dksX9_squat_1 22 rfl rfl)
theorem dX9_squat_47 : decode cX9_squat 47 = .ok (.aload_n 0, 1) := dk_42 (dk_at dksX9_squat_1 23 rfl rfl)
theorem dX9_squat_48 : decode cX9_squat 48 = .ok (.iload_n 2, 1) := dk_28 (dk_at dksX9_squat_2 0 rfl rfl)
theorem dX9_squat_49 : decode cX9_squat 49 = .ok (.bipush 6, 2) := dk_16 6 (dk_at dksX9_squat_2 1 rfl rfl)
theorem dX9_squat_51 : decode cX9_squat 51 = .ok (.iload_n 1, 1) := dk_27 (dk_at dksX9_squat_2 3 rfl rfl)
theorem dX9_squat_52 : decode cX9_squat 52 = .ok (.invokevirtual 147, 3) := dk_182 0 147 (dk_at dksX9_squat_2 4 rfl rfl)
theorem dX9_squat_55 : decode cX9_squat 55 = .ok (.iconst 1, 1) := dk_4 (dk_at dksX9_squat_2 7 rfl rfl)
theorem dX9_squat_56 : decode cX9_squat 56 = .ok (.ireturn, 1) := dk_172 (dk_at dksX9_squat_2 8 rfl rfl)
def dkwX9_stock_4 : List UInt8 := [28, 104, 6, 96, 92, 46, 29, 96, 79, 42, 28, 6, 182, 0, 88, 172]
abbrev dktX9_stock_4 : List UInt8 := dkwX9_stock_4 ++ []
def dkwX9_stock_3 : List UInt8 := [17, 3, 232, 164, 0, 6, 16, 253, 172, 42, 27, 16, 254, 29, 104, 182, 1, 101, 42, 180, 0, 9, 16, 8]
abbrev dktX9_stock_3 : List UInt8 := dkwX9_stock_3 ++ dktX9_stock_4
def dkwX9_stock_2 : List UInt8 := [42, 27, 4, 182, 0, 76, 5, 29, 104, 162, 0, 6, 16, 254, 172, 42, 28, 6, 182, 0, 88, 29, 96]
abbrev dktX9_stock_2 : List UInt8 := dkwX9_stock_2 ++ dktX9_stock_3
def dkwX9_stock_1 : List UInt8 := [167, 0, 4, 3, 5, 182, 0, 84, 153, 0, 5, 3, 172, 42, 27, 28, 182, 1, 126, 154, 0, 5, 2, 172]
abbrev dktX9_stock_1 : List UInt8 := dkwX9_stock_1 ++ dktX9_stock_2
def dkwX9_stock_0 : List UInt8 := [42, 27, 28, 182, 1, 110, 153, 0, 27, 42, 29, 155, 0, 10, 29, 17, 3, 232, 164, 0, 7, 4]
abbrev dktX9_stock_0 : List UInt8 := dkwX9_stock_0 ++ dktX9_stock_1
theorem dksX9_stock_0 : cX9_stock.data.toList.drop 0 = dktX9_stock_0 := by decide +kernel
theorem dksX9_stock_1 : cX9_stock.data.toList.drop 22 = dktX9_stock_1 := dk_seg dksX9_stock_0 22 rfl rfl
theorem dksX9_stock_2 : cX9_stock.data.toList.drop 46 = dktX9_stock_2 := dk_seg dksX9_stock_1 24 rfl rfl
theorem dksX9_stock_3 : cX9_stock.data.toList.drop 69 = dktX9_stock_3 := dk_seg dksX9_stock_2 23 rfl rfl
theorem dksX9_stock_4 : cX9_stock.data.toList.drop 93 = dktX9_stock_4 := dk_seg dksX9_stock_3 24 rfl rfl
theorem dX9_stock_0 : decode cX9_stock 0 = .ok (.aload_n 0, 1) := dk_42 (dk_at dksX9_stock_0 0 rfl rfl)
theorem dX9_stock_1 : decode cX9_stock 1 = .ok (.iload_n 1, 1) := dk_27 (dk_at dksX9_stock_0 1 rfl rfl)
theorem dX9_stock_2 : decode cX9_stock 2 = .ok (.iload_n 2, 1) := dk_28 (dk_at dksX9_stock_0 2 rfl rfl)
theorem dX9_stock_3 : decode cX9_stock 3 = .ok (.invokevirtual 366, 3) := dk_182 1 110 (dk_at dksX9_stock_0 3 rfl rfl)
theorem dX9_stock_6 : decode cX9_stock 6 = .ok (.ifCond .eq 27, 3) := dk_153 0 27 (dk_at dksX9_stock_0 6 rfl rfl)
theorem dX9_stock_9 : decode cX9_stock 9 = .ok (.aload_n 0, 1) := dk_42 (dk_at dksX9_stock_0 9 rfl rfl)
theorem dX9_stock_10 : decode cX9_stock 10 = .ok (.iload_n 3, 1) := dk_29 (dk_at dksX9_stock_0 10 rfl rfl)
theorem dX9_stock_11 : decode cX9_stock 11 = .ok (.ifCond .lt 10, 3) := dk_155 0 10 (dk_at dksX9_stock_0 11 rfl rfl)
theorem dX9_stock_14 : decode cX9_stock 14 = .ok (.iload_n 3, 1) := dk_29 (dk_at dksX9_stock_0 14 rfl rfl)
theorem dX9_stock_15 : decode cX9_stock 15 = .ok (.sipush 1000, 3) := dk_17 3 232 (dk_at dksX9_stock_0 15 rfl rfl)
theorem dX9_stock_18 : decode cX9_stock 18 = .ok (.if_icmp .le 7, 3) := dk_164 0 7 (dk_at dksX9_stock_0 18 rfl rfl)
theorem dX9_stock_21 : decode cX9_stock 21 = .ok (.iconst 1, 1) := dk_4 (dk_at dksX9_stock_0 21 rfl rfl)
theorem dX9_stock_22 : decode cX9_stock 22 = .ok (.goto 4, 3) := dk_167 0 4 (dk_at dksX9_stock_1 0 rfl rfl)
theorem dX9_stock_25 : decode cX9_stock 25 = .ok (.iconst 0, 1) := dk_3 (dk_at dksX9_stock_1 3 rfl rfl)
theorem dX9_stock_26 : decode cX9_stock 26 = .ok (.iconst 2, 1) := dk_5 (dk_at dksX9_stock_1 4 rfl rfl)
theorem dX9_stock_27 : decode cX9_stock 27 = .ok (.invokevirtual 84, 3) := dk_182 0 84 (dk_at dksX9_stock_1 5 rfl rfl)
theorem dX9_stock_30 : decode cX9_stock 30 = .ok (.ifCond .eq 5, 3) := dk_153 0 5 (dk_at dksX9_stock_1 8 rfl rfl)
theorem dX9_stock_33 : decode cX9_stock 33 = .ok (.iconst 0, 1) := dk_3 (dk_at dksX9_stock_1 11 rfl rfl)
theorem dX9_stock_34 : decode cX9_stock 34 = .ok (.ireturn, 1) := dk_172 (dk_at dksX9_stock_1 12 rfl rfl)
theorem dX9_stock_35 : decode cX9_stock 35 = .ok (.aload_n 0, 1) := dk_42 (dk_at dksX9_stock_1 13 rfl rfl)
theorem dX9_stock_36 : decode cX9_stock 36 = .ok (.iload_n 1, 1) := dk_27 (dk_at dksX9_stock_1 14 rfl rfl)
theorem dX9_stock_37 : decode cX9_stock 37 = .ok (.iload_n 2, 1) := dk_28 (dk_at dksX9_stock_1 15 rfl rfl)
theorem dX9_stock_38 : decode cX9_stock 38 = .ok (.invokevirtual 382, 3) := dk_182 1 126 (dk_at dksX9_stock_1 16 rfl rfl)
theorem dX9_stock_41 : decode cX9_stock 41 = .ok (.ifCond .ne 5, 3) := dk_154 0 5 (dk_at dksX9_stock_1 19 rfl rfl)
theorem dX9_stock_44 : decode cX9_stock 44 = .ok (.iconst (-1), 1) := dk_2 (dk_at dksX9_stock_1 22 rfl rfl)
theorem dX9_stock_45 : decode cX9_stock 45 = .ok (.ireturn, 1) := dk_172 (dk_at dksX9_stock_1 23 rfl rfl)
theorem dX9_stock_46 : decode cX9_stock 46 = .ok (.aload_n 0, 1) := dk_42 (dk_at dksX9_stock_2 0 rfl rfl)
theorem dX9_stock_47 : decode cX9_stock 47 = .ok (.iload_n 1, 1) := dk_27 (dk_at dksX9_stock_2 1 rfl rfl)
theorem dX9_stock_48 : decode cX9_stock 48 = .ok (.iconst 1, 1) := dk_4 (dk_at dksX9_stock_2 2 rfl rfl)
theorem dX9_stock_49 : decode cX9_stock 49 = .ok (.invokevirtual 76, 3) := dk_182 0 76 (dk_at dksX9_stock_2 3 rfl rfl)
theorem dX9_stock_52 : decode cX9_stock 52 = .ok (.iconst 2, 1) := dk_5 (dk_at dksX9_stock_2 6 rfl rfl)
theorem dX9_stock_53 : decode cX9_stock 53 = .ok (.iload_n 3, 1) := dk_29 (dk_at dksX9_stock_2 7 rfl rfl)
theorem dX9_stock_54 : decode cX9_stock 54 = .ok (.imul, 1) := dk_104 (dk_at dksX9_stock_2 8 rfl rfl)
theorem dX9_stock_55 : decode cX9_stock 55 = .ok (.if_icmp .ge 6, 3) := dk_162 0 6 (dk_at dksX9_stock_2 9 rfl rfl)
theorem dX9_stock_58 : decode cX9_stock 58 = .ok (.bipush (-2), 2) := dk_16 254 (dk_at dksX9_stock_2 12 rfl rfl)
theorem dX9_stock_60 : decode cX9_stock 60 = .ok (.ireturn, 1) := dk_172 (dk_at dksX9_stock_2 14 rfl rfl)
theorem dX9_stock_61 : decode cX9_stock 61 = .ok (.aload_n 0, 1) := dk_42 (dk_at dksX9_stock_2 15 rfl rfl)
theorem dX9_stock_62 : decode cX9_stock 62 = .ok (.iload_n 2, 1) := dk_28 (dk_at dksX9_stock_2 16 rfl rfl)
theorem dX9_stock_63 : decode cX9_stock 63 = .ok (.iconst 3, 1) := dk_6 (dk_at dksX9_stock_2 17 rfl rfl)
theorem dX9_stock_64 : decode cX9_stock 64 = .ok (.invokevirtual 88, 3) := dk_182 0 88 (dk_at dksX9_stock_2 18 rfl rfl)
theorem dX9_stock_67 : decode cX9_stock 67 = .ok (.iload_n 3, 1) := dk_29 (dk_at dksX9_stock_2 21 rfl rfl)
theorem dX9_stock_68 : decode cX9_stock 68 = .ok (.iadd, 1) := dk_96 (dk_at dksX9_stock_2 22 rfl rfl)
theorem dX9_stock_69 : decode cX9_stock 69 = .ok (.sipush 1000, 3) := dk_17 3 232 (dk_at dksX9_stock_3 0 rfl rfl)
theorem dX9_stock_72 : decode cX9_stock 72 = .ok (.if_icmp .le 6, 3) := dk_164 0 6 (dk_at dksX9_stock_3 3 rfl rfl)
theorem dX9_stock_75 : decode cX9_stock 75 = .ok (.bipush (-3), 2) := dk_16 253 (dk_at dksX9_stock_3 6 rfl rfl)
theorem dX9_stock_77 : decode cX9_stock 77 = .ok (.ireturn, 1) := dk_172 (dk_at dksX9_stock_3 8 rfl rfl)
theorem dX9_stock_78 : decode cX9_stock 78 = .ok (.aload_n 0, 1) := dk_42 (dk_at dksX9_stock_3 9 rfl rfl)
theorem dX9_stock_79 : decode cX9_stock 79 = .ok (.iload_n 1, 1) := dk_27 (dk_at dksX9_stock_3 10 rfl rfl)
theorem dX9_stock_80 : decode cX9_stock 80 = .ok (.bipush (-2), 2) := dk_16 254 (dk_at dksX9_stock_3 11 rfl rfl)
theorem dX9_stock_82 : decode cX9_stock 82 = .ok (.iload_n 3, 1) := dk_29 (dk_at dksX9_stock_3 13 rfl rfl)
theorem dX9_stock_83 : decode cX9_stock 83 = .ok (.imul, 1) := dk_104 (dk_at dksX9_stock_3 14 rfl rfl)
theorem dX9_stock_84 : decode cX9_stock 84 = .ok (.invokevirtual 357, 3) := dk_182 1 101 (dk_at dksX9_stock_3 15 rfl rfl)
theorem dX9_stock_87 : decode cX9_stock 87 = .ok (.aload_n 0, 1) := dk_42 (dk_at dksX9_stock_3 18 rfl rfl)
theorem dX9_stock_88 : decode cX9_stock 88 = .ok (.getfield 9, 3) := dk_180 0 9 (dk_at dksX9_stock_3 19 rfl rfl)
theorem dX9_stock_91 : decode cX9_stock 91 = .ok (.bipush 8, 2) := dk_16 8 (dk_at dksX9_stock_3 22 rfl rfl)
theorem dX9_stock_93 : decode cX9_stock 93 = .ok (.iload_n 2, 1) := dk_28 (dk_at dksX9_stock_4 0 rfl rfl)
theorem dX9_stock_94 : decode cX9_stock 94 = .ok (.imul, 1) := dk_104 (dk_at dksX9_stock_4 1 rfl rfl)
theorem dX9_stock_95 : decode cX9_stock 95 = .ok (.iconst 3, 1) := dk_6 (dk_at dksX9_stock_4 2 rfl rfl)
theorem dX9_stock_96 : decode cX9_stock 96 = .ok (.iadd, 1) := dk_96 (dk_at dksX9_stock_4 3 rfl rfl)
theorem dX9_stock_97 : decode cX9_stock 97 = .ok (.dup2, 1) := dk_92 (dk_at dksX9_stock_4 4 rfl rfl)
theorem dX9_stock_98 : decode cX9_stock 98 = .ok (.iaload, 1) := dk_46 (dk_at dksX9_stock_4 5 rfl rfl)
theorem dX9_stock_99 : decode cX9_stock 99 = .ok (.iload_n 3, 1) := dk_29 (dk_at dksX9_stock_4 6 rfl rfl)
theorem dX9_stock_100 : decode cX9_stock 100 = .ok (.iadd, 1) := dk_96 (dk_at dksX9_stock_4 7 rfl rfl)
theorem dX9_stock_101 : decode cX9_stock 101 = .ok (.iastore, 1) := dk_79 (dk_at dksX9_stock_4 8 rfl rfl)
theorem dX9_stock_102 : decode cX9_stock 102 = .ok (.aload_n 0, 1) := dk_42 (dk_at dksX9_stock_4 9 rfl rfl)
theorem dX9_stock_103 : decode cX9_stock 103 = .ok (.iload_n 2, 1) := dk_28 (dk_at dksX9_stock_4 10 rfl rfl)
theorem dX9_stock_104 : decode cX9_stock 104 = .ok (.iconst 3, 1) := dk_6 (dk_at dksX9_stock_4 11 rfl rfl)
theorem dX9_stock_105 : decode cX9_stock 105 = .ok (.invokevirtual 88, 3) := dk_182 0 88 (dk_at dksX9_stock_4 12 rfl rfl)
theorem dX9_stock_108 : decode cX9_stock 108 = .ok (.ireturn, 1) := dk_172 (dk_at dksX9_stock_4 15 rfl rfl)
def dkwX9_isOwnPasture_1 : List UInt8 := [167, 0, 4, 3, 172]
abbrev dktX9_isOwnPasture_1 : List UInt8 := dkwX9_isOwnPasture_1 ++ []
def dkwX9_isOwnPasture_0 : List UInt8 := [42, 28, 3, 182, 0, 88, 184, 0, 104, 153, 0, 17, 42, 28, 4, 182, 0, 88, 27, 160, 0, 7, 4]
abbrev dktX9_isOwnPasture_0 : List UInt8 := dkwX9_isOwnPasture_0 ++ dktX9_isOwnPasture_1
theorem dksX9_isOwnPasture_0 : cX9_isOwnPasture.data.toList.drop 0 = dktX9_isOwnPasture_0 := by decide +kernel
theorem dksX9_isOwnPasture_1 : cX9_isOwnPasture.data.toList.drop 23 = dktX9_isOwnPasture_1 := dk_seg dksX9_isOwnPasture_0 23 rfl rfl
theorem dX9_isOwnPasture_0 : decode cX9_isOwnPasture 0 = .ok (.aload_n 0, 1) := dk_42 (dk_at dksX9_isOwnPasture_0 0 rfl rfl)
theorem dX9_isOwnPasture_1 : decode cX9_isOwnPasture 1 = .ok (.iload_n 2, 1) := dk_28 (dk_at dksX9_isOwnPasture_0 1 rfl rfl)
theorem dX9_isOwnPasture_2 : decode cX9_isOwnPasture 2 = .ok (.iconst 0, 1) := dk_3 (dk_at dksX9_isOwnPasture_0 2 rfl rfl)
theorem dX9_isOwnPasture_3 : decode cX9_isOwnPasture 3 = .ok (.invokevirtual 88, 3) := dk_182 0 88 (dk_at dksX9_isOwnPasture_0 3 rfl rfl)
theorem dX9_isOwnPasture_6 : decode cX9_isOwnPasture 6 = .ok (.invokestatic 104, 3) := dk_184 0 104 (dk_at dksX9_isOwnPasture_0 6 rfl rfl)
theorem dX9_isOwnPasture_9 : decode cX9_isOwnPasture 9 = .ok (.ifCond .eq 17, 3) := dk_153 0 17 (dk_at dksX9_isOwnPasture_0 9 rfl rfl)
theorem dX9_isOwnPasture_12 : decode cX9_isOwnPasture 12 = .ok (.aload_n 0, 1) := dk_42 (dk_at dksX9_isOwnPasture_0 12 rfl rfl)
theorem dX9_isOwnPasture_13 : decode cX9_isOwnPasture 13 = .ok (.iload_n 2, 1) := dk_28 (dk_at dksX9_isOwnPasture_0 13 rfl rfl)
theorem dX9_isOwnPasture_14 : decode cX9_isOwnPasture 14 = .ok (.iconst 1, 1) := dk_4 (dk_at dksX9_isOwnPasture_0 14 rfl rfl)
theorem dX9_isOwnPasture_15 : decode cX9_isOwnPasture 15 = .ok (.invokevirtual 88, 3) := dk_182 0 88 (dk_at dksX9_isOwnPasture_0 15 rfl rfl)
theorem dX9_isOwnPasture_18 : decode cX9_isOwnPasture 18 = .ok (.iload_n 1, 1) := dk_27 (dk_at dksX9_isOwnPasture_0 18 rfl rfl)
theorem dX9_isOwnPasture_19 : decode cX9_isOwnPasture 19 = .ok (.if_icmp .ne 7, 3) := dk_160 0 7 (dk_at dksX9_isOwnPasture_0 19 rfl rfl)
theorem dX9_isOwnPasture_22 : decode cX9_isOwnPasture 22 = .ok (.iconst 1, 1) := dk_4 (dk_at dksX9_isOwnPasture_0 22 rfl rfl)
theorem dX9_isOwnPasture_23 : decode cX9_isOwnPasture 23 = .ok (.goto 4, 3) := dk_167 0 4 (dk_at dksX9_isOwnPasture_1 0 rfl rfl)
theorem dX9_isOwnPasture_26 : decode cX9_isOwnPasture 26 = .ok (.iconst 0, 1) := dk_3 (dk_at dksX9_isOwnPasture_1 3 rfl rfl)
theorem dX9_isOwnPasture_27 : decode cX9_isOwnPasture 27 = .ok (.ireturn, 1) := dk_172 (dk_at dksX9_isOwnPasture_1 4 rfl rfl)
def dkwX9_fence_3 : List UInt8 := [182, 1, 101, 42, 180, 0, 9, 16, 8, 28, 104, 7, 96, 4, 79, 4, 172]
abbrev dktX9_fence_3 : List UInt8 := dkwX9_fence_3 ++ []
def dkwX9_fence_2 : List UInt8 := [167, 0, 5, 16, 15, 62, 42, 27, 4, 182, 0, 76, 29, 162, 0, 6, 16, 253, 172, 42, 27, 29, 116]
abbrev dktX9_fence_2 : List UInt8 := dkwX9_fence_2 ++ dktX9_fence_3
def dkwX9_fence_1 : List UInt8 := [7, 182, 0, 88, 4, 160, 0, 6, 16, 254, 172, 42, 27, 3, 182, 0, 76, 5, 160, 0, 7, 8]
abbrev dktX9_fence_1 : List UInt8 := dkwX9_fence_1 ++ dktX9_fence_2
def dkwX9_fence_0 : List UInt8 := [42, 27, 28, 182, 1, 110, 154, 0, 5, 3, 172, 42, 27, 28, 182, 1, 126, 154, 0, 5, 2, 172, 42, 28]
abbrev dktX9_fence_0 : List UInt8 := dkwX9_fence_0 ++ dktX9_fence_1
theorem dksX9_fence_0 : cX9_fence.data.toList.drop 0 = dktX9_fence_0 := by decide +kernel
theorem dksX9_fence_1 : cX9_fence.data.toList.drop 24 = dktX9_fence_1 := dk_seg dksX9_fence_0 24 rfl rfl
theorem dksX9_fence_2 : cX9_fence.data.toList.drop 46 = dktX9_fence_2 := dk_seg dksX9_fence_1 22 rfl rfl
theorem dksX9_fence_3 : cX9_fence.data.toList.drop 69 = dktX9_fence_3 := dk_seg dksX9_fence_2 23 rfl rfl
theorem dX9_fence_0 : decode cX9_fence 0 = .ok (.aload_n 0, 1) := dk_42 (dk_at dksX9_fence_0 0 rfl rfl)
theorem dX9_fence_1 : decode cX9_fence 1 = .ok (.iload_n 1, 1) := dk_27 (dk_at dksX9_fence_0 1 rfl rfl)
theorem dX9_fence_2 : decode cX9_fence 2 = .ok (.iload_n 2, 1) := dk_28 (dk_at dksX9_fence_0 2 rfl rfl)
theorem dX9_fence_3 : decode cX9_fence 3 = .ok (.invokevirtual 366, 3) := dk_182 1 110 (dk_at dksX9_fence_0 3 rfl rfl)
theorem dX9_fence_6 : decode cX9_fence 6 = .ok (.ifCond .ne 5, 3) := dk_154 0 5 (dk_at dksX9_fence_0 6 rfl rfl)
theorem dX9_fence_9 : decode cX9_fence 9 = .ok (.iconst 0, 1) := dk_3 (dk_at dksX9_fence_0 9 rfl rfl)
theorem dX9_fence_10 : decode cX9_fence 10 = .ok (.ireturn, 1) := dk_172 (dk_at dksX9_fence_0 10 rfl rfl)
theorem dX9_fence_11 : decode cX9_fence 11 = .ok (.aload_n 0, 1) := dk_42 (dk_at dksX9_fence_0 11 rfl rfl)
theorem dX9_fence_12 : decode cX9_fence 12 = .ok (.iload_n 1, 1) := dk_27 (dk_at dksX9_fence_0 12 rfl rfl)
theorem dX9_fence_13 : decode cX9_fence 13 = .ok (.iload_n 2, 1) := dk_28 (dk_at dksX9_fence_0 13 rfl rfl)
theorem dX9_fence_14 : decode cX9_fence 14 = .ok (.invokevirtual 382, 3) := dk_182 1 126 (dk_at dksX9_fence_0 14 rfl rfl)
theorem dX9_fence_17 : decode cX9_fence 17 = .ok (.ifCond .ne 5, 3) := dk_154 0 5 (dk_at dksX9_fence_0 17 rfl rfl)
theorem dX9_fence_20 : decode cX9_fence 20 = .ok (.iconst (-1), 1) := dk_2 (dk_at dksX9_fence_0 20 rfl rfl)
theorem dX9_fence_21 : decode cX9_fence 21 = .ok (.ireturn, 1) := dk_172 (dk_at dksX9_fence_0 21 rfl rfl)
theorem dX9_fence_22 : decode cX9_fence 22 = .ok (.aload_n 0, 1) := dk_42 (dk_at dksX9_fence_0 22 rfl rfl)
theorem dX9_fence_23 : decode cX9_fence 23 = .ok (.iload_n 2, 1) := dk_28 (dk_at dksX9_fence_0 23 rfl rfl)
theorem dX9_fence_24 : decode cX9_fence 24 = .ok (.iconst 4, 1) := dk_7 (dk_at dksX9_fence_1 0 rfl rfl)
theorem dX9_fence_25 : decode cX9_fence 25 = .ok (.invokevirtual 88, 3) := dk_182 0 88 (dk_at dksX9_fence_1 1 rfl rfl)
theorem dX9_fence_28 : decode cX9_fence 28 = .ok (.iconst 1, 1) := dk_4 (dk_at dksX9_fence_1 4 rfl rfl)
theorem dX9_fence_29 : decode cX9_fence 29 = .ok (.if_icmp .ne 6, 3) := dk_160 0 6 (dk_at dksX9_fence_1 5 rfl rfl)
theorem dX9_fence_32 : decode cX9_fence 32 = .ok (.bipush (-2), 2) := dk_16 254 (dk_at dksX9_fence_1 8 rfl rfl)
theorem dX9_fence_34 : decode cX9_fence 34 = .ok (.ireturn, 1) := dk_172 (dk_at dksX9_fence_1 10 rfl rfl)
theorem dX9_fence_35 : decode cX9_fence 35 = .ok (.aload_n 0, 1) := dk_42 (dk_at dksX9_fence_1 11 rfl rfl)
theorem dX9_fence_36 : decode cX9_fence 36 = .ok (.iload_n 1, 1) := dk_27 (dk_at dksX9_fence_1 12 rfl rfl)
theorem dX9_fence_37 : decode cX9_fence 37 = .ok (.iconst 0, 1) := dk_3 (dk_at dksX9_fence_1 13 rfl rfl)
theorem dX9_fence_38 : decode cX9_fence 38 = .ok (.invokevirtual 76, 3) := dk_182 0 76 (dk_at dksX9_fence_1 14 rfl rfl)
theorem dX9_fence_41 : decode cX9_fence 41 = .ok (.iconst 2, 1) := dk_5 (dk_at dksX9_fence_1 17 rfl rfl)
theorem dX9_fence_42 : decode cX9_fence 42 = .ok (.if_icmp .ne 7, 3) := dk_160 0 7 (dk_at dksX9_fence_1 18 rfl rfl)
theorem dX9_fence_45 : decode cX9_fence 45 = .ok (.iconst 5, 1) := dk_8 (dk_at dksX9_fence_1 21 rfl rfl)
theorem dX9_fence_46 : decode cX9_fence 46 = .ok (.goto 5, 3) := dk_167 0 5 (dk_at dksX9_fence_2 0 rfl rfl)
theorem dX9_fence_49 : decode cX9_fence 49 = .ok (.bipush 15, 2) := dk_16 15 (dk_at dksX9_fence_2 3 rfl rfl)
theorem dX9_fence_51 : decode cX9_fence 51 = .ok (.istore_n 3, 1) := dk_62 (dk_at dksX9_fence_2 5 rfl rfl)
theorem dX9_fence_52 : decode cX9_fence 52 = .ok (.aload_n 0, 1) := dk_42 (dk_at dksX9_fence_2 6 rfl rfl)
theorem dX9_fence_53 : decode cX9_fence 53 = .ok (.iload_n 1, 1) := dk_27 (dk_at dksX9_fence_2 7 rfl rfl)
theorem dX9_fence_54 : decode cX9_fence 54 = .ok (.iconst 1, 1) := dk_4 (dk_at dksX9_fence_2 8 rfl rfl)
theorem dX9_fence_55 : decode cX9_fence 55 = .ok (.invokevirtual 76, 3) := dk_182 0 76 (dk_at dksX9_fence_2 9 rfl rfl)
theorem dX9_fence_58 : decode cX9_fence 58 = .ok (.iload_n 3, 1) := dk_29 (dk_at dksX9_fence_2 12 rfl rfl)
theorem dX9_fence_59 : decode cX9_fence 59 = .ok (.if_icmp .ge 6, 3) := dk_162 0 6 (dk_at dksX9_fence_2 13 rfl rfl)
theorem dX9_fence_62 : decode cX9_fence 62 = .ok (.bipush (-3), 2) := dk_16 253 (dk_at dksX9_fence_2 16 rfl rfl)
theorem dX9_fence_64 : decode cX9_fence 64 = .ok (.ireturn, 1) := dk_172 (dk_at dksX9_fence_2 18 rfl rfl)
theorem dX9_fence_65 : decode cX9_fence 65 = .ok (.aload_n 0, 1) := dk_42 (dk_at dksX9_fence_2 19 rfl rfl)
theorem dX9_fence_66 : decode cX9_fence 66 = .ok (.iload_n 1, 1) := dk_27 (dk_at dksX9_fence_2 20 rfl rfl)
theorem dX9_fence_67 : decode cX9_fence 67 = .ok (.iload_n 3, 1) := dk_29 (dk_at dksX9_fence_2 21 rfl rfl)
theorem dX9_fence_68 : decode cX9_fence 68 = .ok (.ineg, 1) := dk_116 (dk_at dksX9_fence_2 22 rfl rfl)
theorem dX9_fence_69 : decode cX9_fence 69 = .ok (.invokevirtual 357, 3) := dk_182 1 101 (dk_at dksX9_fence_3 0 rfl rfl)
theorem dX9_fence_72 : decode cX9_fence 72 = .ok (.aload_n 0, 1) := dk_42 (dk_at dksX9_fence_3 3 rfl rfl)
theorem dX9_fence_73 : decode cX9_fence 73 = .ok (.getfield 9, 3) := dk_180 0 9 (dk_at dksX9_fence_3 4 rfl rfl)
theorem dX9_fence_76 : decode cX9_fence 76 = .ok (.bipush 8, 2) := dk_16 8 (dk_at dksX9_fence_3 7 rfl rfl)
theorem dX9_fence_78 : decode cX9_fence 78 = .ok (.iload_n 2, 1) := dk_28 (dk_at dksX9_fence_3 9 rfl rfl)
theorem dX9_fence_79 : decode cX9_fence 79 = .ok (.imul, 1) := dk_104 (dk_at dksX9_fence_3 10 rfl rfl)
theorem dX9_fence_80 : decode cX9_fence 80 = .ok (.iconst 4, 1) := dk_7 (dk_at dksX9_fence_3 11 rfl rfl)
theorem dX9_fence_81 : decode cX9_fence 81 = .ok (.iadd, 1) := dk_96 (dk_at dksX9_fence_3 12 rfl rfl)
theorem dX9_fence_82 : decode cX9_fence 82 = .ok (.iconst 1, 1) := dk_4 (dk_at dksX9_fence_3 13 rfl rfl)
theorem dX9_fence_83 : decode cX9_fence 83 = .ok (.iastore, 1) := dk_79 (dk_at dksX9_fence_3 14 rfl rfl)
theorem dX9_fence_84 : decode cX9_fence 84 = .ok (.iconst 1, 1) := dk_4 (dk_at dksX9_fence_3 15 rfl rfl)
theorem dX9_fence_85 : decode cX9_fence 85 = .ok (.ireturn, 1) := dk_172 (dk_at dksX9_fence_3 16 rfl rfl)
def dkwX9_passages_0 : List UInt8 := [42, 3, 181, 0, 73, 42, 182, 1, 129, 172]
abbrev dktX9_passages_0 : List UInt8 := dkwX9_passages_0 ++ []
theorem dksX9_passages_0 : cX9_passages.data.toList.drop 0 = dktX9_passages_0 := by decide +kernel
theorem dX9_passages_0 : decode cX9_passages 0 = .ok (.aload_n 0, 1) := dk_42 (dk_at dksX9_passages_0 0 rfl rfl)
theorem dX9_passages_1 : decode cX9_passages 1 = .ok (.iconst 0, 1) := dk_3 (dk_at dksX9_passages_0 1 rfl rfl)
theorem dX9_passages_2 : decode cX9_passages 2 = .ok (.putfield 73, 3) := dk_181 0 73 (dk_at dksX9_passages_0 2 rfl rfl)
theorem dX9_passages_5 : decode cX9_passages 5 = .ok (.aload_n 0, 1) := dk_42 (dk_at dksX9_passages_0 5 rfl rfl)
theorem dX9_passages_6 : decode cX9_passages 6 = .ok (.invokevirtual 385, 3) := dk_182 1 129 (dk_at dksX9_passages_0 6 rfl rfl)
theorem dX9_passages_9 : decode cX9_passages 9 = .ok (.ireturn, 1) := dk_172 (dk_at dksX9_passages_0 9 rfl rfl)
def dkwX9_homePassages_1 : List UInt8 := [182, 1, 117, 42, 180, 0, 9, 17, 8, 72, 46, 96, 42, 180, 0, 9, 17, 8, 73, 46, 100, 172]
abbrev dktX9_homePassages_1 : List UInt8 := dkwX9_homePassages_1 ++ []
def dkwX9_homePassages_0 : List UInt8 := [42, 180, 0, 9, 17, 8, 68, 46, 16, 34, 100, 60, 27, 156, 0, 7, 3, 167, 0, 9, 42, 27, 8]
abbrev dktX9_homePassages_0 : List UInt8 := dkwX9_homePassages_0 ++ dktX9_homePassages_1
theorem dksX9_homePassages_0 : cX9_homePassages.data.toList.drop 0 = dktX9_homePassages_0 := by decide +kernel
theorem dksX9_homePassages_1 : cX9_homePassages.data.toList.drop 23 = dktX9_homePassages_1 := dk_seg dksX9_homePassages_0 23 rfl rfl
theorem dX9_homePassages_0 : decode cX9_homePassages 0 = .ok (.aload_n 0, 1) := dk_42 (dk_at dksX9_homePassages_0 0 rfl rfl)
theorem dX9_homePassages_1 : decode cX9_homePassages 1 = .ok (.getfield 9, 3) := dk_180 0 9 (dk_at dksX9_homePassages_0 1 rfl rfl)
theorem dX9_homePassages_4 : decode cX9_homePassages 4 = .ok (.sipush 2116, 3) := dk_17 8 68 (dk_at dksX9_homePassages_0 4 rfl rfl)
theorem dX9_homePassages_7 : decode cX9_homePassages 7 = .ok (.iaload, 1) := dk_46 (dk_at dksX9_homePassages_0 7 rfl rfl)
theorem dX9_homePassages_8 : decode cX9_homePassages 8 = .ok (.bipush 34, 2) := dk_16 34 (dk_at dksX9_homePassages_0 8 rfl rfl)
theorem dX9_homePassages_10 : decode cX9_homePassages 10 = .ok (.isub, 1) := dk_100 (dk_at dksX9_homePassages_0 10 rfl rfl)
theorem dX9_homePassages_11 : decode cX9_homePassages 11 = .ok (.istore_n 1, 1) := dk_60 (dk_at dksX9_homePassages_0 11 rfl rfl)
theorem dX9_homePassages_12 : decode cX9_homePassages 12 = .ok (.iload_n 1, 1) := dk_27 (dk_at dksX9_homePassages_0 12 rfl rfl)
theorem dX9_homePassages_13 : decode cX9_homePassages 13 = .ok (.ifCond .ge 7, 3) := dk_156 0 7 (dk_at dksX9_homePassages_0 13 rfl rfl)
theorem dX9_homePassages_16 : decode cX9_homePassages 16 = .ok (.iconst 0, 1) := dk_3 (dk_at dksX9_homePassages_0 16 rfl rfl)
theorem dX9_homePassages_17 : decode cX9_homePassages 17 = .ok (.goto 9, 3) := dk_167 0 9 (dk_at dksX9_homePassages_0 17 rfl rfl)
theorem dX9_homePassages_20 : decode cX9_homePassages 20 = .ok (.aload_n 0, 1) := dk_42 (dk_at dksX9_homePassages_0 20 rfl rfl)
theorem dX9_homePassages_21 : decode cX9_homePassages 21 = .ok (.iload_n 1, 1) := dk_27 (dk_at dksX9_homePassages_0 21 rfl rfl)
theorem dX9_homePassages_22 : decode cX9_homePassages 22 = .ok (.iconst 5, 1) := dk_8 (dk_at dksX9_homePassages_0 22 rfl rfl)
theorem dX9_homePassages_23 : decode cX9_homePassages 23 = .ok (.invokevirtual 373, 3) := dk_182 1 117 (dk_at dksX9_homePassages_1 0 rfl rfl)
theorem dX9_homePassages_26 : decode cX9_homePassages 26 = .ok (.aload_n 0, 1) := dk_42 (dk_at dksX9_homePassages_1 3 rfl rfl)
theorem dX9_homePassages_27 : decode cX9_homePassages 27 = .ok (.getfield 9, 3) := dk_180 0 9 (dk_at dksX9_homePassages_1 4 rfl rfl)
theorem dX9_homePassages_30 : decode cX9_homePassages 30 = .ok (.sipush 2120, 3) := dk_17 8 72 (dk_at dksX9_homePassages_1 7 rfl rfl)
theorem dX9_homePassages_33 : decode cX9_homePassages 33 = .ok (.iaload, 1) := dk_46 (dk_at dksX9_homePassages_1 10 rfl rfl)
theorem dX9_homePassages_34 : decode cX9_homePassages 34 = .ok (.iadd, 1) := dk_96 (dk_at dksX9_homePassages_1 11 rfl rfl)
theorem dX9_homePassages_35 : decode cX9_homePassages 35 = .ok (.aload_n 0, 1) := dk_42 (dk_at dksX9_homePassages_1 12 rfl rfl)
theorem dX9_homePassages_36 : decode cX9_homePassages 36 = .ok (.getfield 9, 3) := dk_180 0 9 (dk_at dksX9_homePassages_1 13 rfl rfl)
theorem dX9_homePassages_39 : decode cX9_homePassages 39 = .ok (.sipush 2121, 3) := dk_17 8 73 (dk_at dksX9_homePassages_1 16 rfl rfl)
theorem dX9_homePassages_42 : decode cX9_homePassages 42 = .ok (.iaload, 1) := dk_46 (dk_at dksX9_homePassages_1 19 rfl rfl)
theorem dX9_homePassages_43 : decode cX9_homePassages 43 = .ok (.isub, 1) := dk_100 (dk_at dksX9_homePassages_1 20 rfl rfl)
theorem dX9_homePassages_44 : decode cX9_homePassages 44 = .ok (.ireturn, 1) := dk_172 (dk_at dksX9_homePassages_1 21 rfl rfl)
def dkwX9_ship_11 : List UInt8 := [180, 0, 9, 17, 8, 81, 92, 46, 4, 96, 79, 42, 180, 0, 9, 17, 8, 81, 46, 4, 100, 172]
abbrev dktX9_ship_11 : List UInt8 := dkwX9_ship_11 ++ []
def dkwX9_ship_10 : List UInt8 := [162, 0, 7, 5, 167, 0, 4, 6, 8, 4, 21, 8, 182, 0, 118, 132, 9, 1, 167, 255, 199, 42]
abbrev dktX9_ship_10 : List UInt8 := dkwX9_ship_10 ++ dktX9_ship_11
def dkwX9_ship_9 : List UInt8 := [167, 0, 30, 21, 9, 27, 28, 96, 162, 0, 7, 4, 167, 0, 18, 21, 9, 27, 28, 96, 29, 96]
abbrev dktX9_ship_9 : List UInt8 := dkwX9_ship_9 ++ dktX9_ship_10
def dkwX9_ship_8 : List UInt8 := [167, 255, 205, 3, 54, 9, 21, 9, 133, 22, 5, 148, 156, 0, 54, 42, 21, 9, 27, 162, 0, 7, 3]
abbrev dktX9_ship_8 : List UInt8 := dkwX9_ship_8 ++ dktX9_ship_9
def dkwX9_ship_7 : List UInt8 := [167, 0, 20, 42, 21, 9, 5, 4, 182, 0, 113, 42, 21, 9, 8, 21, 8, 182, 0, 113, 132, 9, 1]
abbrev dktX9_ship_7 : List UInt8 := dkwX9_ship_7 ++ dktX9_ship_8
def dkwX9_ship_6 : List UInt8 := [162, 0, 50, 42, 21, 9, 5, 182, 0, 76, 154, 0, 34, 42, 21, 9, 16, 6, 182, 0, 76, 156, 0, 6]
abbrev dktX9_ship_6 : List UInt8 := dkwX9_ship_6 ++ dktX9_ship_7
def dkwX9_ship_5 : List UInt8 := [180, 0, 9, 17, 8, 73, 92, 46, 16, 10, 22, 5, 136, 104, 96, 79, 3, 54, 9, 21, 9, 21, 7]
abbrev dktX9_ship_5 : List UInt8 := dkwX9_ship_5 ++ dktX9_ship_6
def dkwX9_ship_4 : List UInt8 := [180, 0, 9, 17, 8, 76, 46, 54, 7, 42, 180, 0, 9, 17, 8, 68, 46, 16, 34, 96, 54, 8, 42]
abbrev dktX9_ship_4 : List UInt8 := dkwX9_ship_4 ++ dktX9_ship_5
def dkwX9_ship_3 : List UInt8 := [16, 253, 172, 42, 182, 1, 129, 133, 20, 1, 132, 22, 5, 105, 148, 156, 0, 6, 16, 252, 172, 42]
abbrev dktX9_ship_3 : List UInt8 := dkwX9_ship_3 ++ dktX9_ship_4
def dkwX9_ship_2 : List UInt8 := [21, 4, 133, 97, 55, 5, 22, 5, 16, 100, 42, 180, 0, 9, 17, 8, 76, 46, 100, 133, 148, 158, 0, 6]
abbrev dktX9_ship_2 : List UInt8 := dkwX9_ship_2 ++ dktX9_ship_3
def dkwX9_ship_1 : List UInt8 := [42, 180, 0, 9, 17, 8, 81, 46, 16, 20, 160, 0, 6, 16, 254, 172, 27, 133, 28, 133, 97, 29, 133, 97]
abbrev dktX9_ship_1 : List UInt8 := dkwX9_ship_1 ++ dktX9_ship_2
def dkwX9_ship_0 : List UInt8 := [42, 3, 181, 0, 73, 27, 155, 0, 16, 28, 155, 0, 12, 29, 155, 0, 8, 21, 4, 156, 0, 5, 2, 172]
abbrev dktX9_ship_0 : List UInt8 := dkwX9_ship_0 ++ dktX9_ship_1
theorem dksX9_ship_0 : cX9_ship.data.toList.drop 0 = dktX9_ship_0 := by decide +kernel
theorem dksX9_ship_1 : cX9_ship.data.toList.drop 24 = dktX9_ship_1 := dk_seg dksX9_ship_0 24 rfl rfl
theorem dksX9_ship_2 : cX9_ship.data.toList.drop 48 = dktX9_ship_2 := dk_seg dksX9_ship_1 24 rfl rfl
theorem dksX9_ship_3 : cX9_ship.data.toList.drop 72 = dktX9_ship_3 := dk_seg dksX9_ship_2 24 rfl rfl
theorem dksX9_ship_4 : cX9_ship.data.toList.drop 94 = dktX9_ship_4 := dk_seg dksX9_ship_3 22 rfl rfl
theorem dksX9_ship_5 : cX9_ship.data.toList.drop 117 = dktX9_ship_5 := dk_seg dksX9_ship_4 23 rfl rfl
theorem dksX9_ship_6 : cX9_ship.data.toList.drop 140 = dktX9_ship_6 := dk_seg dksX9_ship_5 23 rfl rfl
theorem dksX9_ship_7 : cX9_ship.data.toList.drop 164 = dktX9_ship_7 := dk_seg dksX9_ship_6 24 rfl rfl
theorem dksX9_ship_8 : cX9_ship.data.toList.drop 187 = dktX9_ship_8 := dk_seg dksX9_ship_7 23 rfl rfl
theorem dksX9_ship_9 : cX9_ship.data.toList.drop 210 = dktX9_ship_9 := dk_seg dksX9_ship_8 23 rfl rfl
theorem dksX9_ship_10 : cX9_ship.data.toList.drop 232 = dktX9_ship_10 := dk_seg dksX9_ship_9 22 rfl rfl
theorem dksX9_ship_11 : cX9_ship.data.toList.drop 254 = dktX9_ship_11 := dk_seg dksX9_ship_10 22 rfl rfl
theorem dX9_ship_0 : decode cX9_ship 0 = .ok (.aload_n 0, 1) := dk_42 (dk_at dksX9_ship_0 0 rfl rfl)
theorem dX9_ship_1 : decode cX9_ship 1 = .ok (.iconst 0, 1) := dk_3 (dk_at dksX9_ship_0 1 rfl rfl)
theorem dX9_ship_2 : decode cX9_ship 2 = .ok (.putfield 73, 3) := dk_181 0 73 (dk_at dksX9_ship_0 2 rfl rfl)
theorem dX9_ship_5 : decode cX9_ship 5 = .ok (.iload_n 1, 1) := dk_27 (dk_at dksX9_ship_0 5 rfl rfl)
theorem dX9_ship_6 : decode cX9_ship 6 = .ok (.ifCond .lt 16, 3) := dk_155 0 16 (dk_at dksX9_ship_0 6 rfl rfl)
theorem dX9_ship_9 : decode cX9_ship 9 = .ok (.iload_n 2, 1) := dk_28 (dk_at dksX9_ship_0 9 rfl rfl)
theorem dX9_ship_10 : decode cX9_ship 10 = .ok (.ifCond .lt 12, 3) := dk_155 0 12 (dk_at dksX9_ship_0 10 rfl rfl)
theorem dX9_ship_13 : decode cX9_ship 13 = .ok (.iload_n 3, 1) := dk_29 (dk_at dksX9_ship_0 13 rfl rfl)
theorem dX9_ship_14 : decode cX9_ship 14 = .ok (.ifCond .lt 8, 3) := dk_155 0 8 (dk_at dksX9_ship_0 14 rfl rfl)
theorem dX9_ship_17 : decode cX9_ship 17 = .ok (.iload 4, 2) := dk_21 4 (dk_at dksX9_ship_0 17 rfl rfl)
theorem dX9_ship_19 : decode cX9_ship 19 = .ok (.ifCond .ge 5, 3) := dk_156 0 5 (dk_at dksX9_ship_0 19 rfl rfl)
theorem dX9_ship_22 : decode cX9_ship 22 = .ok (.iconst (-1), 1) := dk_2 (dk_at dksX9_ship_0 22 rfl rfl)
theorem dX9_ship_23 : decode cX9_ship 23 = .ok (.ireturn, 1) := dk_172 (dk_at dksX9_ship_0 23 rfl rfl)
theorem dX9_ship_24 : decode cX9_ship 24 = .ok (.aload_n 0, 1) := dk_42 (dk_at dksX9_ship_1 0 rfl rfl)
theorem dX9_ship_25 : decode cX9_ship 25 = .ok (.getfield 9, 3) := dk_180 0 9 (dk_at dksX9_ship_1 1 rfl rfl)
theorem dX9_ship_28 : decode cX9_ship 28 = .ok (.sipush 2129, 3) := dk_17 8 81 (dk_at dksX9_ship_1 4 rfl rfl)
theorem dX9_ship_31 : decode cX9_ship 31 = .ok (.iaload, 1) := dk_46 (dk_at dksX9_ship_1 7 rfl rfl)
theorem dX9_ship_32 : decode cX9_ship 32 = .ok (.bipush 20, 2) := dk_16 20 (dk_at dksX9_ship_1 8 rfl rfl)
theorem dX9_ship_34 : decode cX9_ship 34 = .ok (.if_icmp .ne 6, 3) := dk_160 0 6 (dk_at dksX9_ship_1 10 rfl rfl)
theorem dX9_ship_37 : decode cX9_ship 37 = .ok (.bipush (-2), 2) := dk_16 254 (dk_at dksX9_ship_1 13 rfl rfl)
theorem dX9_ship_39 : decode cX9_ship 39 = .ok (.ireturn, 1) := dk_172 (dk_at dksX9_ship_1 15 rfl rfl)
theorem dX9_ship_40 : decode cX9_ship 40 = .ok (.iload_n 1, 1) := dk_27 (dk_at dksX9_ship_1 16 rfl rfl)
theorem dX9_ship_41 : decode cX9_ship 41 = .ok (.i2l, 1) := dk_133 (dk_at dksX9_ship_1 17 rfl rfl)
theorem dX9_ship_42 : decode cX9_ship 42 = .ok (.iload_n 2, 1) := dk_28 (dk_at dksX9_ship_1 18 rfl rfl)
theorem dX9_ship_43 : decode cX9_ship 43 = .ok (.i2l, 1) := dk_133 (dk_at dksX9_ship_1 19 rfl rfl)
theorem dX9_ship_44 : decode cX9_ship 44 = .ok (.ladd, 1) := dk_97 (dk_at dksX9_ship_1 20 rfl rfl)
theorem dX9_ship_45 : decode cX9_ship 45 = .ok (.iload_n 3, 1) := dk_29 (dk_at dksX9_ship_1 21 rfl rfl)
theorem dX9_ship_46 : decode cX9_ship 46 = .ok (.i2l, 1) := dk_133 (dk_at dksX9_ship_1 22 rfl rfl)
theorem dX9_ship_47 : decode cX9_ship 47 = .ok (.ladd, 1) := dk_97 (dk_at dksX9_ship_1 23 rfl rfl)
theorem dX9_ship_48 : decode cX9_ship 48 = .ok (.iload 4, 2) := dk_21 4 (dk_at dksX9_ship_2 0 rfl rfl)
theorem dX9_ship_50 : decode cX9_ship 50 = .ok (.i2l, 1) := dk_133 (dk_at dksX9_ship_2 2 rfl rfl)
theorem dX9_ship_51 : decode cX9_ship 51 = .ok (.ladd, 1) := dk_97 (dk_at dksX9_ship_2 3 rfl rfl)
theorem dX9_ship_52 : decode cX9_ship 52 = .ok (.lstore 5, 2) := dk_55 5 (dk_at dksX9_ship_2 4 rfl rfl)
theorem dX9_ship_54 : decode cX9_ship 54 = .ok (.lload 5, 2) := dk_22 5 (dk_at dksX9_ship_2 6 rfl rfl)
theorem dX9_ship_56 : decode cX9_ship 56 = .ok (.bipush 100, 2) := dk_16 100 (dk_at dksX9_ship_2 8 rfl rfl)
theorem dX9_ship_58 : decode cX9_ship 58 = .ok (.aload_n 0, 1) := dk_42 (dk_at dksX9_ship_2 10 rfl rfl)
theorem dX9_ship_59 : decode cX9_ship 59 = .ok (.getfield 9, 3) := dk_180 0 9 (dk_at dksX9_ship_2 11 rfl rfl)
theorem dX9_ship_62 : decode cX9_ship 62 = .ok (.sipush 2124, 3) := dk_17 8 76 (dk_at dksX9_ship_2 14 rfl rfl)
theorem dX9_ship_65 : decode cX9_ship 65 = .ok (.iaload, 1) := dk_46 (dk_at dksX9_ship_2 17 rfl rfl)
theorem dX9_ship_66 : decode cX9_ship 66 = .ok (.isub, 1) := dk_100 (dk_at dksX9_ship_2 18 rfl rfl)
theorem dX9_ship_67 : decode cX9_ship 67 = .ok (.i2l, 1) := dk_133 (dk_at dksX9_ship_2 19 rfl rfl)
theorem dX9_ship_68 : decode cX9_ship 68 = .ok (.lcmp, 1) := dk_148 (dk_at dksX9_ship_2 20 rfl rfl)
theorem dX9_ship_69 : decode cX9_ship 69 = .ok (.ifCond .le 6, 3) := dk_158 0 6 (dk_at dksX9_ship_2 21 rfl rfl)
theorem dX9_ship_72 : decode cX9_ship 72 = .ok (.bipush (-3), 2) := dk_16 253 (dk_at dksX9_ship_3 0 rfl rfl)
theorem dX9_ship_74 : decode cX9_ship 74 = .ok (.ireturn, 1) := dk_172 (dk_at dksX9_ship_3 2 rfl rfl)
theorem dX9_ship_75 : decode cX9_ship 75 = .ok (.aload_n 0, 1) := dk_42 (dk_at dksX9_ship_3 3 rfl rfl)
theorem dX9_ship_76 : decode cX9_ship 76 = .ok (.invokevirtual 385, 3) := dk_182 1 129 (dk_at dksX9_ship_3 4 rfl rfl)
theorem dX9_ship_79 : decode cX9_ship 79 = .ok (.i2l, 1) := dk_133 (dk_at dksX9_ship_3 7 rfl rfl)
theorem dX9_ship_80 : decode cX9_ship 80 = .ok (.ldc2_w 388, 3) := dk_20 1 132 (dk_at dksX9_ship_3 8 rfl rfl)
theorem dX9_ship_83 : decode cX9_ship 83 = .ok (.lload 5, 2) := dk_22 5 (dk_at dksX9_ship_3 11 rfl rfl)
theorem dX9_ship_85 : decode cX9_ship 85 = .ok (.lmul, 1) := dk_105 (dk_at dksX9_ship_3 13 rfl rfl)
theorem dX9_ship_86 : decode cX9_ship 86 = .ok (.lcmp, 1) := dk_148 (dk_at dksX9_ship_3 14 rfl rfl)
theorem dX9_ship_87 : decode cX9_ship 87 = .ok (.ifCond .ge 6, 3) := dk_156 0 6 (dk_at dksX9_ship_3 15 rfl rfl)
theorem dX9_ship_90 : decode cX9_ship 90 = .ok (.bipush (-4), 2) := dk_16 252 (dk_at dksX9_ship_3 18 rfl rfl)
theorem dX9_ship_92 : decode cX9_ship 92 = .ok (.ireturn, 1) := dk_172 (dk_at dksX9_ship_3 20 rfl rfl)
theorem dX9_ship_93 : decode cX9_ship 93 = .ok (.aload_n 0, 1) := dk_42 (dk_at dksX9_ship_3 21 rfl rfl)
theorem dX9_ship_94 : decode cX9_ship 94 = .ok (.getfield 9, 3) := dk_180 0 9 (dk_at dksX9_ship_4 0 rfl rfl)
theorem dX9_ship_97 : decode cX9_ship 97 = .ok (.sipush 2124, 3) := dk_17 8 76 (dk_at dksX9_ship_4 3 rfl rfl)
theorem dX9_ship_100 : decode cX9_ship 100 = .ok (.iaload, 1) := dk_46 (dk_at dksX9_ship_4 6 rfl rfl)
theorem dX9_ship_101 : decode cX9_ship 101 = .ok (.istore 7, 2) := dk_54 7 (dk_at dksX9_ship_4 7 rfl rfl)
theorem dX9_ship_103 : decode cX9_ship 103 = .ok (.aload_n 0, 1) := dk_42 (dk_at dksX9_ship_4 9 rfl rfl)
theorem dX9_ship_104 : decode cX9_ship 104 = .ok (.getfield 9, 3) := dk_180 0 9 (dk_at dksX9_ship_4 10 rfl rfl)
theorem dX9_ship_107 : decode cX9_ship 107 = .ok (.sipush 2116, 3) := dk_17 8 68 (dk_at dksX9_ship_4 13 rfl rfl)
theorem dX9_ship_110 : decode cX9_ship 110 = .ok (.iaload, 1) := dk_46 (dk_at dksX9_ship_4 16 rfl rfl)
theorem dX9_ship_111 : decode cX9_ship 111 = .ok (.bipush 34, 2) := dk_16 34 (dk_at dksX9_ship_4 17 rfl rfl)
theorem dX9_ship_113 : decode cX9_ship 113 = .ok (.iadd, 1) := dk_96 (dk_at dksX9_ship_4 19 rfl rfl)
theorem dX9_ship_114 : decode cX9_ship 114 = .ok (.istore 8, 2) := dk_54 8 (dk_at dksX9_ship_4 20 rfl rfl)
theorem dX9_ship_116 : decode cX9_ship 116 = .ok (.aload_n 0, 1) := dk_42 (dk_at dksX9_ship_4 22 rfl rfl)
theorem dX9_ship_117 : decode cX9_ship 117 = .ok (.getfield 9, 3) := dk_180 0 9 (dk_at dksX9_ship_5 0 rfl rfl)
theorem dX9_ship_120 : decode cX9_ship 120 = .ok (.sipush 2121, 3) := dk_17 8 73 (dk_at dksX9_ship_5 3 rfl rfl)
theorem dX9_ship_123 : decode cX9_ship 123 = .ok (.dup2, 1) := dk_92 (dk_at dksX9_ship_5 6 rfl rfl)
theorem dX9_ship_124 : decode cX9_ship 124 = .ok (.iaload, 1) := dk_46 (dk_at dksX9_ship_5 7 rfl rfl)
theorem dX9_ship_125 : decode cX9_ship 125 = .ok (.bipush 10, 2) := dk_16 10 (dk_at dksX9_ship_5 8 rfl rfl)
theorem dX9_ship_127 : decode cX9_ship 127 = .ok (.lload 5, 2) := dk_22 5 (dk_at dksX9_ship_5 10 rfl rfl)
theorem dX9_ship_129 : decode cX9_ship 129 = .ok (.l2i, 1) := dk_136 (dk_at dksX9_ship_5 12 rfl rfl)
theorem dX9_ship_130 : decode cX9_ship 130 = .ok (.imul, 1) := dk_104 (dk_at dksX9_ship_5 13 rfl rfl)
theorem dX9_ship_131 : decode cX9_ship 131 = .ok (.iadd, 1) := dk_96 (dk_at dksX9_ship_5 14 rfl rfl)
theorem dX9_ship_132 : decode cX9_ship 132 = .ok (.iastore, 1) := dk_79 (dk_at dksX9_ship_5 15 rfl rfl)
theorem dX9_ship_133 : decode cX9_ship 133 = .ok (.iconst 0, 1) := dk_3 (dk_at dksX9_ship_5 16 rfl rfl)
theorem dX9_ship_134 : decode cX9_ship 134 = .ok (.istore 9, 2) := dk_54 9 (dk_at dksX9_ship_5 17 rfl rfl)
theorem dX9_ship_136 : decode cX9_ship 136 = .ok (.iload 9, 2) := dk_21 9 (dk_at dksX9_ship_5 19 rfl rfl)
theorem dX9_ship_138 : decode cX9_ship 138 = .ok (.iload 7, 2) := dk_21 7 (dk_at dksX9_ship_5 21 rfl rfl)
theorem dX9_ship_140 : decode cX9_ship 140 = .ok (.if_icmp .ge 50, 3) := dk_162 0 50 (dk_at dksX9_ship_6 0 rfl rfl)
theorem dX9_ship_143 : decode cX9_ship 143 = .ok (.aload_n 0, 1) := dk_42 (dk_at dksX9_ship_6 3 rfl rfl)
theorem dX9_ship_144 : decode cX9_ship 144 = .ok (.iload 9, 2) := dk_21 9 (dk_at dksX9_ship_6 4 rfl rfl)
theorem dX9_ship_146 : decode cX9_ship 146 = .ok (.iconst 2, 1) := dk_5 (dk_at dksX9_ship_6 6 rfl rfl)
theorem dX9_ship_147 : decode cX9_ship 147 = .ok (.invokevirtual 76, 3) := dk_182 0 76 (dk_at dksX9_ship_6 7 rfl rfl)
theorem dX9_ship_150 : decode cX9_ship 150 = .ok (.ifCond .ne 34, 3) := dk_154 0 34 (dk_at dksX9_ship_6 10 rfl rfl)
theorem dX9_ship_153 : decode cX9_ship 153 = .ok (.aload_n 0, 1) := dk_42 (dk_at dksX9_ship_6 13 rfl rfl)
theorem dX9_ship_154 : decode cX9_ship 154 = .ok (.iload 9, 2) := dk_21 9 (dk_at dksX9_ship_6 14 rfl rfl)
theorem dX9_ship_156 : decode cX9_ship 156 = .ok (.bipush 6, 2) := dk_16 6 (dk_at dksX9_ship_6 16 rfl rfl)
theorem dX9_ship_158 : decode cX9_ship 158 = .ok (.invokevirtual 76, 3) := dk_182 0 76 (dk_at dksX9_ship_6 18 rfl rfl)
theorem dX9_ship_161 : decode cX9_ship 161 = .ok (.ifCond .ge 6, 3) := dk_156 0 6 (dk_at dksX9_ship_6 21 rfl rfl)
theorem dX9_ship_164 : decode cX9_ship 164 = .ok (.goto 20, 3) := dk_167 0 20 (dk_at dksX9_ship_7 0 rfl rfl)
theorem dX9_ship_167 : decode cX9_ship 167 = .ok (.aload_n 0, 1) := dk_42 (dk_at dksX9_ship_7 3 rfl rfl)
theorem dX9_ship_168 : decode cX9_ship 168 = .ok (.iload 9, 2) := dk_21 9 (dk_at dksX9_ship_7 4 rfl rfl)
theorem dX9_ship_170 : decode cX9_ship 170 = .ok (.iconst 2, 1) := dk_5 (dk_at dksX9_ship_7 6 rfl rfl)
theorem dX9_ship_171 : decode cX9_ship 171 = .ok (.iconst 1, 1) := dk_4 (dk_at dksX9_ship_7 7 rfl rfl)
theorem dX9_ship_172 : decode cX9_ship 172 = .ok (.invokevirtual 113, 3) := dk_182 0 113 (dk_at dksX9_ship_7 8 rfl rfl)
theorem dX9_ship_175 : decode cX9_ship 175 = .ok (.aload_n 0, 1) := dk_42 (dk_at dksX9_ship_7 11 rfl rfl)
theorem dX9_ship_176 : decode cX9_ship 176 = .ok (.iload 9, 2) := dk_21 9 (dk_at dksX9_ship_7 12 rfl rfl)
theorem dX9_ship_178 : decode cX9_ship 178 = .ok (.iconst 5, 1) := dk_8 (dk_at dksX9_ship_7 14 rfl rfl)
theorem dX9_ship_179 : decode cX9_ship 179 = .ok (.iload 8, 2) := dk_21 8 (dk_at dksX9_ship_7 15 rfl rfl)
theorem dX9_ship_181 : decode cX9_ship 181 = .ok (.invokevirtual 113, 3) := dk_182 0 113 (dk_at dksX9_ship_7 17 rfl rfl)
theorem dX9_ship_184 : decode cX9_ship 184 = .ok (.iinc 9 1, 3) := dk_132 9 1 (dk_at dksX9_ship_7 20 rfl rfl)
theorem dX9_ship_187 : decode cX9_ship 187 = .ok (.goto (-51), 3) := dk_167 255 205 (dk_at dksX9_ship_8 0 rfl rfl)
theorem dX9_ship_190 : decode cX9_ship 190 = .ok (.iconst 0, 1) := dk_3 (dk_at dksX9_ship_8 3 rfl rfl)
theorem dX9_ship_191 : decode cX9_ship 191 = .ok (.istore 9, 2) := dk_54 9 (dk_at dksX9_ship_8 4 rfl rfl)
theorem dX9_ship_193 : decode cX9_ship 193 = .ok (.iload 9, 2) := dk_21 9 (dk_at dksX9_ship_8 6 rfl rfl)
theorem dX9_ship_195 : decode cX9_ship 195 = .ok (.i2l, 1) := dk_133 (dk_at dksX9_ship_8 8 rfl rfl)
theorem dX9_ship_196 : decode cX9_ship 196 = .ok (.lload 5, 2) := dk_22 5 (dk_at dksX9_ship_8 9 rfl rfl)
theorem dX9_ship_198 : decode cX9_ship 198 = .ok (.lcmp, 1) := dk_148 (dk_at dksX9_ship_8 11 rfl rfl)
theorem dX9_ship_199 : decode cX9_ship 199 = .ok (.ifCond .ge 54, 3) := dk_156 0 54 (dk_at dksX9_ship_8 12 rfl rfl)
theorem dX9_ship_202 : decode cX9_ship 202 = .ok (.aload_n 0, 1) := dk_42 (dk_at dksX9_ship_8 15 rfl rfl)
theorem dX9_ship_203 : decode cX9_ship 203 = .ok (.iload 9, 2) := dk_21 9 (dk_at dksX9_ship_8 16 rfl rfl)
theorem dX9_ship_205 : decode cX9_ship 205 = .ok (.iload_n 1, 1) := dk_27 (dk_at dksX9_ship_8 18 rfl rfl)
theorem dX9_ship_206 : decode cX9_ship 206 = .ok (.if_icmp .ge 7, 3) := dk_162 0 7 (dk_at dksX9_ship_8 19 rfl rfl)
theorem dX9_ship_209 : decode cX9_ship 209 = .ok (.iconst 0, 1) := dk_3 (dk_at dksX9_ship_8 22 rfl rfl)
theorem dX9_ship_210 : decode cX9_ship 210 = .ok (.goto 30, 3) := dk_167 0 30 (dk_at dksX9_ship_9 0 rfl rfl)
theorem dX9_ship_213 : decode cX9_ship 213 = .ok (.iload 9, 2) := dk_21 9 (dk_at dksX9_ship_9 3 rfl rfl)
theorem dX9_ship_215 : decode cX9_ship 215 = .ok (.iload_n 1, 1) := dk_27 (dk_at dksX9_ship_9 5 rfl rfl)
theorem dX9_ship_216 : decode cX9_ship 216 = .ok (.iload_n 2, 1) := dk_28 (dk_at dksX9_ship_9 6 rfl rfl)
theorem dX9_ship_217 : decode cX9_ship 217 = .ok (.iadd, 1) := dk_96 (dk_at dksX9_ship_9 7 rfl rfl)
theorem dX9_ship_218 : decode cX9_ship 218 = .ok (.if_icmp .ge 7, 3) := dk_162 0 7 (dk_at dksX9_ship_9 8 rfl rfl)
theorem dX9_ship_221 : decode cX9_ship 221 = .ok (.iconst 1, 1) := dk_4 (dk_at dksX9_ship_9 11 rfl rfl)
theorem dX9_ship_222 : decode cX9_ship 222 = .ok (.goto 18, 3) := dk_167 0 18 (dk_at dksX9_ship_9 12 rfl rfl)
theorem dX9_ship_225 : decode cX9_ship 225 = .ok (.iload 9, 2) := dk_21 9 (dk_at dksX9_ship_9 15 rfl rfl)
theorem dX9_ship_227 : decode cX9_ship 227 = .ok (.iload_n 1, 1) := dk_27 (dk_at dksX9_ship_9 17 rfl rfl)
theorem dX9_ship_228 : decode cX9_ship 228 = .ok (.iload_n 2, 1) := dk_28 (dk_at dksX9_ship_9 18 rfl rfl)
theorem dX9_ship_229 : decode cX9_ship 229 = .ok (.iadd, 1) := dk_96 (dk_at dksX9_ship_9 19 rfl rfl)
theorem dX9_ship_230 : decode cX9_ship 230 = .ok (.iload_n 3, 1) := dk_29 (dk_at dksX9_ship_9 20 rfl rfl)
theorem dX9_ship_231 : decode cX9_ship 231 = .ok (.iadd, 1) := dk_96 (dk_at dksX9_ship_9 21 rfl rfl)
theorem dX9_ship_232 : decode cX9_ship 232 = .ok (.if_icmp .ge 7, 3) := dk_162 0 7 (dk_at dksX9_ship_10 0 rfl rfl)
theorem dX9_ship_235 : decode cX9_ship 235 = .ok (.iconst 2, 1) := dk_5 (dk_at dksX9_ship_10 3 rfl rfl)
theorem dX9_ship_236 : decode cX9_ship 236 = .ok (.goto 4, 3) := dk_167 0 4 (dk_at dksX9_ship_10 4 rfl rfl)
theorem dX9_ship_239 : decode cX9_ship 239 = .ok (.iconst 3, 1) := dk_6 (dk_at dksX9_ship_10 7 rfl rfl)
theorem dX9_ship_240 : decode cX9_ship 240 = .ok (.iconst 5, 1) := dk_8 (dk_at dksX9_ship_10 8 rfl rfl)
theorem dX9_ship_241 : decode cX9_ship 241 = .ok (.iconst 1, 1) := dk_4 (dk_at dksX9_ship_10 9 rfl rfl)
theorem dX9_ship_242 : decode cX9_ship 242 = .ok (.iload 8, 2) := dk_21 8 (dk_at dksX9_ship_10 10 rfl rfl)
theorem dX9_ship_244 : decode cX9_ship 244 = .ok (.invokevirtual 118, 3) := dk_182 0 118 (dk_at dksX9_ship_10 12 rfl rfl)
theorem dX9_ship_247 : decode cX9_ship 247 = .ok (.iinc 9 1, 3) := dk_132 9 1 (dk_at dksX9_ship_10 15 rfl rfl)
theorem dX9_ship_250 : decode cX9_ship 250 = .ok (.goto (-57), 3) := dk_167 255 199 (dk_at dksX9_ship_10 18 rfl rfl)
theorem dX9_ship_253 : decode cX9_ship 253 = .ok (.aload_n 0, 1) := dk_42 (dk_at dksX9_ship_10 21 rfl rfl)
theorem dX9_ship_254 : decode cX9_ship 254 = .ok (.getfield 9, 3) := dk_180 0 9 (dk_at dksX9_ship_11 0 rfl rfl)
theorem dX9_ship_257 : decode cX9_ship 257 = .ok (.sipush 2129, 3) := dk_17 8 81 (dk_at dksX9_ship_11 3 rfl rfl)
theorem dX9_ship_260 : decode cX9_ship 260 = .ok (.dup2, 1) := dk_92 (dk_at dksX9_ship_11 6 rfl rfl)
theorem dX9_ship_261 : decode cX9_ship 261 = .ok (.iaload, 1) := dk_46 (dk_at dksX9_ship_11 7 rfl rfl)
theorem dX9_ship_262 : decode cX9_ship 262 = .ok (.iconst 1, 1) := dk_4 (dk_at dksX9_ship_11 8 rfl rfl)
theorem dX9_ship_263 : decode cX9_ship 263 = .ok (.iadd, 1) := dk_96 (dk_at dksX9_ship_11 9 rfl rfl)
theorem dX9_ship_264 : decode cX9_ship 264 = .ok (.iastore, 1) := dk_79 (dk_at dksX9_ship_11 10 rfl rfl)
theorem dX9_ship_265 : decode cX9_ship 265 = .ok (.aload_n 0, 1) := dk_42 (dk_at dksX9_ship_11 11 rfl rfl)
theorem dX9_ship_266 : decode cX9_ship 266 = .ok (.getfield 9, 3) := dk_180 0 9 (dk_at dksX9_ship_11 12 rfl rfl)
theorem dX9_ship_269 : decode cX9_ship 269 = .ok (.sipush 2129, 3) := dk_17 8 81 (dk_at dksX9_ship_11 15 rfl rfl)
theorem dX9_ship_272 : decode cX9_ship 272 = .ok (.iaload, 1) := dk_46 (dk_at dksX9_ship_11 18 rfl rfl)
theorem dX9_ship_273 : decode cX9_ship 273 = .ok (.iconst 1, 1) := dk_4 (dk_at dksX9_ship_11 19 rfl rfl)
theorem dX9_ship_274 : decode cX9_ship 274 = .ok (.isub, 1) := dk_100 (dk_at dksX9_ship_11 20 rfl rfl)
theorem dX9_ship_275 : decode cX9_ship 275 = .ok (.ireturn, 1) := dk_172 (dk_at dksX9_ship_11 21 rfl rfl)
def dkwX9_fund_2 : List UInt8 := [17, 8, 75, 46, 172]
abbrev dktX9_fund_2 : List UInt8 := dkwX9_fund_2 ++ []
def dkwX9_fund_1 : List UInt8 := [182, 0, 84, 153, 0, 5, 3, 172, 42, 180, 0, 9, 17, 8, 75, 92, 46, 27, 96, 79, 42, 180, 0, 9]
abbrev dktX9_fund_1 : List UInt8 := dkwX9_fund_1 ++ dktX9_fund_2
def dkwX9_fund_0 : List UInt8 := [42, 3, 181, 0, 73, 42, 27, 155, 0, 10, 27, 19, 1, 29, 164, 0, 7, 4, 167, 0, 4, 3, 4]
abbrev dktX9_fund_0 : List UInt8 := dkwX9_fund_0 ++ dktX9_fund_1
theorem dksX9_fund_0 : cX9_fund.data.toList.drop 0 = dktX9_fund_0 := by decide +kernel
theorem dksX9_fund_1 : cX9_fund.data.toList.drop 23 = dktX9_fund_1 := dk_seg dksX9_fund_0 23 rfl rfl
theorem dksX9_fund_2 : cX9_fund.data.toList.drop 47 = dktX9_fund_2 := dk_seg dksX9_fund_1 24 rfl rfl
theorem dX9_fund_0 : decode cX9_fund 0 = .ok (.aload_n 0, 1) := dk_42 (dk_at dksX9_fund_0 0 rfl rfl)
theorem dX9_fund_1 : decode cX9_fund 1 = .ok (.iconst 0, 1) := dk_3 (dk_at dksX9_fund_0 1 rfl rfl)
theorem dX9_fund_2 : decode cX9_fund 2 = .ok (.putfield 73, 3) := dk_181 0 73 (dk_at dksX9_fund_0 2 rfl rfl)
theorem dX9_fund_5 : decode cX9_fund 5 = .ok (.aload_n 0, 1) := dk_42 (dk_at dksX9_fund_0 5 rfl rfl)
theorem dX9_fund_6 : decode cX9_fund 6 = .ok (.iload_n 1, 1) := dk_27 (dk_at dksX9_fund_0 6 rfl rfl)
theorem dX9_fund_7 : decode cX9_fund 7 = .ok (.ifCond .lt 10, 3) := dk_155 0 10 (dk_at dksX9_fund_0 7 rfl rfl)
theorem dX9_fund_10 : decode cX9_fund 10 = .ok (.iload_n 1, 1) := dk_27 (dk_at dksX9_fund_0 10 rfl rfl)
theorem dX9_fund_11 : decode cX9_fund 11 = .ok (.ldc_w 285, 3) := dk_19 1 29 (dk_at dksX9_fund_0 11 rfl rfl)
theorem dX9_fund_14 : decode cX9_fund 14 = .ok (.if_icmp .le 7, 3) := dk_164 0 7 (dk_at dksX9_fund_0 14 rfl rfl)
theorem dX9_fund_17 : decode cX9_fund 17 = .ok (.iconst 1, 1) := dk_4 (dk_at dksX9_fund_0 17 rfl rfl)
theorem dX9_fund_18 : decode cX9_fund 18 = .ok (.goto 4, 3) := dk_167 0 4 (dk_at dksX9_fund_0 18 rfl rfl)
theorem dX9_fund_21 : decode cX9_fund 21 = .ok (.iconst 0, 1) := dk_3 (dk_at dksX9_fund_0 21 rfl rfl)
theorem dX9_fund_22 : decode cX9_fund 22 = .ok (.iconst 1, 1) := dk_4 (dk_at dksX9_fund_0 22 rfl rfl)
theorem dX9_fund_23 : decode cX9_fund 23 = .ok (.invokevirtual 84, 3) := dk_182 0 84 (dk_at dksX9_fund_1 0 rfl rfl)
theorem dX9_fund_26 : decode cX9_fund 26 = .ok (.ifCond .eq 5, 3) := dk_153 0 5 (dk_at dksX9_fund_1 3 rfl rfl)
theorem dX9_fund_29 : decode cX9_fund 29 = .ok (.iconst 0, 1) := dk_3 (dk_at dksX9_fund_1 6 rfl rfl)
theorem dX9_fund_30 : decode cX9_fund 30 = .ok (.ireturn, 1) := dk_172 (dk_at dksX9_fund_1 7 rfl rfl)
theorem dX9_fund_31 : decode cX9_fund 31 = .ok (.aload_n 0, 1) := dk_42 (dk_at dksX9_fund_1 8 rfl rfl)
theorem dX9_fund_32 : decode cX9_fund 32 = .ok (.getfield 9, 3) := dk_180 0 9 (dk_at dksX9_fund_1 9 rfl rfl)
theorem dX9_fund_35 : decode cX9_fund 35 = .ok (.sipush 2123, 3) := dk_17 8 75 (dk_at dksX9_fund_1 12 rfl rfl)
theorem dX9_fund_38 : decode cX9_fund 38 = .ok (.dup2, 1) := dk_92 (dk_at dksX9_fund_1 15 rfl rfl)
theorem dX9_fund_39 : decode cX9_fund 39 = .ok (.iaload, 1) := dk_46 (dk_at dksX9_fund_1 16 rfl rfl)
theorem dX9_fund_40 : decode cX9_fund 40 = .ok (.iload_n 1, 1) := dk_27 (dk_at dksX9_fund_1 17 rfl rfl)
theorem dX9_fund_41 : decode cX9_fund 41 = .ok (.iadd, 1) := dk_96 (dk_at dksX9_fund_1 18 rfl rfl)
theorem dX9_fund_42 : decode cX9_fund 42 = .ok (.iastore, 1) := dk_79 (dk_at dksX9_fund_1 19 rfl rfl)
theorem dX9_fund_43 : decode cX9_fund 43 = .ok (.aload_n 0, 1) := dk_42 (dk_at dksX9_fund_1 20 rfl rfl)
theorem dX9_fund_44 : decode cX9_fund 44 = .ok (.getfield 9, 3) := dk_180 0 9 (dk_at dksX9_fund_1 21 rfl rfl)
theorem dX9_fund_47 : decode cX9_fund 47 = .ok (.sipush 2123, 3) := dk_17 8 75 (dk_at dksX9_fund_2 0 rfl rfl)
theorem dX9_fund_50 : decode cX9_fund 50 = .ok (.iaload, 1) := dk_46 (dk_at dksX9_fund_2 3 rfl rfl)
theorem dX9_fund_51 : decode cX9_fund 51 = .ok (.ireturn, 1) := dk_172 (dk_at dksX9_fund_2 4 rfl rfl)
def dkwX9_bill_5 : List UInt8 := [17, 8, 78, 46, 4, 100, 172]
abbrev dktX9_bill_5 : List UInt8 := dkwX9_bill_5 ++ []
def dkwX9_bill_4 : List UInt8 := [17, 8, 70, 92, 46, 27, 96, 79, 42, 180, 0, 9, 17, 8, 78, 92, 46, 4, 96, 79, 42, 180, 0, 9]
abbrev dktX9_bill_4 : List UInt8 := dkwX9_bill_4 ++ dktX9_bill_5
def dkwX9_bill_3 : List UInt8 := [42, 180, 0, 9, 28, 6, 96, 42, 180, 0, 9, 17, 8, 68, 46, 16, 34, 96, 79, 42, 180, 0, 9]
abbrev dktX9_bill_3 : List UInt8 := dkwX9_bill_3 ++ dktX9_bill_4
def dkwX9_bill_2 : List UInt8 := [17, 6, 104, 7, 42, 180, 0, 9, 17, 8, 78, 46, 104, 96, 61, 42, 180, 0, 9, 28, 3, 96, 27, 79]
abbrev dktX9_bill_2 : List UInt8 := dkwX9_bill_2 ++ dktX9_bill_3
def dkwX9_bill_1 : List UInt8 := [182, 0, 84, 153, 0, 5, 3, 172, 42, 180, 0, 9, 17, 8, 78, 46, 16, 20, 160, 0, 5, 2, 172]
abbrev dktX9_bill_1 : List UInt8 := dkwX9_bill_1 ++ dktX9_bill_2
def dkwX9_bill_0 : List UInt8 := [42, 3, 181, 0, 73, 42, 27, 4, 161, 0, 10, 27, 17, 39, 16, 164, 0, 7, 4, 167, 0, 4, 3, 4]
abbrev dktX9_bill_0 : List UInt8 := dkwX9_bill_0 ++ dktX9_bill_1
theorem dksX9_bill_0 : cX9_bill.data.toList.drop 0 = dktX9_bill_0 := by decide +kernel
theorem dksX9_bill_1 : cX9_bill.data.toList.drop 24 = dktX9_bill_1 := dk_seg dksX9_bill_0 24 rfl rfl
theorem dksX9_bill_2 : cX9_bill.data.toList.drop 47 = dktX9_bill_2 := dk_seg dksX9_bill_1 23 rfl rfl
theorem dksX9_bill_3 : cX9_bill.data.toList.drop 71 = dktX9_bill_3 := dk_seg dksX9_bill_2 24 rfl rfl
theorem dksX9_bill_4 : cX9_bill.data.toList.drop 94 = dktX9_bill_4 := dk_seg dksX9_bill_3 23 rfl rfl
theorem dksX9_bill_5 : cX9_bill.data.toList.drop 118 = dktX9_bill_5 := dk_seg dksX9_bill_4 24 rfl rfl
theorem dX9_bill_0 : decode cX9_bill 0 = .ok (.aload_n 0, 1) := dk_42 (dk_at dksX9_bill_0 0 rfl rfl)
theorem dX9_bill_1 : decode cX9_bill 1 = .ok (.iconst 0, 1) := dk_3 (dk_at dksX9_bill_0 1 rfl rfl)
theorem dX9_bill_2 : decode cX9_bill 2 = .ok (.putfield 73, 3) := dk_181 0 73 (dk_at dksX9_bill_0 2 rfl rfl)
theorem dX9_bill_5 : decode cX9_bill 5 = .ok (.aload_n 0, 1) := dk_42 (dk_at dksX9_bill_0 5 rfl rfl)
theorem dX9_bill_6 : decode cX9_bill 6 = .ok (.iload_n 1, 1) := dk_27 (dk_at dksX9_bill_0 6 rfl rfl)
theorem dX9_bill_7 : decode cX9_bill 7 = .ok (.iconst 1, 1) := dk_4 (dk_at dksX9_bill_0 7 rfl rfl)
theorem dX9_bill_8 : decode cX9_bill 8 = .ok (.if_icmp .lt 10, 3) := dk_161 0 10 (dk_at dksX9_bill_0 8 rfl rfl)
theorem dX9_bill_11 : decode cX9_bill 11 = .ok (.iload_n 1, 1) := dk_27 (dk_at dksX9_bill_0 11 rfl rfl)
theorem dX9_bill_12 : decode cX9_bill 12 = .ok (.sipush 10000, 3) := dk_17 39 16 (dk_at dksX9_bill_0 12 rfl rfl)
theorem dX9_bill_15 : decode cX9_bill 15 = .ok (.if_icmp .le 7, 3) := dk_164 0 7 (dk_at dksX9_bill_0 15 rfl rfl)
theorem dX9_bill_18 : decode cX9_bill 18 = .ok (.iconst 1, 1) := dk_4 (dk_at dksX9_bill_0 18 rfl rfl)
theorem dX9_bill_19 : decode cX9_bill 19 = .ok (.goto 4, 3) := dk_167 0 4 (dk_at dksX9_bill_0 19 rfl rfl)
theorem dX9_bill_22 : decode cX9_bill 22 = .ok (.iconst 0, 1) := dk_3 (dk_at dksX9_bill_0 22 rfl rfl)
theorem dX9_bill_23 : decode cX9_bill 23 = .ok (.iconst 1, 1) := dk_4 (dk_at dksX9_bill_0 23 rfl rfl)
theorem dX9_bill_24 : decode cX9_bill 24 = .ok (.invokevirtual 84, 3) := dk_182 0 84 (dk_at dksX9_bill_1 0 rfl rfl)
theorem dX9_bill_27 : decode cX9_bill 27 = .ok (.ifCond .eq 5, 3) := dk_153 0 5 (dk_at dksX9_bill_1 3 rfl rfl)
theorem dX9_bill_30 : decode cX9_bill 30 = .ok (.iconst 0, 1) := dk_3 (dk_at dksX9_bill_1 6 rfl rfl)
theorem dX9_bill_31 : decode cX9_bill 31 = .ok (.ireturn, 1) := dk_172 (dk_at dksX9_bill_1 7 rfl rfl)
theorem dX9_bill_32 : decode cX9_bill 32 = .ok (.aload_n 0, 1) := dk_42 (dk_at dksX9_bill_1 8 rfl rfl)
theorem dX9_bill_33 : decode cX9_bill 33 = .ok (.getfield 9, 3) := dk_180 0 9 (dk_at dksX9_bill_1 9 rfl rfl)
theorem dX9_bill_36 : decode cX9_bill 36 = .ok (.sipush 2126, 3) := dk_17 8 78 (dk_at dksX9_bill_1 12 rfl rfl)
theorem dX9_bill_39 : decode cX9_bill 39 = .ok (.iaload, 1) := dk_46 (dk_at dksX9_bill_1 15 rfl rfl)
theorem dX9_bill_40 : decode cX9_bill 40 = .ok (.bipush 20, 2) := dk_16 20 (dk_at dksX9_bill_1 16 rfl rfl)
theorem dX9_bill_42 : decode cX9_bill 42 = .ok (.if_icmp .ne 5, 3) := dk_160 0 5 (dk_at dksX9_bill_1 18 rfl rfl)
theorem dX9_bill_45 : decode cX9_bill 45 = .ok (.iconst (-1), 1) := dk_2 (dk_at dksX9_bill_1 21 rfl rfl)
theorem dX9_bill_46 : decode cX9_bill 46 = .ok (.ireturn, 1) := dk_172 (dk_at dksX9_bill_1 22 rfl rfl)
theorem dX9_bill_47 : decode cX9_bill 47 = .ok (.sipush 1640, 3) := dk_17 6 104 (dk_at dksX9_bill_2 0 rfl rfl)
theorem dX9_bill_50 : decode cX9_bill 50 = .ok (.iconst 4, 1) := dk_7 (dk_at dksX9_bill_2 3 rfl rfl)
theorem dX9_bill_51 : decode cX9_bill 51 = .ok (.aload_n 0, 1) := dk_42 (dk_at dksX9_bill_2 4 rfl rfl)
theorem dX9_bill_52 : decode cX9_bill 52 = .ok (.getfield 9, 3) := dk_180 0 9 (dk_at dksX9_bill_2 5 rfl rfl)
theorem dX9_bill_55 : decode cX9_bill 55 = .ok (.sipush 2126, 3) := dk_17 8 78 (dk_at dksX9_bill_2 8 rfl rfl)
theorem dX9_bill_58 : decode cX9_bill 58 = .ok (.iaload, 1) := dk_46 (dk_at dksX9_bill_2 11 rfl rfl)
theorem dX9_bill_59 : decode cX9_bill 59 = .ok (.imul, 1) := dk_104 (dk_at dksX9_bill_2 12 rfl rfl)
theorem dX9_bill_60 : decode cX9_bill 60 = .ok (.iadd, 1) := dk_96 (dk_at dksX9_bill_2 13 rfl rfl)
theorem dX9_bill_61 : decode cX9_bill 61 = .ok (.istore_n 2, 1) := dk_61 (dk_at dksX9_bill_2 14 rfl rfl)
theorem dX9_bill_62 : decode cX9_bill 62 = .ok (.aload_n 0, 1) := dk_42 (dk_at dksX9_bill_2 15 rfl rfl)
theorem dX9_bill_63 : decode cX9_bill 63 = .ok (.getfield 9, 3) := dk_180 0 9 (dk_at dksX9_bill_2 16 rfl rfl)
theorem dX9_bill_66 : decode cX9_bill 66 = .ok (.iload_n 2, 1) := dk_28 (dk_at dksX9_bill_2 19 rfl rfl)
theorem dX9_bill_67 : decode cX9_bill 67 = .ok (.iconst 0, 1) := dk_3 (dk_at dksX9_bill_2 20 rfl rfl)
theorem dX9_bill_68 : decode cX9_bill 68 = .ok (.iadd, 1) := dk_96 (dk_at dksX9_bill_2 21 rfl rfl)
theorem dX9_bill_69 : decode cX9_bill 69 = .ok (.iload_n 1, 1) := dk_27 (dk_at dksX9_bill_2 22 rfl rfl)
theorem dX9_bill_70 : decode cX9_bill 70 = .ok (.iastore, 1) := dk_79 (dk_at dksX9_bill_2 23 rfl rfl)
theorem dX9_bill_71 : decode cX9_bill 71 = .ok (.aload_n 0, 1) := dk_42 (dk_at dksX9_bill_3 0 rfl rfl)
theorem dX9_bill_72 : decode cX9_bill 72 = .ok (.getfield 9, 3) := dk_180 0 9 (dk_at dksX9_bill_3 1 rfl rfl)
theorem dX9_bill_75 : decode cX9_bill 75 = .ok (.iload_n 2, 1) := dk_28 (dk_at dksX9_bill_3 4 rfl rfl)
theorem dX9_bill_76 : decode cX9_bill 76 = .ok (.iconst 3, 1) := dk_6 (dk_at dksX9_bill_3 5 rfl rfl)
theorem dX9_bill_77 : decode cX9_bill 77 = .ok (.iadd, 1) := dk_96 (dk_at dksX9_bill_3 6 rfl rfl)
theorem dX9_bill_78 : decode cX9_bill 78 = .ok (.aload_n 0, 1) := dk_42 (dk_at dksX9_bill_3 7 rfl rfl)
theorem dX9_bill_79 : decode cX9_bill 79 = .ok (.getfield 9, 3) := dk_180 0 9 (dk_at dksX9_bill_3 8 rfl rfl)
theorem dX9_bill_82 : decode cX9_bill 82 = .ok (.sipush 2116, 3) := dk_17 8 68 (dk_at dksX9_bill_3 11 rfl rfl)
theorem dX9_bill_85 : decode cX9_bill 85 = .ok (.iaload, 1) := dk_46 (dk_at dksX9_bill_3 14 rfl rfl)
theorem dX9_bill_86 : decode cX9_bill 86 = .ok (.bipush 34, 2) := dk_16 34 (dk_at dksX9_bill_3 15 rfl rfl)
theorem dX9_bill_88 : decode cX9_bill 88 = .ok (.iadd, 1) := dk_96 (dk_at dksX9_bill_3 17 rfl rfl)
theorem dX9_bill_89 : decode cX9_bill 89 = .ok (.iastore, 1) := dk_79 (dk_at dksX9_bill_3 18 rfl rfl)
theorem dX9_bill_90 : decode cX9_bill 90 = .ok (.aload_n 0, 1) := dk_42 (dk_at dksX9_bill_3 19 rfl rfl)
theorem dX9_bill_91 : decode cX9_bill 91 = .ok (.getfield 9, 3) := dk_180 0 9 (dk_at dksX9_bill_3 20 rfl rfl)
theorem dX9_bill_94 : decode cX9_bill 94 = .ok (.sipush 2118, 3) := dk_17 8 70 (dk_at dksX9_bill_4 0 rfl rfl)
theorem dX9_bill_97 : decode cX9_bill 97 = .ok (.dup2, 1) := dk_92 (dk_at dksX9_bill_4 3 rfl rfl)
theorem dX9_bill_98 : decode cX9_bill 98 = .ok (.iaload, 1) := dk_46 (dk_at dksX9_bill_4 4 rfl rfl)
theorem dX9_bill_99 : decode cX9_bill 99 = .ok (.iload_n 1, 1) := dk_27 (dk_at dksX9_bill_4 5 rfl rfl)
theorem dX9_bill_100 : decode cX9_bill 100 = .ok (.iadd, 1) := dk_96 (dk_at dksX9_bill_4 6 rfl rfl)
theorem dX9_bill_101 : decode cX9_bill 101 = .ok (.iastore, 1) := dk_79 (dk_at dksX9_bill_4 7 rfl rfl)
theorem dX9_bill_102 : decode cX9_bill 102 = .ok (.aload_n 0, 1) := dk_42 (dk_at dksX9_bill_4 8 rfl rfl)
theorem dX9_bill_103 : decode cX9_bill 103 = .ok (.getfield 9, 3) := dk_180 0 9 (dk_at dksX9_bill_4 9 rfl rfl)
theorem dX9_bill_106 : decode cX9_bill 106 = .ok (.sipush 2126, 3) := dk_17 8 78 (dk_at dksX9_bill_4 12 rfl rfl)
theorem dX9_bill_109 : decode cX9_bill 109 = .ok (.dup2, 1) := dk_92 (dk_at dksX9_bill_4 15 rfl rfl)
theorem dX9_bill_110 : decode cX9_bill 110 = .ok (.iaload, 1) := dk_46 (dk_at dksX9_bill_4 16 rfl rfl)
theorem dX9_bill_111 : decode cX9_bill 111 = .ok (.iconst 1, 1) := dk_4 (dk_at dksX9_bill_4 17 rfl rfl)
theorem dX9_bill_112 : decode cX9_bill 112 = .ok (.iadd, 1) := dk_96 (dk_at dksX9_bill_4 18 rfl rfl)
theorem dX9_bill_113 : decode cX9_bill 113 = .ok (.iastore, 1) := dk_79 (dk_at dksX9_bill_4 19 rfl rfl)
theorem dX9_bill_114 : decode cX9_bill 114 = .ok (.aload_n 0, 1) := dk_42 (dk_at dksX9_bill_4 20 rfl rfl)
theorem dX9_bill_115 : decode cX9_bill 115 = .ok (.getfield 9, 3) := dk_180 0 9 (dk_at dksX9_bill_4 21 rfl rfl)
theorem dX9_bill_118 : decode cX9_bill 118 = .ok (.sipush 2126, 3) := dk_17 8 78 (dk_at dksX9_bill_5 0 rfl rfl)
theorem dX9_bill_121 : decode cX9_bill 121 = .ok (.iaload, 1) := dk_46 (dk_at dksX9_bill_5 3 rfl rfl)
theorem dX9_bill_122 : decode cX9_bill 122 = .ok (.iconst 1, 1) := dk_4 (dk_at dksX9_bill_5 4 rfl rfl)
theorem dX9_bill_123 : decode cX9_bill 123 = .ok (.isub, 1) := dk_100 (dk_at dksX9_bill_5 5 rfl rfl)
theorem dX9_bill_124 : decode cX9_bill 124 = .ok (.ireturn, 1) := dk_172 (dk_at dksX9_bill_5 6 rfl rfl)
def dkwX9_pass_3 : List UInt8 := [4, 96, 92, 46, 4, 96, 79, 42, 180, 0, 9, 28, 4, 96, 46, 172]
abbrev dktX9_pass_3 : List UInt8 := dkwX9_pass_3 ++ []
def dkwX9_pass_2 : List UInt8 := [160, 0, 5, 2, 172, 42, 180, 0, 9, 28, 5, 96, 46, 158, 0, 6, 16, 254, 172, 42, 180, 0, 9, 28]
abbrev dktX9_pass_2 : List UInt8 := dkwX9_pass_2 ++ dktX9_pass_3
def dkwX9_pass_1 : List UInt8 := [153, 0, 5, 3, 172, 17, 6, 104, 7, 27, 104, 96, 61, 42, 180, 0, 9, 28, 4, 96, 46, 8]
abbrev dktX9_pass_1 : List UInt8 := dkwX9_pass_1 ++ dktX9_pass_2
def dkwX9_pass_0 : List UInt8 := [42, 3, 181, 0, 73, 42, 42, 27, 182, 1, 134, 154, 0, 7, 4, 167, 0, 4, 3, 4, 182, 0, 84]
abbrev dktX9_pass_0 : List UInt8 := dkwX9_pass_0 ++ dktX9_pass_1
theorem dksX9_pass_0 : cX9_pass.data.toList.drop 0 = dktX9_pass_0 := by decide +kernel
theorem dksX9_pass_1 : cX9_pass.data.toList.drop 23 = dktX9_pass_1 := dk_seg dksX9_pass_0 23 rfl rfl
theorem dksX9_pass_2 : cX9_pass.data.toList.drop 45 = dktX9_pass_2 := dk_seg dksX9_pass_1 22 rfl rfl
theorem dksX9_pass_3 : cX9_pass.data.toList.drop 69 = dktX9_pass_3 := dk_seg dksX9_pass_2 24 rfl rfl
theorem dX9_pass_0 : decode cX9_pass 0 = .ok (.aload_n 0, 1) := dk_42 (dk_at dksX9_pass_0 0 rfl rfl)
theorem dX9_pass_1 : decode cX9_pass 1 = .ok (.iconst 0, 1) := dk_3 (dk_at dksX9_pass_0 1 rfl rfl)
theorem dX9_pass_2 : decode cX9_pass 2 = .ok (.putfield 73, 3) := dk_181 0 73 (dk_at dksX9_pass_0 2 rfl rfl)
theorem dX9_pass_5 : decode cX9_pass 5 = .ok (.aload_n 0, 1) := dk_42 (dk_at dksX9_pass_0 5 rfl rfl)
theorem dX9_pass_6 : decode cX9_pass 6 = .ok (.aload_n 0, 1) := dk_42 (dk_at dksX9_pass_0 6 rfl rfl)
theorem dX9_pass_7 : decode cX9_pass 7 = .ok (.iload_n 1, 1) := dk_27 (dk_at dksX9_pass_0 7 rfl rfl)
theorem dX9_pass_8 : decode cX9_pass 8 = .ok (.invokevirtual 390, 3) := dk_182 1 134 (dk_at dksX9_pass_0 8 rfl rfl)
theorem dX9_pass_11 : decode cX9_pass 11 = .ok (.ifCond .ne 7, 3) := dk_154 0 7 (dk_at dksX9_pass_0 11 rfl rfl)
theorem dX9_pass_14 : decode cX9_pass 14 = .ok (.iconst 1, 1) := dk_4 (dk_at dksX9_pass_0 14 rfl rfl)
theorem dX9_pass_15 : decode cX9_pass 15 = .ok (.goto 4, 3) := dk_167 0 4 (dk_at dksX9_pass_0 15 rfl rfl)
theorem dX9_pass_18 : decode cX9_pass 18 = .ok (.iconst 0, 1) := dk_3 (dk_at dksX9_pass_0 18 rfl rfl)
theorem dX9_pass_19 : decode cX9_pass 19 = .ok (.iconst 1, 1) := dk_4 (dk_at dksX9_pass_0 19 rfl rfl)
theorem dX9_pass_20 : decode cX9_pass 20 = .ok (.invokevirtual 84, 3) := dk_182 0 84 (dk_at dksX9_pass_0 20 rfl rfl)
theorem dX9_pass_23 : decode cX9_pass 23 = .ok (.ifCond .eq 5, 3) := dk_153 0 5 (dk_at dksX9_pass_1 0 rfl rfl)
theorem dX9_pass_26 : decode cX9_pass 26 = .ok (.iconst 0, 1) := dk_3 (dk_at dksX9_pass_1 3 rfl rfl)
theorem dX9_pass_27 : decode cX9_pass 27 = .ok (.ireturn, 1) := dk_172 (dk_at dksX9_pass_1 4 rfl rfl)
theorem dX9_pass_28 : decode cX9_pass 28 = .ok (.sipush 1640, 3) := dk_17 6 104 (dk_at dksX9_pass_1 5 rfl rfl)
theorem dX9_pass_31 : decode cX9_pass 31 = .ok (.iconst 4, 1) := dk_7 (dk_at dksX9_pass_1 8 rfl rfl)
theorem dX9_pass_32 : decode cX9_pass 32 = .ok (.iload_n 1, 1) := dk_27 (dk_at dksX9_pass_1 9 rfl rfl)
theorem dX9_pass_33 : decode cX9_pass 33 = .ok (.imul, 1) := dk_104 (dk_at dksX9_pass_1 10 rfl rfl)
theorem dX9_pass_34 : decode cX9_pass 34 = .ok (.iadd, 1) := dk_96 (dk_at dksX9_pass_1 11 rfl rfl)
theorem dX9_pass_35 : decode cX9_pass 35 = .ok (.istore_n 2, 1) := dk_61 (dk_at dksX9_pass_1 12 rfl rfl)
theorem dX9_pass_36 : decode cX9_pass 36 = .ok (.aload_n 0, 1) := dk_42 (dk_at dksX9_pass_1 13 rfl rfl)
theorem dX9_pass_37 : decode cX9_pass 37 = .ok (.getfield 9, 3) := dk_180 0 9 (dk_at dksX9_pass_1 14 rfl rfl)
theorem dX9_pass_40 : decode cX9_pass 40 = .ok (.iload_n 2, 1) := dk_28 (dk_at dksX9_pass_1 17 rfl rfl)
theorem dX9_pass_41 : decode cX9_pass 41 = .ok (.iconst 1, 1) := dk_4 (dk_at dksX9_pass_1 18 rfl rfl)
theorem dX9_pass_42 : decode cX9_pass 42 = .ok (.iadd, 1) := dk_96 (dk_at dksX9_pass_1 19 rfl rfl)
theorem dX9_pass_43 : decode cX9_pass 43 = .ok (.iaload, 1) := dk_46 (dk_at dksX9_pass_1 20 rfl rfl)
theorem dX9_pass_44 : decode cX9_pass 44 = .ok (.iconst 5, 1) := dk_8 (dk_at dksX9_pass_1 21 rfl rfl)
theorem dX9_pass_45 : decode cX9_pass 45 = .ok (.if_icmp .ne 5, 3) := dk_160 0 5 (dk_at dksX9_pass_2 0 rfl rfl)
theorem dX9_pass_48 : decode cX9_pass 48 = .ok (.iconst (-1), 1) := dk_2 (dk_at dksX9_pass_2 3 rfl rfl)
theorem dX9_pass_49 : decode cX9_pass 49 = .ok (.ireturn, 1) := dk_172 (dk_at dksX9_pass_2 4 rfl rfl)
theorem dX9_pass_50 : decode cX9_pass 50 = .ok (.aload_n 0, 1) := dk_42 (dk_at dksX9_pass_2 5 rfl rfl)
theorem dX9_pass_51 : decode cX9_pass 51 = .ok (.getfield 9, 3) := dk_180 0 9 (dk_at dksX9_pass_2 6 rfl rfl)
theorem dX9_pass_54 : decode cX9_pass 54 = .ok (.iload_n 2, 1) := dk_28 (dk_at dksX9_pass_2 9 rfl rfl)
theorem dX9_pass_55 : decode cX9_pass 55 = .ok (.iconst 2, 1) := dk_5 (dk_at dksX9_pass_2 10 rfl rfl)
theorem dX9_pass_56 : decode cX9_pass 56 = .ok (.iadd, 1) := dk_96 (dk_at dksX9_pass_2 11 rfl rfl)
theorem dX9_pass_57 : decode cX9_pass 57 = .ok (.iaload, 1) := dk_46 (dk_at dksX9_pass_2 12 rfl rfl)
theorem dX9_pass_58 : decode cX9_pass 58 = .ok (.ifCond .le 6, 3) := dk_158 0 6 (dk_at dksX9_pass_2 13 rfl rfl)
theorem dX9_pass_61 : decode cX9_pass 61 = .ok (.bipush (-2), 2) := dk_16 254 (dk_at dksX9_pass_2 16 rfl rfl)
theorem dX9_pass_63 : decode cX9_pass 63 = .ok (.ireturn, 1) := dk_172 (dk_at dksX9_pass_2 18 rfl rfl)
theorem dX9_pass_64 : decode cX9_pass 64 = .ok (.aload_n 0, 1) := dk_42 (dk_at dksX9_pass_2 19 rfl rfl)
theorem dX9_pass_65 : decode cX9_pass 65 = .ok (.getfield 9, 3) := dk_180 0 9 (dk_at dksX9_pass_2 20 rfl rfl)
theorem dX9_pass_68 : decode cX9_pass 68 = .ok (.iload_n 2, 1) := dk_28 (dk_at dksX9_pass_2 23 rfl rfl)
theorem dX9_pass_69 : decode cX9_pass 69 = .ok (.iconst 1, 1) := dk_4 (dk_at dksX9_pass_3 0 rfl rfl)
theorem dX9_pass_70 : decode cX9_pass 70 = .ok (.iadd, 1) := dk_96 (dk_at dksX9_pass_3 1 rfl rfl)
theorem dX9_pass_71 : decode cX9_pass 71 = .ok (.dup2, 1) := dk_92 (dk_at dksX9_pass_3 2 rfl rfl)
theorem dX9_pass_72 : decode cX9_pass 72 = .ok (.iaload, 1) := dk_46 (dk_at dksX9_pass_3 3 rfl rfl)
theorem dX9_pass_73 : decode cX9_pass 73 = .ok (.iconst 1, 1) := dk_4 (dk_at dksX9_pass_3 4 rfl rfl)
theorem dX9_pass_74 : decode cX9_pass 74 = .ok (.iadd, 1) := dk_96 (dk_at dksX9_pass_3 5 rfl rfl)
theorem dX9_pass_75 : decode cX9_pass 75 = .ok (.iastore, 1) := dk_79 (dk_at dksX9_pass_3 6 rfl rfl)
theorem dX9_pass_76 : decode cX9_pass 76 = .ok (.aload_n 0, 1) := dk_42 (dk_at dksX9_pass_3 7 rfl rfl)
theorem dX9_pass_77 : decode cX9_pass 77 = .ok (.getfield 9, 3) := dk_180 0 9 (dk_at dksX9_pass_3 8 rfl rfl)
theorem dX9_pass_80 : decode cX9_pass 80 = .ok (.iload_n 2, 1) := dk_28 (dk_at dksX9_pass_3 11 rfl rfl)
theorem dX9_pass_81 : decode cX9_pass 81 = .ok (.iconst 1, 1) := dk_4 (dk_at dksX9_pass_3 12 rfl rfl)
theorem dX9_pass_82 : decode cX9_pass 82 = .ok (.iadd, 1) := dk_96 (dk_at dksX9_pass_3 13 rfl rfl)
theorem dX9_pass_83 : decode cX9_pass 83 = .ok (.iaload, 1) := dk_46 (dk_at dksX9_pass_3 14 rfl rfl)
theorem dX9_pass_84 : decode cX9_pass 84 = .ok (.ireturn, 1) := dk_172 (dk_at dksX9_pass_3 15 rfl rfl)
def dkwX9_isBill_0 : List UInt8 := [27, 155, 0, 19, 27, 42, 180, 0, 9, 17, 8, 78, 46, 162, 0, 7, 4, 167, 0, 4, 3, 172]
abbrev dktX9_isBill_0 : List UInt8 := dkwX9_isBill_0 ++ []
theorem dksX9_isBill_0 : cX9_isBill.data.toList.drop 0 = dktX9_isBill_0 := by decide +kernel
theorem dX9_isBill_0 : decode cX9_isBill 0 = .ok (.iload_n 1, 1) := dk_27 (dk_at dksX9_isBill_0 0 rfl rfl)
theorem dX9_isBill_1 : decode cX9_isBill 1 = .ok (.ifCond .lt 19, 3) := dk_155 0 19 (dk_at dksX9_isBill_0 1 rfl rfl)
theorem dX9_isBill_4 : decode cX9_isBill 4 = .ok (.iload_n 1, 1) := dk_27 (dk_at dksX9_isBill_0 4 rfl rfl)
theorem dX9_isBill_5 : decode cX9_isBill 5 = .ok (.aload_n 0, 1) := dk_42 (dk_at dksX9_isBill_0 5 rfl rfl)
theorem dX9_isBill_6 : decode cX9_isBill 6 = .ok (.getfield 9, 3) := dk_180 0 9 (dk_at dksX9_isBill_0 6 rfl rfl)
theorem dX9_isBill_9 : decode cX9_isBill 9 = .ok (.sipush 2126, 3) := dk_17 8 78 (dk_at dksX9_isBill_0 9 rfl rfl)
theorem dX9_isBill_12 : decode cX9_isBill 12 = .ok (.iaload, 1) := dk_46 (dk_at dksX9_isBill_0 12 rfl rfl)
theorem dX9_isBill_13 : decode cX9_isBill 13 = .ok (.if_icmp .ge 7, 3) := dk_162 0 7 (dk_at dksX9_isBill_0 13 rfl rfl)
theorem dX9_isBill_16 : decode cX9_isBill 16 = .ok (.iconst 1, 1) := dk_4 (dk_at dksX9_isBill_0 16 rfl rfl)
theorem dX9_isBill_17 : decode cX9_isBill 17 = .ok (.goto 4, 3) := dk_167 0 4 (dk_at dksX9_isBill_0 17 rfl rfl)
theorem dX9_isBill_20 : decode cX9_isBill 20 = .ok (.iconst 0, 1) := dk_3 (dk_at dksX9_isBill_0 20 rfl rfl)
theorem dX9_isBill_21 : decode cX9_isBill 21 = .ok (.ireturn, 1) := dk_172 (dk_at dksX9_isBill_0 21 rfl rfl)
def dkwX9_billed_1 : List UInt8 := [153, 0, 7, 3, 167, 0, 17, 42, 180, 0, 9, 17, 6, 104, 7, 27, 104, 96, 5, 96, 46, 172]
abbrev dktX9_billed_1 : List UInt8 := dkwX9_billed_1 ++ []
def dkwX9_billed_0 : List UInt8 := [42, 3, 181, 0, 73, 42, 42, 27, 182, 1, 134, 154, 0, 7, 4, 167, 0, 4, 3, 4, 182, 0, 84]
abbrev dktX9_billed_0 : List UInt8 := dkwX9_billed_0 ++ dktX9_billed_1
theorem dksX9_billed_0 : cX9_billed.data.toList.drop 0 = dktX9_billed_0 := by decide +kernel
theorem dksX9_billed_1 : cX9_billed.data.toList.drop 23 = dktX9_billed_1 := dk_seg dksX9_billed_0 23 rfl rfl
theorem dX9_billed_0 : decode cX9_billed 0 = .ok (.aload_n 0, 1) := dk_42 (dk_at dksX9_billed_0 0 rfl rfl)
theorem dX9_billed_1 : decode cX9_billed 1 = .ok (.iconst 0, 1) := dk_3 (dk_at dksX9_billed_0 1 rfl rfl)
theorem dX9_billed_2 : decode cX9_billed 2 = .ok (.putfield 73, 3) := dk_181 0 73 (dk_at dksX9_billed_0 2 rfl rfl)
theorem dX9_billed_5 : decode cX9_billed 5 = .ok (.aload_n 0, 1) := dk_42 (dk_at dksX9_billed_0 5 rfl rfl)
theorem dX9_billed_6 : decode cX9_billed 6 = .ok (.aload_n 0, 1) := dk_42 (dk_at dksX9_billed_0 6 rfl rfl)
theorem dX9_billed_7 : decode cX9_billed 7 = .ok (.iload_n 1, 1) := dk_27 (dk_at dksX9_billed_0 7 rfl rfl)
theorem dX9_billed_8 : decode cX9_billed 8 = .ok (.invokevirtual 390, 3) := dk_182 1 134 (dk_at dksX9_billed_0 8 rfl rfl)
theorem dX9_billed_11 : decode cX9_billed 11 = .ok (.ifCond .ne 7, 3) := dk_154 0 7 (dk_at dksX9_billed_0 11 rfl rfl)
theorem dX9_billed_14 : decode cX9_billed 14 = .ok (.iconst 1, 1) := dk_4 (dk_at dksX9_billed_0 14 rfl rfl)
theorem dX9_billed_15 : decode cX9_billed 15 = .ok (.goto 4, 3) := dk_167 0 4 (dk_at dksX9_billed_0 15 rfl rfl)
theorem dX9_billed_18 : decode cX9_billed 18 = .ok (.iconst 0, 1) := dk_3 (dk_at dksX9_billed_0 18 rfl rfl)
theorem dX9_billed_19 : decode cX9_billed 19 = .ok (.iconst 1, 1) := dk_4 (dk_at dksX9_billed_0 19 rfl rfl)
theorem dX9_billed_20 : decode cX9_billed 20 = .ok (.invokevirtual 84, 3) := dk_182 0 84 (dk_at dksX9_billed_0 20 rfl rfl)
theorem dX9_billed_23 : decode cX9_billed 23 = .ok (.ifCond .eq 7, 3) := dk_153 0 7 (dk_at dksX9_billed_1 0 rfl rfl)
theorem dX9_billed_26 : decode cX9_billed 26 = .ok (.iconst 0, 1) := dk_3 (dk_at dksX9_billed_1 3 rfl rfl)
theorem dX9_billed_27 : decode cX9_billed 27 = .ok (.goto 17, 3) := dk_167 0 17 (dk_at dksX9_billed_1 4 rfl rfl)
theorem dX9_billed_30 : decode cX9_billed 30 = .ok (.aload_n 0, 1) := dk_42 (dk_at dksX9_billed_1 7 rfl rfl)
theorem dX9_billed_31 : decode cX9_billed 31 = .ok (.getfield 9, 3) := dk_180 0 9 (dk_at dksX9_billed_1 8 rfl rfl)
theorem dX9_billed_34 : decode cX9_billed 34 = .ok (.sipush 1640, 3) := dk_17 6 104 (dk_at dksX9_billed_1 11 rfl rfl)
theorem dX9_billed_37 : decode cX9_billed 37 = .ok (.iconst 4, 1) := dk_7 (dk_at dksX9_billed_1 14 rfl rfl)
theorem dX9_billed_38 : decode cX9_billed 38 = .ok (.iload_n 1, 1) := dk_27 (dk_at dksX9_billed_1 15 rfl rfl)
theorem dX9_billed_39 : decode cX9_billed 39 = .ok (.imul, 1) := dk_104 (dk_at dksX9_billed_1 16 rfl rfl)
theorem dX9_billed_40 : decode cX9_billed 40 = .ok (.iadd, 1) := dk_96 (dk_at dksX9_billed_1 17 rfl rfl)
theorem dX9_billed_41 : decode cX9_billed 41 = .ok (.iconst 2, 1) := dk_5 (dk_at dksX9_billed_1 18 rfl rfl)
theorem dX9_billed_42 : decode cX9_billed 42 = .ok (.iadd, 1) := dk_96 (dk_at dksX9_billed_1 19 rfl rfl)
theorem dX9_billed_43 : decode cX9_billed 43 = .ok (.iaload, 1) := dk_46 (dk_at dksX9_billed_1 20 rfl rfl)
theorem dX9_billed_44 : decode cX9_billed 44 = .ok (.ireturn, 1) := dk_172 (dk_at dksX9_billed_1 21 rfl rfl)
def dkwX9_week_3 : List UInt8 := [132, 2, 1, 167, 255, 244, 42, 180, 0, 9, 17, 8, 68, 46, 172]
abbrev dktX9_week_3 : List UInt8 := dkwX9_week_3 ++ []
def dkwX9_week_2 : List UInt8 := [167, 0, 4, 3, 5, 182, 0, 84, 153, 0, 5, 3, 172, 3, 61, 28, 27, 162, 0, 13, 42, 182, 1, 170]
abbrev dktX9_week_2 : List UInt8 := dkwX9_week_2 ++ dktX9_week_3
def dkwX9_week_1 : List UInt8 := [182, 0, 84, 154, 0, 32, 42, 42, 180, 0, 9, 17, 8, 68, 46, 27, 96, 17, 3, 232, 164, 0, 7, 4]
abbrev dktX9_week_1 : List UInt8 := dkwX9_week_1 ++ dktX9_week_2
def dkwX9_week_0 : List UInt8 := [42, 3, 181, 0, 73, 42, 27, 155, 0, 9, 27, 16, 104, 164, 0, 7, 4, 167, 0, 4, 3, 4]
abbrev dktX9_week_0 : List UInt8 := dkwX9_week_0 ++ dktX9_week_1
theorem dksX9_week_0 : cX9_week.data.toList.drop 0 = dktX9_week_0 := by decide +kernel
theorem dksX9_week_1 : cX9_week.data.toList.drop 22 = dktX9_week_1 := dk_seg dksX9_week_0 22 rfl rfl
theorem dksX9_week_2 : cX9_week.data.toList.drop 46 = dktX9_week_2 := dk_seg dksX9_week_1 24 rfl rfl
theorem dksX9_week_3 : cX9_week.data.toList.drop 70 = dktX9_week_3 := dk_seg dksX9_week_2 24 rfl rfl
theorem dX9_week_0 : decode cX9_week 0 = .ok (.aload_n 0, 1) := dk_42 (dk_at dksX9_week_0 0 rfl rfl)
theorem dX9_week_1 : decode cX9_week 1 = .ok (.iconst 0, 1) := dk_3 (dk_at dksX9_week_0 1 rfl rfl)
theorem dX9_week_2 : decode cX9_week 2 = .ok (.putfield 73, 3) := dk_181 0 73 (dk_at dksX9_week_0 2 rfl rfl)
theorem dX9_week_5 : decode cX9_week 5 = .ok (.aload_n 0, 1) := dk_42 (dk_at dksX9_week_0 5 rfl rfl)
theorem dX9_week_6 : decode cX9_week 6 = .ok (.iload_n 1, 1) := dk_27 (dk_at dksX9_week_0 6 rfl rfl)
theorem dX9_week_7 : decode cX9_week 7 = .ok (.ifCond .lt 9, 3) := dk_155 0 9 (dk_at dksX9_week_0 7 rfl rfl)
theorem dX9_week_10 : decode cX9_week 10 = .ok (.iload_n 1, 1) := dk_27 (dk_at dksX9_week_0 10 rfl rfl)
theorem dX9_week_11 : decode cX9_week 11 = .ok (.bipush 104, 2) := dk_16 104 (dk_at dksX9_week_0 11 rfl rfl)
theorem dX9_week_13 : decode cX9_week 13 = .ok (.if_icmp .le 7, 3) := dk_164 0 7 (dk_at dksX9_week_0 13 rfl rfl)
theorem dX9_week_16 : decode cX9_week 16 = .ok (.iconst 1, 1) := dk_4 (dk_at dksX9_week_0 16 rfl rfl)
theorem dX9_week_17 : decode cX9_week 17 = .ok (.goto 4, 3) := dk_167 0 4 (dk_at dksX9_week_0 17 rfl rfl)
theorem dX9_week_20 : decode cX9_week 20 = .ok (.iconst 0, 1) := dk_3 (dk_at dksX9_week_0 20 rfl rfl)
theorem dX9_week_21 : decode cX9_week 21 = .ok (.iconst 1, 1) := dk_4 (dk_at dksX9_week_0 21 rfl rfl)
theorem dX9_week_22 : decode cX9_week 22 = .ok (.invokevirtual 84, 3) := dk_182 0 84 (dk_at dksX9_week_1 0 rfl rfl)
theorem dX9_week_25 : decode cX9_week 25 = .ok (.ifCond .ne 32, 3) := dk_154 0 32 (dk_at dksX9_week_1 3 rfl rfl)
theorem dX9_week_28 : decode cX9_week 28 = .ok (.aload_n 0, 1) := dk_42 (dk_at dksX9_week_1 6 rfl rfl)
theorem dX9_week_29 : decode cX9_week 29 = .ok (.aload_n 0, 1) := dk_42 (dk_at dksX9_week_1 7 rfl rfl)
theorem dX9_week_30 : decode cX9_week 30 = .ok (.getfield 9, 3) := dk_180 0 9 (dk_at dksX9_week_1 8 rfl rfl)
theorem dX9_week_33 : decode cX9_week 33 = .ok (.sipush 2116, 3) := dk_17 8 68 (dk_at dksX9_week_1 11 rfl rfl)
theorem dX9_week_36 : decode cX9_week 36 = .ok (.iaload, 1) := dk_46 (dk_at dksX9_week_1 14 rfl rfl)
theorem dX9_week_37 : decode cX9_week 37 = .ok (.iload_n 1, 1) := dk_27 (dk_at dksX9_week_1 15 rfl rfl)
theorem dX9_week_38 : decode cX9_week 38 = .ok (.iadd, 1) := dk_96 (dk_at dksX9_week_1 16 rfl rfl)
theorem dX9_week_39 : decode cX9_week 39 = .ok (.sipush 1000, 3) := dk_17 3 232 (dk_at dksX9_week_1 17 rfl rfl)
theorem dX9_week_42 : decode cX9_week 42 = .ok (.if_icmp .le 7, 3) := dk_164 0 7 (dk_at dksX9_week_1 20 rfl rfl)
theorem dX9_week_45 : decode cX9_week 45 = .ok (.iconst 1, 1) := dk_4 (dk_at dksX9_week_1 23 rfl rfl)
theorem dX9_week_46 : decode cX9_week 46 = .ok (.goto 4, 3) := dk_167 0 4 (dk_at dksX9_week_2 0 rfl rfl)
theorem dX9_week_49 : decode cX9_week 49 = .ok (.iconst 0, 1) := dk_3 (dk_at dksX9_week_2 3 rfl rfl)
theorem dX9_week_50 : decode cX9_week 50 = .ok (.iconst 2, 1) := dk_5 (dk_at dksX9_week_2 4 rfl rfl)
theorem dX9_week_51 : decode cX9_week 51 = .ok (.invokevirtual 84, 3) := dk_182 0 84 (dk_at dksX9_week_2 5 rfl rfl)
theorem dX9_week_54 : decode cX9_week 54 = .ok (.ifCond .eq 5, 3) := dk_153 0 5 (dk_at dksX9_week_2 8 rfl rfl)
theorem dX9_week_57 : decode cX9_week 57 = .ok (.iconst 0, 1) := dk_3 (dk_at dksX9_week_2 11 rfl rfl)
theorem dX9_week_58 : decode cX9_week 58 = .ok (.ireturn, 1) := dk_172 (dk_at dksX9_week_2 12 rfl rfl)
theorem dX9_week_59 : decode cX9_week 59 = .ok (.iconst 0, 1) := dk_3 (dk_at dksX9_week_2 13 rfl rfl)
theorem dX9_week_60 : decode cX9_week 60 = .ok (.istore_n 2, 1) := dk_61 (dk_at dksX9_week_2 14 rfl rfl)
theorem dX9_week_61 : decode cX9_week 61 = .ok (.iload_n 2, 1) := dk_28 (dk_at dksX9_week_2 15 rfl rfl)
theorem dX9_week_62 : decode cX9_week 62 = .ok (.iload_n 1, 1) := dk_27 (dk_at dksX9_week_2 16 rfl rfl)
theorem dX9_week_63 : decode cX9_week 63 = .ok (.if_icmp .ge 13, 3) := dk_162 0 13 (dk_at dksX9_week_2 17 rfl rfl)
theorem dX9_week_66 : decode cX9_week 66 = .ok (.aload_n 0, 1) := dk_42 (dk_at dksX9_week_2 20 rfl rfl)
theorem dX9_week_67 : decode cX9_week 67 = .ok (.invokevirtual 426, 3) := dk_182 1 170 (dk_at dksX9_week_2 21 rfl rfl)
theorem dX9_week_70 : decode cX9_week 70 = .ok (.iinc 2 1, 3) := dk_132 2 1 (dk_at dksX9_week_3 0 rfl rfl)
theorem dX9_week_73 : decode cX9_week 73 = .ok (.goto (-12), 3) := dk_167 255 244 (dk_at dksX9_week_3 3 rfl rfl)
theorem dX9_week_76 : decode cX9_week 76 = .ok (.aload_n 0, 1) := dk_42 (dk_at dksX9_week_3 6 rfl rfl)
theorem dX9_week_77 : decode cX9_week 77 = .ok (.getfield 9, 3) := dk_180 0 9 (dk_at dksX9_week_3 7 rfl rfl)
theorem dX9_week_80 : decode cX9_week 80 = .ok (.sipush 2116, 3) := dk_17 8 68 (dk_at dksX9_week_3 10 rfl rfl)
theorem dX9_week_83 : decode cX9_week 83 = .ok (.iaload, 1) := dk_46 (dk_at dksX9_week_3 13 rfl rfl)
theorem dX9_week_84 : decode cX9_week 84 = .ok (.ireturn, 1) := dk_172 (dk_at dksX9_week_3 14 rfl rfl)
def dkwX9_goes_12 : List UInt8 := [180, 0, 9, 17, 8, 68, 92, 46, 4, 96, 79, 177]
abbrev dktX9_goes_12 : List UInt8 := dkwX9_goes_12 ++ []
def dkwX9_goes_11 : List UInt8 := [42, 180, 0, 9, 17, 8, 71, 46, 79, 42, 180, 0, 61, 27, 16, 6, 96, 42, 182, 1, 70, 79, 42]
abbrev dktX9_goes_11 : List UInt8 := dkwX9_goes_11 ++ dktX9_goes_12
def dkwX9_goes_10 : List UInt8 := [79, 42, 180, 0, 61, 27, 7, 96, 42, 180, 0, 9, 17, 8, 74, 46, 79, 42, 180, 0, 61, 27, 8, 96]
abbrev dktX9_goes_10 : List UInt8 := dkwX9_goes_10 ++ dktX9_goes_11
def dkwX9_goes_9 : List UInt8 := [42, 180, 0, 9, 17, 8, 69, 46, 79, 42, 180, 0, 61, 27, 6, 96, 42, 180, 0, 9, 17, 8, 70, 46]
abbrev dktX9_goes_9 : List UInt8 := dkwX9_goes_9 ++ dktX9_goes_10
def dkwX9_goes_8 : List UInt8 := [42, 182, 1, 82, 79, 42, 180, 0, 61, 27, 4, 96, 42, 182, 1, 79, 79, 42, 180, 0, 61, 27, 5, 96]
abbrev dktX9_goes_8 : List UInt8 := dkwX9_goes_8 ++ dktX9_goes_9
def dkwX9_goes_7 : List UInt8 := [160, 0, 7, 42, 182, 1, 167, 16, 7, 42, 180, 0, 9, 17, 8, 68, 46, 104, 60, 42, 180, 0, 61, 27]
abbrev dktX9_goes_7 : List UInt8 := dkwX9_goes_7 ++ dktX9_goes_8
def dkwX9_goes_6 : List UInt8 := [2, 182, 0, 147, 132, 1, 1, 167, 255, 213, 42, 180, 0, 9, 17, 8, 68, 46, 16, 52, 112, 16, 51]
abbrev dktX9_goes_6 : List UInt8 := dkwX9_goes_6 ++ dktX9_goes_7
def dkwX9_goes_5 : List UInt8 := [7, 160, 0, 27, 42, 27, 5, 182, 0, 88, 42, 180, 0, 9, 17, 8, 68, 46, 160, 0, 10, 42, 27, 4]
abbrev dktX9_goes_5 : List UInt8 := dkwX9_goes_5 ++ dktX9_goes_6
def dkwX9_goes_4 : List UInt8 := [27, 182, 1, 164, 132, 1, 1, 167, 255, 242, 3, 60, 27, 16, 96, 162, 0, 43, 42, 27, 3, 182, 0, 88]
abbrev dktX9_goes_4 : List UInt8 := dkwX9_goes_4 ++ dktX9_goes_5
def dkwX9_goes_3 : List UInt8 := [17, 8, 68, 46, 182, 0, 94, 96, 79, 132, 1, 1, 167, 255, 222, 3, 60, 27, 16, 96, 162, 0, 14, 42]
abbrev dktX9_goes_3 : List UInt8 := dkwX9_goes_3 ++ dktX9_goes_4
def dkwX9_goes_2 : List UInt8 := [27, 7, 162, 0, 35, 42, 180, 0, 9, 17, 8, 56, 27, 96, 92, 46, 42, 27, 42, 180, 0, 9]
abbrev dktX9_goes_2 : List UInt8 := dkwX9_goes_2 ++ dktX9_goes_3
def dkwX9_goes_1 : List UInt8 := [162, 0, 22, 42, 27, 182, 0, 122, 153, 0, 8, 42, 27, 182, 1, 161, 132, 1, 1, 167, 255, 228, 3, 60]
abbrev dktX9_goes_1 : List UInt8 := dkwX9_goes_1 ++ dktX9_goes_2
def dkwX9_goes_0 : List UInt8 := [42, 182, 1, 155, 42, 182, 1, 158, 42, 182, 0, 160, 3, 60, 27, 42, 180, 0, 9, 17, 8, 76, 46]
abbrev dktX9_goes_0 : List UInt8 := dkwX9_goes_0 ++ dktX9_goes_1
theorem dksX9_goes_0 : cX9_goes.data.toList.drop 0 = dktX9_goes_0 := by decide +kernel
theorem dksX9_goes_1 : cX9_goes.data.toList.drop 23 = dktX9_goes_1 := dk_seg dksX9_goes_0 23 rfl rfl
theorem dksX9_goes_2 : cX9_goes.data.toList.drop 47 = dktX9_goes_2 := dk_seg dksX9_goes_1 24 rfl rfl
theorem dksX9_goes_3 : cX9_goes.data.toList.drop 69 = dktX9_goes_3 := dk_seg dksX9_goes_2 22 rfl rfl
theorem dksX9_goes_4 : cX9_goes.data.toList.drop 93 = dktX9_goes_4 := dk_seg dksX9_goes_3 24 rfl rfl
theorem dksX9_goes_5 : cX9_goes.data.toList.drop 117 = dktX9_goes_5 := dk_seg dksX9_goes_4 24 rfl rfl
theorem dksX9_goes_6 : cX9_goes.data.toList.drop 141 = dktX9_goes_6 := dk_seg dksX9_goes_5 24 rfl rfl
theorem dksX9_goes_7 : cX9_goes.data.toList.drop 164 = dktX9_goes_7 := dk_seg dksX9_goes_6 23 rfl rfl
theorem dksX9_goes_8 : cX9_goes.data.toList.drop 188 = dktX9_goes_8 := dk_seg dksX9_goes_7 24 rfl rfl
theorem dksX9_goes_9 : cX9_goes.data.toList.drop 212 = dktX9_goes_9 := dk_seg dksX9_goes_8 24 rfl rfl
theorem dksX9_goes_10 : cX9_goes.data.toList.drop 236 = dktX9_goes_10 := dk_seg dksX9_goes_9 24 rfl rfl
theorem dksX9_goes_11 : cX9_goes.data.toList.drop 260 = dktX9_goes_11 := dk_seg dksX9_goes_10 24 rfl rfl
theorem dksX9_goes_12 : cX9_goes.data.toList.drop 283 = dktX9_goes_12 := dk_seg dksX9_goes_11 23 rfl rfl
theorem dX9_goes_0 : decode cX9_goes 0 = .ok (.aload_n 0, 1) := dk_42 (dk_at dksX9_goes_0 0 rfl rfl)
theorem dX9_goes_1 : decode cX9_goes 1 = .ok (.invokevirtual 411, 3) := dk_182 1 155 (dk_at dksX9_goes_0 1 rfl rfl)
theorem dX9_goes_4 : decode cX9_goes 4 = .ok (.aload_n 0, 1) := dk_42 (dk_at dksX9_goes_0 4 rfl rfl)
theorem dX9_goes_5 : decode cX9_goes 5 = .ok (.invokevirtual 414, 3) := dk_182 1 158 (dk_at dksX9_goes_0 5 rfl rfl)
theorem dX9_goes_8 : decode cX9_goes 8 = .ok (.aload_n 0, 1) := dk_42 (dk_at dksX9_goes_0 8 rfl rfl)
theorem dX9_goes_9 : decode cX9_goes 9 = .ok (.invokevirtual 160, 3) := dk_182 0 160 (dk_at dksX9_goes_0 9 rfl rfl)
theorem dX9_goes_12 : decode cX9_goes 12 = .ok (.iconst 0, 1) := dk_3 (dk_at dksX9_goes_0 12 rfl rfl)
theorem dX9_goes_13 : decode cX9_goes 13 = .ok (.istore_n 1, 1) := dk_60 (dk_at dksX9_goes_0 13 rfl rfl)
theorem dX9_goes_14 : decode cX9_goes 14 = .ok (.iload_n 1, 1) := dk_27 (dk_at dksX9_goes_0 14 rfl rfl)
theorem dX9_goes_15 : decode cX9_goes 15 = .ok (.aload_n 0, 1) := dk_42 (dk_at dksX9_goes_0 15 rfl rfl)
theorem dX9_goes_16 : decode cX9_goes 16 = .ok (.getfield 9, 3) := dk_180 0 9 (dk_at dksX9_goes_0 16 rfl rfl)
theorem dX9_goes_19 : decode cX9_goes 19 = .ok (.sipush 2124, 3) := dk_17 8 76 (dk_at dksX9_goes_0 19 rfl rfl)
theorem dX9_goes_22 : decode cX9_goes 22 = .ok (.iaload, 1) := dk_46 (dk_at dksX9_goes_0 22 rfl rfl)
theorem dX9_goes_23 : decode cX9_goes 23 = .ok (.if_icmp .ge 22, 3) := dk_162 0 22 (dk_at dksX9_goes_1 0 rfl rfl)
theorem dX9_goes_26 : decode cX9_goes 26 = .ok (.aload_n 0, 1) := dk_42 (dk_at dksX9_goes_1 3 rfl rfl)
theorem dX9_goes_27 : decode cX9_goes 27 = .ok (.iload_n 1, 1) := dk_27 (dk_at dksX9_goes_1 4 rfl rfl)
theorem dX9_goes_28 : decode cX9_goes 28 = .ok (.invokevirtual 122, 3) := dk_182 0 122 (dk_at dksX9_goes_1 5 rfl rfl)
theorem dX9_goes_31 : decode cX9_goes 31 = .ok (.ifCond .eq 8, 3) := dk_153 0 8 (dk_at dksX9_goes_1 8 rfl rfl)
theorem dX9_goes_34 : decode cX9_goes 34 = .ok (.aload_n 0, 1) := dk_42 (dk_at dksX9_goes_1 11 rfl rfl)
theorem dX9_goes_35 : decode cX9_goes 35 = .ok (.iload_n 1, 1) := dk_27 (dk_at dksX9_goes_1 12 rfl rfl)
theorem dX9_goes_36 : decode cX9_goes 36 = .ok (.invokevirtual 417, 3) := dk_182 1 161 (dk_at dksX9_goes_1 13 rfl rfl)
theorem dX9_goes_39 : decode cX9_goes 39 = .ok (.iinc 1 1, 3) := dk_132 1 1 (dk_at dksX9_goes_1 16 rfl rfl)
theorem dX9_goes_42 : decode cX9_goes 42 = .ok (.goto (-28), 3) := dk_167 255 228 (dk_at dksX9_goes_1 19 rfl rfl)
theorem dX9_goes_45 : decode cX9_goes 45 = .ok (.iconst 0, 1) := dk_3 (dk_at dksX9_goes_1 22 rfl rfl)
theorem dX9_goes_46 : decode cX9_goes 46 = .ok (.istore_n 1, 1) := dk_60 (dk_at dksX9_goes_1 23 rfl rfl)
theorem dX9_goes_47 : decode cX9_goes 47 = .ok (.iload_n 1, 1) := dk_27 (dk_at dksX9_goes_2 0 rfl rfl)
theorem dX9_goes_48 : decode cX9_goes 48 = .ok (.iconst 4, 1) := dk_7 (dk_at dksX9_goes_2 1 rfl rfl)
theorem dX9_goes_49 : decode cX9_goes 49 = .ok (.if_icmp .ge 35, 3) := dk_162 0 35 (dk_at dksX9_goes_2 2 rfl rfl)
theorem dX9_goes_52 : decode cX9_goes 52 = .ok (.aload_n 0, 1) := dk_42 (dk_at dksX9_goes_2 5 rfl rfl)
theorem dX9_goes_53 : decode cX9_goes 53 = .ok (.getfield 9, 3) := dk_180 0 9 (dk_at dksX9_goes_2 6 rfl rfl)
theorem dX9_goes_56 : decode cX9_goes 56 = .ok (.sipush 2104, 3) := dk_17 8 56 (dk_at dksX9_goes_2 9 rfl rfl)
theorem dX9_goes_59 : decode cX9_goes 59 = .ok (.iload_n 1, 1) := dk_27 (dk_at dksX9_goes_2 12 rfl rfl)
theorem dX9_goes_60 : decode cX9_goes 60 = .ok (.iadd, 1) := dk_96 (dk_at dksX9_goes_2 13 rfl rfl)
theorem dX9_goes_61 : decode cX9_goes 61 = .ok (.dup2, 1) := dk_92 (dk_at dksX9_goes_2 14 rfl rfl)
theorem dX9_goes_62 : decode cX9_goes 62 = .ok (.iaload, 1) := dk_46 (dk_at dksX9_goes_2 15 rfl rfl)
theorem dX9_goes_63 : decode cX9_goes 63 = .ok (.aload_n 0, 1) := dk_42 (dk_at dksX9_goes_2 16 rfl rfl)
theorem dX9_goes_64 : decode cX9_goes 64 = .ok (.iload_n 1, 1) := dk_27 (dk_at dksX9_goes_2 17 rfl rfl)
theorem dX9_goes_65 : decode cX9_goes 65 = .ok (.aload_n 0, 1) := dk_42 (dk_at dksX9_goes_2 18 rfl rfl)
theorem dX9_goes_66 : decode cX9_goes 66 = .ok (.getfield 9, 3) := dk_180 0 9 (dk_at dksX9_goes_2 19 rfl rfl)
theorem dX9_goes_69 : decode cX9_goes 69 = .ok (.sipush 2116, 3) := dk_17 8 68 (dk_at dksX9_goes_3 0 rfl rfl)
theorem dX9_goes_72 : decode cX9_goes 72 = .ok (.iaload, 1) := dk_46 (dk_at dksX9_goes_3 3 rfl rfl)
theorem dX9_goes_73 : decode cX9_goes 73 = .ok (.invokevirtual 94, 3) := dk_182 0 94 (dk_at dksX9_goes_3 4 rfl rfl)
theorem dX9_goes_76 : decode cX9_goes 76 = .ok (.iadd, 1) := dk_96 (dk_at dksX9_goes_3 7 rfl rfl)
theorem dX9_goes_77 : decode cX9_goes 77 = .ok (.iastore, 1) := dk_79 (dk_at dksX9_goes_3 8 rfl rfl)
theorem dX9_goes_78 : decode cX9_goes 78 = .ok (.iinc 1 1, 3) := dk_132 1 1 (dk_at dksX9_goes_3 9 rfl rfl)
theorem dX9_goes_81 : decode cX9_goes 81 = .ok (.goto (-34), 3) := dk_167 255 222 (dk_at dksX9_goes_3 12 rfl rfl)
theorem dX9_goes_84 : decode cX9_goes 84 = .ok (.iconst 0, 1) := dk_3 (dk_at dksX9_goes_3 15 rfl rfl)
theorem dX9_goes_85 : decode cX9_goes 85 = .ok (.istore_n 1, 1) := dk_60 (dk_at dksX9_goes_3 16 rfl rfl)
theorem dX9_goes_86 : decode cX9_goes 86 = .ok (.iload_n 1, 1) := dk_27 (dk_at dksX9_goes_3 17 rfl rfl)
theorem dX9_goes_87 : decode cX9_goes 87 = .ok (.bipush 96, 2) := dk_16 96 (dk_at dksX9_goes_3 18 rfl rfl)
theorem dX9_goes_89 : decode cX9_goes 89 = .ok (.if_icmp .ge 14, 3) := dk_162 0 14 (dk_at dksX9_goes_3 20 rfl rfl)
theorem dX9_goes_92 : decode cX9_goes 92 = .ok (.aload_n 0, 1) := dk_42 (dk_at dksX9_goes_3 23 rfl rfl)
theorem dX9_goes_93 : decode cX9_goes 93 = .ok (.iload_n 1, 1) := dk_27 (dk_at dksX9_goes_4 0 rfl rfl)
theorem dX9_goes_94 : decode cX9_goes 94 = .ok (.invokevirtual 420, 3) := dk_182 1 164 (dk_at dksX9_goes_4 1 rfl rfl)
theorem dX9_goes_97 : decode cX9_goes 97 = .ok (.iinc 1 1, 3) := dk_132 1 1 (dk_at dksX9_goes_4 4 rfl rfl)
theorem dX9_goes_100 : decode cX9_goes 100 = .ok (.goto (-14), 3) := dk_167 255 242 (dk_at dksX9_goes_4 7 rfl rfl)
theorem dX9_goes_103 : decode cX9_goes 103 = .ok (.iconst 0, 1) := dk_3 (dk_at dksX9_goes_4 10 rfl rfl)
theorem dX9_goes_104 : decode cX9_goes 104 = .ok (.istore_n 1, 1) := dk_60 (dk_at dksX9_goes_4 11 rfl rfl)
theorem dX9_goes_105 : decode cX9_goes 105 = .ok (.iload_n 1, 1) := dk_27 (dk_at dksX9_goes_4 12 rfl rfl)
theorem dX9_goes_106 : decode cX9_goes 106 = .ok (.bipush 96, 2) := dk_16 96 (dk_at dksX9_goes_4 13 rfl rfl)
theorem dX9_goes_108 : decode cX9_goes 108 = .ok (.if_icmp .ge 43, 3) := dk_162 0 43 (dk_at dksX9_goes_4 15 rfl rfl)
theorem dX9_goes_111 : decode cX9_goes 111 = .ok (.aload_n 0, 1) := dk_42 (dk_at dksX9_goes_4 18 rfl rfl)
theorem dX9_goes_112 : decode cX9_goes 112 = .ok (.iload_n 1, 1) := dk_27 (dk_at dksX9_goes_4 19 rfl rfl)
theorem dX9_goes_113 : decode cX9_goes 113 = .ok (.iconst 0, 1) := dk_3 (dk_at dksX9_goes_4 20 rfl rfl)
theorem dX9_goes_114 : decode cX9_goes 114 = .ok (.invokevirtual 88, 3) := dk_182 0 88 (dk_at dksX9_goes_4 21 rfl rfl)
theorem dX9_goes_117 : decode cX9_goes 117 = .ok (.iconst 4, 1) := dk_7 (dk_at dksX9_goes_5 0 rfl rfl)
theorem dX9_goes_118 : decode cX9_goes 118 = .ok (.if_icmp .ne 27, 3) := dk_160 0 27 (dk_at dksX9_goes_5 1 rfl rfl)
theorem dX9_goes_121 : decode cX9_goes 121 = .ok (.aload_n 0, 1) := dk_42 (dk_at dksX9_goes_5 4 rfl rfl)
theorem dX9_goes_122 : decode cX9_goes 122 = .ok (.iload_n 1, 1) := dk_27 (dk_at dksX9_goes_5 5 rfl rfl)
theorem dX9_goes_123 : decode cX9_goes 123 = .ok (.iconst 2, 1) := dk_5 (dk_at dksX9_goes_5 6 rfl rfl)
theorem dX9_goes_124 : decode cX9_goes 124 = .ok (.invokevirtual 88, 3) := dk_182 0 88 (dk_at dksX9_goes_5 7 rfl rfl)
theorem dX9_goes_127 : decode cX9_goes 127 = .ok (.aload_n 0, 1) := dk_42 (dk_at dksX9_goes_5 10 rfl rfl)
theorem dX9_goes_128 : decode cX9_goes 128 = .ok (.getfield 9, 3) := dk_180 0 9 (dk_at dksX9_goes_5 11 rfl rfl)
theorem dX9_goes_131 : decode cX9_goes 131 = .ok (.sipush 2116, 3) := dk_17 8 68 (dk_at dksX9_goes_5 14 rfl rfl)
theorem dX9_goes_134 : decode cX9_goes 134 = .ok (.iaload, 1) := dk_46 (dk_at dksX9_goes_5 17 rfl rfl)
theorem dX9_goes_135 : decode cX9_goes 135 = .ok (.if_icmp .ne 10, 3) := dk_160 0 10 (dk_at dksX9_goes_5 18 rfl rfl)
theorem dX9_goes_138 : decode cX9_goes 138 = .ok (.aload_n 0, 1) := dk_42 (dk_at dksX9_goes_5 21 rfl rfl)
theorem dX9_goes_139 : decode cX9_goes 139 = .ok (.iload_n 1, 1) := dk_27 (dk_at dksX9_goes_5 22 rfl rfl)
theorem dX9_goes_140 : decode cX9_goes 140 = .ok (.iconst 1, 1) := dk_4 (dk_at dksX9_goes_5 23 rfl rfl)
theorem dX9_goes_141 : decode cX9_goes 141 = .ok (.iconst (-1), 1) := dk_2 (dk_at dksX9_goes_6 0 rfl rfl)
theorem dX9_goes_142 : decode cX9_goes 142 = .ok (.invokevirtual 147, 3) := dk_182 0 147 (dk_at dksX9_goes_6 1 rfl rfl)
theorem dX9_goes_145 : decode cX9_goes 145 = .ok (.iinc 1 1, 3) := dk_132 1 1 (dk_at dksX9_goes_6 4 rfl rfl)
theorem dX9_goes_148 : decode cX9_goes 148 = .ok (.goto (-43), 3) := dk_167 255 213 (dk_at dksX9_goes_6 7 rfl rfl)
theorem dX9_goes_151 : decode cX9_goes 151 = .ok (.aload_n 0, 1) := dk_42 (dk_at dksX9_goes_6 10 rfl rfl)
theorem dX9_goes_152 : decode cX9_goes 152 = .ok (.getfield 9, 3) := dk_180 0 9 (dk_at dksX9_goes_6 11 rfl rfl)
theorem dX9_goes_155 : decode cX9_goes 155 = .ok (.sipush 2116, 3) := dk_17 8 68 (dk_at dksX9_goes_6 14 rfl rfl)
theorem dX9_goes_158 : decode cX9_goes 158 = .ok (.iaload, 1) := dk_46 (dk_at dksX9_goes_6 17 rfl rfl)
theorem dX9_goes_159 : decode cX9_goes 159 = .ok (.bipush 52, 2) := dk_16 52 (dk_at dksX9_goes_6 18 rfl rfl)
theorem dX9_goes_161 : decode cX9_goes 161 = .ok (.irem, 1) := dk_112 (dk_at dksX9_goes_6 20 rfl rfl)
theorem dX9_goes_162 : decode cX9_goes 162 = .ok (.bipush 51, 2) := dk_16 51 (dk_at dksX9_goes_6 21 rfl rfl)
theorem dX9_goes_164 : decode cX9_goes 164 = .ok (.if_icmp .ne 7, 3) := dk_160 0 7 (dk_at dksX9_goes_7 0 rfl rfl)
theorem dX9_goes_167 : decode cX9_goes 167 = .ok (.aload_n 0, 1) := dk_42 (dk_at dksX9_goes_7 3 rfl rfl)
theorem dX9_goes_168 : decode cX9_goes 168 = .ok (.invokevirtual 423, 3) := dk_182 1 167 (dk_at dksX9_goes_7 4 rfl rfl)
theorem dX9_goes_171 : decode cX9_goes 171 = .ok (.bipush 7, 2) := dk_16 7 (dk_at dksX9_goes_7 7 rfl rfl)
theorem dX9_goes_173 : decode cX9_goes 173 = .ok (.aload_n 0, 1) := dk_42 (dk_at dksX9_goes_7 9 rfl rfl)
theorem dX9_goes_174 : decode cX9_goes 174 = .ok (.getfield 9, 3) := dk_180 0 9 (dk_at dksX9_goes_7 10 rfl rfl)
theorem dX9_goes_177 : decode cX9_goes 177 = .ok (.sipush 2116, 3) := dk_17 8 68 (dk_at dksX9_goes_7 13 rfl rfl)
theorem dX9_goes_180 : decode cX9_goes 180 = .ok (.iaload, 1) := dk_46 (dk_at dksX9_goes_7 16 rfl rfl)
theorem dX9_goes_181 : decode cX9_goes 181 = .ok (.imul, 1) := dk_104 (dk_at dksX9_goes_7 17 rfl rfl)
theorem dX9_goes_182 : decode cX9_goes 182 = .ok (.istore_n 1, 1) := dk_60 (dk_at dksX9_goes_7 18 rfl rfl)
theorem dX9_goes_183 : decode cX9_goes 183 = .ok (.aload_n 0, 1) := dk_42 (dk_at dksX9_goes_7 19 rfl rfl)
theorem dX9_goes_184 : decode cX9_goes 184 = .ok (.getfield 61, 3) := dk_180 0 61 (dk_at dksX9_goes_7 20 rfl rfl)
theorem dX9_goes_187 : decode cX9_goes 187 = .ok (.iload_n 1, 1) := dk_27 (dk_at dksX9_goes_7 23 rfl rfl)
theorem dX9_goes_188 : decode cX9_goes 188 = .ok (.aload_n 0, 1) := dk_42 (dk_at dksX9_goes_8 0 rfl rfl)
theorem dX9_goes_189 : decode cX9_goes 189 = .ok (.invokevirtual 338, 3) := dk_182 1 82 (dk_at dksX9_goes_8 1 rfl rfl)
theorem dX9_goes_192 : decode cX9_goes 192 = .ok (.iastore, 1) := dk_79 (dk_at dksX9_goes_8 4 rfl rfl)
theorem dX9_goes_193 : decode cX9_goes 193 = .ok (.aload_n 0, 1) := dk_42 (dk_at dksX9_goes_8 5 rfl rfl)
theorem dX9_goes_194 : decode cX9_goes 194 = .ok (.getfield 61, 3) := dk_180 0 61 (dk_at dksX9_goes_8 6 rfl rfl)
theorem dX9_goes_197 : decode cX9_goes 197 = .ok (.iload_n 1, 1) := dk_27 (dk_at dksX9_goes_8 9 rfl rfl)
theorem dX9_goes_198 : decode cX9_goes 198 = .ok (.iconst 1, 1) := dk_4 (dk_at dksX9_goes_8 10 rfl rfl)
theorem dX9_goes_199 : decode cX9_goes 199 = .ok (.iadd, 1) := dk_96 (dk_at dksX9_goes_8 11 rfl rfl)
theorem dX9_goes_200 : decode cX9_goes 200 = .ok (.aload_n 0, 1) := dk_42 (dk_at dksX9_goes_8 12 rfl rfl)
theorem dX9_goes_201 : decode cX9_goes 201 = .ok (.invokevirtual 335, 3) := dk_182 1 79 (dk_at dksX9_goes_8 13 rfl rfl)
theorem dX9_goes_204 : decode cX9_goes 204 = .ok (.iastore, 1) := dk_79 (dk_at dksX9_goes_8 16 rfl rfl)
theorem dX9_goes_205 : decode cX9_goes 205 = .ok (.aload_n 0, 1) := dk_42 (dk_at dksX9_goes_8 17 rfl rfl)
theorem dX9_goes_206 : decode cX9_goes 206 = .ok (.getfield 61, 3) := dk_180 0 61 (dk_at dksX9_goes_8 18 rfl rfl)
theorem dX9_goes_209 : decode cX9_goes 209 = .ok (.iload_n 1, 1) := dk_27 (dk_at dksX9_goes_8 21 rfl rfl)
theorem dX9_goes_210 : decode cX9_goes 210 = .ok (.iconst 2, 1) := dk_5 (dk_at dksX9_goes_8 22 rfl rfl)
theorem dX9_goes_211 : decode cX9_goes 211 = .ok (.iadd, 1) := dk_96 (dk_at dksX9_goes_8 23 rfl rfl)
theorem dX9_goes_212 : decode cX9_goes 212 = .ok (.aload_n 0, 1) := dk_42 (dk_at dksX9_goes_9 0 rfl rfl)
theorem dX9_goes_213 : decode cX9_goes 213 = .ok (.getfield 9, 3) := dk_180 0 9 (dk_at dksX9_goes_9 1 rfl rfl)
theorem dX9_goes_216 : decode cX9_goes 216 = .ok (.sipush 2117, 3) := dk_17 8 69 (dk_at dksX9_goes_9 4 rfl rfl)
theorem dX9_goes_219 : decode cX9_goes 219 = .ok (.iaload, 1) := dk_46 (dk_at dksX9_goes_9 7 rfl rfl)
theorem dX9_goes_220 : decode cX9_goes 220 = .ok (.iastore, 1) := dk_79 (dk_at dksX9_goes_9 8 rfl rfl)
theorem dX9_goes_221 : decode cX9_goes 221 = .ok (.aload_n 0, 1) := dk_42 (dk_at dksX9_goes_9 9 rfl rfl)
theorem dX9_goes_222 : decode cX9_goes 222 = .ok (.getfield 61, 3) := dk_180 0 61 (dk_at dksX9_goes_9 10 rfl rfl)
theorem dX9_goes_225 : decode cX9_goes 225 = .ok (.iload_n 1, 1) := dk_27 (dk_at dksX9_goes_9 13 rfl rfl)
theorem dX9_goes_226 : decode cX9_goes 226 = .ok (.iconst 3, 1) := dk_6 (dk_at dksX9_goes_9 14 rfl rfl)
theorem dX9_goes_227 : decode cX9_goes 227 = .ok (.iadd, 1) := dk_96 (dk_at dksX9_goes_9 15 rfl rfl)
theorem dX9_goes_228 : decode cX9_goes 228 = .ok (.aload_n 0, 1) := dk_42 (dk_at dksX9_goes_9 16 rfl rfl)
theorem dX9_goes_229 : decode cX9_goes 229 = .ok (.getfield 9, 3) := dk_180 0 9 (dk_at dksX9_goes_9 17 rfl rfl)
theorem dX9_goes_232 : decode cX9_goes 232 = .ok (.sipush 2118, 3) := dk_17 8 70 (dk_at dksX9_goes_9 20 rfl rfl)
theorem dX9_goes_235 : decode cX9_goes 235 = .ok (.iaload, 1) := dk_46 (dk_at dksX9_goes_9 23 rfl rfl)
theorem dX9_goes_236 : decode cX9_goes 236 = .ok (.iastore, 1) := dk_79 (dk_at dksX9_goes_10 0 rfl rfl)
theorem dX9_goes_237 : decode cX9_goes 237 = .ok (.aload_n 0, 1) := dk_42 (dk_at dksX9_goes_10 1 rfl rfl)
theorem dX9_goes_238 : decode cX9_goes 238 = .ok (.getfield 61, 3) := dk_180 0 61 (dk_at dksX9_goes_10 2 rfl rfl)
theorem dX9_goes_241 : decode cX9_goes 241 = .ok (.iload_n 1, 1) := dk_27 (dk_at dksX9_goes_10 5 rfl rfl)
theorem dX9_goes_242 : decode cX9_goes 242 = .ok (.iconst 4, 1) := dk_7 (dk_at dksX9_goes_10 6 rfl rfl)
theorem dX9_goes_243 : decode cX9_goes 243 = .ok (.iadd, 1) := dk_96 (dk_at dksX9_goes_10 7 rfl rfl)
theorem dX9_goes_244 : decode cX9_goes 244 = .ok (.aload_n 0, 1) := dk_42 (dk_at dksX9_goes_10 8 rfl rfl)
theorem dX9_goes_245 : decode cX9_goes 245 = .ok (.getfield 9, 3) := dk_180 0 9 (dk_at dksX9_goes_10 9 rfl rfl)
theorem dX9_goes_248 : decode cX9_goes 248 = .ok (.sipush 2122, 3) := dk_17 8 74 (dk_at dksX9_goes_10 12 rfl rfl)
theorem dX9_goes_251 : decode cX9_goes 251 = .ok (.iaload, 1) := dk_46 (dk_at dksX9_goes_10 15 rfl rfl)
theorem dX9_goes_252 : decode cX9_goes 252 = .ok (.iastore, 1) := dk_79 (dk_at dksX9_goes_10 16 rfl rfl)
theorem dX9_goes_253 : decode cX9_goes 253 = .ok (.aload_n 0, 1) := dk_42 (dk_at dksX9_goes_10 17 rfl rfl)
theorem dX9_goes_254 : decode cX9_goes 254 = .ok (.getfield 61, 3) := dk_180 0 61 (dk_at dksX9_goes_10 18 rfl rfl)
theorem dX9_goes_257 : decode cX9_goes 257 = .ok (.iload_n 1, 1) := dk_27 (dk_at dksX9_goes_10 21 rfl rfl)
theorem dX9_goes_258 : decode cX9_goes 258 = .ok (.iconst 5, 1) := dk_8 (dk_at dksX9_goes_10 22 rfl rfl)
theorem dX9_goes_259 : decode cX9_goes 259 = .ok (.iadd, 1) := dk_96 (dk_at dksX9_goes_10 23 rfl rfl)
theorem dX9_goes_260 : decode cX9_goes 260 = .ok (.aload_n 0, 1) := dk_42 (dk_at dksX9_goes_11 0 rfl rfl)
theorem dX9_goes_261 : decode cX9_goes 261 = .ok (.getfield 9, 3) := dk_180 0 9 (dk_at dksX9_goes_11 1 rfl rfl)
theorem dX9_goes_264 : decode cX9_goes 264 = .ok (.sipush 2119, 3) := dk_17 8 71 (dk_at dksX9_goes_11 4 rfl rfl)
theorem dX9_goes_267 : decode cX9_goes 267 = .ok (.iaload, 1) := dk_46 (dk_at dksX9_goes_11 7 rfl rfl)
theorem dX9_goes_268 : decode cX9_goes 268 = .ok (.iastore, 1) := dk_79 (dk_at dksX9_goes_11 8 rfl rfl)
theorem dX9_goes_269 : decode cX9_goes 269 = .ok (.aload_n 0, 1) := dk_42 (dk_at dksX9_goes_11 9 rfl rfl)
theorem dX9_goes_270 : decode cX9_goes 270 = .ok (.getfield 61, 3) := dk_180 0 61 (dk_at dksX9_goes_11 10 rfl rfl)
theorem dX9_goes_273 : decode cX9_goes 273 = .ok (.iload_n 1, 1) := dk_27 (dk_at dksX9_goes_11 13 rfl rfl)
theorem dX9_goes_274 : decode cX9_goes 274 = .ok (.bipush 6, 2) := dk_16 6 (dk_at dksX9_goes_11 14 rfl rfl)
theorem dX9_goes_276 : decode cX9_goes 276 = .ok (.iadd, 1) := dk_96 (dk_at dksX9_goes_11 16 rfl rfl)
theorem dX9_goes_277 : decode cX9_goes 277 = .ok (.aload_n 0, 1) := dk_42 (dk_at dksX9_goes_11 17 rfl rfl)
theorem dX9_goes_278 : decode cX9_goes 278 = .ok (.invokevirtual 326, 3) := dk_182 1 70 (dk_at dksX9_goes_11 18 rfl rfl)
theorem dX9_goes_281 : decode cX9_goes 281 = .ok (.iastore, 1) := dk_79 (dk_at dksX9_goes_11 21 rfl rfl)
theorem dX9_goes_282 : decode cX9_goes 282 = .ok (.aload_n 0, 1) := dk_42 (dk_at dksX9_goes_11 22 rfl rfl)
theorem dX9_goes_283 : decode cX9_goes 283 = .ok (.getfield 9, 3) := dk_180 0 9 (dk_at dksX9_goes_12 0 rfl rfl)
theorem dX9_goes_286 : decode cX9_goes 286 = .ok (.sipush 2116, 3) := dk_17 8 68 (dk_at dksX9_goes_12 3 rfl rfl)
theorem dX9_goes_289 : decode cX9_goes 289 = .ok (.dup2, 1) := dk_92 (dk_at dksX9_goes_12 6 rfl rfl)
theorem dX9_goes_290 : decode cX9_goes 290 = .ok (.iaload, 1) := dk_46 (dk_at dksX9_goes_12 7 rfl rfl)
theorem dX9_goes_291 : decode cX9_goes 291 = .ok (.iconst 1, 1) := dk_4 (dk_at dksX9_goes_12 8 rfl rfl)
theorem dX9_goes_292 : decode cX9_goes 292 = .ok (.iadd, 1) := dk_96 (dk_at dksX9_goes_12 9 rfl rfl)
theorem dX9_goes_293 : decode cX9_goes 293 = .ok (.iastore, 1) := dk_79 (dk_at dksX9_goes_12 10 rfl rfl)
theorem dX9_goes_294 : decode cX9_goes 294 = .ok (.return_, 1) := dk_177 (dk_at dksX9_goes_12 11 rfl rfl)
def dkwX9_lands_2 : List UInt8 := [132, 1, 1, 167, 255, 207, 177]
abbrev dktX9_lands_2 : List UInt8 := dkwX9_lands_2 ++ []
def dkwX9_lands_1 : List UInt8 := [42, 27, 8, 182, 0, 76, 42, 180, 0, 9, 17, 8, 68, 46, 160, 0, 10, 42, 27, 5, 5, 182, 0, 113]
abbrev dktX9_lands_1 : List UInt8 := dkwX9_lands_1 ++ dktX9_lands_2
def dkwX9_lands_0 : List UInt8 := [3, 60, 27, 42, 180, 0, 9, 17, 8, 76, 46, 162, 0, 43, 42, 27, 5, 182, 0, 76, 4, 160, 0, 27]
abbrev dktX9_lands_0 : List UInt8 := dkwX9_lands_0 ++ dktX9_lands_1
theorem dksX9_lands_0 : cX9_lands.data.toList.drop 0 = dktX9_lands_0 := by decide +kernel
theorem dksX9_lands_1 : cX9_lands.data.toList.drop 24 = dktX9_lands_1 := dk_seg dksX9_lands_0 24 rfl rfl
theorem dksX9_lands_2 : cX9_lands.data.toList.drop 48 = dktX9_lands_2 := dk_seg dksX9_lands_1 24 rfl rfl
theorem dX9_lands_0 : decode cX9_lands 0 = .ok (.iconst 0, 1) := dk_3 (dk_at dksX9_lands_0 0 rfl rfl)
theorem dX9_lands_1 : decode cX9_lands 1 = .ok (.istore_n 1, 1) := dk_60 (dk_at dksX9_lands_0 1 rfl rfl)
theorem dX9_lands_2 : decode cX9_lands 2 = .ok (.iload_n 1, 1) := dk_27 (dk_at dksX9_lands_0 2 rfl rfl)
theorem dX9_lands_3 : decode cX9_lands 3 = .ok (.aload_n 0, 1) := dk_42 (dk_at dksX9_lands_0 3 rfl rfl)
theorem dX9_lands_4 : decode cX9_lands 4 = .ok (.getfield 9, 3) := dk_180 0 9 (dk_at dksX9_lands_0 4 rfl rfl)
theorem dX9_lands_7 : decode cX9_lands 7 = .ok (.sipush 2124, 3) := dk_17 8 76 (dk_at dksX9_lands_0 7 rfl rfl)
theorem dX9_lands_10 : decode cX9_lands 10 = .ok (.iaload, 1) := dk_46 (dk_at dksX9_lands_0 10 rfl rfl)
theorem dX9_lands_11 : decode cX9_lands 11 = .ok (.if_icmp .ge 43, 3) := dk_162 0 43 (dk_at dksX9_lands_0 11 rfl rfl)
theorem dX9_lands_14 : decode cX9_lands 14 = .ok (.aload_n 0, 1) := dk_42 (dk_at dksX9_lands_0 14 rfl rfl)
theorem dX9_lands_15 : decode cX9_lands 15 = .ok (.iload_n 1, 1) := dk_27 (dk_at dksX9_lands_0 15 rfl rfl)
theorem dX9_lands_16 : decode cX9_lands 16 = .ok (.iconst 2, 1) := dk_5 (dk_at dksX9_lands_0 16 rfl rfl)
theorem dX9_lands_17 : decode cX9_lands 17 = .ok (.invokevirtual 76, 3) := dk_182 0 76 (dk_at dksX9_lands_0 17 rfl rfl)
theorem dX9_lands_20 : decode cX9_lands 20 = .ok (.iconst 1, 1) := dk_4 (dk_at dksX9_lands_0 20 rfl rfl)
theorem dX9_lands_21 : decode cX9_lands 21 = .ok (.if_icmp .ne 27, 3) := dk_160 0 27 (dk_at dksX9_lands_0 21 rfl rfl)
theorem dX9_lands_24 : decode cX9_lands 24 = .ok (.aload_n 0, 1) := dk_42 (dk_at dksX9_lands_1 0 rfl rfl)
theorem dX9_lands_25 : decode cX9_lands 25 = .ok (.iload_n 1, 1) := dk_27 (dk_at dksX9_lands_1 1 rfl rfl)
theorem dX9_lands_26 : decode cX9_lands 26 = .ok (.iconst 5, 1) := dk_8 (dk_at dksX9_lands_1 2 rfl rfl)
theorem dX9_lands_27 : decode cX9_lands 27 = .ok (.invokevirtual 76, 3) := dk_182 0 76 (dk_at dksX9_lands_1 3 rfl rfl)
theorem dX9_lands_30 : decode cX9_lands 30 = .ok (.aload_n 0, 1) := dk_42 (dk_at dksX9_lands_1 6 rfl rfl)
theorem dX9_lands_31 : decode cX9_lands 31 = .ok (.getfield 9, 3) := dk_180 0 9 (dk_at dksX9_lands_1 7 rfl rfl)
theorem dX9_lands_34 : decode cX9_lands 34 = .ok (.sipush 2116, 3) := dk_17 8 68 (dk_at dksX9_lands_1 10 rfl rfl)
theorem dX9_lands_37 : decode cX9_lands 37 = .ok (.iaload, 1) := dk_46 (dk_at dksX9_lands_1 13 rfl rfl)
theorem dX9_lands_38 : decode cX9_lands 38 = .ok (.if_icmp .ne 10, 3) := dk_160 0 10 (dk_at dksX9_lands_1 14 rfl rfl)
theorem dX9_lands_41 : decode cX9_lands 41 = .ok (.aload_n 0, 1) := dk_42 (dk_at dksX9_lands_1 17 rfl rfl)
theorem dX9_lands_42 : decode cX9_lands 42 = .ok (.iload_n 1, 1) := dk_27 (dk_at dksX9_lands_1 18 rfl rfl)
theorem dX9_lands_43 : decode cX9_lands 43 = .ok (.iconst 2, 1) := dk_5 (dk_at dksX9_lands_1 19 rfl rfl)
theorem dX9_lands_44 : decode cX9_lands 44 = .ok (.iconst 2, 1) := dk_5 (dk_at dksX9_lands_1 20 rfl rfl)
theorem dX9_lands_45 : decode cX9_lands 45 = .ok (.invokevirtual 113, 3) := dk_182 0 113 (dk_at dksX9_lands_1 21 rfl rfl)
theorem dX9_lands_48 : decode cX9_lands 48 = .ok (.iinc 1 1, 3) := dk_132 1 1 (dk_at dksX9_lands_2 0 rfl rfl)
theorem dX9_lands_51 : decode cX9_lands 51 = .ok (.goto (-49), 3) := dk_167 255 207 (dk_at dksX9_lands_2 3 rfl rfl)
theorem dX9_lands_54 : decode cX9_lands 54 = .ok (.return_, 1) := dk_177 (dk_at dksX9_lands_2 6 rfl rfl)
def dkwX9_letters_5 : List UInt8 := [177]
abbrev dktX9_letters_5 : List UInt8 := dkwX9_letters_5 ++ []
def dkwX9_letters_4 : List UInt8 := [60, 27, 42, 180, 0, 9, 17, 8, 78, 46, 162, 0, 14, 42, 27, 182, 1, 140, 132, 1, 1, 167, 255, 236]
abbrev dktX9_letters_4 : List UInt8 := dkwX9_letters_4 ++ dktX9_letters_5
def dkwX9_letters_3 : List UInt8 := [16, 6, 27, 104, 96, 3, 96, 6, 79, 167, 0, 8, 42, 27, 182, 1, 137, 132, 1, 1, 167, 255, 168, 3]
abbrev dktX9_letters_3 : List UInt8 := dkwX9_letters_3 ++ dktX9_letters_4
def dkwX9_letters_2 : List UInt8 := [159, 0, 6, 167, 0, 37, 42, 27, 7, 182, 1, 61, 4, 160, 0, 22, 42, 180, 0, 9, 17, 6, 32]
abbrev dktX9_letters_2 : List UInt8 := dkwX9_letters_2 ++ dktX9_letters_3
def dkwX9_letters_1 : List UInt8 := [42, 27, 7, 182, 1, 61, 153, 0, 57, 42, 27, 8, 182, 1, 61, 42, 180, 0, 9, 17, 8, 68, 46]
abbrev dktX9_letters_1 : List UInt8 := dkwX9_letters_1 ++ dktX9_letters_2
def dkwX9_letters_0 : List UInt8 := [3, 60, 27, 42, 180, 0, 9, 17, 8, 77, 46, 162, 0, 82, 42, 27, 3, 182, 1, 61, 5, 160, 0, 66]
abbrev dktX9_letters_0 : List UInt8 := dkwX9_letters_0 ++ dktX9_letters_1
theorem dksX9_letters_0 : cX9_letters.data.toList.drop 0 = dktX9_letters_0 := by decide +kernel
theorem dksX9_letters_1 : cX9_letters.data.toList.drop 24 = dktX9_letters_1 := dk_seg dksX9_letters_0 24 rfl rfl
theorem dksX9_letters_2 : cX9_letters.data.toList.drop 47 = dktX9_letters_2 := dk_seg dksX9_letters_1 23 rfl rfl
theorem dksX9_letters_3 : cX9_letters.data.toList.drop 70 = dktX9_letters_3 := dk_seg dksX9_letters_2 23 rfl rfl
theorem dksX9_letters_4 : cX9_letters.data.toList.drop 94 = dktX9_letters_4 := dk_seg dksX9_letters_3 24 rfl rfl
theorem dksX9_letters_5 : cX9_letters.data.toList.drop 118 = dktX9_letters_5 := dk_seg dksX9_letters_4 24 rfl rfl
theorem dX9_letters_0 : decode cX9_letters 0 = .ok (.iconst 0, 1) := dk_3 (dk_at dksX9_letters_0 0 rfl rfl)
theorem dX9_letters_1 : decode cX9_letters 1 = .ok (.istore_n 1, 1) := dk_60 (dk_at dksX9_letters_0 1 rfl rfl)
theorem dX9_letters_2 : decode cX9_letters 2 = .ok (.iload_n 1, 1) := dk_27 (dk_at dksX9_letters_0 2 rfl rfl)
theorem dX9_letters_3 : decode cX9_letters 3 = .ok (.aload_n 0, 1) := dk_42 (dk_at dksX9_letters_0 3 rfl rfl)
theorem dX9_letters_4 : decode cX9_letters 4 = .ok (.getfield 9, 3) := dk_180 0 9 (dk_at dksX9_letters_0 4 rfl rfl)
theorem dX9_letters_7 : decode cX9_letters 7 = .ok (.sipush 2125, 3) := dk_17 8 77 (dk_at dksX9_letters_0 7 rfl rfl)
theorem dX9_letters_10 : decode cX9_letters 10 = .ok (.iaload, 1) := dk_46 (dk_at dksX9_letters_0 10 rfl rfl)
theorem dX9_letters_11 : decode cX9_letters 11 = .ok (.if_icmp .ge 82, 3) := dk_162 0 82 (dk_at dksX9_letters_0 11 rfl rfl)
theorem dX9_letters_14 : decode cX9_letters 14 = .ok (.aload_n 0, 1) := dk_42 (dk_at dksX9_letters_0 14 rfl rfl)
theorem dX9_letters_15 : decode cX9_letters 15 = .ok (.iload_n 1, 1) := dk_27 (dk_at dksX9_letters_0 15 rfl rfl)
theorem dX9_letters_16 : decode cX9_letters 16 = .ok (.iconst 0, 1) := dk_3 (dk_at dksX9_letters_0 16 rfl rfl)
theorem dX9_letters_17 : decode cX9_letters 17 = .ok (.invokevirtual 317, 3) := dk_182 1 61 (dk_at dksX9_letters_0 17 rfl rfl)
theorem dX9_letters_20 : decode cX9_letters 20 = .ok (.iconst 2, 1) := dk_5 (dk_at dksX9_letters_0 20 rfl rfl)
theorem dX9_letters_21 : decode cX9_letters 21 = .ok (.if_icmp .ne 66, 3) := dk_160 0 66 (dk_at dksX9_letters_0 21 rfl rfl)
theorem dX9_letters_24 : decode cX9_letters 24 = .ok (.aload_n 0, 1) := dk_42 (dk_at dksX9_letters_1 0 rfl rfl)
theorem dX9_letters_25 : decode cX9_letters 25 = .ok (.iload_n 1, 1) := dk_27 (dk_at dksX9_letters_1 1 rfl rfl)
theorem dX9_letters_26 : decode cX9_letters 26 = .ok (.iconst 4, 1) := dk_7 (dk_at dksX9_letters_1 2 rfl rfl)
theorem dX9_letters_27 : decode cX9_letters 27 = .ok (.invokevirtual 317, 3) := dk_182 1 61 (dk_at dksX9_letters_1 3 rfl rfl)
theorem dX9_letters_30 : decode cX9_letters 30 = .ok (.ifCond .eq 57, 3) := dk_153 0 57 (dk_at dksX9_letters_1 6 rfl rfl)
theorem dX9_letters_33 : decode cX9_letters 33 = .ok (.aload_n 0, 1) := dk_42 (dk_at dksX9_letters_1 9 rfl rfl)
theorem dX9_letters_34 : decode cX9_letters 34 = .ok (.iload_n 1, 1) := dk_27 (dk_at dksX9_letters_1 10 rfl rfl)
theorem dX9_letters_35 : decode cX9_letters 35 = .ok (.iconst 5, 1) := dk_8 (dk_at dksX9_letters_1 11 rfl rfl)
theorem dX9_letters_36 : decode cX9_letters 36 = .ok (.invokevirtual 317, 3) := dk_182 1 61 (dk_at dksX9_letters_1 12 rfl rfl)
theorem dX9_letters_39 : decode cX9_letters 39 = .ok (.aload_n 0, 1) := dk_42 (dk_at dksX9_letters_1 15 rfl rfl)
theorem dX9_letters_40 : decode cX9_letters 40 = .ok (.getfield 9, 3) := dk_180 0 9 (dk_at dksX9_letters_1 16 rfl rfl)
theorem dX9_letters_43 : decode cX9_letters 43 = .ok (.sipush 2116, 3) := dk_17 8 68 (dk_at dksX9_letters_1 19 rfl rfl)
theorem dX9_letters_46 : decode cX9_letters 46 = .ok (.iaload, 1) := dk_46 (dk_at dksX9_letters_1 22 rfl rfl)
theorem dX9_letters_47 : decode cX9_letters 47 = .ok (.if_icmp .eq 6, 3) := dk_159 0 6 (dk_at dksX9_letters_2 0 rfl rfl)
theorem dX9_letters_50 : decode cX9_letters 50 = .ok (.goto 37, 3) := dk_167 0 37 (dk_at dksX9_letters_2 3 rfl rfl)
theorem dX9_letters_53 : decode cX9_letters 53 = .ok (.aload_n 0, 1) := dk_42 (dk_at dksX9_letters_2 6 rfl rfl)
theorem dX9_letters_54 : decode cX9_letters 54 = .ok (.iload_n 1, 1) := dk_27 (dk_at dksX9_letters_2 7 rfl rfl)
theorem dX9_letters_55 : decode cX9_letters 55 = .ok (.iconst 4, 1) := dk_7 (dk_at dksX9_letters_2 8 rfl rfl)
theorem dX9_letters_56 : decode cX9_letters 56 = .ok (.invokevirtual 317, 3) := dk_182 1 61 (dk_at dksX9_letters_2 9 rfl rfl)
theorem dX9_letters_59 : decode cX9_letters 59 = .ok (.iconst 1, 1) := dk_4 (dk_at dksX9_letters_2 12 rfl rfl)
theorem dX9_letters_60 : decode cX9_letters 60 = .ok (.if_icmp .ne 22, 3) := dk_160 0 22 (dk_at dksX9_letters_2 13 rfl rfl)
theorem dX9_letters_63 : decode cX9_letters 63 = .ok (.aload_n 0, 1) := dk_42 (dk_at dksX9_letters_2 16 rfl rfl)
theorem dX9_letters_64 : decode cX9_letters 64 = .ok (.getfield 9, 3) := dk_180 0 9 (dk_at dksX9_letters_2 17 rfl rfl)
theorem dX9_letters_67 : decode cX9_letters 67 = .ok (.sipush 1568, 3) := dk_17 6 32 (dk_at dksX9_letters_2 20 rfl rfl)
theorem dX9_letters_70 : decode cX9_letters 70 = .ok (.bipush 6, 2) := dk_16 6 (dk_at dksX9_letters_3 0 rfl rfl)
theorem dX9_letters_72 : decode cX9_letters 72 = .ok (.iload_n 1, 1) := dk_27 (dk_at dksX9_letters_3 2 rfl rfl)
theorem dX9_letters_73 : decode cX9_letters 73 = .ok (.imul, 1) := dk_104 (dk_at dksX9_letters_3 3 rfl rfl)
theorem dX9_letters_74 : decode cX9_letters 74 = .ok (.iadd, 1) := dk_96 (dk_at dksX9_letters_3 4 rfl rfl)
theorem dX9_letters_75 : decode cX9_letters 75 = .ok (.iconst 0, 1) := dk_3 (dk_at dksX9_letters_3 5 rfl rfl)
theorem dX9_letters_76 : decode cX9_letters 76 = .ok (.iadd, 1) := dk_96 (dk_at dksX9_letters_3 6 rfl rfl)
theorem dX9_letters_77 : decode cX9_letters 77 = .ok (.iconst 3, 1) := dk_6 (dk_at dksX9_letters_3 7 rfl rfl)
theorem dX9_letters_78 : decode cX9_letters 78 = .ok (.iastore, 1) := dk_79 (dk_at dksX9_letters_3 8 rfl rfl)
theorem dX9_letters_79 : decode cX9_letters 79 = .ok (.goto 8, 3) := dk_167 0 8 (dk_at dksX9_letters_3 9 rfl rfl)
theorem dX9_letters_82 : decode cX9_letters 82 = .ok (.aload_n 0, 1) := dk_42 (dk_at dksX9_letters_3 12 rfl rfl)
theorem dX9_letters_83 : decode cX9_letters 83 = .ok (.iload_n 1, 1) := dk_27 (dk_at dksX9_letters_3 13 rfl rfl)
theorem dX9_letters_84 : decode cX9_letters 84 = .ok (.invokevirtual 393, 3) := dk_182 1 137 (dk_at dksX9_letters_3 14 rfl rfl)
theorem dX9_letters_87 : decode cX9_letters 87 = .ok (.iinc 1 1, 3) := dk_132 1 1 (dk_at dksX9_letters_3 17 rfl rfl)
theorem dX9_letters_90 : decode cX9_letters 90 = .ok (.goto (-88), 3) := dk_167 255 168 (dk_at dksX9_letters_3 20 rfl rfl)
theorem dX9_letters_93 : decode cX9_letters 93 = .ok (.iconst 0, 1) := dk_3 (dk_at dksX9_letters_3 23 rfl rfl)
theorem dX9_letters_94 : decode cX9_letters 94 = .ok (.istore_n 1, 1) := dk_60 (dk_at dksX9_letters_4 0 rfl rfl)
theorem dX9_letters_95 : decode cX9_letters 95 = .ok (.iload_n 1, 1) := dk_27 (dk_at dksX9_letters_4 1 rfl rfl)
theorem dX9_letters_96 : decode cX9_letters 96 = .ok (.aload_n 0, 1) := dk_42 (dk_at dksX9_letters_4 2 rfl rfl)
theorem dX9_letters_97 : decode cX9_letters 97 = .ok (.getfield 9, 3) := dk_180 0 9 (dk_at dksX9_letters_4 3 rfl rfl)
theorem dX9_letters_100 : decode cX9_letters 100 = .ok (.sipush 2126, 3) := dk_17 8 78 (dk_at dksX9_letters_4 6 rfl rfl)
theorem dX9_letters_103 : decode cX9_letters 103 = .ok (.iaload, 1) := dk_46 (dk_at dksX9_letters_4 9 rfl rfl)
theorem dX9_letters_104 : decode cX9_letters 104 = .ok (.if_icmp .ge 14, 3) := dk_162 0 14 (dk_at dksX9_letters_4 10 rfl rfl)
theorem dX9_letters_107 : decode cX9_letters 107 = .ok (.aload_n 0, 1) := dk_42 (dk_at dksX9_letters_4 13 rfl rfl)
theorem dX9_letters_108 : decode cX9_letters 108 = .ok (.iload_n 1, 1) := dk_27 (dk_at dksX9_letters_4 14 rfl rfl)
theorem dX9_letters_109 : decode cX9_letters 109 = .ok (.invokevirtual 396, 3) := dk_182 1 140 (dk_at dksX9_letters_4 15 rfl rfl)
theorem dX9_letters_112 : decode cX9_letters 112 = .ok (.iinc 1 1, 3) := dk_132 1 1 (dk_at dksX9_letters_4 18 rfl rfl)
theorem dX9_letters_115 : decode cX9_letters 115 = .ok (.goto (-20), 3) := dk_167 255 236 (dk_at dksX9_letters_4 21 rfl rfl)
theorem dX9_letters_118 : decode cX9_letters 118 = .ok (.return_, 1) := dk_177 (dk_at dksX9_letters_5 0 rfl rfl)
def dkwX9_undoes_4 : List UInt8 := [4, 2, 182, 0, 147, 42, 29, 182, 1, 104, 132, 2, 1, 167, 255, 167, 177]
abbrev dktX9_undoes_4 : List UInt8 := dkwX9_undoes_4 ++ []
def dkwX9_undoes_3 : List UInt8 := [54, 4, 42, 180, 0, 9, 17, 8, 70, 92, 46, 21, 4, 100, 79, 42, 29, 21, 4, 182, 1, 101, 42, 28]
abbrev dktX9_undoes_3 : List UInt8 := dkwX9_undoes_3 ++ dktX9_undoes_4
def dkwX9_undoes_2 : List UInt8 := [182, 0, 88, 27, 159, 0, 6, 167, 0, 50, 42, 28, 4, 182, 0, 88, 62, 42, 28, 8, 182, 0, 88]
abbrev dktX9_undoes_2 : List UInt8 := dkwX9_undoes_2 ++ dktX9_undoes_3
def dkwX9_undoes_1 : List UInt8 := [42, 180, 0, 49, 27, 51, 153, 0, 80, 42, 28, 3, 182, 0, 88, 6, 160, 0, 64, 42, 28, 16, 6]
abbrev dktX9_undoes_1 : List UInt8 := dkwX9_undoes_1 ++ dktX9_undoes_2
def dkwX9_undoes_0 : List UInt8 := [42, 180, 0, 9, 17, 6, 32, 16, 6, 27, 104, 96, 3, 96, 7, 79, 3, 61, 28, 16, 96, 162, 0, 89]
abbrev dktX9_undoes_0 : List UInt8 := dkwX9_undoes_0 ++ dktX9_undoes_1
theorem dksX9_undoes_0 : cX9_undoes.data.toList.drop 0 = dktX9_undoes_0 := by decide +kernel
theorem dksX9_undoes_1 : cX9_undoes.data.toList.drop 24 = dktX9_undoes_1 := dk_seg dksX9_undoes_0 24 rfl rfl
theorem dksX9_undoes_2 : cX9_undoes.data.toList.drop 47 = dktX9_undoes_2 := dk_seg dksX9_undoes_1 23 rfl rfl
theorem dksX9_undoes_3 : cX9_undoes.data.toList.drop 70 = dktX9_undoes_3 := dk_seg dksX9_undoes_2 23 rfl rfl
theorem dksX9_undoes_4 : cX9_undoes.data.toList.drop 94 = dktX9_undoes_4 := dk_seg dksX9_undoes_3 24 rfl rfl
theorem dX9_undoes_0 : decode cX9_undoes 0 = .ok (.aload_n 0, 1) := dk_42 (dk_at dksX9_undoes_0 0 rfl rfl)
theorem dX9_undoes_1 : decode cX9_undoes 1 = .ok (.getfield 9, 3) := dk_180 0 9 (dk_at dksX9_undoes_0 1 rfl rfl)
theorem dX9_undoes_4 : decode cX9_undoes 4 = .ok (.sipush 1568, 3) := dk_17 6 32 (dk_at dksX9_undoes_0 4 rfl rfl)
theorem dX9_undoes_7 : decode cX9_undoes 7 = .ok (.bipush 6, 2) := dk_16 6 (dk_at dksX9_undoes_0 7 rfl rfl)
theorem dX9_undoes_9 : decode cX9_undoes 9 = .ok (.iload_n 1, 1) := dk_27 (dk_at dksX9_undoes_0 9 rfl rfl)
theorem dX9_undoes_10 : decode cX9_undoes 10 = .ok (.imul, 1) := dk_104 (dk_at dksX9_undoes_0 10 rfl rfl)
theorem dX9_undoes_11 : decode cX9_undoes 11 = .ok (.iadd, 1) := dk_96 (dk_at dksX9_undoes_0 11 rfl rfl)
theorem dX9_undoes_12 : decode cX9_undoes 12 = .ok (.iconst 0, 1) := dk_3 (dk_at dksX9_undoes_0 12 rfl rfl)
theorem dX9_undoes_13 : decode cX9_undoes 13 = .ok (.iadd, 1) := dk_96 (dk_at dksX9_undoes_0 13 rfl rfl)
theorem dX9_undoes_14 : decode cX9_undoes 14 = .ok (.iconst 4, 1) := dk_7 (dk_at dksX9_undoes_0 14 rfl rfl)
theorem dX9_undoes_15 : decode cX9_undoes 15 = .ok (.iastore, 1) := dk_79 (dk_at dksX9_undoes_0 15 rfl rfl)
theorem dX9_undoes_16 : decode cX9_undoes 16 = .ok (.iconst 0, 1) := dk_3 (dk_at dksX9_undoes_0 16 rfl rfl)
theorem dX9_undoes_17 : decode cX9_undoes 17 = .ok (.istore_n 2, 1) := dk_61 (dk_at dksX9_undoes_0 17 rfl rfl)
theorem dX9_undoes_18 : decode cX9_undoes 18 = .ok (.iload_n 2, 1) := dk_28 (dk_at dksX9_undoes_0 18 rfl rfl)
theorem dX9_undoes_19 : decode cX9_undoes 19 = .ok (.bipush 96, 2) := dk_16 96 (dk_at dksX9_undoes_0 19 rfl rfl)
theorem dX9_undoes_21 : decode cX9_undoes 21 = .ok (.if_icmp .ge 89, 3) := dk_162 0 89 (dk_at dksX9_undoes_0 21 rfl rfl)
theorem dX9_undoes_24 : decode cX9_undoes 24 = .ok (.aload_n 0, 1) := dk_42 (dk_at dksX9_undoes_1 0 rfl rfl)
theorem dX9_undoes_25 : decode cX9_undoes 25 = .ok (.getfield 49, 3) := dk_180 0 49 (dk_at dksX9_undoes_1 1 rfl rfl)
theorem dX9_undoes_28 : decode cX9_undoes 28 = .ok (.iload_n 1, 1) := dk_27 (dk_at dksX9_undoes_1 4 rfl rfl)
theorem dX9_undoes_29 : decode cX9_undoes 29 = .ok (.baload, 1) := dk_51 (dk_at dksX9_undoes_1 5 rfl rfl)
theorem dX9_undoes_30 : decode cX9_undoes 30 = .ok (.ifCond .eq 80, 3) := dk_153 0 80 (dk_at dksX9_undoes_1 6 rfl rfl)
theorem dX9_undoes_33 : decode cX9_undoes 33 = .ok (.aload_n 0, 1) := dk_42 (dk_at dksX9_undoes_1 9 rfl rfl)
theorem dX9_undoes_34 : decode cX9_undoes 34 = .ok (.iload_n 2, 1) := dk_28 (dk_at dksX9_undoes_1 10 rfl rfl)
theorem dX9_undoes_35 : decode cX9_undoes 35 = .ok (.iconst 0, 1) := dk_3 (dk_at dksX9_undoes_1 11 rfl rfl)
theorem dX9_undoes_36 : decode cX9_undoes 36 = .ok (.invokevirtual 88, 3) := dk_182 0 88 (dk_at dksX9_undoes_1 12 rfl rfl)
theorem dX9_undoes_39 : decode cX9_undoes 39 = .ok (.iconst 3, 1) := dk_6 (dk_at dksX9_undoes_1 15 rfl rfl)
theorem dX9_undoes_40 : decode cX9_undoes 40 = .ok (.if_icmp .ne 64, 3) := dk_160 0 64 (dk_at dksX9_undoes_1 16 rfl rfl)
theorem dX9_undoes_43 : decode cX9_undoes 43 = .ok (.aload_n 0, 1) := dk_42 (dk_at dksX9_undoes_1 19 rfl rfl)
theorem dX9_undoes_44 : decode cX9_undoes 44 = .ok (.iload_n 2, 1) := dk_28 (dk_at dksX9_undoes_1 20 rfl rfl)
theorem dX9_undoes_45 : decode cX9_undoes 45 = .ok (.bipush 6, 2) := dk_16 6 (dk_at dksX9_undoes_1 21 rfl rfl)
theorem dX9_undoes_47 : decode cX9_undoes 47 = .ok (.invokevirtual 88, 3) := dk_182 0 88 (dk_at dksX9_undoes_2 0 rfl rfl)
theorem dX9_undoes_50 : decode cX9_undoes 50 = .ok (.iload_n 1, 1) := dk_27 (dk_at dksX9_undoes_2 3 rfl rfl)
theorem dX9_undoes_51 : decode cX9_undoes 51 = .ok (.if_icmp .eq 6, 3) := dk_159 0 6 (dk_at dksX9_undoes_2 4 rfl rfl)
theorem dX9_undoes_54 : decode cX9_undoes 54 = .ok (.goto 50, 3) := dk_167 0 50 (dk_at dksX9_undoes_2 7 rfl rfl)
theorem dX9_undoes_57 : decode cX9_undoes 57 = .ok (.aload_n 0, 1) := dk_42 (dk_at dksX9_undoes_2 10 rfl rfl)
theorem dX9_undoes_58 : decode cX9_undoes 58 = .ok (.iload_n 2, 1) := dk_28 (dk_at dksX9_undoes_2 11 rfl rfl)
theorem dX9_undoes_59 : decode cX9_undoes 59 = .ok (.iconst 1, 1) := dk_4 (dk_at dksX9_undoes_2 12 rfl rfl)
theorem dX9_undoes_60 : decode cX9_undoes 60 = .ok (.invokevirtual 88, 3) := dk_182 0 88 (dk_at dksX9_undoes_2 13 rfl rfl)
theorem dX9_undoes_63 : decode cX9_undoes 63 = .ok (.istore_n 3, 1) := dk_62 (dk_at dksX9_undoes_2 16 rfl rfl)
theorem dX9_undoes_64 : decode cX9_undoes 64 = .ok (.aload_n 0, 1) := dk_42 (dk_at dksX9_undoes_2 17 rfl rfl)
theorem dX9_undoes_65 : decode cX9_undoes 65 = .ok (.iload_n 2, 1) := dk_28 (dk_at dksX9_undoes_2 18 rfl rfl)
theorem dX9_undoes_66 : decode cX9_undoes 66 = .ok (.iconst 5, 1) := dk_8 (dk_at dksX9_undoes_2 19 rfl rfl)
theorem dX9_undoes_67 : decode cX9_undoes 67 = .ok (.invokevirtual 88, 3) := dk_182 0 88 (dk_at dksX9_undoes_2 20 rfl rfl)
theorem dX9_undoes_70 : decode cX9_undoes 70 = .ok (.istore 4, 2) := dk_54 4 (dk_at dksX9_undoes_3 0 rfl rfl)
theorem dX9_undoes_72 : decode cX9_undoes 72 = .ok (.aload_n 0, 1) := dk_42 (dk_at dksX9_undoes_3 2 rfl rfl)
theorem dX9_undoes_73 : decode cX9_undoes 73 = .ok (.getfield 9, 3) := dk_180 0 9 (dk_at dksX9_undoes_3 3 rfl rfl)
theorem dX9_undoes_76 : decode cX9_undoes 76 = .ok (.sipush 2118, 3) := dk_17 8 70 (dk_at dksX9_undoes_3 6 rfl rfl)
theorem dX9_undoes_79 : decode cX9_undoes 79 = .ok (.dup2, 1) := dk_92 (dk_at dksX9_undoes_3 9 rfl rfl)
theorem dX9_undoes_80 : decode cX9_undoes 80 = .ok (.iaload, 1) := dk_46 (dk_at dksX9_undoes_3 10 rfl rfl)
theorem dX9_undoes_81 : decode cX9_undoes 81 = .ok (.iload 4, 2) := dk_21 4 (dk_at dksX9_undoes_3 11 rfl rfl)
theorem dX9_undoes_83 : decode cX9_undoes 83 = .ok (.isub, 1) := dk_100 (dk_at dksX9_undoes_3 13 rfl rfl)
theorem dX9_undoes_84 : decode cX9_undoes 84 = .ok (.iastore, 1) := dk_79 (dk_at dksX9_undoes_3 14 rfl rfl)
theorem dX9_undoes_85 : decode cX9_undoes 85 = .ok (.aload_n 0, 1) := dk_42 (dk_at dksX9_undoes_3 15 rfl rfl)
theorem dX9_undoes_86 : decode cX9_undoes 86 = .ok (.iload_n 3, 1) := dk_29 (dk_at dksX9_undoes_3 16 rfl rfl)
theorem dX9_undoes_87 : decode cX9_undoes 87 = .ok (.iload 4, 2) := dk_21 4 (dk_at dksX9_undoes_3 17 rfl rfl)
theorem dX9_undoes_89 : decode cX9_undoes 89 = .ok (.invokevirtual 357, 3) := dk_182 1 101 (dk_at dksX9_undoes_3 19 rfl rfl)
theorem dX9_undoes_92 : decode cX9_undoes 92 = .ok (.aload_n 0, 1) := dk_42 (dk_at dksX9_undoes_3 22 rfl rfl)
theorem dX9_undoes_93 : decode cX9_undoes 93 = .ok (.iload_n 2, 1) := dk_28 (dk_at dksX9_undoes_3 23 rfl rfl)
theorem dX9_undoes_94 : decode cX9_undoes 94 = .ok (.iconst 1, 1) := dk_4 (dk_at dksX9_undoes_4 0 rfl rfl)
theorem dX9_undoes_95 : decode cX9_undoes 95 = .ok (.iconst (-1), 1) := dk_2 (dk_at dksX9_undoes_4 1 rfl rfl)
theorem dX9_undoes_96 : decode cX9_undoes 96 = .ok (.invokevirtual 147, 3) := dk_182 0 147 (dk_at dksX9_undoes_4 2 rfl rfl)
theorem dX9_undoes_99 : decode cX9_undoes 99 = .ok (.aload_n 0, 1) := dk_42 (dk_at dksX9_undoes_4 5 rfl rfl)
theorem dX9_undoes_100 : decode cX9_undoes 100 = .ok (.iload_n 3, 1) := dk_29 (dk_at dksX9_undoes_4 6 rfl rfl)
theorem dX9_undoes_101 : decode cX9_undoes 101 = .ok (.invokevirtual 360, 3) := dk_182 1 104 (dk_at dksX9_undoes_4 7 rfl rfl)
theorem dX9_undoes_104 : decode cX9_undoes 104 = .ok (.iinc 2 1, 3) := dk_132 2 1 (dk_at dksX9_undoes_4 10 rfl rfl)
theorem dX9_undoes_107 : decode cX9_undoes 107 = .ok (.goto (-89), 3) := dk_167 255 167 (dk_at dksX9_undoes_4 13 rfl rfl)
theorem dX9_undoes_110 : decode cX9_undoes 110 = .ok (.return_, 1) := dk_177 (dk_at dksX9_undoes_4 16 rfl rfl)
def dkwX9_loses_3 : List UInt8 := [28, 6, 2, 182, 0, 113, 132, 2, 1, 167, 255, 204, 177]
abbrev dktX9_loses_3 : List UInt8 := dkwX9_loses_3 ++ []
def dkwX9_loses_2 : List UInt8 := [160, 0, 30, 42, 28, 6, 182, 0, 76, 27, 159, 0, 6, 167, 0, 17, 42, 28, 5, 5, 182, 0, 113, 42]
abbrev dktX9_loses_2 : List UInt8 := dkwX9_loses_2 ++ dktX9_loses_3
def dkwX9_loses_1 : List UInt8 := [182, 0, 113, 3, 61, 28, 42, 180, 0, 9, 17, 8, 76, 46, 162, 0, 46, 42, 28, 5, 182, 0, 76, 6]
abbrev dktX9_loses_1 : List UInt8 := dkwX9_loses_1 ++ dktX9_loses_2
def dkwX9_loses_0 : List UInt8 := [42, 27, 5, 182, 0, 76, 7, 160, 0, 11, 42, 27, 182, 0, 131, 158, 0, 4, 177, 42, 27, 5, 5]
abbrev dktX9_loses_0 : List UInt8 := dkwX9_loses_0 ++ dktX9_loses_1
theorem dksX9_loses_0 : cX9_loses.data.toList.drop 0 = dktX9_loses_0 := by decide +kernel
theorem dksX9_loses_1 : cX9_loses.data.toList.drop 23 = dktX9_loses_1 := dk_seg dksX9_loses_0 23 rfl rfl
theorem dksX9_loses_2 : cX9_loses.data.toList.drop 47 = dktX9_loses_2 := dk_seg dksX9_loses_1 24 rfl rfl
theorem dksX9_loses_3 : cX9_loses.data.toList.drop 71 = dktX9_loses_3 := dk_seg dksX9_loses_2 24 rfl rfl
theorem dX9_loses_0 : decode cX9_loses 0 = .ok (.aload_n 0, 1) := dk_42 (dk_at dksX9_loses_0 0 rfl rfl)
theorem dX9_loses_1 : decode cX9_loses 1 = .ok (.iload_n 1, 1) := dk_27 (dk_at dksX9_loses_0 1 rfl rfl)
theorem dX9_loses_2 : decode cX9_loses 2 = .ok (.iconst 2, 1) := dk_5 (dk_at dksX9_loses_0 2 rfl rfl)
theorem dX9_loses_3 : decode cX9_loses 3 = .ok (.invokevirtual 76, 3) := dk_182 0 76 (dk_at dksX9_loses_0 3 rfl rfl)
theorem dX9_loses_6 : decode cX9_loses 6 = .ok (.iconst 4, 1) := dk_7 (dk_at dksX9_loses_0 6 rfl rfl)
theorem dX9_loses_7 : decode cX9_loses 7 = .ok (.if_icmp .ne 11, 3) := dk_160 0 11 (dk_at dksX9_loses_0 7 rfl rfl)
theorem dX9_loses_10 : decode cX9_loses 10 = .ok (.aload_n 0, 1) := dk_42 (dk_at dksX9_loses_0 10 rfl rfl)
theorem dX9_loses_11 : decode cX9_loses 11 = .ok (.iload_n 1, 1) := dk_27 (dk_at dksX9_loses_0 11 rfl rfl)
theorem dX9_loses_12 : decode cX9_loses 12 = .ok (.invokevirtual 131, 3) := dk_182 0 131 (dk_at dksX9_loses_0 12 rfl rfl)
theorem dX9_loses_15 : decode cX9_loses 15 = .ok (.ifCond .le 4, 3) := dk_158 0 4 (dk_at dksX9_loses_0 15 rfl rfl)
theorem dX9_loses_18 : decode cX9_loses 18 = .ok (.return_, 1) := dk_177 (dk_at dksX9_loses_0 18 rfl rfl)
theorem dX9_loses_19 : decode cX9_loses 19 = .ok (.aload_n 0, 1) := dk_42 (dk_at dksX9_loses_0 19 rfl rfl)
theorem dX9_loses_20 : decode cX9_loses 20 = .ok (.iload_n 1, 1) := dk_27 (dk_at dksX9_loses_0 20 rfl rfl)
theorem dX9_loses_21 : decode cX9_loses 21 = .ok (.iconst 2, 1) := dk_5 (dk_at dksX9_loses_0 21 rfl rfl)
theorem dX9_loses_22 : decode cX9_loses 22 = .ok (.iconst 2, 1) := dk_5 (dk_at dksX9_loses_0 22 rfl rfl)
theorem dX9_loses_23 : decode cX9_loses 23 = .ok (.invokevirtual 113, 3) := dk_182 0 113 (dk_at dksX9_loses_1 0 rfl rfl)
theorem dX9_loses_26 : decode cX9_loses 26 = .ok (.iconst 0, 1) := dk_3 (dk_at dksX9_loses_1 3 rfl rfl)
theorem dX9_loses_27 : decode cX9_loses 27 = .ok (.istore_n 2, 1) := dk_61 (dk_at dksX9_loses_1 4 rfl rfl)
theorem dX9_loses_28 : decode cX9_loses 28 = .ok (.iload_n 2, 1) := dk_28 (dk_at dksX9_loses_1 5 rfl rfl)
theorem dX9_loses_29 : decode cX9_loses 29 = .ok (.aload_n 0, 1) := dk_42 (dk_at dksX9_loses_1 6 rfl rfl)
theorem dX9_loses_30 : decode cX9_loses 30 = .ok (.getfield 9, 3) := dk_180 0 9 (dk_at dksX9_loses_1 7 rfl rfl)
theorem dX9_loses_33 : decode cX9_loses 33 = .ok (.sipush 2124, 3) := dk_17 8 76 (dk_at dksX9_loses_1 10 rfl rfl)
theorem dX9_loses_36 : decode cX9_loses 36 = .ok (.iaload, 1) := dk_46 (dk_at dksX9_loses_1 13 rfl rfl)
theorem dX9_loses_37 : decode cX9_loses 37 = .ok (.if_icmp .ge 46, 3) := dk_162 0 46 (dk_at dksX9_loses_1 14 rfl rfl)
theorem dX9_loses_40 : decode cX9_loses 40 = .ok (.aload_n 0, 1) := dk_42 (dk_at dksX9_loses_1 17 rfl rfl)
theorem dX9_loses_41 : decode cX9_loses 41 = .ok (.iload_n 2, 1) := dk_28 (dk_at dksX9_loses_1 18 rfl rfl)
theorem dX9_loses_42 : decode cX9_loses 42 = .ok (.iconst 2, 1) := dk_5 (dk_at dksX9_loses_1 19 rfl rfl)
theorem dX9_loses_43 : decode cX9_loses 43 = .ok (.invokevirtual 76, 3) := dk_182 0 76 (dk_at dksX9_loses_1 20 rfl rfl)
theorem dX9_loses_46 : decode cX9_loses 46 = .ok (.iconst 3, 1) := dk_6 (dk_at dksX9_loses_1 23 rfl rfl)
theorem dX9_loses_47 : decode cX9_loses 47 = .ok (.if_icmp .ne 30, 3) := dk_160 0 30 (dk_at dksX9_loses_2 0 rfl rfl)
theorem dX9_loses_50 : decode cX9_loses 50 = .ok (.aload_n 0, 1) := dk_42 (dk_at dksX9_loses_2 3 rfl rfl)
theorem dX9_loses_51 : decode cX9_loses 51 = .ok (.iload_n 2, 1) := dk_28 (dk_at dksX9_loses_2 4 rfl rfl)
theorem dX9_loses_52 : decode cX9_loses 52 = .ok (.iconst 3, 1) := dk_6 (dk_at dksX9_loses_2 5 rfl rfl)
theorem dX9_loses_53 : decode cX9_loses 53 = .ok (.invokevirtual 76, 3) := dk_182 0 76 (dk_at dksX9_loses_2 6 rfl rfl)
theorem dX9_loses_56 : decode cX9_loses 56 = .ok (.iload_n 1, 1) := dk_27 (dk_at dksX9_loses_2 9 rfl rfl)
theorem dX9_loses_57 : decode cX9_loses 57 = .ok (.if_icmp .eq 6, 3) := dk_159 0 6 (dk_at dksX9_loses_2 10 rfl rfl)
theorem dX9_loses_60 : decode cX9_loses 60 = .ok (.goto 17, 3) := dk_167 0 17 (dk_at dksX9_loses_2 13 rfl rfl)
theorem dX9_loses_63 : decode cX9_loses 63 = .ok (.aload_n 0, 1) := dk_42 (dk_at dksX9_loses_2 16 rfl rfl)
theorem dX9_loses_64 : decode cX9_loses 64 = .ok (.iload_n 2, 1) := dk_28 (dk_at dksX9_loses_2 17 rfl rfl)
theorem dX9_loses_65 : decode cX9_loses 65 = .ok (.iconst 2, 1) := dk_5 (dk_at dksX9_loses_2 18 rfl rfl)
theorem dX9_loses_66 : decode cX9_loses 66 = .ok (.iconst 2, 1) := dk_5 (dk_at dksX9_loses_2 19 rfl rfl)
theorem dX9_loses_67 : decode cX9_loses 67 = .ok (.invokevirtual 113, 3) := dk_182 0 113 (dk_at dksX9_loses_2 20 rfl rfl)
theorem dX9_loses_70 : decode cX9_loses 70 = .ok (.aload_n 0, 1) := dk_42 (dk_at dksX9_loses_2 23 rfl rfl)
theorem dX9_loses_71 : decode cX9_loses 71 = .ok (.iload_n 2, 1) := dk_28 (dk_at dksX9_loses_3 0 rfl rfl)
theorem dX9_loses_72 : decode cX9_loses 72 = .ok (.iconst 3, 1) := dk_6 (dk_at dksX9_loses_3 1 rfl rfl)
theorem dX9_loses_73 : decode cX9_loses 73 = .ok (.iconst (-1), 1) := dk_2 (dk_at dksX9_loses_3 2 rfl rfl)
theorem dX9_loses_74 : decode cX9_loses 74 = .ok (.invokevirtual 113, 3) := dk_182 0 113 (dk_at dksX9_loses_3 3 rfl rfl)
theorem dX9_loses_77 : decode cX9_loses 77 = .ok (.iinc 2 1, 3) := dk_132 2 1 (dk_at dksX9_loses_3 6 rfl rfl)
theorem dX9_loses_80 : decode cX9_loses 80 = .ok (.goto (-52), 3) := dk_167 255 204 (dk_at dksX9_loses_3 9 rfl rfl)
theorem dX9_loses_83 : decode cX9_loses 83 = .ok (.return_, 1) := dk_177 (dk_at dksX9_loses_3 12 rfl rfl)
def dkwX9_reads_7 : List UInt8 := [28, 6, 96, 42, 180, 0, 9, 17, 8, 68, 46, 16, 34, 96, 79, 177]
abbrev dktX9_reads_7 : List UInt8 := dkwX9_reads_7 ++ []
def dkwX9_reads_6 : List UInt8 := [180, 0, 9, 28, 5, 96, 4, 79, 167, 0, 31, 42, 180, 0, 9, 28, 5, 96, 5, 79, 42, 180, 0, 9]
abbrev dktX9_reads_6 : List UInt8 := dkwX9_reads_6 ++ dktX9_reads_7
def dkwX9_reads_5 : List UInt8 := [180, 0, 9, 17, 8, 75, 46, 29, 161, 0, 27, 42, 180, 0, 9, 17, 8, 75, 92, 46, 29, 100, 79, 42]
abbrev dktX9_reads_5 : List UInt8 := dkwX9_reads_5 ++ dktX9_reads_6
def dkwX9_reads_4 : List UInt8 := [180, 0, 9, 28, 4, 96, 46, 96, 100, 79, 42, 180, 0, 9, 28, 5, 96, 6, 79, 167, 0, 67, 42]
abbrev dktX9_reads_4 : List UInt8 := dkwX9_reads_4 ++ dktX9_reads_5
def dkwX9_reads_3 : List UInt8 := [160, 0, 44, 42, 180, 0, 9, 17, 8, 70, 92, 46, 29, 29, 16, 20, 104, 16, 100, 108, 96, 42]
abbrev dktX9_reads_3 : List UInt8 := dkwX9_reads_3 ++ dktX9_reads_4
def dkwX9_reads_2 : List UInt8 := [42, 180, 0, 9, 28, 5, 96, 46, 6, 160, 0, 4, 177, 42, 180, 0, 9, 28, 5, 96, 46, 5]
abbrev dktX9_reads_2 : List UInt8 := dkwX9_reads_2 ++ dktX9_reads_3
def dkwX9_reads_1 : List UInt8 := [46, 42, 180, 0, 9, 17, 8, 68, 46, 160, 0, 27, 42, 180, 0, 9, 28, 5, 96, 46, 4, 159, 0, 15]
abbrev dktX9_reads_1 : List UInt8 := dkwX9_reads_1 ++ dktX9_reads_2
def dkwX9_reads_0 : List UInt8 := [17, 6, 104, 7, 27, 104, 96, 61, 42, 180, 0, 9, 28, 3, 96, 46, 62, 42, 180, 0, 9, 28, 6, 96]
abbrev dktX9_reads_0 : List UInt8 := dkwX9_reads_0 ++ dktX9_reads_1
theorem dksX9_reads_0 : cX9_reads.data.toList.drop 0 = dktX9_reads_0 := by decide +kernel
theorem dksX9_reads_1 : cX9_reads.data.toList.drop 24 = dktX9_reads_1 := dk_seg dksX9_reads_0 24 rfl rfl
theorem dksX9_reads_2 : cX9_reads.data.toList.drop 48 = dktX9_reads_2 := dk_seg dksX9_reads_1 24 rfl rfl
theorem dksX9_reads_3 : cX9_reads.data.toList.drop 70 = dktX9_reads_3 := dk_seg dksX9_reads_2 22 rfl rfl
theorem dksX9_reads_4 : cX9_reads.data.toList.drop 92 = dktX9_reads_4 := dk_seg dksX9_reads_3 22 rfl rfl
theorem dksX9_reads_5 : cX9_reads.data.toList.drop 115 = dktX9_reads_5 := dk_seg dksX9_reads_4 23 rfl rfl
theorem dksX9_reads_6 : cX9_reads.data.toList.drop 139 = dktX9_reads_6 := dk_seg dksX9_reads_5 24 rfl rfl
theorem dksX9_reads_7 : cX9_reads.data.toList.drop 163 = dktX9_reads_7 := dk_seg dksX9_reads_6 24 rfl rfl
theorem dX9_reads_0 : decode cX9_reads 0 = .ok (.sipush 1640, 3) := dk_17 6 104 (dk_at dksX9_reads_0 0 rfl rfl)
theorem dX9_reads_3 : decode cX9_reads 3 = .ok (.iconst 4, 1) := dk_7 (dk_at dksX9_reads_0 3 rfl rfl)
theorem dX9_reads_4 : decode cX9_reads 4 = .ok (.iload_n 1, 1) := dk_27 (dk_at dksX9_reads_0 4 rfl rfl)
theorem dX9_reads_5 : decode cX9_reads 5 = .ok (.imul, 1) := dk_104 (dk_at dksX9_reads_0 5 rfl rfl)
theorem dX9_reads_6 : decode cX9_reads 6 = .ok (.iadd, 1) := dk_96 (dk_at dksX9_reads_0 6 rfl rfl)
theorem dX9_reads_7 : decode cX9_reads 7 = .ok (.istore_n 2, 1) := dk_61 (dk_at dksX9_reads_0 7 rfl rfl)
theorem dX9_reads_8 : decode cX9_reads 8 = .ok (.aload_n 0, 1) := dk_42 (dk_at dksX9_reads_0 8 rfl rfl)
theorem dX9_reads_9 : decode cX9_reads 9 = .ok (.getfield 9, 3) := dk_180 0 9 (dk_at dksX9_reads_0 9 rfl rfl)
theorem dX9_reads_12 : decode cX9_reads 12 = .ok (.iload_n 2, 1) := dk_28 (dk_at dksX9_reads_0 12 rfl rfl)
theorem dX9_reads_13 : decode cX9_reads 13 = .ok (.iconst 0, 1) := dk_3 (dk_at dksX9_reads_0 13 rfl rfl)
theorem dX9_reads_14 : decode cX9_reads 14 = .ok (.iadd, 1) := dk_96 (dk_at dksX9_reads_0 14 rfl rfl)
theorem dX9_reads_15 : decode cX9_reads 15 = .ok (.iaload, 1) := dk_46 (dk_at dksX9_reads_0 15 rfl rfl)
theorem dX9_reads_16 : decode cX9_reads 16 = .ok (.istore_n 3, 1) := dk_62 (dk_at dksX9_reads_0 16 rfl rfl)
theorem dX9_reads_17 : decode cX9_reads 17 = .ok (.aload_n 0, 1) := dk_42 (dk_at dksX9_reads_0 17 rfl rfl)
theorem dX9_reads_18 : decode cX9_reads 18 = .ok (.getfield 9, 3) := dk_180 0 9 (dk_at dksX9_reads_0 18 rfl rfl)
theorem dX9_reads_21 : decode cX9_reads 21 = .ok (.iload_n 2, 1) := dk_28 (dk_at dksX9_reads_0 21 rfl rfl)
theorem dX9_reads_22 : decode cX9_reads 22 = .ok (.iconst 3, 1) := dk_6 (dk_at dksX9_reads_0 22 rfl rfl)
theorem dX9_reads_23 : decode cX9_reads 23 = .ok (.iadd, 1) := dk_96 (dk_at dksX9_reads_0 23 rfl rfl)
theorem dX9_reads_24 : decode cX9_reads 24 = .ok (.iaload, 1) := dk_46 (dk_at dksX9_reads_1 0 rfl rfl)
theorem dX9_reads_25 : decode cX9_reads 25 = .ok (.aload_n 0, 1) := dk_42 (dk_at dksX9_reads_1 1 rfl rfl)
theorem dX9_reads_26 : decode cX9_reads 26 = .ok (.getfield 9, 3) := dk_180 0 9 (dk_at dksX9_reads_1 2 rfl rfl)
theorem dX9_reads_29 : decode cX9_reads 29 = .ok (.sipush 2116, 3) := dk_17 8 68 (dk_at dksX9_reads_1 5 rfl rfl)
theorem dX9_reads_32 : decode cX9_reads 32 = .ok (.iaload, 1) := dk_46 (dk_at dksX9_reads_1 8 rfl rfl)
theorem dX9_reads_33 : decode cX9_reads 33 = .ok (.if_icmp .ne 27, 3) := dk_160 0 27 (dk_at dksX9_reads_1 9 rfl rfl)
theorem dX9_reads_36 : decode cX9_reads 36 = .ok (.aload_n 0, 1) := dk_42 (dk_at dksX9_reads_1 12 rfl rfl)
theorem dX9_reads_37 : decode cX9_reads 37 = .ok (.getfield 9, 3) := dk_180 0 9 (dk_at dksX9_reads_1 13 rfl rfl)
theorem dX9_reads_40 : decode cX9_reads 40 = .ok (.iload_n 2, 1) := dk_28 (dk_at dksX9_reads_1 16 rfl rfl)
theorem dX9_reads_41 : decode cX9_reads 41 = .ok (.iconst 2, 1) := dk_5 (dk_at dksX9_reads_1 17 rfl rfl)
theorem dX9_reads_42 : decode cX9_reads 42 = .ok (.iadd, 1) := dk_96 (dk_at dksX9_reads_1 18 rfl rfl)
theorem dX9_reads_43 : decode cX9_reads 43 = .ok (.iaload, 1) := dk_46 (dk_at dksX9_reads_1 19 rfl rfl)
theorem dX9_reads_44 : decode cX9_reads 44 = .ok (.iconst 1, 1) := dk_4 (dk_at dksX9_reads_1 20 rfl rfl)
theorem dX9_reads_45 : decode cX9_reads 45 = .ok (.if_icmp .eq 15, 3) := dk_159 0 15 (dk_at dksX9_reads_1 21 rfl rfl)
theorem dX9_reads_48 : decode cX9_reads 48 = .ok (.aload_n 0, 1) := dk_42 (dk_at dksX9_reads_2 0 rfl rfl)
theorem dX9_reads_49 : decode cX9_reads 49 = .ok (.getfield 9, 3) := dk_180 0 9 (dk_at dksX9_reads_2 1 rfl rfl)
theorem dX9_reads_52 : decode cX9_reads 52 = .ok (.iload_n 2, 1) := dk_28 (dk_at dksX9_reads_2 4 rfl rfl)
theorem dX9_reads_53 : decode cX9_reads 53 = .ok (.iconst 2, 1) := dk_5 (dk_at dksX9_reads_2 5 rfl rfl)
theorem dX9_reads_54 : decode cX9_reads 54 = .ok (.iadd, 1) := dk_96 (dk_at dksX9_reads_2 6 rfl rfl)
theorem dX9_reads_55 : decode cX9_reads 55 = .ok (.iaload, 1) := dk_46 (dk_at dksX9_reads_2 7 rfl rfl)
theorem dX9_reads_56 : decode cX9_reads 56 = .ok (.iconst 3, 1) := dk_6 (dk_at dksX9_reads_2 8 rfl rfl)
theorem dX9_reads_57 : decode cX9_reads 57 = .ok (.if_icmp .ne 4, 3) := dk_160 0 4 (dk_at dksX9_reads_2 9 rfl rfl)
theorem dX9_reads_60 : decode cX9_reads 60 = .ok (.return_, 1) := dk_177 (dk_at dksX9_reads_2 12 rfl rfl)
theorem dX9_reads_61 : decode cX9_reads 61 = .ok (.aload_n 0, 1) := dk_42 (dk_at dksX9_reads_2 13 rfl rfl)
theorem dX9_reads_62 : decode cX9_reads 62 = .ok (.getfield 9, 3) := dk_180 0 9 (dk_at dksX9_reads_2 14 rfl rfl)
theorem dX9_reads_65 : decode cX9_reads 65 = .ok (.iload_n 2, 1) := dk_28 (dk_at dksX9_reads_2 17 rfl rfl)
theorem dX9_reads_66 : decode cX9_reads 66 = .ok (.iconst 2, 1) := dk_5 (dk_at dksX9_reads_2 18 rfl rfl)
theorem dX9_reads_67 : decode cX9_reads 67 = .ok (.iadd, 1) := dk_96 (dk_at dksX9_reads_2 19 rfl rfl)
theorem dX9_reads_68 : decode cX9_reads 68 = .ok (.iaload, 1) := dk_46 (dk_at dksX9_reads_2 20 rfl rfl)
theorem dX9_reads_69 : decode cX9_reads 69 = .ok (.iconst 2, 1) := dk_5 (dk_at dksX9_reads_2 21 rfl rfl)
theorem dX9_reads_70 : decode cX9_reads 70 = .ok (.if_icmp .ne 44, 3) := dk_160 0 44 (dk_at dksX9_reads_3 0 rfl rfl)
theorem dX9_reads_73 : decode cX9_reads 73 = .ok (.aload_n 0, 1) := dk_42 (dk_at dksX9_reads_3 3 rfl rfl)
theorem dX9_reads_74 : decode cX9_reads 74 = .ok (.getfield 9, 3) := dk_180 0 9 (dk_at dksX9_reads_3 4 rfl rfl)
theorem dX9_reads_77 : decode cX9_reads 77 = .ok (.sipush 2118, 3) := dk_17 8 70 (dk_at dksX9_reads_3 7 rfl rfl)
theorem dX9_reads_80 : decode cX9_reads 80 = .ok (.dup2, 1) := dk_92 (dk_at dksX9_reads_3 10 rfl rfl)
theorem dX9_reads_81 : decode cX9_reads 81 = .ok (.iaload, 1) := dk_46 (dk_at dksX9_reads_3 11 rfl rfl)
theorem dX9_reads_82 : decode cX9_reads 82 = .ok (.iload_n 3, 1) := dk_29 (dk_at dksX9_reads_3 12 rfl rfl)
theorem dX9_reads_83 : decode cX9_reads 83 = .ok (.iload_n 3, 1) := dk_29 (dk_at dksX9_reads_3 13 rfl rfl)
theorem dX9_reads_84 : decode cX9_reads 84 = .ok (.bipush 20, 2) := dk_16 20 (dk_at dksX9_reads_3 14 rfl rfl)
theorem dX9_reads_86 : decode cX9_reads 86 = .ok (.imul, 1) := dk_104 (dk_at dksX9_reads_3 16 rfl rfl)
theorem dX9_reads_87 : decode cX9_reads 87 = .ok (.bipush 100, 2) := dk_16 100 (dk_at dksX9_reads_3 17 rfl rfl)
theorem dX9_reads_89 : decode cX9_reads 89 = .ok (.idiv, 1) := dk_108 (dk_at dksX9_reads_3 19 rfl rfl)
theorem dX9_reads_90 : decode cX9_reads 90 = .ok (.iadd, 1) := dk_96 (dk_at dksX9_reads_3 20 rfl rfl)
theorem dX9_reads_91 : decode cX9_reads 91 = .ok (.aload_n 0, 1) := dk_42 (dk_at dksX9_reads_3 21 rfl rfl)
theorem dX9_reads_92 : decode cX9_reads 92 = .ok (.getfield 9, 3) := dk_180 0 9 (dk_at dksX9_reads_4 0 rfl rfl)
theorem dX9_reads_95 : decode cX9_reads 95 = .ok (.iload_n 2, 1) := dk_28 (dk_at dksX9_reads_4 3 rfl rfl)
theorem dX9_reads_96 : decode cX9_reads 96 = .ok (.iconst 1, 1) := dk_4 (dk_at dksX9_reads_4 4 rfl rfl)
theorem dX9_reads_97 : decode cX9_reads 97 = .ok (.iadd, 1) := dk_96 (dk_at dksX9_reads_4 5 rfl rfl)
theorem dX9_reads_98 : decode cX9_reads 98 = .ok (.iaload, 1) := dk_46 (dk_at dksX9_reads_4 6 rfl rfl)
theorem dX9_reads_99 : decode cX9_reads 99 = .ok (.iadd, 1) := dk_96 (dk_at dksX9_reads_4 7 rfl rfl)
theorem dX9_reads_100 : decode cX9_reads 100 = .ok (.isub, 1) := dk_100 (dk_at dksX9_reads_4 8 rfl rfl)
theorem dX9_reads_101 : decode cX9_reads 101 = .ok (.iastore, 1) := dk_79 (dk_at dksX9_reads_4 9 rfl rfl)
theorem dX9_reads_102 : decode cX9_reads 102 = .ok (.aload_n 0, 1) := dk_42 (dk_at dksX9_reads_4 10 rfl rfl)
theorem dX9_reads_103 : decode cX9_reads 103 = .ok (.getfield 9, 3) := dk_180 0 9 (dk_at dksX9_reads_4 11 rfl rfl)
theorem dX9_reads_106 : decode cX9_reads 106 = .ok (.iload_n 2, 1) := dk_28 (dk_at dksX9_reads_4 14 rfl rfl)
theorem dX9_reads_107 : decode cX9_reads 107 = .ok (.iconst 2, 1) := dk_5 (dk_at dksX9_reads_4 15 rfl rfl)
theorem dX9_reads_108 : decode cX9_reads 108 = .ok (.iadd, 1) := dk_96 (dk_at dksX9_reads_4 16 rfl rfl)
theorem dX9_reads_109 : decode cX9_reads 109 = .ok (.iconst 3, 1) := dk_6 (dk_at dksX9_reads_4 17 rfl rfl)
theorem dX9_reads_110 : decode cX9_reads 110 = .ok (.iastore, 1) := dk_79 (dk_at dksX9_reads_4 18 rfl rfl)
theorem dX9_reads_111 : decode cX9_reads 111 = .ok (.goto 67, 3) := dk_167 0 67 (dk_at dksX9_reads_4 19 rfl rfl)
theorem dX9_reads_114 : decode cX9_reads 114 = .ok (.aload_n 0, 1) := dk_42 (dk_at dksX9_reads_4 22 rfl rfl)
theorem dX9_reads_115 : decode cX9_reads 115 = .ok (.getfield 9, 3) := dk_180 0 9 (dk_at dksX9_reads_5 0 rfl rfl)
theorem dX9_reads_118 : decode cX9_reads 118 = .ok (.sipush 2123, 3) := dk_17 8 75 (dk_at dksX9_reads_5 3 rfl rfl)
theorem dX9_reads_121 : decode cX9_reads 121 = .ok (.iaload, 1) := dk_46 (dk_at dksX9_reads_5 6 rfl rfl)
theorem dX9_reads_122 : decode cX9_reads 122 = .ok (.iload_n 3, 1) := dk_29 (dk_at dksX9_reads_5 7 rfl rfl)
theorem dX9_reads_123 : decode cX9_reads 123 = .ok (.if_icmp .lt 27, 3) := dk_161 0 27 (dk_at dksX9_reads_5 8 rfl rfl)
theorem dX9_reads_126 : decode cX9_reads 126 = .ok (.aload_n 0, 1) := dk_42 (dk_at dksX9_reads_5 11 rfl rfl)
theorem dX9_reads_127 : decode cX9_reads 127 = .ok (.getfield 9, 3) := dk_180 0 9 (dk_at dksX9_reads_5 12 rfl rfl)
theorem dX9_reads_130 : decode cX9_reads 130 = .ok (.sipush 2123, 3) := dk_17 8 75 (dk_at dksX9_reads_5 15 rfl rfl)
theorem dX9_reads_133 : decode cX9_reads 133 = .ok (.dup2, 1) := dk_92 (dk_at dksX9_reads_5 18 rfl rfl)
theorem dX9_reads_134 : decode cX9_reads 134 = .ok (.iaload, 1) := dk_46 (dk_at dksX9_reads_5 19 rfl rfl)
theorem dX9_reads_135 : decode cX9_reads 135 = .ok (.iload_n 3, 1) := dk_29 (dk_at dksX9_reads_5 20 rfl rfl)
theorem dX9_reads_136 : decode cX9_reads 136 = .ok (.isub, 1) := dk_100 (dk_at dksX9_reads_5 21 rfl rfl)
theorem dX9_reads_137 : decode cX9_reads 137 = .ok (.iastore, 1) := dk_79 (dk_at dksX9_reads_5 22 rfl rfl)
theorem dX9_reads_138 : decode cX9_reads 138 = .ok (.aload_n 0, 1) := dk_42 (dk_at dksX9_reads_5 23 rfl rfl)
theorem dX9_reads_139 : decode cX9_reads 139 = .ok (.getfield 9, 3) := dk_180 0 9 (dk_at dksX9_reads_6 0 rfl rfl)
theorem dX9_reads_142 : decode cX9_reads 142 = .ok (.iload_n 2, 1) := dk_28 (dk_at dksX9_reads_6 3 rfl rfl)
theorem dX9_reads_143 : decode cX9_reads 143 = .ok (.iconst 2, 1) := dk_5 (dk_at dksX9_reads_6 4 rfl rfl)
theorem dX9_reads_144 : decode cX9_reads 144 = .ok (.iadd, 1) := dk_96 (dk_at dksX9_reads_6 5 rfl rfl)
theorem dX9_reads_145 : decode cX9_reads 145 = .ok (.iconst 1, 1) := dk_4 (dk_at dksX9_reads_6 6 rfl rfl)
theorem dX9_reads_146 : decode cX9_reads 146 = .ok (.iastore, 1) := dk_79 (dk_at dksX9_reads_6 7 rfl rfl)
theorem dX9_reads_147 : decode cX9_reads 147 = .ok (.goto 31, 3) := dk_167 0 31 (dk_at dksX9_reads_6 8 rfl rfl)
theorem dX9_reads_150 : decode cX9_reads 150 = .ok (.aload_n 0, 1) := dk_42 (dk_at dksX9_reads_6 11 rfl rfl)
theorem dX9_reads_151 : decode cX9_reads 151 = .ok (.getfield 9, 3) := dk_180 0 9 (dk_at dksX9_reads_6 12 rfl rfl)
theorem dX9_reads_154 : decode cX9_reads 154 = .ok (.iload_n 2, 1) := dk_28 (dk_at dksX9_reads_6 15 rfl rfl)
theorem dX9_reads_155 : decode cX9_reads 155 = .ok (.iconst 2, 1) := dk_5 (dk_at dksX9_reads_6 16 rfl rfl)
theorem dX9_reads_156 : decode cX9_reads 156 = .ok (.iadd, 1) := dk_96 (dk_at dksX9_reads_6 17 rfl rfl)
theorem dX9_reads_157 : decode cX9_reads 157 = .ok (.iconst 2, 1) := dk_5 (dk_at dksX9_reads_6 18 rfl rfl)
theorem dX9_reads_158 : decode cX9_reads 158 = .ok (.iastore, 1) := dk_79 (dk_at dksX9_reads_6 19 rfl rfl)
theorem dX9_reads_159 : decode cX9_reads 159 = .ok (.aload_n 0, 1) := dk_42 (dk_at dksX9_reads_6 20 rfl rfl)
theorem dX9_reads_160 : decode cX9_reads 160 = .ok (.getfield 9, 3) := dk_180 0 9 (dk_at dksX9_reads_6 21 rfl rfl)
theorem dX9_reads_163 : decode cX9_reads 163 = .ok (.iload_n 2, 1) := dk_28 (dk_at dksX9_reads_7 0 rfl rfl)
theorem dX9_reads_164 : decode cX9_reads 164 = .ok (.iconst 3, 1) := dk_6 (dk_at dksX9_reads_7 1 rfl rfl)
theorem dX9_reads_165 : decode cX9_reads 165 = .ok (.iadd, 1) := dk_96 (dk_at dksX9_reads_7 2 rfl rfl)
theorem dX9_reads_166 : decode cX9_reads 166 = .ok (.aload_n 0, 1) := dk_42 (dk_at dksX9_reads_7 3 rfl rfl)
theorem dX9_reads_167 : decode cX9_reads 167 = .ok (.getfield 9, 3) := dk_180 0 9 (dk_at dksX9_reads_7 4 rfl rfl)
theorem dX9_reads_170 : decode cX9_reads 170 = .ok (.sipush 2116, 3) := dk_17 8 68 (dk_at dksX9_reads_7 7 rfl rfl)
theorem dX9_reads_173 : decode cX9_reads 173 = .ok (.iaload, 1) := dk_46 (dk_at dksX9_reads_7 10 rfl rfl)
theorem dX9_reads_174 : decode cX9_reads 174 = .ok (.bipush 34, 2) := dk_16 34 (dk_at dksX9_reads_7 11 rfl rfl)
theorem dX9_reads_176 : decode cX9_reads 176 = .ok (.iadd, 1) := dk_96 (dk_at dksX9_reads_7 13 rfl rfl)
theorem dX9_reads_177 : decode cX9_reads 177 = .ok (.iastore, 1) := dk_79 (dk_at dksX9_reads_7 14 rfl rfl)
theorem dX9_reads_178 : decode cX9_reads 178 = .ok (.return_, 1) := dk_177 (dk_at dksX9_reads_7 15 rfl rfl)
def dkwX9_lives_8 : List UInt8 := [177]
abbrev dktX9_lives_8 : List UInt8 := dkwX9_lives_8 ++ []
def dkwX9_lives_7 : List UInt8 := [7, 42, 27, 7, 182, 0, 76, 4, 96, 182, 0, 113, 42, 180, 0, 9, 17, 8, 74, 92, 46, 4, 96, 79]
abbrev dktX9_lives_7 : List UInt8 := dkwX9_lives_7 ++ dktX9_lives_8
def dkwX9_lives_6 : List UInt8 := [17, 8, 69, 46, 158, 0, 18, 42, 180, 0, 9, 17, 8, 69, 92, 46, 4, 100, 79, 167, 0, 29, 42, 27]
abbrev dktX9_lives_6 : List UInt8 := dkwX9_lives_6 ++ dktX9_lives_7
def dkwX9_lives_5 : List UInt8 := [182, 0, 76, 5, 160, 0, 14, 42, 27, 42, 5, 3, 182, 1, 92, 182, 1, 146, 42, 180, 0, 9]
abbrev dktX9_lives_5 : List UInt8 := dkwX9_lives_5 ++ dktX9_lives_6
def dkwX9_lives_4 : List UInt8 := [16, 10, 96, 42, 27, 4, 182, 0, 76, 163, 0, 10, 42, 27, 29, 182, 1, 114, 87, 42, 27, 5]
abbrev dktX9_lives_4 : List UInt8 := dkwX9_lives_4 ++ dktX9_lives_5
def dkwX9_lives_3 : List UInt8 := [159, 0, 42, 42, 182, 1, 143, 62, 29, 155, 0, 33, 42, 3, 42, 180, 0, 16, 29, 46, 182, 1, 92]
abbrev dktX9_lives_3 : List UInt8 := dkwX9_lives_3 ++ dktX9_lives_4
def dkwX9_lives_2 : List UInt8 := [167, 0, 17, 42, 27, 5, 5, 182, 0, 113, 42, 27, 6, 2, 182, 0, 113, 42, 27, 5, 182, 0, 76, 7]
abbrev dktX9_lives_2 : List UInt8 := dkwX9_lives_2 ++ dktX9_lives_3
def dkwX9_lives_1 : List UInt8 := [42, 29, 4, 182, 0, 76, 28, 161, 0, 19, 42, 29, 28, 116, 182, 1, 101, 42, 27, 28, 182, 1, 101]
abbrev dktX9_lives_1 : List UInt8 := dkwX9_lives_1 ++ dktX9_lives_2
def dkwX9_lives_0 : List UInt8 := [42, 5, 3, 182, 1, 92, 61, 42, 27, 5, 182, 0, 76, 6, 160, 0, 50, 42, 27, 6, 182, 0, 76, 62]
abbrev dktX9_lives_0 : List UInt8 := dkwX9_lives_0 ++ dktX9_lives_1
theorem dksX9_lives_0 : cX9_lives.data.toList.drop 0 = dktX9_lives_0 := by decide +kernel
theorem dksX9_lives_1 : cX9_lives.data.toList.drop 24 = dktX9_lives_1 := dk_seg dksX9_lives_0 24 rfl rfl
theorem dksX9_lives_2 : cX9_lives.data.toList.drop 47 = dktX9_lives_2 := dk_seg dksX9_lives_1 23 rfl rfl
theorem dksX9_lives_3 : cX9_lives.data.toList.drop 71 = dktX9_lives_3 := dk_seg dksX9_lives_2 24 rfl rfl
theorem dksX9_lives_4 : cX9_lives.data.toList.drop 94 = dktX9_lives_4 := dk_seg dksX9_lives_3 23 rfl rfl
theorem dksX9_lives_5 : cX9_lives.data.toList.drop 116 = dktX9_lives_5 := dk_seg dksX9_lives_4 22 rfl rfl
theorem dksX9_lives_6 : cX9_lives.data.toList.drop 138 = dktX9_lives_6 := dk_seg dksX9_lives_5 22 rfl rfl
theorem dksX9_lives_7 : cX9_lives.data.toList.drop 162 = dktX9_lives_7 := dk_seg dksX9_lives_6 24 rfl rfl
theorem dksX9_lives_8 : cX9_lives.data.toList.drop 186 = dktX9_lives_8 := dk_seg dksX9_lives_7 24 rfl rfl
theorem dX9_lives_0 : decode cX9_lives 0 = .ok (.aload_n 0, 1) := dk_42 (dk_at dksX9_lives_0 0 rfl rfl)
theorem dX9_lives_1 : decode cX9_lives 1 = .ok (.iconst 2, 1) := dk_5 (dk_at dksX9_lives_0 1 rfl rfl)
theorem dX9_lives_2 : decode cX9_lives 2 = .ok (.iconst 0, 1) := dk_3 (dk_at dksX9_lives_0 2 rfl rfl)
theorem dX9_lives_3 : decode cX9_lives 3 = .ok (.invokevirtual 348, 3) := dk_182 1 92 (dk_at dksX9_lives_0 3 rfl rfl)
theorem dX9_lives_6 : decode cX9_lives 6 = .ok (.istore_n 2, 1) := dk_61 (dk_at dksX9_lives_0 6 rfl rfl)
theorem dX9_lives_7 : decode cX9_lives 7 = .ok (.aload_n 0, 1) := dk_42 (dk_at dksX9_lives_0 7 rfl rfl)
theorem dX9_lives_8 : decode cX9_lives 8 = .ok (.iload_n 1, 1) := dk_27 (dk_at dksX9_lives_0 8 rfl rfl)
theorem dX9_lives_9 : decode cX9_lives 9 = .ok (.iconst 2, 1) := dk_5 (dk_at dksX9_lives_0 9 rfl rfl)
theorem dX9_lives_10 : decode cX9_lives 10 = .ok (.invokevirtual 76, 3) := dk_182 0 76 (dk_at dksX9_lives_0 10 rfl rfl)
theorem dX9_lives_13 : decode cX9_lives 13 = .ok (.iconst 3, 1) := dk_6 (dk_at dksX9_lives_0 13 rfl rfl)
theorem dX9_lives_14 : decode cX9_lives 14 = .ok (.if_icmp .ne 50, 3) := dk_160 0 50 (dk_at dksX9_lives_0 14 rfl rfl)
theorem dX9_lives_17 : decode cX9_lives 17 = .ok (.aload_n 0, 1) := dk_42 (dk_at dksX9_lives_0 17 rfl rfl)
theorem dX9_lives_18 : decode cX9_lives 18 = .ok (.iload_n 1, 1) := dk_27 (dk_at dksX9_lives_0 18 rfl rfl)
theorem dX9_lives_19 : decode cX9_lives 19 = .ok (.iconst 3, 1) := dk_6 (dk_at dksX9_lives_0 19 rfl rfl)
theorem dX9_lives_20 : decode cX9_lives 20 = .ok (.invokevirtual 76, 3) := dk_182 0 76 (dk_at dksX9_lives_0 20 rfl rfl)
theorem dX9_lives_23 : decode cX9_lives 23 = .ok (.istore_n 3, 1) := dk_62 (dk_at dksX9_lives_0 23 rfl rfl)
theorem dX9_lives_24 : decode cX9_lives 24 = .ok (.aload_n 0, 1) := dk_42 (dk_at dksX9_lives_1 0 rfl rfl)
theorem dX9_lives_25 : decode cX9_lives 25 = .ok (.iload_n 3, 1) := dk_29 (dk_at dksX9_lives_1 1 rfl rfl)
theorem dX9_lives_26 : decode cX9_lives 26 = .ok (.iconst 1, 1) := dk_4 (dk_at dksX9_lives_1 2 rfl rfl)
theorem dX9_lives_27 : decode cX9_lives 27 = .ok (.invokevirtual 76, 3) := dk_182 0 76 (dk_at dksX9_lives_1 3 rfl rfl)
theorem dX9_lives_30 : decode cX9_lives 30 = .ok (.iload_n 2, 1) := dk_28 (dk_at dksX9_lives_1 6 rfl rfl)
theorem dX9_lives_31 : decode cX9_lives 31 = .ok (.if_icmp .lt 19, 3) := dk_161 0 19 (dk_at dksX9_lives_1 7 rfl rfl)
theorem dX9_lives_34 : decode cX9_lives 34 = .ok (.aload_n 0, 1) := dk_42 (dk_at dksX9_lives_1 10 rfl rfl)
theorem dX9_lives_35 : decode cX9_lives 35 = .ok (.iload_n 3, 1) := dk_29 (dk_at dksX9_lives_1 11 rfl rfl)
theorem dX9_lives_36 : decode cX9_lives 36 = .ok (.iload_n 2, 1) := dk_28 (dk_at dksX9_lives_1 12 rfl rfl)
theorem dX9_lives_37 : decode cX9_lives 37 = .ok (.ineg, 1) := dk_116 (dk_at dksX9_lives_1 13 rfl rfl)
theorem dX9_lives_38 : decode cX9_lives 38 = .ok (.invokevirtual 357, 3) := dk_182 1 101 (dk_at dksX9_lives_1 14 rfl rfl)
theorem dX9_lives_41 : decode cX9_lives 41 = .ok (.aload_n 0, 1) := dk_42 (dk_at dksX9_lives_1 17 rfl rfl)
theorem dX9_lives_42 : decode cX9_lives 42 = .ok (.iload_n 1, 1) := dk_27 (dk_at dksX9_lives_1 18 rfl rfl)
theorem dX9_lives_43 : decode cX9_lives 43 = .ok (.iload_n 2, 1) := dk_28 (dk_at dksX9_lives_1 19 rfl rfl)
theorem dX9_lives_44 : decode cX9_lives 44 = .ok (.invokevirtual 357, 3) := dk_182 1 101 (dk_at dksX9_lives_1 20 rfl rfl)
theorem dX9_lives_47 : decode cX9_lives 47 = .ok (.goto 17, 3) := dk_167 0 17 (dk_at dksX9_lives_2 0 rfl rfl)
theorem dX9_lives_50 : decode cX9_lives 50 = .ok (.aload_n 0, 1) := dk_42 (dk_at dksX9_lives_2 3 rfl rfl)
theorem dX9_lives_51 : decode cX9_lives 51 = .ok (.iload_n 1, 1) := dk_27 (dk_at dksX9_lives_2 4 rfl rfl)
theorem dX9_lives_52 : decode cX9_lives 52 = .ok (.iconst 2, 1) := dk_5 (dk_at dksX9_lives_2 5 rfl rfl)
theorem dX9_lives_53 : decode cX9_lives 53 = .ok (.iconst 2, 1) := dk_5 (dk_at dksX9_lives_2 6 rfl rfl)
theorem dX9_lives_54 : decode cX9_lives 54 = .ok (.invokevirtual 113, 3) := dk_182 0 113 (dk_at dksX9_lives_2 7 rfl rfl)
theorem dX9_lives_57 : decode cX9_lives 57 = .ok (.aload_n 0, 1) := dk_42 (dk_at dksX9_lives_2 10 rfl rfl)
theorem dX9_lives_58 : decode cX9_lives 58 = .ok (.iload_n 1, 1) := dk_27 (dk_at dksX9_lives_2 11 rfl rfl)
theorem dX9_lives_59 : decode cX9_lives 59 = .ok (.iconst 3, 1) := dk_6 (dk_at dksX9_lives_2 12 rfl rfl)
theorem dX9_lives_60 : decode cX9_lives 60 = .ok (.iconst (-1), 1) := dk_2 (dk_at dksX9_lives_2 13 rfl rfl)
theorem dX9_lives_61 : decode cX9_lives 61 = .ok (.invokevirtual 113, 3) := dk_182 0 113 (dk_at dksX9_lives_2 14 rfl rfl)
theorem dX9_lives_64 : decode cX9_lives 64 = .ok (.aload_n 0, 1) := dk_42 (dk_at dksX9_lives_2 17 rfl rfl)
theorem dX9_lives_65 : decode cX9_lives 65 = .ok (.iload_n 1, 1) := dk_27 (dk_at dksX9_lives_2 18 rfl rfl)
theorem dX9_lives_66 : decode cX9_lives 66 = .ok (.iconst 2, 1) := dk_5 (dk_at dksX9_lives_2 19 rfl rfl)
theorem dX9_lives_67 : decode cX9_lives 67 = .ok (.invokevirtual 76, 3) := dk_182 0 76 (dk_at dksX9_lives_2 20 rfl rfl)
theorem dX9_lives_70 : decode cX9_lives 70 = .ok (.iconst 4, 1) := dk_7 (dk_at dksX9_lives_2 23 rfl rfl)
theorem dX9_lives_71 : decode cX9_lives 71 = .ok (.if_icmp .eq 42, 3) := dk_159 0 42 (dk_at dksX9_lives_3 0 rfl rfl)
theorem dX9_lives_74 : decode cX9_lives 74 = .ok (.aload_n 0, 1) := dk_42 (dk_at dksX9_lives_3 3 rfl rfl)
theorem dX9_lives_75 : decode cX9_lives 75 = .ok (.invokevirtual 399, 3) := dk_182 1 143 (dk_at dksX9_lives_3 4 rfl rfl)
theorem dX9_lives_78 : decode cX9_lives 78 = .ok (.istore_n 3, 1) := dk_62 (dk_at dksX9_lives_3 7 rfl rfl)
theorem dX9_lives_79 : decode cX9_lives 79 = .ok (.iload_n 3, 1) := dk_29 (dk_at dksX9_lives_3 8 rfl rfl)
theorem dX9_lives_80 : decode cX9_lives 80 = .ok (.ifCond .lt 33, 3) := dk_155 0 33 (dk_at dksX9_lives_3 9 rfl rfl)
theorem dX9_lives_83 : decode cX9_lives 83 = .ok (.aload_n 0, 1) := dk_42 (dk_at dksX9_lives_3 12 rfl rfl)
theorem dX9_lives_84 : decode cX9_lives 84 = .ok (.iconst 0, 1) := dk_3 (dk_at dksX9_lives_3 13 rfl rfl)
theorem dX9_lives_85 : decode cX9_lives 85 = .ok (.aload_n 0, 1) := dk_42 (dk_at dksX9_lives_3 14 rfl rfl)
theorem dX9_lives_86 : decode cX9_lives 86 = .ok (.getfield 16, 3) := dk_180 0 16 (dk_at dksX9_lives_3 15 rfl rfl)
theorem dX9_lives_89 : decode cX9_lives 89 = .ok (.iload_n 3, 1) := dk_29 (dk_at dksX9_lives_3 18 rfl rfl)
theorem dX9_lives_90 : decode cX9_lives 90 = .ok (.iaload, 1) := dk_46 (dk_at dksX9_lives_3 19 rfl rfl)
theorem dX9_lives_91 : decode cX9_lives 91 = .ok (.invokevirtual 348, 3) := dk_182 1 92 (dk_at dksX9_lives_3 20 rfl rfl)
theorem dX9_lives_94 : decode cX9_lives 94 = .ok (.bipush 10, 2) := dk_16 10 (dk_at dksX9_lives_4 0 rfl rfl)
theorem dX9_lives_96 : decode cX9_lives 96 = .ok (.iadd, 1) := dk_96 (dk_at dksX9_lives_4 2 rfl rfl)
theorem dX9_lives_97 : decode cX9_lives 97 = .ok (.aload_n 0, 1) := dk_42 (dk_at dksX9_lives_4 3 rfl rfl)
theorem dX9_lives_98 : decode cX9_lives 98 = .ok (.iload_n 1, 1) := dk_27 (dk_at dksX9_lives_4 4 rfl rfl)
theorem dX9_lives_99 : decode cX9_lives 99 = .ok (.iconst 1, 1) := dk_4 (dk_at dksX9_lives_4 5 rfl rfl)
theorem dX9_lives_100 : decode cX9_lives 100 = .ok (.invokevirtual 76, 3) := dk_182 0 76 (dk_at dksX9_lives_4 6 rfl rfl)
theorem dX9_lives_103 : decode cX9_lives 103 = .ok (.if_icmp .gt 10, 3) := dk_163 0 10 (dk_at dksX9_lives_4 9 rfl rfl)
theorem dX9_lives_106 : decode cX9_lives 106 = .ok (.aload_n 0, 1) := dk_42 (dk_at dksX9_lives_4 12 rfl rfl)
theorem dX9_lives_107 : decode cX9_lives 107 = .ok (.iload_n 1, 1) := dk_27 (dk_at dksX9_lives_4 13 rfl rfl)
theorem dX9_lives_108 : decode cX9_lives 108 = .ok (.iload_n 3, 1) := dk_29 (dk_at dksX9_lives_4 14 rfl rfl)
theorem dX9_lives_109 : decode cX9_lives 109 = .ok (.invokevirtual 370, 3) := dk_182 1 114 (dk_at dksX9_lives_4 15 rfl rfl)
theorem dX9_lives_112 : decode cX9_lives 112 = .ok (.pop, 1) := dk_87 (dk_at dksX9_lives_4 18 rfl rfl)
theorem dX9_lives_113 : decode cX9_lives 113 = .ok (.aload_n 0, 1) := dk_42 (dk_at dksX9_lives_4 19 rfl rfl)
theorem dX9_lives_114 : decode cX9_lives 114 = .ok (.iload_n 1, 1) := dk_27 (dk_at dksX9_lives_4 20 rfl rfl)
theorem dX9_lives_115 : decode cX9_lives 115 = .ok (.iconst 2, 1) := dk_5 (dk_at dksX9_lives_4 21 rfl rfl)
theorem dX9_lives_116 : decode cX9_lives 116 = .ok (.invokevirtual 76, 3) := dk_182 0 76 (dk_at dksX9_lives_5 0 rfl rfl)
theorem dX9_lives_119 : decode cX9_lives 119 = .ok (.iconst 2, 1) := dk_5 (dk_at dksX9_lives_5 3 rfl rfl)
theorem dX9_lives_120 : decode cX9_lives 120 = .ok (.if_icmp .ne 14, 3) := dk_160 0 14 (dk_at dksX9_lives_5 4 rfl rfl)
theorem dX9_lives_123 : decode cX9_lives 123 = .ok (.aload_n 0, 1) := dk_42 (dk_at dksX9_lives_5 7 rfl rfl)
theorem dX9_lives_124 : decode cX9_lives 124 = .ok (.iload_n 1, 1) := dk_27 (dk_at dksX9_lives_5 8 rfl rfl)
theorem dX9_lives_125 : decode cX9_lives 125 = .ok (.aload_n 0, 1) := dk_42 (dk_at dksX9_lives_5 9 rfl rfl)
theorem dX9_lives_126 : decode cX9_lives 126 = .ok (.iconst 2, 1) := dk_5 (dk_at dksX9_lives_5 10 rfl rfl)
theorem dX9_lives_127 : decode cX9_lives 127 = .ok (.iconst 0, 1) := dk_3 (dk_at dksX9_lives_5 11 rfl rfl)
theorem dX9_lives_128 : decode cX9_lives 128 = .ok (.invokevirtual 348, 3) := dk_182 1 92 (dk_at dksX9_lives_5 12 rfl rfl)
theorem dX9_lives_131 : decode cX9_lives 131 = .ok (.invokevirtual 402, 3) := dk_182 1 146 (dk_at dksX9_lives_5 15 rfl rfl)
theorem dX9_lives_134 : decode cX9_lives 134 = .ok (.aload_n 0, 1) := dk_42 (dk_at dksX9_lives_5 18 rfl rfl)
theorem dX9_lives_135 : decode cX9_lives 135 = .ok (.getfield 9, 3) := dk_180 0 9 (dk_at dksX9_lives_5 19 rfl rfl)
theorem dX9_lives_138 : decode cX9_lives 138 = .ok (.sipush 2117, 3) := dk_17 8 69 (dk_at dksX9_lives_6 0 rfl rfl)
theorem dX9_lives_141 : decode cX9_lives 141 = .ok (.iaload, 1) := dk_46 (dk_at dksX9_lives_6 3 rfl rfl)
theorem dX9_lives_142 : decode cX9_lives 142 = .ok (.ifCond .le 18, 3) := dk_158 0 18 (dk_at dksX9_lives_6 4 rfl rfl)
theorem dX9_lives_145 : decode cX9_lives 145 = .ok (.aload_n 0, 1) := dk_42 (dk_at dksX9_lives_6 7 rfl rfl)
theorem dX9_lives_146 : decode cX9_lives 146 = .ok (.getfield 9, 3) := dk_180 0 9 (dk_at dksX9_lives_6 8 rfl rfl)
theorem dX9_lives_149 : decode cX9_lives 149 = .ok (.sipush 2117, 3) := dk_17 8 69 (dk_at dksX9_lives_6 11 rfl rfl)
theorem dX9_lives_152 : decode cX9_lives 152 = .ok (.dup2, 1) := dk_92 (dk_at dksX9_lives_6 14 rfl rfl)
theorem dX9_lives_153 : decode cX9_lives 153 = .ok (.iaload, 1) := dk_46 (dk_at dksX9_lives_6 15 rfl rfl)
theorem dX9_lives_154 : decode cX9_lives 154 = .ok (.iconst 1, 1) := dk_4 (dk_at dksX9_lives_6 16 rfl rfl)
theorem dX9_lives_155 : decode cX9_lives 155 = .ok (.isub, 1) := dk_100 (dk_at dksX9_lives_6 17 rfl rfl)
theorem dX9_lives_156 : decode cX9_lives 156 = .ok (.iastore, 1) := dk_79 (dk_at dksX9_lives_6 18 rfl rfl)
theorem dX9_lives_157 : decode cX9_lives 157 = .ok (.goto 29, 3) := dk_167 0 29 (dk_at dksX9_lives_6 19 rfl rfl)
theorem dX9_lives_160 : decode cX9_lives 160 = .ok (.aload_n 0, 1) := dk_42 (dk_at dksX9_lives_6 22 rfl rfl)
theorem dX9_lives_161 : decode cX9_lives 161 = .ok (.iload_n 1, 1) := dk_27 (dk_at dksX9_lives_6 23 rfl rfl)
theorem dX9_lives_162 : decode cX9_lives 162 = .ok (.iconst 4, 1) := dk_7 (dk_at dksX9_lives_7 0 rfl rfl)
theorem dX9_lives_163 : decode cX9_lives 163 = .ok (.aload_n 0, 1) := dk_42 (dk_at dksX9_lives_7 1 rfl rfl)
theorem dX9_lives_164 : decode cX9_lives 164 = .ok (.iload_n 1, 1) := dk_27 (dk_at dksX9_lives_7 2 rfl rfl)
theorem dX9_lives_165 : decode cX9_lives 165 = .ok (.iconst 4, 1) := dk_7 (dk_at dksX9_lives_7 3 rfl rfl)
theorem dX9_lives_166 : decode cX9_lives 166 = .ok (.invokevirtual 76, 3) := dk_182 0 76 (dk_at dksX9_lives_7 4 rfl rfl)
theorem dX9_lives_169 : decode cX9_lives 169 = .ok (.iconst 1, 1) := dk_4 (dk_at dksX9_lives_7 7 rfl rfl)
theorem dX9_lives_170 : decode cX9_lives 170 = .ok (.iadd, 1) := dk_96 (dk_at dksX9_lives_7 8 rfl rfl)
theorem dX9_lives_171 : decode cX9_lives 171 = .ok (.invokevirtual 113, 3) := dk_182 0 113 (dk_at dksX9_lives_7 9 rfl rfl)
theorem dX9_lives_174 : decode cX9_lives 174 = .ok (.aload_n 0, 1) := dk_42 (dk_at dksX9_lives_7 12 rfl rfl)
theorem dX9_lives_175 : decode cX9_lives 175 = .ok (.getfield 9, 3) := dk_180 0 9 (dk_at dksX9_lives_7 13 rfl rfl)
theorem dX9_lives_178 : decode cX9_lives 178 = .ok (.sipush 2122, 3) := dk_17 8 74 (dk_at dksX9_lives_7 16 rfl rfl)
theorem dX9_lives_181 : decode cX9_lives 181 = .ok (.dup2, 1) := dk_92 (dk_at dksX9_lives_7 19 rfl rfl)
theorem dX9_lives_182 : decode cX9_lives 182 = .ok (.iaload, 1) := dk_46 (dk_at dksX9_lives_7 20 rfl rfl)
theorem dX9_lives_183 : decode cX9_lives 183 = .ok (.iconst 1, 1) := dk_4 (dk_at dksX9_lives_7 21 rfl rfl)
theorem dX9_lives_184 : decode cX9_lives 184 = .ok (.iadd, 1) := dk_96 (dk_at dksX9_lives_7 22 rfl rfl)
theorem dX9_lives_185 : decode cX9_lives 185 = .ok (.iastore, 1) := dk_79 (dk_at dksX9_lives_7 23 rfl rfl)
theorem dX9_lives_186 : decode cX9_lives 186 = .ok (.return_, 1) := dk_177 (dk_at dksX9_lives_8 0 rfl rfl)
def dkwX9_bestLot_1 : List UInt8 := [42, 28, 182, 0, 101, 42, 27, 182, 0, 101, 164, 0, 5, 28, 60, 132, 2, 1, 167, 255, 218, 27, 172]
abbrev dktX9_bestLot_1 : List UInt8 := dkwX9_bestLot_1 ++ []
def dkwX9_bestLot_0 : List UInt8 := [2, 60, 3, 61, 28, 16, 96, 162, 0, 38, 42, 28, 3, 182, 0, 88, 4, 160, 0, 22, 27, 155, 0, 16]
abbrev dktX9_bestLot_0 : List UInt8 := dkwX9_bestLot_0 ++ dktX9_bestLot_1
theorem dksX9_bestLot_0 : cX9_bestLot.data.toList.drop 0 = dktX9_bestLot_0 := by decide +kernel
theorem dksX9_bestLot_1 : cX9_bestLot.data.toList.drop 24 = dktX9_bestLot_1 := dk_seg dksX9_bestLot_0 24 rfl rfl
theorem dX9_bestLot_0 : decode cX9_bestLot 0 = .ok (.iconst (-1), 1) := dk_2 (dk_at dksX9_bestLot_0 0 rfl rfl)
theorem dX9_bestLot_1 : decode cX9_bestLot 1 = .ok (.istore_n 1, 1) := dk_60 (dk_at dksX9_bestLot_0 1 rfl rfl)
theorem dX9_bestLot_2 : decode cX9_bestLot 2 = .ok (.iconst 0, 1) := dk_3 (dk_at dksX9_bestLot_0 2 rfl rfl)
theorem dX9_bestLot_3 : decode cX9_bestLot 3 = .ok (.istore_n 2, 1) := dk_61 (dk_at dksX9_bestLot_0 3 rfl rfl)
theorem dX9_bestLot_4 : decode cX9_bestLot 4 = .ok (.iload_n 2, 1) := dk_28 (dk_at dksX9_bestLot_0 4 rfl rfl)
theorem dX9_bestLot_5 : decode cX9_bestLot 5 = .ok (.bipush 96, 2) := dk_16 96 (dk_at dksX9_bestLot_0 5 rfl rfl)
theorem dX9_bestLot_7 : decode cX9_bestLot 7 = .ok (.if_icmp .ge 38, 3) := dk_162 0 38 (dk_at dksX9_bestLot_0 7 rfl rfl)
theorem dX9_bestLot_10 : decode cX9_bestLot 10 = .ok (.aload_n 0, 1) := dk_42 (dk_at dksX9_bestLot_0 10 rfl rfl)
theorem dX9_bestLot_11 : decode cX9_bestLot 11 = .ok (.iload_n 2, 1) := dk_28 (dk_at dksX9_bestLot_0 11 rfl rfl)
theorem dX9_bestLot_12 : decode cX9_bestLot 12 = .ok (.iconst 0, 1) := dk_3 (dk_at dksX9_bestLot_0 12 rfl rfl)
theorem dX9_bestLot_13 : decode cX9_bestLot 13 = .ok (.invokevirtual 88, 3) := dk_182 0 88 (dk_at dksX9_bestLot_0 13 rfl rfl)
theorem dX9_bestLot_16 : decode cX9_bestLot 16 = .ok (.iconst 1, 1) := dk_4 (dk_at dksX9_bestLot_0 16 rfl rfl)
theorem dX9_bestLot_17 : decode cX9_bestLot 17 = .ok (.if_icmp .ne 22, 3) := dk_160 0 22 (dk_at dksX9_bestLot_0 17 rfl rfl)
theorem dX9_bestLot_20 : decode cX9_bestLot 20 = .ok (.iload_n 1, 1) := dk_27 (dk_at dksX9_bestLot_0 20 rfl rfl)
theorem dX9_bestLot_21 : decode cX9_bestLot 21 = .ok (.ifCond .lt 16, 3) := dk_155 0 16 (dk_at dksX9_bestLot_0 21 rfl rfl)
theorem dX9_bestLot_24 : decode cX9_bestLot 24 = .ok (.aload_n 0, 1) := dk_42 (dk_at dksX9_bestLot_1 0 rfl rfl)
theorem dX9_bestLot_25 : decode cX9_bestLot 25 = .ok (.iload_n 2, 1) := dk_28 (dk_at dksX9_bestLot_1 1 rfl rfl)
theorem dX9_bestLot_26 : decode cX9_bestLot 26 = .ok (.invokevirtual 101, 3) := dk_182 0 101 (dk_at dksX9_bestLot_1 2 rfl rfl)
theorem dX9_bestLot_29 : decode cX9_bestLot 29 = .ok (.aload_n 0, 1) := dk_42 (dk_at dksX9_bestLot_1 5 rfl rfl)
theorem dX9_bestLot_30 : decode cX9_bestLot 30 = .ok (.iload_n 1, 1) := dk_27 (dk_at dksX9_bestLot_1 6 rfl rfl)
theorem dX9_bestLot_31 : decode cX9_bestLot 31 = .ok (.invokevirtual 101, 3) := dk_182 0 101 (dk_at dksX9_bestLot_1 7 rfl rfl)
theorem dX9_bestLot_34 : decode cX9_bestLot 34 = .ok (.if_icmp .le 5, 3) := dk_164 0 5 (dk_at dksX9_bestLot_1 10 rfl rfl)
theorem dX9_bestLot_37 : decode cX9_bestLot 37 = .ok (.iload_n 2, 1) := dk_28 (dk_at dksX9_bestLot_1 13 rfl rfl)
theorem dX9_bestLot_38 : decode cX9_bestLot 38 = .ok (.istore_n 1, 1) := dk_60 (dk_at dksX9_bestLot_1 14 rfl rfl)
theorem dX9_bestLot_39 : decode cX9_bestLot 39 = .ok (.iinc 2 1, 3) := dk_132 2 1 (dk_at dksX9_bestLot_1 15 rfl rfl)
theorem dX9_bestLot_42 : decode cX9_bestLot 42 = .ok (.goto (-38), 3) := dk_167 255 218 (dk_at dksX9_bestLot_1 18 rfl rfl)
theorem dX9_bestLot_45 : decode cX9_bestLot 45 = .ok (.iload_n 1, 1) := dk_27 (dk_at dksX9_bestLot_1 21 rfl rfl)
theorem dX9_bestLot_46 : decode cX9_bestLot 46 = .ok (.ireturn, 1) := dk_172 (dk_at dksX9_bestLot_1 22 rfl rfl)
def dkwX9_seeks_4 : List UInt8 := [182, 0, 113, 177]
abbrev dktX9_seeks_4 : List UInt8 := dkwX9_seeks_4 ++ []
def dkwX9_seeks_3 : List UInt8 := [132, 5, 1, 167, 255, 190, 29, 156, 0, 4, 177, 42, 27, 5, 6, 182, 0, 113, 42, 27, 6, 29]
abbrev dktX9_seeks_3 : List UInt8 := dkwX9_seeks_3 ++ dktX9_seeks_4
def dkwX9_seeks_2 : List UInt8 := [21, 5, 182, 0, 128, 54, 6, 21, 6, 21, 4, 161, 0, 6, 167, 0, 10, 21, 5, 62, 21, 6, 54, 4]
abbrev dktX9_seeks_2 : List UInt8 := dkwX9_seeks_2 ++ dktX9_seeks_3
def dkwX9_seeks_1 : List UInt8 := [5, 182, 0, 76, 7, 160, 0, 42, 42, 21, 5, 4, 182, 0, 76, 28, 162, 0, 6, 167, 0, 28, 42]
abbrev dktX9_seeks_1 : List UInt8 := dkwX9_seeks_1 ++ dktX9_seeks_2
def dkwX9_seeks_0 : List UInt8 := [2, 62, 7, 54, 4, 3, 54, 5, 21, 5, 42, 180, 0, 9, 17, 8, 76, 46, 162, 0, 59, 42, 21, 5]
abbrev dktX9_seeks_0 : List UInt8 := dkwX9_seeks_0 ++ dktX9_seeks_1
theorem dksX9_seeks_0 : cX9_seeks.data.toList.drop 0 = dktX9_seeks_0 := by decide +kernel
theorem dksX9_seeks_1 : cX9_seeks.data.toList.drop 24 = dktX9_seeks_1 := dk_seg dksX9_seeks_0 24 rfl rfl
theorem dksX9_seeks_2 : cX9_seeks.data.toList.drop 47 = dktX9_seeks_2 := dk_seg dksX9_seeks_1 23 rfl rfl
theorem dksX9_seeks_3 : cX9_seeks.data.toList.drop 71 = dktX9_seeks_3 := dk_seg dksX9_seeks_2 24 rfl rfl
theorem dksX9_seeks_4 : cX9_seeks.data.toList.drop 93 = dktX9_seeks_4 := dk_seg dksX9_seeks_3 22 rfl rfl
theorem dX9_seeks_0 : decode cX9_seeks 0 = .ok (.iconst (-1), 1) := dk_2 (dk_at dksX9_seeks_0 0 rfl rfl)
theorem dX9_seeks_1 : decode cX9_seeks 1 = .ok (.istore_n 3, 1) := dk_62 (dk_at dksX9_seeks_0 1 rfl rfl)
theorem dX9_seeks_2 : decode cX9_seeks 2 = .ok (.iconst 4, 1) := dk_7 (dk_at dksX9_seeks_0 2 rfl rfl)
theorem dX9_seeks_3 : decode cX9_seeks 3 = .ok (.istore 4, 2) := dk_54 4 (dk_at dksX9_seeks_0 3 rfl rfl)
theorem dX9_seeks_5 : decode cX9_seeks 5 = .ok (.iconst 0, 1) := dk_3 (dk_at dksX9_seeks_0 5 rfl rfl)
theorem dX9_seeks_6 : decode cX9_seeks 6 = .ok (.istore 5, 2) := dk_54 5 (dk_at dksX9_seeks_0 6 rfl rfl)
theorem dX9_seeks_8 : decode cX9_seeks 8 = .ok (.iload 5, 2) := dk_21 5 (dk_at dksX9_seeks_0 8 rfl rfl)
theorem dX9_seeks_10 : decode cX9_seeks 10 = .ok (.aload_n 0, 1) := dk_42 (dk_at dksX9_seeks_0 10 rfl rfl)
theorem dX9_seeks_11 : decode cX9_seeks 11 = .ok (.getfield 9, 3) := dk_180 0 9 (dk_at dksX9_seeks_0 11 rfl rfl)
theorem dX9_seeks_14 : decode cX9_seeks 14 = .ok (.sipush 2124, 3) := dk_17 8 76 (dk_at dksX9_seeks_0 14 rfl rfl)
theorem dX9_seeks_17 : decode cX9_seeks 17 = .ok (.iaload, 1) := dk_46 (dk_at dksX9_seeks_0 17 rfl rfl)
theorem dX9_seeks_18 : decode cX9_seeks 18 = .ok (.if_icmp .ge 59, 3) := dk_162 0 59 (dk_at dksX9_seeks_0 18 rfl rfl)
theorem dX9_seeks_21 : decode cX9_seeks 21 = .ok (.aload_n 0, 1) := dk_42 (dk_at dksX9_seeks_0 21 rfl rfl)
theorem dX9_seeks_22 : decode cX9_seeks 22 = .ok (.iload 5, 2) := dk_21 5 (dk_at dksX9_seeks_0 22 rfl rfl)
theorem dX9_seeks_24 : decode cX9_seeks 24 = .ok (.iconst 2, 1) := dk_5 (dk_at dksX9_seeks_1 0 rfl rfl)
theorem dX9_seeks_25 : decode cX9_seeks 25 = .ok (.invokevirtual 76, 3) := dk_182 0 76 (dk_at dksX9_seeks_1 1 rfl rfl)
theorem dX9_seeks_28 : decode cX9_seeks 28 = .ok (.iconst 4, 1) := dk_7 (dk_at dksX9_seeks_1 4 rfl rfl)
theorem dX9_seeks_29 : decode cX9_seeks 29 = .ok (.if_icmp .ne 42, 3) := dk_160 0 42 (dk_at dksX9_seeks_1 5 rfl rfl)
theorem dX9_seeks_32 : decode cX9_seeks 32 = .ok (.aload_n 0, 1) := dk_42 (dk_at dksX9_seeks_1 8 rfl rfl)
theorem dX9_seeks_33 : decode cX9_seeks 33 = .ok (.iload 5, 2) := dk_21 5 (dk_at dksX9_seeks_1 9 rfl rfl)
theorem dX9_seeks_35 : decode cX9_seeks 35 = .ok (.iconst 1, 1) := dk_4 (dk_at dksX9_seeks_1 11 rfl rfl)
theorem dX9_seeks_36 : decode cX9_seeks 36 = .ok (.invokevirtual 76, 3) := dk_182 0 76 (dk_at dksX9_seeks_1 12 rfl rfl)
theorem dX9_seeks_39 : decode cX9_seeks 39 = .ok (.iload_n 2, 1) := dk_28 (dk_at dksX9_seeks_1 15 rfl rfl)
theorem dX9_seeks_40 : decode cX9_seeks 40 = .ok (.if_icmp .ge 6, 3) := dk_162 0 6 (dk_at dksX9_seeks_1 16 rfl rfl)
theorem dX9_seeks_43 : decode cX9_seeks 43 = .ok (.goto 28, 3) := dk_167 0 28 (dk_at dksX9_seeks_1 19 rfl rfl)
theorem dX9_seeks_46 : decode cX9_seeks 46 = .ok (.aload_n 0, 1) := dk_42 (dk_at dksX9_seeks_1 22 rfl rfl)
theorem dX9_seeks_47 : decode cX9_seeks 47 = .ok (.iload 5, 2) := dk_21 5 (dk_at dksX9_seeks_2 0 rfl rfl)
theorem dX9_seeks_49 : decode cX9_seeks 49 = .ok (.invokevirtual 128, 3) := dk_182 0 128 (dk_at dksX9_seeks_2 2 rfl rfl)
theorem dX9_seeks_52 : decode cX9_seeks 52 = .ok (.istore 6, 2) := dk_54 6 (dk_at dksX9_seeks_2 5 rfl rfl)
theorem dX9_seeks_54 : decode cX9_seeks 54 = .ok (.iload 6, 2) := dk_21 6 (dk_at dksX9_seeks_2 7 rfl rfl)
theorem dX9_seeks_56 : decode cX9_seeks 56 = .ok (.iload 4, 2) := dk_21 4 (dk_at dksX9_seeks_2 9 rfl rfl)
theorem dX9_seeks_58 : decode cX9_seeks 58 = .ok (.if_icmp .lt 6, 3) := dk_161 0 6 (dk_at dksX9_seeks_2 11 rfl rfl)
theorem dX9_seeks_61 : decode cX9_seeks 61 = .ok (.goto 10, 3) := dk_167 0 10 (dk_at dksX9_seeks_2 14 rfl rfl)
theorem dX9_seeks_64 : decode cX9_seeks 64 = .ok (.iload 5, 2) := dk_21 5 (dk_at dksX9_seeks_2 17 rfl rfl)
theorem dX9_seeks_66 : decode cX9_seeks 66 = .ok (.istore_n 3, 1) := dk_62 (dk_at dksX9_seeks_2 19 rfl rfl)
theorem dX9_seeks_67 : decode cX9_seeks 67 = .ok (.iload 6, 2) := dk_21 6 (dk_at dksX9_seeks_2 20 rfl rfl)
theorem dX9_seeks_69 : decode cX9_seeks 69 = .ok (.istore 4, 2) := dk_54 4 (dk_at dksX9_seeks_2 22 rfl rfl)
theorem dX9_seeks_71 : decode cX9_seeks 71 = .ok (.iinc 5 1, 3) := dk_132 5 1 (dk_at dksX9_seeks_3 0 rfl rfl)
theorem dX9_seeks_74 : decode cX9_seeks 74 = .ok (.goto (-66), 3) := dk_167 255 190 (dk_at dksX9_seeks_3 3 rfl rfl)
theorem dX9_seeks_77 : decode cX9_seeks 77 = .ok (.iload_n 3, 1) := dk_29 (dk_at dksX9_seeks_3 6 rfl rfl)
theorem dX9_seeks_78 : decode cX9_seeks 78 = .ok (.ifCond .ge 4, 3) := dk_156 0 4 (dk_at dksX9_seeks_3 7 rfl rfl)
theorem dX9_seeks_81 : decode cX9_seeks 81 = .ok (.return_, 1) := dk_177 (dk_at dksX9_seeks_3 10 rfl rfl)
theorem dX9_seeks_82 : decode cX9_seeks 82 = .ok (.aload_n 0, 1) := dk_42 (dk_at dksX9_seeks_3 11 rfl rfl)
theorem dX9_seeks_83 : decode cX9_seeks 83 = .ok (.iload_n 1, 1) := dk_27 (dk_at dksX9_seeks_3 12 rfl rfl)
theorem dX9_seeks_84 : decode cX9_seeks 84 = .ok (.iconst 2, 1) := dk_5 (dk_at dksX9_seeks_3 13 rfl rfl)
theorem dX9_seeks_85 : decode cX9_seeks 85 = .ok (.iconst 3, 1) := dk_6 (dk_at dksX9_seeks_3 14 rfl rfl)
theorem dX9_seeks_86 : decode cX9_seeks 86 = .ok (.invokevirtual 113, 3) := dk_182 0 113 (dk_at dksX9_seeks_3 15 rfl rfl)
theorem dX9_seeks_89 : decode cX9_seeks 89 = .ok (.aload_n 0, 1) := dk_42 (dk_at dksX9_seeks_3 18 rfl rfl)
theorem dX9_seeks_90 : decode cX9_seeks 90 = .ok (.iload_n 1, 1) := dk_27 (dk_at dksX9_seeks_3 19 rfl rfl)
theorem dX9_seeks_91 : decode cX9_seeks 91 = .ok (.iconst 3, 1) := dk_6 (dk_at dksX9_seeks_3 20 rfl rfl)
theorem dX9_seeks_92 : decode cX9_seeks 92 = .ok (.iload_n 3, 1) := dk_29 (dk_at dksX9_seeks_3 21 rfl rfl)
theorem dX9_seeks_93 : decode cX9_seeks 93 = .ok (.invokevirtual 113, 3) := dk_182 0 113 (dk_at dksX9_seeks_4 0 rfl rfl)
theorem dX9_seeks_96 : decode cX9_seeks 96 = .ok (.return_, 1) := dk_177 (dk_at dksX9_seeks_4 3 rfl rfl)
def dkwX9_strays_8 : List UInt8 := [21, 6, 182, 1, 101, 177]
abbrev dktX9_strays_8 : List UInt8 := dkwX9_strays_8 ++ []
def dkwX9_strays_7 : List UInt8 := [29, 4, 182, 0, 76, 54, 6, 42, 29, 21, 6, 116, 182, 1, 101, 42, 42, 21, 4, 4, 182, 0, 88]
abbrev dktX9_strays_7 : List UInt8 := dkwX9_strays_7 ++ dktX9_strays_8
def dkwX9_strays_6 : List UInt8 := [182, 1, 92, 28, 104, 54, 5, 21, 5, 42, 29, 4, 182, 0, 76, 162, 0, 8, 21, 5, 167, 0, 9, 42]
abbrev dktX9_strays_6 : List UInt8 := dkwX9_strays_6 ++ dktX9_strays_7
def dkwX9_strays_5 : List UInt8 := [156, 0, 19, 42, 180, 0, 9, 16, 8, 27, 104, 6, 96, 92, 46, 28, 100, 79, 177, 42, 7, 3]
abbrev dktX9_strays_5 : List UInt8 := dkwX9_strays_5 ++ dktX9_strays_6
def dkwX9_strays_4 : List UInt8 := [21, 6, 4, 182, 0, 88, 29, 159, 0, 7, 21, 6, 54, 4, 132, 5, 1, 167, 255, 201, 21, 4]
abbrev dktX9_strays_4 : List UInt8 := dkwX9_strays_4 ++ dktX9_strays_5
def dkwX9_strays_3 : List UInt8 := [184, 1, 149, 54, 6, 21, 6, 155, 0, 31, 42, 21, 6, 3, 182, 0, 88, 184, 0, 107, 153, 0, 18, 42]
abbrev dktX9_strays_3 : List UInt8 := dkwX9_strays_3 ++ dktX9_strays_4
def dkwX9_strays_2 : List UInt8 := [182, 0, 88, 62, 2, 54, 4, 3, 54, 5, 21, 5, 7, 162, 0, 55, 21, 4, 156, 0, 50, 27, 21, 5]
abbrev dktX9_strays_2 : List UInt8 := dkwX9_strays_2 ++ dktX9_strays_3
def dkwX9_strays_1 : List UInt8 := [27, 7, 182, 0, 88, 4, 160, 0, 4, 177, 42, 27, 6, 182, 0, 88, 16, 8, 108, 61, 42, 27, 4]
abbrev dktX9_strays_1 : List UInt8 := dkwX9_strays_1 ++ dktX9_strays_2
def dkwX9_strays_0 : List UInt8 := [42, 27, 3, 182, 0, 88, 184, 0, 104, 153, 0, 24, 42, 27, 6, 182, 0, 88, 16, 8, 161, 0, 13, 42]
abbrev dktX9_strays_0 : List UInt8 := dkwX9_strays_0 ++ dktX9_strays_1
theorem dksX9_strays_0 : cX9_strays.data.toList.drop 0 = dktX9_strays_0 := by decide +kernel
theorem dksX9_strays_1 : cX9_strays.data.toList.drop 24 = dktX9_strays_1 := dk_seg dksX9_strays_0 24 rfl rfl
theorem dksX9_strays_2 : cX9_strays.data.toList.drop 47 = dktX9_strays_2 := dk_seg dksX9_strays_1 23 rfl rfl
theorem dksX9_strays_3 : cX9_strays.data.toList.drop 71 = dktX9_strays_3 := dk_seg dksX9_strays_2 24 rfl rfl
theorem dksX9_strays_4 : cX9_strays.data.toList.drop 95 = dktX9_strays_4 := dk_seg dksX9_strays_3 24 rfl rfl
theorem dksX9_strays_5 : cX9_strays.data.toList.drop 117 = dktX9_strays_5 := dk_seg dksX9_strays_4 22 rfl rfl
theorem dksX9_strays_6 : cX9_strays.data.toList.drop 139 = dktX9_strays_6 := dk_seg dksX9_strays_5 22 rfl rfl
theorem dksX9_strays_7 : cX9_strays.data.toList.drop 163 = dktX9_strays_7 := dk_seg dksX9_strays_6 24 rfl rfl
theorem dksX9_strays_8 : cX9_strays.data.toList.drop 186 = dktX9_strays_8 := dk_seg dksX9_strays_7 23 rfl rfl
theorem dX9_strays_0 : decode cX9_strays 0 = .ok (.aload_n 0, 1) := dk_42 (dk_at dksX9_strays_0 0 rfl rfl)
theorem dX9_strays_1 : decode cX9_strays 1 = .ok (.iload_n 1, 1) := dk_27 (dk_at dksX9_strays_0 1 rfl rfl)
theorem dX9_strays_2 : decode cX9_strays 2 = .ok (.iconst 0, 1) := dk_3 (dk_at dksX9_strays_0 2 rfl rfl)
theorem dX9_strays_3 : decode cX9_strays 3 = .ok (.invokevirtual 88, 3) := dk_182 0 88 (dk_at dksX9_strays_0 3 rfl rfl)
theorem dX9_strays_6 : decode cX9_strays 6 = .ok (.invokestatic 104, 3) := dk_184 0 104 (dk_at dksX9_strays_0 6 rfl rfl)
theorem dX9_strays_9 : decode cX9_strays 9 = .ok (.ifCond .eq 24, 3) := dk_153 0 24 (dk_at dksX9_strays_0 9 rfl rfl)
theorem dX9_strays_12 : decode cX9_strays 12 = .ok (.aload_n 0, 1) := dk_42 (dk_at dksX9_strays_0 12 rfl rfl)
theorem dX9_strays_13 : decode cX9_strays 13 = .ok (.iload_n 1, 1) := dk_27 (dk_at dksX9_strays_0 13 rfl rfl)
theorem dX9_strays_14 : decode cX9_strays 14 = .ok (.iconst 3, 1) := dk_6 (dk_at dksX9_strays_0 14 rfl rfl)
theorem dX9_strays_15 : decode cX9_strays 15 = .ok (.invokevirtual 88, 3) := dk_182 0 88 (dk_at dksX9_strays_0 15 rfl rfl)
theorem dX9_strays_18 : decode cX9_strays 18 = .ok (.bipush 8, 2) := dk_16 8 (dk_at dksX9_strays_0 18 rfl rfl)
theorem dX9_strays_20 : decode cX9_strays 20 = .ok (.if_icmp .lt 13, 3) := dk_161 0 13 (dk_at dksX9_strays_0 20 rfl rfl)
theorem dX9_strays_23 : decode cX9_strays 23 = .ok (.aload_n 0, 1) := dk_42 (dk_at dksX9_strays_0 23 rfl rfl)
theorem dX9_strays_24 : decode cX9_strays 24 = .ok (.iload_n 1, 1) := dk_27 (dk_at dksX9_strays_1 0 rfl rfl)
theorem dX9_strays_25 : decode cX9_strays 25 = .ok (.iconst 4, 1) := dk_7 (dk_at dksX9_strays_1 1 rfl rfl)
theorem dX9_strays_26 : decode cX9_strays 26 = .ok (.invokevirtual 88, 3) := dk_182 0 88 (dk_at dksX9_strays_1 2 rfl rfl)
theorem dX9_strays_29 : decode cX9_strays 29 = .ok (.iconst 1, 1) := dk_4 (dk_at dksX9_strays_1 5 rfl rfl)
theorem dX9_strays_30 : decode cX9_strays 30 = .ok (.if_icmp .ne 4, 3) := dk_160 0 4 (dk_at dksX9_strays_1 6 rfl rfl)
theorem dX9_strays_33 : decode cX9_strays 33 = .ok (.return_, 1) := dk_177 (dk_at dksX9_strays_1 9 rfl rfl)
theorem dX9_strays_34 : decode cX9_strays 34 = .ok (.aload_n 0, 1) := dk_42 (dk_at dksX9_strays_1 10 rfl rfl)
theorem dX9_strays_35 : decode cX9_strays 35 = .ok (.iload_n 1, 1) := dk_27 (dk_at dksX9_strays_1 11 rfl rfl)
theorem dX9_strays_36 : decode cX9_strays 36 = .ok (.iconst 3, 1) := dk_6 (dk_at dksX9_strays_1 12 rfl rfl)
theorem dX9_strays_37 : decode cX9_strays 37 = .ok (.invokevirtual 88, 3) := dk_182 0 88 (dk_at dksX9_strays_1 13 rfl rfl)
theorem dX9_strays_40 : decode cX9_strays 40 = .ok (.bipush 8, 2) := dk_16 8 (dk_at dksX9_strays_1 16 rfl rfl)
theorem dX9_strays_42 : decode cX9_strays 42 = .ok (.idiv, 1) := dk_108 (dk_at dksX9_strays_1 18 rfl rfl)
theorem dX9_strays_43 : decode cX9_strays 43 = .ok (.istore_n 2, 1) := dk_61 (dk_at dksX9_strays_1 19 rfl rfl)
theorem dX9_strays_44 : decode cX9_strays 44 = .ok (.aload_n 0, 1) := dk_42 (dk_at dksX9_strays_1 20 rfl rfl)
theorem dX9_strays_45 : decode cX9_strays 45 = .ok (.iload_n 1, 1) := dk_27 (dk_at dksX9_strays_1 21 rfl rfl)
theorem dX9_strays_46 : decode cX9_strays 46 = .ok (.iconst 1, 1) := dk_4 (dk_at dksX9_strays_1 22 rfl rfl)
theorem dX9_strays_47 : decode cX9_strays 47 = .ok (.invokevirtual 88, 3) := dk_182 0 88 (dk_at dksX9_strays_2 0 rfl rfl)
theorem dX9_strays_50 : decode cX9_strays 50 = .ok (.istore_n 3, 1) := dk_62 (dk_at dksX9_strays_2 3 rfl rfl)
theorem dX9_strays_51 : decode cX9_strays 51 = .ok (.iconst (-1), 1) := dk_2 (dk_at dksX9_strays_2 4 rfl rfl)
theorem dX9_strays_52 : decode cX9_strays 52 = .ok (.istore 4, 2) := dk_54 4 (dk_at dksX9_strays_2 5 rfl rfl)
theorem dX9_strays_54 : decode cX9_strays 54 = .ok (.iconst 0, 1) := dk_3 (dk_at dksX9_strays_2 7 rfl rfl)
theorem dX9_strays_55 : decode cX9_strays 55 = .ok (.istore 5, 2) := dk_54 5 (dk_at dksX9_strays_2 8 rfl rfl)
theorem dX9_strays_57 : decode cX9_strays 57 = .ok (.iload 5, 2) := dk_21 5 (dk_at dksX9_strays_2 10 rfl rfl)
theorem dX9_strays_59 : decode cX9_strays 59 = .ok (.iconst 4, 1) := dk_7 (dk_at dksX9_strays_2 12 rfl rfl)
theorem dX9_strays_60 : decode cX9_strays 60 = .ok (.if_icmp .ge 55, 3) := dk_162 0 55 (dk_at dksX9_strays_2 13 rfl rfl)
theorem dX9_strays_63 : decode cX9_strays 63 = .ok (.iload 4, 2) := dk_21 4 (dk_at dksX9_strays_2 16 rfl rfl)
theorem dX9_strays_65 : decode cX9_strays 65 = .ok (.ifCond .ge 50, 3) := dk_156 0 50 (dk_at dksX9_strays_2 18 rfl rfl)
theorem dX9_strays_68 : decode cX9_strays 68 = .ok (.iload_n 1, 1) := dk_27 (dk_at dksX9_strays_2 21 rfl rfl)
theorem dX9_strays_69 : decode cX9_strays 69 = .ok (.iload 5, 2) := dk_21 5 (dk_at dksX9_strays_2 22 rfl rfl)
theorem dX9_strays_71 : decode cX9_strays 71 = .ok (.invokestatic 405, 3) := dk_184 1 149 (dk_at dksX9_strays_3 0 rfl rfl)
theorem dX9_strays_74 : decode cX9_strays 74 = .ok (.istore 6, 2) := dk_54 6 (dk_at dksX9_strays_3 3 rfl rfl)
theorem dX9_strays_76 : decode cX9_strays 76 = .ok (.iload 6, 2) := dk_21 6 (dk_at dksX9_strays_3 5 rfl rfl)
theorem dX9_strays_78 : decode cX9_strays 78 = .ok (.ifCond .lt 31, 3) := dk_155 0 31 (dk_at dksX9_strays_3 7 rfl rfl)
theorem dX9_strays_81 : decode cX9_strays 81 = .ok (.aload_n 0, 1) := dk_42 (dk_at dksX9_strays_3 10 rfl rfl)
theorem dX9_strays_82 : decode cX9_strays 82 = .ok (.iload 6, 2) := dk_21 6 (dk_at dksX9_strays_3 11 rfl rfl)
theorem dX9_strays_84 : decode cX9_strays 84 = .ok (.iconst 0, 1) := dk_3 (dk_at dksX9_strays_3 13 rfl rfl)
theorem dX9_strays_85 : decode cX9_strays 85 = .ok (.invokevirtual 88, 3) := dk_182 0 88 (dk_at dksX9_strays_3 14 rfl rfl)
theorem dX9_strays_88 : decode cX9_strays 88 = .ok (.invokestatic 107, 3) := dk_184 0 107 (dk_at dksX9_strays_3 17 rfl rfl)
theorem dX9_strays_91 : decode cX9_strays 91 = .ok (.ifCond .eq 18, 3) := dk_153 0 18 (dk_at dksX9_strays_3 20 rfl rfl)
theorem dX9_strays_94 : decode cX9_strays 94 = .ok (.aload_n 0, 1) := dk_42 (dk_at dksX9_strays_3 23 rfl rfl)
theorem dX9_strays_95 : decode cX9_strays 95 = .ok (.iload 6, 2) := dk_21 6 (dk_at dksX9_strays_4 0 rfl rfl)
theorem dX9_strays_97 : decode cX9_strays 97 = .ok (.iconst 1, 1) := dk_4 (dk_at dksX9_strays_4 2 rfl rfl)
theorem dX9_strays_98 : decode cX9_strays 98 = .ok (.invokevirtual 88, 3) := dk_182 0 88 (dk_at dksX9_strays_4 3 rfl rfl)
theorem dX9_strays_101 : decode cX9_strays 101 = .ok (.iload_n 3, 1) := dk_29 (dk_at dksX9_strays_4 6 rfl rfl)
theorem dX9_strays_102 : decode cX9_strays 102 = .ok (.if_icmp .eq 7, 3) := dk_159 0 7 (dk_at dksX9_strays_4 7 rfl rfl)
theorem dX9_strays_105 : decode cX9_strays 105 = .ok (.iload 6, 2) := dk_21 6 (dk_at dksX9_strays_4 10 rfl rfl)
theorem dX9_strays_107 : decode cX9_strays 107 = .ok (.istore 4, 2) := dk_54 4 (dk_at dksX9_strays_4 12 rfl rfl)
theorem dX9_strays_109 : decode cX9_strays 109 = .ok (.iinc 5 1, 3) := dk_132 5 1 (dk_at dksX9_strays_4 14 rfl rfl)
theorem dX9_strays_112 : decode cX9_strays 112 = .ok (.goto (-55), 3) := dk_167 255 201 (dk_at dksX9_strays_4 17 rfl rfl)
theorem dX9_strays_115 : decode cX9_strays 115 = .ok (.iload 4, 2) := dk_21 4 (dk_at dksX9_strays_4 20 rfl rfl)
theorem dX9_strays_117 : decode cX9_strays 117 = .ok (.ifCond .ge 19, 3) := dk_156 0 19 (dk_at dksX9_strays_5 0 rfl rfl)
theorem dX9_strays_120 : decode cX9_strays 120 = .ok (.aload_n 0, 1) := dk_42 (dk_at dksX9_strays_5 3 rfl rfl)
theorem dX9_strays_121 : decode cX9_strays 121 = .ok (.getfield 9, 3) := dk_180 0 9 (dk_at dksX9_strays_5 4 rfl rfl)
theorem dX9_strays_124 : decode cX9_strays 124 = .ok (.bipush 8, 2) := dk_16 8 (dk_at dksX9_strays_5 7 rfl rfl)
theorem dX9_strays_126 : decode cX9_strays 126 = .ok (.iload_n 1, 1) := dk_27 (dk_at dksX9_strays_5 9 rfl rfl)
theorem dX9_strays_127 : decode cX9_strays 127 = .ok (.imul, 1) := dk_104 (dk_at dksX9_strays_5 10 rfl rfl)
theorem dX9_strays_128 : decode cX9_strays 128 = .ok (.iconst 3, 1) := dk_6 (dk_at dksX9_strays_5 11 rfl rfl)
theorem dX9_strays_129 : decode cX9_strays 129 = .ok (.iadd, 1) := dk_96 (dk_at dksX9_strays_5 12 rfl rfl)
theorem dX9_strays_130 : decode cX9_strays 130 = .ok (.dup2, 1) := dk_92 (dk_at dksX9_strays_5 13 rfl rfl)
theorem dX9_strays_131 : decode cX9_strays 131 = .ok (.iaload, 1) := dk_46 (dk_at dksX9_strays_5 14 rfl rfl)
theorem dX9_strays_132 : decode cX9_strays 132 = .ok (.iload_n 2, 1) := dk_28 (dk_at dksX9_strays_5 15 rfl rfl)
theorem dX9_strays_133 : decode cX9_strays 133 = .ok (.isub, 1) := dk_100 (dk_at dksX9_strays_5 16 rfl rfl)
theorem dX9_strays_134 : decode cX9_strays 134 = .ok (.iastore, 1) := dk_79 (dk_at dksX9_strays_5 17 rfl rfl)
theorem dX9_strays_135 : decode cX9_strays 135 = .ok (.return_, 1) := dk_177 (dk_at dksX9_strays_5 18 rfl rfl)
theorem dX9_strays_136 : decode cX9_strays 136 = .ok (.aload_n 0, 1) := dk_42 (dk_at dksX9_strays_5 19 rfl rfl)
theorem dX9_strays_137 : decode cX9_strays 137 = .ok (.iconst 4, 1) := dk_7 (dk_at dksX9_strays_5 20 rfl rfl)
theorem dX9_strays_138 : decode cX9_strays 138 = .ok (.iconst 0, 1) := dk_3 (dk_at dksX9_strays_5 21 rfl rfl)
theorem dX9_strays_139 : decode cX9_strays 139 = .ok (.invokevirtual 348, 3) := dk_182 1 92 (dk_at dksX9_strays_6 0 rfl rfl)
theorem dX9_strays_142 : decode cX9_strays 142 = .ok (.iload_n 2, 1) := dk_28 (dk_at dksX9_strays_6 3 rfl rfl)
theorem dX9_strays_143 : decode cX9_strays 143 = .ok (.imul, 1) := dk_104 (dk_at dksX9_strays_6 4 rfl rfl)
theorem dX9_strays_144 : decode cX9_strays 144 = .ok (.istore 5, 2) := dk_54 5 (dk_at dksX9_strays_6 5 rfl rfl)
theorem dX9_strays_146 : decode cX9_strays 146 = .ok (.iload 5, 2) := dk_21 5 (dk_at dksX9_strays_6 7 rfl rfl)
theorem dX9_strays_148 : decode cX9_strays 148 = .ok (.aload_n 0, 1) := dk_42 (dk_at dksX9_strays_6 9 rfl rfl)
theorem dX9_strays_149 : decode cX9_strays 149 = .ok (.iload_n 3, 1) := dk_29 (dk_at dksX9_strays_6 10 rfl rfl)
theorem dX9_strays_150 : decode cX9_strays 150 = .ok (.iconst 1, 1) := dk_4 (dk_at dksX9_strays_6 11 rfl rfl)
theorem dX9_strays_151 : decode cX9_strays 151 = .ok (.invokevirtual 76, 3) := dk_182 0 76 (dk_at dksX9_strays_6 12 rfl rfl)
theorem dX9_strays_154 : decode cX9_strays 154 = .ok (.if_icmp .ge 8, 3) := dk_162 0 8 (dk_at dksX9_strays_6 15 rfl rfl)
theorem dX9_strays_157 : decode cX9_strays 157 = .ok (.iload 5, 2) := dk_21 5 (dk_at dksX9_strays_6 18 rfl rfl)
theorem dX9_strays_159 : decode cX9_strays 159 = .ok (.goto 9, 3) := dk_167 0 9 (dk_at dksX9_strays_6 20 rfl rfl)
theorem dX9_strays_162 : decode cX9_strays 162 = .ok (.aload_n 0, 1) := dk_42 (dk_at dksX9_strays_6 23 rfl rfl)
theorem dX9_strays_163 : decode cX9_strays 163 = .ok (.iload_n 3, 1) := dk_29 (dk_at dksX9_strays_7 0 rfl rfl)
theorem dX9_strays_164 : decode cX9_strays 164 = .ok (.iconst 1, 1) := dk_4 (dk_at dksX9_strays_7 1 rfl rfl)
theorem dX9_strays_165 : decode cX9_strays 165 = .ok (.invokevirtual 76, 3) := dk_182 0 76 (dk_at dksX9_strays_7 2 rfl rfl)
theorem dX9_strays_168 : decode cX9_strays 168 = .ok (.istore 6, 2) := dk_54 6 (dk_at dksX9_strays_7 5 rfl rfl)
theorem dX9_strays_170 : decode cX9_strays 170 = .ok (.aload_n 0, 1) := dk_42 (dk_at dksX9_strays_7 7 rfl rfl)
theorem dX9_strays_171 : decode cX9_strays 171 = .ok (.iload_n 3, 1) := dk_29 (dk_at dksX9_strays_7 8 rfl rfl)
theorem dX9_strays_172 : decode cX9_strays 172 = .ok (.iload 6, 2) := dk_21 6 (dk_at dksX9_strays_7 9 rfl rfl)
theorem dX9_strays_174 : decode cX9_strays 174 = .ok (.ineg, 1) := dk_116 (dk_at dksX9_strays_7 11 rfl rfl)
theorem dX9_strays_175 : decode cX9_strays 175 = .ok (.invokevirtual 357, 3) := dk_182 1 101 (dk_at dksX9_strays_7 12 rfl rfl)
theorem dX9_strays_178 : decode cX9_strays 178 = .ok (.aload_n 0, 1) := dk_42 (dk_at dksX9_strays_7 15 rfl rfl)
theorem dX9_strays_179 : decode cX9_strays 179 = .ok (.aload_n 0, 1) := dk_42 (dk_at dksX9_strays_7 16 rfl rfl)
theorem dX9_strays_180 : decode cX9_strays 180 = .ok (.iload 4, 2) := dk_21 4 (dk_at dksX9_strays_7 17 rfl rfl)
theorem dX9_strays_182 : decode cX9_strays 182 = .ok (.iconst 1, 1) := dk_4 (dk_at dksX9_strays_7 19 rfl rfl)
theorem dX9_strays_183 : decode cX9_strays 183 = .ok (.invokevirtual 88, 3) := dk_182 0 88 (dk_at dksX9_strays_7 20 rfl rfl)
theorem dX9_strays_186 : decode cX9_strays 186 = .ok (.iload 6, 2) := dk_21 6 (dk_at dksX9_strays_8 0 rfl rfl)
theorem dX9_strays_188 : decode cX9_strays 188 = .ok (.invokevirtual 357, 3) := dk_182 1 101 (dk_at dksX9_strays_8 2 rfl rfl)
theorem dX9_strays_191 : decode cX9_strays 191 = .ok (.return_, 1) := dk_177 (dk_at dksX9_strays_8 5 rfl rfl)
def dkwX9_beside_4 : List UInt8 := [16, 96, 162, 0, 10, 26, 16, 12, 96, 167, 0, 4, 2, 172]
abbrev dktX9_beside_4 : List UInt8 := dkwX9_beside_4 ++ []
def dkwX9_beside_3 : List UInt8 := [167, 0, 4, 2, 172, 28, 16, 11, 162, 0, 9, 26, 4, 96, 167, 0, 4, 2, 172, 26, 16, 12, 96]
abbrev dktX9_beside_3 : List UInt8 := dkwX9_beside_3 ++ dktX9_beside_4
def dkwX9_beside_2 : List UInt8 := [26, 16, 12, 161, 0, 10, 26, 16, 12, 100, 167, 0, 4, 2, 172, 28, 158, 0, 9, 26, 4, 100]
abbrev dktX9_beside_2 : List UInt8 := dkwX9_beside_2 ++ dktX9_beside_3
def dkwX9_beside_1 : List UInt8 := [170, 0, 0, 0, 0, 67, 0, 0, 0, 0, 0, 0, 0, 2, 0, 0, 0, 26, 0, 0, 0, 41, 0, 0, 0, 53]
abbrev dktX9_beside_1 : List UInt8 := dkwX9_beside_1 ++ dktX9_beside_2
def dkwX9_beside_0 : List UInt8 := [26, 16, 12, 112, 61, 27]
abbrev dktX9_beside_0 : List UInt8 := dkwX9_beside_0 ++ dktX9_beside_1
theorem dksX9_beside_0 : cX9_beside.data.toList.drop 0 = dktX9_beside_0 := by decide +kernel
theorem dksX9_beside_1 : cX9_beside.data.toList.drop 6 = dktX9_beside_1 := dk_seg dksX9_beside_0 6 rfl rfl
theorem dksX9_beside_2 : cX9_beside.data.toList.drop 32 = dktX9_beside_2 := dk_seg dksX9_beside_1 26 rfl rfl
theorem dksX9_beside_3 : cX9_beside.data.toList.drop 54 = dktX9_beside_3 := dk_seg dksX9_beside_2 22 rfl rfl
theorem dksX9_beside_4 : cX9_beside.data.toList.drop 77 = dktX9_beside_4 := dk_seg dksX9_beside_3 23 rfl rfl
theorem dX9_beside_0 : decode cX9_beside 0 = .ok (.iload_n 0, 1) := dk_26 (dk_at dksX9_beside_0 0 rfl rfl)
theorem dX9_beside_1 : decode cX9_beside 1 = .ok (.bipush 12, 2) := dk_16 12 (dk_at dksX9_beside_0 1 rfl rfl)
theorem dX9_beside_3 : decode cX9_beside 3 = .ok (.irem, 1) := dk_112 (dk_at dksX9_beside_0 3 rfl rfl)
theorem dX9_beside_4 : decode cX9_beside 4 = .ok (.istore_n 2, 1) := dk_61 (dk_at dksX9_beside_0 4 rfl rfl)
theorem dX9_beside_5 : decode cX9_beside 5 = .ok (.iload_n 1, 1) := dk_27 (dk_at dksX9_beside_0 5 rfl rfl)
theorem dX9_beside_6 : decode cX9_beside 6 = .ok (.tableswitch 67 0 2 #[26, 41, 53], 26) := by decide +kernel
theorem dX9_beside_32 : decode cX9_beside 32 = .ok (.iload_n 0, 1) := dk_26 (dk_at dksX9_beside_2 0 rfl rfl)
theorem dX9_beside_33 : decode cX9_beside 33 = .ok (.bipush 12, 2) := dk_16 12 (dk_at dksX9_beside_2 1 rfl rfl)
theorem dX9_beside_35 : decode cX9_beside 35 = .ok (.if_icmp .lt 10, 3) := dk_161 0 10 (dk_at dksX9_beside_2 3 rfl rfl)
theorem dX9_beside_38 : decode cX9_beside 38 = .ok (.iload_n 0, 1) := dk_26 (dk_at dksX9_beside_2 6 rfl rfl)
theorem dX9_beside_39 : decode cX9_beside 39 = .ok (.bipush 12, 2) := dk_16 12 (dk_at dksX9_beside_2 7 rfl rfl)
theorem dX9_beside_41 : decode cX9_beside 41 = .ok (.isub, 1) := dk_100 (dk_at dksX9_beside_2 9 rfl rfl)
theorem dX9_beside_42 : decode cX9_beside 42 = .ok (.goto 4, 3) := dk_167 0 4 (dk_at dksX9_beside_2 10 rfl rfl)
theorem dX9_beside_45 : decode cX9_beside 45 = .ok (.iconst (-1), 1) := dk_2 (dk_at dksX9_beside_2 13 rfl rfl)
theorem dX9_beside_46 : decode cX9_beside 46 = .ok (.ireturn, 1) := dk_172 (dk_at dksX9_beside_2 14 rfl rfl)
theorem dX9_beside_47 : decode cX9_beside 47 = .ok (.iload_n 2, 1) := dk_28 (dk_at dksX9_beside_2 15 rfl rfl)
theorem dX9_beside_48 : decode cX9_beside 48 = .ok (.ifCond .le 9, 3) := dk_158 0 9 (dk_at dksX9_beside_2 16 rfl rfl)
theorem dX9_beside_51 : decode cX9_beside 51 = .ok (.iload_n 0, 1) := dk_26 (dk_at dksX9_beside_2 19 rfl rfl)
theorem dX9_beside_52 : decode cX9_beside 52 = .ok (.iconst 1, 1) := dk_4 (dk_at dksX9_beside_2 20 rfl rfl)
theorem dX9_beside_53 : decode cX9_beside 53 = .ok (.isub, 1) := dk_100 (dk_at dksX9_beside_2 21 rfl rfl)
theorem dX9_beside_54 : decode cX9_beside 54 = .ok (.goto 4, 3) := dk_167 0 4 (dk_at dksX9_beside_3 0 rfl rfl)
theorem dX9_beside_57 : decode cX9_beside 57 = .ok (.iconst (-1), 1) := dk_2 (dk_at dksX9_beside_3 3 rfl rfl)
theorem dX9_beside_58 : decode cX9_beside 58 = .ok (.ireturn, 1) := dk_172 (dk_at dksX9_beside_3 4 rfl rfl)
theorem dX9_beside_59 : decode cX9_beside 59 = .ok (.iload_n 2, 1) := dk_28 (dk_at dksX9_beside_3 5 rfl rfl)
theorem dX9_beside_60 : decode cX9_beside 60 = .ok (.bipush 11, 2) := dk_16 11 (dk_at dksX9_beside_3 6 rfl rfl)
theorem dX9_beside_62 : decode cX9_beside 62 = .ok (.if_icmp .ge 9, 3) := dk_162 0 9 (dk_at dksX9_beside_3 8 rfl rfl)
theorem dX9_beside_65 : decode cX9_beside 65 = .ok (.iload_n 0, 1) := dk_26 (dk_at dksX9_beside_3 11 rfl rfl)
theorem dX9_beside_66 : decode cX9_beside 66 = .ok (.iconst 1, 1) := dk_4 (dk_at dksX9_beside_3 12 rfl rfl)
theorem dX9_beside_67 : decode cX9_beside 67 = .ok (.iadd, 1) := dk_96 (dk_at dksX9_beside_3 13 rfl rfl)
theorem dX9_beside_68 : decode cX9_beside 68 = .ok (.goto 4, 3) := dk_167 0 4 (dk_at dksX9_beside_3 14 rfl rfl)
theorem dX9_beside_71 : decode cX9_beside 71 = .ok (.iconst (-1), 1) := dk_2 (dk_at dksX9_beside_3 17 rfl rfl)
theorem dX9_beside_72 : decode cX9_beside 72 = .ok (.ireturn, 1) := dk_172 (dk_at dksX9_beside_3 18 rfl rfl)
theorem dX9_beside_73 : decode cX9_beside 73 = .ok (.iload_n 0, 1) := dk_26 (dk_at dksX9_beside_3 19 rfl rfl)
theorem dX9_beside_74 : decode cX9_beside 74 = .ok (.bipush 12, 2) := dk_16 12 (dk_at dksX9_beside_3 20 rfl rfl)
theorem dX9_beside_76 : decode cX9_beside 76 = .ok (.iadd, 1) := dk_96 (dk_at dksX9_beside_3 22 rfl rfl)
theorem dX9_beside_77 : decode cX9_beside 77 = .ok (.bipush 96, 2) := dk_16 96 (dk_at dksX9_beside_4 0 rfl rfl)
theorem dX9_beside_79 : decode cX9_beside 79 = .ok (.if_icmp .ge 10, 3) := dk_162 0 10 (dk_at dksX9_beside_4 2 rfl rfl)
theorem dX9_beside_82 : decode cX9_beside 82 = .ok (.iload_n 0, 1) := dk_26 (dk_at dksX9_beside_4 5 rfl rfl)
theorem dX9_beside_83 : decode cX9_beside 83 = .ok (.bipush 12, 2) := dk_16 12 (dk_at dksX9_beside_4 6 rfl rfl)
theorem dX9_beside_85 : decode cX9_beside 85 = .ok (.iadd, 1) := dk_96 (dk_at dksX9_beside_4 8 rfl rfl)
theorem dX9_beside_86 : decode cX9_beside 86 = .ok (.goto 4, 3) := dk_167 0 4 (dk_at dksX9_beside_4 9 rfl rfl)
theorem dX9_beside_89 : decode cX9_beside 89 = .ok (.iconst (-1), 1) := dk_2 (dk_at dksX9_beside_4 12 rfl rfl)
theorem dX9_beside_90 : decode cX9_beside 90 = .ok (.ireturn, 1) := dk_172 (dk_at dksX9_beside_4 13 rfl rfl)
def dkwX9_yearEnds_12 : List UInt8 := [162, 0, 20, 42, 180, 0, 9, 17, 8, 56, 27, 96, 3, 79, 132, 1, 1, 167, 255, 237, 177]
abbrev dktX9_yearEnds_12 : List UInt8 := dkwX9_yearEnds_12 ++ []
def dkwX9_yearEnds_11 : List UInt8 := [17, 3, 232, 164, 0, 9, 17, 3, 232, 167, 0, 4, 28, 79, 132, 1, 1, 167, 255, 191, 3, 60, 27, 7]
abbrev dktX9_yearEnds_11 : List UInt8 := dkwX9_yearEnds_11 ++ dktX9_yearEnds_12
def dkwX9_yearEnds_10 : List UInt8 := [182, 0, 88, 42, 27, 6, 182, 0, 88, 7, 108, 96, 61, 42, 180, 0, 9, 16, 8, 27, 104, 6, 96, 28]
abbrev dktX9_yearEnds_10 : List UInt8 := dkwX9_yearEnds_10 ++ dktX9_yearEnds_11
def dkwX9_yearEnds_9 : List UInt8 := [16, 96, 162, 0, 65, 42, 27, 3, 182, 0, 88, 184, 0, 104, 154, 0, 6, 167, 0, 44, 42, 27, 6]
abbrev dktX9_yearEnds_9 : List UInt8 := dkwX9_yearEnds_9 ++ dktX9_yearEnds_10
def dkwX9_yearEnds_8 : List UInt8 := [79, 42, 42, 27, 4, 182, 0, 88, 28, 5, 108, 182, 1, 101, 132, 1, 1, 167, 255, 155, 3, 60, 27]
abbrev dktX9_yearEnds_8 : List UInt8 := dkwX9_yearEnds_8 ++ dktX9_yearEnds_9
def dkwX9_yearEnds_7 : List UInt8 := [42, 42, 27, 4, 182, 0, 88, 182, 0, 128, 96, 104, 61, 42, 180, 0, 9, 17, 8, 69, 92, 46, 28, 96]
abbrev dktX9_yearEnds_7 : List UInt8 := dkwX9_yearEnds_7 ++ dktX9_yearEnds_8
def dkwX9_yearEnds_6 : List UInt8 := [42, 180, 0, 16, 27, 46, 42, 180, 0, 9, 17, 8, 56, 27, 184, 0, 97, 96, 46, 184, 1, 152, 104, 4]
abbrev dktX9_yearEnds_6 : List UInt8 := dkwX9_yearEnds_6 ++ dktX9_yearEnds_7
def dkwX9_yearEnds_5 : List UInt8 := [184, 0, 107, 153, 0, 83, 42, 42, 27, 4, 182, 0, 88, 5, 182, 0, 76, 7, 159, 0, 6, 167, 0, 65]
abbrev dktX9_yearEnds_5 : List UInt8 := dkwX9_yearEnds_5 ++ dktX9_yearEnds_6
def dkwX9_yearEnds_4 : List UInt8 := [96, 79, 132, 1, 1, 167, 255, 160, 3, 60, 27, 16, 96, 162, 0, 101, 42, 27, 3, 182, 0, 88]
abbrev dktX9_yearEnds_4 : List UInt8 := dkwX9_yearEnds_4 ++ dktX9_yearEnds_5
def dkwX9_yearEnds_3 : List UInt8 := [4, 96, 79, 42, 180, 0, 9, 17, 8, 64, 27, 96, 92, 46, 42, 180, 0, 9, 17, 8, 56, 27, 96, 46]
abbrev dktX9_yearEnds_3 : List UInt8 := dkwX9_yearEnds_3 ++ dktX9_yearEnds_4
def dkwX9_yearEnds_2 : List UInt8 := [132, 3, 1, 167, 255, 219, 28, 154, 0, 6, 167, 0, 40, 42, 180, 0, 9, 17, 8, 60, 27, 96, 92, 46]
abbrev dktX9_yearEnds_2 : List UInt8 := dkwX9_yearEnds_2 ++ dktX9_yearEnds_3
def dkwX9_yearEnds_1 : List UInt8 := [184, 0, 97, 27, 160, 0, 17, 42, 29, 3, 182, 0, 88, 4, 164, 0, 7, 4, 167, 0, 4, 3, 61]
abbrev dktX9_yearEnds_1 : List UInt8 := dkwX9_yearEnds_1 ++ dktX9_yearEnds_2
def dkwX9_yearEnds_0 : List UInt8 := [3, 60, 27, 7, 162, 0, 97, 3, 61, 3, 62, 29, 16, 96, 162, 0, 37, 28, 154, 0, 21, 29]
abbrev dktX9_yearEnds_0 : List UInt8 := dkwX9_yearEnds_0 ++ dktX9_yearEnds_1
theorem dksX9_yearEnds_0 : cX9_yearEnds.data.toList.drop 0 = dktX9_yearEnds_0 := by decide +kernel
theorem dksX9_yearEnds_1 : cX9_yearEnds.data.toList.drop 22 = dktX9_yearEnds_1 := dk_seg dksX9_yearEnds_0 22 rfl rfl
theorem dksX9_yearEnds_2 : cX9_yearEnds.data.toList.drop 45 = dktX9_yearEnds_2 := dk_seg dksX9_yearEnds_1 23 rfl rfl
theorem dksX9_yearEnds_3 : cX9_yearEnds.data.toList.drop 69 = dktX9_yearEnds_3 := dk_seg dksX9_yearEnds_2 24 rfl rfl
theorem dksX9_yearEnds_4 : cX9_yearEnds.data.toList.drop 93 = dktX9_yearEnds_4 := dk_seg dksX9_yearEnds_3 24 rfl rfl
theorem dksX9_yearEnds_5 : cX9_yearEnds.data.toList.drop 115 = dktX9_yearEnds_5 := dk_seg dksX9_yearEnds_4 22 rfl rfl
theorem dksX9_yearEnds_6 : cX9_yearEnds.data.toList.drop 139 = dktX9_yearEnds_6 := dk_seg dksX9_yearEnds_5 24 rfl rfl
theorem dksX9_yearEnds_7 : cX9_yearEnds.data.toList.drop 163 = dktX9_yearEnds_7 := dk_seg dksX9_yearEnds_6 24 rfl rfl
theorem dksX9_yearEnds_8 : cX9_yearEnds.data.toList.drop 187 = dktX9_yearEnds_8 := dk_seg dksX9_yearEnds_7 24 rfl rfl
theorem dksX9_yearEnds_9 : cX9_yearEnds.data.toList.drop 210 = dktX9_yearEnds_9 := dk_seg dksX9_yearEnds_8 23 rfl rfl
theorem dksX9_yearEnds_10 : cX9_yearEnds.data.toList.drop 233 = dktX9_yearEnds_10 := dk_seg dksX9_yearEnds_9 23 rfl rfl
theorem dksX9_yearEnds_11 : cX9_yearEnds.data.toList.drop 257 = dktX9_yearEnds_11 := dk_seg dksX9_yearEnds_10 24 rfl rfl
theorem dksX9_yearEnds_12 : cX9_yearEnds.data.toList.drop 281 = dktX9_yearEnds_12 := dk_seg dksX9_yearEnds_11 24 rfl rfl
theorem dX9_yearEnds_0 : decode cX9_yearEnds 0 = .ok (.iconst 0, 1) := dk_3 (dk_at dksX9_yearEnds_0 0 rfl rfl)
theorem dX9_yearEnds_1 : decode cX9_yearEnds 1 = .ok (.istore_n 1, 1) := dk_60 (dk_at dksX9_yearEnds_0 1 rfl rfl)
theorem dX9_yearEnds_2 : decode cX9_yearEnds 2 = .ok (.iload_n 1, 1) := dk_27 (dk_at dksX9_yearEnds_0 2 rfl rfl)
theorem dX9_yearEnds_3 : decode cX9_yearEnds 3 = .ok (.iconst 4, 1) := dk_7 (dk_at dksX9_yearEnds_0 3 rfl rfl)
theorem dX9_yearEnds_4 : decode cX9_yearEnds 4 = .ok (.if_icmp .ge 97, 3) := dk_162 0 97 (dk_at dksX9_yearEnds_0 4 rfl rfl)
theorem dX9_yearEnds_7 : decode cX9_yearEnds 7 = .ok (.iconst 0, 1) := dk_3 (dk_at dksX9_yearEnds_0 7 rfl rfl)
theorem dX9_yearEnds_8 : decode cX9_yearEnds 8 = .ok (.istore_n 2, 1) := dk_61 (dk_at dksX9_yearEnds_0 8 rfl rfl)
theorem dX9_yearEnds_9 : decode cX9_yearEnds 9 = .ok (.iconst 0, 1) := dk_3 (dk_at dksX9_yearEnds_0 9 rfl rfl)
theorem dX9_yearEnds_10 : decode cX9_yearEnds 10 = .ok (.istore_n 3, 1) := dk_62 (dk_at dksX9_yearEnds_0 10 rfl rfl)
theorem dX9_yearEnds_11 : decode cX9_yearEnds 11 = .ok (.iload_n 3, 1) := dk_29 (dk_at dksX9_yearEnds_0 11 rfl rfl)
theorem dX9_yearEnds_12 : decode cX9_yearEnds 12 = .ok (.bipush 96, 2) := dk_16 96 (dk_at dksX9_yearEnds_0 12 rfl rfl)
theorem dX9_yearEnds_14 : decode cX9_yearEnds 14 = .ok (.if_icmp .ge 37, 3) := dk_162 0 37 (dk_at dksX9_yearEnds_0 14 rfl rfl)
theorem dX9_yearEnds_17 : decode cX9_yearEnds 17 = .ok (.iload_n 2, 1) := dk_28 (dk_at dksX9_yearEnds_0 17 rfl rfl)
theorem dX9_yearEnds_18 : decode cX9_yearEnds 18 = .ok (.ifCond .ne 21, 3) := dk_154 0 21 (dk_at dksX9_yearEnds_0 18 rfl rfl)
theorem dX9_yearEnds_21 : decode cX9_yearEnds 21 = .ok (.iload_n 3, 1) := dk_29 (dk_at dksX9_yearEnds_0 21 rfl rfl)
theorem dX9_yearEnds_22 : decode cX9_yearEnds 22 = .ok (.invokestatic 97, 3) := dk_184 0 97 (dk_at dksX9_yearEnds_1 0 rfl rfl)
theorem dX9_yearEnds_25 : decode cX9_yearEnds 25 = .ok (.iload_n 1, 1) := dk_27 (dk_at dksX9_yearEnds_1 3 rfl rfl)
theorem dX9_yearEnds_26 : decode cX9_yearEnds 26 = .ok (.if_icmp .ne 17, 3) := dk_160 0 17 (dk_at dksX9_yearEnds_1 4 rfl rfl)
theorem dX9_yearEnds_29 : decode cX9_yearEnds 29 = .ok (.aload_n 0, 1) := dk_42 (dk_at dksX9_yearEnds_1 7 rfl rfl)
theorem dX9_yearEnds_30 : decode cX9_yearEnds 30 = .ok (.iload_n 3, 1) := dk_29 (dk_at dksX9_yearEnds_1 8 rfl rfl)
theorem dX9_yearEnds_31 : decode cX9_yearEnds 31 = .ok (.iconst 0, 1) := dk_3 (dk_at dksX9_yearEnds_1 9 rfl rfl)
theorem dX9_yearEnds_32 : decode cX9_yearEnds 32 = .ok (.invokevirtual 88, 3) := dk_182 0 88 (dk_at dksX9_yearEnds_1 10 rfl rfl)
theorem dX9_yearEnds_35 : decode cX9_yearEnds 35 = .ok (.iconst 1, 1) := dk_4 (dk_at dksX9_yearEnds_1 13 rfl rfl)
theorem dX9_yearEnds_36 : decode cX9_yearEnds 36 = .ok (.if_icmp .le 7, 3) := dk_164 0 7 (dk_at dksX9_yearEnds_1 14 rfl rfl)
theorem dX9_yearEnds_39 : decode cX9_yearEnds 39 = .ok (.iconst 1, 1) := dk_4 (dk_at dksX9_yearEnds_1 17 rfl rfl)
theorem dX9_yearEnds_40 : decode cX9_yearEnds 40 = .ok (.goto 4, 3) := dk_167 0 4 (dk_at dksX9_yearEnds_1 18 rfl rfl)
theorem dX9_yearEnds_43 : decode cX9_yearEnds 43 = .ok (.iconst 0, 1) := dk_3 (dk_at dksX9_yearEnds_1 21 rfl rfl)
theorem dX9_yearEnds_44 : decode cX9_yearEnds 44 = .ok (.istore_n 2, 1) := dk_61 (dk_at dksX9_yearEnds_1 22 rfl rfl)
theorem dX9_yearEnds_45 : decode cX9_yearEnds 45 = .ok (.iinc 3 1, 3) := dk_132 3 1 (dk_at dksX9_yearEnds_2 0 rfl rfl)
theorem dX9_yearEnds_48 : decode cX9_yearEnds 48 = .ok (.goto (-37), 3) := dk_167 255 219 (dk_at dksX9_yearEnds_2 3 rfl rfl)
theorem dX9_yearEnds_51 : decode cX9_yearEnds 51 = .ok (.iload_n 2, 1) := dk_28 (dk_at dksX9_yearEnds_2 6 rfl rfl)
theorem dX9_yearEnds_52 : decode cX9_yearEnds 52 = .ok (.ifCond .ne 6, 3) := dk_154 0 6 (dk_at dksX9_yearEnds_2 7 rfl rfl)
theorem dX9_yearEnds_55 : decode cX9_yearEnds 55 = .ok (.goto 40, 3) := dk_167 0 40 (dk_at dksX9_yearEnds_2 10 rfl rfl)
theorem dX9_yearEnds_58 : decode cX9_yearEnds 58 = .ok (.aload_n 0, 1) := dk_42 (dk_at dksX9_yearEnds_2 13 rfl rfl)
theorem dX9_yearEnds_59 : decode cX9_yearEnds 59 = .ok (.getfield 9, 3) := dk_180 0 9 (dk_at dksX9_yearEnds_2 14 rfl rfl)
theorem dX9_yearEnds_62 : decode cX9_yearEnds 62 = .ok (.sipush 2108, 3) := dk_17 8 60 (dk_at dksX9_yearEnds_2 17 rfl rfl)
theorem dX9_yearEnds_65 : decode cX9_yearEnds 65 = .ok (.iload_n 1, 1) := dk_27 (dk_at dksX9_yearEnds_2 20 rfl rfl)
theorem dX9_yearEnds_66 : decode cX9_yearEnds 66 = .ok (.iadd, 1) := dk_96 (dk_at dksX9_yearEnds_2 21 rfl rfl)
theorem dX9_yearEnds_67 : decode cX9_yearEnds 67 = .ok (.dup2, 1) := dk_92 (dk_at dksX9_yearEnds_2 22 rfl rfl)
theorem dX9_yearEnds_68 : decode cX9_yearEnds 68 = .ok (.iaload, 1) := dk_46 (dk_at dksX9_yearEnds_2 23 rfl rfl)
theorem dX9_yearEnds_69 : decode cX9_yearEnds 69 = .ok (.iconst 1, 1) := dk_4 (dk_at dksX9_yearEnds_3 0 rfl rfl)
theorem dX9_yearEnds_70 : decode cX9_yearEnds 70 = .ok (.iadd, 1) := dk_96 (dk_at dksX9_yearEnds_3 1 rfl rfl)
theorem dX9_yearEnds_71 : decode cX9_yearEnds 71 = .ok (.iastore, 1) := dk_79 (dk_at dksX9_yearEnds_3 2 rfl rfl)
theorem dX9_yearEnds_72 : decode cX9_yearEnds 72 = .ok (.aload_n 0, 1) := dk_42 (dk_at dksX9_yearEnds_3 3 rfl rfl)
theorem dX9_yearEnds_73 : decode cX9_yearEnds 73 = .ok (.getfield 9, 3) := dk_180 0 9 (dk_at dksX9_yearEnds_3 4 rfl rfl)
theorem dX9_yearEnds_76 : decode cX9_yearEnds 76 = .ok (.sipush 2112, 3) := dk_17 8 64 (dk_at dksX9_yearEnds_3 7 rfl rfl)
theorem dX9_yearEnds_79 : decode cX9_yearEnds 79 = .ok (.iload_n 1, 1) := dk_27 (dk_at dksX9_yearEnds_3 10 rfl rfl)
theorem dX9_yearEnds_80 : decode cX9_yearEnds 80 = .ok (.iadd, 1) := dk_96 (dk_at dksX9_yearEnds_3 11 rfl rfl)
theorem dX9_yearEnds_81 : decode cX9_yearEnds 81 = .ok (.dup2, 1) := dk_92 (dk_at dksX9_yearEnds_3 12 rfl rfl)
theorem dX9_yearEnds_82 : decode cX9_yearEnds 82 = .ok (.iaload, 1) := dk_46 (dk_at dksX9_yearEnds_3 13 rfl rfl)
theorem dX9_yearEnds_83 : decode cX9_yearEnds 83 = .ok (.aload_n 0, 1) := dk_42 (dk_at dksX9_yearEnds_3 14 rfl rfl)
theorem dX9_yearEnds_84 : decode cX9_yearEnds 84 = .ok (.getfield 9, 3) := dk_180 0 9 (dk_at dksX9_yearEnds_3 15 rfl rfl)
theorem dX9_yearEnds_87 : decode cX9_yearEnds 87 = .ok (.sipush 2104, 3) := dk_17 8 56 (dk_at dksX9_yearEnds_3 18 rfl rfl)
theorem dX9_yearEnds_90 : decode cX9_yearEnds 90 = .ok (.iload_n 1, 1) := dk_27 (dk_at dksX9_yearEnds_3 21 rfl rfl)
theorem dX9_yearEnds_91 : decode cX9_yearEnds 91 = .ok (.iadd, 1) := dk_96 (dk_at dksX9_yearEnds_3 22 rfl rfl)
theorem dX9_yearEnds_92 : decode cX9_yearEnds 92 = .ok (.iaload, 1) := dk_46 (dk_at dksX9_yearEnds_3 23 rfl rfl)
theorem dX9_yearEnds_93 : decode cX9_yearEnds 93 = .ok (.iadd, 1) := dk_96 (dk_at dksX9_yearEnds_4 0 rfl rfl)
theorem dX9_yearEnds_94 : decode cX9_yearEnds 94 = .ok (.iastore, 1) := dk_79 (dk_at dksX9_yearEnds_4 1 rfl rfl)
theorem dX9_yearEnds_95 : decode cX9_yearEnds 95 = .ok (.iinc 1 1, 3) := dk_132 1 1 (dk_at dksX9_yearEnds_4 2 rfl rfl)
theorem dX9_yearEnds_98 : decode cX9_yearEnds 98 = .ok (.goto (-96), 3) := dk_167 255 160 (dk_at dksX9_yearEnds_4 5 rfl rfl)
theorem dX9_yearEnds_101 : decode cX9_yearEnds 101 = .ok (.iconst 0, 1) := dk_3 (dk_at dksX9_yearEnds_4 8 rfl rfl)
theorem dX9_yearEnds_102 : decode cX9_yearEnds 102 = .ok (.istore_n 1, 1) := dk_60 (dk_at dksX9_yearEnds_4 9 rfl rfl)
theorem dX9_yearEnds_103 : decode cX9_yearEnds 103 = .ok (.iload_n 1, 1) := dk_27 (dk_at dksX9_yearEnds_4 10 rfl rfl)
theorem dX9_yearEnds_104 : decode cX9_yearEnds 104 = .ok (.bipush 96, 2) := dk_16 96 (dk_at dksX9_yearEnds_4 11 rfl rfl)
theorem dX9_yearEnds_106 : decode cX9_yearEnds 106 = .ok (.if_icmp .ge 101, 3) := dk_162 0 101 (dk_at dksX9_yearEnds_4 13 rfl rfl)
theorem dX9_yearEnds_109 : decode cX9_yearEnds 109 = .ok (.aload_n 0, 1) := dk_42 (dk_at dksX9_yearEnds_4 16 rfl rfl)
theorem dX9_yearEnds_110 : decode cX9_yearEnds 110 = .ok (.iload_n 1, 1) := dk_27 (dk_at dksX9_yearEnds_4 17 rfl rfl)
theorem dX9_yearEnds_111 : decode cX9_yearEnds 111 = .ok (.iconst 0, 1) := dk_3 (dk_at dksX9_yearEnds_4 18 rfl rfl)
theorem dX9_yearEnds_112 : decode cX9_yearEnds 112 = .ok (.invokevirtual 88, 3) := dk_182 0 88 (dk_at dksX9_yearEnds_4 19 rfl rfl)
theorem dX9_yearEnds_115 : decode cX9_yearEnds 115 = .ok (.invokestatic 107, 3) := dk_184 0 107 (dk_at dksX9_yearEnds_5 0 rfl rfl)
theorem dX9_yearEnds_118 : decode cX9_yearEnds 118 = .ok (.ifCond .eq 83, 3) := dk_153 0 83 (dk_at dksX9_yearEnds_5 3 rfl rfl)
theorem dX9_yearEnds_121 : decode cX9_yearEnds 121 = .ok (.aload_n 0, 1) := dk_42 (dk_at dksX9_yearEnds_5 6 rfl rfl)
theorem dX9_yearEnds_122 : decode cX9_yearEnds 122 = .ok (.aload_n 0, 1) := dk_42 (dk_at dksX9_yearEnds_5 7 rfl rfl)
theorem dX9_yearEnds_123 : decode cX9_yearEnds 123 = .ok (.iload_n 1, 1) := dk_27 (dk_at dksX9_yearEnds_5 8 rfl rfl)
theorem dX9_yearEnds_124 : decode cX9_yearEnds 124 = .ok (.iconst 1, 1) := dk_4 (dk_at dksX9_yearEnds_5 9 rfl rfl)
theorem dX9_yearEnds_125 : decode cX9_yearEnds 125 = .ok (.invokevirtual 88, 3) := dk_182 0 88 (dk_at dksX9_yearEnds_5 10 rfl rfl)
theorem dX9_yearEnds_128 : decode cX9_yearEnds 128 = .ok (.iconst 2, 1) := dk_5 (dk_at dksX9_yearEnds_5 13 rfl rfl)
theorem dX9_yearEnds_129 : decode cX9_yearEnds 129 = .ok (.invokevirtual 76, 3) := dk_182 0 76 (dk_at dksX9_yearEnds_5 14 rfl rfl)
theorem dX9_yearEnds_132 : decode cX9_yearEnds 132 = .ok (.iconst 4, 1) := dk_7 (dk_at dksX9_yearEnds_5 17 rfl rfl)
theorem dX9_yearEnds_133 : decode cX9_yearEnds 133 = .ok (.if_icmp .eq 6, 3) := dk_159 0 6 (dk_at dksX9_yearEnds_5 18 rfl rfl)
theorem dX9_yearEnds_136 : decode cX9_yearEnds 136 = .ok (.goto 65, 3) := dk_167 0 65 (dk_at dksX9_yearEnds_5 21 rfl rfl)
theorem dX9_yearEnds_139 : decode cX9_yearEnds 139 = .ok (.aload_n 0, 1) := dk_42 (dk_at dksX9_yearEnds_6 0 rfl rfl)
theorem dX9_yearEnds_140 : decode cX9_yearEnds 140 = .ok (.getfield 16, 3) := dk_180 0 16 (dk_at dksX9_yearEnds_6 1 rfl rfl)
theorem dX9_yearEnds_143 : decode cX9_yearEnds 143 = .ok (.iload_n 1, 1) := dk_27 (dk_at dksX9_yearEnds_6 4 rfl rfl)
theorem dX9_yearEnds_144 : decode cX9_yearEnds 144 = .ok (.iaload, 1) := dk_46 (dk_at dksX9_yearEnds_6 5 rfl rfl)
theorem dX9_yearEnds_145 : decode cX9_yearEnds 145 = .ok (.aload_n 0, 1) := dk_42 (dk_at dksX9_yearEnds_6 6 rfl rfl)
theorem dX9_yearEnds_146 : decode cX9_yearEnds 146 = .ok (.getfield 9, 3) := dk_180 0 9 (dk_at dksX9_yearEnds_6 7 rfl rfl)
theorem dX9_yearEnds_149 : decode cX9_yearEnds 149 = .ok (.sipush 2104, 3) := dk_17 8 56 (dk_at dksX9_yearEnds_6 10 rfl rfl)
theorem dX9_yearEnds_152 : decode cX9_yearEnds 152 = .ok (.iload_n 1, 1) := dk_27 (dk_at dksX9_yearEnds_6 13 rfl rfl)
theorem dX9_yearEnds_153 : decode cX9_yearEnds 153 = .ok (.invokestatic 97, 3) := dk_184 0 97 (dk_at dksX9_yearEnds_6 14 rfl rfl)
theorem dX9_yearEnds_156 : decode cX9_yearEnds 156 = .ok (.iadd, 1) := dk_96 (dk_at dksX9_yearEnds_6 17 rfl rfl)
theorem dX9_yearEnds_157 : decode cX9_yearEnds 157 = .ok (.iaload, 1) := dk_46 (dk_at dksX9_yearEnds_6 18 rfl rfl)
theorem dX9_yearEnds_158 : decode cX9_yearEnds 158 = .ok (.invokestatic 408, 3) := dk_184 1 152 (dk_at dksX9_yearEnds_6 19 rfl rfl)
theorem dX9_yearEnds_161 : decode cX9_yearEnds 161 = .ok (.imul, 1) := dk_104 (dk_at dksX9_yearEnds_6 22 rfl rfl)
theorem dX9_yearEnds_162 : decode cX9_yearEnds 162 = .ok (.iconst 1, 1) := dk_4 (dk_at dksX9_yearEnds_6 23 rfl rfl)
theorem dX9_yearEnds_163 : decode cX9_yearEnds 163 = .ok (.aload_n 0, 1) := dk_42 (dk_at dksX9_yearEnds_7 0 rfl rfl)
theorem dX9_yearEnds_164 : decode cX9_yearEnds 164 = .ok (.aload_n 0, 1) := dk_42 (dk_at dksX9_yearEnds_7 1 rfl rfl)
theorem dX9_yearEnds_165 : decode cX9_yearEnds 165 = .ok (.iload_n 1, 1) := dk_27 (dk_at dksX9_yearEnds_7 2 rfl rfl)
theorem dX9_yearEnds_166 : decode cX9_yearEnds 166 = .ok (.iconst 1, 1) := dk_4 (dk_at dksX9_yearEnds_7 3 rfl rfl)
theorem dX9_yearEnds_167 : decode cX9_yearEnds 167 = .ok (.invokevirtual 88, 3) := dk_182 0 88 (dk_at dksX9_yearEnds_7 4 rfl rfl)
theorem dX9_yearEnds_170 : decode cX9_yearEnds 170 = .ok (.invokevirtual 128, 3) := dk_182 0 128 (dk_at dksX9_yearEnds_7 7 rfl rfl)
theorem dX9_yearEnds_173 : decode cX9_yearEnds 173 = .ok (.iadd, 1) := dk_96 (dk_at dksX9_yearEnds_7 10 rfl rfl)
theorem dX9_yearEnds_174 : decode cX9_yearEnds 174 = .ok (.imul, 1) := dk_104 (dk_at dksX9_yearEnds_7 11 rfl rfl)
theorem dX9_yearEnds_175 : decode cX9_yearEnds 175 = .ok (.istore_n 2, 1) := dk_61 (dk_at dksX9_yearEnds_7 12 rfl rfl)
theorem dX9_yearEnds_176 : decode cX9_yearEnds 176 = .ok (.aload_n 0, 1) := dk_42 (dk_at dksX9_yearEnds_7 13 rfl rfl)
theorem dX9_yearEnds_177 : decode cX9_yearEnds 177 = .ok (.getfield 9, 3) := dk_180 0 9 (dk_at dksX9_yearEnds_7 14 rfl rfl)
theorem dX9_yearEnds_180 : decode cX9_yearEnds 180 = .ok (.sipush 2117, 3) := dk_17 8 69 (dk_at dksX9_yearEnds_7 17 rfl rfl)
theorem dX9_yearEnds_183 : decode cX9_yearEnds 183 = .ok (.dup2, 1) := dk_92 (dk_at dksX9_yearEnds_7 20 rfl rfl)
theorem dX9_yearEnds_184 : decode cX9_yearEnds 184 = .ok (.iaload, 1) := dk_46 (dk_at dksX9_yearEnds_7 21 rfl rfl)
theorem dX9_yearEnds_185 : decode cX9_yearEnds 185 = .ok (.iload_n 2, 1) := dk_28 (dk_at dksX9_yearEnds_7 22 rfl rfl)
theorem dX9_yearEnds_186 : decode cX9_yearEnds 186 = .ok (.iadd, 1) := dk_96 (dk_at dksX9_yearEnds_7 23 rfl rfl)
theorem dX9_yearEnds_187 : decode cX9_yearEnds 187 = .ok (.iastore, 1) := dk_79 (dk_at dksX9_yearEnds_8 0 rfl rfl)
theorem dX9_yearEnds_188 : decode cX9_yearEnds 188 = .ok (.aload_n 0, 1) := dk_42 (dk_at dksX9_yearEnds_8 1 rfl rfl)
theorem dX9_yearEnds_189 : decode cX9_yearEnds 189 = .ok (.aload_n 0, 1) := dk_42 (dk_at dksX9_yearEnds_8 2 rfl rfl)
theorem dX9_yearEnds_190 : decode cX9_yearEnds 190 = .ok (.iload_n 1, 1) := dk_27 (dk_at dksX9_yearEnds_8 3 rfl rfl)
theorem dX9_yearEnds_191 : decode cX9_yearEnds 191 = .ok (.iconst 1, 1) := dk_4 (dk_at dksX9_yearEnds_8 4 rfl rfl)
theorem dX9_yearEnds_192 : decode cX9_yearEnds 192 = .ok (.invokevirtual 88, 3) := dk_182 0 88 (dk_at dksX9_yearEnds_8 5 rfl rfl)
theorem dX9_yearEnds_195 : decode cX9_yearEnds 195 = .ok (.iload_n 2, 1) := dk_28 (dk_at dksX9_yearEnds_8 8 rfl rfl)
theorem dX9_yearEnds_196 : decode cX9_yearEnds 196 = .ok (.iconst 2, 1) := dk_5 (dk_at dksX9_yearEnds_8 9 rfl rfl)
theorem dX9_yearEnds_197 : decode cX9_yearEnds 197 = .ok (.idiv, 1) := dk_108 (dk_at dksX9_yearEnds_8 10 rfl rfl)
theorem dX9_yearEnds_198 : decode cX9_yearEnds 198 = .ok (.invokevirtual 357, 3) := dk_182 1 101 (dk_at dksX9_yearEnds_8 11 rfl rfl)
theorem dX9_yearEnds_201 : decode cX9_yearEnds 201 = .ok (.iinc 1 1, 3) := dk_132 1 1 (dk_at dksX9_yearEnds_8 14 rfl rfl)
theorem dX9_yearEnds_204 : decode cX9_yearEnds 204 = .ok (.goto (-101), 3) := dk_167 255 155 (dk_at dksX9_yearEnds_8 17 rfl rfl)
theorem dX9_yearEnds_207 : decode cX9_yearEnds 207 = .ok (.iconst 0, 1) := dk_3 (dk_at dksX9_yearEnds_8 20 rfl rfl)
theorem dX9_yearEnds_208 : decode cX9_yearEnds 208 = .ok (.istore_n 1, 1) := dk_60 (dk_at dksX9_yearEnds_8 21 rfl rfl)
theorem dX9_yearEnds_209 : decode cX9_yearEnds 209 = .ok (.iload_n 1, 1) := dk_27 (dk_at dksX9_yearEnds_8 22 rfl rfl)
theorem dX9_yearEnds_210 : decode cX9_yearEnds 210 = .ok (.bipush 96, 2) := dk_16 96 (dk_at dksX9_yearEnds_9 0 rfl rfl)
theorem dX9_yearEnds_212 : decode cX9_yearEnds 212 = .ok (.if_icmp .ge 65, 3) := dk_162 0 65 (dk_at dksX9_yearEnds_9 2 rfl rfl)
theorem dX9_yearEnds_215 : decode cX9_yearEnds 215 = .ok (.aload_n 0, 1) := dk_42 (dk_at dksX9_yearEnds_9 5 rfl rfl)
theorem dX9_yearEnds_216 : decode cX9_yearEnds 216 = .ok (.iload_n 1, 1) := dk_27 (dk_at dksX9_yearEnds_9 6 rfl rfl)
theorem dX9_yearEnds_217 : decode cX9_yearEnds 217 = .ok (.iconst 0, 1) := dk_3 (dk_at dksX9_yearEnds_9 7 rfl rfl)
theorem dX9_yearEnds_218 : decode cX9_yearEnds 218 = .ok (.invokevirtual 88, 3) := dk_182 0 88 (dk_at dksX9_yearEnds_9 8 rfl rfl)
theorem dX9_yearEnds_221 : decode cX9_yearEnds 221 = .ok (.invokestatic 104, 3) := dk_184 0 104 (dk_at dksX9_yearEnds_9 11 rfl rfl)
theorem dX9_yearEnds_224 : decode cX9_yearEnds 224 = .ok (.ifCond .ne 6, 3) := dk_154 0 6 (dk_at dksX9_yearEnds_9 14 rfl rfl)
theorem dX9_yearEnds_227 : decode cX9_yearEnds 227 = .ok (.goto 44, 3) := dk_167 0 44 (dk_at dksX9_yearEnds_9 17 rfl rfl)
theorem dX9_yearEnds_230 : decode cX9_yearEnds 230 = .ok (.aload_n 0, 1) := dk_42 (dk_at dksX9_yearEnds_9 20 rfl rfl)
theorem dX9_yearEnds_231 : decode cX9_yearEnds 231 = .ok (.iload_n 1, 1) := dk_27 (dk_at dksX9_yearEnds_9 21 rfl rfl)
theorem dX9_yearEnds_232 : decode cX9_yearEnds 232 = .ok (.iconst 3, 1) := dk_6 (dk_at dksX9_yearEnds_9 22 rfl rfl)
theorem dX9_yearEnds_233 : decode cX9_yearEnds 233 = .ok (.invokevirtual 88, 3) := dk_182 0 88 (dk_at dksX9_yearEnds_10 0 rfl rfl)
theorem dX9_yearEnds_236 : decode cX9_yearEnds 236 = .ok (.aload_n 0, 1) := dk_42 (dk_at dksX9_yearEnds_10 3 rfl rfl)
theorem dX9_yearEnds_237 : decode cX9_yearEnds 237 = .ok (.iload_n 1, 1) := dk_27 (dk_at dksX9_yearEnds_10 4 rfl rfl)
theorem dX9_yearEnds_238 : decode cX9_yearEnds 238 = .ok (.iconst 3, 1) := dk_6 (dk_at dksX9_yearEnds_10 5 rfl rfl)
theorem dX9_yearEnds_239 : decode cX9_yearEnds 239 = .ok (.invokevirtual 88, 3) := dk_182 0 88 (dk_at dksX9_yearEnds_10 6 rfl rfl)
theorem dX9_yearEnds_242 : decode cX9_yearEnds 242 = .ok (.iconst 4, 1) := dk_7 (dk_at dksX9_yearEnds_10 9 rfl rfl)
theorem dX9_yearEnds_243 : decode cX9_yearEnds 243 = .ok (.idiv, 1) := dk_108 (dk_at dksX9_yearEnds_10 10 rfl rfl)
theorem dX9_yearEnds_244 : decode cX9_yearEnds 244 = .ok (.iadd, 1) := dk_96 (dk_at dksX9_yearEnds_10 11 rfl rfl)
theorem dX9_yearEnds_245 : decode cX9_yearEnds 245 = .ok (.istore_n 2, 1) := dk_61 (dk_at dksX9_yearEnds_10 12 rfl rfl)
theorem dX9_yearEnds_246 : decode cX9_yearEnds 246 = .ok (.aload_n 0, 1) := dk_42 (dk_at dksX9_yearEnds_10 13 rfl rfl)
theorem dX9_yearEnds_247 : decode cX9_yearEnds 247 = .ok (.getfield 9, 3) := dk_180 0 9 (dk_at dksX9_yearEnds_10 14 rfl rfl)
theorem dX9_yearEnds_250 : decode cX9_yearEnds 250 = .ok (.bipush 8, 2) := dk_16 8 (dk_at dksX9_yearEnds_10 17 rfl rfl)
theorem dX9_yearEnds_252 : decode cX9_yearEnds 252 = .ok (.iload_n 1, 1) := dk_27 (dk_at dksX9_yearEnds_10 19 rfl rfl)
theorem dX9_yearEnds_253 : decode cX9_yearEnds 253 = .ok (.imul, 1) := dk_104 (dk_at dksX9_yearEnds_10 20 rfl rfl)
theorem dX9_yearEnds_254 : decode cX9_yearEnds 254 = .ok (.iconst 3, 1) := dk_6 (dk_at dksX9_yearEnds_10 21 rfl rfl)
theorem dX9_yearEnds_255 : decode cX9_yearEnds 255 = .ok (.iadd, 1) := dk_96 (dk_at dksX9_yearEnds_10 22 rfl rfl)
theorem dX9_yearEnds_256 : decode cX9_yearEnds 256 = .ok (.iload_n 2, 1) := dk_28 (dk_at dksX9_yearEnds_10 23 rfl rfl)
theorem dX9_yearEnds_257 : decode cX9_yearEnds 257 = .ok (.sipush 1000, 3) := dk_17 3 232 (dk_at dksX9_yearEnds_11 0 rfl rfl)
theorem dX9_yearEnds_260 : decode cX9_yearEnds 260 = .ok (.if_icmp .le 9, 3) := dk_164 0 9 (dk_at dksX9_yearEnds_11 3 rfl rfl)
theorem dX9_yearEnds_263 : decode cX9_yearEnds 263 = .ok (.sipush 1000, 3) := dk_17 3 232 (dk_at dksX9_yearEnds_11 6 rfl rfl)
theorem dX9_yearEnds_266 : decode cX9_yearEnds 266 = .ok (.goto 4, 3) := dk_167 0 4 (dk_at dksX9_yearEnds_11 9 rfl rfl)
theorem dX9_yearEnds_269 : decode cX9_yearEnds 269 = .ok (.iload_n 2, 1) := dk_28 (dk_at dksX9_yearEnds_11 12 rfl rfl)
theorem dX9_yearEnds_270 : decode cX9_yearEnds 270 = .ok (.iastore, 1) := dk_79 (dk_at dksX9_yearEnds_11 13 rfl rfl)
theorem dX9_yearEnds_271 : decode cX9_yearEnds 271 = .ok (.iinc 1 1, 3) := dk_132 1 1 (dk_at dksX9_yearEnds_11 14 rfl rfl)
theorem dX9_yearEnds_274 : decode cX9_yearEnds 274 = .ok (.goto (-65), 3) := dk_167 255 191 (dk_at dksX9_yearEnds_11 17 rfl rfl)
theorem dX9_yearEnds_277 : decode cX9_yearEnds 277 = .ok (.iconst 0, 1) := dk_3 (dk_at dksX9_yearEnds_11 20 rfl rfl)
theorem dX9_yearEnds_278 : decode cX9_yearEnds 278 = .ok (.istore_n 1, 1) := dk_60 (dk_at dksX9_yearEnds_11 21 rfl rfl)
theorem dX9_yearEnds_279 : decode cX9_yearEnds 279 = .ok (.iload_n 1, 1) := dk_27 (dk_at dksX9_yearEnds_11 22 rfl rfl)
theorem dX9_yearEnds_280 : decode cX9_yearEnds 280 = .ok (.iconst 4, 1) := dk_7 (dk_at dksX9_yearEnds_11 23 rfl rfl)
theorem dX9_yearEnds_281 : decode cX9_yearEnds 281 = .ok (.if_icmp .ge 20, 3) := dk_162 0 20 (dk_at dksX9_yearEnds_12 0 rfl rfl)
theorem dX9_yearEnds_284 : decode cX9_yearEnds 284 = .ok (.aload_n 0, 1) := dk_42 (dk_at dksX9_yearEnds_12 3 rfl rfl)
theorem dX9_yearEnds_285 : decode cX9_yearEnds 285 = .ok (.getfield 9, 3) := dk_180 0 9 (dk_at dksX9_yearEnds_12 4 rfl rfl)
theorem dX9_yearEnds_288 : decode cX9_yearEnds 288 = .ok (.sipush 2104, 3) := dk_17 8 56 (dk_at dksX9_yearEnds_12 7 rfl rfl)
theorem dX9_yearEnds_291 : decode cX9_yearEnds 291 = .ok (.iload_n 1, 1) := dk_27 (dk_at dksX9_yearEnds_12 10 rfl rfl)
theorem dX9_yearEnds_292 : decode cX9_yearEnds 292 = .ok (.iadd, 1) := dk_96 (dk_at dksX9_yearEnds_12 11 rfl rfl)
theorem dX9_yearEnds_293 : decode cX9_yearEnds 293 = .ok (.iconst 0, 1) := dk_3 (dk_at dksX9_yearEnds_12 12 rfl rfl)
theorem dX9_yearEnds_294 : decode cX9_yearEnds 294 = .ok (.iastore, 1) := dk_79 (dk_at dksX9_yearEnds_12 13 rfl rfl)
theorem dX9_yearEnds_295 : decode cX9_yearEnds 295 = .ok (.iinc 1 1, 3) := dk_132 1 1 (dk_at dksX9_yearEnds_12 14 rfl rfl)
theorem dX9_yearEnds_298 : decode cX9_yearEnds 298 = .ok (.goto (-19), 3) := dk_167 255 237 (dk_at dksX9_yearEnds_12 17 rfl rfl)
theorem dX9_yearEnds_301 : decode cX9_yearEnds 301 = .ok (.return_, 1) := dk_177 (dk_at dksX9_yearEnds_12 20 rfl rfl)
def dkwX9_bandOf_1 : List UInt8 := [17, 3, 132, 162, 0, 7, 5, 167, 0, 15, 26, 17, 5, 220, 162, 0, 7, 6, 167, 0, 4, 4, 172]
abbrev dktX9_bandOf_1 : List UInt8 := dkwX9_bandOf_1 ++ []
def dkwX9_bandOf_0 : List UInt8 := [26, 17, 1, 44, 162, 0, 7, 3, 167, 0, 37, 26, 17, 2, 88, 162, 0, 7, 4, 167, 0, 26, 26]
abbrev dktX9_bandOf_0 : List UInt8 := dkwX9_bandOf_0 ++ dktX9_bandOf_1
theorem dksX9_bandOf_0 : cX9_bandOf.data.toList.drop 0 = dktX9_bandOf_0 := by decide +kernel
theorem dksX9_bandOf_1 : cX9_bandOf.data.toList.drop 23 = dktX9_bandOf_1 := dk_seg dksX9_bandOf_0 23 rfl rfl
theorem dX9_bandOf_0 : decode cX9_bandOf 0 = .ok (.iload_n 0, 1) := dk_26 (dk_at dksX9_bandOf_0 0 rfl rfl)
theorem dX9_bandOf_1 : decode cX9_bandOf 1 = .ok (.sipush 300, 3) := dk_17 1 44 (dk_at dksX9_bandOf_0 1 rfl rfl)
theorem dX9_bandOf_4 : decode cX9_bandOf 4 = .ok (.if_icmp .ge 7, 3) := dk_162 0 7 (dk_at dksX9_bandOf_0 4 rfl rfl)
theorem dX9_bandOf_7 : decode cX9_bandOf 7 = .ok (.iconst 0, 1) := dk_3 (dk_at dksX9_bandOf_0 7 rfl rfl)
theorem dX9_bandOf_8 : decode cX9_bandOf 8 = .ok (.goto 37, 3) := dk_167 0 37 (dk_at dksX9_bandOf_0 8 rfl rfl)
theorem dX9_bandOf_11 : decode cX9_bandOf 11 = .ok (.iload_n 0, 1) := dk_26 (dk_at dksX9_bandOf_0 11 rfl rfl)
theorem dX9_bandOf_12 : decode cX9_bandOf 12 = .ok (.sipush 600, 3) := dk_17 2 88 (dk_at dksX9_bandOf_0 12 rfl rfl)
theorem dX9_bandOf_15 : decode cX9_bandOf 15 = .ok (.if_icmp .ge 7, 3) := dk_162 0 7 (dk_at dksX9_bandOf_0 15 rfl rfl)
theorem dX9_bandOf_18 : decode cX9_bandOf 18 = .ok (.iconst 1, 1) := dk_4 (dk_at dksX9_bandOf_0 18 rfl rfl)
theorem dX9_bandOf_19 : decode cX9_bandOf 19 = .ok (.goto 26, 3) := dk_167 0 26 (dk_at dksX9_bandOf_0 19 rfl rfl)
theorem dX9_bandOf_22 : decode cX9_bandOf 22 = .ok (.iload_n 0, 1) := dk_26 (dk_at dksX9_bandOf_0 22 rfl rfl)
theorem dX9_bandOf_23 : decode cX9_bandOf 23 = .ok (.sipush 900, 3) := dk_17 3 132 (dk_at dksX9_bandOf_1 0 rfl rfl)
theorem dX9_bandOf_26 : decode cX9_bandOf 26 = .ok (.if_icmp .ge 7, 3) := dk_162 0 7 (dk_at dksX9_bandOf_1 3 rfl rfl)
theorem dX9_bandOf_29 : decode cX9_bandOf 29 = .ok (.iconst 2, 1) := dk_5 (dk_at dksX9_bandOf_1 6 rfl rfl)
theorem dX9_bandOf_30 : decode cX9_bandOf 30 = .ok (.goto 15, 3) := dk_167 0 15 (dk_at dksX9_bandOf_1 7 rfl rfl)
theorem dX9_bandOf_33 : decode cX9_bandOf 33 = .ok (.iload_n 0, 1) := dk_26 (dk_at dksX9_bandOf_1 10 rfl rfl)
theorem dX9_bandOf_34 : decode cX9_bandOf 34 = .ok (.sipush 1500, 3) := dk_17 5 220 (dk_at dksX9_bandOf_1 11 rfl rfl)
theorem dX9_bandOf_37 : decode cX9_bandOf 37 = .ok (.if_icmp .ge 7, 3) := dk_162 0 7 (dk_at dksX9_bandOf_1 14 rfl rfl)
theorem dX9_bandOf_40 : decode cX9_bandOf 40 = .ok (.iconst 3, 1) := dk_6 (dk_at dksX9_bandOf_1 17 rfl rfl)
theorem dX9_bandOf_41 : decode cX9_bandOf 41 = .ok (.goto 4, 3) := dk_167 0 4 (dk_at dksX9_bandOf_1 18 rfl rfl)
theorem dX9_bandOf_44 : decode cX9_bandOf 44 = .ok (.iconst 1, 1) := dk_4 (dk_at dksX9_bandOf_1 21 rfl rfl)
theorem dX9_bandOf_45 : decode cX9_bandOf 45 = .ok (.ireturn, 1) := dk_172 (dk_at dksX9_bandOf_1 22 rfl rfl)
def dkwX9_as_3 : List UInt8 := [29, 182, 1, 117, 172]
abbrev dktX9_as_3 : List UInt8 := dkwX9_as_3 ++ []
def dkwX9_as_2 : List UInt8 := [160, 0, 22, 27, 42, 180, 0, 9, 17, 8, 68, 46, 16, 34, 100, 164, 0, 7, 19, 1, 176, 172, 42, 27]
abbrev dktX9_as_2 : List UInt8 := dkwX9_as_2 ++ dktX9_as_3
def dkwX9_as_1 : List UInt8 := [4, 167, 0, 4, 3, 4, 182, 0, 84, 153, 0, 5, 3, 172, 42, 27, 182, 1, 173, 153, 0, 23, 28, 4]
abbrev dktX9_as_1 : List UInt8 := dkwX9_as_1 ++ dktX9_as_2
def dkwX9_as_0 : List UInt8 := [42, 3, 181, 0, 73, 42, 28, 155, 0, 17, 28, 4, 163, 0, 12, 29, 155, 0, 8, 29, 8, 164, 0, 7]
abbrev dktX9_as_0 : List UInt8 := dkwX9_as_0 ++ dktX9_as_1
theorem dksX9_as_0 : cX9_as.data.toList.drop 0 = dktX9_as_0 := by decide +kernel
theorem dksX9_as_1 : cX9_as.data.toList.drop 24 = dktX9_as_1 := dk_seg dksX9_as_0 24 rfl rfl
theorem dksX9_as_2 : cX9_as.data.toList.drop 48 = dktX9_as_2 := dk_seg dksX9_as_1 24 rfl rfl
theorem dksX9_as_3 : cX9_as.data.toList.drop 72 = dktX9_as_3 := dk_seg dksX9_as_2 24 rfl rfl
theorem dX9_as_0 : decode cX9_as 0 = .ok (.aload_n 0, 1) := dk_42 (dk_at dksX9_as_0 0 rfl rfl)
theorem dX9_as_1 : decode cX9_as 1 = .ok (.iconst 0, 1) := dk_3 (dk_at dksX9_as_0 1 rfl rfl)
theorem dX9_as_2 : decode cX9_as 2 = .ok (.putfield 73, 3) := dk_181 0 73 (dk_at dksX9_as_0 2 rfl rfl)
theorem dX9_as_5 : decode cX9_as 5 = .ok (.aload_n 0, 1) := dk_42 (dk_at dksX9_as_0 5 rfl rfl)
theorem dX9_as_6 : decode cX9_as 6 = .ok (.iload_n 2, 1) := dk_28 (dk_at dksX9_as_0 6 rfl rfl)
theorem dX9_as_7 : decode cX9_as 7 = .ok (.ifCond .lt 17, 3) := dk_155 0 17 (dk_at dksX9_as_0 7 rfl rfl)
theorem dX9_as_10 : decode cX9_as 10 = .ok (.iload_n 2, 1) := dk_28 (dk_at dksX9_as_0 10 rfl rfl)
theorem dX9_as_11 : decode cX9_as 11 = .ok (.iconst 1, 1) := dk_4 (dk_at dksX9_as_0 11 rfl rfl)
theorem dX9_as_12 : decode cX9_as 12 = .ok (.if_icmp .gt 12, 3) := dk_163 0 12 (dk_at dksX9_as_0 12 rfl rfl)
theorem dX9_as_15 : decode cX9_as 15 = .ok (.iload_n 3, 1) := dk_29 (dk_at dksX9_as_0 15 rfl rfl)
theorem dX9_as_16 : decode cX9_as 16 = .ok (.ifCond .lt 8, 3) := dk_155 0 8 (dk_at dksX9_as_0 16 rfl rfl)
theorem dX9_as_19 : decode cX9_as 19 = .ok (.iload_n 3, 1) := dk_29 (dk_at dksX9_as_0 19 rfl rfl)
theorem dX9_as_20 : decode cX9_as 20 = .ok (.iconst 5, 1) := dk_8 (dk_at dksX9_as_0 20 rfl rfl)
theorem dX9_as_21 : decode cX9_as 21 = .ok (.if_icmp .le 7, 3) := dk_164 0 7 (dk_at dksX9_as_0 21 rfl rfl)
theorem dX9_as_24 : decode cX9_as 24 = .ok (.iconst 1, 1) := dk_4 (dk_at dksX9_as_1 0 rfl rfl)
theorem dX9_as_25 : decode cX9_as 25 = .ok (.goto 4, 3) := dk_167 0 4 (dk_at dksX9_as_1 1 rfl rfl)
theorem dX9_as_28 : decode cX9_as 28 = .ok (.iconst 0, 1) := dk_3 (dk_at dksX9_as_1 4 rfl rfl)
theorem dX9_as_29 : decode cX9_as 29 = .ok (.iconst 1, 1) := dk_4 (dk_at dksX9_as_1 5 rfl rfl)
theorem dX9_as_30 : decode cX9_as 30 = .ok (.invokevirtual 84, 3) := dk_182 0 84 (dk_at dksX9_as_1 6 rfl rfl)
theorem dX9_as_33 : decode cX9_as 33 = .ok (.ifCond .eq 5, 3) := dk_153 0 5 (dk_at dksX9_as_1 9 rfl rfl)
theorem dX9_as_36 : decode cX9_as 36 = .ok (.iconst 0, 1) := dk_3 (dk_at dksX9_as_1 12 rfl rfl)
theorem dX9_as_37 : decode cX9_as 37 = .ok (.ireturn, 1) := dk_172 (dk_at dksX9_as_1 13 rfl rfl)
theorem dX9_as_38 : decode cX9_as 38 = .ok (.aload_n 0, 1) := dk_42 (dk_at dksX9_as_1 14 rfl rfl)
theorem dX9_as_39 : decode cX9_as 39 = .ok (.iload_n 1, 1) := dk_27 (dk_at dksX9_as_1 15 rfl rfl)
theorem dX9_as_40 : decode cX9_as 40 = .ok (.invokevirtual 429, 3) := dk_182 1 173 (dk_at dksX9_as_1 16 rfl rfl)
theorem dX9_as_43 : decode cX9_as 43 = .ok (.ifCond .eq 23, 3) := dk_153 0 23 (dk_at dksX9_as_1 19 rfl rfl)
theorem dX9_as_46 : decode cX9_as 46 = .ok (.iload_n 2, 1) := dk_28 (dk_at dksX9_as_1 22 rfl rfl)
theorem dX9_as_47 : decode cX9_as 47 = .ok (.iconst 1, 1) := dk_4 (dk_at dksX9_as_1 23 rfl rfl)
theorem dX9_as_48 : decode cX9_as 48 = .ok (.if_icmp .ne 22, 3) := dk_160 0 22 (dk_at dksX9_as_2 0 rfl rfl)
theorem dX9_as_51 : decode cX9_as 51 = .ok (.iload_n 1, 1) := dk_27 (dk_at dksX9_as_2 3 rfl rfl)
theorem dX9_as_52 : decode cX9_as 52 = .ok (.aload_n 0, 1) := dk_42 (dk_at dksX9_as_2 4 rfl rfl)
theorem dX9_as_53 : decode cX9_as 53 = .ok (.getfield 9, 3) := dk_180 0 9 (dk_at dksX9_as_2 5 rfl rfl)
theorem dX9_as_56 : decode cX9_as 56 = .ok (.sipush 2116, 3) := dk_17 8 68 (dk_at dksX9_as_2 8 rfl rfl)
theorem dX9_as_59 : decode cX9_as 59 = .ok (.iaload, 1) := dk_46 (dk_at dksX9_as_2 11 rfl rfl)
theorem dX9_as_60 : decode cX9_as 60 = .ok (.bipush 34, 2) := dk_16 34 (dk_at dksX9_as_2 12 rfl rfl)
theorem dX9_as_62 : decode cX9_as 62 = .ok (.isub, 1) := dk_100 (dk_at dksX9_as_2 14 rfl rfl)
theorem dX9_as_63 : decode cX9_as 63 = .ok (.if_icmp .le 7, 3) := dk_164 0 7 (dk_at dksX9_as_2 15 rfl rfl)
theorem dX9_as_66 : decode cX9_as 66 = .ok (.ldc_w 432, 3) := dk_19 1 176 (dk_at dksX9_as_2 18 rfl rfl)
theorem dX9_as_69 : decode cX9_as 69 = .ok (.ireturn, 1) := dk_172 (dk_at dksX9_as_2 21 rfl rfl)
theorem dX9_as_70 : decode cX9_as 70 = .ok (.aload_n 0, 1) := dk_42 (dk_at dksX9_as_2 22 rfl rfl)
theorem dX9_as_71 : decode cX9_as 71 = .ok (.iload_n 1, 1) := dk_27 (dk_at dksX9_as_2 23 rfl rfl)
theorem dX9_as_72 : decode cX9_as 72 = .ok (.iload_n 3, 1) := dk_29 (dk_at dksX9_as_3 0 rfl rfl)
theorem dX9_as_73 : decode cX9_as 73 = .ok (.invokevirtual 373, 3) := dk_182 1 117 (dk_at dksX9_as_3 1 rfl rfl)
theorem dX9_as_76 : decode cX9_as 76 = .ok (.ireturn, 1) := dk_172 (dk_at dksX9_as_3 4 rfl rfl)
def dkwX9_isKnown_0 : List UInt8 := [27, 155, 0, 19, 27, 42, 180, 0, 9, 17, 8, 68, 46, 162, 0, 7, 4, 167, 0, 4, 3, 172]
abbrev dktX9_isKnown_0 : List UInt8 := dkwX9_isKnown_0 ++ []
theorem dksX9_isKnown_0 : cX9_isKnown.data.toList.drop 0 = dktX9_isKnown_0 := by decide +kernel
theorem dX9_isKnown_0 : decode cX9_isKnown 0 = .ok (.iload_n 1, 1) := dk_27 (dk_at dksX9_isKnown_0 0 rfl rfl)
theorem dX9_isKnown_1 : decode cX9_isKnown 1 = .ok (.ifCond .lt 19, 3) := dk_155 0 19 (dk_at dksX9_isKnown_0 1 rfl rfl)
theorem dX9_isKnown_4 : decode cX9_isKnown 4 = .ok (.iload_n 1, 1) := dk_27 (dk_at dksX9_isKnown_0 4 rfl rfl)
theorem dX9_isKnown_5 : decode cX9_isKnown 5 = .ok (.aload_n 0, 1) := dk_42 (dk_at dksX9_isKnown_0 5 rfl rfl)
theorem dX9_isKnown_6 : decode cX9_isKnown 6 = .ok (.getfield 9, 3) := dk_180 0 9 (dk_at dksX9_isKnown_0 6 rfl rfl)
theorem dX9_isKnown_9 : decode cX9_isKnown 9 = .ok (.sipush 2116, 3) := dk_17 8 68 (dk_at dksX9_isKnown_0 9 rfl rfl)
theorem dX9_isKnown_12 : decode cX9_isKnown 12 = .ok (.iaload, 1) := dk_46 (dk_at dksX9_isKnown_0 12 rfl rfl)
theorem dX9_isKnown_13 : decode cX9_isKnown 13 = .ok (.if_icmp .ge 7, 3) := dk_162 0 7 (dk_at dksX9_isKnown_0 13 rfl rfl)
theorem dX9_isKnown_16 : decode cX9_isKnown 16 = .ok (.iconst 1, 1) := dk_4 (dk_at dksX9_isKnown_0 16 rfl rfl)
theorem dX9_isKnown_17 : decode cX9_isKnown 17 = .ok (.goto 4, 3) := dk_167 0 4 (dk_at dksX9_isKnown_0 17 rfl rfl)
theorem dX9_isKnown_20 : decode cX9_isKnown 20 = .ok (.iconst 0, 1) := dk_3 (dk_at dksX9_isKnown_0 20 rfl rfl)
theorem dX9_isKnown_21 : decode cX9_isKnown 21 = .ok (.ireturn, 1) := dk_172 (dk_at dksX9_isKnown_0 21 rfl rfl)
def dkwX9_tried_6 : List UInt8 := [181, 0, 58, 42, 182, 0, 163, 21, 5, 172]
abbrev dktX9_tried_6 : List UInt8 := dkwX9_tried_6 ++ []
def dkwX9_tried_5 : List UInt8 := [182, 1, 170, 132, 5, 1, 167, 255, 243, 42, 21, 4, 182, 1, 177, 54, 5, 42, 3, 181, 1, 67, 42, 2]
abbrev dktX9_tried_5 : List UInt8 := dkwX9_tried_5 ++ dktX9_tried_6
def dkwX9_tried_4 : List UInt8 := [182, 0, 153, 42, 27, 181, 1, 67, 42, 28, 181, 0, 58, 3, 54, 5, 21, 5, 29, 162, 0, 13, 42]
abbrev dktX9_tried_4 : List UInt8 := dkwX9_tried_4 ++ dktX9_tried_5
def dkwX9_tried_3 : List UInt8 := [29, 96, 17, 3, 232, 164, 0, 7, 4, 167, 0, 4, 3, 5, 182, 0, 84, 153, 0, 5, 3, 172, 42]
abbrev dktX9_tried_3 : List UInt8 := dkwX9_tried_3 ++ dktX9_tried_4
def dkwX9_tried_2 : List UInt8 := [164, 0, 7, 4, 167, 0, 4, 3, 4, 182, 0, 84, 154, 0, 32, 42, 42, 180, 0, 9, 17, 8, 68, 46]
abbrev dktX9_tried_2 : List UInt8 := dkwX9_tried_2 ++ dktX9_tried_3
def dkwX9_tried_1 : List UInt8 := [16, 100, 163, 0, 25, 29, 4, 161, 0, 20, 29, 16, 104, 163, 0, 14, 21, 4, 155, 0, 9, 21, 4, 8]
abbrev dktX9_tried_1 : List UInt8 := dkwX9_tried_1 ++ dktX9_tried_2
def dkwX9_tried_0 : List UInt8 := [42, 3, 181, 0, 73, 42, 27, 155, 0, 43, 27, 17, 3, 232, 163, 0, 36, 28, 2, 161, 0, 31, 28]
abbrev dktX9_tried_0 : List UInt8 := dkwX9_tried_0 ++ dktX9_tried_1
theorem dksX9_tried_0 : cX9_tried.data.toList.drop 0 = dktX9_tried_0 := by decide +kernel
theorem dksX9_tried_1 : cX9_tried.data.toList.drop 23 = dktX9_tried_1 := dk_seg dksX9_tried_0 23 rfl rfl
theorem dksX9_tried_2 : cX9_tried.data.toList.drop 47 = dktX9_tried_2 := dk_seg dksX9_tried_1 24 rfl rfl
theorem dksX9_tried_3 : cX9_tried.data.toList.drop 71 = dktX9_tried_3 := dk_seg dksX9_tried_2 24 rfl rfl
theorem dksX9_tried_4 : cX9_tried.data.toList.drop 94 = dktX9_tried_4 := dk_seg dksX9_tried_3 23 rfl rfl
theorem dksX9_tried_5 : cX9_tried.data.toList.drop 117 = dktX9_tried_5 := dk_seg dksX9_tried_4 23 rfl rfl
theorem dksX9_tried_6 : cX9_tried.data.toList.drop 141 = dktX9_tried_6 := dk_seg dksX9_tried_5 24 rfl rfl
theorem dX9_tried_0 : decode cX9_tried 0 = .ok (.aload_n 0, 1) := dk_42 (dk_at dksX9_tried_0 0 rfl rfl)
theorem dX9_tried_1 : decode cX9_tried 1 = .ok (.iconst 0, 1) := dk_3 (dk_at dksX9_tried_0 1 rfl rfl)
theorem dX9_tried_2 : decode cX9_tried 2 = .ok (.putfield 73, 3) := dk_181 0 73 (dk_at dksX9_tried_0 2 rfl rfl)
theorem dX9_tried_5 : decode cX9_tried 5 = .ok (.aload_n 0, 1) := dk_42 (dk_at dksX9_tried_0 5 rfl rfl)
theorem dX9_tried_6 : decode cX9_tried 6 = .ok (.iload_n 1, 1) := dk_27 (dk_at dksX9_tried_0 6 rfl rfl)
theorem dX9_tried_7 : decode cX9_tried 7 = .ok (.ifCond .lt 43, 3) := dk_155 0 43 (dk_at dksX9_tried_0 7 rfl rfl)
theorem dX9_tried_10 : decode cX9_tried 10 = .ok (.iload_n 1, 1) := dk_27 (dk_at dksX9_tried_0 10 rfl rfl)
theorem dX9_tried_11 : decode cX9_tried 11 = .ok (.sipush 1000, 3) := dk_17 3 232 (dk_at dksX9_tried_0 11 rfl rfl)
theorem dX9_tried_14 : decode cX9_tried 14 = .ok (.if_icmp .gt 36, 3) := dk_163 0 36 (dk_at dksX9_tried_0 14 rfl rfl)
theorem dX9_tried_17 : decode cX9_tried 17 = .ok (.iload_n 2, 1) := dk_28 (dk_at dksX9_tried_0 17 rfl rfl)
theorem dX9_tried_18 : decode cX9_tried 18 = .ok (.iconst (-1), 1) := dk_2 (dk_at dksX9_tried_0 18 rfl rfl)
theorem dX9_tried_19 : decode cX9_tried 19 = .ok (.if_icmp .lt 31, 3) := dk_161 0 31 (dk_at dksX9_tried_0 19 rfl rfl)
theorem dX9_tried_22 : decode cX9_tried 22 = .ok (.iload_n 2, 1) := dk_28 (dk_at dksX9_tried_0 22 rfl rfl)
theorem dX9_tried_23 : decode cX9_tried 23 = .ok (.bipush 100, 2) := dk_16 100 (dk_at dksX9_tried_1 0 rfl rfl)
theorem dX9_tried_25 : decode cX9_tried 25 = .ok (.if_icmp .gt 25, 3) := dk_163 0 25 (dk_at dksX9_tried_1 2 rfl rfl)
theorem dX9_tried_28 : decode cX9_tried 28 = .ok (.iload_n 3, 1) := dk_29 (dk_at dksX9_tried_1 5 rfl rfl)
theorem dX9_tried_29 : decode cX9_tried 29 = .ok (.iconst 1, 1) := dk_4 (dk_at dksX9_tried_1 6 rfl rfl)
theorem dX9_tried_30 : decode cX9_tried 30 = .ok (.if_icmp .lt 20, 3) := dk_161 0 20 (dk_at dksX9_tried_1 7 rfl rfl)
theorem dX9_tried_33 : decode cX9_tried 33 = .ok (.iload_n 3, 1) := dk_29 (dk_at dksX9_tried_1 10 rfl rfl)
theorem dX9_tried_34 : decode cX9_tried 34 = .ok (.bipush 104, 2) := dk_16 104 (dk_at dksX9_tried_1 11 rfl rfl)
theorem dX9_tried_36 : decode cX9_tried 36 = .ok (.if_icmp .gt 14, 3) := dk_163 0 14 (dk_at dksX9_tried_1 13 rfl rfl)
theorem dX9_tried_39 : decode cX9_tried 39 = .ok (.iload 4, 2) := dk_21 4 (dk_at dksX9_tried_1 16 rfl rfl)
theorem dX9_tried_41 : decode cX9_tried 41 = .ok (.ifCond .lt 9, 3) := dk_155 0 9 (dk_at dksX9_tried_1 18 rfl rfl)
theorem dX9_tried_44 : decode cX9_tried 44 = .ok (.iload 4, 2) := dk_21 4 (dk_at dksX9_tried_1 21 rfl rfl)
theorem dX9_tried_46 : decode cX9_tried 46 = .ok (.iconst 5, 1) := dk_8 (dk_at dksX9_tried_1 23 rfl rfl)
theorem dX9_tried_47 : decode cX9_tried 47 = .ok (.if_icmp .le 7, 3) := dk_164 0 7 (dk_at dksX9_tried_2 0 rfl rfl)
theorem dX9_tried_50 : decode cX9_tried 50 = .ok (.iconst 1, 1) := dk_4 (dk_at dksX9_tried_2 3 rfl rfl)
theorem dX9_tried_51 : decode cX9_tried 51 = .ok (.goto 4, 3) := dk_167 0 4 (dk_at dksX9_tried_2 4 rfl rfl)
theorem dX9_tried_54 : decode cX9_tried 54 = .ok (.iconst 0, 1) := dk_3 (dk_at dksX9_tried_2 7 rfl rfl)
theorem dX9_tried_55 : decode cX9_tried 55 = .ok (.iconst 1, 1) := dk_4 (dk_at dksX9_tried_2 8 rfl rfl)
theorem dX9_tried_56 : decode cX9_tried 56 = .ok (.invokevirtual 84, 3) := dk_182 0 84 (dk_at dksX9_tried_2 9 rfl rfl)
theorem dX9_tried_59 : decode cX9_tried 59 = .ok (.ifCond .ne 32, 3) := dk_154 0 32 (dk_at dksX9_tried_2 12 rfl rfl)
theorem dX9_tried_62 : decode cX9_tried 62 = .ok (.aload_n 0, 1) := dk_42 (dk_at dksX9_tried_2 15 rfl rfl)
theorem dX9_tried_63 : decode cX9_tried 63 = .ok (.aload_n 0, 1) := dk_42 (dk_at dksX9_tried_2 16 rfl rfl)
theorem dX9_tried_64 : decode cX9_tried 64 = .ok (.getfield 9, 3) := dk_180 0 9 (dk_at dksX9_tried_2 17 rfl rfl)
theorem dX9_tried_67 : decode cX9_tried 67 = .ok (.sipush 2116, 3) := dk_17 8 68 (dk_at dksX9_tried_2 20 rfl rfl)
theorem dX9_tried_70 : decode cX9_tried 70 = .ok (.iaload, 1) := dk_46 (dk_at dksX9_tried_2 23 rfl rfl)
theorem dX9_tried_71 : decode cX9_tried 71 = .ok (.iload_n 3, 1) := dk_29 (dk_at dksX9_tried_3 0 rfl rfl)
theorem dX9_tried_72 : decode cX9_tried 72 = .ok (.iadd, 1) := dk_96 (dk_at dksX9_tried_3 1 rfl rfl)
theorem dX9_tried_73 : decode cX9_tried 73 = .ok (.sipush 1000, 3) := dk_17 3 232 (dk_at dksX9_tried_3 2 rfl rfl)
theorem dX9_tried_76 : decode cX9_tried 76 = .ok (.if_icmp .le 7, 3) := dk_164 0 7 (dk_at dksX9_tried_3 5 rfl rfl)
theorem dX9_tried_79 : decode cX9_tried 79 = .ok (.iconst 1, 1) := dk_4 (dk_at dksX9_tried_3 8 rfl rfl)
theorem dX9_tried_80 : decode cX9_tried 80 = .ok (.goto 4, 3) := dk_167 0 4 (dk_at dksX9_tried_3 9 rfl rfl)
theorem dX9_tried_83 : decode cX9_tried 83 = .ok (.iconst 0, 1) := dk_3 (dk_at dksX9_tried_3 12 rfl rfl)
theorem dX9_tried_84 : decode cX9_tried 84 = .ok (.iconst 2, 1) := dk_5 (dk_at dksX9_tried_3 13 rfl rfl)
theorem dX9_tried_85 : decode cX9_tried 85 = .ok (.invokevirtual 84, 3) := dk_182 0 84 (dk_at dksX9_tried_3 14 rfl rfl)
theorem dX9_tried_88 : decode cX9_tried 88 = .ok (.ifCond .eq 5, 3) := dk_153 0 5 (dk_at dksX9_tried_3 17 rfl rfl)
theorem dX9_tried_91 : decode cX9_tried 91 = .ok (.iconst 0, 1) := dk_3 (dk_at dksX9_tried_3 20 rfl rfl)
theorem dX9_tried_92 : decode cX9_tried 92 = .ok (.ireturn, 1) := dk_172 (dk_at dksX9_tried_3 21 rfl rfl)
theorem dX9_tried_93 : decode cX9_tried 93 = .ok (.aload_n 0, 1) := dk_42 (dk_at dksX9_tried_3 22 rfl rfl)
theorem dX9_tried_94 : decode cX9_tried 94 = .ok (.invokevirtual 153, 3) := dk_182 0 153 (dk_at dksX9_tried_4 0 rfl rfl)
theorem dX9_tried_97 : decode cX9_tried 97 = .ok (.aload_n 0, 1) := dk_42 (dk_at dksX9_tried_4 3 rfl rfl)
theorem dX9_tried_98 : decode cX9_tried 98 = .ok (.iload_n 1, 1) := dk_27 (dk_at dksX9_tried_4 4 rfl rfl)
theorem dX9_tried_99 : decode cX9_tried 99 = .ok (.putfield 323, 3) := dk_181 1 67 (dk_at dksX9_tried_4 5 rfl rfl)
theorem dX9_tried_102 : decode cX9_tried 102 = .ok (.aload_n 0, 1) := dk_42 (dk_at dksX9_tried_4 8 rfl rfl)
theorem dX9_tried_103 : decode cX9_tried 103 = .ok (.iload_n 2, 1) := dk_28 (dk_at dksX9_tried_4 9 rfl rfl)
theorem dX9_tried_104 : decode cX9_tried 104 = .ok (.putfield 58, 3) := dk_181 0 58 (dk_at dksX9_tried_4 10 rfl rfl)
theorem dX9_tried_107 : decode cX9_tried 107 = .ok (.iconst 0, 1) := dk_3 (dk_at dksX9_tried_4 13 rfl rfl)
theorem dX9_tried_108 : decode cX9_tried 108 = .ok (.istore 5, 2) := dk_54 5 (dk_at dksX9_tried_4 14 rfl rfl)
theorem dX9_tried_110 : decode cX9_tried 110 = .ok (.iload 5, 2) := dk_21 5 (dk_at dksX9_tried_4 16 rfl rfl)
theorem dX9_tried_112 : decode cX9_tried 112 = .ok (.iload_n 3, 1) := dk_29 (dk_at dksX9_tried_4 18 rfl rfl)
theorem dX9_tried_113 : decode cX9_tried 113 = .ok (.if_icmp .ge 13, 3) := dk_162 0 13 (dk_at dksX9_tried_4 19 rfl rfl)
theorem dX9_tried_116 : decode cX9_tried 116 = .ok (.aload_n 0, 1) := dk_42 (dk_at dksX9_tried_4 22 rfl rfl)
theorem dX9_tried_117 : decode cX9_tried 117 = .ok (.invokevirtual 426, 3) := dk_182 1 170 (dk_at dksX9_tried_5 0 rfl rfl)
theorem dX9_tried_120 : decode cX9_tried 120 = .ok (.iinc 5 1, 3) := dk_132 5 1 (dk_at dksX9_tried_5 3 rfl rfl)
theorem dX9_tried_123 : decode cX9_tried 123 = .ok (.goto (-13), 3) := dk_167 255 243 (dk_at dksX9_tried_5 6 rfl rfl)
theorem dX9_tried_126 : decode cX9_tried 126 = .ok (.aload_n 0, 1) := dk_42 (dk_at dksX9_tried_5 9 rfl rfl)
theorem dX9_tried_127 : decode cX9_tried 127 = .ok (.iload 4, 2) := dk_21 4 (dk_at dksX9_tried_5 10 rfl rfl)
theorem dX9_tried_129 : decode cX9_tried 129 = .ok (.invokevirtual 433, 3) := dk_182 1 177 (dk_at dksX9_tried_5 12 rfl rfl)
theorem dX9_tried_132 : decode cX9_tried 132 = .ok (.istore 5, 2) := dk_54 5 (dk_at dksX9_tried_5 15 rfl rfl)
theorem dX9_tried_134 : decode cX9_tried 134 = .ok (.aload_n 0, 1) := dk_42 (dk_at dksX9_tried_5 17 rfl rfl)
theorem dX9_tried_135 : decode cX9_tried 135 = .ok (.iconst 0, 1) := dk_3 (dk_at dksX9_tried_5 18 rfl rfl)
theorem dX9_tried_136 : decode cX9_tried 136 = .ok (.putfield 323, 3) := dk_181 1 67 (dk_at dksX9_tried_5 19 rfl rfl)
theorem dX9_tried_139 : decode cX9_tried 139 = .ok (.aload_n 0, 1) := dk_42 (dk_at dksX9_tried_5 22 rfl rfl)
theorem dX9_tried_140 : decode cX9_tried 140 = .ok (.iconst (-1), 1) := dk_2 (dk_at dksX9_tried_5 23 rfl rfl)
theorem dX9_tried_141 : decode cX9_tried 141 = .ok (.putfield 58, 3) := dk_181 0 58 (dk_at dksX9_tried_6 0 rfl rfl)
theorem dX9_tried_144 : decode cX9_tried 144 = .ok (.aload_n 0, 1) := dk_42 (dk_at dksX9_tried_6 3 rfl rfl)
theorem dX9_tried_145 : decode cX9_tried 145 = .ok (.invokevirtual 163, 3) := dk_182 0 163 (dk_at dksX9_tried_6 4 rfl rfl)
theorem dX9_tried_148 : decode cX9_tried 148 = .ok (.iload 5, 2) := dk_21 5 (dk_at dksX9_tried_6 7 rfl rfl)
theorem dX9_tried_150 : decode cX9_tried 150 = .ok (.ireturn, 1) := dk_172 (dk_at dksX9_tried_6 9 rfl rfl)
def dkwX9_told_5 : List UInt8 := [42, 182, 1, 82, 172]
abbrev dktX9_told_5 : List UInt8 := dkwX9_told_5 ++ []
def dkwX9_told_4 : List UInt8 := [29, 5, 182, 0, 76, 6, 160, 0, 7, 4, 167, 0, 4, 3, 96, 61, 132, 3, 1, 167, 255, 223, 28, 172]
abbrev dktX9_told_4 : List UInt8 := dkwX9_told_4 ++ dktX9_told_5
def dkwX9_told_3 : List UInt8 := [180, 0, 9, 17, 8, 69, 46, 172, 3, 62, 29, 42, 180, 0, 9, 17, 8, 76, 46, 162, 0, 27, 28, 42]
abbrev dktX9_told_3 : List UInt8 := dkwX9_told_3 ++ dktX9_told_4
def dkwX9_told_2 : List UInt8 := [42, 182, 1, 79, 172, 42, 180, 0, 9, 17, 8, 74, 46, 172, 42, 180, 0, 9, 17, 8, 70, 46, 172, 42]
abbrev dktX9_told_2 : List UInt8 := dkwX9_told_2 ++ dktX9_told_3
def dkwX9_told_1 : List UInt8 := [170, 0, 0, 0, 105, 0, 0, 0, 0, 0, 0, 0, 4, 0, 0, 0, 33, 0, 0, 0, 38, 0, 0, 0, 47, 0, 0, 0, 56, 0, 0, 0, 65]
abbrev dktX9_told_1 : List UInt8 := dkwX9_told_1 ++ dktX9_told_2
def dkwX9_told_0 : List UInt8 := [3, 61, 27]
abbrev dktX9_told_0 : List UInt8 := dkwX9_told_0 ++ dktX9_told_1
theorem dksX9_told_0 : cX9_told.data.toList.drop 0 = dktX9_told_0 := by decide +kernel
theorem dksX9_told_1 : cX9_told.data.toList.drop 3 = dktX9_told_1 := dk_seg dksX9_told_0 3 rfl rfl
theorem dksX9_told_2 : cX9_told.data.toList.drop 36 = dktX9_told_2 := dk_seg dksX9_told_1 33 rfl rfl
theorem dksX9_told_3 : cX9_told.data.toList.drop 60 = dktX9_told_3 := dk_seg dksX9_told_2 24 rfl rfl
theorem dksX9_told_4 : cX9_told.data.toList.drop 84 = dktX9_told_4 := dk_seg dksX9_told_3 24 rfl rfl
theorem dksX9_told_5 : cX9_told.data.toList.drop 108 = dktX9_told_5 := dk_seg dksX9_told_4 24 rfl rfl
theorem dX9_told_0 : decode cX9_told 0 = .ok (.iconst 0, 1) := dk_3 (dk_at dksX9_told_0 0 rfl rfl)
theorem dX9_told_1 : decode cX9_told 1 = .ok (.istore_n 2, 1) := dk_61 (dk_at dksX9_told_0 1 rfl rfl)
theorem dX9_told_2 : decode cX9_told 2 = .ok (.iload_n 1, 1) := dk_27 (dk_at dksX9_told_0 2 rfl rfl)
theorem dX9_told_3 : decode cX9_told 3 = .ok (.tableswitch 105 0 4 #[33, 38, 47, 56, 65], 33) := by decide +kernel
theorem dX9_told_36 : decode cX9_told 36 = .ok (.aload_n 0, 1) := dk_42 (dk_at dksX9_told_2 0 rfl rfl)
theorem dX9_told_37 : decode cX9_told 37 = .ok (.invokevirtual 335, 3) := dk_182 1 79 (dk_at dksX9_told_2 1 rfl rfl)
theorem dX9_told_40 : decode cX9_told 40 = .ok (.ireturn, 1) := dk_172 (dk_at dksX9_told_2 4 rfl rfl)
theorem dX9_told_41 : decode cX9_told 41 = .ok (.aload_n 0, 1) := dk_42 (dk_at dksX9_told_2 5 rfl rfl)
theorem dX9_told_42 : decode cX9_told 42 = .ok (.getfield 9, 3) := dk_180 0 9 (dk_at dksX9_told_2 6 rfl rfl)
theorem dX9_told_45 : decode cX9_told 45 = .ok (.sipush 2122, 3) := dk_17 8 74 (dk_at dksX9_told_2 9 rfl rfl)
theorem dX9_told_48 : decode cX9_told 48 = .ok (.iaload, 1) := dk_46 (dk_at dksX9_told_2 12 rfl rfl)
theorem dX9_told_49 : decode cX9_told 49 = .ok (.ireturn, 1) := dk_172 (dk_at dksX9_told_2 13 rfl rfl)
theorem dX9_told_50 : decode cX9_told 50 = .ok (.aload_n 0, 1) := dk_42 (dk_at dksX9_told_2 14 rfl rfl)
theorem dX9_told_51 : decode cX9_told 51 = .ok (.getfield 9, 3) := dk_180 0 9 (dk_at dksX9_told_2 15 rfl rfl)
theorem dX9_told_54 : decode cX9_told 54 = .ok (.sipush 2118, 3) := dk_17 8 70 (dk_at dksX9_told_2 18 rfl rfl)
theorem dX9_told_57 : decode cX9_told 57 = .ok (.iaload, 1) := dk_46 (dk_at dksX9_told_2 21 rfl rfl)
theorem dX9_told_58 : decode cX9_told 58 = .ok (.ireturn, 1) := dk_172 (dk_at dksX9_told_2 22 rfl rfl)
theorem dX9_told_59 : decode cX9_told 59 = .ok (.aload_n 0, 1) := dk_42 (dk_at dksX9_told_2 23 rfl rfl)
theorem dX9_told_60 : decode cX9_told 60 = .ok (.getfield 9, 3) := dk_180 0 9 (dk_at dksX9_told_3 0 rfl rfl)
theorem dX9_told_63 : decode cX9_told 63 = .ok (.sipush 2117, 3) := dk_17 8 69 (dk_at dksX9_told_3 3 rfl rfl)
theorem dX9_told_66 : decode cX9_told 66 = .ok (.iaload, 1) := dk_46 (dk_at dksX9_told_3 6 rfl rfl)
theorem dX9_told_67 : decode cX9_told 67 = .ok (.ireturn, 1) := dk_172 (dk_at dksX9_told_3 7 rfl rfl)
theorem dX9_told_68 : decode cX9_told 68 = .ok (.iconst 0, 1) := dk_3 (dk_at dksX9_told_3 8 rfl rfl)
theorem dX9_told_69 : decode cX9_told 69 = .ok (.istore_n 3, 1) := dk_62 (dk_at dksX9_told_3 9 rfl rfl)
theorem dX9_told_70 : decode cX9_told 70 = .ok (.iload_n 3, 1) := dk_29 (dk_at dksX9_told_3 10 rfl rfl)
theorem dX9_told_71 : decode cX9_told 71 = .ok (.aload_n 0, 1) := dk_42 (dk_at dksX9_told_3 11 rfl rfl)
theorem dX9_told_72 : decode cX9_told 72 = .ok (.getfield 9, 3) := dk_180 0 9 (dk_at dksX9_told_3 12 rfl rfl)
theorem dX9_told_75 : decode cX9_told 75 = .ok (.sipush 2124, 3) := dk_17 8 76 (dk_at dksX9_told_3 15 rfl rfl)
theorem dX9_told_78 : decode cX9_told 78 = .ok (.iaload, 1) := dk_46 (dk_at dksX9_told_3 18 rfl rfl)
theorem dX9_told_79 : decode cX9_told 79 = .ok (.if_icmp .ge 27, 3) := dk_162 0 27 (dk_at dksX9_told_3 19 rfl rfl)
theorem dX9_told_82 : decode cX9_told 82 = .ok (.iload_n 2, 1) := dk_28 (dk_at dksX9_told_3 22 rfl rfl)
theorem dX9_told_83 : decode cX9_told 83 = .ok (.aload_n 0, 1) := dk_42 (dk_at dksX9_told_3 23 rfl rfl)
theorem dX9_told_84 : decode cX9_told 84 = .ok (.iload_n 3, 1) := dk_29 (dk_at dksX9_told_4 0 rfl rfl)
theorem dX9_told_85 : decode cX9_told 85 = .ok (.iconst 2, 1) := dk_5 (dk_at dksX9_told_4 1 rfl rfl)
theorem dX9_told_86 : decode cX9_told 86 = .ok (.invokevirtual 76, 3) := dk_182 0 76 (dk_at dksX9_told_4 2 rfl rfl)
theorem dX9_told_89 : decode cX9_told 89 = .ok (.iconst 3, 1) := dk_6 (dk_at dksX9_told_4 5 rfl rfl)
theorem dX9_told_90 : decode cX9_told 90 = .ok (.if_icmp .ne 7, 3) := dk_160 0 7 (dk_at dksX9_told_4 6 rfl rfl)
theorem dX9_told_93 : decode cX9_told 93 = .ok (.iconst 1, 1) := dk_4 (dk_at dksX9_told_4 9 rfl rfl)
theorem dX9_told_94 : decode cX9_told 94 = .ok (.goto 4, 3) := dk_167 0 4 (dk_at dksX9_told_4 10 rfl rfl)
theorem dX9_told_97 : decode cX9_told 97 = .ok (.iconst 0, 1) := dk_3 (dk_at dksX9_told_4 13 rfl rfl)
theorem dX9_told_98 : decode cX9_told 98 = .ok (.iadd, 1) := dk_96 (dk_at dksX9_told_4 14 rfl rfl)
theorem dX9_told_99 : decode cX9_told 99 = .ok (.istore_n 2, 1) := dk_61 (dk_at dksX9_told_4 15 rfl rfl)
theorem dX9_told_100 : decode cX9_told 100 = .ok (.iinc 3 1, 3) := dk_132 3 1 (dk_at dksX9_told_4 16 rfl rfl)
theorem dX9_told_103 : decode cX9_told 103 = .ok (.goto (-33), 3) := dk_167 255 223 (dk_at dksX9_told_4 19 rfl rfl)
theorem dX9_told_106 : decode cX9_told 106 = .ok (.iload_n 2, 1) := dk_28 (dk_at dksX9_told_4 22 rfl rfl)
theorem dX9_told_107 : decode cX9_told 107 = .ok (.ireturn, 1) := dk_172 (dk_at dksX9_told_4 23 rfl rfl)
theorem dX9_told_108 : decode cX9_told 108 = .ok (.aload_n 0, 1) := dk_42 (dk_at dksX9_told_5 0 rfl rfl)
theorem dX9_told_109 : decode cX9_told 109 = .ok (.invokevirtual 338, 3) := dk_182 1 82 (dk_at dksX9_told_5 1 rfl rfl)
theorem dX9_told_112 : decode cX9_told 112 = .ok (.ireturn, 1) := dk_172 (dk_at dksX9_told_5 4 rfl rfl)
def dkwX9_prices_3 : List UInt8 := [28, 79, 42, 180, 0, 64, 5, 29, 79, 177]
abbrev dktX9_prices_3 : List UInt8 := dkwX9_prices_3 ++ []
def dkwX9_prices_2 : List UInt8 := [182, 0, 84, 153, 0, 4, 177, 42, 4, 181, 1, 180, 42, 180, 0, 64, 3, 27, 79, 42, 180, 0, 64, 4]
abbrev dktX9_prices_2 : List UInt8 := dkwX9_prices_2 ++ dktX9_prices_3
def dkwX9_prices_1 : List UInt8 := [17, 3, 232, 163, 0, 15, 29, 4, 161, 0, 10, 29, 17, 3, 232, 164, 0, 7, 4, 167, 0, 4, 3, 4]
abbrev dktX9_prices_1 : List UInt8 := dkwX9_prices_1 ++ dktX9_prices_2
def dkwX9_prices_0 : List UInt8 := [42, 3, 181, 0, 73, 42, 27, 4, 161, 0, 34, 27, 17, 3, 232, 163, 0, 27, 28, 4, 161, 0, 22, 28]
abbrev dktX9_prices_0 : List UInt8 := dkwX9_prices_0 ++ dktX9_prices_1
theorem dksX9_prices_0 : cX9_prices.data.toList.drop 0 = dktX9_prices_0 := by decide +kernel
theorem dksX9_prices_1 : cX9_prices.data.toList.drop 24 = dktX9_prices_1 := dk_seg dksX9_prices_0 24 rfl rfl
theorem dksX9_prices_2 : cX9_prices.data.toList.drop 48 = dktX9_prices_2 := dk_seg dksX9_prices_1 24 rfl rfl
theorem dksX9_prices_3 : cX9_prices.data.toList.drop 72 = dktX9_prices_3 := dk_seg dksX9_prices_2 24 rfl rfl
theorem dX9_prices_0 : decode cX9_prices 0 = .ok (.aload_n 0, 1) := dk_42 (dk_at dksX9_prices_0 0 rfl rfl)
theorem dX9_prices_1 : decode cX9_prices 1 = .ok (.iconst 0, 1) := dk_3 (dk_at dksX9_prices_0 1 rfl rfl)
theorem dX9_prices_2 : decode cX9_prices 2 = .ok (.putfield 73, 3) := dk_181 0 73 (dk_at dksX9_prices_0 2 rfl rfl)
theorem dX9_prices_5 : decode cX9_prices 5 = .ok (.aload_n 0, 1) := dk_42 (dk_at dksX9_prices_0 5 rfl rfl)
theorem dX9_prices_6 : decode cX9_prices 6 = .ok (.iload_n 1, 1) := dk_27 (dk_at dksX9_prices_0 6 rfl rfl)
theorem dX9_prices_7 : decode cX9_prices 7 = .ok (.iconst 1, 1) := dk_4 (dk_at dksX9_prices_0 7 rfl rfl)
theorem dX9_prices_8 : decode cX9_prices 8 = .ok (.if_icmp .lt 34, 3) := dk_161 0 34 (dk_at dksX9_prices_0 8 rfl rfl)
theorem dX9_prices_11 : decode cX9_prices 11 = .ok (.iload_n 1, 1) := dk_27 (dk_at dksX9_prices_0 11 rfl rfl)
theorem dX9_prices_12 : decode cX9_prices 12 = .ok (.sipush 1000, 3) := dk_17 3 232 (dk_at dksX9_prices_0 12 rfl rfl)
theorem dX9_prices_15 : decode cX9_prices 15 = .ok (.if_icmp .gt 27, 3) := dk_163 0 27 (dk_at dksX9_prices_0 15 rfl rfl)
theorem dX9_prices_18 : decode cX9_prices 18 = .ok (.iload_n 2, 1) := dk_28 (dk_at dksX9_prices_0 18 rfl rfl)
theorem dX9_prices_19 : decode cX9_prices 19 = .ok (.iconst 1, 1) := dk_4 (dk_at dksX9_prices_0 19 rfl rfl)
theorem dX9_prices_20 : decode cX9_prices 20 = .ok (.if_icmp .lt 22, 3) := dk_161 0 22 (dk_at dksX9_prices_0 20 rfl rfl)
theorem dX9_prices_23 : decode cX9_prices 23 = .ok (.iload_n 2, 1) := dk_28 (dk_at dksX9_prices_0 23 rfl rfl)
theorem dX9_prices_24 : decode cX9_prices 24 = .ok (.sipush 1000, 3) := dk_17 3 232 (dk_at dksX9_prices_1 0 rfl rfl)
theorem dX9_prices_27 : decode cX9_prices 27 = .ok (.if_icmp .gt 15, 3) := dk_163 0 15 (dk_at dksX9_prices_1 3 rfl rfl)
theorem dX9_prices_30 : decode cX9_prices 30 = .ok (.iload_n 3, 1) := dk_29 (dk_at dksX9_prices_1 6 rfl rfl)
theorem dX9_prices_31 : decode cX9_prices 31 = .ok (.iconst 1, 1) := dk_4 (dk_at dksX9_prices_1 7 rfl rfl)
theorem dX9_prices_32 : decode cX9_prices 32 = .ok (.if_icmp .lt 10, 3) := dk_161 0 10 (dk_at dksX9_prices_1 8 rfl rfl)
theorem dX9_prices_35 : decode cX9_prices 35 = .ok (.iload_n 3, 1) := dk_29 (dk_at dksX9_prices_1 11 rfl rfl)
theorem dX9_prices_36 : decode cX9_prices 36 = .ok (.sipush 1000, 3) := dk_17 3 232 (dk_at dksX9_prices_1 12 rfl rfl)
theorem dX9_prices_39 : decode cX9_prices 39 = .ok (.if_icmp .le 7, 3) := dk_164 0 7 (dk_at dksX9_prices_1 15 rfl rfl)
theorem dX9_prices_42 : decode cX9_prices 42 = .ok (.iconst 1, 1) := dk_4 (dk_at dksX9_prices_1 18 rfl rfl)
theorem dX9_prices_43 : decode cX9_prices 43 = .ok (.goto 4, 3) := dk_167 0 4 (dk_at dksX9_prices_1 19 rfl rfl)
theorem dX9_prices_46 : decode cX9_prices 46 = .ok (.iconst 0, 1) := dk_3 (dk_at dksX9_prices_1 22 rfl rfl)
theorem dX9_prices_47 : decode cX9_prices 47 = .ok (.iconst 1, 1) := dk_4 (dk_at dksX9_prices_1 23 rfl rfl)
theorem dX9_prices_48 : decode cX9_prices 48 = .ok (.invokevirtual 84, 3) := dk_182 0 84 (dk_at dksX9_prices_2 0 rfl rfl)
theorem dX9_prices_51 : decode cX9_prices 51 = .ok (.ifCond .eq 4, 3) := dk_153 0 4 (dk_at dksX9_prices_2 3 rfl rfl)
theorem dX9_prices_54 : decode cX9_prices 54 = .ok (.return_, 1) := dk_177 (dk_at dksX9_prices_2 6 rfl rfl)
theorem dX9_prices_55 : decode cX9_prices 55 = .ok (.aload_n 0, 1) := dk_42 (dk_at dksX9_prices_2 7 rfl rfl)
theorem dX9_prices_56 : decode cX9_prices 56 = .ok (.iconst 1, 1) := dk_4 (dk_at dksX9_prices_2 8 rfl rfl)
theorem dX9_prices_57 : decode cX9_prices 57 = .ok (.putfield 436, 3) := dk_181 1 180 (dk_at dksX9_prices_2 9 rfl rfl)
theorem dX9_prices_60 : decode cX9_prices 60 = .ok (.aload_n 0, 1) := dk_42 (dk_at dksX9_prices_2 12 rfl rfl)
theorem dX9_prices_61 : decode cX9_prices 61 = .ok (.getfield 64, 3) := dk_180 0 64 (dk_at dksX9_prices_2 13 rfl rfl)
theorem dX9_prices_64 : decode cX9_prices 64 = .ok (.iconst 0, 1) := dk_3 (dk_at dksX9_prices_2 16 rfl rfl)
theorem dX9_prices_65 : decode cX9_prices 65 = .ok (.iload_n 1, 1) := dk_27 (dk_at dksX9_prices_2 17 rfl rfl)
theorem dX9_prices_66 : decode cX9_prices 66 = .ok (.iastore, 1) := dk_79 (dk_at dksX9_prices_2 18 rfl rfl)
theorem dX9_prices_67 : decode cX9_prices 67 = .ok (.aload_n 0, 1) := dk_42 (dk_at dksX9_prices_2 19 rfl rfl)
theorem dX9_prices_68 : decode cX9_prices 68 = .ok (.getfield 64, 3) := dk_180 0 64 (dk_at dksX9_prices_2 20 rfl rfl)
theorem dX9_prices_71 : decode cX9_prices 71 = .ok (.iconst 1, 1) := dk_4 (dk_at dksX9_prices_2 23 rfl rfl)
theorem dX9_prices_72 : decode cX9_prices 72 = .ok (.iload_n 2, 1) := dk_28 (dk_at dksX9_prices_3 0 rfl rfl)
theorem dX9_prices_73 : decode cX9_prices 73 = .ok (.iastore, 1) := dk_79 (dk_at dksX9_prices_3 1 rfl rfl)
theorem dX9_prices_74 : decode cX9_prices 74 = .ok (.aload_n 0, 1) := dk_42 (dk_at dksX9_prices_3 2 rfl rfl)
theorem dX9_prices_75 : decode cX9_prices 75 = .ok (.getfield 64, 3) := dk_180 0 64 (dk_at dksX9_prices_3 3 rfl rfl)
theorem dX9_prices_78 : decode cX9_prices 78 = .ok (.iconst 2, 1) := dk_5 (dk_at dksX9_prices_3 6 rfl rfl)
theorem dX9_prices_79 : decode cX9_prices 79 = .ok (.iload_n 3, 1) := dk_29 (dk_at dksX9_prices_3 7 rfl rfl)
theorem dX9_prices_80 : decode cX9_prices 80 = .ok (.iastore, 1) := dk_79 (dk_at dksX9_prices_3 8 rfl rfl)
theorem dX9_prices_81 : decode cX9_prices 81 = .ok (.return_, 1) := dk_177 (dk_at dksX9_prices_3 9 rfl rfl)
def dkwX9_worst_3 : List UInt8 := [180, 0, 67, 5, 21, 4, 79, 177]
abbrev dktX9_worst_3 : List UInt8 := dkwX9_worst_3 ++ []
def dkwX9_worst_2 : List UInt8 := [153, 0, 4, 177, 42, 27, 181, 1, 187, 42, 180, 0, 67, 3, 28, 79, 42, 180, 0, 67, 4, 29, 79, 42]
abbrev dktX9_worst_2 : List UInt8 := dkwX9_worst_2 ++ dktX9_worst_3
def dkwX9_worst_1 : List UInt8 := [184, 1, 184, 153, 0, 11, 21, 4, 184, 1, 184, 154, 0, 7, 4, 167, 0, 4, 3, 4, 182, 0, 84]
abbrev dktX9_worst_1 : List UInt8 := dkwX9_worst_1 ++ dktX9_worst_2
def dkwX9_worst_0 : List UInt8 := [42, 3, 181, 0, 73, 42, 27, 4, 161, 0, 30, 27, 6, 163, 0, 25, 28, 184, 1, 184, 153, 0, 18, 29]
abbrev dktX9_worst_0 : List UInt8 := dkwX9_worst_0 ++ dktX9_worst_1
theorem dksX9_worst_0 : cX9_worst.data.toList.drop 0 = dktX9_worst_0 := by decide +kernel
theorem dksX9_worst_1 : cX9_worst.data.toList.drop 24 = dktX9_worst_1 := dk_seg dksX9_worst_0 24 rfl rfl
theorem dksX9_worst_2 : cX9_worst.data.toList.drop 47 = dktX9_worst_2 := dk_seg dksX9_worst_1 23 rfl rfl
theorem dksX9_worst_3 : cX9_worst.data.toList.drop 71 = dktX9_worst_3 := dk_seg dksX9_worst_2 24 rfl rfl
theorem dX9_worst_0 : decode cX9_worst 0 = .ok (.aload_n 0, 1) := dk_42 (dk_at dksX9_worst_0 0 rfl rfl)
theorem dX9_worst_1 : decode cX9_worst 1 = .ok (.iconst 0, 1) := dk_3 (dk_at dksX9_worst_0 1 rfl rfl)
theorem dX9_worst_2 : decode cX9_worst 2 = .ok (.putfield 73, 3) := dk_181 0 73 (dk_at dksX9_worst_0 2 rfl rfl)
theorem dX9_worst_5 : decode cX9_worst 5 = .ok (.aload_n 0, 1) := dk_42 (dk_at dksX9_worst_0 5 rfl rfl)
theorem dX9_worst_6 : decode cX9_worst 6 = .ok (.iload_n 1, 1) := dk_27 (dk_at dksX9_worst_0 6 rfl rfl)
theorem dX9_worst_7 : decode cX9_worst 7 = .ok (.iconst 1, 1) := dk_4 (dk_at dksX9_worst_0 7 rfl rfl)
theorem dX9_worst_8 : decode cX9_worst 8 = .ok (.if_icmp .lt 30, 3) := dk_161 0 30 (dk_at dksX9_worst_0 8 rfl rfl)
theorem dX9_worst_11 : decode cX9_worst 11 = .ok (.iload_n 1, 1) := dk_27 (dk_at dksX9_worst_0 11 rfl rfl)
theorem dX9_worst_12 : decode cX9_worst 12 = .ok (.iconst 3, 1) := dk_6 (dk_at dksX9_worst_0 12 rfl rfl)
theorem dX9_worst_13 : decode cX9_worst 13 = .ok (.if_icmp .gt 25, 3) := dk_163 0 25 (dk_at dksX9_worst_0 13 rfl rfl)
theorem dX9_worst_16 : decode cX9_worst 16 = .ok (.iload_n 2, 1) := dk_28 (dk_at dksX9_worst_0 16 rfl rfl)
theorem dX9_worst_17 : decode cX9_worst 17 = .ok (.invokestatic 440, 3) := dk_184 1 184 (dk_at dksX9_worst_0 17 rfl rfl)
theorem dX9_worst_20 : decode cX9_worst 20 = .ok (.ifCond .eq 18, 3) := dk_153 0 18 (dk_at dksX9_worst_0 20 rfl rfl)
theorem dX9_worst_23 : decode cX9_worst 23 = .ok (.iload_n 3, 1) := dk_29 (dk_at dksX9_worst_0 23 rfl rfl)
theorem dX9_worst_24 : decode cX9_worst 24 = .ok (.invokestatic 440, 3) := dk_184 1 184 (dk_at dksX9_worst_1 0 rfl rfl)
theorem dX9_worst_27 : decode cX9_worst 27 = .ok (.ifCond .eq 11, 3) := dk_153 0 11 (dk_at dksX9_worst_1 3 rfl rfl)
theorem dX9_worst_30 : decode cX9_worst 30 = .ok (.iload 4, 2) := dk_21 4 (dk_at dksX9_worst_1 6 rfl rfl)
theorem dX9_worst_32 : decode cX9_worst 32 = .ok (.invokestatic 440, 3) := dk_184 1 184 (dk_at dksX9_worst_1 8 rfl rfl)
theorem dX9_worst_35 : decode cX9_worst 35 = .ok (.ifCond .ne 7, 3) := dk_154 0 7 (dk_at dksX9_worst_1 11 rfl rfl)
theorem dX9_worst_38 : decode cX9_worst 38 = .ok (.iconst 1, 1) := dk_4 (dk_at dksX9_worst_1 14 rfl rfl)
theorem dX9_worst_39 : decode cX9_worst 39 = .ok (.goto 4, 3) := dk_167 0 4 (dk_at dksX9_worst_1 15 rfl rfl)
theorem dX9_worst_42 : decode cX9_worst 42 = .ok (.iconst 0, 1) := dk_3 (dk_at dksX9_worst_1 18 rfl rfl)
theorem dX9_worst_43 : decode cX9_worst 43 = .ok (.iconst 1, 1) := dk_4 (dk_at dksX9_worst_1 19 rfl rfl)
theorem dX9_worst_44 : decode cX9_worst 44 = .ok (.invokevirtual 84, 3) := dk_182 0 84 (dk_at dksX9_worst_1 20 rfl rfl)
theorem dX9_worst_47 : decode cX9_worst 47 = .ok (.ifCond .eq 4, 3) := dk_153 0 4 (dk_at dksX9_worst_2 0 rfl rfl)
theorem dX9_worst_50 : decode cX9_worst 50 = .ok (.return_, 1) := dk_177 (dk_at dksX9_worst_2 3 rfl rfl)
theorem dX9_worst_51 : decode cX9_worst 51 = .ok (.aload_n 0, 1) := dk_42 (dk_at dksX9_worst_2 4 rfl rfl)
theorem dX9_worst_52 : decode cX9_worst 52 = .ok (.iload_n 1, 1) := dk_27 (dk_at dksX9_worst_2 5 rfl rfl)
theorem dX9_worst_53 : decode cX9_worst 53 = .ok (.putfield 443, 3) := dk_181 1 187 (dk_at dksX9_worst_2 6 rfl rfl)
theorem dX9_worst_56 : decode cX9_worst 56 = .ok (.aload_n 0, 1) := dk_42 (dk_at dksX9_worst_2 9 rfl rfl)
theorem dX9_worst_57 : decode cX9_worst 57 = .ok (.getfield 67, 3) := dk_180 0 67 (dk_at dksX9_worst_2 10 rfl rfl)
theorem dX9_worst_60 : decode cX9_worst 60 = .ok (.iconst 0, 1) := dk_3 (dk_at dksX9_worst_2 13 rfl rfl)
theorem dX9_worst_61 : decode cX9_worst 61 = .ok (.iload_n 2, 1) := dk_28 (dk_at dksX9_worst_2 14 rfl rfl)
theorem dX9_worst_62 : decode cX9_worst 62 = .ok (.iastore, 1) := dk_79 (dk_at dksX9_worst_2 15 rfl rfl)
theorem dX9_worst_63 : decode cX9_worst 63 = .ok (.aload_n 0, 1) := dk_42 (dk_at dksX9_worst_2 16 rfl rfl)
theorem dX9_worst_64 : decode cX9_worst 64 = .ok (.getfield 67, 3) := dk_180 0 67 (dk_at dksX9_worst_2 17 rfl rfl)
theorem dX9_worst_67 : decode cX9_worst 67 = .ok (.iconst 1, 1) := dk_4 (dk_at dksX9_worst_2 20 rfl rfl)
theorem dX9_worst_68 : decode cX9_worst 68 = .ok (.iload_n 3, 1) := dk_29 (dk_at dksX9_worst_2 21 rfl rfl)
theorem dX9_worst_69 : decode cX9_worst 69 = .ok (.iastore, 1) := dk_79 (dk_at dksX9_worst_2 22 rfl rfl)
theorem dX9_worst_70 : decode cX9_worst 70 = .ok (.aload_n 0, 1) := dk_42 (dk_at dksX9_worst_2 23 rfl rfl)
theorem dX9_worst_71 : decode cX9_worst 71 = .ok (.getfield 67, 3) := dk_180 0 67 (dk_at dksX9_worst_3 0 rfl rfl)
theorem dX9_worst_74 : decode cX9_worst 74 = .ok (.iconst 2, 1) := dk_5 (dk_at dksX9_worst_3 3 rfl rfl)
theorem dX9_worst_75 : decode cX9_worst 75 = .ok (.iload 4, 2) := dk_21 4 (dk_at dksX9_worst_3 4 rfl rfl)
theorem dX9_worst_77 : decode cX9_worst 77 = .ok (.iastore, 1) := dk_79 (dk_at dksX9_worst_3 6 rfl rfl)
theorem dX9_worst_78 : decode cX9_worst 78 = .ok (.return_, 1) := dk_177 (dk_at dksX9_worst_3 7 rfl rfl)
def dkwX9_isRain_0 : List UInt8 := [26, 155, 0, 14, 26, 17, 1, 244, 163, 0, 7, 4, 167, 0, 4, 3, 172]
abbrev dktX9_isRain_0 : List UInt8 := dkwX9_isRain_0 ++ []
theorem dksX9_isRain_0 : cX9_isRain.data.toList.drop 0 = dktX9_isRain_0 := by decide +kernel
theorem dX9_isRain_0 : decode cX9_isRain 0 = .ok (.iload_n 0, 1) := dk_26 (dk_at dksX9_isRain_0 0 rfl rfl)
theorem dX9_isRain_1 : decode cX9_isRain 1 = .ok (.ifCond .lt 14, 3) := dk_155 0 14 (dk_at dksX9_isRain_0 1 rfl rfl)
theorem dX9_isRain_4 : decode cX9_isRain 4 = .ok (.iload_n 0, 1) := dk_26 (dk_at dksX9_isRain_0 4 rfl rfl)
theorem dX9_isRain_5 : decode cX9_isRain 5 = .ok (.sipush 500, 3) := dk_17 1 244 (dk_at dksX9_isRain_0 5 rfl rfl)
theorem dX9_isRain_8 : decode cX9_isRain 8 = .ok (.if_icmp .gt 7, 3) := dk_163 0 7 (dk_at dksX9_isRain_0 8 rfl rfl)
theorem dX9_isRain_11 : decode cX9_isRain 11 = .ok (.iconst 1, 1) := dk_4 (dk_at dksX9_isRain_0 11 rfl rfl)
theorem dX9_isRain_12 : decode cX9_isRain 12 = .ok (.goto 4, 3) := dk_167 0 4 (dk_at dksX9_isRain_0 12 rfl rfl)
theorem dX9_isRain_15 : decode cX9_isRain 15 = .ok (.iconst 0, 1) := dk_3 (dk_at dksX9_isRain_0 15 rfl rfl)
theorem dX9_isRain_16 : decode cX9_isRain 16 = .ok (.ireturn, 1) := dk_172 (dk_at dksX9_isRain_0 16 rfl rfl)
def dkwX9_planned_16 : List UInt8 := [167, 0, 21, 29, 6, 112, 167, 0, 15, 28, 5, 160, 0, 8, 21, 4, 167, 0, 5, 21, 5, 172]
abbrev dktX9_planned_16 : List UInt8 := dkwX9_planned_16 ++ []
def dkwX9_planned_15 : List UInt8 := [108, 54, 6, 28, 154, 0, 8, 21, 6, 167, 0, 35, 28, 4, 160, 0, 18, 27, 4, 160, 0, 7, 2]
abbrev dktX9_planned_15 : List UInt8 := dkwX9_planned_15 ++ dktX9_planned_16
def dkwX9_planned_14 : List UInt8 := [167, 255, 35, 42, 3, 181, 1, 67, 42, 2, 181, 0, 29, 27, 4, 160, 0, 7, 29, 167, 0, 6, 29, 6]
abbrev dktX9_planned_14 : List UInt8 := dkwX9_planned_14 ++ dktX9_planned_15
def dkwX9_planned_13 : List UInt8 := [21, 5, 163, 0, 6, 167, 0, 14, 21, 6, 62, 21, 7, 54, 4, 21, 8, 54, 5, 132, 6, 1]
abbrev dktX9_planned_13 : List UInt8 := dkwX9_planned_13 ++ dktX9_planned_14
def dkwX9_planned_12 : List UInt8 := [167, 255, 105, 29, 155, 0, 27, 21, 7, 21, 4, 163, 0, 31, 21, 7, 21, 4, 160, 0, 13, 21, 8]
abbrev dktX9_planned_12 : List UInt8 := dkwX9_planned_12 ++ dktX9_planned_13
def dkwX9_planned_11 : List UInt8 := [21, 8, 162, 0, 10, 42, 182, 1, 79, 167, 0, 5, 21, 8, 54, 8, 42, 182, 0, 163, 132, 9, 1]
abbrev dktX9_planned_11 : List UInt8 := dkwX9_planned_11 ++ dktX9_planned_12
def dkwX9_planned_10 : List UInt8 := [42, 180, 0, 9, 17, 8, 74, 46, 167, 0, 5, 21, 7, 54, 7, 21, 9, 153, 0, 12, 42, 182, 1, 79]
abbrev dktX9_planned_10 : List UInt8 := dkwX9_planned_10 ++ dktX9_planned_11
def dkwX9_planned_9 : List UInt8 := [132, 10, 1, 167, 255, 196, 21, 9, 153, 0, 16, 42, 180, 0, 9, 17, 8, 74, 46, 21, 7, 164, 0, 14]
abbrev dktX9_planned_9 : List UInt8 := dkwX9_planned_9 ++ dktX9_planned_10
def dkwX9_planned_8 : List UInt8 := [181, 1, 67, 3, 54, 11, 21, 11, 16, 13, 162, 0, 13, 42, 182, 1, 170, 132, 11, 1, 167, 255, 242]
abbrev dktX9_planned_8 : List UInt8 := dkwX9_planned_8 ++ dktX9_planned_9
def dkwX9_planned_7 : List UInt8 := [4, 159, 0, 9, 21, 10, 4, 160, 0, 10, 21, 6, 6, 112, 167, 0, 7, 21, 6, 6, 108, 46]
abbrev dktX9_planned_7 : List UInt8 := dkwX9_planned_7 ++ dktX9_planned_8
def dkwX9_planned_6 : List UInt8 := [180, 0, 67, 21, 9, 46, 181, 0, 29, 3, 54, 10, 21, 10, 27, 162, 0, 60, 42, 42, 180, 0, 64, 27]
abbrev dktX9_planned_6 : List UInt8 := dkwX9_planned_6 ++ dktX9_planned_7
def dkwX9_planned_5 : List UInt8 := [162, 0, 211, 3, 54, 7, 3, 54, 8, 3, 54, 9, 21, 9, 42, 180, 1, 187, 162, 0, 148, 42, 42]
abbrev dktX9_planned_5 : List UInt8 := dkwX9_planned_5 ++ dktX9_planned_6
def dkwX9_planned_4 : List UInt8 := [54, 5, 42, 182, 0, 153, 3, 54, 6, 21, 6, 27, 4, 160, 0, 7, 6, 167, 0, 5, 16, 9]
abbrev dktX9_planned_4 : List UInt8 := dkwX9_planned_4 ++ dktX9_planned_5
def dkwX9_planned_3 : List UInt8 := [172, 42, 180, 1, 180, 153, 0, 10, 42, 180, 1, 187, 154, 0, 5, 2, 172, 2, 62, 3, 54, 4, 3]
abbrev dktX9_planned_3 : List UInt8 := dkwX9_planned_3 ++ dktX9_planned_4
def dkwX9_planned_2 : List UInt8 := [16, 13, 27, 104, 96, 17, 3, 232, 164, 0, 7, 4, 167, 0, 4, 3, 5, 182, 0, 84, 153, 0, 5, 3]
abbrev dktX9_planned_2 : List UInt8 := dkwX9_planned_2 ++ dktX9_planned_3
def dkwX9_planned_1 : List UInt8 := [164, 0, 7, 4, 167, 0, 4, 3, 4, 182, 0, 84, 154, 0, 35, 42, 42, 180, 0, 9, 17, 8, 68, 46]
abbrev dktX9_planned_1 : List UInt8 := dkwX9_planned_1 ++ dktX9_planned_2
def dkwX9_planned_0 : List UInt8 := [42, 3, 181, 0, 73, 42, 27, 4, 161, 0, 17, 27, 5, 163, 0, 12, 28, 155, 0, 8, 28, 6]
abbrev dktX9_planned_0 : List UInt8 := dkwX9_planned_0 ++ dktX9_planned_1
theorem dksX9_planned_0 : cX9_planned.data.toList.drop 0 = dktX9_planned_0 := by decide +kernel
theorem dksX9_planned_1 : cX9_planned.data.toList.drop 22 = dktX9_planned_1 := dk_seg dksX9_planned_0 22 rfl rfl
theorem dksX9_planned_2 : cX9_planned.data.toList.drop 46 = dktX9_planned_2 := dk_seg dksX9_planned_1 24 rfl rfl
theorem dksX9_planned_3 : cX9_planned.data.toList.drop 70 = dktX9_planned_3 := dk_seg dksX9_planned_2 24 rfl rfl
theorem dksX9_planned_4 : cX9_planned.data.toList.drop 93 = dktX9_planned_4 := dk_seg dksX9_planned_3 23 rfl rfl
theorem dksX9_planned_5 : cX9_planned.data.toList.drop 115 = dktX9_planned_5 := dk_seg dksX9_planned_4 22 rfl rfl
theorem dksX9_planned_6 : cX9_planned.data.toList.drop 138 = dktX9_planned_6 := dk_seg dksX9_planned_5 23 rfl rfl
theorem dksX9_planned_7 : cX9_planned.data.toList.drop 162 = dktX9_planned_7 := dk_seg dksX9_planned_6 24 rfl rfl
theorem dksX9_planned_8 : cX9_planned.data.toList.drop 184 = dktX9_planned_8 := dk_seg dksX9_planned_7 22 rfl rfl
theorem dksX9_planned_9 : cX9_planned.data.toList.drop 207 = dktX9_planned_9 := dk_seg dksX9_planned_8 23 rfl rfl
theorem dksX9_planned_10 : cX9_planned.data.toList.drop 231 = dktX9_planned_10 := dk_seg dksX9_planned_9 24 rfl rfl
theorem dksX9_planned_11 : cX9_planned.data.toList.drop 255 = dktX9_planned_11 := dk_seg dksX9_planned_10 24 rfl rfl
theorem dksX9_planned_12 : cX9_planned.data.toList.drop 278 = dktX9_planned_12 := dk_seg dksX9_planned_11 23 rfl rfl
theorem dksX9_planned_13 : cX9_planned.data.toList.drop 301 = dktX9_planned_13 := dk_seg dksX9_planned_12 23 rfl rfl
theorem dksX9_planned_14 : cX9_planned.data.toList.drop 323 = dktX9_planned_14 := dk_seg dksX9_planned_13 22 rfl rfl
theorem dksX9_planned_15 : cX9_planned.data.toList.drop 347 = dktX9_planned_15 := dk_seg dksX9_planned_14 24 rfl rfl
theorem dksX9_planned_16 : cX9_planned.data.toList.drop 370 = dktX9_planned_16 := dk_seg dksX9_planned_15 23 rfl rfl
theorem dX9_planned_0 : decode cX9_planned 0 = .ok (.aload_n 0, 1) := dk_42 (dk_at dksX9_planned_0 0 rfl rfl)
theorem dX9_planned_1 : decode cX9_planned 1 = .ok (.iconst 0, 1) := dk_3 (dk_at dksX9_planned_0 1 rfl rfl)
theorem dX9_planned_2 : decode cX9_planned 2 = .ok (.putfield 73, 3) := dk_181 0 73 (dk_at dksX9_planned_0 2 rfl rfl)
theorem dX9_planned_5 : decode cX9_planned 5 = .ok (.aload_n 0, 1) := dk_42 (dk_at dksX9_planned_0 5 rfl rfl)
theorem dX9_planned_6 : decode cX9_planned 6 = .ok (.iload_n 1, 1) := dk_27 (dk_at dksX9_planned_0 6 rfl rfl)
theorem dX9_planned_7 : decode cX9_planned 7 = .ok (.iconst 1, 1) := dk_4 (dk_at dksX9_planned_0 7 rfl rfl)
theorem dX9_planned_8 : decode cX9_planned 8 = .ok (.if_icmp .lt 17, 3) := dk_161 0 17 (dk_at dksX9_planned_0 8 rfl rfl)
theorem dX9_planned_11 : decode cX9_planned 11 = .ok (.iload_n 1, 1) := dk_27 (dk_at dksX9_planned_0 11 rfl rfl)
theorem dX9_planned_12 : decode cX9_planned 12 = .ok (.iconst 2, 1) := dk_5 (dk_at dksX9_planned_0 12 rfl rfl)
theorem dX9_planned_13 : decode cX9_planned 13 = .ok (.if_icmp .gt 12, 3) := dk_163 0 12 (dk_at dksX9_planned_0 13 rfl rfl)
theorem dX9_planned_16 : decode cX9_planned 16 = .ok (.iload_n 2, 1) := dk_28 (dk_at dksX9_planned_0 16 rfl rfl)
theorem dX9_planned_17 : decode cX9_planned 17 = .ok (.ifCond .lt 8, 3) := dk_155 0 8 (dk_at dksX9_planned_0 17 rfl rfl)
theorem dX9_planned_20 : decode cX9_planned 20 = .ok (.iload_n 2, 1) := dk_28 (dk_at dksX9_planned_0 20 rfl rfl)
theorem dX9_planned_21 : decode cX9_planned 21 = .ok (.iconst 3, 1) := dk_6 (dk_at dksX9_planned_0 21 rfl rfl)
theorem dX9_planned_22 : decode cX9_planned 22 = .ok (.if_icmp .le 7, 3) := dk_164 0 7 (dk_at dksX9_planned_1 0 rfl rfl)
theorem dX9_planned_25 : decode cX9_planned 25 = .ok (.iconst 1, 1) := dk_4 (dk_at dksX9_planned_1 3 rfl rfl)
theorem dX9_planned_26 : decode cX9_planned 26 = .ok (.goto 4, 3) := dk_167 0 4 (dk_at dksX9_planned_1 4 rfl rfl)
theorem dX9_planned_29 : decode cX9_planned 29 = .ok (.iconst 0, 1) := dk_3 (dk_at dksX9_planned_1 7 rfl rfl)
theorem dX9_planned_30 : decode cX9_planned 30 = .ok (.iconst 1, 1) := dk_4 (dk_at dksX9_planned_1 8 rfl rfl)
theorem dX9_planned_31 : decode cX9_planned 31 = .ok (.invokevirtual 84, 3) := dk_182 0 84 (dk_at dksX9_planned_1 9 rfl rfl)
theorem dX9_planned_34 : decode cX9_planned 34 = .ok (.ifCond .ne 35, 3) := dk_154 0 35 (dk_at dksX9_planned_1 12 rfl rfl)
theorem dX9_planned_37 : decode cX9_planned 37 = .ok (.aload_n 0, 1) := dk_42 (dk_at dksX9_planned_1 15 rfl rfl)
theorem dX9_planned_38 : decode cX9_planned 38 = .ok (.aload_n 0, 1) := dk_42 (dk_at dksX9_planned_1 16 rfl rfl)
theorem dX9_planned_39 : decode cX9_planned 39 = .ok (.getfield 9, 3) := dk_180 0 9 (dk_at dksX9_planned_1 17 rfl rfl)
theorem dX9_planned_42 : decode cX9_planned 42 = .ok (.sipush 2116, 3) := dk_17 8 68 (dk_at dksX9_planned_1 20 rfl rfl)
theorem dX9_planned_45 : decode cX9_planned 45 = .ok (.iaload, 1) := dk_46 (dk_at dksX9_planned_1 23 rfl rfl)
theorem dX9_planned_46 : decode cX9_planned 46 = .ok (.bipush 13, 2) := dk_16 13 (dk_at dksX9_planned_2 0 rfl rfl)
theorem dX9_planned_48 : decode cX9_planned 48 = .ok (.iload_n 1, 1) := dk_27 (dk_at dksX9_planned_2 2 rfl rfl)
theorem dX9_planned_49 : decode cX9_planned 49 = .ok (.imul, 1) := dk_104 (dk_at dksX9_planned_2 3 rfl rfl)
theorem dX9_planned_50 : decode cX9_planned 50 = .ok (.iadd, 1) := dk_96 (dk_at dksX9_planned_2 4 rfl rfl)
theorem dX9_planned_51 : decode cX9_planned 51 = .ok (.sipush 1000, 3) := dk_17 3 232 (dk_at dksX9_planned_2 5 rfl rfl)
theorem dX9_planned_54 : decode cX9_planned 54 = .ok (.if_icmp .le 7, 3) := dk_164 0 7 (dk_at dksX9_planned_2 8 rfl rfl)
theorem dX9_planned_57 : decode cX9_planned 57 = .ok (.iconst 1, 1) := dk_4 (dk_at dksX9_planned_2 11 rfl rfl)
theorem dX9_planned_58 : decode cX9_planned 58 = .ok (.goto 4, 3) := dk_167 0 4 (dk_at dksX9_planned_2 12 rfl rfl)
theorem dX9_planned_61 : decode cX9_planned 61 = .ok (.iconst 0, 1) := dk_3 (dk_at dksX9_planned_2 15 rfl rfl)
theorem dX9_planned_62 : decode cX9_planned 62 = .ok (.iconst 2, 1) := dk_5 (dk_at dksX9_planned_2 16 rfl rfl)
theorem dX9_planned_63 : decode cX9_planned 63 = .ok (.invokevirtual 84, 3) := dk_182 0 84 (dk_at dksX9_planned_2 17 rfl rfl)
theorem dX9_planned_66 : decode cX9_planned 66 = .ok (.ifCond .eq 5, 3) := dk_153 0 5 (dk_at dksX9_planned_2 20 rfl rfl)
theorem dX9_planned_69 : decode cX9_planned 69 = .ok (.iconst 0, 1) := dk_3 (dk_at dksX9_planned_2 23 rfl rfl)
theorem dX9_planned_70 : decode cX9_planned 70 = .ok (.ireturn, 1) := dk_172 (dk_at dksX9_planned_3 0 rfl rfl)
theorem dX9_planned_71 : decode cX9_planned 71 = .ok (.aload_n 0, 1) := dk_42 (dk_at dksX9_planned_3 1 rfl rfl)
theorem dX9_planned_72 : decode cX9_planned 72 = .ok (.getfield 436, 3) := dk_180 1 180 (dk_at dksX9_planned_3 2 rfl rfl)
theorem dX9_planned_75 : decode cX9_planned 75 = .ok (.ifCond .eq 10, 3) := dk_153 0 10 (dk_at dksX9_planned_3 5 rfl rfl)
theorem dX9_planned_78 : decode cX9_planned 78 = .ok (.aload_n 0, 1) := dk_42 (dk_at dksX9_planned_3 8 rfl rfl)
theorem dX9_planned_79 : decode cX9_planned 79 = .ok (.getfield 443, 3) := dk_180 1 187 (dk_at dksX9_planned_3 9 rfl rfl)
theorem dX9_planned_82 : decode cX9_planned 82 = .ok (.ifCond .ne 5, 3) := dk_154 0 5 (dk_at dksX9_planned_3 12 rfl rfl)
theorem dX9_planned_85 : decode cX9_planned 85 = .ok (.iconst (-1), 1) := dk_2 (dk_at dksX9_planned_3 15 rfl rfl)
theorem dX9_planned_86 : decode cX9_planned 86 = .ok (.ireturn, 1) := dk_172 (dk_at dksX9_planned_3 16 rfl rfl)
theorem dX9_planned_87 : decode cX9_planned 87 = .ok (.iconst (-1), 1) := dk_2 (dk_at dksX9_planned_3 17 rfl rfl)
theorem dX9_planned_88 : decode cX9_planned 88 = .ok (.istore_n 3, 1) := dk_62 (dk_at dksX9_planned_3 18 rfl rfl)
theorem dX9_planned_89 : decode cX9_planned 89 = .ok (.iconst 0, 1) := dk_3 (dk_at dksX9_planned_3 19 rfl rfl)
theorem dX9_planned_90 : decode cX9_planned 90 = .ok (.istore 4, 2) := dk_54 4 (dk_at dksX9_planned_3 20 rfl rfl)
theorem dX9_planned_92 : decode cX9_planned 92 = .ok (.iconst 0, 1) := dk_3 (dk_at dksX9_planned_3 22 rfl rfl)
theorem dX9_planned_93 : decode cX9_planned 93 = .ok (.istore 5, 2) := dk_54 5 (dk_at dksX9_planned_4 0 rfl rfl)
theorem dX9_planned_95 : decode cX9_planned 95 = .ok (.aload_n 0, 1) := dk_42 (dk_at dksX9_planned_4 2 rfl rfl)
theorem dX9_planned_96 : decode cX9_planned 96 = .ok (.invokevirtual 153, 3) := dk_182 0 153 (dk_at dksX9_planned_4 3 rfl rfl)
theorem dX9_planned_99 : decode cX9_planned 99 = .ok (.iconst 0, 1) := dk_3 (dk_at dksX9_planned_4 6 rfl rfl)
theorem dX9_planned_100 : decode cX9_planned 100 = .ok (.istore 6, 2) := dk_54 6 (dk_at dksX9_planned_4 7 rfl rfl)
theorem dX9_planned_102 : decode cX9_planned 102 = .ok (.iload 6, 2) := dk_21 6 (dk_at dksX9_planned_4 9 rfl rfl)
theorem dX9_planned_104 : decode cX9_planned 104 = .ok (.iload_n 1, 1) := dk_27 (dk_at dksX9_planned_4 11 rfl rfl)
theorem dX9_planned_105 : decode cX9_planned 105 = .ok (.iconst 1, 1) := dk_4 (dk_at dksX9_planned_4 12 rfl rfl)
theorem dX9_planned_106 : decode cX9_planned 106 = .ok (.if_icmp .ne 7, 3) := dk_160 0 7 (dk_at dksX9_planned_4 13 rfl rfl)
theorem dX9_planned_109 : decode cX9_planned 109 = .ok (.iconst 3, 1) := dk_6 (dk_at dksX9_planned_4 16 rfl rfl)
theorem dX9_planned_110 : decode cX9_planned 110 = .ok (.goto 5, 3) := dk_167 0 5 (dk_at dksX9_planned_4 17 rfl rfl)
theorem dX9_planned_113 : decode cX9_planned 113 = .ok (.bipush 9, 2) := dk_16 9 (dk_at dksX9_planned_4 20 rfl rfl)
theorem dX9_planned_115 : decode cX9_planned 115 = .ok (.if_icmp .ge 211, 3) := dk_162 0 211 (dk_at dksX9_planned_5 0 rfl rfl)
theorem dX9_planned_118 : decode cX9_planned 118 = .ok (.iconst 0, 1) := dk_3 (dk_at dksX9_planned_5 3 rfl rfl)
theorem dX9_planned_119 : decode cX9_planned 119 = .ok (.istore 7, 2) := dk_54 7 (dk_at dksX9_planned_5 4 rfl rfl)
theorem dX9_planned_121 : decode cX9_planned 121 = .ok (.iconst 0, 1) := dk_3 (dk_at dksX9_planned_5 6 rfl rfl)
theorem dX9_planned_122 : decode cX9_planned 122 = .ok (.istore 8, 2) := dk_54 8 (dk_at dksX9_planned_5 7 rfl rfl)
theorem dX9_planned_124 : decode cX9_planned 124 = .ok (.iconst 0, 1) := dk_3 (dk_at dksX9_planned_5 9 rfl rfl)
theorem dX9_planned_125 : decode cX9_planned 125 = .ok (.istore 9, 2) := dk_54 9 (dk_at dksX9_planned_5 10 rfl rfl)
theorem dX9_planned_127 : decode cX9_planned 127 = .ok (.iload 9, 2) := dk_21 9 (dk_at dksX9_planned_5 12 rfl rfl)
theorem dX9_planned_129 : decode cX9_planned 129 = .ok (.aload_n 0, 1) := dk_42 (dk_at dksX9_planned_5 14 rfl rfl)
theorem dX9_planned_130 : decode cX9_planned 130 = .ok (.getfield 443, 3) := dk_180 1 187 (dk_at dksX9_planned_5 15 rfl rfl)
theorem dX9_planned_133 : decode cX9_planned 133 = .ok (.if_icmp .ge 148, 3) := dk_162 0 148 (dk_at dksX9_planned_5 18 rfl rfl)
theorem dX9_planned_136 : decode cX9_planned 136 = .ok (.aload_n 0, 1) := dk_42 (dk_at dksX9_planned_5 21 rfl rfl)
theorem dX9_planned_137 : decode cX9_planned 137 = .ok (.aload_n 0, 1) := dk_42 (dk_at dksX9_planned_5 22 rfl rfl)
theorem dX9_planned_138 : decode cX9_planned 138 = .ok (.getfield 67, 3) := dk_180 0 67 (dk_at dksX9_planned_6 0 rfl rfl)
theorem dX9_planned_141 : decode cX9_planned 141 = .ok (.iload 9, 2) := dk_21 9 (dk_at dksX9_planned_6 3 rfl rfl)
theorem dX9_planned_143 : decode cX9_planned 143 = .ok (.iaload, 1) := dk_46 (dk_at dksX9_planned_6 5 rfl rfl)
theorem dX9_planned_144 : decode cX9_planned 144 = .ok (.putfield 29, 3) := dk_181 0 29 (dk_at dksX9_planned_6 6 rfl rfl)
theorem dX9_planned_147 : decode cX9_planned 147 = .ok (.iconst 0, 1) := dk_3 (dk_at dksX9_planned_6 9 rfl rfl)
theorem dX9_planned_148 : decode cX9_planned 148 = .ok (.istore 10, 2) := dk_54 10 (dk_at dksX9_planned_6 10 rfl rfl)
theorem dX9_planned_150 : decode cX9_planned 150 = .ok (.iload 10, 2) := dk_21 10 (dk_at dksX9_planned_6 12 rfl rfl)
theorem dX9_planned_152 : decode cX9_planned 152 = .ok (.iload_n 1, 1) := dk_27 (dk_at dksX9_planned_6 14 rfl rfl)
theorem dX9_planned_153 : decode cX9_planned 153 = .ok (.if_icmp .ge 60, 3) := dk_162 0 60 (dk_at dksX9_planned_6 15 rfl rfl)
theorem dX9_planned_156 : decode cX9_planned 156 = .ok (.aload_n 0, 1) := dk_42 (dk_at dksX9_planned_6 18 rfl rfl)
theorem dX9_planned_157 : decode cX9_planned 157 = .ok (.aload_n 0, 1) := dk_42 (dk_at dksX9_planned_6 19 rfl rfl)
theorem dX9_planned_158 : decode cX9_planned 158 = .ok (.getfield 64, 3) := dk_180 0 64 (dk_at dksX9_planned_6 20 rfl rfl)
theorem dX9_planned_161 : decode cX9_planned 161 = .ok (.iload_n 1, 1) := dk_27 (dk_at dksX9_planned_6 23 rfl rfl)
theorem dX9_planned_162 : decode cX9_planned 162 = .ok (.iconst 1, 1) := dk_4 (dk_at dksX9_planned_7 0 rfl rfl)
theorem dX9_planned_163 : decode cX9_planned 163 = .ok (.if_icmp .eq 9, 3) := dk_159 0 9 (dk_at dksX9_planned_7 1 rfl rfl)
theorem dX9_planned_166 : decode cX9_planned 166 = .ok (.iload 10, 2) := dk_21 10 (dk_at dksX9_planned_7 4 rfl rfl)
theorem dX9_planned_168 : decode cX9_planned 168 = .ok (.iconst 1, 1) := dk_4 (dk_at dksX9_planned_7 6 rfl rfl)
theorem dX9_planned_169 : decode cX9_planned 169 = .ok (.if_icmp .ne 10, 3) := dk_160 0 10 (dk_at dksX9_planned_7 7 rfl rfl)
theorem dX9_planned_172 : decode cX9_planned 172 = .ok (.iload 6, 2) := dk_21 6 (dk_at dksX9_planned_7 10 rfl rfl)
theorem dX9_planned_174 : decode cX9_planned 174 = .ok (.iconst 3, 1) := dk_6 (dk_at dksX9_planned_7 12 rfl rfl)
theorem dX9_planned_175 : decode cX9_planned 175 = .ok (.irem, 1) := dk_112 (dk_at dksX9_planned_7 13 rfl rfl)
theorem dX9_planned_176 : decode cX9_planned 176 = .ok (.goto 7, 3) := dk_167 0 7 (dk_at dksX9_planned_7 14 rfl rfl)
theorem dX9_planned_179 : decode cX9_planned 179 = .ok (.iload 6, 2) := dk_21 6 (dk_at dksX9_planned_7 17 rfl rfl)
theorem dX9_planned_181 : decode cX9_planned 181 = .ok (.iconst 3, 1) := dk_6 (dk_at dksX9_planned_7 19 rfl rfl)
theorem dX9_planned_182 : decode cX9_planned 182 = .ok (.idiv, 1) := dk_108 (dk_at dksX9_planned_7 20 rfl rfl)
theorem dX9_planned_183 : decode cX9_planned 183 = .ok (.iaload, 1) := dk_46 (dk_at dksX9_planned_7 21 rfl rfl)
theorem dX9_planned_184 : decode cX9_planned 184 = .ok (.putfield 323, 3) := dk_181 1 67 (dk_at dksX9_planned_8 0 rfl rfl)
theorem dX9_planned_187 : decode cX9_planned 187 = .ok (.iconst 0, 1) := dk_3 (dk_at dksX9_planned_8 3 rfl rfl)
theorem dX9_planned_188 : decode cX9_planned 188 = .ok (.istore 11, 2) := dk_54 11 (dk_at dksX9_planned_8 4 rfl rfl)
theorem dX9_planned_190 : decode cX9_planned 190 = .ok (.iload 11, 2) := dk_21 11 (dk_at dksX9_planned_8 6 rfl rfl)
theorem dX9_planned_192 : decode cX9_planned 192 = .ok (.bipush 13, 2) := dk_16 13 (dk_at dksX9_planned_8 8 rfl rfl)
theorem dX9_planned_194 : decode cX9_planned 194 = .ok (.if_icmp .ge 13, 3) := dk_162 0 13 (dk_at dksX9_planned_8 10 rfl rfl)
theorem dX9_planned_197 : decode cX9_planned 197 = .ok (.aload_n 0, 1) := dk_42 (dk_at dksX9_planned_8 13 rfl rfl)
theorem dX9_planned_198 : decode cX9_planned 198 = .ok (.invokevirtual 426, 3) := dk_182 1 170 (dk_at dksX9_planned_8 14 rfl rfl)
theorem dX9_planned_201 : decode cX9_planned 201 = .ok (.iinc 11 1, 3) := dk_132 11 1 (dk_at dksX9_planned_8 17 rfl rfl)
theorem dX9_planned_204 : decode cX9_planned 204 = .ok (.goto (-14), 3) := dk_167 255 242 (dk_at dksX9_planned_8 20 rfl rfl)
theorem dX9_planned_207 : decode cX9_planned 207 = .ok (.iinc 10 1, 3) := dk_132 10 1 (dk_at dksX9_planned_9 0 rfl rfl)
theorem dX9_planned_210 : decode cX9_planned 210 = .ok (.goto (-60), 3) := dk_167 255 196 (dk_at dksX9_planned_9 3 rfl rfl)
theorem dX9_planned_213 : decode cX9_planned 213 = .ok (.iload 9, 2) := dk_21 9 (dk_at dksX9_planned_9 6 rfl rfl)
theorem dX9_planned_215 : decode cX9_planned 215 = .ok (.ifCond .eq 16, 3) := dk_153 0 16 (dk_at dksX9_planned_9 8 rfl rfl)
theorem dX9_planned_218 : decode cX9_planned 218 = .ok (.aload_n 0, 1) := dk_42 (dk_at dksX9_planned_9 11 rfl rfl)
theorem dX9_planned_219 : decode cX9_planned 219 = .ok (.getfield 9, 3) := dk_180 0 9 (dk_at dksX9_planned_9 12 rfl rfl)
theorem dX9_planned_222 : decode cX9_planned 222 = .ok (.sipush 2122, 3) := dk_17 8 74 (dk_at dksX9_planned_9 15 rfl rfl)
theorem dX9_planned_225 : decode cX9_planned 225 = .ok (.iaload, 1) := dk_46 (dk_at dksX9_planned_9 18 rfl rfl)
theorem dX9_planned_226 : decode cX9_planned 226 = .ok (.iload 7, 2) := dk_21 7 (dk_at dksX9_planned_9 19 rfl rfl)
theorem dX9_planned_228 : decode cX9_planned 228 = .ok (.if_icmp .le 14, 3) := dk_164 0 14 (dk_at dksX9_planned_9 21 rfl rfl)
theorem dX9_planned_231 : decode cX9_planned 231 = .ok (.aload_n 0, 1) := dk_42 (dk_at dksX9_planned_10 0 rfl rfl)
theorem dX9_planned_232 : decode cX9_planned 232 = .ok (.getfield 9, 3) := dk_180 0 9 (dk_at dksX9_planned_10 1 rfl rfl)
theorem dX9_planned_235 : decode cX9_planned 235 = .ok (.sipush 2122, 3) := dk_17 8 74 (dk_at dksX9_planned_10 4 rfl rfl)
theorem dX9_planned_238 : decode cX9_planned 238 = .ok (.iaload, 1) := dk_46 (dk_at dksX9_planned_10 7 rfl rfl)
theorem dX9_planned_239 : decode cX9_planned 239 = .ok (.goto 5, 3) := dk_167 0 5 (dk_at dksX9_planned_10 8 rfl rfl)
theorem dX9_planned_242 : decode cX9_planned 242 = .ok (.iload 7, 2) := dk_21 7 (dk_at dksX9_planned_10 11 rfl rfl)
theorem dX9_planned_244 : decode cX9_planned 244 = .ok (.istore 7, 2) := dk_54 7 (dk_at dksX9_planned_10 13 rfl rfl)
theorem dX9_planned_246 : decode cX9_planned 246 = .ok (.iload 9, 2) := dk_21 9 (dk_at dksX9_planned_10 15 rfl rfl)
theorem dX9_planned_248 : decode cX9_planned 248 = .ok (.ifCond .eq 12, 3) := dk_153 0 12 (dk_at dksX9_planned_10 17 rfl rfl)
theorem dX9_planned_251 : decode cX9_planned 251 = .ok (.aload_n 0, 1) := dk_42 (dk_at dksX9_planned_10 20 rfl rfl)
theorem dX9_planned_252 : decode cX9_planned 252 = .ok (.invokevirtual 335, 3) := dk_182 1 79 (dk_at dksX9_planned_10 21 rfl rfl)
theorem dX9_planned_255 : decode cX9_planned 255 = .ok (.iload 8, 2) := dk_21 8 (dk_at dksX9_planned_11 0 rfl rfl)
theorem dX9_planned_257 : decode cX9_planned 257 = .ok (.if_icmp .ge 10, 3) := dk_162 0 10 (dk_at dksX9_planned_11 2 rfl rfl)
theorem dX9_planned_260 : decode cX9_planned 260 = .ok (.aload_n 0, 1) := dk_42 (dk_at dksX9_planned_11 5 rfl rfl)
theorem dX9_planned_261 : decode cX9_planned 261 = .ok (.invokevirtual 335, 3) := dk_182 1 79 (dk_at dksX9_planned_11 6 rfl rfl)
theorem dX9_planned_264 : decode cX9_planned 264 = .ok (.goto 5, 3) := dk_167 0 5 (dk_at dksX9_planned_11 9 rfl rfl)
theorem dX9_planned_267 : decode cX9_planned 267 = .ok (.iload 8, 2) := dk_21 8 (dk_at dksX9_planned_11 12 rfl rfl)
theorem dX9_planned_269 : decode cX9_planned 269 = .ok (.istore 8, 2) := dk_54 8 (dk_at dksX9_planned_11 14 rfl rfl)
theorem dX9_planned_271 : decode cX9_planned 271 = .ok (.aload_n 0, 1) := dk_42 (dk_at dksX9_planned_11 16 rfl rfl)
theorem dX9_planned_272 : decode cX9_planned 272 = .ok (.invokevirtual 163, 3) := dk_182 0 163 (dk_at dksX9_planned_11 17 rfl rfl)
theorem dX9_planned_275 : decode cX9_planned 275 = .ok (.iinc 9 1, 3) := dk_132 9 1 (dk_at dksX9_planned_11 20 rfl rfl)
theorem dX9_planned_278 : decode cX9_planned 278 = .ok (.goto (-151), 3) := dk_167 255 105 (dk_at dksX9_planned_12 0 rfl rfl)
theorem dX9_planned_281 : decode cX9_planned 281 = .ok (.iload_n 3, 1) := dk_29 (dk_at dksX9_planned_12 3 rfl rfl)
theorem dX9_planned_282 : decode cX9_planned 282 = .ok (.ifCond .lt 27, 3) := dk_155 0 27 (dk_at dksX9_planned_12 4 rfl rfl)
theorem dX9_planned_285 : decode cX9_planned 285 = .ok (.iload 7, 2) := dk_21 7 (dk_at dksX9_planned_12 7 rfl rfl)
theorem dX9_planned_287 : decode cX9_planned 287 = .ok (.iload 4, 2) := dk_21 4 (dk_at dksX9_planned_12 9 rfl rfl)
theorem dX9_planned_289 : decode cX9_planned 289 = .ok (.if_icmp .gt 31, 3) := dk_163 0 31 (dk_at dksX9_planned_12 11 rfl rfl)
theorem dX9_planned_292 : decode cX9_planned 292 = .ok (.iload 7, 2) := dk_21 7 (dk_at dksX9_planned_12 14 rfl rfl)
theorem dX9_planned_294 : decode cX9_planned 294 = .ok (.iload 4, 2) := dk_21 4 (dk_at dksX9_planned_12 16 rfl rfl)
theorem dX9_planned_296 : decode cX9_planned 296 = .ok (.if_icmp .ne 13, 3) := dk_160 0 13 (dk_at dksX9_planned_12 18 rfl rfl)
theorem dX9_planned_299 : decode cX9_planned 299 = .ok (.iload 8, 2) := dk_21 8 (dk_at dksX9_planned_12 21 rfl rfl)
theorem dX9_planned_301 : decode cX9_planned 301 = .ok (.iload 5, 2) := dk_21 5 (dk_at dksX9_planned_13 0 rfl rfl)
theorem dX9_planned_303 : decode cX9_planned 303 = .ok (.if_icmp .gt 6, 3) := dk_163 0 6 (dk_at dksX9_planned_13 2 rfl rfl)
theorem dX9_planned_306 : decode cX9_planned 306 = .ok (.goto 14, 3) := dk_167 0 14 (dk_at dksX9_planned_13 5 rfl rfl)
theorem dX9_planned_309 : decode cX9_planned 309 = .ok (.iload 6, 2) := dk_21 6 (dk_at dksX9_planned_13 8 rfl rfl)
theorem dX9_planned_311 : decode cX9_planned 311 = .ok (.istore_n 3, 1) := dk_62 (dk_at dksX9_planned_13 10 rfl rfl)
theorem dX9_planned_312 : decode cX9_planned 312 = .ok (.iload 7, 2) := dk_21 7 (dk_at dksX9_planned_13 11 rfl rfl)
theorem dX9_planned_314 : decode cX9_planned 314 = .ok (.istore 4, 2) := dk_54 4 (dk_at dksX9_planned_13 13 rfl rfl)
theorem dX9_planned_316 : decode cX9_planned 316 = .ok (.iload 8, 2) := dk_21 8 (dk_at dksX9_planned_13 15 rfl rfl)
theorem dX9_planned_318 : decode cX9_planned 318 = .ok (.istore 5, 2) := dk_54 5 (dk_at dksX9_planned_13 17 rfl rfl)
theorem dX9_planned_320 : decode cX9_planned 320 = .ok (.iinc 6 1, 3) := dk_132 6 1 (dk_at dksX9_planned_13 19 rfl rfl)
theorem dX9_planned_323 : decode cX9_planned 323 = .ok (.goto (-221), 3) := dk_167 255 35 (dk_at dksX9_planned_14 0 rfl rfl)
theorem dX9_planned_326 : decode cX9_planned 326 = .ok (.aload_n 0, 1) := dk_42 (dk_at dksX9_planned_14 3 rfl rfl)
theorem dX9_planned_327 : decode cX9_planned 327 = .ok (.iconst 0, 1) := dk_3 (dk_at dksX9_planned_14 4 rfl rfl)
theorem dX9_planned_328 : decode cX9_planned 328 = .ok (.putfield 323, 3) := dk_181 1 67 (dk_at dksX9_planned_14 5 rfl rfl)
theorem dX9_planned_331 : decode cX9_planned 331 = .ok (.aload_n 0, 1) := dk_42 (dk_at dksX9_planned_14 8 rfl rfl)
theorem dX9_planned_332 : decode cX9_planned 332 = .ok (.iconst (-1), 1) := dk_2 (dk_at dksX9_planned_14 9 rfl rfl)
theorem dX9_planned_333 : decode cX9_planned 333 = .ok (.putfield 29, 3) := dk_181 0 29 (dk_at dksX9_planned_14 10 rfl rfl)
theorem dX9_planned_336 : decode cX9_planned 336 = .ok (.iload_n 1, 1) := dk_27 (dk_at dksX9_planned_14 13 rfl rfl)
theorem dX9_planned_337 : decode cX9_planned 337 = .ok (.iconst 1, 1) := dk_4 (dk_at dksX9_planned_14 14 rfl rfl)
theorem dX9_planned_338 : decode cX9_planned 338 = .ok (.if_icmp .ne 7, 3) := dk_160 0 7 (dk_at dksX9_planned_14 15 rfl rfl)
theorem dX9_planned_341 : decode cX9_planned 341 = .ok (.iload_n 3, 1) := dk_29 (dk_at dksX9_planned_14 18 rfl rfl)
theorem dX9_planned_342 : decode cX9_planned 342 = .ok (.goto 6, 3) := dk_167 0 6 (dk_at dksX9_planned_14 19 rfl rfl)
theorem dX9_planned_345 : decode cX9_planned 345 = .ok (.iload_n 3, 1) := dk_29 (dk_at dksX9_planned_14 22 rfl rfl)
theorem dX9_planned_346 : decode cX9_planned 346 = .ok (.iconst 3, 1) := dk_6 (dk_at dksX9_planned_14 23 rfl rfl)
theorem dX9_planned_347 : decode cX9_planned 347 = .ok (.idiv, 1) := dk_108 (dk_at dksX9_planned_15 0 rfl rfl)
theorem dX9_planned_348 : decode cX9_planned 348 = .ok (.istore 6, 2) := dk_54 6 (dk_at dksX9_planned_15 1 rfl rfl)
theorem dX9_planned_350 : decode cX9_planned 350 = .ok (.iload_n 2, 1) := dk_28 (dk_at dksX9_planned_15 3 rfl rfl)
theorem dX9_planned_351 : decode cX9_planned 351 = .ok (.ifCond .ne 8, 3) := dk_154 0 8 (dk_at dksX9_planned_15 4 rfl rfl)
theorem dX9_planned_354 : decode cX9_planned 354 = .ok (.iload 6, 2) := dk_21 6 (dk_at dksX9_planned_15 7 rfl rfl)
theorem dX9_planned_356 : decode cX9_planned 356 = .ok (.goto 35, 3) := dk_167 0 35 (dk_at dksX9_planned_15 9 rfl rfl)
theorem dX9_planned_359 : decode cX9_planned 359 = .ok (.iload_n 2, 1) := dk_28 (dk_at dksX9_planned_15 12 rfl rfl)
theorem dX9_planned_360 : decode cX9_planned 360 = .ok (.iconst 1, 1) := dk_4 (dk_at dksX9_planned_15 13 rfl rfl)
theorem dX9_planned_361 : decode cX9_planned 361 = .ok (.if_icmp .ne 18, 3) := dk_160 0 18 (dk_at dksX9_planned_15 14 rfl rfl)
theorem dX9_planned_364 : decode cX9_planned 364 = .ok (.iload_n 1, 1) := dk_27 (dk_at dksX9_planned_15 17 rfl rfl)
theorem dX9_planned_365 : decode cX9_planned 365 = .ok (.iconst 1, 1) := dk_4 (dk_at dksX9_planned_15 18 rfl rfl)
theorem dX9_planned_366 : decode cX9_planned 366 = .ok (.if_icmp .ne 7, 3) := dk_160 0 7 (dk_at dksX9_planned_15 19 rfl rfl)
theorem dX9_planned_369 : decode cX9_planned 369 = .ok (.iconst (-1), 1) := dk_2 (dk_at dksX9_planned_15 22 rfl rfl)
theorem dX9_planned_370 : decode cX9_planned 370 = .ok (.goto 21, 3) := dk_167 0 21 (dk_at dksX9_planned_16 0 rfl rfl)
theorem dX9_planned_373 : decode cX9_planned 373 = .ok (.iload_n 3, 1) := dk_29 (dk_at dksX9_planned_16 3 rfl rfl)
theorem dX9_planned_374 : decode cX9_planned 374 = .ok (.iconst 3, 1) := dk_6 (dk_at dksX9_planned_16 4 rfl rfl)
theorem dX9_planned_375 : decode cX9_planned 375 = .ok (.irem, 1) := dk_112 (dk_at dksX9_planned_16 5 rfl rfl)
theorem dX9_planned_376 : decode cX9_planned 376 = .ok (.goto 15, 3) := dk_167 0 15 (dk_at dksX9_planned_16 6 rfl rfl)
theorem dX9_planned_379 : decode cX9_planned 379 = .ok (.iload_n 2, 1) := dk_28 (dk_at dksX9_planned_16 9 rfl rfl)
theorem dX9_planned_380 : decode cX9_planned 380 = .ok (.iconst 2, 1) := dk_5 (dk_at dksX9_planned_16 10 rfl rfl)
theorem dX9_planned_381 : decode cX9_planned 381 = .ok (.if_icmp .ne 8, 3) := dk_160 0 8 (dk_at dksX9_planned_16 11 rfl rfl)
theorem dX9_planned_384 : decode cX9_planned 384 = .ok (.iload 4, 2) := dk_21 4 (dk_at dksX9_planned_16 14 rfl rfl)
theorem dX9_planned_386 : decode cX9_planned 386 = .ok (.goto 5, 3) := dk_167 0 5 (dk_at dksX9_planned_16 16 rfl rfl)
theorem dX9_planned_389 : decode cX9_planned 389 = .ok (.iload 5, 2) := dk_21 5 (dk_at dksX9_planned_16 19 rfl rfl)
theorem dX9_planned_391 : decode cX9_planned 391 = .ok (.ireturn, 1) := dk_172 (dk_at dksX9_planned_16 21 rfl rfl)
def dkwX9_image_7 : List UInt8 := [46, 133, 27, 4, 96, 133, 105, 97, 181, 1, 197, 132, 1, 1, 167, 255, 208, 42, 180, 1, 190, 172]
abbrev dktX9_image_7 : List UInt8 := dkwX9_image_7 ++ []
def dkwX9_image_6 : List UInt8 := [180, 1, 193, 42, 180, 0, 70, 27, 46, 133, 97, 181, 1, 193, 42, 89, 180, 1, 197, 42, 180, 0, 70, 27]
abbrev dktX9_image_6 : List UInt8 := dkwX9_image_6 ++ dktX9_image_7
def dkwX9_image_5 : List UInt8 := [42, 9, 181, 1, 193, 42, 9, 181, 1, 197, 3, 60, 27, 42, 180, 1, 190, 162, 0, 46, 42, 89]
abbrev dktX9_image_5 : List UInt8 := dkwX9_image_5 ++ dktX9_image_6
def dkwX9_image_4 : List UInt8 := [96, 16, 8, 42, 27, 4, 182, 0, 76, 104, 42, 27, 5, 182, 0, 76, 96, 79, 132, 1, 1, 167, 255, 216]
abbrev dktX9_image_4 : List UInt8 := dkwX9_image_4 ++ dktX9_image_5
def dkwX9_image_3 : List UInt8 := [167, 255, 208, 3, 60, 27, 42, 180, 0, 9, 17, 8, 76, 46, 162, 0, 34, 42, 180, 0, 70, 16, 96, 27]
abbrev dktX9_image_3 : List UInt8 := dkwX9_image_3 ++ dktX9_image_4
def dkwX9_image_2 : List UInt8 := [182, 0, 88, 4, 164, 0, 14, 42, 27, 4, 182, 0, 88, 4, 96, 167, 0, 4, 3, 96, 79, 132, 1, 1]
abbrev dktX9_image_2 : List UInt8 := dkwX9_image_2 ++ dktX9_image_3
def dkwX9_image_1 : List UInt8 := [16, 96, 162, 0, 48, 42, 180, 0, 70, 27, 17, 0, 200, 42, 27, 3, 182, 0, 88, 104, 42, 27, 3]
abbrev dktX9_image_1 : List UInt8 := dkwX9_image_1 ++ dktX9_image_2
def dkwX9_image_0 : List UInt8 := [42, 3, 181, 0, 73, 42, 16, 96, 42, 180, 0, 9, 17, 8, 76, 46, 96, 181, 1, 190, 3, 60, 27]
abbrev dktX9_image_0 : List UInt8 := dkwX9_image_0 ++ dktX9_image_1
theorem dksX9_image_0 : cX9_image.data.toList.drop 0 = dktX9_image_0 := by decide +kernel
theorem dksX9_image_1 : cX9_image.data.toList.drop 23 = dktX9_image_1 := dk_seg dksX9_image_0 23 rfl rfl
theorem dksX9_image_2 : cX9_image.data.toList.drop 46 = dktX9_image_2 := dk_seg dksX9_image_1 23 rfl rfl
theorem dksX9_image_3 : cX9_image.data.toList.drop 70 = dktX9_image_3 := dk_seg dksX9_image_2 24 rfl rfl
theorem dksX9_image_4 : cX9_image.data.toList.drop 94 = dktX9_image_4 := dk_seg dksX9_image_3 24 rfl rfl
theorem dksX9_image_5 : cX9_image.data.toList.drop 118 = dktX9_image_5 := dk_seg dksX9_image_4 24 rfl rfl
theorem dksX9_image_6 : cX9_image.data.toList.drop 140 = dktX9_image_6 := dk_seg dksX9_image_5 22 rfl rfl
theorem dksX9_image_7 : cX9_image.data.toList.drop 164 = dktX9_image_7 := dk_seg dksX9_image_6 24 rfl rfl
theorem dX9_image_0 : decode cX9_image 0 = .ok (.aload_n 0, 1) := dk_42 (dk_at dksX9_image_0 0 rfl rfl)
theorem dX9_image_1 : decode cX9_image 1 = .ok (.iconst 0, 1) := dk_3 (dk_at dksX9_image_0 1 rfl rfl)
theorem dX9_image_2 : decode cX9_image 2 = .ok (.putfield 73, 3) := dk_181 0 73 (dk_at dksX9_image_0 2 rfl rfl)
theorem dX9_image_5 : decode cX9_image 5 = .ok (.aload_n 0, 1) := dk_42 (dk_at dksX9_image_0 5 rfl rfl)
theorem dX9_image_6 : decode cX9_image 6 = .ok (.bipush 96, 2) := dk_16 96 (dk_at dksX9_image_0 6 rfl rfl)
theorem dX9_image_8 : decode cX9_image 8 = .ok (.aload_n 0, 1) := dk_42 (dk_at dksX9_image_0 8 rfl rfl)
theorem dX9_image_9 : decode cX9_image 9 = .ok (.getfield 9, 3) := dk_180 0 9 (dk_at dksX9_image_0 9 rfl rfl)
theorem dX9_image_12 : decode cX9_image 12 = .ok (.sipush 2124, 3) := dk_17 8 76 (dk_at dksX9_image_0 12 rfl rfl)
theorem dX9_image_15 : decode cX9_image 15 = .ok (.iaload, 1) := dk_46 (dk_at dksX9_image_0 15 rfl rfl)
theorem dX9_image_16 : decode cX9_image 16 = .ok (.iadd, 1) := dk_96 (dk_at dksX9_image_0 16 rfl rfl)
theorem dX9_image_17 : decode cX9_image 17 = .ok (.putfield 446, 3) := dk_181 1 190 (dk_at dksX9_image_0 17 rfl rfl)
theorem dX9_image_20 : decode cX9_image 20 = .ok (.iconst 0, 1) := dk_3 (dk_at dksX9_image_0 20 rfl rfl)
theorem dX9_image_21 : decode cX9_image 21 = .ok (.istore_n 1, 1) := dk_60 (dk_at dksX9_image_0 21 rfl rfl)
theorem dX9_image_22 : decode cX9_image 22 = .ok (.iload_n 1, 1) := dk_27 (dk_at dksX9_image_0 22 rfl rfl)
theorem dX9_image_23 : decode cX9_image 23 = .ok (.bipush 96, 2) := dk_16 96 (dk_at dksX9_image_1 0 rfl rfl)
theorem dX9_image_25 : decode cX9_image 25 = .ok (.if_icmp .ge 48, 3) := dk_162 0 48 (dk_at dksX9_image_1 2 rfl rfl)
theorem dX9_image_28 : decode cX9_image 28 = .ok (.aload_n 0, 1) := dk_42 (dk_at dksX9_image_1 5 rfl rfl)
theorem dX9_image_29 : decode cX9_image 29 = .ok (.getfield 70, 3) := dk_180 0 70 (dk_at dksX9_image_1 6 rfl rfl)
theorem dX9_image_32 : decode cX9_image 32 = .ok (.iload_n 1, 1) := dk_27 (dk_at dksX9_image_1 9 rfl rfl)
theorem dX9_image_33 : decode cX9_image 33 = .ok (.sipush 200, 3) := dk_17 0 200 (dk_at dksX9_image_1 10 rfl rfl)
theorem dX9_image_36 : decode cX9_image 36 = .ok (.aload_n 0, 1) := dk_42 (dk_at dksX9_image_1 13 rfl rfl)
theorem dX9_image_37 : decode cX9_image 37 = .ok (.iload_n 1, 1) := dk_27 (dk_at dksX9_image_1 14 rfl rfl)
theorem dX9_image_38 : decode cX9_image 38 = .ok (.iconst 0, 1) := dk_3 (dk_at dksX9_image_1 15 rfl rfl)
theorem dX9_image_39 : decode cX9_image 39 = .ok (.invokevirtual 88, 3) := dk_182 0 88 (dk_at dksX9_image_1 16 rfl rfl)
theorem dX9_image_42 : decode cX9_image 42 = .ok (.imul, 1) := dk_104 (dk_at dksX9_image_1 19 rfl rfl)
theorem dX9_image_43 : decode cX9_image 43 = .ok (.aload_n 0, 1) := dk_42 (dk_at dksX9_image_1 20 rfl rfl)
theorem dX9_image_44 : decode cX9_image 44 = .ok (.iload_n 1, 1) := dk_27 (dk_at dksX9_image_1 21 rfl rfl)
theorem dX9_image_45 : decode cX9_image 45 = .ok (.iconst 0, 1) := dk_3 (dk_at dksX9_image_1 22 rfl rfl)
theorem dX9_image_46 : decode cX9_image 46 = .ok (.invokevirtual 88, 3) := dk_182 0 88 (dk_at dksX9_image_2 0 rfl rfl)
theorem dX9_image_49 : decode cX9_image 49 = .ok (.iconst 1, 1) := dk_4 (dk_at dksX9_image_2 3 rfl rfl)
theorem dX9_image_50 : decode cX9_image 50 = .ok (.if_icmp .le 14, 3) := dk_164 0 14 (dk_at dksX9_image_2 4 rfl rfl)
theorem dX9_image_53 : decode cX9_image 53 = .ok (.aload_n 0, 1) := dk_42 (dk_at dksX9_image_2 7 rfl rfl)
theorem dX9_image_54 : decode cX9_image 54 = .ok (.iload_n 1, 1) := dk_27 (dk_at dksX9_image_2 8 rfl rfl)
theorem dX9_image_55 : decode cX9_image 55 = .ok (.iconst 1, 1) := dk_4 (dk_at dksX9_image_2 9 rfl rfl)
theorem dX9_image_56 : decode cX9_image 56 = .ok (.invokevirtual 88, 3) := dk_182 0 88 (dk_at dksX9_image_2 10 rfl rfl)
theorem dX9_image_59 : decode cX9_image 59 = .ok (.iconst 1, 1) := dk_4 (dk_at dksX9_image_2 13 rfl rfl)
theorem dX9_image_60 : decode cX9_image 60 = .ok (.iadd, 1) := dk_96 (dk_at dksX9_image_2 14 rfl rfl)
theorem dX9_image_61 : decode cX9_image 61 = .ok (.goto 4, 3) := dk_167 0 4 (dk_at dksX9_image_2 15 rfl rfl)
theorem dX9_image_64 : decode cX9_image 64 = .ok (.iconst 0, 1) := dk_3 (dk_at dksX9_image_2 18 rfl rfl)
theorem dX9_image_65 : decode cX9_image 65 = .ok (.iadd, 1) := dk_96 (dk_at dksX9_image_2 19 rfl rfl)
theorem dX9_image_66 : decode cX9_image 66 = .ok (.iastore, 1) := dk_79 (dk_at dksX9_image_2 20 rfl rfl)
theorem dX9_image_67 : decode cX9_image 67 = .ok (.iinc 1 1, 3) := dk_132 1 1 (dk_at dksX9_image_2 21 rfl rfl)
theorem dX9_image_70 : decode cX9_image 70 = .ok (.goto (-48), 3) := dk_167 255 208 (dk_at dksX9_image_3 0 rfl rfl)
theorem dX9_image_73 : decode cX9_image 73 = .ok (.iconst 0, 1) := dk_3 (dk_at dksX9_image_3 3 rfl rfl)
theorem dX9_image_74 : decode cX9_image 74 = .ok (.istore_n 1, 1) := dk_60 (dk_at dksX9_image_3 4 rfl rfl)
theorem dX9_image_75 : decode cX9_image 75 = .ok (.iload_n 1, 1) := dk_27 (dk_at dksX9_image_3 5 rfl rfl)
theorem dX9_image_76 : decode cX9_image 76 = .ok (.aload_n 0, 1) := dk_42 (dk_at dksX9_image_3 6 rfl rfl)
theorem dX9_image_77 : decode cX9_image 77 = .ok (.getfield 9, 3) := dk_180 0 9 (dk_at dksX9_image_3 7 rfl rfl)
theorem dX9_image_80 : decode cX9_image 80 = .ok (.sipush 2124, 3) := dk_17 8 76 (dk_at dksX9_image_3 10 rfl rfl)
theorem dX9_image_83 : decode cX9_image 83 = .ok (.iaload, 1) := dk_46 (dk_at dksX9_image_3 13 rfl rfl)
theorem dX9_image_84 : decode cX9_image 84 = .ok (.if_icmp .ge 34, 3) := dk_162 0 34 (dk_at dksX9_image_3 14 rfl rfl)
theorem dX9_image_87 : decode cX9_image 87 = .ok (.aload_n 0, 1) := dk_42 (dk_at dksX9_image_3 17 rfl rfl)
theorem dX9_image_88 : decode cX9_image 88 = .ok (.getfield 70, 3) := dk_180 0 70 (dk_at dksX9_image_3 18 rfl rfl)
theorem dX9_image_91 : decode cX9_image 91 = .ok (.bipush 96, 2) := dk_16 96 (dk_at dksX9_image_3 21 rfl rfl)
theorem dX9_image_93 : decode cX9_image 93 = .ok (.iload_n 1, 1) := dk_27 (dk_at dksX9_image_3 23 rfl rfl)
theorem dX9_image_94 : decode cX9_image 94 = .ok (.iadd, 1) := dk_96 (dk_at dksX9_image_4 0 rfl rfl)
theorem dX9_image_95 : decode cX9_image 95 = .ok (.bipush 8, 2) := dk_16 8 (dk_at dksX9_image_4 1 rfl rfl)
theorem dX9_image_97 : decode cX9_image 97 = .ok (.aload_n 0, 1) := dk_42 (dk_at dksX9_image_4 3 rfl rfl)
theorem dX9_image_98 : decode cX9_image 98 = .ok (.iload_n 1, 1) := dk_27 (dk_at dksX9_image_4 4 rfl rfl)
theorem dX9_image_99 : decode cX9_image 99 = .ok (.iconst 1, 1) := dk_4 (dk_at dksX9_image_4 5 rfl rfl)
theorem dX9_image_100 : decode cX9_image 100 = .ok (.invokevirtual 76, 3) := dk_182 0 76 (dk_at dksX9_image_4 6 rfl rfl)
theorem dX9_image_103 : decode cX9_image 103 = .ok (.imul, 1) := dk_104 (dk_at dksX9_image_4 9 rfl rfl)
theorem dX9_image_104 : decode cX9_image 104 = .ok (.aload_n 0, 1) := dk_42 (dk_at dksX9_image_4 10 rfl rfl)
theorem dX9_image_105 : decode cX9_image 105 = .ok (.iload_n 1, 1) := dk_27 (dk_at dksX9_image_4 11 rfl rfl)
theorem dX9_image_106 : decode cX9_image 106 = .ok (.iconst 2, 1) := dk_5 (dk_at dksX9_image_4 12 rfl rfl)
theorem dX9_image_107 : decode cX9_image 107 = .ok (.invokevirtual 76, 3) := dk_182 0 76 (dk_at dksX9_image_4 13 rfl rfl)
theorem dX9_image_110 : decode cX9_image 110 = .ok (.iadd, 1) := dk_96 (dk_at dksX9_image_4 16 rfl rfl)
theorem dX9_image_111 : decode cX9_image 111 = .ok (.iastore, 1) := dk_79 (dk_at dksX9_image_4 17 rfl rfl)
theorem dX9_image_112 : decode cX9_image 112 = .ok (.iinc 1 1, 3) := dk_132 1 1 (dk_at dksX9_image_4 18 rfl rfl)
theorem dX9_image_115 : decode cX9_image 115 = .ok (.goto (-40), 3) := dk_167 255 216 (dk_at dksX9_image_4 21 rfl rfl)
theorem dX9_image_118 : decode cX9_image 118 = .ok (.aload_n 0, 1) := dk_42 (dk_at dksX9_image_5 0 rfl rfl)
theorem dX9_image_119 : decode cX9_image 119 = .ok (.lconst 0, 1) := dk_9 (dk_at dksX9_image_5 1 rfl rfl)
theorem dX9_image_120 : decode cX9_image 120 = .ok (.putfield 449, 3) := dk_181 1 193 (dk_at dksX9_image_5 2 rfl rfl)
theorem dX9_image_123 : decode cX9_image 123 = .ok (.aload_n 0, 1) := dk_42 (dk_at dksX9_image_5 5 rfl rfl)
theorem dX9_image_124 : decode cX9_image 124 = .ok (.lconst 0, 1) := dk_9 (dk_at dksX9_image_5 6 rfl rfl)
theorem dX9_image_125 : decode cX9_image 125 = .ok (.putfield 453, 3) := dk_181 1 197 (dk_at dksX9_image_5 7 rfl rfl)
theorem dX9_image_128 : decode cX9_image 128 = .ok (.iconst 0, 1) := dk_3 (dk_at dksX9_image_5 10 rfl rfl)
theorem dX9_image_129 : decode cX9_image 129 = .ok (.istore_n 1, 1) := dk_60 (dk_at dksX9_image_5 11 rfl rfl)
theorem dX9_image_130 : decode cX9_image 130 = .ok (.iload_n 1, 1) := dk_27 (dk_at dksX9_image_5 12 rfl rfl)
theorem dX9_image_131 : decode cX9_image 131 = .ok (.aload_n 0, 1) := dk_42 (dk_at dksX9_image_5 13 rfl rfl)
theorem dX9_image_132 : decode cX9_image 132 = .ok (.getfield 446, 3) := dk_180 1 190 (dk_at dksX9_image_5 14 rfl rfl)
theorem dX9_image_135 : decode cX9_image 135 = .ok (.if_icmp .ge 46, 3) := dk_162 0 46 (dk_at dksX9_image_5 17 rfl rfl)
theorem dX9_image_138 : decode cX9_image 138 = .ok (.aload_n 0, 1) := dk_42 (dk_at dksX9_image_5 20 rfl rfl)
theorem dX9_image_139 : decode cX9_image 139 = .ok (.dup, 1) := dk_89 (dk_at dksX9_image_5 21 rfl rfl)
theorem dX9_image_140 : decode cX9_image 140 = .ok (.getfield 449, 3) := dk_180 1 193 (dk_at dksX9_image_6 0 rfl rfl)
theorem dX9_image_143 : decode cX9_image 143 = .ok (.aload_n 0, 1) := dk_42 (dk_at dksX9_image_6 3 rfl rfl)
theorem dX9_image_144 : decode cX9_image 144 = .ok (.getfield 70, 3) := dk_180 0 70 (dk_at dksX9_image_6 4 rfl rfl)
theorem dX9_image_147 : decode cX9_image 147 = .ok (.iload_n 1, 1) := dk_27 (dk_at dksX9_image_6 7 rfl rfl)
theorem dX9_image_148 : decode cX9_image 148 = .ok (.iaload, 1) := dk_46 (dk_at dksX9_image_6 8 rfl rfl)
theorem dX9_image_149 : decode cX9_image 149 = .ok (.i2l, 1) := dk_133 (dk_at dksX9_image_6 9 rfl rfl)
theorem dX9_image_150 : decode cX9_image 150 = .ok (.ladd, 1) := dk_97 (dk_at dksX9_image_6 10 rfl rfl)
theorem dX9_image_151 : decode cX9_image 151 = .ok (.putfield 449, 3) := dk_181 1 193 (dk_at dksX9_image_6 11 rfl rfl)
theorem dX9_image_154 : decode cX9_image 154 = .ok (.aload_n 0, 1) := dk_42 (dk_at dksX9_image_6 14 rfl rfl)
theorem dX9_image_155 : decode cX9_image 155 = .ok (.dup, 1) := dk_89 (dk_at dksX9_image_6 15 rfl rfl)
theorem dX9_image_156 : decode cX9_image 156 = .ok (.getfield 453, 3) := dk_180 1 197 (dk_at dksX9_image_6 16 rfl rfl)
theorem dX9_image_159 : decode cX9_image 159 = .ok (.aload_n 0, 1) := dk_42 (dk_at dksX9_image_6 19 rfl rfl)
theorem dX9_image_160 : decode cX9_image 160 = .ok (.getfield 70, 3) := dk_180 0 70 (dk_at dksX9_image_6 20 rfl rfl)
theorem dX9_image_163 : decode cX9_image 163 = .ok (.iload_n 1, 1) := dk_27 (dk_at dksX9_image_6 23 rfl rfl)
theorem dX9_image_164 : decode cX9_image 164 = .ok (.iaload, 1) := dk_46 (dk_at dksX9_image_7 0 rfl rfl)
theorem dX9_image_165 : decode cX9_image 165 = .ok (.i2l, 1) := dk_133 (dk_at dksX9_image_7 1 rfl rfl)
theorem dX9_image_166 : decode cX9_image 166 = .ok (.iload_n 1, 1) := dk_27 (dk_at dksX9_image_7 2 rfl rfl)
theorem dX9_image_167 : decode cX9_image 167 = .ok (.iconst 1, 1) := dk_4 (dk_at dksX9_image_7 3 rfl rfl)
theorem dX9_image_168 : decode cX9_image 168 = .ok (.iadd, 1) := dk_96 (dk_at dksX9_image_7 4 rfl rfl)
theorem dX9_image_169 : decode cX9_image 169 = .ok (.i2l, 1) := dk_133 (dk_at dksX9_image_7 5 rfl rfl)
theorem dX9_image_170 : decode cX9_image 170 = .ok (.lmul, 1) := dk_105 (dk_at dksX9_image_7 6 rfl rfl)
theorem dX9_image_171 : decode cX9_image 171 = .ok (.ladd, 1) := dk_97 (dk_at dksX9_image_7 7 rfl rfl)
theorem dX9_image_172 : decode cX9_image 172 = .ok (.putfield 453, 3) := dk_181 1 197 (dk_at dksX9_image_7 8 rfl rfl)
theorem dX9_image_175 : decode cX9_image 175 = .ok (.iinc 1 1, 3) := dk_132 1 1 (dk_at dksX9_image_7 11 rfl rfl)
theorem dX9_image_178 : decode cX9_image 178 = .ok (.goto (-48), 3) := dk_167 255 208 (dk_at dksX9_image_7 14 rfl rfl)
theorem dX9_image_181 : decode cX9_image 181 = .ok (.aload_n 0, 1) := dk_42 (dk_at dksX9_image_7 17 rfl rfl)
theorem dX9_image_182 : decode cX9_image 182 = .ok (.getfield 446, 3) := dk_180 1 190 (dk_at dksX9_image_7 18 rfl rfl)
theorem dX9_image_185 : decode cX9_image 185 = .ok (.ireturn, 1) := dk_172 (dk_at dksX9_image_7 21 rfl rfl)
def dkwX9_number_1 : List UInt8 := [167, 0, 4, 2, 172]
abbrev dktX9_number_1 : List UInt8 := dkwX9_number_1 ++ []
def dkwX9_number_0 : List UInt8 := [42, 3, 181, 0, 73, 27, 155, 0, 20, 27, 42, 180, 1, 190, 162, 0, 12, 42, 180, 0, 70, 27, 46]
abbrev dktX9_number_0 : List UInt8 := dkwX9_number_0 ++ dktX9_number_1
theorem dksX9_number_0 : cX9_number.data.toList.drop 0 = dktX9_number_0 := by decide +kernel
theorem dksX9_number_1 : cX9_number.data.toList.drop 23 = dktX9_number_1 := dk_seg dksX9_number_0 23 rfl rfl
theorem dX9_number_0 : decode cX9_number 0 = .ok (.aload_n 0, 1) := dk_42 (dk_at dksX9_number_0 0 rfl rfl)
theorem dX9_number_1 : decode cX9_number 1 = .ok (.iconst 0, 1) := dk_3 (dk_at dksX9_number_0 1 rfl rfl)
theorem dX9_number_2 : decode cX9_number 2 = .ok (.putfield 73, 3) := dk_181 0 73 (dk_at dksX9_number_0 2 rfl rfl)
theorem dX9_number_5 : decode cX9_number 5 = .ok (.iload_n 1, 1) := dk_27 (dk_at dksX9_number_0 5 rfl rfl)
theorem dX9_number_6 : decode cX9_number 6 = .ok (.ifCond .lt 20, 3) := dk_155 0 20 (dk_at dksX9_number_0 6 rfl rfl)
theorem dX9_number_9 : decode cX9_number 9 = .ok (.iload_n 1, 1) := dk_27 (dk_at dksX9_number_0 9 rfl rfl)
theorem dX9_number_10 : decode cX9_number 10 = .ok (.aload_n 0, 1) := dk_42 (dk_at dksX9_number_0 10 rfl rfl)
theorem dX9_number_11 : decode cX9_number 11 = .ok (.getfield 446, 3) := dk_180 1 190 (dk_at dksX9_number_0 11 rfl rfl)
theorem dX9_number_14 : decode cX9_number 14 = .ok (.if_icmp .ge 12, 3) := dk_162 0 12 (dk_at dksX9_number_0 14 rfl rfl)
theorem dX9_number_17 : decode cX9_number 17 = .ok (.aload_n 0, 1) := dk_42 (dk_at dksX9_number_0 17 rfl rfl)
theorem dX9_number_18 : decode cX9_number 18 = .ok (.getfield 70, 3) := dk_180 0 70 (dk_at dksX9_number_0 18 rfl rfl)
theorem dX9_number_21 : decode cX9_number 21 = .ok (.iload_n 1, 1) := dk_27 (dk_at dksX9_number_0 21 rfl rfl)
theorem dX9_number_22 : decode cX9_number 22 = .ok (.iaload, 1) := dk_46 (dk_at dksX9_number_0 22 rfl rfl)
theorem dX9_number_23 : decode cX9_number 23 = .ok (.goto 4, 3) := dk_167 0 4 (dk_at dksX9_number_1 0 rfl rfl)
theorem dX9_number_26 : decode cX9_number 26 = .ok (.iconst (-1), 1) := dk_2 (dk_at dksX9_number_1 3 rfl rfl)
theorem dX9_number_27 : decode cX9_number 27 = .ok (.ireturn, 1) := dk_172 (dk_at dksX9_number_1 4 rfl rfl)
def dkwX9_tear_1 : List UInt8 := [92, 46, 28, 130, 79, 42, 180, 0, 70, 27, 46, 172]
abbrev dktX9_tear_1 : List UInt8 := dkwX9_tear_1 ++ []
def dkwX9_tear_0 : List UInt8 := [42, 3, 181, 0, 73, 27, 155, 0, 11, 27, 42, 180, 1, 190, 161, 0, 5, 2, 172, 42, 180, 0, 70, 27]
abbrev dktX9_tear_0 : List UInt8 := dkwX9_tear_0 ++ dktX9_tear_1
theorem dksX9_tear_0 : cX9_tear.data.toList.drop 0 = dktX9_tear_0 := by decide +kernel
theorem dksX9_tear_1 : cX9_tear.data.toList.drop 24 = dktX9_tear_1 := dk_seg dksX9_tear_0 24 rfl rfl
theorem dX9_tear_0 : decode cX9_tear 0 = .ok (.aload_n 0, 1) := dk_42 (dk_at dksX9_tear_0 0 rfl rfl)
theorem dX9_tear_1 : decode cX9_tear 1 = .ok (.iconst 0, 1) := dk_3 (dk_at dksX9_tear_0 1 rfl rfl)
theorem dX9_tear_2 : decode cX9_tear 2 = .ok (.putfield 73, 3) := dk_181 0 73 (dk_at dksX9_tear_0 2 rfl rfl)
theorem dX9_tear_5 : decode cX9_tear 5 = .ok (.iload_n 1, 1) := dk_27 (dk_at dksX9_tear_0 5 rfl rfl)
theorem dX9_tear_6 : decode cX9_tear 6 = .ok (.ifCond .lt 11, 3) := dk_155 0 11 (dk_at dksX9_tear_0 6 rfl rfl)
theorem dX9_tear_9 : decode cX9_tear 9 = .ok (.iload_n 1, 1) := dk_27 (dk_at dksX9_tear_0 9 rfl rfl)
theorem dX9_tear_10 : decode cX9_tear 10 = .ok (.aload_n 0, 1) := dk_42 (dk_at dksX9_tear_0 10 rfl rfl)
theorem dX9_tear_11 : decode cX9_tear 11 = .ok (.getfield 446, 3) := dk_180 1 190 (dk_at dksX9_tear_0 11 rfl rfl)
theorem dX9_tear_14 : decode cX9_tear 14 = .ok (.if_icmp .lt 5, 3) := dk_161 0 5 (dk_at dksX9_tear_0 14 rfl rfl)
theorem dX9_tear_17 : decode cX9_tear 17 = .ok (.iconst (-1), 1) := dk_2 (dk_at dksX9_tear_0 17 rfl rfl)
theorem dX9_tear_18 : decode cX9_tear 18 = .ok (.ireturn, 1) := dk_172 (dk_at dksX9_tear_0 18 rfl rfl)
theorem dX9_tear_19 : decode cX9_tear 19 = .ok (.aload_n 0, 1) := dk_42 (dk_at dksX9_tear_0 19 rfl rfl)
theorem dX9_tear_20 : decode cX9_tear 20 = .ok (.getfield 70, 3) := dk_180 0 70 (dk_at dksX9_tear_0 20 rfl rfl)
theorem dX9_tear_23 : decode cX9_tear 23 = .ok (.iload_n 1, 1) := dk_27 (dk_at dksX9_tear_0 23 rfl rfl)
theorem dX9_tear_24 : decode cX9_tear 24 = .ok (.dup2, 1) := dk_92 (dk_at dksX9_tear_1 0 rfl rfl)
theorem dX9_tear_25 : decode cX9_tear 25 = .ok (.iaload, 1) := dk_46 (dk_at dksX9_tear_1 1 rfl rfl)
theorem dX9_tear_26 : decode cX9_tear 26 = .ok (.iload_n 2, 1) := dk_28 (dk_at dksX9_tear_1 2 rfl rfl)
theorem dX9_tear_27 : decode cX9_tear 27 = .ok (.ixor, 1) := dk_130 (dk_at dksX9_tear_1 3 rfl rfl)
theorem dX9_tear_28 : decode cX9_tear 28 = .ok (.iastore, 1) := dk_79 (dk_at dksX9_tear_1 4 rfl rfl)
theorem dX9_tear_29 : decode cX9_tear 29 = .ok (.aload_n 0, 1) := dk_42 (dk_at dksX9_tear_1 5 rfl rfl)
theorem dX9_tear_30 : decode cX9_tear 30 = .ok (.getfield 70, 3) := dk_180 0 70 (dk_at dksX9_tear_1 6 rfl rfl)
theorem dX9_tear_33 : decode cX9_tear 33 = .ok (.iload_n 1, 1) := dk_27 (dk_at dksX9_tear_1 9 rfl rfl)
theorem dX9_tear_34 : decode cX9_tear 34 = .ok (.iaload, 1) := dk_46 (dk_at dksX9_tear_1 10 rfl rfl)
theorem dX9_tear_35 : decode cX9_tear 35 = .ok (.ireturn, 1) := dk_172 (dk_at dksX9_tear_1 11 rfl rfl)
def dkwX9_check_5 : List UInt8 := [100, 167, 0, 5, 16, 254, 172]
abbrev dktX9_check_5 : List UInt8 := dkwX9_check_5 ++ []
def dkwX9_check_4 : List UInt8 := [31, 109, 10, 148, 155, 0, 24, 33, 31, 109, 42, 180, 1, 190, 133, 148, 157, 0, 12, 33, 31, 109, 136, 4]
abbrev dktX9_check_4 : List UInt8 := dkwX9_check_4 ++ dktX9_check_5
def dkwX9_check_3 : List UInt8 := [148, 154, 0, 5, 2, 172, 31, 9, 148, 153, 0, 11, 33, 31, 113, 9, 148, 153, 0, 6, 16, 254, 172, 33]
abbrev dktX9_check_3 : List UInt8 := dkwX9_check_3 ++ dktX9_check_4
def dkwX9_check_2 : List UInt8 := [46, 133, 21, 5, 4, 96, 133, 105, 97, 66, 132, 5, 1, 167, 255, 216, 31, 9, 148, 154, 0, 11, 33, 9]
abbrev dktX9_check_2 : List UInt8 := dkwX9_check_2 ++ dktX9_check_3
def dkwX9_check_1 : List UInt8 := [180, 1, 190, 162, 0, 37, 31, 42, 180, 0, 70, 21, 5, 46, 133, 97, 64, 33, 42, 180, 0, 70, 21, 5]
abbrev dktX9_check_1 : List UInt8 := dkwX9_check_1 ++ dktX9_check_2
def dkwX9_check_0 : List UInt8 := [42, 3, 181, 0, 73, 42, 180, 1, 193, 117, 64, 42, 180, 1, 197, 117, 66, 3, 54, 5, 21, 5, 42]
abbrev dktX9_check_0 : List UInt8 := dkwX9_check_0 ++ dktX9_check_1
theorem dksX9_check_0 : cX9_check.data.toList.drop 0 = dktX9_check_0 := by decide +kernel
theorem dksX9_check_1 : cX9_check.data.toList.drop 23 = dktX9_check_1 := dk_seg dksX9_check_0 23 rfl rfl
theorem dksX9_check_2 : cX9_check.data.toList.drop 47 = dktX9_check_2 := dk_seg dksX9_check_1 24 rfl rfl
theorem dksX9_check_3 : cX9_check.data.toList.drop 71 = dktX9_check_3 := dk_seg dksX9_check_2 24 rfl rfl
theorem dksX9_check_4 : cX9_check.data.toList.drop 95 = dktX9_check_4 := dk_seg dksX9_check_3 24 rfl rfl
theorem dksX9_check_5 : cX9_check.data.toList.drop 119 = dktX9_check_5 := dk_seg dksX9_check_4 24 rfl rfl
theorem dX9_check_0 : decode cX9_check 0 = .ok (.aload_n 0, 1) := dk_42 (dk_at dksX9_check_0 0 rfl rfl)
theorem dX9_check_1 : decode cX9_check 1 = .ok (.iconst 0, 1) := dk_3 (dk_at dksX9_check_0 1 rfl rfl)
theorem dX9_check_2 : decode cX9_check 2 = .ok (.putfield 73, 3) := dk_181 0 73 (dk_at dksX9_check_0 2 rfl rfl)
theorem dX9_check_5 : decode cX9_check 5 = .ok (.aload_n 0, 1) := dk_42 (dk_at dksX9_check_0 5 rfl rfl)
theorem dX9_check_6 : decode cX9_check 6 = .ok (.getfield 449, 3) := dk_180 1 193 (dk_at dksX9_check_0 6 rfl rfl)
theorem dX9_check_9 : decode cX9_check 9 = .ok (.lneg, 1) := dk_117 (dk_at dksX9_check_0 9 rfl rfl)
theorem dX9_check_10 : decode cX9_check 10 = .ok (.lstore_n 1, 1) := dk_64 (dk_at dksX9_check_0 10 rfl rfl)
theorem dX9_check_11 : decode cX9_check 11 = .ok (.aload_n 0, 1) := dk_42 (dk_at dksX9_check_0 11 rfl rfl)
theorem dX9_check_12 : decode cX9_check 12 = .ok (.getfield 453, 3) := dk_180 1 197 (dk_at dksX9_check_0 12 rfl rfl)
theorem dX9_check_15 : decode cX9_check 15 = .ok (.lneg, 1) := dk_117 (dk_at dksX9_check_0 15 rfl rfl)
theorem dX9_check_16 : decode cX9_check 16 = .ok (.lstore_n 3, 1) := dk_66 (dk_at dksX9_check_0 16 rfl rfl)
theorem dX9_check_17 : decode cX9_check 17 = .ok (.iconst 0, 1) := dk_3 (dk_at dksX9_check_0 17 rfl rfl)
theorem dX9_check_18 : decode cX9_check 18 = .ok (.istore 5, 2) := dk_54 5 (dk_at dksX9_check_0 18 rfl rfl)
theorem dX9_check_20 : decode cX9_check 20 = .ok (.iload 5, 2) := dk_21 5 (dk_at dksX9_check_0 20 rfl rfl)
theorem dX9_check_22 : decode cX9_check 22 = .ok (.aload_n 0, 1) := dk_42 (dk_at dksX9_check_0 22 rfl rfl)
theorem dX9_check_23 : decode cX9_check 23 = .ok (.getfield 446, 3) := dk_180 1 190 (dk_at dksX9_check_1 0 rfl rfl)
theorem dX9_check_26 : decode cX9_check 26 = .ok (.if_icmp .ge 37, 3) := dk_162 0 37 (dk_at dksX9_check_1 3 rfl rfl)
theorem dX9_check_29 : decode cX9_check 29 = .ok (.lload_n 1, 1) := dk_31 (dk_at dksX9_check_1 6 rfl rfl)
theorem dX9_check_30 : decode cX9_check 30 = .ok (.aload_n 0, 1) := dk_42 (dk_at dksX9_check_1 7 rfl rfl)
theorem dX9_check_31 : decode cX9_check 31 = .ok (.getfield 70, 3) := dk_180 0 70 (dk_at dksX9_check_1 8 rfl rfl)
theorem dX9_check_34 : decode cX9_check 34 = .ok (.iload 5, 2) := dk_21 5 (dk_at dksX9_check_1 11 rfl rfl)
theorem dX9_check_36 : decode cX9_check 36 = .ok (.iaload, 1) := dk_46 (dk_at dksX9_check_1 13 rfl rfl)
theorem dX9_check_37 : decode cX9_check 37 = .ok (.i2l, 1) := dk_133 (dk_at dksX9_check_1 14 rfl rfl)
theorem dX9_check_38 : decode cX9_check 38 = .ok (.ladd, 1) := dk_97 (dk_at dksX9_check_1 15 rfl rfl)
theorem dX9_check_39 : decode cX9_check 39 = .ok (.lstore_n 1, 1) := dk_64 (dk_at dksX9_check_1 16 rfl rfl)
theorem dX9_check_40 : decode cX9_check 40 = .ok (.lload_n 3, 1) := dk_33 (dk_at dksX9_check_1 17 rfl rfl)
theorem dX9_check_41 : decode cX9_check 41 = .ok (.aload_n 0, 1) := dk_42 (dk_at dksX9_check_1 18 rfl rfl)
theorem dX9_check_42 : decode cX9_check 42 = .ok (.getfield 70, 3) := dk_180 0 70 (dk_at dksX9_check_1 19 rfl rfl)
theorem dX9_check_45 : decode cX9_check 45 = .ok (.iload 5, 2) := dk_21 5 (dk_at dksX9_check_1 22 rfl rfl)
theorem dX9_check_47 : decode cX9_check 47 = .ok (.iaload, 1) := dk_46 (dk_at dksX9_check_2 0 rfl rfl)
theorem dX9_check_48 : decode cX9_check 48 = .ok (.i2l, 1) := dk_133 (dk_at dksX9_check_2 1 rfl rfl)
theorem dX9_check_49 : decode cX9_check 49 = .ok (.iload 5, 2) := dk_21 5 (dk_at dksX9_check_2 2 rfl rfl)
theorem dX9_check_51 : decode cX9_check 51 = .ok (.iconst 1, 1) := dk_4 (dk_at dksX9_check_2 4 rfl rfl)
theorem dX9_check_52 : decode cX9_check 52 = .ok (.iadd, 1) := dk_96 (dk_at dksX9_check_2 5 rfl rfl)
theorem dX9_check_53 : decode cX9_check 53 = .ok (.i2l, 1) := dk_133 (dk_at dksX9_check_2 6 rfl rfl)
theorem dX9_check_54 : decode cX9_check 54 = .ok (.lmul, 1) := dk_105 (dk_at dksX9_check_2 7 rfl rfl)
theorem dX9_check_55 : decode cX9_check 55 = .ok (.ladd, 1) := dk_97 (dk_at dksX9_check_2 8 rfl rfl)
theorem dX9_check_56 : decode cX9_check 56 = .ok (.lstore_n 3, 1) := dk_66 (dk_at dksX9_check_2 9 rfl rfl)
theorem dX9_check_57 : decode cX9_check 57 = .ok (.iinc 5 1, 3) := dk_132 5 1 (dk_at dksX9_check_2 10 rfl rfl)
theorem dX9_check_60 : decode cX9_check 60 = .ok (.goto (-40), 3) := dk_167 255 216 (dk_at dksX9_check_2 13 rfl rfl)
theorem dX9_check_63 : decode cX9_check 63 = .ok (.lload_n 1, 1) := dk_31 (dk_at dksX9_check_2 16 rfl rfl)
theorem dX9_check_64 : decode cX9_check 64 = .ok (.lconst 0, 1) := dk_9 (dk_at dksX9_check_2 17 rfl rfl)
theorem dX9_check_65 : decode cX9_check 65 = .ok (.lcmp, 1) := dk_148 (dk_at dksX9_check_2 18 rfl rfl)
theorem dX9_check_66 : decode cX9_check 66 = .ok (.ifCond .ne 11, 3) := dk_154 0 11 (dk_at dksX9_check_2 19 rfl rfl)
theorem dX9_check_69 : decode cX9_check 69 = .ok (.lload_n 3, 1) := dk_33 (dk_at dksX9_check_2 22 rfl rfl)
theorem dX9_check_70 : decode cX9_check 70 = .ok (.lconst 0, 1) := dk_9 (dk_at dksX9_check_2 23 rfl rfl)
theorem dX9_check_71 : decode cX9_check 71 = .ok (.lcmp, 1) := dk_148 (dk_at dksX9_check_3 0 rfl rfl)
theorem dX9_check_72 : decode cX9_check 72 = .ok (.ifCond .ne 5, 3) := dk_154 0 5 (dk_at dksX9_check_3 1 rfl rfl)
theorem dX9_check_75 : decode cX9_check 75 = .ok (.iconst (-1), 1) := dk_2 (dk_at dksX9_check_3 4 rfl rfl)
theorem dX9_check_76 : decode cX9_check 76 = .ok (.ireturn, 1) := dk_172 (dk_at dksX9_check_3 5 rfl rfl)
theorem dX9_check_77 : decode cX9_check 77 = .ok (.lload_n 1, 1) := dk_31 (dk_at dksX9_check_3 6 rfl rfl)
theorem dX9_check_78 : decode cX9_check 78 = .ok (.lconst 0, 1) := dk_9 (dk_at dksX9_check_3 7 rfl rfl)
theorem dX9_check_79 : decode cX9_check 79 = .ok (.lcmp, 1) := dk_148 (dk_at dksX9_check_3 8 rfl rfl)
theorem dX9_check_80 : decode cX9_check 80 = .ok (.ifCond .eq 11, 3) := dk_153 0 11 (dk_at dksX9_check_3 9 rfl rfl)
theorem dX9_check_83 : decode cX9_check 83 = .ok (.lload_n 3, 1) := dk_33 (dk_at dksX9_check_3 12 rfl rfl)
theorem dX9_check_84 : decode cX9_check 84 = .ok (.lload_n 1, 1) := dk_31 (dk_at dksX9_check_3 13 rfl rfl)
theorem dX9_check_85 : decode cX9_check 85 = .ok (.lrem, 1) := dk_113 (dk_at dksX9_check_3 14 rfl rfl)
theorem dX9_check_86 : decode cX9_check 86 = .ok (.lconst 0, 1) := dk_9 (dk_at dksX9_check_3 15 rfl rfl)
theorem dX9_check_87 : decode cX9_check 87 = .ok (.lcmp, 1) := dk_148 (dk_at dksX9_check_3 16 rfl rfl)
theorem dX9_check_88 : decode cX9_check 88 = .ok (.ifCond .eq 6, 3) := dk_153 0 6 (dk_at dksX9_check_3 17 rfl rfl)
theorem dX9_check_91 : decode cX9_check 91 = .ok (.bipush (-2), 2) := dk_16 254 (dk_at dksX9_check_3 20 rfl rfl)
theorem dX9_check_93 : decode cX9_check 93 = .ok (.ireturn, 1) := dk_172 (dk_at dksX9_check_3 22 rfl rfl)
theorem dX9_check_94 : decode cX9_check 94 = .ok (.lload_n 3, 1) := dk_33 (dk_at dksX9_check_3 23 rfl rfl)
theorem dX9_check_95 : decode cX9_check 95 = .ok (.lload_n 1, 1) := dk_31 (dk_at dksX9_check_4 0 rfl rfl)
theorem dX9_check_96 : decode cX9_check 96 = .ok (.ldiv, 1) := dk_109 (dk_at dksX9_check_4 1 rfl rfl)
theorem dX9_check_97 : decode cX9_check 97 = .ok (.lconst 1, 1) := dk_10 (dk_at dksX9_check_4 2 rfl rfl)
theorem dX9_check_98 : decode cX9_check 98 = .ok (.lcmp, 1) := dk_148 (dk_at dksX9_check_4 3 rfl rfl)
theorem dX9_check_99 : decode cX9_check 99 = .ok (.ifCond .lt 24, 3) := dk_155 0 24 (dk_at dksX9_check_4 4 rfl rfl)
theorem dX9_check_102 : decode cX9_check 102 = .ok (.lload_n 3, 1) := dk_33 (dk_at dksX9_check_4 7 rfl rfl)
theorem dX9_check_103 : decode cX9_check 103 = .ok (.lload_n 1, 1) := dk_31 (dk_at dksX9_check_4 8 rfl rfl)
theorem dX9_check_104 : decode cX9_check 104 = .ok (.ldiv, 1) := dk_109 (dk_at dksX9_check_4 9 rfl rfl)
theorem dX9_check_105 : decode cX9_check 105 = .ok (.aload_n 0, 1) := dk_42 (dk_at dksX9_check_4 10 rfl rfl)
theorem dX9_check_106 : decode cX9_check 106 = .ok (.getfield 446, 3) := dk_180 1 190 (dk_at dksX9_check_4 11 rfl rfl)
theorem dX9_check_109 : decode cX9_check 109 = .ok (.i2l, 1) := dk_133 (dk_at dksX9_check_4 14 rfl rfl)
theorem dX9_check_110 : decode cX9_check 110 = .ok (.lcmp, 1) := dk_148 (dk_at dksX9_check_4 15 rfl rfl)
theorem dX9_check_111 : decode cX9_check 111 = .ok (.ifCond .gt 12, 3) := dk_157 0 12 (dk_at dksX9_check_4 16 rfl rfl)
theorem dX9_check_114 : decode cX9_check 114 = .ok (.lload_n 3, 1) := dk_33 (dk_at dksX9_check_4 19 rfl rfl)
theorem dX9_check_115 : decode cX9_check 115 = .ok (.lload_n 1, 1) := dk_31 (dk_at dksX9_check_4 20 rfl rfl)
theorem dX9_check_116 : decode cX9_check 116 = .ok (.ldiv, 1) := dk_109 (dk_at dksX9_check_4 21 rfl rfl)
theorem dX9_check_117 : decode cX9_check 117 = .ok (.l2i, 1) := dk_136 (dk_at dksX9_check_4 22 rfl rfl)
theorem dX9_check_118 : decode cX9_check 118 = .ok (.iconst 1, 1) := dk_4 (dk_at dksX9_check_4 23 rfl rfl)
theorem dX9_check_119 : decode cX9_check 119 = .ok (.isub, 1) := dk_100 (dk_at dksX9_check_5 0 rfl rfl)
theorem dX9_check_120 : decode cX9_check 120 = .ok (.goto 5, 3) := dk_167 0 5 (dk_at dksX9_check_5 1 rfl rfl)
theorem dX9_check_123 : decode cX9_check 123 = .ok (.bipush (-2), 2) := dk_16 254 (dk_at dksX9_check_5 4 rfl rfl)
theorem dX9_check_125 : decode cX9_check 125 = .ok (.ireturn, 1) := dk_172 (dk_at dksX9_check_5 6 rfl rfl)
def dkwX9_count_7 : List UInt8 := [17, 8, 83, 46, 172, 2, 172]
abbrev dktX9_count_7 : List UInt8 := dkwX9_count_7 ++ []
def dkwX9_count_6 : List UInt8 := [17, 8, 80, 46, 172, 42, 180, 0, 9, 17, 8, 75, 46, 172, 42, 180, 0, 166, 172, 42, 180, 0, 9]
abbrev dktX9_count_6 : List UInt8 := dkwX9_count_6 ++ dktX9_count_7
def dkwX9_count_5 : List UInt8 := [46, 172, 42, 180, 0, 9, 17, 8, 78, 46, 172, 42, 180, 0, 9, 17, 8, 79, 46, 172, 42, 180, 0, 9]
abbrev dktX9_count_5 : List UInt8 := dkwX9_count_5 ++ dktX9_count_6
def dkwX9_count_4 : List UInt8 := [180, 0, 9, 17, 8, 74, 46, 172, 42, 180, 0, 9, 17, 8, 77, 46, 172, 42, 180, 0, 9, 17, 8, 81]
abbrev dktX9_count_4 : List UInt8 := dkwX9_count_4 ++ dktX9_count_5
def dkwX9_count_3 : List UInt8 := [182, 1, 79, 172, 42, 180, 0, 9, 17, 8, 69, 46, 172, 42, 180, 0, 9, 17, 8, 70, 46, 172, 42]
abbrev dktX9_count_3 : List UInt8 := dkwX9_count_3 ++ dktX9_count_4
def dkwX9_count_2 : List UInt8 := [42, 180, 0, 9, 17, 8, 68, 46, 172, 42, 180, 0, 9, 17, 8, 76, 46, 172, 42, 182, 1, 82, 172, 42]
abbrev dktX9_count_2 : List UInt8 := dkwX9_count_2 ++ dktX9_count_3
def dkwX9_count_1 : List UInt8 := [170, 0, 0, 0, 0, 197, 0, 0, 0, 0, 0, 0, 0, 14, 0, 0, 0, 74, 0, 0, 0, 83, 0, 0, 0, 92, 0, 0, 0, 97, 0, 0, 0, 102, 0, 0, 0, 111, 0, 0, 0, 120, 0, 0, 0, 129, 0, 0, 0, 138, 0, 0, 0, 147, 0, 0, 0, 156, 0, 0, 0, 165, 0, 0, 0, 174, 0, 0, 0, 183, 0, 0, 0, 188]
abbrev dktX9_count_1 : List UInt8 := dkwX9_count_1 ++ dktX9_count_2
def dkwX9_count_0 : List UInt8 := [42, 3, 181, 0, 73, 27]
abbrev dktX9_count_0 : List UInt8 := dkwX9_count_0 ++ dktX9_count_1
theorem dksX9_count_0 : cX9_count.data.toList.drop 0 = dktX9_count_0 := by decide +kernel
theorem dksX9_count_1 : cX9_count.data.toList.drop 6 = dktX9_count_1 := dk_seg dksX9_count_0 6 rfl rfl
theorem dksX9_count_2 : cX9_count.data.toList.drop 80 = dktX9_count_2 := dk_seg dksX9_count_1 74 rfl rfl
theorem dksX9_count_3 : cX9_count.data.toList.drop 104 = dktX9_count_3 := dk_seg dksX9_count_2 24 rfl rfl
theorem dksX9_count_4 : cX9_count.data.toList.drop 127 = dktX9_count_4 := dk_seg dksX9_count_3 23 rfl rfl
theorem dksX9_count_5 : cX9_count.data.toList.drop 151 = dktX9_count_5 := dk_seg dksX9_count_4 24 rfl rfl
theorem dksX9_count_6 : cX9_count.data.toList.drop 175 = dktX9_count_6 := dk_seg dksX9_count_5 24 rfl rfl
theorem dksX9_count_7 : cX9_count.data.toList.drop 198 = dktX9_count_7 := dk_seg dksX9_count_6 23 rfl rfl
theorem dX9_count_0 : decode cX9_count 0 = .ok (.aload_n 0, 1) := dk_42 (dk_at dksX9_count_0 0 rfl rfl)
theorem dX9_count_1 : decode cX9_count 1 = .ok (.iconst 0, 1) := dk_3 (dk_at dksX9_count_0 1 rfl rfl)
theorem dX9_count_2 : decode cX9_count 2 = .ok (.putfield 73, 3) := dk_181 0 73 (dk_at dksX9_count_0 2 rfl rfl)
theorem dX9_count_5 : decode cX9_count 5 = .ok (.iload_n 1, 1) := dk_27 (dk_at dksX9_count_0 5 rfl rfl)
theorem dX9_count_6 : decode cX9_count 6 = .ok (.tableswitch 197 0 14 #[74, 83, 92, 97, 102, 111, 120, 129, 138, 147, 156, 165, 174, 183, 188], 74) := by decide +kernel
theorem dX9_count_80 : decode cX9_count 80 = .ok (.aload_n 0, 1) := dk_42 (dk_at dksX9_count_2 0 rfl rfl)
theorem dX9_count_81 : decode cX9_count 81 = .ok (.getfield 9, 3) := dk_180 0 9 (dk_at dksX9_count_2 1 rfl rfl)
theorem dX9_count_84 : decode cX9_count 84 = .ok (.sipush 2116, 3) := dk_17 8 68 (dk_at dksX9_count_2 4 rfl rfl)
theorem dX9_count_87 : decode cX9_count 87 = .ok (.iaload, 1) := dk_46 (dk_at dksX9_count_2 7 rfl rfl)
theorem dX9_count_88 : decode cX9_count 88 = .ok (.ireturn, 1) := dk_172 (dk_at dksX9_count_2 8 rfl rfl)
theorem dX9_count_89 : decode cX9_count 89 = .ok (.aload_n 0, 1) := dk_42 (dk_at dksX9_count_2 9 rfl rfl)
theorem dX9_count_90 : decode cX9_count 90 = .ok (.getfield 9, 3) := dk_180 0 9 (dk_at dksX9_count_2 10 rfl rfl)
theorem dX9_count_93 : decode cX9_count 93 = .ok (.sipush 2124, 3) := dk_17 8 76 (dk_at dksX9_count_2 13 rfl rfl)
theorem dX9_count_96 : decode cX9_count 96 = .ok (.iaload, 1) := dk_46 (dk_at dksX9_count_2 16 rfl rfl)
theorem dX9_count_97 : decode cX9_count 97 = .ok (.ireturn, 1) := dk_172 (dk_at dksX9_count_2 17 rfl rfl)
theorem dX9_count_98 : decode cX9_count 98 = .ok (.aload_n 0, 1) := dk_42 (dk_at dksX9_count_2 18 rfl rfl)
theorem dX9_count_99 : decode cX9_count 99 = .ok (.invokevirtual 338, 3) := dk_182 1 82 (dk_at dksX9_count_2 19 rfl rfl)
theorem dX9_count_102 : decode cX9_count 102 = .ok (.ireturn, 1) := dk_172 (dk_at dksX9_count_2 22 rfl rfl)
theorem dX9_count_103 : decode cX9_count 103 = .ok (.aload_n 0, 1) := dk_42 (dk_at dksX9_count_2 23 rfl rfl)
theorem dX9_count_104 : decode cX9_count 104 = .ok (.invokevirtual 335, 3) := dk_182 1 79 (dk_at dksX9_count_3 0 rfl rfl)
theorem dX9_count_107 : decode cX9_count 107 = .ok (.ireturn, 1) := dk_172 (dk_at dksX9_count_3 3 rfl rfl)
theorem dX9_count_108 : decode cX9_count 108 = .ok (.aload_n 0, 1) := dk_42 (dk_at dksX9_count_3 4 rfl rfl)
theorem dX9_count_109 : decode cX9_count 109 = .ok (.getfield 9, 3) := dk_180 0 9 (dk_at dksX9_count_3 5 rfl rfl)
theorem dX9_count_112 : decode cX9_count 112 = .ok (.sipush 2117, 3) := dk_17 8 69 (dk_at dksX9_count_3 8 rfl rfl)
theorem dX9_count_115 : decode cX9_count 115 = .ok (.iaload, 1) := dk_46 (dk_at dksX9_count_3 11 rfl rfl)
theorem dX9_count_116 : decode cX9_count 116 = .ok (.ireturn, 1) := dk_172 (dk_at dksX9_count_3 12 rfl rfl)
theorem dX9_count_117 : decode cX9_count 117 = .ok (.aload_n 0, 1) := dk_42 (dk_at dksX9_count_3 13 rfl rfl)
theorem dX9_count_118 : decode cX9_count 118 = .ok (.getfield 9, 3) := dk_180 0 9 (dk_at dksX9_count_3 14 rfl rfl)
theorem dX9_count_121 : decode cX9_count 121 = .ok (.sipush 2118, 3) := dk_17 8 70 (dk_at dksX9_count_3 17 rfl rfl)
theorem dX9_count_124 : decode cX9_count 124 = .ok (.iaload, 1) := dk_46 (dk_at dksX9_count_3 20 rfl rfl)
theorem dX9_count_125 : decode cX9_count 125 = .ok (.ireturn, 1) := dk_172 (dk_at dksX9_count_3 21 rfl rfl)
theorem dX9_count_126 : decode cX9_count 126 = .ok (.aload_n 0, 1) := dk_42 (dk_at dksX9_count_3 22 rfl rfl)
theorem dX9_count_127 : decode cX9_count 127 = .ok (.getfield 9, 3) := dk_180 0 9 (dk_at dksX9_count_4 0 rfl rfl)
theorem dX9_count_130 : decode cX9_count 130 = .ok (.sipush 2122, 3) := dk_17 8 74 (dk_at dksX9_count_4 3 rfl rfl)
theorem dX9_count_133 : decode cX9_count 133 = .ok (.iaload, 1) := dk_46 (dk_at dksX9_count_4 6 rfl rfl)
theorem dX9_count_134 : decode cX9_count 134 = .ok (.ireturn, 1) := dk_172 (dk_at dksX9_count_4 7 rfl rfl)
theorem dX9_count_135 : decode cX9_count 135 = .ok (.aload_n 0, 1) := dk_42 (dk_at dksX9_count_4 8 rfl rfl)
theorem dX9_count_136 : decode cX9_count 136 = .ok (.getfield 9, 3) := dk_180 0 9 (dk_at dksX9_count_4 9 rfl rfl)
theorem dX9_count_139 : decode cX9_count 139 = .ok (.sipush 2125, 3) := dk_17 8 77 (dk_at dksX9_count_4 12 rfl rfl)
theorem dX9_count_142 : decode cX9_count 142 = .ok (.iaload, 1) := dk_46 (dk_at dksX9_count_4 15 rfl rfl)
theorem dX9_count_143 : decode cX9_count 143 = .ok (.ireturn, 1) := dk_172 (dk_at dksX9_count_4 16 rfl rfl)
theorem dX9_count_144 : decode cX9_count 144 = .ok (.aload_n 0, 1) := dk_42 (dk_at dksX9_count_4 17 rfl rfl)
theorem dX9_count_145 : decode cX9_count 145 = .ok (.getfield 9, 3) := dk_180 0 9 (dk_at dksX9_count_4 18 rfl rfl)
theorem dX9_count_148 : decode cX9_count 148 = .ok (.sipush 2129, 3) := dk_17 8 81 (dk_at dksX9_count_4 21 rfl rfl)
theorem dX9_count_151 : decode cX9_count 151 = .ok (.iaload, 1) := dk_46 (dk_at dksX9_count_5 0 rfl rfl)
theorem dX9_count_152 : decode cX9_count 152 = .ok (.ireturn, 1) := dk_172 (dk_at dksX9_count_5 1 rfl rfl)
theorem dX9_count_153 : decode cX9_count 153 = .ok (.aload_n 0, 1) := dk_42 (dk_at dksX9_count_5 2 rfl rfl)
theorem dX9_count_154 : decode cX9_count 154 = .ok (.getfield 9, 3) := dk_180 0 9 (dk_at dksX9_count_5 3 rfl rfl)
theorem dX9_count_157 : decode cX9_count 157 = .ok (.sipush 2126, 3) := dk_17 8 78 (dk_at dksX9_count_5 6 rfl rfl)
theorem dX9_count_160 : decode cX9_count 160 = .ok (.iaload, 1) := dk_46 (dk_at dksX9_count_5 9 rfl rfl)
theorem dX9_count_161 : decode cX9_count 161 = .ok (.ireturn, 1) := dk_172 (dk_at dksX9_count_5 10 rfl rfl)
theorem dX9_count_162 : decode cX9_count 162 = .ok (.aload_n 0, 1) := dk_42 (dk_at dksX9_count_5 11 rfl rfl)
theorem dX9_count_163 : decode cX9_count 163 = .ok (.getfield 9, 3) := dk_180 0 9 (dk_at dksX9_count_5 12 rfl rfl)
theorem dX9_count_166 : decode cX9_count 166 = .ok (.sipush 2127, 3) := dk_17 8 79 (dk_at dksX9_count_5 15 rfl rfl)
theorem dX9_count_169 : decode cX9_count 169 = .ok (.iaload, 1) := dk_46 (dk_at dksX9_count_5 18 rfl rfl)
theorem dX9_count_170 : decode cX9_count 170 = .ok (.ireturn, 1) := dk_172 (dk_at dksX9_count_5 19 rfl rfl)
theorem dX9_count_171 : decode cX9_count 171 = .ok (.aload_n 0, 1) := dk_42 (dk_at dksX9_count_5 20 rfl rfl)
theorem dX9_count_172 : decode cX9_count 172 = .ok (.getfield 9, 3) := dk_180 0 9 (dk_at dksX9_count_5 21 rfl rfl)
theorem dX9_count_175 : decode cX9_count 175 = .ok (.sipush 2128, 3) := dk_17 8 80 (dk_at dksX9_count_6 0 rfl rfl)
theorem dX9_count_178 : decode cX9_count 178 = .ok (.iaload, 1) := dk_46 (dk_at dksX9_count_6 3 rfl rfl)
theorem dX9_count_179 : decode cX9_count 179 = .ok (.ireturn, 1) := dk_172 (dk_at dksX9_count_6 4 rfl rfl)
theorem dX9_count_180 : decode cX9_count 180 = .ok (.aload_n 0, 1) := dk_42 (dk_at dksX9_count_6 5 rfl rfl)
theorem dX9_count_181 : decode cX9_count 181 = .ok (.getfield 9, 3) := dk_180 0 9 (dk_at dksX9_count_6 6 rfl rfl)
theorem dX9_count_184 : decode cX9_count 184 = .ok (.sipush 2123, 3) := dk_17 8 75 (dk_at dksX9_count_6 9 rfl rfl)
theorem dX9_count_187 : decode cX9_count 187 = .ok (.iaload, 1) := dk_46 (dk_at dksX9_count_6 12 rfl rfl)
theorem dX9_count_188 : decode cX9_count 188 = .ok (.ireturn, 1) := dk_172 (dk_at dksX9_count_6 13 rfl rfl)
theorem dX9_count_189 : decode cX9_count 189 = .ok (.aload_n 0, 1) := dk_42 (dk_at dksX9_count_6 14 rfl rfl)
theorem dX9_count_190 : decode cX9_count 190 = .ok (.getfield 166, 3) := dk_180 0 166 (dk_at dksX9_count_6 15 rfl rfl)
theorem dX9_count_193 : decode cX9_count 193 = .ok (.ireturn, 1) := dk_172 (dk_at dksX9_count_6 18 rfl rfl)
theorem dX9_count_194 : decode cX9_count 194 = .ok (.aload_n 0, 1) := dk_42 (dk_at dksX9_count_6 19 rfl rfl)
theorem dX9_count_195 : decode cX9_count 195 = .ok (.getfield 9, 3) := dk_180 0 9 (dk_at dksX9_count_6 20 rfl rfl)
theorem dX9_count_198 : decode cX9_count 198 = .ok (.sipush 2131, 3) := dk_17 8 83 (dk_at dksX9_count_7 0 rfl rfl)
theorem dX9_count_201 : decode cX9_count 201 = .ok (.iaload, 1) := dk_46 (dk_at dksX9_count_7 3 rfl rfl)
theorem dX9_count_202 : decode cX9_count 202 = .ok (.ireturn, 1) := dk_172 (dk_at dksX9_count_7 4 rfl rfl)
theorem dX9_count_203 : decode cX9_count 203 = .ok (.iconst (-1), 1) := dk_2 (dk_at dksX9_count_7 5 rfl rfl)
theorem dX9_count_204 : decode cX9_count 204 = .ok (.ireturn, 1) := dk_172 (dk_at dksX9_count_7 6 rfl rfl)
