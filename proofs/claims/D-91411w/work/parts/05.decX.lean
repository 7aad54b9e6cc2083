set_option maxRecDepth 100000
def dkwX10_init_1 : List UInt8 := [42, 28, 181, 0, 24, 42, 29, 181, 0, 27, 177]
abbrev dktX10_init_1 : List UInt8 := dkwX10_init_1 ++ []
def dkwX10_init_0 : List UInt8 := [42, 183, 0, 3, 42, 2, 181, 0, 9, 42, 2, 181, 0, 15, 42, 2, 181, 0, 18, 42, 27, 181, 0, 21]
abbrev dktX10_init_0 : List UInt8 := dkwX10_init_0 ++ dktX10_init_1
theorem dksX10_init_0 : cX10_init.data.toList.drop 0 = dktX10_init_0 := by decide +kernel
theorem dksX10_init_1 : cX10_init.data.toList.drop 24 = dktX10_init_1 := dk_seg dksX10_init_0 24 rfl rfl
theorem dX10_init_0 : decode cX10_init 0 = .ok (.aload_n 0, 1) := dk_42 (dk_at dksX10_init_0 0 rfl rfl)
theorem dX10_init_1 : decode cX10_init 1 = .ok (.invokespecial 3, 3) := dk_183 0 3 (dk_at dksX10_init_0 1 rfl rfl)
theorem dX10_init_4 : decode cX10_init 4 = .ok (.aload_n 0, 1) := dk_42 (dk_at dksX10_init_0 4 rfl rfl)
theorem dX10_init_5 : decode cX10_init 5 = .ok (.iconst (-1), 1) := dk_2 (dk_at dksX10_init_0 5 rfl rfl)
theorem dX10_init_6 : decode cX10_init 6 = .ok (.putfield 9, 3) := dk_181 0 9 (dk_at dksX10_init_0 6 rfl rfl)
theorem dX10_init_9 : decode cX10_init 9 = .ok (.aload_n 0, 1) := dk_42 (dk_at dksX10_init_0 9 rfl rfl)
theorem dX10_init_10 : decode cX10_init 10 = .ok (.iconst (-1), 1) := dk_2 (dk_at dksX10_init_0 10 rfl rfl)
theorem dX10_init_11 : decode cX10_init 11 = .ok (.putfield 15, 3) := dk_181 0 15 (dk_at dksX10_init_0 11 rfl rfl)
theorem dX10_init_14 : decode cX10_init 14 = .ok (.aload_n 0, 1) := dk_42 (dk_at dksX10_init_0 14 rfl rfl)
theorem dX10_init_15 : decode cX10_init 15 = .ok (.iconst (-1), 1) := dk_2 (dk_at dksX10_init_0 15 rfl rfl)
theorem dX10_init_16 : decode cX10_init 16 = .ok (.putfield 18, 3) := dk_181 0 18 (dk_at dksX10_init_0 16 rfl rfl)
theorem dX10_init_19 : decode cX10_init 19 = .ok (.aload_n 0, 1) := dk_42 (dk_at dksX10_init_0 19 rfl rfl)
theorem dX10_init_20 : decode cX10_init 20 = .ok (.iload_n 1, 1) := dk_27 (dk_at dksX10_init_0 20 rfl rfl)
theorem dX10_init_21 : decode cX10_init 21 = .ok (.putfield 21, 3) := dk_181 0 21 (dk_at dksX10_init_0 21 rfl rfl)
theorem dX10_init_24 : decode cX10_init 24 = .ok (.aload_n 0, 1) := dk_42 (dk_at dksX10_init_1 0 rfl rfl)
theorem dX10_init_25 : decode cX10_init 25 = .ok (.iload_n 2, 1) := dk_28 (dk_at dksX10_init_1 1 rfl rfl)
theorem dX10_init_26 : decode cX10_init 26 = .ok (.putfield 24, 3) := dk_181 0 24 (dk_at dksX10_init_1 2 rfl rfl)
theorem dX10_init_29 : decode cX10_init 29 = .ok (.aload_n 0, 1) := dk_42 (dk_at dksX10_init_1 5 rfl rfl)
theorem dX10_init_30 : decode cX10_init 30 = .ok (.iload_n 3, 1) := dk_29 (dk_at dksX10_init_1 6 rfl rfl)
theorem dX10_init_31 : decode cX10_init 31 = .ok (.putfield 27, 3) := dk_181 0 27 (dk_at dksX10_init_1 7 rfl rfl)
theorem dX10_init_34 : decode cX10_init 34 = .ok (.return_, 1) := dk_177 (dk_at dksX10_init_1 10 rfl rfl)
def dkwX10_isHere_0 : List UInt8 := [42, 180, 0, 30, 5, 161, 0, 7, 4, 167, 0, 4, 3, 172]
abbrev dktX10_isHere_0 : List UInt8 := dkwX10_isHere_0 ++ []
theorem dksX10_isHere_0 : cX10_isHere.data.toList.drop 0 = dktX10_isHere_0 := by decide +kernel
theorem dX10_isHere_0 : decode cX10_isHere 0 = .ok (.aload_n 0, 1) := dk_42 (dk_at dksX10_isHere_0 0 rfl rfl)
theorem dX10_isHere_1 : decode cX10_isHere 1 = .ok (.getfield 30, 3) := dk_180 0 30 (dk_at dksX10_isHere_0 1 rfl rfl)
theorem dX10_isHere_4 : decode cX10_isHere 4 = .ok (.iconst 2, 1) := dk_5 (dk_at dksX10_isHere_0 4 rfl rfl)
theorem dX10_isHere_5 : decode cX10_isHere 5 = .ok (.if_icmp .lt 7, 3) := dk_161 0 7 (dk_at dksX10_isHere_0 5 rfl rfl)
theorem dX10_isHere_8 : decode cX10_isHere 8 = .ok (.iconst 1, 1) := dk_4 (dk_at dksX10_isHere_0 8 rfl rfl)
theorem dX10_isHere_9 : decode cX10_isHere 9 = .ok (.goto 4, 3) := dk_167 0 4 (dk_at dksX10_isHere_0 9 rfl rfl)
theorem dX10_isHere_12 : decode cX10_isHere 12 = .ok (.iconst 0, 1) := dk_3 (dk_at dksX10_isHere_0 12 rfl rfl)
theorem dX10_isHere_13 : decode cX10_isHere 13 = .ok (.ireturn, 1) := dk_172 (dk_at dksX10_isHere_0 13 rfl rfl)
def dkwX10_set_2 : List UInt8 := [42, 43, 180, 0, 39, 181, 0, 39, 42, 43, 180, 0, 18, 181, 0, 18, 177]
abbrev dktX10_set_2 : List UInt8 := dkwX10_set_2 ++ []
def dkwX10_set_1 : List UInt8 := [42, 43, 180, 0, 33, 181, 0, 33, 42, 43, 180, 0, 36, 181, 0, 36, 42, 43, 180, 0, 15, 181, 0, 15]
abbrev dktX10_set_1 : List UInt8 := dkwX10_set_1 ++ dktX10_set_2
def dkwX10_set_0 : List UInt8 := [42, 43, 180, 0, 27, 181, 0, 27, 42, 43, 180, 0, 30, 181, 0, 30, 42, 43, 180, 0, 9, 181, 0, 9]
abbrev dktX10_set_0 : List UInt8 := dkwX10_set_0 ++ dktX10_set_1
theorem dksX10_set_0 : cX10_set.data.toList.drop 0 = dktX10_set_0 := by decide +kernel
theorem dksX10_set_1 : cX10_set.data.toList.drop 24 = dktX10_set_1 := dk_seg dksX10_set_0 24 rfl rfl
theorem dksX10_set_2 : cX10_set.data.toList.drop 48 = dktX10_set_2 := dk_seg dksX10_set_1 24 rfl rfl
theorem dX10_set_0 : decode cX10_set 0 = .ok (.aload_n 0, 1) := dk_42 (dk_at dksX10_set_0 0 rfl rfl)
theorem dX10_set_1 : decode cX10_set 1 = .ok (.aload_n 1, 1) := dk_43 (dk_at dksX10_set_0 1 rfl rfl)
theorem dX10_set_2 : decode cX10_set 2 = .ok (.getfield 27, 3) := dk_180 0 27 (dk_at dksX10_set_0 2 rfl rfl)
theorem dX10_set_5 : decode cX10_set 5 = .ok (.putfield 27, 3) := dk_181 0 27 (dk_at dksX10_set_0 5 rfl rfl)
theorem dX10_set_8 : decode cX10_set 8 = .ok (.aload_n 0, 1) := dk_42 (dk_at dksX10_set_0 8 rfl rfl)
theorem dX10_set_9 : decode cX10_set 9 = .ok (.aload_n 1, 1) := dk_43 (dk_at dksX10_set_0 9 rfl rfl)
theorem dX10_set_10 : decode cX10_set 10 = .ok (.getfield 30, 3) := dk_180 0 30 (dk_at dksX10_set_0 10 rfl rfl)
theorem dX10_set_13 : decode cX10_set 13 = .ok (.putfield 30, 3) := dk_181 0 30 (dk_at dksX10_set_0 13 rfl rfl)
theorem dX10_set_16 : decode cX10_set 16 = .ok (.aload_n 0, 1) := dk_42 (dk_at dksX10_set_0 16 rfl rfl)
theorem dX10_set_17 : decode cX10_set 17 = .ok (.aload_n 1, 1) := dk_43 (dk_at dksX10_set_0 17 rfl rfl)
theorem dX10_set_18 : decode cX10_set 18 = .ok (.getfield 9, 3) := dk_180 0 9 (dk_at dksX10_set_0 18 rfl rfl)
theorem dX10_set_21 : decode cX10_set 21 = .ok (.putfield 9, 3) := dk_181 0 9 (dk_at dksX10_set_0 21 rfl rfl)
theorem dX10_set_24 : decode cX10_set 24 = .ok (.aload_n 0, 1) := dk_42 (dk_at dksX10_set_1 0 rfl rfl)
theorem dX10_set_25 : decode cX10_set 25 = .ok (.aload_n 1, 1) := dk_43 (dk_at dksX10_set_1 1 rfl rfl)
theorem dX10_set_26 : decode cX10_set 26 = .ok (.getfield 33, 3) := dk_180 0 33 (dk_at dksX10_set_1 2 rfl rfl)
theorem dX10_set_29 : decode cX10_set 29 = .ok (.putfield 33, 3) := dk_181 0 33 (dk_at dksX10_set_1 5 rfl rfl)
theorem dX10_set_32 : decode cX10_set 32 = .ok (.aload_n 0, 1) := dk_42 (dk_at dksX10_set_1 8 rfl rfl)
theorem dX10_set_33 : decode cX10_set 33 = .ok (.aload_n 1, 1) := dk_43 (dk_at dksX10_set_1 9 rfl rfl)
theorem dX10_set_34 : decode cX10_set 34 = .ok (.getfield 36, 3) := dk_180 0 36 (dk_at dksX10_set_1 10 rfl rfl)
theorem dX10_set_37 : decode cX10_set 37 = .ok (.putfield 36, 3) := dk_181 0 36 (dk_at dksX10_set_1 13 rfl rfl)
theorem dX10_set_40 : decode cX10_set 40 = .ok (.aload_n 0, 1) := dk_42 (dk_at dksX10_set_1 16 rfl rfl)
theorem dX10_set_41 : decode cX10_set 41 = .ok (.aload_n 1, 1) := dk_43 (dk_at dksX10_set_1 17 rfl rfl)
theorem dX10_set_42 : decode cX10_set 42 = .ok (.getfield 15, 3) := dk_180 0 15 (dk_at dksX10_set_1 18 rfl rfl)
theorem dX10_set_45 : decode cX10_set 45 = .ok (.putfield 15, 3) := dk_181 0 15 (dk_at dksX10_set_1 21 rfl rfl)
theorem dX10_set_48 : decode cX10_set 48 = .ok (.aload_n 0, 1) := dk_42 (dk_at dksX10_set_2 0 rfl rfl)
theorem dX10_set_49 : decode cX10_set 49 = .ok (.aload_n 1, 1) := dk_43 (dk_at dksX10_set_2 1 rfl rfl)
theorem dX10_set_50 : decode cX10_set 50 = .ok (.getfield 39, 3) := dk_180 0 39 (dk_at dksX10_set_2 2 rfl rfl)
theorem dX10_set_53 : decode cX10_set 53 = .ok (.putfield 39, 3) := dk_181 0 39 (dk_at dksX10_set_2 5 rfl rfl)
theorem dX10_set_56 : decode cX10_set 56 = .ok (.aload_n 0, 1) := dk_42 (dk_at dksX10_set_2 8 rfl rfl)
theorem dX10_set_57 : decode cX10_set 57 = .ok (.aload_n 1, 1) := dk_43 (dk_at dksX10_set_2 9 rfl rfl)
theorem dX10_set_58 : decode cX10_set 58 = .ok (.getfield 18, 3) := dk_180 0 18 (dk_at dksX10_set_2 10 rfl rfl)
theorem dX10_set_61 : decode cX10_set 61 = .ok (.putfield 18, 3) := dk_181 0 18 (dk_at dksX10_set_2 13 rfl rfl)
theorem dX10_set_64 : decode cX10_set 64 = .ok (.return_, 1) := dk_177 (dk_at dksX10_set_2 16 rfl rfl)
def dkwX10_gets_0 : List UInt8 := [42, 18, 42, 42, 180, 0, 27, 27, 96, 184, 0, 43, 181, 0, 27, 177]
abbrev dktX10_gets_0 : List UInt8 := dkwX10_gets_0 ++ []
theorem dksX10_gets_0 : cX10_gets.data.toList.drop 0 = dktX10_gets_0 := by decide +kernel
theorem dX10_gets_0 : decode cX10_gets 0 = .ok (.aload_n 0, 1) := dk_42 (dk_at dksX10_gets_0 0 rfl rfl)
theorem dX10_gets_1 : decode cX10_gets 1 = .ok (.ldc 42, 2) := dk_18 42 (dk_at dksX10_gets_0 1 rfl rfl)
theorem dX10_gets_3 : decode cX10_gets 3 = .ok (.aload_n 0, 1) := dk_42 (dk_at dksX10_gets_0 3 rfl rfl)
theorem dX10_gets_4 : decode cX10_gets 4 = .ok (.getfield 27, 3) := dk_180 0 27 (dk_at dksX10_gets_0 4 rfl rfl)
theorem dX10_gets_7 : decode cX10_gets 7 = .ok (.iload_n 1, 1) := dk_27 (dk_at dksX10_gets_0 7 rfl rfl)
theorem dX10_gets_8 : decode cX10_gets 8 = .ok (.iadd, 1) := dk_96 (dk_at dksX10_gets_0 8 rfl rfl)
theorem dX10_gets_9 : decode cX10_gets 9 = .ok (.invokestatic 43, 3) := dk_184 0 43 (dk_at dksX10_gets_0 9 rfl rfl)
theorem dX10_gets_12 : decode cX10_gets 12 = .ok (.putfield 27, 3) := dk_181 0 27 (dk_at dksX10_gets_0 12 rfl rfl)
theorem dX10_gets_15 : decode cX10_gets 15 = .ok (.return_, 1) := dk_177 (dk_at dksX10_gets_0 15 rfl rfl)
def dkwX11_init_0 : List UInt8 := [42, 183, 0, 3, 42, 16, 12, 188, 10, 181, 0, 9, 42, 27, 181, 0, 15, 177]
abbrev dktX11_init_0 : List UInt8 := dkwX11_init_0 ++ []
theorem dksX11_init_0 : cX11_init.data.toList.drop 0 = dktX11_init_0 := by decide +kernel
theorem dX11_init_0 : decode cX11_init 0 = .ok (.aload_n 0, 1) := dk_42 (dk_at dksX11_init_0 0 rfl rfl)
theorem dX11_init_1 : decode cX11_init 1 = .ok (.invokespecial 3, 3) := dk_183 0 3 (dk_at dksX11_init_0 1 rfl rfl)
theorem dX11_init_4 : decode cX11_init 4 = .ok (.aload_n 0, 1) := dk_42 (dk_at dksX11_init_0 4 rfl rfl)
theorem dX11_init_5 : decode cX11_init 5 = .ok (.bipush 12, 2) := dk_16 12 (dk_at dksX11_init_0 5 rfl rfl)
theorem dX11_init_7 : decode cX11_init 7 = .ok (.newarray .int, 2) := dk_188_10 (dk_at dksX11_init_0 7 rfl rfl)
theorem dX11_init_9 : decode cX11_init 9 = .ok (.putfield 9, 3) := dk_181 0 9 (dk_at dksX11_init_0 9 rfl rfl)
theorem dX11_init_12 : decode cX11_init 12 = .ok (.aload_n 0, 1) := dk_42 (dk_at dksX11_init_0 12 rfl rfl)
theorem dX11_init_13 : decode cX11_init 13 = .ok (.iload_n 1, 1) := dk_27 (dk_at dksX11_init_0 13 rfl rfl)
theorem dX11_init_14 : decode cX11_init 14 = .ok (.putfield 15, 3) := dk_181 0 15 (dk_at dksX11_init_0 14 rfl rfl)
theorem dX11_init_17 : decode cX11_init 17 = .ok (.return_, 1) := dk_177 (dk_at dksX11_init_0 17 rfl rfl)
def dkwX11_set_1 : List UInt8 := [180, 0, 9, 3, 42, 180, 0, 22, 184, 0, 25, 177]
abbrev dktX11_set_1 : List UInt8 := dkwX11_set_1 ++ []
def dkwX11_set_0 : List UInt8 := [42, 43, 180, 0, 19, 181, 0, 19, 42, 43, 180, 0, 22, 181, 0, 22, 43, 180, 0, 9, 3, 42]
abbrev dktX11_set_0 : List UInt8 := dkwX11_set_0 ++ dktX11_set_1
theorem dksX11_set_0 : cX11_set.data.toList.drop 0 = dktX11_set_0 := by decide +kernel
theorem dksX11_set_1 : cX11_set.data.toList.drop 22 = dktX11_set_1 := dk_seg dksX11_set_0 22 rfl rfl
theorem dX11_set_0 : decode cX11_set 0 = .ok (.aload_n 0, 1) := dk_42 (dk_at dksX11_set_0 0 rfl rfl)
theorem dX11_set_1 : decode cX11_set 1 = .ok (.aload_n 1, 1) := dk_43 (dk_at dksX11_set_0 1 rfl rfl)
theorem dX11_set_2 : decode cX11_set 2 = .ok (.getfield 19, 3) := dk_180 0 19 (dk_at dksX11_set_0 2 rfl rfl)
theorem dX11_set_5 : decode cX11_set 5 = .ok (.putfield 19, 3) := dk_181 0 19 (dk_at dksX11_set_0 5 rfl rfl)
theorem dX11_set_8 : decode cX11_set 8 = .ok (.aload_n 0, 1) := dk_42 (dk_at dksX11_set_0 8 rfl rfl)
theorem dX11_set_9 : decode cX11_set 9 = .ok (.aload_n 1, 1) := dk_43 (dk_at dksX11_set_0 9 rfl rfl)
theorem dX11_set_10 : decode cX11_set 10 = .ok (.getfield 22, 3) := dk_180 0 22 (dk_at dksX11_set_0 10 rfl rfl)
theorem dX11_set_13 : decode cX11_set 13 = .ok (.putfield 22, 3) := dk_181 0 22 (dk_at dksX11_set_0 13 rfl rfl)
theorem dX11_set_16 : decode cX11_set 16 = .ok (.aload_n 1, 1) := dk_43 (dk_at dksX11_set_0 16 rfl rfl)
theorem dX11_set_17 : decode cX11_set 17 = .ok (.getfield 9, 3) := dk_180 0 9 (dk_at dksX11_set_0 17 rfl rfl)
theorem dX11_set_20 : decode cX11_set 20 = .ok (.iconst 0, 1) := dk_3 (dk_at dksX11_set_0 20 rfl rfl)
theorem dX11_set_21 : decode cX11_set 21 = .ok (.aload_n 0, 1) := dk_42 (dk_at dksX11_set_0 21 rfl rfl)
theorem dX11_set_22 : decode cX11_set 22 = .ok (.getfield 9, 3) := dk_180 0 9 (dk_at dksX11_set_1 0 rfl rfl)
theorem dX11_set_25 : decode cX11_set 25 = .ok (.iconst 0, 1) := dk_3 (dk_at dksX11_set_1 3 rfl rfl)
theorem dX11_set_26 : decode cX11_set 26 = .ok (.aload_n 0, 1) := dk_42 (dk_at dksX11_set_1 4 rfl rfl)
theorem dX11_set_27 : decode cX11_set 27 = .ok (.getfield 22, 3) := dk_180 0 22 (dk_at dksX11_set_1 5 rfl rfl)
theorem dX11_set_30 : decode cX11_set 30 = .ok (.invokestatic 25, 3) := dk_184 0 25 (dk_at dksX11_set_1 8 rfl rfl)
theorem dX11_set_33 : decode cX11_set 33 = .ok (.return_, 1) := dk_177 (dk_at dksX11_set_1 11 rfl rfl)
def dkwX11_passes_1 : List UInt8 := [184, 0, 25, 177]
abbrev dktX11_passes_1 : List UInt8 := dkwX11_passes_1 ++ []
def dkwX11_passes_0 : List UInt8 := [42, 89, 180, 0, 22, 4, 100, 181, 0, 22, 42, 180, 0, 9, 4, 42, 180, 0, 9, 3, 42, 180, 0, 22]
abbrev dktX11_passes_0 : List UInt8 := dkwX11_passes_0 ++ dktX11_passes_1
theorem dksX11_passes_0 : cX11_passes.data.toList.drop 0 = dktX11_passes_0 := by decide +kernel
theorem dksX11_passes_1 : cX11_passes.data.toList.drop 24 = dktX11_passes_1 := dk_seg dksX11_passes_0 24 rfl rfl
theorem dX11_passes_0 : decode cX11_passes 0 = .ok (.aload_n 0, 1) := dk_42 (dk_at dksX11_passes_0 0 rfl rfl)
theorem dX11_passes_1 : decode cX11_passes 1 = .ok (.dup, 1) := dk_89 (dk_at dksX11_passes_0 1 rfl rfl)
theorem dX11_passes_2 : decode cX11_passes 2 = .ok (.getfield 22, 3) := dk_180 0 22 (dk_at dksX11_passes_0 2 rfl rfl)
theorem dX11_passes_5 : decode cX11_passes 5 = .ok (.iconst 1, 1) := dk_4 (dk_at dksX11_passes_0 5 rfl rfl)
theorem dX11_passes_6 : decode cX11_passes 6 = .ok (.isub, 1) := dk_100 (dk_at dksX11_passes_0 6 rfl rfl)
theorem dX11_passes_7 : decode cX11_passes 7 = .ok (.putfield 22, 3) := dk_181 0 22 (dk_at dksX11_passes_0 7 rfl rfl)
theorem dX11_passes_10 : decode cX11_passes 10 = .ok (.aload_n 0, 1) := dk_42 (dk_at dksX11_passes_0 10 rfl rfl)
theorem dX11_passes_11 : decode cX11_passes 11 = .ok (.getfield 9, 3) := dk_180 0 9 (dk_at dksX11_passes_0 11 rfl rfl)
theorem dX11_passes_14 : decode cX11_passes 14 = .ok (.iconst 1, 1) := dk_4 (dk_at dksX11_passes_0 14 rfl rfl)
theorem dX11_passes_15 : decode cX11_passes 15 = .ok (.aload_n 0, 1) := dk_42 (dk_at dksX11_passes_0 15 rfl rfl)
theorem dX11_passes_16 : decode cX11_passes 16 = .ok (.getfield 9, 3) := dk_180 0 9 (dk_at dksX11_passes_0 16 rfl rfl)
theorem dX11_passes_19 : decode cX11_passes 19 = .ok (.iconst 0, 1) := dk_3 (dk_at dksX11_passes_0 19 rfl rfl)
theorem dX11_passes_20 : decode cX11_passes 20 = .ok (.aload_n 0, 1) := dk_42 (dk_at dksX11_passes_0 20 rfl rfl)
theorem dX11_passes_21 : decode cX11_passes 21 = .ok (.getfield 22, 3) := dk_180 0 22 (dk_at dksX11_passes_0 21 rfl rfl)
theorem dX11_passes_24 : decode cX11_passes 24 = .ok (.invokestatic 25, 3) := dk_184 0 25 (dk_at dksX11_passes_1 0 rfl rfl)
theorem dX11_passes_27 : decode cX11_passes 27 = .ok (.return_, 1) := dk_177 (dk_at dksX11_passes_1 3 rfl rfl)
def dkwX12_wasIn_1 : List UInt8 := [42, 180, 0, 15, 27, 164, 0, 7, 4, 167, 0, 4, 3, 172]
abbrev dktX12_wasIn_1 : List UInt8 := dkwX12_wasIn_1 ++ []
def dkwX12_wasIn_0 : List UInt8 := [42, 180, 0, 9, 2, 159, 0, 31, 42, 180, 0, 9, 27, 163, 0, 23, 42, 180, 0, 15, 2, 159, 0, 11]
abbrev dktX12_wasIn_0 : List UInt8 := dkwX12_wasIn_0 ++ dktX12_wasIn_1
theorem dksX12_wasIn_0 : cX12_wasIn.data.toList.drop 0 = dktX12_wasIn_0 := by decide +kernel
theorem dksX12_wasIn_1 : cX12_wasIn.data.toList.drop 24 = dktX12_wasIn_1 := dk_seg dksX12_wasIn_0 24 rfl rfl
theorem dX12_wasIn_0 : decode cX12_wasIn 0 = .ok (.aload_n 0, 1) := dk_42 (dk_at dksX12_wasIn_0 0 rfl rfl)
theorem dX12_wasIn_1 : decode cX12_wasIn 1 = .ok (.getfield 9, 3) := dk_180 0 9 (dk_at dksX12_wasIn_0 1 rfl rfl)
theorem dX12_wasIn_4 : decode cX12_wasIn 4 = .ok (.iconst (-1), 1) := dk_2 (dk_at dksX12_wasIn_0 4 rfl rfl)
theorem dX12_wasIn_5 : decode cX12_wasIn 5 = .ok (.if_icmp .eq 31, 3) := dk_159 0 31 (dk_at dksX12_wasIn_0 5 rfl rfl)
theorem dX12_wasIn_8 : decode cX12_wasIn 8 = .ok (.aload_n 0, 1) := dk_42 (dk_at dksX12_wasIn_0 8 rfl rfl)
theorem dX12_wasIn_9 : decode cX12_wasIn 9 = .ok (.getfield 9, 3) := dk_180 0 9 (dk_at dksX12_wasIn_0 9 rfl rfl)
theorem dX12_wasIn_12 : decode cX12_wasIn 12 = .ok (.iload_n 1, 1) := dk_27 (dk_at dksX12_wasIn_0 12 rfl rfl)
theorem dX12_wasIn_13 : decode cX12_wasIn 13 = .ok (.if_icmp .gt 23, 3) := dk_163 0 23 (dk_at dksX12_wasIn_0 13 rfl rfl)
theorem dX12_wasIn_16 : decode cX12_wasIn 16 = .ok (.aload_n 0, 1) := dk_42 (dk_at dksX12_wasIn_0 16 rfl rfl)
theorem dX12_wasIn_17 : decode cX12_wasIn 17 = .ok (.getfield 15, 3) := dk_180 0 15 (dk_at dksX12_wasIn_0 17 rfl rfl)
theorem dX12_wasIn_20 : decode cX12_wasIn 20 = .ok (.iconst (-1), 1) := dk_2 (dk_at dksX12_wasIn_0 20 rfl rfl)
theorem dX12_wasIn_21 : decode cX12_wasIn 21 = .ok (.if_icmp .eq 11, 3) := dk_159 0 11 (dk_at dksX12_wasIn_0 21 rfl rfl)
theorem dX12_wasIn_24 : decode cX12_wasIn 24 = .ok (.aload_n 0, 1) := dk_42 (dk_at dksX12_wasIn_1 0 rfl rfl)
theorem dX12_wasIn_25 : decode cX12_wasIn 25 = .ok (.getfield 15, 3) := dk_180 0 15 (dk_at dksX12_wasIn_1 1 rfl rfl)
theorem dX12_wasIn_28 : decode cX12_wasIn 28 = .ok (.iload_n 1, 1) := dk_27 (dk_at dksX12_wasIn_1 4 rfl rfl)
theorem dX12_wasIn_29 : decode cX12_wasIn 29 = .ok (.if_icmp .le 7, 3) := dk_164 0 7 (dk_at dksX12_wasIn_1 5 rfl rfl)
theorem dX12_wasIn_32 : decode cX12_wasIn 32 = .ok (.iconst 1, 1) := dk_4 (dk_at dksX12_wasIn_1 8 rfl rfl)
theorem dX12_wasIn_33 : decode cX12_wasIn 33 = .ok (.goto 4, 3) := dk_167 0 4 (dk_at dksX12_wasIn_1 9 rfl rfl)
theorem dX12_wasIn_36 : decode cX12_wasIn 36 = .ok (.iconst 0, 1) := dk_3 (dk_at dksX12_wasIn_1 12 rfl rfl)
theorem dX12_wasIn_37 : decode cX12_wasIn 37 = .ok (.ireturn, 1) := dk_172 (dk_at dksX12_wasIn_1 13 rfl rfl)
def dkwX12_init_1 : List UInt8 := [181, 0, 21, 42, 43, 181, 0, 25, 177]
abbrev dktX12_init_1 : List UInt8 := dkwX12_init_1 ++ []
def dkwX12_init_0 : List UInt8 := [42, 183, 0, 3, 42, 2, 181, 0, 9, 42, 2, 181, 0, 15, 42, 2, 181, 0, 18, 42, 16, 100, 188, 4]
abbrev dktX12_init_0 : List UInt8 := dkwX12_init_0 ++ dktX12_init_1
theorem dksX12_init_0 : cX12_init.data.toList.drop 0 = dktX12_init_0 := by decide +kernel
theorem dksX12_init_1 : cX12_init.data.toList.drop 24 = dktX12_init_1 := dk_seg dksX12_init_0 24 rfl rfl
theorem dX12_init_0 : decode cX12_init 0 = .ok (.aload_n 0, 1) := dk_42 (dk_at dksX12_init_0 0 rfl rfl)
theorem dX12_init_1 : decode cX12_init 1 = .ok (.invokespecial 3, 3) := dk_183 0 3 (dk_at dksX12_init_0 1 rfl rfl)
theorem dX12_init_4 : decode cX12_init 4 = .ok (.aload_n 0, 1) := dk_42 (dk_at dksX12_init_0 4 rfl rfl)
theorem dX12_init_5 : decode cX12_init 5 = .ok (.iconst (-1), 1) := dk_2 (dk_at dksX12_init_0 5 rfl rfl)
theorem dX12_init_6 : decode cX12_init 6 = .ok (.putfield 9, 3) := dk_181 0 9 (dk_at dksX12_init_0 6 rfl rfl)
theorem dX12_init_9 : decode cX12_init 9 = .ok (.aload_n 0, 1) := dk_42 (dk_at dksX12_init_0 9 rfl rfl)
theorem dX12_init_10 : decode cX12_init 10 = .ok (.iconst (-1), 1) := dk_2 (dk_at dksX12_init_0 10 rfl rfl)
theorem dX12_init_11 : decode cX12_init 11 = .ok (.putfield 15, 3) := dk_181 0 15 (dk_at dksX12_init_0 11 rfl rfl)
theorem dX12_init_14 : decode cX12_init 14 = .ok (.aload_n 0, 1) := dk_42 (dk_at dksX12_init_0 14 rfl rfl)
theorem dX12_init_15 : decode cX12_init 15 = .ok (.iconst (-1), 1) := dk_2 (dk_at dksX12_init_0 15 rfl rfl)
theorem dX12_init_16 : decode cX12_init 16 = .ok (.putfield 18, 3) := dk_181 0 18 (dk_at dksX12_init_0 16 rfl rfl)
theorem dX12_init_19 : decode cX12_init 19 = .ok (.aload_n 0, 1) := dk_42 (dk_at dksX12_init_0 19 rfl rfl)
theorem dX12_init_20 : decode cX12_init 20 = .ok (.bipush 100, 2) := dk_16 100 (dk_at dksX12_init_0 20 rfl rfl)
theorem dX12_init_22 : decode cX12_init 22 = .ok (.newarray .boolean, 2) := dk_188_4 (dk_at dksX12_init_0 22 rfl rfl)
theorem dX12_init_24 : decode cX12_init 24 = .ok (.putfield 21, 3) := dk_181 0 21 (dk_at dksX12_init_1 0 rfl rfl)
theorem dX12_init_27 : decode cX12_init 27 = .ok (.aload_n 0, 1) := dk_42 (dk_at dksX12_init_1 3 rfl rfl)
theorem dX12_init_28 : decode cX12_init 28 = .ok (.aload_n 1, 1) := dk_43 (dk_at dksX12_init_1 4 rfl rfl)
theorem dX12_init_29 : decode cX12_init 29 = .ok (.putfield 25, 3) := dk_181 0 25 (dk_at dksX12_init_1 5 rfl rfl)
theorem dX12_init_32 : decode cX12_init 32 = .ok (.return_, 1) := dk_177 (dk_at dksX12_init_1 8 rfl rfl)
def dkwX12_set_1 : List UInt8 := [42, 43, 180, 0, 18, 181, 0, 18, 42, 43, 180, 0, 32, 181, 0, 32, 177]
abbrev dktX12_set_1 : List UInt8 := dkwX12_set_1 ++ []
def dkwX12_set_0 : List UInt8 := [42, 43, 180, 0, 29, 181, 0, 29, 42, 43, 180, 0, 9, 181, 0, 9, 42, 43, 180, 0, 15, 181, 0, 15]
abbrev dktX12_set_0 : List UInt8 := dkwX12_set_0 ++ dktX12_set_1
theorem dksX12_set_0 : cX12_set.data.toList.drop 0 = dktX12_set_0 := by decide +kernel
theorem dksX12_set_1 : cX12_set.data.toList.drop 24 = dktX12_set_1 := dk_seg dksX12_set_0 24 rfl rfl
theorem dX12_set_0 : decode cX12_set 0 = .ok (.aload_n 0, 1) := dk_42 (dk_at dksX12_set_0 0 rfl rfl)
theorem dX12_set_1 : decode cX12_set 1 = .ok (.aload_n 1, 1) := dk_43 (dk_at dksX12_set_0 1 rfl rfl)
theorem dX12_set_2 : decode cX12_set 2 = .ok (.getfield 29, 3) := dk_180 0 29 (dk_at dksX12_set_0 2 rfl rfl)
theorem dX12_set_5 : decode cX12_set 5 = .ok (.putfield 29, 3) := dk_181 0 29 (dk_at dksX12_set_0 5 rfl rfl)
theorem dX12_set_8 : decode cX12_set 8 = .ok (.aload_n 0, 1) := dk_42 (dk_at dksX12_set_0 8 rfl rfl)
theorem dX12_set_9 : decode cX12_set 9 = .ok (.aload_n 1, 1) := dk_43 (dk_at dksX12_set_0 9 rfl rfl)
theorem dX12_set_10 : decode cX12_set 10 = .ok (.getfield 9, 3) := dk_180 0 9 (dk_at dksX12_set_0 10 rfl rfl)
theorem dX12_set_13 : decode cX12_set 13 = .ok (.putfield 9, 3) := dk_181 0 9 (dk_at dksX12_set_0 13 rfl rfl)
theorem dX12_set_16 : decode cX12_set 16 = .ok (.aload_n 0, 1) := dk_42 (dk_at dksX12_set_0 16 rfl rfl)
theorem dX12_set_17 : decode cX12_set 17 = .ok (.aload_n 1, 1) := dk_43 (dk_at dksX12_set_0 17 rfl rfl)
theorem dX12_set_18 : decode cX12_set 18 = .ok (.getfield 15, 3) := dk_180 0 15 (dk_at dksX12_set_0 18 rfl rfl)
theorem dX12_set_21 : decode cX12_set 21 = .ok (.putfield 15, 3) := dk_181 0 15 (dk_at dksX12_set_0 21 rfl rfl)
theorem dX12_set_24 : decode cX12_set 24 = .ok (.aload_n 0, 1) := dk_42 (dk_at dksX12_set_1 0 rfl rfl)
theorem dX12_set_25 : decode cX12_set 25 = .ok (.aload_n 1, 1) := dk_43 (dk_at dksX12_set_1 1 rfl rfl)
theorem dX12_set_26 : decode cX12_set 26 = .ok (.getfield 18, 3) := dk_180 0 18 (dk_at dksX12_set_1 2 rfl rfl)
theorem dX12_set_29 : decode cX12_set 29 = .ok (.putfield 18, 3) := dk_181 0 18 (dk_at dksX12_set_1 5 rfl rfl)
theorem dX12_set_32 : decode cX12_set 32 = .ok (.aload_n 0, 1) := dk_42 (dk_at dksX12_set_1 8 rfl rfl)
theorem dX12_set_33 : decode cX12_set 33 = .ok (.aload_n 1, 1) := dk_43 (dk_at dksX12_set_1 9 rfl rfl)
theorem dX12_set_34 : decode cX12_set 34 = .ok (.getfield 32, 3) := dk_180 0 32 (dk_at dksX12_set_1 10 rfl rfl)
theorem dX12_set_37 : decode cX12_set 37 = .ok (.putfield 32, 3) := dk_181 0 32 (dk_at dksX12_set_1 13 rfl rfl)
theorem dX12_set_40 : decode cX12_set 40 = .ok (.return_, 1) := dk_177 (dk_at dksX12_set_1 16 rfl rfl)
def dkwX12_isIn_0 : List UInt8 := [42, 180, 0, 29, 5, 159, 0, 11, 42, 180, 0, 29, 6, 160, 0, 7, 4, 167, 0, 4, 3, 172]
abbrev dktX12_isIn_0 : List UInt8 := dkwX12_isIn_0 ++ []
theorem dksX12_isIn_0 : cX12_isIn.data.toList.drop 0 = dktX12_isIn_0 := by decide +kernel
theorem dX12_isIn_0 : decode cX12_isIn 0 = .ok (.aload_n 0, 1) := dk_42 (dk_at dksX12_isIn_0 0 rfl rfl)
theorem dX12_isIn_1 : decode cX12_isIn 1 = .ok (.getfield 29, 3) := dk_180 0 29 (dk_at dksX12_isIn_0 1 rfl rfl)
theorem dX12_isIn_4 : decode cX12_isIn 4 = .ok (.iconst 2, 1) := dk_5 (dk_at dksX12_isIn_0 4 rfl rfl)
theorem dX12_isIn_5 : decode cX12_isIn 5 = .ok (.if_icmp .eq 11, 3) := dk_159 0 11 (dk_at dksX12_isIn_0 5 rfl rfl)
theorem dX12_isIn_8 : decode cX12_isIn 8 = .ok (.aload_n 0, 1) := dk_42 (dk_at dksX12_isIn_0 8 rfl rfl)
theorem dX12_isIn_9 : decode cX12_isIn 9 = .ok (.getfield 29, 3) := dk_180 0 29 (dk_at dksX12_isIn_0 9 rfl rfl)
theorem dX12_isIn_12 : decode cX12_isIn 12 = .ok (.iconst 3, 1) := dk_6 (dk_at dksX12_isIn_0 12 rfl rfl)
theorem dX12_isIn_13 : decode cX12_isIn 13 = .ok (.if_icmp .ne 7, 3) := dk_160 0 7 (dk_at dksX12_isIn_0 13 rfl rfl)
theorem dX12_isIn_16 : decode cX12_isIn 16 = .ok (.iconst 1, 1) := dk_4 (dk_at dksX12_isIn_0 16 rfl rfl)
theorem dX12_isIn_17 : decode cX12_isIn 17 = .ok (.goto 4, 3) := dk_167 0 4 (dk_at dksX12_isIn_0 17 rfl rfl)
theorem dX12_isIn_20 : decode cX12_isIn 20 = .ok (.iconst 0, 1) := dk_3 (dk_at dksX12_isIn_0 20 rfl rfl)
theorem dX12_isIn_21 : decode cX12_isIn 21 = .ok (.ireturn, 1) := dk_172 (dk_at dksX12_isIn_0 21 rfl rfl)
def dkwX13_init_0 : List UInt8 := [42, 183, 0, 1, 42, 27, 181, 0, 7, 42, 28, 181, 0, 13, 177]
abbrev dktX13_init_0 : List UInt8 := dkwX13_init_0 ++ []
theorem dksX13_init_0 : cX13_init.data.toList.drop 0 = dktX13_init_0 := by decide +kernel
theorem dX13_init_0 : decode cX13_init 0 = .ok (.aload_n 0, 1) := dk_42 (dk_at dksX13_init_0 0 rfl rfl)
theorem dX13_init_1 : decode cX13_init 1 = .ok (.invokespecial 1, 3) := dk_183 0 1 (dk_at dksX13_init_0 1 rfl rfl)
theorem dX13_init_4 : decode cX13_init 4 = .ok (.aload_n 0, 1) := dk_42 (dk_at dksX13_init_0 4 rfl rfl)
theorem dX13_init_5 : decode cX13_init 5 = .ok (.iload_n 1, 1) := dk_27 (dk_at dksX13_init_0 5 rfl rfl)
theorem dX13_init_6 : decode cX13_init 6 = .ok (.putfield 7, 3) := dk_181 0 7 (dk_at dksX13_init_0 6 rfl rfl)
theorem dX13_init_9 : decode cX13_init 9 = .ok (.aload_n 0, 1) := dk_42 (dk_at dksX13_init_0 9 rfl rfl)
theorem dX13_init_10 : decode cX13_init 10 = .ok (.iload_n 2, 1) := dk_28 (dk_at dksX13_init_0 10 rfl rfl)
theorem dX13_init_11 : decode cX13_init 11 = .ok (.putfield 13, 3) := dk_181 0 13 (dk_at dksX13_init_0 11 rfl rfl)
theorem dX13_init_14 : decode cX13_init 14 = .ok (.return_, 1) := dk_177 (dk_at dksX13_init_0 14 rfl rfl)
def dkwX13_set_0 : List UInt8 := [42, 43, 180, 0, 16, 181, 0, 16, 42, 43, 180, 0, 19, 181, 0, 19, 177]
abbrev dktX13_set_0 : List UInt8 := dkwX13_set_0 ++ []
theorem dksX13_set_0 : cX13_set.data.toList.drop 0 = dktX13_set_0 := by decide +kernel
theorem dX13_set_0 : decode cX13_set 0 = .ok (.aload_n 0, 1) := dk_42 (dk_at dksX13_set_0 0 rfl rfl)
theorem dX13_set_1 : decode cX13_set 1 = .ok (.aload_n 1, 1) := dk_43 (dk_at dksX13_set_0 1 rfl rfl)
theorem dX13_set_2 : decode cX13_set 2 = .ok (.getfield 16, 3) := dk_180 0 16 (dk_at dksX13_set_0 2 rfl rfl)
theorem dX13_set_5 : decode cX13_set 5 = .ok (.putfield 16, 3) := dk_181 0 16 (dk_at dksX13_set_0 5 rfl rfl)
theorem dX13_set_8 : decode cX13_set 8 = .ok (.aload_n 0, 1) := dk_42 (dk_at dksX13_set_0 8 rfl rfl)
theorem dX13_set_9 : decode cX13_set 9 = .ok (.aload_n 1, 1) := dk_43 (dk_at dksX13_set_0 9 rfl rfl)
theorem dX13_set_10 : decode cX13_set 10 = .ok (.getfield 19, 3) := dk_180 0 19 (dk_at dksX13_set_0 10 rfl rfl)
theorem dX13_set_13 : decode cX13_set 13 = .ok (.putfield 19, 3) := dk_181 0 19 (dk_at dksX13_set_0 13 rfl rfl)
theorem dX13_set_16 : decode cX13_set 16 = .ok (.return_, 1) := dk_177 (dk_at dksX13_set_0 16 rfl rfl)
theorem dX14_kind_0 : decode cX14_kind 0 = .ok (.iconst 3, 1) := by decide +kernel
theorem dX14_kind_1 : decode cX14_kind 1 = .ok (.ireturn, 1) := by decide +kernel
theorem dX14_holder_0 : decode cX14_holder 0 = .ok (.aload_n 0, 1) := by decide +kernel
theorem dX14_holder_1 : decode cX14_holder 1 = .ok (.getfield 7, 3) := by decide +kernel
theorem dX14_holder_4 : decode cX14_holder 4 = .ok (.ireturn, 1) := by decide +kernel
theorem dX14_isFarm_0 : decode cX14_isFarm 0 = .ok (.iconst 1, 1) := by decide +kernel
theorem dX14_isFarm_1 : decode cX14_isFarm 1 = .ok (.ireturn, 1) := by decide +kernel
theorem dX14_paid_0 : decode cX14_paid 0 = .ok (.aload_n 0, 1) := by decide +kernel
theorem dX14_paid_1 : decode cX14_paid 1 = .ok (.getfield 13, 3) := by decide +kernel
theorem dX14_paid_4 : decode cX14_paid 4 = .ok (.ireturn, 1) := by decide +kernel
def dkwX14_init_0 : List UInt8 := [42, 183, 0, 1, 42, 27, 181, 0, 7, 42, 28, 181, 0, 13, 42, 29, 181, 0, 16, 177]
abbrev dktX14_init_0 : List UInt8 := dkwX14_init_0 ++ []
theorem dksX14_init_0 : cX14_init.data.toList.drop 0 = dktX14_init_0 := by decide +kernel
theorem dX14_init_0 : decode cX14_init 0 = .ok (.aload_n 0, 1) := dk_42 (dk_at dksX14_init_0 0 rfl rfl)
theorem dX14_init_1 : decode cX14_init 1 = .ok (.invokespecial 1, 3) := dk_183 0 1 (dk_at dksX14_init_0 1 rfl rfl)
theorem dX14_init_4 : decode cX14_init 4 = .ok (.aload_n 0, 1) := dk_42 (dk_at dksX14_init_0 4 rfl rfl)
theorem dX14_init_5 : decode cX14_init 5 = .ok (.iload_n 1, 1) := dk_27 (dk_at dksX14_init_0 5 rfl rfl)
theorem dX14_init_6 : decode cX14_init 6 = .ok (.putfield 7, 3) := dk_181 0 7 (dk_at dksX14_init_0 6 rfl rfl)
theorem dX14_init_9 : decode cX14_init 9 = .ok (.aload_n 0, 1) := dk_42 (dk_at dksX14_init_0 9 rfl rfl)
theorem dX14_init_10 : decode cX14_init 10 = .ok (.iload_n 2, 1) := dk_28 (dk_at dksX14_init_0 10 rfl rfl)
theorem dX14_init_11 : decode cX14_init 11 = .ok (.putfield 13, 3) := dk_181 0 13 (dk_at dksX14_init_0 11 rfl rfl)
theorem dX14_init_14 : decode cX14_init 14 = .ok (.aload_n 0, 1) := dk_42 (dk_at dksX14_init_0 14 rfl rfl)
theorem dX14_init_15 : decode cX14_init 15 = .ok (.iload_n 3, 1) := dk_29 (dk_at dksX14_init_0 15 rfl rfl)
theorem dX14_init_16 : decode cX14_init 16 = .ok (.putfield 16, 3) := dk_181 0 16 (dk_at dksX14_init_0 16 rfl rfl)
theorem dX14_init_19 : decode cX14_init 19 = .ok (.return_, 1) := dk_177 (dk_at dksX14_init_0 19 rfl rfl)
def dkwX14_isBy_0 : List UInt8 := [42, 180, 0, 16, 27, 160, 0, 7, 4, 167, 0, 4, 3, 172]
abbrev dktX14_isBy_0 : List UInt8 := dkwX14_isBy_0 ++ []
theorem dksX14_isBy_0 : cX14_isBy.data.toList.drop 0 = dktX14_isBy_0 := by decide +kernel
theorem dX14_isBy_0 : decode cX14_isBy 0 = .ok (.aload_n 0, 1) := dk_42 (dk_at dksX14_isBy_0 0 rfl rfl)
theorem dX14_isBy_1 : decode cX14_isBy 1 = .ok (.getfield 16, 3) := dk_180 0 16 (dk_at dksX14_isBy_0 1 rfl rfl)
theorem dX14_isBy_4 : decode cX14_isBy 4 = .ok (.iload_n 1, 1) := dk_27 (dk_at dksX14_isBy_0 4 rfl rfl)
theorem dX14_isBy_5 : decode cX14_isBy 5 = .ok (.if_icmp .ne 7, 3) := dk_160 0 7 (dk_at dksX14_isBy_0 5 rfl rfl)
theorem dX14_isBy_8 : decode cX14_isBy 8 = .ok (.iconst 1, 1) := dk_4 (dk_at dksX14_isBy_0 8 rfl rfl)
theorem dX14_isBy_9 : decode cX14_isBy 9 = .ok (.goto 4, 3) := dk_167 0 4 (dk_at dksX14_isBy_0 9 rfl rfl)
theorem dX14_isBy_12 : decode cX14_isBy 12 = .ok (.iconst 0, 1) := dk_3 (dk_at dksX14_isBy_0 12 rfl rfl)
theorem dX14_isBy_13 : decode cX14_isBy 13 = .ok (.ireturn, 1) := dk_172 (dk_at dksX14_isBy_0 13 rfl rfl)
theorem dX15_kind_0 : decode cX15_kind 0 = .ok (.iconst 5, 1) := by decide +kernel
theorem dX15_kind_1 : decode cX15_kind 1 = .ok (.ireturn, 1) := by decide +kernel
def dkwX15_init_0 : List UInt8 := [42, 27, 28, 2, 183, 0, 3, 177]
abbrev dktX15_init_0 : List UInt8 := dkwX15_init_0 ++ []
theorem dksX15_init_0 : cX15_init.data.toList.drop 0 = dktX15_init_0 := by decide +kernel
theorem dX15_init_0 : decode cX15_init 0 = .ok (.aload_n 0, 1) := dk_42 (dk_at dksX15_init_0 0 rfl rfl)
theorem dX15_init_1 : decode cX15_init 1 = .ok (.iload_n 1, 1) := dk_27 (dk_at dksX15_init_0 1 rfl rfl)
theorem dX15_init_2 : decode cX15_init 2 = .ok (.iload_n 2, 1) := dk_28 (dk_at dksX15_init_0 2 rfl rfl)
theorem dX15_init_3 : decode cX15_init 3 = .ok (.iconst (-1), 1) := dk_2 (dk_at dksX15_init_0 3 rfl rfl)
theorem dX15_init_4 : decode cX15_init 4 = .ok (.invokespecial 3, 3) := dk_183 0 3 (dk_at dksX15_init_0 4 rfl rfl)
theorem dX15_init_7 : decode cX15_init 7 = .ok (.return_, 1) := dk_177 (dk_at dksX15_init_0 7 rfl rfl)
theorem dX15_isBy_0 : decode cX15_isBy 0 = .ok (.iconst 0, 1) := by decide +kernel
theorem dX15_isBy_1 : decode cX15_isBy 1 = .ok (.ireturn, 1) := by decide +kernel
theorem dX16_kind_0 : decode cX16_kind 0 = .ok (.iconst 4, 1) := by decide +kernel
theorem dX16_kind_1 : decode cX16_kind 1 = .ok (.ireturn, 1) := by decide +kernel
theorem dX16_holder_0 : decode cX16_holder 0 = .ok (.aload_n 0, 1) := by decide +kernel
theorem dX16_holder_1 : decode cX16_holder 1 = .ok (.getfield 7, 3) := by decide +kernel
theorem dX16_holder_4 : decode cX16_holder 4 = .ok (.ireturn, 1) := by decide +kernel
theorem dX16_isPasture_0 : decode cX16_isPasture 0 = .ok (.iconst 1, 1) := by decide +kernel
theorem dX16_isPasture_1 : decode cX16_isPasture 1 = .ok (.ireturn, 1) := by decide +kernel
def dkwX16_init_0 : List UInt8 := [42, 183, 0, 1, 42, 27, 181, 0, 7, 177]
abbrev dktX16_init_0 : List UInt8 := dkwX16_init_0 ++ []
theorem dksX16_init_0 : cX16_init.data.toList.drop 0 = dktX16_init_0 := by decide +kernel
theorem dX16_init_0 : decode cX16_init 0 = .ok (.aload_n 0, 1) := dk_42 (dk_at dksX16_init_0 0 rfl rfl)
theorem dX16_init_1 : decode cX16_init 1 = .ok (.invokespecial 1, 3) := dk_183 0 1 (dk_at dksX16_init_0 1 rfl rfl)
theorem dX16_init_4 : decode cX16_init 4 = .ok (.aload_n 0, 1) := dk_42 (dk_at dksX16_init_0 4 rfl rfl)
theorem dX16_init_5 : decode cX16_init 5 = .ok (.iload_n 1, 1) := dk_27 (dk_at dksX16_init_0 5 rfl rfl)
theorem dX16_init_6 : decode cX16_init 6 = .ok (.putfield 7, 3) := dk_181 0 7 (dk_at dksX16_init_0 6 rfl rfl)
theorem dX16_init_9 : decode cX16_init 9 = .ok (.return_, 1) := dk_177 (dk_at dksX16_init_0 9 rfl rfl)
theorem dX16_ends_0 : decode cX16_ends 0 = .ok (.iconst 1, 1) := by decide +kernel
theorem dX16_ends_1 : decode cX16_ends 1 = .ok (.ireturn, 1) := by decide +kernel
theorem dX17_kind_0 : decode cX17_kind 0 = .ok (.bipush 6, 2) := by decide +kernel
theorem dX17_kind_2 : decode cX17_kind 2 = .ok (.ireturn, 1) := by decide +kernel
def dkwX17_init_0 : List UInt8 := [42, 27, 183, 0, 1, 177]
abbrev dktX17_init_0 : List UInt8 := dkwX17_init_0 ++ []
theorem dksX17_init_0 : cX17_init.data.toList.drop 0 = dktX17_init_0 := by decide +kernel
theorem dX17_init_0 : decode cX17_init 0 = .ok (.aload_n 0, 1) := dk_42 (dk_at dksX17_init_0 0 rfl rfl)
theorem dX17_init_1 : decode cX17_init 1 = .ok (.iload_n 1, 1) := dk_27 (dk_at dksX17_init_0 1 rfl rfl)
theorem dX17_init_2 : decode cX17_init 2 = .ok (.invokespecial 1, 3) := dk_183 0 1 (dk_at dksX17_init_0 2 rfl rfl)
theorem dX17_init_5 : decode cX17_init 5 = .ok (.return_, 1) := dk_177 (dk_at dksX17_init_0 5 rfl rfl)
theorem dX17_ends_0 : decode cX17_ends 0 = .ok (.iconst 0, 1) := by decide +kernel
theorem dX17_ends_1 : decode cX17_ends 1 = .ok (.ireturn, 1) := by decide +kernel
def dkwX19_init_0 : List UInt8 := [42, 183, 0, 3, 42, 16, 8, 189, 0, 9, 181, 0, 11, 177]
abbrev dktX19_init_0 : List UInt8 := dkwX19_init_0 ++ []
theorem dksX19_init_0 : cX19_init.data.toList.drop 0 = dktX19_init_0 := by decide +kernel
theorem dX19_init_0 : decode cX19_init 0 = .ok (.aload_n 0, 1) := dk_42 (dk_at dksX19_init_0 0 rfl rfl)
theorem dX19_init_1 : decode cX19_init 1 = .ok (.invokespecial 3, 3) := dk_183 0 3 (dk_at dksX19_init_0 1 rfl rfl)
theorem dX19_init_4 : decode cX19_init 4 = .ok (.aload_n 0, 1) := dk_42 (dk_at dksX19_init_0 4 rfl rfl)
theorem dX19_init_5 : decode cX19_init 5 = .ok (.bipush 8, 2) := dk_16 8 (dk_at dksX19_init_0 5 rfl rfl)
theorem dX19_init_7 : decode cX19_init 7 = .ok (.anewarray 9, 3) := dk_189 0 9 (dk_at dksX19_init_0 7 rfl rfl)
theorem dX19_init_10 : decode cX19_init 10 = .ok (.putfield 11, 3) := dk_181 0 11 (dk_at dksX19_init_0 10 rfl rfl)
theorem dX19_init_13 : decode cX19_init 13 = .ok (.return_, 1) := dk_177 (dk_at dksX19_init_0 13 rfl rfl)
def dkwX20_init_0 : List UInt8 := [42, 1, 1, 3, 3, 183, 0, 1, 42, 27, 181, 0, 7, 42, 28, 181, 0, 13, 177]
abbrev dktX20_init_0 : List UInt8 := dkwX20_init_0 ++ []
theorem dksX20_init_0 : cX20_init.data.toList.drop 0 = dktX20_init_0 := by decide +kernel
theorem dX20_init_0 : decode cX20_init 0 = .ok (.aload_n 0, 1) := dk_42 (dk_at dksX20_init_0 0 rfl rfl)
theorem dX20_init_1 : decode cX20_init 1 = .ok (.aconst_null, 1) := dk_1 (dk_at dksX20_init_0 1 rfl rfl)
theorem dX20_init_2 : decode cX20_init 2 = .ok (.aconst_null, 1) := dk_1 (dk_at dksX20_init_0 2 rfl rfl)
theorem dX20_init_3 : decode cX20_init 3 = .ok (.iconst 0, 1) := dk_3 (dk_at dksX20_init_0 3 rfl rfl)
theorem dX20_init_4 : decode cX20_init 4 = .ok (.iconst 0, 1) := dk_3 (dk_at dksX20_init_0 4 rfl rfl)
theorem dX20_init_5 : decode cX20_init 5 = .ok (.invokespecial 1, 3) := dk_183 0 1 (dk_at dksX20_init_0 5 rfl rfl)
theorem dX20_init_8 : decode cX20_init 8 = .ok (.aload_n 0, 1) := dk_42 (dk_at dksX20_init_0 8 rfl rfl)
theorem dX20_init_9 : decode cX20_init 9 = .ok (.iload_n 1, 1) := dk_27 (dk_at dksX20_init_0 9 rfl rfl)
theorem dX20_init_10 : decode cX20_init 10 = .ok (.putfield 7, 3) := dk_181 0 7 (dk_at dksX20_init_0 10 rfl rfl)
theorem dX20_init_13 : decode cX20_init 13 = .ok (.aload_n 0, 1) := dk_42 (dk_at dksX20_init_0 13 rfl rfl)
theorem dX20_init_14 : decode cX20_init 14 = .ok (.iload_n 2, 1) := dk_28 (dk_at dksX20_init_0 14 rfl rfl)
theorem dX20_init_15 : decode cX20_init 15 = .ok (.putfield 13, 3) := dk_181 0 13 (dk_at dksX20_init_0 15 rfl rfl)
theorem dX20_init_18 : decode cX20_init 18 = .ok (.return_, 1) := dk_177 (dk_at dksX20_init_0 18 rfl rfl)
theorem dX21_init_0 : decode cX21_init 0 = .ok (.aload_n 0, 1) := by decide +kernel
theorem dX21_init_1 : decode cX21_init 1 = .ok (.invokespecial 1, 3) := by decide +kernel
theorem dX21_init_4 : decode cX21_init 4 = .ok (.return_, 1) := by decide +kernel
theorem dX22_of_0 : decode cX22_of 0 = .ok (.aload_n 0, 1) := by decide +kernel
theorem dX22_of_1 : decode cX22_of 1 = .ok (.getfield 7, 3) := by decide +kernel
theorem dX22_of_4 : decode cX22_of 4 = .ok (.ireturn, 1) := by decide +kernel
def dkwX22_init_0 : List UInt8 := [42, 183, 0, 1, 42, 27, 181, 0, 7, 177]
abbrev dktX22_init_0 : List UInt8 := dkwX22_init_0 ++ []
theorem dksX22_init_0 : cX22_init.data.toList.drop 0 = dktX22_init_0 := by decide +kernel
theorem dX22_init_0 : decode cX22_init 0 = .ok (.aload_n 0, 1) := dk_42 (dk_at dksX22_init_0 0 rfl rfl)
theorem dX22_init_1 : decode cX22_init 1 = .ok (.invokespecial 1, 3) := dk_183 0 1 (dk_at dksX22_init_0 1 rfl rfl)
theorem dX22_init_4 : decode cX22_init 4 = .ok (.aload_n 0, 1) := dk_42 (dk_at dksX22_init_0 4 rfl rfl)
theorem dX22_init_5 : decode cX22_init 5 = .ok (.iload_n 1, 1) := dk_27 (dk_at dksX22_init_0 5 rfl rfl)
theorem dX22_init_6 : decode cX22_init 6 = .ok (.putfield 7, 3) := dk_181 0 7 (dk_at dksX22_init_0 6 rfl rfl)
theorem dX22_init_9 : decode cX22_init 9 = .ok (.return_, 1) := dk_177 (dk_at dksX22_init_0 9 rfl rfl)
def dkwX23_of_3 : List UInt8 := [160, 0, 10, 43, 180, 0, 24, 167, 0, 7, 43, 180, 0, 27, 172]
abbrev dktX23_of_3 : List UInt8 := dkwX23_of_3 ++ []
def dkwX23_of_2 : List UInt8 := [43, 180, 0, 15, 172, 43, 180, 0, 15, 16, 52, 108, 172, 43, 180, 0, 21, 172, 42, 180, 0, 9, 16, 105]
abbrev dktX23_of_2 : List UInt8 := dkwX23_of_2 ++ dktX23_of_3
def dkwX23_of_1 : List UInt8 := [171, 0, 0, 0, 0, 0, 0, 54, 0, 0, 0, 3, 0, 0, 0, 112, 0, 0, 0, 49, 0, 0, 0, 119, 0, 0, 0, 36, 0, 0, 0, 121, 0, 0, 0, 41]
abbrev dktX23_of_1 : List UInt8 := dkwX23_of_1 ++ dktX23_of_2
def dkwX23_of_0 : List UInt8 := [42, 180, 0, 9]
abbrev dktX23_of_0 : List UInt8 := dkwX23_of_0 ++ dktX23_of_1
theorem dksX23_of_0 : cX23_of.data.toList.drop 0 = dktX23_of_0 := by decide +kernel
theorem dksX23_of_1 : cX23_of.data.toList.drop 4 = dktX23_of_1 := dk_seg dksX23_of_0 4 rfl rfl
theorem dksX23_of_2 : cX23_of.data.toList.drop 40 = dktX23_of_2 := dk_seg dksX23_of_1 36 rfl rfl
theorem dksX23_of_3 : cX23_of.data.toList.drop 64 = dktX23_of_3 := dk_seg dksX23_of_2 24 rfl rfl
theorem dX23_of_0 : decode cX23_of 0 = .ok (.aload_n 0, 1) := dk_42 (dk_at dksX23_of_0 0 rfl rfl)
theorem dX23_of_1 : decode cX23_of 1 = .ok (.getfield 9, 3) := dk_180 0 9 (dk_at dksX23_of_0 1 rfl rfl)
theorem dX23_of_4 : decode cX23_of 4 = .ok (.lookupswitch 54 #[(112, 49), (119, 36), (121, 41)], 36) := by decide +kernel
theorem dX23_of_40 : decode cX23_of 40 = .ok (.aload_n 1, 1) := dk_43 (dk_at dksX23_of_2 0 rfl rfl)
theorem dX23_of_41 : decode cX23_of 41 = .ok (.getfield 15, 3) := dk_180 0 15 (dk_at dksX23_of_2 1 rfl rfl)
theorem dX23_of_44 : decode cX23_of 44 = .ok (.ireturn, 1) := dk_172 (dk_at dksX23_of_2 4 rfl rfl)
theorem dX23_of_45 : decode cX23_of 45 = .ok (.aload_n 1, 1) := dk_43 (dk_at dksX23_of_2 5 rfl rfl)
theorem dX23_of_46 : decode cX23_of 46 = .ok (.getfield 15, 3) := dk_180 0 15 (dk_at dksX23_of_2 6 rfl rfl)
theorem dX23_of_49 : decode cX23_of 49 = .ok (.bipush 52, 2) := dk_16 52 (dk_at dksX23_of_2 9 rfl rfl)
theorem dX23_of_51 : decode cX23_of 51 = .ok (.idiv, 1) := dk_108 (dk_at dksX23_of_2 11 rfl rfl)
theorem dX23_of_52 : decode cX23_of 52 = .ok (.ireturn, 1) := dk_172 (dk_at dksX23_of_2 12 rfl rfl)
theorem dX23_of_53 : decode cX23_of 53 = .ok (.aload_n 1, 1) := dk_43 (dk_at dksX23_of_2 13 rfl rfl)
theorem dX23_of_54 : decode cX23_of 54 = .ok (.getfield 21, 3) := dk_180 0 21 (dk_at dksX23_of_2 14 rfl rfl)
theorem dX23_of_57 : decode cX23_of 57 = .ok (.ireturn, 1) := dk_172 (dk_at dksX23_of_2 17 rfl rfl)
theorem dX23_of_58 : decode cX23_of 58 = .ok (.aload_n 0, 1) := dk_42 (dk_at dksX23_of_2 18 rfl rfl)
theorem dX23_of_59 : decode cX23_of 59 = .ok (.getfield 9, 3) := dk_180 0 9 (dk_at dksX23_of_2 19 rfl rfl)
theorem dX23_of_62 : decode cX23_of 62 = .ok (.bipush 105, 2) := dk_16 105 (dk_at dksX23_of_2 22 rfl rfl)
theorem dX23_of_64 : decode cX23_of 64 = .ok (.if_icmp .ne 10, 3) := dk_160 0 10 (dk_at dksX23_of_3 0 rfl rfl)
theorem dX23_of_67 : decode cX23_of 67 = .ok (.aload_n 1, 1) := dk_43 (dk_at dksX23_of_3 3 rfl rfl)
theorem dX23_of_68 : decode cX23_of 68 = .ok (.getfield 24, 3) := dk_180 0 24 (dk_at dksX23_of_3 4 rfl rfl)
theorem dX23_of_71 : decode cX23_of 71 = .ok (.goto 7, 3) := dk_167 0 7 (dk_at dksX23_of_3 7 rfl rfl)
theorem dX23_of_74 : decode cX23_of 74 = .ok (.aload_n 1, 1) := dk_43 (dk_at dksX23_of_3 10 rfl rfl)
theorem dX23_of_75 : decode cX23_of 75 = .ok (.getfield 27, 3) := dk_180 0 27 (dk_at dksX23_of_3 11 rfl rfl)
theorem dX23_of_78 : decode cX23_of 78 = .ok (.ireturn, 1) := dk_172 (dk_at dksX23_of_3 14 rfl rfl)
def dkwX23_init_0 : List UInt8 := [42, 183, 0, 3, 42, 27, 181, 0, 9, 177]
abbrev dktX23_init_0 : List UInt8 := dkwX23_init_0 ++ []
theorem dksX23_init_0 : cX23_init.data.toList.drop 0 = dktX23_init_0 := by decide +kernel
theorem dX23_init_0 : decode cX23_init 0 = .ok (.aload_n 0, 1) := dk_42 (dk_at dksX23_init_0 0 rfl rfl)
theorem dX23_init_1 : decode cX23_init 1 = .ok (.invokespecial 3, 3) := dk_183 0 3 (dk_at dksX23_init_0 1 rfl rfl)
theorem dX23_init_4 : decode cX23_init 4 = .ok (.aload_n 0, 1) := dk_42 (dk_at dksX23_init_0 4 rfl rfl)
theorem dX23_init_5 : decode cX23_init 5 = .ok (.iload_n 1, 1) := dk_27 (dk_at dksX23_init_0 5 rfl rfl)
theorem dX23_init_6 : decode cX23_init 6 = .ok (.putfield 9, 3) := dk_181 0 9 (dk_at dksX23_init_0 6 rfl rfl)
theorem dX23_init_9 : decode cX23_init 9 = .ok (.return_, 1) := dk_177 (dk_at dksX23_init_0 9 rfl rfl)
def dkwX24_of_0 : List UInt8 := [42, 42, 180, 0, 7, 43, 182, 0, 20, 42, 180, 0, 17, 43, 182, 0, 20, 182, 0, 24, 172]
abbrev dktX24_of_0 : List UInt8 := dkwX24_of_0 ++ []
theorem dksX24_of_0 : cX24_of.data.toList.drop 0 = dktX24_of_0 := by decide +kernel
theorem dX24_of_0 : decode cX24_of 0 = .ok (.aload_n 0, 1) := dk_42 (dk_at dksX24_of_0 0 rfl rfl)
theorem dX24_of_1 : decode cX24_of 1 = .ok (.aload_n 0, 1) := dk_42 (dk_at dksX24_of_0 1 rfl rfl)
theorem dX24_of_2 : decode cX24_of 2 = .ok (.getfield 7, 3) := dk_180 0 7 (dk_at dksX24_of_0 2 rfl rfl)
theorem dX24_of_5 : decode cX24_of 5 = .ok (.aload_n 1, 1) := dk_43 (dk_at dksX24_of_0 5 rfl rfl)
theorem dX24_of_6 : decode cX24_of 6 = .ok (.invokevirtual 20, 3) := dk_182 0 20 (dk_at dksX24_of_0 6 rfl rfl)
theorem dX24_of_9 : decode cX24_of 9 = .ok (.aload_n 0, 1) := dk_42 (dk_at dksX24_of_0 9 rfl rfl)
theorem dX24_of_10 : decode cX24_of 10 = .ok (.getfield 17, 3) := dk_180 0 17 (dk_at dksX24_of_0 10 rfl rfl)
theorem dX24_of_13 : decode cX24_of 13 = .ok (.aload_n 1, 1) := dk_43 (dk_at dksX24_of_0 13 rfl rfl)
theorem dX24_of_14 : decode cX24_of 14 = .ok (.invokevirtual 20, 3) := dk_182 0 20 (dk_at dksX24_of_0 14 rfl rfl)
theorem dX24_of_17 : decode cX24_of 17 = .ok (.invokevirtual 24, 3) := dk_182 0 24 (dk_at dksX24_of_0 17 rfl rfl)
theorem dX24_of_20 : decode cX24_of 20 = .ok (.ireturn, 1) := dk_172 (dk_at dksX24_of_0 20 rfl rfl)
def dkwX24_works_3 : List UInt8 := [28, 154, 0, 7, 3, 167, 0, 6, 27, 28, 112, 172]
abbrev dktX24_works_3 : List UInt8 := dkwX24_works_3 ++ []
def dkwX24_works_2 : List UInt8 := [27, 28, 96, 172, 27, 28, 100, 172, 27, 28, 104, 172, 28, 154, 0, 7, 3, 167, 0, 6, 27, 28, 108, 172]
abbrev dktX24_works_2 : List UInt8 := dkwX24_works_2 ++ dktX24_works_3
def dkwX24_works_1 : List UInt8 := [170, 0, 0, 0, 0, 0, 0, 64, 0, 0, 0, 42, 0, 0, 0, 47, 0, 0, 0, 48, 0, 0, 0, 40, 0, 0, 0, 64, 0, 0, 0, 44, 0, 0, 0, 64, 0, 0, 0, 52]
abbrev dktX24_works_1 : List UInt8 := dkwX24_works_1 ++ dktX24_works_2
def dkwX24_works_0 : List UInt8 := [42, 180, 0, 13]
abbrev dktX24_works_0 : List UInt8 := dkwX24_works_0 ++ dktX24_works_1
theorem dksX24_works_0 : cX24_works.data.toList.drop 0 = dktX24_works_0 := by decide +kernel
theorem dksX24_works_1 : cX24_works.data.toList.drop 4 = dktX24_works_1 := dk_seg dksX24_works_0 4 rfl rfl
theorem dksX24_works_2 : cX24_works.data.toList.drop 44 = dktX24_works_2 := dk_seg dksX24_works_1 40 rfl rfl
theorem dksX24_works_3 : cX24_works.data.toList.drop 68 = dktX24_works_3 := dk_seg dksX24_works_2 24 rfl rfl
theorem dX24_works_0 : decode cX24_works 0 = .ok (.aload_n 0, 1) := dk_42 (dk_at dksX24_works_0 0 rfl rfl)
theorem dX24_works_1 : decode cX24_works 1 = .ok (.getfield 13, 3) := dk_180 0 13 (dk_at dksX24_works_0 1 rfl rfl)
theorem dX24_works_4 : decode cX24_works 4 = .ok (.tableswitch 64 42 47 #[48, 40, 64, 44, 64, 52], 40) := by decide +kernel
theorem dX24_works_44 : decode cX24_works 44 = .ok (.iload_n 1, 1) := dk_27 (dk_at dksX24_works_2 0 rfl rfl)
theorem dX24_works_45 : decode cX24_works 45 = .ok (.iload_n 2, 1) := dk_28 (dk_at dksX24_works_2 1 rfl rfl)
theorem dX24_works_46 : decode cX24_works 46 = .ok (.iadd, 1) := dk_96 (dk_at dksX24_works_2 2 rfl rfl)
theorem dX24_works_47 : decode cX24_works 47 = .ok (.ireturn, 1) := dk_172 (dk_at dksX24_works_2 3 rfl rfl)
theorem dX24_works_48 : decode cX24_works 48 = .ok (.iload_n 1, 1) := dk_27 (dk_at dksX24_works_2 4 rfl rfl)
theorem dX24_works_49 : decode cX24_works 49 = .ok (.iload_n 2, 1) := dk_28 (dk_at dksX24_works_2 5 rfl rfl)
theorem dX24_works_50 : decode cX24_works 50 = .ok (.isub, 1) := dk_100 (dk_at dksX24_works_2 6 rfl rfl)
theorem dX24_works_51 : decode cX24_works 51 = .ok (.ireturn, 1) := dk_172 (dk_at dksX24_works_2 7 rfl rfl)
theorem dX24_works_52 : decode cX24_works 52 = .ok (.iload_n 1, 1) := dk_27 (dk_at dksX24_works_2 8 rfl rfl)
theorem dX24_works_53 : decode cX24_works 53 = .ok (.iload_n 2, 1) := dk_28 (dk_at dksX24_works_2 9 rfl rfl)
theorem dX24_works_54 : decode cX24_works 54 = .ok (.imul, 1) := dk_104 (dk_at dksX24_works_2 10 rfl rfl)
theorem dX24_works_55 : decode cX24_works 55 = .ok (.ireturn, 1) := dk_172 (dk_at dksX24_works_2 11 rfl rfl)
theorem dX24_works_56 : decode cX24_works 56 = .ok (.iload_n 2, 1) := dk_28 (dk_at dksX24_works_2 12 rfl rfl)
theorem dX24_works_57 : decode cX24_works 57 = .ok (.ifCond .ne 7, 3) := dk_154 0 7 (dk_at dksX24_works_2 13 rfl rfl)
theorem dX24_works_60 : decode cX24_works 60 = .ok (.iconst 0, 1) := dk_3 (dk_at dksX24_works_2 16 rfl rfl)
theorem dX24_works_61 : decode cX24_works 61 = .ok (.goto 6, 3) := dk_167 0 6 (dk_at dksX24_works_2 17 rfl rfl)
theorem dX24_works_64 : decode cX24_works 64 = .ok (.iload_n 1, 1) := dk_27 (dk_at dksX24_works_2 20 rfl rfl)
theorem dX24_works_65 : decode cX24_works 65 = .ok (.iload_n 2, 1) := dk_28 (dk_at dksX24_works_2 21 rfl rfl)
theorem dX24_works_66 : decode cX24_works 66 = .ok (.idiv, 1) := dk_108 (dk_at dksX24_works_2 22 rfl rfl)
theorem dX24_works_67 : decode cX24_works 67 = .ok (.ireturn, 1) := dk_172 (dk_at dksX24_works_2 23 rfl rfl)
theorem dX24_works_68 : decode cX24_works 68 = .ok (.iload_n 2, 1) := dk_28 (dk_at dksX24_works_3 0 rfl rfl)
theorem dX24_works_69 : decode cX24_works 69 = .ok (.ifCond .ne 7, 3) := dk_154 0 7 (dk_at dksX24_works_3 1 rfl rfl)
theorem dX24_works_72 : decode cX24_works 72 = .ok (.iconst 0, 1) := dk_3 (dk_at dksX24_works_3 4 rfl rfl)
theorem dX24_works_73 : decode cX24_works 73 = .ok (.goto 6, 3) := dk_167 0 6 (dk_at dksX24_works_3 5 rfl rfl)
theorem dX24_works_76 : decode cX24_works 76 = .ok (.iload_n 1, 1) := dk_27 (dk_at dksX24_works_3 8 rfl rfl)
theorem dX24_works_77 : decode cX24_works 77 = .ok (.iload_n 2, 1) := dk_28 (dk_at dksX24_works_3 9 rfl rfl)
theorem dX24_works_78 : decode cX24_works 78 = .ok (.irem, 1) := dk_112 (dk_at dksX24_works_3 10 rfl rfl)
theorem dX24_works_79 : decode cX24_works 79 = .ok (.ireturn, 1) := dk_172 (dk_at dksX24_works_3 11 rfl rfl)
def dkwX24_init_0 : List UInt8 := [42, 183, 0, 1, 42, 43, 181, 0, 7, 42, 28, 181, 0, 13, 42, 45, 181, 0, 17, 177]
abbrev dktX24_init_0 : List UInt8 := dkwX24_init_0 ++ []
theorem dksX24_init_0 : cX24_init.data.toList.drop 0 = dktX24_init_0 := by decide +kernel
theorem dX24_init_0 : decode cX24_init 0 = .ok (.aload_n 0, 1) := dk_42 (dk_at dksX24_init_0 0 rfl rfl)
theorem dX24_init_1 : decode cX24_init 1 = .ok (.invokespecial 1, 3) := dk_183 0 1 (dk_at dksX24_init_0 1 rfl rfl)
theorem dX24_init_4 : decode cX24_init 4 = .ok (.aload_n 0, 1) := dk_42 (dk_at dksX24_init_0 4 rfl rfl)
theorem dX24_init_5 : decode cX24_init 5 = .ok (.aload_n 1, 1) := dk_43 (dk_at dksX24_init_0 5 rfl rfl)
theorem dX24_init_6 : decode cX24_init 6 = .ok (.putfield 7, 3) := dk_181 0 7 (dk_at dksX24_init_0 6 rfl rfl)
theorem dX24_init_9 : decode cX24_init 9 = .ok (.aload_n 0, 1) := dk_42 (dk_at dksX24_init_0 9 rfl rfl)
theorem dX24_init_10 : decode cX24_init 10 = .ok (.iload_n 2, 1) := dk_28 (dk_at dksX24_init_0 10 rfl rfl)
theorem dX24_init_11 : decode cX24_init 11 = .ok (.putfield 13, 3) := dk_181 0 13 (dk_at dksX24_init_0 11 rfl rfl)
theorem dX24_init_14 : decode cX24_init 14 = .ok (.aload_n 0, 1) := dk_42 (dk_at dksX24_init_0 14 rfl rfl)
theorem dX24_init_15 : decode cX24_init 15 = .ok (.aload_n 3, 1) := dk_45 (dk_at dksX24_init_0 15 rfl rfl)
theorem dX24_init_16 : decode cX24_init 16 = .ok (.putfield 17, 3) := dk_181 0 17 (dk_at dksX24_init_0 16 rfl rfl)
theorem dX24_init_19 : decode cX24_init 19 = .ok (.return_, 1) := dk_177 (dk_at dksX24_init_0 19 rfl rfl)
def dkwX25_works_0 : List UInt8 := [42, 180, 0, 7, 153, 0, 11, 27, 28, 184, 0, 13, 167, 0, 8, 27, 28, 184, 0, 19, 172]
abbrev dktX25_works_0 : List UInt8 := dkwX25_works_0 ++ []
theorem dksX25_works_0 : cX25_works.data.toList.drop 0 = dktX25_works_0 := by decide +kernel
theorem dX25_works_0 : decode cX25_works 0 = .ok (.aload_n 0, 1) := dk_42 (dk_at dksX25_works_0 0 rfl rfl)
theorem dX25_works_1 : decode cX25_works 1 = .ok (.getfield 7, 3) := dk_180 0 7 (dk_at dksX25_works_0 1 rfl rfl)
theorem dX25_works_4 : decode cX25_works 4 = .ok (.ifCond .eq 11, 3) := dk_153 0 11 (dk_at dksX25_works_0 4 rfl rfl)
theorem dX25_works_7 : decode cX25_works 7 = .ok (.iload_n 1, 1) := dk_27 (dk_at dksX25_works_0 7 rfl rfl)
theorem dX25_works_8 : decode cX25_works 8 = .ok (.iload_n 2, 1) := dk_28 (dk_at dksX25_works_0 8 rfl rfl)
theorem dX25_works_9 : decode cX25_works 9 = .ok (.invokestatic 13, 3) := dk_184 0 13 (dk_at dksX25_works_0 9 rfl rfl)
theorem dX25_works_12 : decode cX25_works 12 = .ok (.goto 8, 3) := dk_167 0 8 (dk_at dksX25_works_0 12 rfl rfl)
theorem dX25_works_15 : decode cX25_works 15 = .ok (.iload_n 1, 1) := dk_27 (dk_at dksX25_works_0 15 rfl rfl)
theorem dX25_works_16 : decode cX25_works 16 = .ok (.iload_n 2, 1) := dk_28 (dk_at dksX25_works_0 16 rfl rfl)
theorem dX25_works_17 : decode cX25_works 17 = .ok (.invokestatic 19, 3) := dk_184 0 19 (dk_at dksX25_works_0 17 rfl rfl)
theorem dX25_works_20 : decode cX25_works 20 = .ok (.ireturn, 1) := dk_172 (dk_at dksX25_works_0 20 rfl rfl)
def dkwX25_init_0 : List UInt8 := [42, 43, 16, 32, 44, 183, 0, 1, 42, 29, 181, 0, 7, 177]
abbrev dktX25_init_0 : List UInt8 := dkwX25_init_0 ++ []
theorem dksX25_init_0 : cX25_init.data.toList.drop 0 = dktX25_init_0 := by decide +kernel
theorem dX25_init_0 : decode cX25_init 0 = .ok (.aload_n 0, 1) := dk_42 (dk_at dksX25_init_0 0 rfl rfl)
theorem dX25_init_1 : decode cX25_init 1 = .ok (.aload_n 1, 1) := dk_43 (dk_at dksX25_init_0 1 rfl rfl)
theorem dX25_init_2 : decode cX25_init 2 = .ok (.bipush 32, 2) := dk_16 32 (dk_at dksX25_init_0 2 rfl rfl)
theorem dX25_init_4 : decode cX25_init 4 = .ok (.aload_n 2, 1) := dk_44 (dk_at dksX25_init_0 4 rfl rfl)
theorem dX25_init_5 : decode cX25_init 5 = .ok (.invokespecial 1, 3) := dk_183 0 1 (dk_at dksX25_init_0 5 rfl rfl)
theorem dX25_init_8 : decode cX25_init 8 = .ok (.aload_n 0, 1) := dk_42 (dk_at dksX25_init_0 8 rfl rfl)
theorem dX25_init_9 : decode cX25_init 9 = .ok (.iload_n 3, 1) := dk_29 (dk_at dksX25_init_0 9 rfl rfl)
theorem dX25_init_10 : decode cX25_init 10 = .ok (.putfield 7, 3) := dk_181 0 7 (dk_at dksX25_init_0 10 rfl rfl)
theorem dX25_init_13 : decode cX25_init 13 = .ok (.return_, 1) := dk_177 (dk_at dksX25_init_0 13 rfl rfl)
def dkwX26_holds_1 : List UInt8 := [43, 185, 0, 28, 2, 0, 153, 0, 5, 4, 172, 132, 2, 1, 167, 255, 220, 3, 172]
abbrev dktX26_holds_1 : List UInt8 := dkwX26_holds_1 ++ []
def dkwX26_holds_0 : List UInt8 := [3, 61, 28, 42, 180, 0, 12, 182, 0, 18, 162, 0, 31, 42, 180, 0, 12, 28, 182, 0, 22, 192, 0, 26]
abbrev dktX26_holds_0 : List UInt8 := dkwX26_holds_0 ++ dktX26_holds_1
theorem dksX26_holds_0 : cX26_holds.data.toList.drop 0 = dktX26_holds_0 := by decide +kernel
theorem dksX26_holds_1 : cX26_holds.data.toList.drop 24 = dktX26_holds_1 := dk_seg dksX26_holds_0 24 rfl rfl
theorem dX26_holds_0 : decode cX26_holds 0 = .ok (.iconst 0, 1) := dk_3 (dk_at dksX26_holds_0 0 rfl rfl)
theorem dX26_holds_1 : decode cX26_holds 1 = .ok (.istore_n 2, 1) := dk_61 (dk_at dksX26_holds_0 1 rfl rfl)
theorem dX26_holds_2 : decode cX26_holds 2 = .ok (.iload_n 2, 1) := dk_28 (dk_at dksX26_holds_0 2 rfl rfl)
theorem dX26_holds_3 : decode cX26_holds 3 = .ok (.aload_n 0, 1) := dk_42 (dk_at dksX26_holds_0 3 rfl rfl)
theorem dX26_holds_4 : decode cX26_holds 4 = .ok (.getfield 12, 3) := dk_180 0 12 (dk_at dksX26_holds_0 4 rfl rfl)
theorem dX26_holds_7 : decode cX26_holds 7 = .ok (.invokevirtual 18, 3) := dk_182 0 18 (dk_at dksX26_holds_0 7 rfl rfl)
theorem dX26_holds_10 : decode cX26_holds 10 = .ok (.if_icmp .ge 31, 3) := dk_162 0 31 (dk_at dksX26_holds_0 10 rfl rfl)
theorem dX26_holds_13 : decode cX26_holds 13 = .ok (.aload_n 0, 1) := dk_42 (dk_at dksX26_holds_0 13 rfl rfl)
theorem dX26_holds_14 : decode cX26_holds 14 = .ok (.getfield 12, 3) := dk_180 0 12 (dk_at dksX26_holds_0 14 rfl rfl)
theorem dX26_holds_17 : decode cX26_holds 17 = .ok (.iload_n 2, 1) := dk_28 (dk_at dksX26_holds_0 17 rfl rfl)
theorem dX26_holds_18 : decode cX26_holds 18 = .ok (.invokevirtual 22, 3) := dk_182 0 22 (dk_at dksX26_holds_0 18 rfl rfl)
theorem dX26_holds_21 : decode cX26_holds 21 = .ok (.checkcast 26, 3) := dk_192 0 26 (dk_at dksX26_holds_0 21 rfl rfl)
theorem dX26_holds_24 : decode cX26_holds 24 = .ok (.aload_n 1, 1) := dk_43 (dk_at dksX26_holds_1 0 rfl rfl)
theorem dX26_holds_25 : decode cX26_holds 25 = .ok (.invokeinterface 28 2, 5) := by decide +kernel
theorem dX26_holds_30 : decode cX26_holds 30 = .ok (.ifCond .eq 5, 3) := dk_153 0 5 (dk_at dksX26_holds_1 6 rfl rfl)
theorem dX26_holds_33 : decode cX26_holds 33 = .ok (.iconst 1, 1) := dk_4 (dk_at dksX26_holds_1 9 rfl rfl)
theorem dX26_holds_34 : decode cX26_holds 34 = .ok (.ireturn, 1) := dk_172 (dk_at dksX26_holds_1 10 rfl rfl)
theorem dX26_holds_35 : decode cX26_holds 35 = .ok (.iinc 2 1, 3) := dk_132 2 1 (dk_at dksX26_holds_1 11 rfl rfl)
theorem dX26_holds_38 : decode cX26_holds 38 = .ok (.goto (-36), 3) := dk_167 255 220 (dk_at dksX26_holds_1 14 rfl rfl)
theorem dX26_holds_41 : decode cX26_holds 41 = .ok (.iconst 0, 1) := dk_3 (dk_at dksX26_holds_1 17 rfl rfl)
theorem dX26_holds_42 : decode cX26_holds 42 = .ok (.ireturn, 1) := dk_172 (dk_at dksX26_holds_1 18 rfl rfl)
def dkwX26_init_0 : List UInt8 := [42, 183, 0, 1, 42, 187, 0, 7, 89, 5, 183, 0, 9, 181, 0, 12, 177]
abbrev dktX26_init_0 : List UInt8 := dkwX26_init_0 ++ []
theorem dksX26_init_0 : cX26_init.data.toList.drop 0 = dktX26_init_0 := by decide +kernel
theorem dX26_init_0 : decode cX26_init 0 = .ok (.aload_n 0, 1) := dk_42 (dk_at dksX26_init_0 0 rfl rfl)
theorem dX26_init_1 : decode cX26_init 1 = .ok (.invokespecial 1, 3) := dk_183 0 1 (dk_at dksX26_init_0 1 rfl rfl)
theorem dX26_init_4 : decode cX26_init 4 = .ok (.aload_n 0, 1) := dk_42 (dk_at dksX26_init_0 4 rfl rfl)
theorem dX26_init_5 : decode cX26_init 5 = .ok (.new 7, 3) := dk_187 0 7 (dk_at dksX26_init_0 5 rfl rfl)
theorem dX26_init_8 : decode cX26_init 8 = .ok (.dup, 1) := dk_89 (dk_at dksX26_init_0 8 rfl rfl)
theorem dX26_init_9 : decode cX26_init 9 = .ok (.iconst 2, 1) := dk_5 (dk_at dksX26_init_0 9 rfl rfl)
theorem dX26_init_10 : decode cX26_init 10 = .ok (.invokespecial 9, 3) := dk_183 0 9 (dk_at dksX26_init_0 10 rfl rfl)
theorem dX26_init_13 : decode cX26_init 13 = .ok (.putfield 12, 3) := dk_181 0 12 (dk_at dksX26_init_0 13 rfl rfl)
theorem dX26_init_16 : decode cX26_init 16 = .ok (.return_, 1) := dk_177 (dk_at dksX26_init_0 16 rfl rfl)
def dkwX27_holds_1 : List UInt8 := [43, 185, 0, 25, 2, 0, 154, 0, 5, 3, 172, 132, 2, 1, 167, 255, 220, 4, 172]
abbrev dktX27_holds_1 : List UInt8 := dkwX27_holds_1 ++ []
def dkwX27_holds_0 : List UInt8 := [3, 61, 28, 42, 180, 0, 7, 182, 0, 13, 162, 0, 31, 42, 180, 0, 7, 28, 182, 0, 19, 192, 0, 23]
abbrev dktX27_holds_0 : List UInt8 := dkwX27_holds_0 ++ dktX27_holds_1
theorem dksX27_holds_0 : cX27_holds.data.toList.drop 0 = dktX27_holds_0 := by decide +kernel
theorem dksX27_holds_1 : cX27_holds.data.toList.drop 24 = dktX27_holds_1 := dk_seg dksX27_holds_0 24 rfl rfl
theorem dX27_holds_0 : decode cX27_holds 0 = .ok (.iconst 0, 1) := dk_3 (dk_at dksX27_holds_0 0 rfl rfl)
theorem dX27_holds_1 : decode cX27_holds 1 = .ok (.istore_n 2, 1) := dk_61 (dk_at dksX27_holds_0 1 rfl rfl)
theorem dX27_holds_2 : decode cX27_holds 2 = .ok (.iload_n 2, 1) := dk_28 (dk_at dksX27_holds_0 2 rfl rfl)
theorem dX27_holds_3 : decode cX27_holds 3 = .ok (.aload_n 0, 1) := dk_42 (dk_at dksX27_holds_0 3 rfl rfl)
theorem dX27_holds_4 : decode cX27_holds 4 = .ok (.getfield 7, 3) := dk_180 0 7 (dk_at dksX27_holds_0 4 rfl rfl)
theorem dX27_holds_7 : decode cX27_holds 7 = .ok (.invokevirtual 13, 3) := dk_182 0 13 (dk_at dksX27_holds_0 7 rfl rfl)
theorem dX27_holds_10 : decode cX27_holds 10 = .ok (.if_icmp .ge 31, 3) := dk_162 0 31 (dk_at dksX27_holds_0 10 rfl rfl)
theorem dX27_holds_13 : decode cX27_holds 13 = .ok (.aload_n 0, 1) := dk_42 (dk_at dksX27_holds_0 13 rfl rfl)
theorem dX27_holds_14 : decode cX27_holds 14 = .ok (.getfield 7, 3) := dk_180 0 7 (dk_at dksX27_holds_0 14 rfl rfl)
theorem dX27_holds_17 : decode cX27_holds 17 = .ok (.iload_n 2, 1) := dk_28 (dk_at dksX27_holds_0 17 rfl rfl)
theorem dX27_holds_18 : decode cX27_holds 18 = .ok (.invokevirtual 19, 3) := dk_182 0 19 (dk_at dksX27_holds_0 18 rfl rfl)
theorem dX27_holds_21 : decode cX27_holds 21 = .ok (.checkcast 23, 3) := dk_192 0 23 (dk_at dksX27_holds_0 21 rfl rfl)
theorem dX27_holds_24 : decode cX27_holds 24 = .ok (.aload_n 1, 1) := dk_43 (dk_at dksX27_holds_1 0 rfl rfl)
theorem dX27_holds_25 : decode cX27_holds 25 = .ok (.invokeinterface 25 2, 5) := by decide +kernel
theorem dX27_holds_30 : decode cX27_holds 30 = .ok (.ifCond .ne 5, 3) := dk_154 0 5 (dk_at dksX27_holds_1 6 rfl rfl)
theorem dX27_holds_33 : decode cX27_holds 33 = .ok (.iconst 0, 1) := dk_3 (dk_at dksX27_holds_1 9 rfl rfl)
theorem dX27_holds_34 : decode cX27_holds 34 = .ok (.ireturn, 1) := dk_172 (dk_at dksX27_holds_1 10 rfl rfl)
theorem dX27_holds_35 : decode cX27_holds 35 = .ok (.iinc 2 1, 3) := dk_132 2 1 (dk_at dksX27_holds_1 11 rfl rfl)
theorem dX27_holds_38 : decode cX27_holds 38 = .ok (.goto (-36), 3) := dk_167 255 220 (dk_at dksX27_holds_1 14 rfl rfl)
theorem dX27_holds_41 : decode cX27_holds 41 = .ok (.iconst 1, 1) := dk_4 (dk_at dksX27_holds_1 17 rfl rfl)
theorem dX27_holds_42 : decode cX27_holds 42 = .ok (.ireturn, 1) := dk_172 (dk_at dksX27_holds_1 18 rfl rfl)
theorem dX27_init_0 : decode cX27_init 0 = .ok (.aload_n 0, 1) := by decide +kernel
theorem dX27_init_1 : decode cX27_init 1 = .ok (.invokespecial 1, 3) := by decide +kernel
theorem dX27_init_4 : decode cX27_init 4 = .ok (.return_, 1) := by decide +kernel
def dkwX28_holds_0 : List UInt8 := [42, 180, 0, 7, 43, 185, 0, 13, 2, 0, 154, 0, 7, 4, 167, 0, 4, 3, 172]
abbrev dktX28_holds_0 : List UInt8 := dkwX28_holds_0 ++ []
theorem dksX28_holds_0 : cX28_holds.data.toList.drop 0 = dktX28_holds_0 := by decide +kernel
theorem dX28_holds_0 : decode cX28_holds 0 = .ok (.aload_n 0, 1) := dk_42 (dk_at dksX28_holds_0 0 rfl rfl)
theorem dX28_holds_1 : decode cX28_holds 1 = .ok (.getfield 7, 3) := dk_180 0 7 (dk_at dksX28_holds_0 1 rfl rfl)
theorem dX28_holds_4 : decode cX28_holds 4 = .ok (.aload_n 1, 1) := dk_43 (dk_at dksX28_holds_0 4 rfl rfl)
theorem dX28_holds_5 : decode cX28_holds 5 = .ok (.invokeinterface 13 2, 5) := by decide +kernel
theorem dX28_holds_10 : decode cX28_holds 10 = .ok (.ifCond .ne 7, 3) := dk_154 0 7 (dk_at dksX28_holds_0 10 rfl rfl)
theorem dX28_holds_13 : decode cX28_holds 13 = .ok (.iconst 1, 1) := dk_4 (dk_at dksX28_holds_0 13 rfl rfl)
theorem dX28_holds_14 : decode cX28_holds 14 = .ok (.goto 4, 3) := dk_167 0 4 (dk_at dksX28_holds_0 14 rfl rfl)
theorem dX28_holds_17 : decode cX28_holds 17 = .ok (.iconst 0, 1) := dk_3 (dk_at dksX28_holds_0 17 rfl rfl)
theorem dX28_holds_18 : decode cX28_holds 18 = .ok (.ireturn, 1) := dk_172 (dk_at dksX28_holds_0 18 rfl rfl)
def dkwX28_init_0 : List UInt8 := [42, 183, 0, 1, 42, 43, 181, 0, 7, 177]
abbrev dktX28_init_0 : List UInt8 := dkwX28_init_0 ++ []
theorem dksX28_init_0 : cX28_init.data.toList.drop 0 = dktX28_init_0 := by decide +kernel
theorem dX28_init_0 : decode cX28_init 0 = .ok (.aload_n 0, 1) := dk_42 (dk_at dksX28_init_0 0 rfl rfl)
theorem dX28_init_1 : decode cX28_init 1 = .ok (.invokespecial 1, 3) := dk_183 0 1 (dk_at dksX28_init_0 1 rfl rfl)
theorem dX28_init_4 : decode cX28_init 4 = .ok (.aload_n 0, 1) := dk_42 (dk_at dksX28_init_0 4 rfl rfl)
theorem dX28_init_5 : decode cX28_init 5 = .ok (.aload_n 1, 1) := dk_43 (dk_at dksX28_init_0 5 rfl rfl)
theorem dX28_init_6 : decode cX28_init 6 = .ok (.putfield 7, 3) := dk_181 0 7 (dk_at dksX28_init_0 6 rfl rfl)
theorem dX28_init_9 : decode cX28_init 9 = .ok (.return_, 1) := dk_177 (dk_at dksX28_init_0 9 rfl rfl)
def dkwX29_holds_3 : List UInt8 := [167, 0, 4, 3, 172]
abbrev dktX29_holds_3 : List UInt8 := dkwX29_holds_3 ++ []
def dkwX29_holds_2 : List UInt8 := [160, 0, 16, 28, 29, 164, 0, 7, 4, 167, 0, 17, 3, 167, 0, 13, 28, 29, 160, 0, 7, 4]
abbrev dktX29_holds_2 : List UInt8 := dkwX29_holds_2 ++ dktX29_holds_3
def dkwX29_holds_1 : List UInt8 := [160, 0, 16, 28, 29, 162, 0, 7, 4, 167, 0, 39, 3, 167, 0, 35, 42, 180, 0, 13, 16, 62]
abbrev dktX29_holds_1 : List UInt8 := dkwX29_holds_1 ++ dktX29_holds_2
def dkwX29_holds_0 : List UInt8 := [42, 180, 0, 7, 43, 182, 0, 20, 61, 42, 180, 0, 17, 43, 182, 0, 20, 62, 42, 180, 0, 13, 16, 60]
abbrev dktX29_holds_0 : List UInt8 := dkwX29_holds_0 ++ dktX29_holds_1
theorem dksX29_holds_0 : cX29_holds.data.toList.drop 0 = dktX29_holds_0 := by decide +kernel
theorem dksX29_holds_1 : cX29_holds.data.toList.drop 24 = dktX29_holds_1 := dk_seg dksX29_holds_0 24 rfl rfl
theorem dksX29_holds_2 : cX29_holds.data.toList.drop 46 = dktX29_holds_2 := dk_seg dksX29_holds_1 22 rfl rfl
theorem dksX29_holds_3 : cX29_holds.data.toList.drop 68 = dktX29_holds_3 := dk_seg dksX29_holds_2 22 rfl rfl
theorem dX29_holds_0 : decode cX29_holds 0 = .ok (.aload_n 0, 1) := dk_42 (dk_at dksX29_holds_0 0 rfl rfl)
theorem dX29_holds_1 : decode cX29_holds 1 = .ok (.getfield 7, 3) := dk_180 0 7 (dk_at dksX29_holds_0 1 rfl rfl)
theorem dX29_holds_4 : decode cX29_holds 4 = .ok (.aload_n 1, 1) := dk_43 (dk_at dksX29_holds_0 4 rfl rfl)
theorem dX29_holds_5 : decode cX29_holds 5 = .ok (.invokevirtual 20, 3) := dk_182 0 20 (dk_at dksX29_holds_0 5 rfl rfl)
theorem dX29_holds_8 : decode cX29_holds 8 = .ok (.istore_n 2, 1) := dk_61 (dk_at dksX29_holds_0 8 rfl rfl)
theorem dX29_holds_9 : decode cX29_holds 9 = .ok (.aload_n 0, 1) := dk_42 (dk_at dksX29_holds_0 9 rfl rfl)
theorem dX29_holds_10 : decode cX29_holds 10 = .ok (.getfield 17, 3) := dk_180 0 17 (dk_at dksX29_holds_0 10 rfl rfl)
theorem dX29_holds_13 : decode cX29_holds 13 = .ok (.aload_n 1, 1) := dk_43 (dk_at dksX29_holds_0 13 rfl rfl)
theorem dX29_holds_14 : decode cX29_holds 14 = .ok (.invokevirtual 20, 3) := dk_182 0 20 (dk_at dksX29_holds_0 14 rfl rfl)
theorem dX29_holds_17 : decode cX29_holds 17 = .ok (.istore_n 3, 1) := dk_62 (dk_at dksX29_holds_0 17 rfl rfl)
theorem dX29_holds_18 : decode cX29_holds 18 = .ok (.aload_n 0, 1) := dk_42 (dk_at dksX29_holds_0 18 rfl rfl)
theorem dX29_holds_19 : decode cX29_holds 19 = .ok (.getfield 13, 3) := dk_180 0 13 (dk_at dksX29_holds_0 19 rfl rfl)
theorem dX29_holds_22 : decode cX29_holds 22 = .ok (.bipush 60, 2) := dk_16 60 (dk_at dksX29_holds_0 22 rfl rfl)
theorem dX29_holds_24 : decode cX29_holds 24 = .ok (.if_icmp .ne 16, 3) := dk_160 0 16 (dk_at dksX29_holds_1 0 rfl rfl)
theorem dX29_holds_27 : decode cX29_holds 27 = .ok (.iload_n 2, 1) := dk_28 (dk_at dksX29_holds_1 3 rfl rfl)
theorem dX29_holds_28 : decode cX29_holds 28 = .ok (.iload_n 3, 1) := dk_29 (dk_at dksX29_holds_1 4 rfl rfl)
theorem dX29_holds_29 : decode cX29_holds 29 = .ok (.if_icmp .ge 7, 3) := dk_162 0 7 (dk_at dksX29_holds_1 5 rfl rfl)
theorem dX29_holds_32 : decode cX29_holds 32 = .ok (.iconst 1, 1) := dk_4 (dk_at dksX29_holds_1 8 rfl rfl)
theorem dX29_holds_33 : decode cX29_holds 33 = .ok (.goto 39, 3) := dk_167 0 39 (dk_at dksX29_holds_1 9 rfl rfl)
theorem dX29_holds_36 : decode cX29_holds 36 = .ok (.iconst 0, 1) := dk_3 (dk_at dksX29_holds_1 12 rfl rfl)
theorem dX29_holds_37 : decode cX29_holds 37 = .ok (.goto 35, 3) := dk_167 0 35 (dk_at dksX29_holds_1 13 rfl rfl)
theorem dX29_holds_40 : decode cX29_holds 40 = .ok (.aload_n 0, 1) := dk_42 (dk_at dksX29_holds_1 16 rfl rfl)
theorem dX29_holds_41 : decode cX29_holds 41 = .ok (.getfield 13, 3) := dk_180 0 13 (dk_at dksX29_holds_1 17 rfl rfl)
theorem dX29_holds_44 : decode cX29_holds 44 = .ok (.bipush 62, 2) := dk_16 62 (dk_at dksX29_holds_1 20 rfl rfl)
theorem dX29_holds_46 : decode cX29_holds 46 = .ok (.if_icmp .ne 16, 3) := dk_160 0 16 (dk_at dksX29_holds_2 0 rfl rfl)
theorem dX29_holds_49 : decode cX29_holds 49 = .ok (.iload_n 2, 1) := dk_28 (dk_at dksX29_holds_2 3 rfl rfl)
theorem dX29_holds_50 : decode cX29_holds 50 = .ok (.iload_n 3, 1) := dk_29 (dk_at dksX29_holds_2 4 rfl rfl)
theorem dX29_holds_51 : decode cX29_holds 51 = .ok (.if_icmp .le 7, 3) := dk_164 0 7 (dk_at dksX29_holds_2 5 rfl rfl)
theorem dX29_holds_54 : decode cX29_holds 54 = .ok (.iconst 1, 1) := dk_4 (dk_at dksX29_holds_2 8 rfl rfl)
theorem dX29_holds_55 : decode cX29_holds 55 = .ok (.goto 17, 3) := dk_167 0 17 (dk_at dksX29_holds_2 9 rfl rfl)
theorem dX29_holds_58 : decode cX29_holds 58 = .ok (.iconst 0, 1) := dk_3 (dk_at dksX29_holds_2 12 rfl rfl)
theorem dX29_holds_59 : decode cX29_holds 59 = .ok (.goto 13, 3) := dk_167 0 13 (dk_at dksX29_holds_2 13 rfl rfl)
theorem dX29_holds_62 : decode cX29_holds 62 = .ok (.iload_n 2, 1) := dk_28 (dk_at dksX29_holds_2 16 rfl rfl)
theorem dX29_holds_63 : decode cX29_holds 63 = .ok (.iload_n 3, 1) := dk_29 (dk_at dksX29_holds_2 17 rfl rfl)
theorem dX29_holds_64 : decode cX29_holds 64 = .ok (.if_icmp .ne 7, 3) := dk_160 0 7 (dk_at dksX29_holds_2 18 rfl rfl)
theorem dX29_holds_67 : decode cX29_holds 67 = .ok (.iconst 1, 1) := dk_4 (dk_at dksX29_holds_2 21 rfl rfl)
theorem dX29_holds_68 : decode cX29_holds 68 = .ok (.goto 4, 3) := dk_167 0 4 (dk_at dksX29_holds_3 0 rfl rfl)
theorem dX29_holds_71 : decode cX29_holds 71 = .ok (.iconst 0, 1) := dk_3 (dk_at dksX29_holds_3 3 rfl rfl)
theorem dX29_holds_72 : decode cX29_holds 72 = .ok (.ireturn, 1) := dk_172 (dk_at dksX29_holds_3 4 rfl rfl)
def dkwX29_init_0 : List UInt8 := [42, 183, 0, 1, 42, 43, 181, 0, 7, 42, 28, 181, 0, 13, 42, 45, 181, 0, 17, 177]
abbrev dktX29_init_0 : List UInt8 := dkwX29_init_0 ++ []
theorem dksX29_init_0 : cX29_init.data.toList.drop 0 = dktX29_init_0 := by decide +kernel
theorem dX29_init_0 : decode cX29_init 0 = .ok (.aload_n 0, 1) := dk_42 (dk_at dksX29_init_0 0 rfl rfl)
theorem dX29_init_1 : decode cX29_init 1 = .ok (.invokespecial 1, 3) := dk_183 0 1 (dk_at dksX29_init_0 1 rfl rfl)
theorem dX29_init_4 : decode cX29_init 4 = .ok (.aload_n 0, 1) := dk_42 (dk_at dksX29_init_0 4 rfl rfl)
theorem dX29_init_5 : decode cX29_init 5 = .ok (.aload_n 1, 1) := dk_43 (dk_at dksX29_init_0 5 rfl rfl)
theorem dX29_init_6 : decode cX29_init 6 = .ok (.putfield 7, 3) := dk_181 0 7 (dk_at dksX29_init_0 6 rfl rfl)
theorem dX29_init_9 : decode cX29_init 9 = .ok (.aload_n 0, 1) := dk_42 (dk_at dksX29_init_0 9 rfl rfl)
theorem dX29_init_10 : decode cX29_init 10 = .ok (.iload_n 2, 1) := dk_28 (dk_at dksX29_init_0 10 rfl rfl)
theorem dX29_init_11 : decode cX29_init 11 = .ok (.putfield 13, 3) := dk_181 0 13 (dk_at dksX29_init_0 11 rfl rfl)
theorem dX29_init_14 : decode cX29_init 14 = .ok (.aload_n 0, 1) := dk_42 (dk_at dksX29_init_0 14 rfl rfl)
theorem dX29_init_15 : decode cX29_init 15 = .ok (.aload_n 3, 1) := dk_45 (dk_at dksX29_init_0 15 rfl rfl)
theorem dX29_init_16 : decode cX29_init 16 = .ok (.putfield 17, 3) := dk_181 0 17 (dk_at dksX29_init_0 16 rfl rfl)
theorem dX29_init_19 : decode cX29_init 19 = .ok (.return_, 1) := dk_177 (dk_at dksX29_init_0 19 rfl rfl)
theorem dX3_init_0 : decode cX3_init 0 = .ok (.aload_n 0, 1) := by decide +kernel
theorem dX3_init_1 : decode cX3_init 1 = .ok (.invokespecial 1, 3) := by decide +kernel
theorem dX3_init_4 : decode cX3_init 4 = .ok (.return_, 1) := by decide +kernel
def dkwX30_of_1 : List UInt8 := [42, 180, 0, 29, 43, 182, 0, 23, 172]
abbrev dktX30_of_1 : List UInt8 := dkwX30_of_1 ++ []
def dkwX30_of_0 : List UInt8 := [42, 180, 0, 7, 43, 185, 0, 13, 2, 0, 153, 0, 14, 42, 180, 0, 19, 43, 182, 0, 23, 167, 0, 11]
abbrev dktX30_of_0 : List UInt8 := dkwX30_of_0 ++ dktX30_of_1
theorem dksX30_of_0 : cX30_of.data.toList.drop 0 = dktX30_of_0 := by decide +kernel
theorem dksX30_of_1 : cX30_of.data.toList.drop 24 = dktX30_of_1 := dk_seg dksX30_of_0 24 rfl rfl
theorem dX30_of_0 : decode cX30_of 0 = .ok (.aload_n 0, 1) := dk_42 (dk_at dksX30_of_0 0 rfl rfl)
theorem dX30_of_1 : decode cX30_of 1 = .ok (.getfield 7, 3) := dk_180 0 7 (dk_at dksX30_of_0 1 rfl rfl)
theorem dX30_of_4 : decode cX30_of 4 = .ok (.aload_n 1, 1) := dk_43 (dk_at dksX30_of_0 4 rfl rfl)
theorem dX30_of_5 : decode cX30_of 5 = .ok (.invokeinterface 13 2, 5) := by decide +kernel
theorem dX30_of_10 : decode cX30_of 10 = .ok (.ifCond .eq 14, 3) := dk_153 0 14 (dk_at dksX30_of_0 10 rfl rfl)
theorem dX30_of_13 : decode cX30_of 13 = .ok (.aload_n 0, 1) := dk_42 (dk_at dksX30_of_0 13 rfl rfl)
theorem dX30_of_14 : decode cX30_of 14 = .ok (.getfield 19, 3) := dk_180 0 19 (dk_at dksX30_of_0 14 rfl rfl)
theorem dX30_of_17 : decode cX30_of 17 = .ok (.aload_n 1, 1) := dk_43 (dk_at dksX30_of_0 17 rfl rfl)
theorem dX30_of_18 : decode cX30_of 18 = .ok (.invokevirtual 23, 3) := dk_182 0 23 (dk_at dksX30_of_0 18 rfl rfl)
theorem dX30_of_21 : decode cX30_of 21 = .ok (.goto 11, 3) := dk_167 0 11 (dk_at dksX30_of_0 21 rfl rfl)
theorem dX30_of_24 : decode cX30_of 24 = .ok (.aload_n 0, 1) := dk_42 (dk_at dksX30_of_1 0 rfl rfl)
theorem dX30_of_25 : decode cX30_of 25 = .ok (.getfield 29, 3) := dk_180 0 29 (dk_at dksX30_of_1 1 rfl rfl)
theorem dX30_of_28 : decode cX30_of 28 = .ok (.aload_n 1, 1) := dk_43 (dk_at dksX30_of_1 4 rfl rfl)
theorem dX30_of_29 : decode cX30_of 29 = .ok (.invokevirtual 23, 3) := dk_182 0 23 (dk_at dksX30_of_1 5 rfl rfl)
theorem dX30_of_32 : decode cX30_of 32 = .ok (.ireturn, 1) := dk_172 (dk_at dksX30_of_1 8 rfl rfl)
def dkwX30_init_0 : List UInt8 := [42, 44, 16, 63, 45, 183, 0, 1, 42, 43, 181, 0, 7, 177]
abbrev dktX30_init_0 : List UInt8 := dkwX30_init_0 ++ []
theorem dksX30_init_0 : cX30_init.data.toList.drop 0 = dktX30_init_0 := by decide +kernel
theorem dX30_init_0 : decode cX30_init 0 = .ok (.aload_n 0, 1) := dk_42 (dk_at dksX30_init_0 0 rfl rfl)
theorem dX30_init_1 : decode cX30_init 1 = .ok (.aload_n 2, 1) := dk_44 (dk_at dksX30_init_0 1 rfl rfl)
theorem dX30_init_2 : decode cX30_init 2 = .ok (.bipush 63, 2) := dk_16 63 (dk_at dksX30_init_0 2 rfl rfl)
theorem dX30_init_4 : decode cX30_init 4 = .ok (.aload_n 3, 1) := dk_45 (dk_at dksX30_init_0 4 rfl rfl)
theorem dX30_init_5 : decode cX30_init 5 = .ok (.invokespecial 1, 3) := dk_183 0 1 (dk_at dksX30_init_0 5 rfl rfl)
theorem dX30_init_8 : decode cX30_init 8 = .ok (.aload_n 0, 1) := dk_42 (dk_at dksX30_init_0 8 rfl rfl)
theorem dX30_init_9 : decode cX30_init 9 = .ok (.aload_n 1, 1) := dk_43 (dk_at dksX30_init_0 9 rfl rfl)
theorem dX30_init_10 : decode cX30_init 10 = .ok (.putfield 7, 3) := dk_181 0 7 (dk_at dksX30_init_0 10 rfl rfl)
theorem dX30_init_13 : decode cX30_init 13 = .ok (.return_, 1) := dk_177 (dk_at dksX30_init_0 13 rfl rfl)
theorem dX31_isFarm_0 : decode cX31_isFarm 0 = .ok (.iconst 0, 1) := by decide +kernel
theorem dX31_isFarm_1 : decode cX31_isFarm 1 = .ok (.ireturn, 1) := by decide +kernel
theorem dX31_isPasture_0 : decode cX31_isPasture 0 = .ok (.iconst 0, 1) := by decide +kernel
theorem dX31_isPasture_1 : decode cX31_isPasture 1 = .ok (.ireturn, 1) := by decide +kernel
theorem dX32_holder_0 : decode cX32_holder 0 = .ok (.iconst (-1), 1) := by decide +kernel
theorem dX32_holder_1 : decode cX32_holder 1 = .ok (.ireturn, 1) := by decide +kernel
theorem dX33_paid_0 : decode cX33_paid 0 = .ok (.iconst (-1), 1) := by decide +kernel
theorem dX33_paid_1 : decode cX33_paid 1 = .ok (.ireturn, 1) := by decide +kernel
theorem dX34_ends_0 : decode cX34_ends 0 = .ok (.iconst 0, 1) := by decide +kernel
theorem dX34_ends_1 : decode cX34_ends 1 = .ok (.ireturn, 1) := by decide +kernel
theorem dX4_init_0 : decode cX4_init 0 = .ok (.aload_n 0, 1) := by decide +kernel
theorem dX4_init_1 : decode cX4_init 1 = .ok (.invokespecial 1, 3) := by decide +kernel
theorem dX4_init_4 : decode cX4_init 4 = .ok (.return_, 1) := by decide +kernel
theorem dX4_kind_0 : decode cX4_kind 0 = .ok (.iconst 0, 1) := by decide +kernel
theorem dX4_kind_1 : decode cX4_kind 1 = .ok (.ireturn, 1) := by decide +kernel
theorem dX5_init_0 : decode cX5_init 0 = .ok (.aload_n 0, 1) := by decide +kernel
theorem dX5_init_1 : decode cX5_init 1 = .ok (.invokespecial 1, 3) := by decide +kernel
theorem dX5_init_4 : decode cX5_init 4 = .ok (.return_, 1) := by decide +kernel
theorem dX5_kind_0 : decode cX5_kind 0 = .ok (.iconst 1, 1) := by decide +kernel
theorem dX5_kind_1 : decode cX5_kind 1 = .ok (.ireturn, 1) := by decide +kernel
theorem dX6_init_0 : decode cX6_init 0 = .ok (.aload_n 0, 1) := by decide +kernel
theorem dX6_init_1 : decode cX6_init 1 = .ok (.invokespecial 1, 3) := by decide +kernel
theorem dX6_init_4 : decode cX6_init 4 = .ok (.return_, 1) := by decide +kernel
def dkwX6_of_0 : List UInt8 := [42, 27, 181, 0, 7, 42, 28, 181, 0, 13, 42, 29, 181, 0, 16, 42, 21, 4, 181, 0, 19, 42, 176]
abbrev dktX6_of_0 : List UInt8 := dkwX6_of_0 ++ []
theorem dksX6_of_0 : cX6_of.data.toList.drop 0 = dktX6_of_0 := by decide +kernel
theorem dX6_of_0 : decode cX6_of 0 = .ok (.aload_n 0, 1) := dk_42 (dk_at dksX6_of_0 0 rfl rfl)
theorem dX6_of_1 : decode cX6_of 1 = .ok (.iload_n 1, 1) := dk_27 (dk_at dksX6_of_0 1 rfl rfl)
theorem dX6_of_2 : decode cX6_of 2 = .ok (.putfield 7, 3) := dk_181 0 7 (dk_at dksX6_of_0 2 rfl rfl)
theorem dX6_of_5 : decode cX6_of 5 = .ok (.aload_n 0, 1) := dk_42 (dk_at dksX6_of_0 5 rfl rfl)
theorem dX6_of_6 : decode cX6_of 6 = .ok (.iload_n 2, 1) := dk_28 (dk_at dksX6_of_0 6 rfl rfl)
theorem dX6_of_7 : decode cX6_of 7 = .ok (.putfield 13, 3) := dk_181 0 13 (dk_at dksX6_of_0 7 rfl rfl)
theorem dX6_of_10 : decode cX6_of 10 = .ok (.aload_n 0, 1) := dk_42 (dk_at dksX6_of_0 10 rfl rfl)
theorem dX6_of_11 : decode cX6_of 11 = .ok (.iload_n 3, 1) := dk_29 (dk_at dksX6_of_0 11 rfl rfl)
theorem dX6_of_12 : decode cX6_of 12 = .ok (.putfield 16, 3) := dk_181 0 16 (dk_at dksX6_of_0 12 rfl rfl)
theorem dX6_of_15 : decode cX6_of 15 = .ok (.aload_n 0, 1) := dk_42 (dk_at dksX6_of_0 15 rfl rfl)
theorem dX6_of_16 : decode cX6_of 16 = .ok (.iload 4, 2) := dk_21 4 (dk_at dksX6_of_0 16 rfl rfl)
theorem dX6_of_18 : decode cX6_of 18 = .ok (.putfield 19, 3) := dk_181 0 19 (dk_at dksX6_of_0 18 rfl rfl)
theorem dX6_of_21 : decode cX6_of 21 = .ok (.aload_n 0, 1) := dk_42 (dk_at dksX6_of_0 21 rfl rfl)
theorem dX6_of_22 : decode cX6_of 22 = .ok (.areturn, 1) := dk_176 (dk_at dksX6_of_0 22 rfl rfl)
def dkwX7_init_0 : List UInt8 := [42, 183, 0, 3, 42, 7, 189, 0, 9, 181, 0, 11, 42, 7, 188, 10, 181, 0, 17, 177]
abbrev dktX7_init_0 : List UInt8 := dkwX7_init_0 ++ []
theorem dksX7_init_0 : cX7_init.data.toList.drop 0 = dktX7_init_0 := by decide +kernel
theorem dX7_init_0 : decode cX7_init 0 = .ok (.aload_n 0, 1) := dk_42 (dk_at dksX7_init_0 0 rfl rfl)
theorem dX7_init_1 : decode cX7_init 1 = .ok (.invokespecial 3, 3) := dk_183 0 3 (dk_at dksX7_init_0 1 rfl rfl)
theorem dX7_init_4 : decode cX7_init 4 = .ok (.aload_n 0, 1) := dk_42 (dk_at dksX7_init_0 4 rfl rfl)
theorem dX7_init_5 : decode cX7_init 5 = .ok (.iconst 4, 1) := dk_7 (dk_at dksX7_init_0 5 rfl rfl)
theorem dX7_init_6 : decode cX7_init 6 = .ok (.anewarray 9, 3) := dk_189 0 9 (dk_at dksX7_init_0 6 rfl rfl)
theorem dX7_init_9 : decode cX7_init 9 = .ok (.putfield 11, 3) := dk_181 0 11 (dk_at dksX7_init_0 9 rfl rfl)
theorem dX7_init_12 : decode cX7_init 12 = .ok (.aload_n 0, 1) := dk_42 (dk_at dksX7_init_0 12 rfl rfl)
theorem dX7_init_13 : decode cX7_init 13 = .ok (.iconst 4, 1) := dk_7 (dk_at dksX7_init_0 13 rfl rfl)
theorem dX7_init_14 : decode cX7_init 14 = .ok (.newarray .int, 2) := dk_188_10 (dk_at dksX7_init_0 14 rfl rfl)
theorem dX7_init_16 : decode cX7_init 16 = .ok (.putfield 17, 3) := dk_181 0 17 (dk_at dksX7_init_0 16 rfl rfl)
theorem dX7_init_19 : decode cX7_init 19 = .ok (.return_, 1) := dk_177 (dk_at dksX7_init_0 19 rfl rfl)
def dkwX7_add_1 : List UInt8 := [27, 50, 42, 180, 0, 17, 27, 46, 36, 81, 42, 180, 0, 17, 27, 92, 46, 4, 96, 79, 177]
abbrev dktX7_add_1 : List UInt8 := dkwX7_add_1 ++ []
def dkwX7_add_0 : List UInt8 := [42, 180, 0, 11, 27, 50, 199, 0, 14, 42, 180, 0, 11, 27, 17, 3, 232, 188, 6, 83, 42, 180, 0, 11]
abbrev dktX7_add_0 : List UInt8 := dkwX7_add_0 ++ dktX7_add_1
theorem dksX7_add_0 : cX7_add.data.toList.drop 0 = dktX7_add_0 := by decide +kernel
theorem dksX7_add_1 : cX7_add.data.toList.drop 24 = dktX7_add_1 := dk_seg dksX7_add_0 24 rfl rfl
theorem dX7_add_0 : decode cX7_add 0 = .ok (.aload_n 0, 1) := dk_42 (dk_at dksX7_add_0 0 rfl rfl)
theorem dX7_add_1 : decode cX7_add 1 = .ok (.getfield 11, 3) := dk_180 0 11 (dk_at dksX7_add_0 1 rfl rfl)
theorem dX7_add_4 : decode cX7_add 4 = .ok (.iload_n 1, 1) := dk_27 (dk_at dksX7_add_0 4 rfl rfl)
theorem dX7_add_5 : decode cX7_add 5 = .ok (.aaload, 1) := dk_50 (dk_at dksX7_add_0 5 rfl rfl)
theorem dX7_add_6 : decode cX7_add 6 = .ok (.ifnonnull 14, 3) := dk_199 0 14 (dk_at dksX7_add_0 6 rfl rfl)
theorem dX7_add_9 : decode cX7_add 9 = .ok (.aload_n 0, 1) := dk_42 (dk_at dksX7_add_0 9 rfl rfl)
theorem dX7_add_10 : decode cX7_add 10 = .ok (.getfield 11, 3) := dk_180 0 11 (dk_at dksX7_add_0 10 rfl rfl)
theorem dX7_add_13 : decode cX7_add 13 = .ok (.iload_n 1, 1) := dk_27 (dk_at dksX7_add_0 13 rfl rfl)
theorem dX7_add_14 : decode cX7_add 14 = .ok (.sipush 1000, 3) := dk_17 3 232 (dk_at dksX7_add_0 14 rfl rfl)
theorem dX7_add_17 : decode cX7_add 17 = .ok (.newarray .float, 2) := dk_188_6 (dk_at dksX7_add_0 17 rfl rfl)
theorem dX7_add_19 : decode cX7_add 19 = .ok (.aastore, 1) := dk_83 (dk_at dksX7_add_0 19 rfl rfl)
theorem dX7_add_20 : decode cX7_add 20 = .ok (.aload_n 0, 1) := dk_42 (dk_at dksX7_add_0 20 rfl rfl)
theorem dX7_add_21 : decode cX7_add 21 = .ok (.getfield 11, 3) := dk_180 0 11 (dk_at dksX7_add_0 21 rfl rfl)
theorem dX7_add_24 : decode cX7_add 24 = .ok (.iload_n 1, 1) := dk_27 (dk_at dksX7_add_1 0 rfl rfl)
theorem dX7_add_25 : decode cX7_add 25 = .ok (.aaload, 1) := dk_50 (dk_at dksX7_add_1 1 rfl rfl)
theorem dX7_add_26 : decode cX7_add 26 = .ok (.aload_n 0, 1) := dk_42 (dk_at dksX7_add_1 2 rfl rfl)
theorem dX7_add_27 : decode cX7_add 27 = .ok (.getfield 17, 3) := dk_180 0 17 (dk_at dksX7_add_1 3 rfl rfl)
theorem dX7_add_30 : decode cX7_add 30 = .ok (.iload_n 1, 1) := dk_27 (dk_at dksX7_add_1 6 rfl rfl)
theorem dX7_add_31 : decode cX7_add 31 = .ok (.iaload, 1) := dk_46 (dk_at dksX7_add_1 7 rfl rfl)
theorem dX7_add_32 : decode cX7_add 32 = .ok (.fload_n 2, 1) := dk_36 (dk_at dksX7_add_1 8 rfl rfl)
theorem dX7_add_33 : decode cX7_add 33 = .ok (.fastore, 1) := dk_81 (dk_at dksX7_add_1 9 rfl rfl)
theorem dX7_add_34 : decode cX7_add 34 = .ok (.aload_n 0, 1) := dk_42 (dk_at dksX7_add_1 10 rfl rfl)
theorem dX7_add_35 : decode cX7_add 35 = .ok (.getfield 17, 3) := dk_180 0 17 (dk_at dksX7_add_1 11 rfl rfl)
theorem dX7_add_38 : decode cX7_add 38 = .ok (.iload_n 1, 1) := dk_27 (dk_at dksX7_add_1 14 rfl rfl)
theorem dX7_add_39 : decode cX7_add 39 = .ok (.dup2, 1) := dk_92 (dk_at dksX7_add_1 15 rfl rfl)
theorem dX7_add_40 : decode cX7_add 40 = .ok (.iaload, 1) := dk_46 (dk_at dksX7_add_1 16 rfl rfl)
theorem dX7_add_41 : decode cX7_add 41 = .ok (.iconst 1, 1) := dk_4 (dk_at dksX7_add_1 17 rfl rfl)
theorem dX7_add_42 : decode cX7_add 42 = .ok (.iadd, 1) := dk_96 (dk_at dksX7_add_1 18 rfl rfl)
theorem dX7_add_43 : decode cX7_add 43 = .ok (.iastore, 1) := dk_79 (dk_at dksX7_add_1 19 rfl rfl)
theorem dX7_add_44 : decode cX7_add 44 = .ok (.return_, 1) := dk_177 (dk_at dksX7_add_1 20 rfl rfl)
def dkwX7_fell_4 : List UInt8 := [23, 5, 110, 139, 172]
abbrev dktX7_fell_4 : List UInt8 := dkwX7_fell_4 ++ []
def dkwX7_fell_3 : List UInt8 := [12, 98, 56, 5, 132, 6, 2, 167, 255, 213, 23, 5, 11, 149, 154, 0, 7, 3, 167, 0, 9, 23, 4]
abbrev dktX7_fell_3 : List UInt8 := dkwX7_fell_3 ++ dktX7_fell_4
def dkwX7_fell_2 : List UInt8 := [182, 0, 22, 56, 7, 23, 7, 11, 149, 156, 0, 6, 167, 0, 16, 23, 4, 23, 7, 98, 56, 4, 23, 5]
abbrev dktX7_fell_2 : List UInt8 := dkwX7_fell_2 ++ dktX7_fell_3
def dkwX7_fell_1 : List UInt8 := [172, 11, 56, 4, 11, 56, 5, 27, 4, 100, 54, 6, 21, 6, 27, 4, 96, 163, 0, 41, 42, 21, 6, 28]
abbrev dktX7_fell_1 : List UInt8 := dkwX7_fell_1 ++ dktX7_fell_2
def dkwX7_fell_0 : List UInt8 := [42, 27, 28, 182, 0, 22, 70, 37, 11, 150, 156, 0, 6, 16, 10, 172, 37, 37, 149, 154, 0, 6, 37, 139]
abbrev dktX7_fell_0 : List UInt8 := dkwX7_fell_0 ++ dktX7_fell_1
theorem dksX7_fell_0 : cX7_fell.data.toList.drop 0 = dktX7_fell_0 := by decide +kernel
theorem dksX7_fell_1 : cX7_fell.data.toList.drop 24 = dktX7_fell_1 := dk_seg dksX7_fell_0 24 rfl rfl
theorem dksX7_fell_2 : cX7_fell.data.toList.drop 48 = dktX7_fell_2 := dk_seg dksX7_fell_1 24 rfl rfl
theorem dksX7_fell_3 : cX7_fell.data.toList.drop 72 = dktX7_fell_3 := dk_seg dksX7_fell_2 24 rfl rfl
theorem dksX7_fell_4 : cX7_fell.data.toList.drop 95 = dktX7_fell_4 := dk_seg dksX7_fell_3 23 rfl rfl
theorem dX7_fell_0 : decode cX7_fell 0 = .ok (.aload_n 0, 1) := dk_42 (dk_at dksX7_fell_0 0 rfl rfl)
theorem dX7_fell_1 : decode cX7_fell 1 = .ok (.iload_n 1, 1) := dk_27 (dk_at dksX7_fell_0 1 rfl rfl)
theorem dX7_fell_2 : decode cX7_fell 2 = .ok (.iload_n 2, 1) := dk_28 (dk_at dksX7_fell_0 2 rfl rfl)
theorem dX7_fell_3 : decode cX7_fell 3 = .ok (.invokevirtual 22, 3) := dk_182 0 22 (dk_at dksX7_fell_0 3 rfl rfl)
theorem dX7_fell_6 : decode cX7_fell 6 = .ok (.fstore_n 3, 1) := dk_70 (dk_at dksX7_fell_0 6 rfl rfl)
theorem dX7_fell_7 : decode cX7_fell 7 = .ok (.fload_n 3, 1) := dk_37 (dk_at dksX7_fell_0 7 rfl rfl)
theorem dX7_fell_8 : decode cX7_fell 8 = .ok (.fconst 0, 1) := dk_11 (dk_at dksX7_fell_0 8 rfl rfl)
theorem dX7_fell_9 : decode cX7_fell 9 = .ok (.fcmp .g, 1) := dk_150 (dk_at dksX7_fell_0 9 rfl rfl)
theorem dX7_fell_10 : decode cX7_fell 10 = .ok (.ifCond .ge 6, 3) := dk_156 0 6 (dk_at dksX7_fell_0 10 rfl rfl)
theorem dX7_fell_13 : decode cX7_fell 13 = .ok (.bipush 10, 2) := dk_16 10 (dk_at dksX7_fell_0 13 rfl rfl)
theorem dX7_fell_15 : decode cX7_fell 15 = .ok (.ireturn, 1) := dk_172 (dk_at dksX7_fell_0 15 rfl rfl)
theorem dX7_fell_16 : decode cX7_fell 16 = .ok (.fload_n 3, 1) := dk_37 (dk_at dksX7_fell_0 16 rfl rfl)
theorem dX7_fell_17 : decode cX7_fell 17 = .ok (.fload_n 3, 1) := dk_37 (dk_at dksX7_fell_0 17 rfl rfl)
theorem dX7_fell_18 : decode cX7_fell 18 = .ok (.fcmp .l, 1) := dk_149 (dk_at dksX7_fell_0 18 rfl rfl)
theorem dX7_fell_19 : decode cX7_fell 19 = .ok (.ifCond .ne 6, 3) := dk_154 0 6 (dk_at dksX7_fell_0 19 rfl rfl)
theorem dX7_fell_22 : decode cX7_fell 22 = .ok (.fload_n 3, 1) := dk_37 (dk_at dksX7_fell_0 22 rfl rfl)
theorem dX7_fell_23 : decode cX7_fell 23 = .ok (.f2i, 1) := dk_139 (dk_at dksX7_fell_0 23 rfl rfl)
theorem dX7_fell_24 : decode cX7_fell 24 = .ok (.ireturn, 1) := dk_172 (dk_at dksX7_fell_1 0 rfl rfl)
theorem dX7_fell_25 : decode cX7_fell 25 = .ok (.fconst 0, 1) := dk_11 (dk_at dksX7_fell_1 1 rfl rfl)
theorem dX7_fell_26 : decode cX7_fell 26 = .ok (.fstore 4, 2) := dk_56 4 (dk_at dksX7_fell_1 2 rfl rfl)
theorem dX7_fell_28 : decode cX7_fell 28 = .ok (.fconst 0, 1) := dk_11 (dk_at dksX7_fell_1 4 rfl rfl)
theorem dX7_fell_29 : decode cX7_fell 29 = .ok (.fstore 5, 2) := dk_56 5 (dk_at dksX7_fell_1 5 rfl rfl)
theorem dX7_fell_31 : decode cX7_fell 31 = .ok (.iload_n 1, 1) := dk_27 (dk_at dksX7_fell_1 7 rfl rfl)
theorem dX7_fell_32 : decode cX7_fell 32 = .ok (.iconst 1, 1) := dk_4 (dk_at dksX7_fell_1 8 rfl rfl)
theorem dX7_fell_33 : decode cX7_fell 33 = .ok (.isub, 1) := dk_100 (dk_at dksX7_fell_1 9 rfl rfl)
theorem dX7_fell_34 : decode cX7_fell 34 = .ok (.istore 6, 2) := dk_54 6 (dk_at dksX7_fell_1 10 rfl rfl)
theorem dX7_fell_36 : decode cX7_fell 36 = .ok (.iload 6, 2) := dk_21 6 (dk_at dksX7_fell_1 12 rfl rfl)
theorem dX7_fell_38 : decode cX7_fell 38 = .ok (.iload_n 1, 1) := dk_27 (dk_at dksX7_fell_1 14 rfl rfl)
theorem dX7_fell_39 : decode cX7_fell 39 = .ok (.iconst 1, 1) := dk_4 (dk_at dksX7_fell_1 15 rfl rfl)
theorem dX7_fell_40 : decode cX7_fell 40 = .ok (.iadd, 1) := dk_96 (dk_at dksX7_fell_1 16 rfl rfl)
theorem dX7_fell_41 : decode cX7_fell 41 = .ok (.if_icmp .gt 41, 3) := dk_163 0 41 (dk_at dksX7_fell_1 17 rfl rfl)
theorem dX7_fell_44 : decode cX7_fell 44 = .ok (.aload_n 0, 1) := dk_42 (dk_at dksX7_fell_1 20 rfl rfl)
theorem dX7_fell_45 : decode cX7_fell 45 = .ok (.iload 6, 2) := dk_21 6 (dk_at dksX7_fell_1 21 rfl rfl)
theorem dX7_fell_47 : decode cX7_fell 47 = .ok (.iload_n 2, 1) := dk_28 (dk_at dksX7_fell_1 23 rfl rfl)
theorem dX7_fell_48 : decode cX7_fell 48 = .ok (.invokevirtual 22, 3) := dk_182 0 22 (dk_at dksX7_fell_2 0 rfl rfl)
theorem dX7_fell_51 : decode cX7_fell 51 = .ok (.fstore 7, 2) := dk_56 7 (dk_at dksX7_fell_2 3 rfl rfl)
theorem dX7_fell_53 : decode cX7_fell 53 = .ok (.fload 7, 2) := dk_23 7 (dk_at dksX7_fell_2 5 rfl rfl)
theorem dX7_fell_55 : decode cX7_fell 55 = .ok (.fconst 0, 1) := dk_11 (dk_at dksX7_fell_2 7 rfl rfl)
theorem dX7_fell_56 : decode cX7_fell 56 = .ok (.fcmp .l, 1) := dk_149 (dk_at dksX7_fell_2 8 rfl rfl)
theorem dX7_fell_57 : decode cX7_fell 57 = .ok (.ifCond .ge 6, 3) := dk_156 0 6 (dk_at dksX7_fell_2 9 rfl rfl)
theorem dX7_fell_60 : decode cX7_fell 60 = .ok (.goto 16, 3) := dk_167 0 16 (dk_at dksX7_fell_2 12 rfl rfl)
theorem dX7_fell_63 : decode cX7_fell 63 = .ok (.fload 4, 2) := dk_23 4 (dk_at dksX7_fell_2 15 rfl rfl)
theorem dX7_fell_65 : decode cX7_fell 65 = .ok (.fload 7, 2) := dk_23 7 (dk_at dksX7_fell_2 17 rfl rfl)
theorem dX7_fell_67 : decode cX7_fell 67 = .ok (.fadd, 1) := dk_98 (dk_at dksX7_fell_2 19 rfl rfl)
theorem dX7_fell_68 : decode cX7_fell 68 = .ok (.fstore 4, 2) := dk_56 4 (dk_at dksX7_fell_2 20 rfl rfl)
theorem dX7_fell_70 : decode cX7_fell 70 = .ok (.fload 5, 2) := dk_23 5 (dk_at dksX7_fell_2 22 rfl rfl)
theorem dX7_fell_72 : decode cX7_fell 72 = .ok (.fconst 1, 1) := dk_12 (dk_at dksX7_fell_3 0 rfl rfl)
theorem dX7_fell_73 : decode cX7_fell 73 = .ok (.fadd, 1) := dk_98 (dk_at dksX7_fell_3 1 rfl rfl)
theorem dX7_fell_74 : decode cX7_fell 74 = .ok (.fstore 5, 2) := dk_56 5 (dk_at dksX7_fell_3 2 rfl rfl)
theorem dX7_fell_76 : decode cX7_fell 76 = .ok (.iinc 6 2, 3) := dk_132 6 2 (dk_at dksX7_fell_3 4 rfl rfl)
theorem dX7_fell_79 : decode cX7_fell 79 = .ok (.goto (-43), 3) := dk_167 255 213 (dk_at dksX7_fell_3 7 rfl rfl)
theorem dX7_fell_82 : decode cX7_fell 82 = .ok (.fload 5, 2) := dk_23 5 (dk_at dksX7_fell_3 10 rfl rfl)
theorem dX7_fell_84 : decode cX7_fell 84 = .ok (.fconst 0, 1) := dk_11 (dk_at dksX7_fell_3 12 rfl rfl)
theorem dX7_fell_85 : decode cX7_fell 85 = .ok (.fcmp .l, 1) := dk_149 (dk_at dksX7_fell_3 13 rfl rfl)
theorem dX7_fell_86 : decode cX7_fell 86 = .ok (.ifCond .ne 7, 3) := dk_154 0 7 (dk_at dksX7_fell_3 14 rfl rfl)
theorem dX7_fell_89 : decode cX7_fell 89 = .ok (.iconst 0, 1) := dk_3 (dk_at dksX7_fell_3 17 rfl rfl)
theorem dX7_fell_90 : decode cX7_fell 90 = .ok (.goto 9, 3) := dk_167 0 9 (dk_at dksX7_fell_3 18 rfl rfl)
theorem dX7_fell_93 : decode cX7_fell 93 = .ok (.fload 4, 2) := dk_23 4 (dk_at dksX7_fell_3 21 rfl rfl)
theorem dX7_fell_95 : decode cX7_fell 95 = .ok (.fload 5, 2) := dk_23 5 (dk_at dksX7_fell_4 0 rfl rfl)
theorem dX7_fell_97 : decode cX7_fell 97 = .ok (.fdiv, 1) := dk_110 (dk_at dksX7_fell_4 2 rfl rfl)
theorem dX7_fell_98 : decode cX7_fell 98 = .ok (.f2i, 1) := dk_139 (dk_at dksX7_fell_4 3 rfl rfl)
theorem dX7_fell_99 : decode cX7_fell 99 = .ok (.ireturn, 1) := dk_172 (dk_at dksX7_fell_4 4 rfl rfl)
def dkwX7_told_1 : List UInt8 := [50, 28, 48, 167, 0, 5, 18, 21, 174]
abbrev dktX7_told_1 : List UInt8 := dkwX7_told_1 ++ []
def dkwX7_told_0 : List UInt8 := [27, 155, 0, 29, 27, 7, 162, 0, 24, 28, 42, 180, 0, 17, 27, 46, 162, 0, 14, 42, 180, 0, 11, 27]
abbrev dktX7_told_0 : List UInt8 := dkwX7_told_0 ++ dktX7_told_1
theorem dksX7_told_0 : cX7_told.data.toList.drop 0 = dktX7_told_0 := by decide +kernel
theorem dksX7_told_1 : cX7_told.data.toList.drop 24 = dktX7_told_1 := dk_seg dksX7_told_0 24 rfl rfl
theorem dX7_told_0 : decode cX7_told 0 = .ok (.iload_n 1, 1) := dk_27 (dk_at dksX7_told_0 0 rfl rfl)
theorem dX7_told_1 : decode cX7_told 1 = .ok (.ifCond .lt 29, 3) := dk_155 0 29 (dk_at dksX7_told_0 1 rfl rfl)
theorem dX7_told_4 : decode cX7_told 4 = .ok (.iload_n 1, 1) := dk_27 (dk_at dksX7_told_0 4 rfl rfl)
theorem dX7_told_5 : decode cX7_told 5 = .ok (.iconst 4, 1) := dk_7 (dk_at dksX7_told_0 5 rfl rfl)
theorem dX7_told_6 : decode cX7_told 6 = .ok (.if_icmp .ge 24, 3) := dk_162 0 24 (dk_at dksX7_told_0 6 rfl rfl)
theorem dX7_told_9 : decode cX7_told 9 = .ok (.iload_n 2, 1) := dk_28 (dk_at dksX7_told_0 9 rfl rfl)
theorem dX7_told_10 : decode cX7_told 10 = .ok (.aload_n 0, 1) := dk_42 (dk_at dksX7_told_0 10 rfl rfl)
theorem dX7_told_11 : decode cX7_told 11 = .ok (.getfield 17, 3) := dk_180 0 17 (dk_at dksX7_told_0 11 rfl rfl)
theorem dX7_told_14 : decode cX7_told 14 = .ok (.iload_n 1, 1) := dk_27 (dk_at dksX7_told_0 14 rfl rfl)
theorem dX7_told_15 : decode cX7_told 15 = .ok (.iaload, 1) := dk_46 (dk_at dksX7_told_0 15 rfl rfl)
theorem dX7_told_16 : decode cX7_told 16 = .ok (.if_icmp .ge 14, 3) := dk_162 0 14 (dk_at dksX7_told_0 16 rfl rfl)
theorem dX7_told_19 : decode cX7_told 19 = .ok (.aload_n 0, 1) := dk_42 (dk_at dksX7_told_0 19 rfl rfl)
theorem dX7_told_20 : decode cX7_told 20 = .ok (.getfield 11, 3) := dk_180 0 11 (dk_at dksX7_told_0 20 rfl rfl)
theorem dX7_told_23 : decode cX7_told 23 = .ok (.iload_n 1, 1) := dk_27 (dk_at dksX7_told_0 23 rfl rfl)
theorem dX7_told_24 : decode cX7_told 24 = .ok (.aaload, 1) := dk_50 (dk_at dksX7_told_1 0 rfl rfl)
theorem dX7_told_25 : decode cX7_told 25 = .ok (.iload_n 2, 1) := dk_28 (dk_at dksX7_told_1 1 rfl rfl)
theorem dX7_told_26 : decode cX7_told 26 = .ok (.faload, 1) := dk_48 (dk_at dksX7_told_1 2 rfl rfl)
theorem dX7_told_27 : decode cX7_told 27 = .ok (.goto 5, 3) := dk_167 0 5 (dk_at dksX7_told_1 3 rfl rfl)
theorem dX7_told_30 : decode cX7_told 30 = .ok (.ldc 21, 2) := dk_18 21 (dk_at dksX7_told_1 6 rfl rfl)
theorem dX7_told_32 : decode cX7_told 32 = .ok (.freturn, 1) := dk_174 (dk_at dksX7_told_1 8 rfl rfl)
theorem dX8_init_0 : decode cX8_init 0 = .ok (.aload_n 0, 1) := by decide +kernel
theorem dX8_init_1 : decode cX8_init 1 = .ok (.invokespecial 1, 3) := by decide +kernel
theorem dX8_init_4 : decode cX8_init 4 = .ok (.return_, 1) := by decide +kernel
def dkwX8_holding_0 : List UInt8 := [42, 180, 0, 7, 192, 0, 13, 176]
abbrev dktX8_holding_0 : List UInt8 := dkwX8_holding_0 ++ []
theorem dksX8_holding_0 : cX8_holding.data.toList.drop 0 = dktX8_holding_0 := by decide +kernel
theorem dX8_holding_0 : decode cX8_holding 0 = .ok (.aload_n 0, 1) := dk_42 (dk_at dksX8_holding_0 0 rfl rfl)
theorem dX8_holding_1 : decode cX8_holding 1 = .ok (.getfield 7, 3) := dk_180 0 7 (dk_at dksX8_holding_0 1 rfl rfl)
theorem dX8_holding_4 : decode cX8_holding 4 = .ok (.checkcast 13, 3) := dk_192 0 13 (dk_at dksX8_holding_0 4 rfl rfl)
theorem dX8_holding_7 : decode cX8_holding 7 = .ok (.areturn, 1) := dk_176 (dk_at dksX8_holding_0 7 rfl rfl)
def dkwX8_isWild_0 : List UInt8 := [42, 180, 0, 7, 193, 0, 19, 172]
abbrev dktX8_isWild_0 : List UInt8 := dkwX8_isWild_0 ++ []
theorem dksX8_isWild_0 : cX8_isWild.data.toList.drop 0 = dktX8_isWild_0 := by decide +kernel
theorem dX8_isWild_0 : decode cX8_isWild 0 = .ok (.aload_n 0, 1) := dk_42 (dk_at dksX8_isWild_0 0 rfl rfl)
theorem dX8_isWild_1 : decode cX8_isWild 1 = .ok (.getfield 7, 3) := dk_180 0 7 (dk_at dksX8_isWild_0 1 rfl rfl)
theorem dX8_isWild_4 : decode cX8_isWild 4 = .ok (.instanceof 19, 3) := dk_193 0 19 (dk_at dksX8_isWild_0 4 rfl rfl)
theorem dX8_isWild_7 : decode cX8_isWild 7 = .ok (.ireturn, 1) := dk_172 (dk_at dksX8_isWild_0 7 rfl rfl)
def dkwX8_pasture_0 : List UInt8 := [42, 180, 0, 7, 193, 0, 21, 153, 0, 13, 42, 180, 0, 7, 192, 0, 21, 167, 0, 4, 1, 176]
abbrev dktX8_pasture_0 : List UInt8 := dkwX8_pasture_0 ++ []
theorem dksX8_pasture_0 : cX8_pasture.data.toList.drop 0 = dktX8_pasture_0 := by decide +kernel
theorem dX8_pasture_0 : decode cX8_pasture 0 = .ok (.aload_n 0, 1) := dk_42 (dk_at dksX8_pasture_0 0 rfl rfl)
theorem dX8_pasture_1 : decode cX8_pasture 1 = .ok (.getfield 7, 3) := dk_180 0 7 (dk_at dksX8_pasture_0 1 rfl rfl)
theorem dX8_pasture_4 : decode cX8_pasture 4 = .ok (.instanceof 21, 3) := dk_193 0 21 (dk_at dksX8_pasture_0 4 rfl rfl)
theorem dX8_pasture_7 : decode cX8_pasture 7 = .ok (.ifCond .eq 13, 3) := dk_153 0 13 (dk_at dksX8_pasture_0 7 rfl rfl)
theorem dX8_pasture_10 : decode cX8_pasture 10 = .ok (.aload_n 0, 1) := dk_42 (dk_at dksX8_pasture_0 10 rfl rfl)
theorem dX8_pasture_11 : decode cX8_pasture 11 = .ok (.getfield 7, 3) := dk_180 0 7 (dk_at dksX8_pasture_0 11 rfl rfl)
theorem dX8_pasture_14 : decode cX8_pasture 14 = .ok (.checkcast 21, 3) := dk_192 0 21 (dk_at dksX8_pasture_0 14 rfl rfl)
theorem dX8_pasture_17 : decode cX8_pasture 17 = .ok (.goto 4, 3) := dk_167 0 4 (dk_at dksX8_pasture_0 17 rfl rfl)
theorem dX8_pasture_20 : decode cX8_pasture 20 = .ok (.aconst_null, 1) := dk_1 (dk_at dksX8_pasture_0 20 rfl rfl)
theorem dX8_pasture_21 : decode cX8_pasture 21 = .ok (.areturn, 1) := dk_176 (dk_at dksX8_pasture_0 21 rfl rfl)
def dkwX8_lot_0 : List UInt8 := [42, 180, 0, 7, 192, 0, 15, 176, 76, 1, 176]
abbrev dktX8_lot_0 : List UInt8 := dkwX8_lot_0 ++ []
theorem dksX8_lot_0 : cX8_lot.data.toList.drop 0 = dktX8_lot_0 := by decide +kernel
theorem dX8_lot_0 : decode cX8_lot 0 = .ok (.aload_n 0, 1) := dk_42 (dk_at dksX8_lot_0 0 rfl rfl)
theorem dX8_lot_1 : decode cX8_lot 1 = .ok (.getfield 7, 3) := dk_180 0 7 (dk_at dksX8_lot_0 1 rfl rfl)
theorem dX8_lot_4 : decode cX8_lot 4 = .ok (.checkcast 15, 3) := dk_192 0 15 (dk_at dksX8_lot_0 4 rfl rfl)
theorem dX8_lot_7 : decode cX8_lot 7 = .ok (.areturn, 1) := dk_176 (dk_at dksX8_lot_0 7 rfl rfl)
theorem dX8_lot_8 : decode cX8_lot 8 = .ok (.astore_n 1, 1) := dk_76 (dk_at dksX8_lot_0 8 rfl rfl)
theorem dX8_lot_9 : decode cX8_lot 9 = .ok (.aconst_null, 1) := dk_1 (dk_at dksX8_lot_0 9 rfl rfl)
theorem dX8_lot_10 : decode cX8_lot 10 = .ok (.areturn, 1) := dk_176 (dk_at dksX8_lot_0 10 rfl rfl)
def dkwX8_isLot_0 : List UInt8 := [42, 182, 0, 25, 182, 0, 29, 4, 160, 0, 7, 4, 167, 0, 4, 3, 172]
abbrev dktX8_isLot_0 : List UInt8 := dkwX8_isLot_0 ++ []
theorem dksX8_isLot_0 : cX8_isLot.data.toList.drop 0 = dktX8_isLot_0 := by decide +kernel
theorem dX8_isLot_0 : decode cX8_isLot 0 = .ok (.aload_n 0, 1) := dk_42 (dk_at dksX8_isLot_0 0 rfl rfl)
theorem dX8_isLot_1 : decode cX8_isLot 1 = .ok (.invokevirtual 25, 3) := dk_182 0 25 (dk_at dksX8_isLot_0 1 rfl rfl)
theorem dX8_isLot_4 : decode cX8_isLot 4 = .ok (.invokevirtual 29, 3) := dk_182 0 29 (dk_at dksX8_isLot_0 4 rfl rfl)
theorem dX8_isLot_7 : decode cX8_isLot 7 = .ok (.iconst 1, 1) := dk_4 (dk_at dksX8_isLot_0 7 rfl rfl)
theorem dX8_isLot_8 : decode cX8_isLot 8 = .ok (.if_icmp .ne 7, 3) := dk_160 0 7 (dk_at dksX8_isLot_0 8 rfl rfl)
theorem dX8_isLot_11 : decode cX8_isLot 11 = .ok (.iconst 1, 1) := dk_4 (dk_at dksX8_isLot_0 11 rfl rfl)
theorem dX8_isLot_12 : decode cX8_isLot 12 = .ok (.goto 4, 3) := dk_167 0 4 (dk_at dksX8_isLot_0 12 rfl rfl)
theorem dX8_isLot_15 : decode cX8_isLot 15 = .ok (.iconst 0, 1) := dk_3 (dk_at dksX8_isLot_0 15 rfl rfl)
theorem dX8_isLot_16 : decode cX8_isLot 16 = .ok (.ireturn, 1) := dk_172 (dk_at dksX8_isLot_0 16 rfl rfl)
def dkwX8_farm_0 : List UInt8 := [42, 180, 0, 7, 193, 0, 23, 153, 0, 13, 42, 180, 0, 7, 192, 0, 23, 167, 0, 4, 1, 176]
abbrev dktX8_farm_0 : List UInt8 := dkwX8_farm_0 ++ []
theorem dksX8_farm_0 : cX8_farm.data.toList.drop 0 = dktX8_farm_0 := by decide +kernel
theorem dX8_farm_0 : decode cX8_farm 0 = .ok (.aload_n 0, 1) := dk_42 (dk_at dksX8_farm_0 0 rfl rfl)
theorem dX8_farm_1 : decode cX8_farm 1 = .ok (.getfield 7, 3) := dk_180 0 7 (dk_at dksX8_farm_0 1 rfl rfl)
theorem dX8_farm_4 : decode cX8_farm 4 = .ok (.instanceof 23, 3) := dk_193 0 23 (dk_at dksX8_farm_0 4 rfl rfl)
theorem dX8_farm_7 : decode cX8_farm 7 = .ok (.ifCond .eq 13, 3) := dk_153 0 13 (dk_at dksX8_farm_0 7 rfl rfl)
theorem dX8_farm_10 : decode cX8_farm 10 = .ok (.aload_n 0, 1) := dk_42 (dk_at dksX8_farm_0 10 rfl rfl)
theorem dX8_farm_11 : decode cX8_farm 11 = .ok (.getfield 7, 3) := dk_180 0 7 (dk_at dksX8_farm_0 11 rfl rfl)
theorem dX8_farm_14 : decode cX8_farm 14 = .ok (.checkcast 23, 3) := dk_192 0 23 (dk_at dksX8_farm_0 14 rfl rfl)
theorem dX8_farm_17 : decode cX8_farm 17 = .ok (.goto 4, 3) := dk_167 0 4 (dk_at dksX8_farm_0 17 rfl rfl)
theorem dX8_farm_20 : decode cX8_farm 20 = .ok (.aconst_null, 1) := dk_1 (dk_at dksX8_farm_0 20 rfl rfl)
theorem dX8_farm_21 : decode cX8_farm 21 = .ok (.areturn, 1) := dk_176 (dk_at dksX8_farm_0 21 rfl rfl)
